section
/-! rows pasted from the kit's rows (starting texts) -/
theorem pk_us {f : Nat → Int32} {k : Nat} {x : Int32} : upd f k x k = x := if_pos rfl
theorem pk_un {f : Nat → Int32} {k j : Nat} {x : Int32} (h : j ≠ k) : upd f k x j = f j := if_neg h
theorem pk_sub {a b : Nat} (h : b ≤ a) : nI a - nI b = nI (a - b) := by
  obtain ⟨c, rfl⟩ : ∃ c, a = c + b := ⟨a - b, by omega⟩
  rw [← nI_add, Int32.add_sub_cancel, Nat.add_sub_cancel]
theorem pk_m1 (n : Nat) : nI (n + 1) + (-1) = nI n := by
  rw [← nI_1, Int32.add_assoc, show (1 : Int32) + (-1) = 0 from rfl, Int32.add_zero]
theorem pk_mul (a b : Nat) : nI a * nI b = nI (a * b) := (Int32.ofNat_mul a b).symm
theorem pk_sub_toInt {a b : Nat} (ha : a < 2 ^ 30) (hb : b < 2 ^ 30) : (nI a - nI b).toInt = (a : Int) - b := by
  rw [Int32.toInt_sub, nI_toInt (by omega), nI_toInt (by omega)]
  exact Int.bmod_eq_of_le (by omega) (by omega)
theorem pk_ix (x : Int32) {n : Nat} (hn : n < 2 ^ 31) : x < 0 ∨ nI n ≤ x ∨ ∃ j : Nat, j < n ∧ x = nI j := by
  by_cases h : x < 0
  · exact Or.inl h
  · obtain ⟨j, hj, rfl⟩ := nI_of h
    by_cases h2 : j < n
    · exact Or.inr (Or.inr ⟨j, h2, rfl⟩)
    · exact Or.inr (Or.inl (nI_le (by omega) hj))
theorem pk_le {x y : Int32} {A B : Prop} (a b : Nat) (f : a ≤ b → A) (g : b < a → B) (hx : x = nI a := by rfl) (hy : y = nI b := by rfl) (ha : a < 2 ^ 31 := by omega) (hb : b < 2 ^ 31 := by omega) : (x ≤ y → A) ∧ (¬ x ≤ y → B) := by
  subst hx hy
  rw [nI_leI ha hb]
  exact ⟨f, fun z => g (by omega)⟩
theorem pk_lt {x y : Int32} {A B : Prop} (a b : Nat) (f : a < b → A) (g : b ≤ a → B) (hx : x = nI a := by rfl) (hy : y = nI b := by rfl) (ha : a < 2 ^ 31 := by omega) (hb : b < 2 ^ 31 := by omega) : (x < y → A) ∧ (¬ x < y → B) := by
  subst hx hy
  rw [nI_ltI ha hb]
  exact ⟨f, fun z => g (by omega)⟩
theorem pk_eq {x y : Int32} {A B : Prop} (a b : Nat) (f : a = b → A) (g : a ≠ b → B) (hx : x = nI a := by rfl) (hy : y = nI b := by rfl) (ha : a < 2 ^ 31 := by omega) (hb : b < 2 ^ 31 := by omega) : (x = y → A) ∧ (¬ x = y → B) := by
  subst hx hy
  rw [nI_eq ha hb]
  exact ⟨f, g⟩
theorem pk_in {x : Int32} (n N : Nat) (h : n < N) (hx : x = nI n := by rfl) (hN : N < 2 ^ 31 := by omega) : vp_in x N := by
  subst hx
  exact vp_in_nI h hN
theorem pk_cl {x : Int32} (n : Nat) (hx : x = nI n := by rfl) (h : n < 2 ^ 31 := by omega) : x.toNatClampNeg = n := by
  subst hx
  exact nI_clamp h
theorem pk_nb (z : Int32) : narrow .byte (.int z.toInt8.toInt32) = .int z.toInt8.toInt32 := congrArg Value.int (by simp)
theorem pk_vb (z : Int32) : vp_nar .byte z.toInt8.toInt32 = z.toInt8.toInt32 := by rw [vp_nar_byte]; simp
theorem ek_if {c d A B : Prop} (e : c ↔ d) (f : d → A) (g : ¬ d → B) : (c → A) ∧ (¬ c → B) :=
  ⟨fun z => f (e.mp z), fun z => g (fun y => z (e.mpr y))⟩
theorem ek_v {α : Sort _} {P : α → Prop} {a b : α} (e : a = b) (h : P b) : P a := e ▸ h
def bt (x : Int32) (i : Nat) : Bool := x.toBitVec.getLsbD i
theorem b_ext {x y : Int32} (h : ∀ i, i < 32 → bt x i = bt y i) : x = y := Int32.toBitVec_inj.mp (BitVec.eq_of_getLsbD_eq (fun i hi => h i hi))
theorem b_or (x y : Int32) (i : Nat) : bt (x ||| y) i = (bt x i || bt y i) := by unfold bt; rw [Int32.toBitVec_or, BitVec.getLsbD_or]
theorem b_and (x y : Int32) (i : Nat) : bt (x &&& y) i = (bt x i && bt y i) := by unfold bt; rw [Int32.toBitVec_and, BitVec.getLsbD_and]
theorem b_0 (i : Nat) : bt 0 i = false := BitVec.getLsbD_zero
theorem b_big {x : Int32} {i : Nat} (h : 32 ≤ i) : bt x i = false := BitVec.getLsbD_of_ge _ _ h
theorem s_l : ∀ n, n < 32 → ((nI n &&& 31).toBitVec.smod 32).toNat = n := by decide +kernel
theorem b_shl (n : Nat) (hn : n < 32) (x : Int32) {i : Nat} (hi : i < 32) : bt (x <<< (nI n &&& 31)) i = (decide (n ≤ i) && bt x (i - n)) := by
  unfold bt
  rw [Int32.toBitVec_shiftLeft]
  show (x.toBitVec <<< ((nI n &&& 31).toBitVec.smod 32).toNat).getLsbD i = _
  rw [s_l n hn, BitVec.getLsbD_shiftLeft]
  rcases Nat.lt_or_ge i n with h | h
  · simp [h, Nat.not_le.mpr h]
  · simp [hi, h, Nat.not_lt.mpr h]
theorem b_sshr (n : Nat) (hn : n < 32) (x : Int32) {i : Nat} (hi : i < 32) : bt (x >>> (nI n &&& 31)) i = if n + i < 32 then bt x (n + i) else bt x 31 := by
  unfold bt
  rw [Int32.toBitVec_shiftRight]
  show (x.toBitVec.sshiftRight ((nI n &&& 31).toBitVec.smod 32).toNat).getLsbD i = _
  rw [s_l n hn, BitVec.getLsbD_sshiftRight, BitVec.msb_eq_getLsbD_last]
  simp [hi]
theorem nf_sh : ∀ l, l < 32 → ((1 : Int32) <<< (nI l &&& 31)).toBitVec = BitVec.twoPow 32 l := by decide +kernel
theorem nf_tp : ∀ l, l < 32 → BitVec.twoPow 32 l ≠ 0#32 := by decide +kernel
end
section
/-! a node as a Java field number: node 0 is the root (-1), node n + 1 is field n -/
def im_f (n : Nat) : Int32 := match n with
  | 0 => -1
  | k + 1 => nI k
theorem im_0 : im_f 0 = -1 := rfl
theorem im_s (n : Nat) : im_f (n + 1) = nI n := rfl
theorem im_p {n : Nat} (h : 0 < n) : im_f n = nI (n - 1) := by
  cases n with
  | zero => omega
  | succ k => rfl
theorem im_t {n : Nat} (h : n < 2 ^ 31) : (im_f n).toInt = (n : Int) - 1 := by
  cases n with
  | zero => decide
  | succ k => rw [im_s, nI_toInt (by omega)]; omega
theorem im_eq {a b : Nat} (ha : a < 2 ^ 31) (hb : b < 2 ^ 31) : im_f a = im_f b ↔ a = b := by
  rw [← Int32.toInt_inj, im_t ha, im_t hb]; omega
theorem im_lt {a b : Nat} (ha : a < 2 ^ 31) (hb : b < 2 ^ 31) : im_f a < im_f b ↔ a < b := by
  rw [Int32.lt_iff_toInt_lt, im_t ha, im_t hb]; omega
theorem im_le {a b : Nat} (ha : a < 2 ^ 31) (hb : b < 2 ^ 31) : im_f a ≤ im_f b ↔ a ≤ b := by
  rw [Int32.le_iff_toInt_le, im_t ha, im_t hb]; omega
theorem im_a1 (n : Nat) : im_f n + 1 = nI n := by
  cases n with
  | zero => decide
  | succ k => exact nI_1 k
theorem im_n1 (n : Nat) : nI n - 1 = im_f n := by
  cases n with
  | zero => decide
  | succ k => exact nI_pred k
theorem im_nm1 (n : Nat) : nI n + (-1) = im_f n := by
  cases n with
  | zero => decide
  | succ k => exact pk_m1 k
theorem im_lt0 {n : Nat} (h : n < 2 ^ 31) : im_f n < 0 ↔ n = 0 := by
  rw [Int32.lt_iff_toInt_lt, im_t h, show (0 : Int32).toInt = 0 from by decide]; omega
theorem im_ge0 {n : Nat} (h : n < 2 ^ 31) : 0 ≤ im_f n ↔ 0 < n := by
  rw [Int32.le_iff_toInt_le, im_t h, show (0 : Int32).toInt = 0 from by decide]; omega
theorem im_m1 {n : Nat} (h : n < 2 ^ 31) : im_f n = -1 ↔ n = 0 := im_eq (b := 0) h (by omega)
theorem im_cl {n : Nat} (h0 : 0 < n) (h : n < 2 ^ 31) : (im_f n).toNatClampNeg = n - 1 := by
  rw [im_p h0, nI_clamp (by omega)]
theorem im_in {n N : Nat} (h0 : 0 < n) (h : n ≤ N) (hN : N < 2 ^ 31) : vp_in (im_f n) N := by
  rw [im_p h0]; exact vp_in_nI (by omega) hN
/-! the schema: F, par, lab, lf (1 for a leaf), dep, rp, lst, by node -/
abbrev sc_T : Type := Nat × (Nat → Nat) × (Nat → Nat) × (Nat → Nat) × (Nat → Nat) × (Nat → Nat) × (Nat → Nat)
def sc_F (c : sc_T) : Nat := c.1
def sc_par (c : sc_T) : Nat → Nat := c.2.1
def sc_lab (c : sc_T) : Nat → Nat := c.2.2.1
def sc_lf (c : sc_T) : Nat → Nat := c.2.2.2.1
def sc_dep (c : sc_T) : Nat → Nat := c.2.2.2.2.1
def sc_rp (c : sc_T) : Nat → Nat := c.2.2.2.2.2.1
def sc_lst (c : sc_T) : Nat → Nat := c.2.2.2.2.2.2
def sc_tr (c : sc_T) : Prop :=
  (sc_dep c 0 = 0 ∧ sc_rp c 0 = 0 ∧ sc_lf c 0 = 0 ∧ sc_lst c 0 = sc_F c) ∧
  (∀ n, 1 ≤ n → n ≤ sc_F c → sc_par c n < n ∧ sc_lf c (sc_par c n) = 0 ∧ sc_lab c n ≤ 2 ∧ sc_lf c n ≤ 1 ∧ sc_dep c n = sc_dep c (sc_par c n) + 1 ∧ sc_rp c n = sc_rp c (sc_par c n) + (if sc_lab c n = 2 then 1 else 0)) ∧
  (∀ n, n ≤ sc_F c → n ≤ sc_lst c n ∧ sc_lst c n ≤ sc_F c ∧ (sc_lf c n = 1 → sc_lst c n = n)) ∧
  (∀ n k, n < k → k ≤ sc_F c → (k ≤ sc_lst c n ↔ (n ≤ sc_par c k ∧ sc_par c k ≤ sc_lst c n)))
section
variable {c : sc_T}
theorem tr_par (h : sc_tr c) {n : Nat} (h1 : 1 ≤ n) (h2 : n ≤ sc_F c) : sc_par c n < n := (h.2.1 n h1 h2).1
theorem tr_plf (h : sc_tr c) {n : Nat} (h1 : 1 ≤ n) (h2 : n ≤ sc_F c) : sc_lf c (sc_par c n) = 0 := (h.2.1 n h1 h2).2.1
theorem tr_lab (h : sc_tr c) {n : Nat} (h1 : 1 ≤ n) (h2 : n ≤ sc_F c) : sc_lab c n ≤ 2 := (h.2.1 n h1 h2).2.2.1
theorem tr_lf (h : sc_tr c) {n : Nat} (h1 : 1 ≤ n) (h2 : n ≤ sc_F c) : sc_lf c n ≤ 1 := (h.2.1 n h1 h2).2.2.2.1
theorem tr_dp (h : sc_tr c) {n : Nat} (h1 : 1 ≤ n) (h2 : n ≤ sc_F c) : sc_dep c n = sc_dep c (sc_par c n) + 1 := (h.2.1 n h1 h2).2.2.2.2.1
theorem tr_rp (h : sc_tr c) {n : Nat} (h1 : 1 ≤ n) (h2 : n ≤ sc_F c) : sc_rp c n = sc_rp c (sc_par c n) + (if sc_lab c n = 2 then 1 else 0) := (h.2.1 n h1 h2).2.2.2.2.2
theorem tr_rp2 (h : sc_tr c) {n : Nat} (h1 : 1 ≤ n) (h2 : n ≤ sc_F c) (e : sc_lab c n = 2) : sc_rp c n = sc_rp c (sc_par c n) + 1 := by
  rw [tr_rp h h1 h2, if_pos e]
theorem tr_rpm (h : sc_tr c) {n : Nat} (h1 : 1 ≤ n) (h2 : n ≤ sc_F c) : sc_rp c (sc_par c n) ≤ sc_rp c n := by
  rw [tr_rp h h1 h2]; exact Nat.le_add_right _ _
theorem tr_l0 (h : sc_tr c) : sc_lst c 0 = sc_F c := h.1.2.2.2
theorem tr_d0 (h : sc_tr c) : sc_dep c 0 = 0 := h.1.1
theorem tr_r0 (h : sc_tr c) : sc_rp c 0 = 0 := h.1.2.1
theorem tr_f0 (h : sc_tr c) : sc_lf c 0 = 0 := h.1.2.2.1
theorem tr_ge (h : sc_tr c) {n : Nat} (h2 : n ≤ sc_F c) : n ≤ sc_lst c n := (h.2.2.1 n h2).1
theorem tr_le (h : sc_tr c) {n : Nat} (h2 : n ≤ sc_F c) : sc_lst c n ≤ sc_F c := (h.2.2.1 n h2).2.1
theorem tr_leaf (h : sc_tr c) {n : Nat} (h2 : n ≤ sc_F c) (e : sc_lf c n = 1) : sc_lst c n = n := (h.2.2.1 n h2).2.2 e
theorem tr_in (h : sc_tr c) {n k : Nat} (h1 : n < k) (h2 : k ≤ sc_lst c n) (hn : n ≤ sc_F c) : n ≤ sc_par c k ∧ sc_par c k ≤ sc_lst c n :=
  (h.2.2.2 n k h1 (Nat.le_trans h2 (tr_le h hn))).mp h2
theorem tr_lam (h : sc_tr c) {n m : Nat} (h1 : n ≤ m) (h2 : m ≤ sc_lst c n) (hn : n ≤ sc_F c) : sc_lst c m ≤ sc_lst c n := by
  have a := tr_le h hn
  have hm : m ≤ sc_F c := by omega
  have b := tr_le h hm
  rcases Nat.lt_or_ge (sc_lst c n) (sc_lst c m) with z | z
  · have x := tr_in h (n := m) (k := sc_lst c n + 1) (by omega) (by omega) hm
    have y := tr_par h (n := sc_lst c n + 1) (by omega) (by omega)
    have w := (h.2.2.2 n (sc_lst c n + 1) (by omega) (by omega)).mpr ⟨by omega, by omega⟩
    omega
  · exact z
theorem tr_chd (h : sc_tr c) {k : Nat} (h1 : 1 ≤ k) (h2 : k ≤ sc_F c) : k ≤ sc_lst c (sc_par c k) := by
  have p := tr_par h h1 h2
  exact (h.2.2.2 (sc_par c k) k p h2).mpr ⟨Nat.le_refl _, tr_ge h (by omega)⟩
theorem tr_chl (h : sc_tr c) {k : Nat} (h1 : 1 ≤ k) (h2 : k ≤ sc_F c) : sc_lst c k ≤ sc_lst c (sc_par c k) := by
  have p := tr_par h h1 h2
  exact tr_lam h (by omega) (tr_chd h h1 h2) (by omega)
theorem tr_sib (h : sc_tr c) {n m : Nat} (e : sc_par c m = sc_par c n) (h1 : 1 ≤ n) (h2 : n < m) (h3 : m ≤ sc_F c) : sc_lst c n < m := by
  rcases Nat.lt_or_ge (sc_lst c n) m with z | z
  · exact z
  · have a := tr_in h h2 z (by omega)
    have p := tr_par h h1 (by omega)
    omega
theorem tr_dlt (h : sc_tr c) {n : Nat} (hn : n ≤ sc_F c) : ∀ m, n < m → m ≤ sc_lst c n → sc_dep c n < sc_dep c m := by
  intro m
  induction m using Nat.strongRecOn with
  | ind m ih =>
    intro h1 h2
    have a := tr_le h hn
    have b := tr_in h h1 h2 hn
    have p := tr_par h (n := m) (by omega) (by omega)
    have d := tr_dp h (n := m) (by omega) (by omega)
    rcases Nat.lt_or_ge n (sc_par c m) with z | z
    · have := ih _ p z b.2
      omega
    · have e : sc_par c m = n := by omega
      rw [e] at d
      omega
theorem tr_rlt (h : sc_tr c) {n : Nat} (hn : n ≤ sc_F c) : ∀ m, n < m → m ≤ sc_lst c n → sc_rp c n ≤ sc_rp c (sc_par c m) := by
  intro m
  induction m using Nat.strongRecOn with
  | ind m ih =>
    intro h1 h2
    have a := tr_le h hn
    have b := tr_in h h1 h2 hn
    have p := tr_par h (n := m) (by omega) (by omega)
    rcases Nat.lt_or_ge n (sc_par c m) with z | z
    · have x := ih _ p z b.2
      have y := tr_rpm h (n := sc_par c m) (by omega) (by omega)
      omega
    · have e : sc_par c m = n := by omega
      rw [e]
      exact Nat.le_refl _
theorem tr_rle (h : sc_tr c) {n m : Nat} (hn : n ≤ sc_F c) (h1 : n ≤ m) (h2 : m ≤ sc_lst c n) : sc_rp c n ≤ sc_rp c m := by
  have a := tr_le h hn
  rcases Nat.lt_or_ge n m with z | z
  · have x := tr_rlt h hn m z h2
    have y := tr_rpm h (n := m) (by omega) (by omega)
    omega
  · have e : m = n := by omega
    rw [e]; exact Nat.le_refl _
theorem tr_ru1 (h : sc_tr c) {a b l : Nat} (ha : a ≤ sc_F c) (h1 : a ≤ l) (h2 : l ≤ sc_lst c a) (h4 : b ≤ l) (eb : sc_lab c b = 2) (er : sc_rp c a = sc_rp c b) : ¬ a < b := by
  intro z
  have x := tr_le h ha
  have y := tr_rlt h ha b z (by omega)
  have w := tr_rp2 h (n := b) (by omega) (by omega) eb
  omega
theorem tr_ru (h : sc_tr c) {a b l : Nat} (ha : a ≤ sc_F c) (hb : b ≤ sc_F c) (h1 : a ≤ l) (h2 : l ≤ sc_lst c a) (h3 : b ≤ l) (h4 : l ≤ sc_lst c b) (ea : sc_lab c a = 2) (eb : sc_lab c b = 2) (er : sc_rp c a = sc_rp c b) : a = b := by
  have x := tr_ru1 h ha h1 h2 h3 eb er
  have y := tr_ru1 h hb h3 h4 h1 ea er.symm
  omega
theorem tr_du (h : sc_tr c) {a b l : Nat} (ha : a ≤ sc_F c) (hb : b ≤ sc_F c) (h1 : a ≤ l) (h2 : l ≤ sc_lst c a) (h3 : b ≤ l) (h4 : l ≤ sc_lst c b) (er : sc_dep c a = sc_dep c b) : a = b := by
  rcases Nat.lt_trichotomy a b with z | z | z
  · have := tr_dlt h ha b z (by omega)
    omega
  · exact z
  · have := tr_dlt h hb a z (by omega)
    omega
theorem tr_rd (h : sc_tr c) : ∀ n, n ≤ sc_F c → sc_rp c n ≤ sc_dep c n := by
  intro n
  induction n using Nat.strongRecOn with
  | ind n ih =>
    intro h2
    rcases Nat.eq_zero_or_pos n with e | h1
    · rw [e, tr_r0 h]; omega
    · have p := tr_par h h1 h2
      have x := ih _ p (by omega)
      have y := tr_rp h h1 h2
      have z := tr_dp h h1 h2
      split at y <;> omega
/-! the repeated field of level r on the path to a node -/
def wk_ra (c : sc_T) (r : Nat) : Nat → Nat → Nat
  | 0, _ => 0
  | d + 1, n => if sc_lab c n = 2 ∧ sc_rp c n = r then n else wk_ra c r d (sc_par c n)
theorem ra_1 (h : sc_tr c) {r b : Nat} (hb : 1 ≤ b) (hF : b ≤ sc_F c) (e1 : sc_lab c b = 2) (e2 : sc_rp c b = r) : ∀ d n, sc_dep c n = d → b ≤ n → n ≤ sc_lst c b → wk_ra c r d n = b := by
  intro d
  have lF := tr_le h hF
  induction d with
  | zero =>
    intro n hd h1 h2
    have x := tr_dp h (n := n) (by omega) (by omega)
    omega
  | succ d ih =>
    intro n hd h1 h2
    have x := tr_dp h (n := n) (by omega) (by omega)
    have p := tr_par h (n := n) (by omega) (by omega)
    unfold wk_ra
    by_cases z : sc_lab c n = 2 ∧ sc_rp c n = r
    · rw [if_pos z]
      exact tr_ru h (l := n) (by omega) hF (Nat.le_refl _) (tr_ge h (by omega)) h1 h2 z.1 e1 (z.2.trans e2.symm)
    · rw [if_neg z]
      have ne : n ≠ b := fun q => z (by rw [q]; exact ⟨e1, e2⟩)
      have q := tr_in h (n := b) (k := n) (by omega) h2 hF
      exact ih _ (by omega) q.1 q.2
theorem ra_2 (h : sc_tr c) {r : Nat} : ∀ d n, sc_dep c n = d → n ≤ sc_F c → wk_ra c r d n ≠ 0 → 1 ≤ wk_ra c r d n ∧ wk_ra c r d n ≤ n ∧ n ≤ sc_lst c (wk_ra c r d n) ∧ sc_lab c (wk_ra c r d n) = 2 ∧ sc_rp c (wk_ra c r d n) = r := by
  intro d
  induction d with
  | zero => intro n _ _ z; exact absurd rfl z
  | succ d ih =>
    intro n hd hF
    have n0 : 1 ≤ n := by
      rcases Nat.eq_zero_or_pos n with e | e
      · rw [e, tr_d0 h] at hd; omega
      · exact e
    have x := tr_dp h n0 hF
    have p := tr_par h n0 hF
    unfold wk_ra
    by_cases z : sc_lab c n = 2 ∧ sc_rp c n = r
    · rw [if_pos z]
      intro _
      exact ⟨n0, Nat.le_refl _, tr_ge h hF, z.1, z.2⟩
    · rw [if_neg z]
      intro q
      obtain ⟨a1, a2, a3, a4, a5⟩ := ih (sc_par c n) (by omega) (by omega) q
      refine ⟨a1, by omega, ?_, a4, a5⟩
      exact (h.2.2.2 _ n (by omega) hF).mpr ⟨a2, a3⟩
theorem ra_0 (h : sc_tr c) {l : Nat} (hF : l ≤ sc_F c) : wk_ra c 0 (sc_dep c l) l = 0 := by
  rcases Nat.eq_zero_or_pos (wk_ra c 0 (sc_dep c l) l) with e | e
  · exact e
  · obtain ⟨a1, a2, a3, a4, a5⟩ := ra_2 h (r := 0) _ l rfl hF (by omega)
    have := tr_rp2 h a1 (by omega) a4
    omega
/-! the depth of the deepest group over g that reaches to m -/
def wk_cd (c : sc_T) (m : Nat) : Nat → Nat → Nat
  | 0, _ => 0
  | d + 1, g => if m ≤ sc_lst c g then d + 1 else wk_cd c m d (sc_par c g)
theorem cd_1 (h : sc_tr c) {m a : Nat} (hF : a ≤ sc_F c) (e : m ≤ sc_lst c a) : ∀ d g, sc_dep c g = d → a ≤ g → g ≤ sc_lst c a → sc_dep c a ≤ wk_cd c m d g := by
  intro d
  have lF := tr_le h hF
  induction d with
  | zero =>
    intro g hd h1 h2
    rcases Nat.lt_or_ge a g with z | z
    · have := tr_dlt h hF g z h2
      omega
    · have e : a = g := by omega
      rw [e, hd]; exact Nat.zero_le _
  | succ d ih =>
    intro g hd h1 h2
    unfold wk_cd
    have le : sc_dep c a ≤ sc_dep c g := by
      rcases Nat.lt_or_ge a g with z | z
      · have := tr_dlt h hF g z h2
        omega
      · have e : a = g := by omega
        rw [e]; exact Nat.le_refl _
    by_cases z : m ≤ sc_lst c g
    · rw [if_pos z]; omega
    · rw [if_neg z]
      have ne : a ≠ g := fun q => z (by rw [← q]; exact e)
      have x := tr_dp h (n := g) (by omega) (by omega)
      have q := tr_in h (n := a) (k := g) (by omega) h2 hF
      exact ih _ (by omega) q.1 q.2
theorem cd_2 (h : sc_tr c) {m : Nat} : ∀ d g, sc_dep c g = d → g ≤ sc_F c → wk_cd c m d g = 0 ∨ ∃ a, a ≤ g ∧ g ≤ sc_lst c a ∧ m ≤ sc_lst c a ∧ sc_dep c a = wk_cd c m d g := by
  intro d
  induction d with
  | zero => intro g _ _; exact Or.inl rfl
  | succ d ih =>
    intro g hd hF
    unfold wk_cd
    by_cases z : m ≤ sc_lst c g
    · rw [if_pos z]; exact Or.inr ⟨g, Nat.le_refl _, tr_ge h hF, z, hd⟩
    · rw [if_neg z]
      have n0 : 1 ≤ g := by
        rcases Nat.eq_zero_or_pos g with e | e
        · rw [e, tr_d0 h] at hd; omega
        · exact e
      have x := tr_dp h n0 hF
      have p := tr_par h n0 hF
      rcases ih (sc_par c g) (by omega) (by omega) with q | ⟨a, a1, a2, a3, a4⟩
      · exact Or.inl q
      · exact Or.inr ⟨a, by omega, (h.2.2.2 _ g (by omega) hF).mpr ⟨a1, a2⟩, a3, a4⟩
/-! the node on the path to n that has depth t -/
def wk_an (c : sc_T) (t : Nat) : Nat → Nat → Nat
  | 0, n => n
  | d + 1, n => if d + 1 ≤ t ∨ d + 1 ≤ 1 then n else wk_an c t d (sc_par c n)
theorem an_1 (h : sc_tr c) {a t : Nat} (hF : a ≤ sc_F c) (ht : 1 ≤ t) (e : sc_dep c a = t) : ∀ d n, sc_dep c n = d → a ≤ n → n ≤ sc_lst c a → wk_an c t d n = a := by
  intro d
  have lF := tr_le h hF
  induction d with
  | zero =>
    intro n hd h1 h2
    rcases Nat.lt_or_ge a n with z | z
    · have := tr_dlt h hF n z h2
      omega
    · have e : a = n := by omega
      exact e.symm
  | succ d ih =>
    intro n hd h1 h2
    unfold wk_an
    rcases Nat.lt_or_ge a n with z | z
    · have y := tr_dlt h hF n z h2
      rw [if_neg (by omega)]
      have x := tr_dp h (n := n) (by omega) (by omega)
      have q := tr_in h z h2 hF
      exact ih _ (by omega) q.1 q.2
    · have e' : a = n := by omega
      rw [← e'] at hd
      rw [if_pos (Or.inl (by omega)), e']
end
end
section
/-! the walk. An item: tag (0 null, 1 begin, 2 value, 3 end), node, value, rep, def. A frame: group, last child, front, rep -/
abbrev wk_I : Type := Nat × Nat × Int32 × Nat × Nat
abbrev wk_Fr : Type := Nat × Nat × Nat × Nat
def wk_ok (c : sc_T) (s : List wk_Fr) (i : wk_I) : Prop :=
  match s with
  | [] => i = (1, 0, 0, 0, 0)
  | (g, lc, ph, r) :: S =>
    (i = (0, ph, 0, r, S.length) ∧ ph ≤ sc_lst c g) ∨
    (∃ n v, i = (2, n, v, r, sc_dep c n) ∧ n = ph ∧ 1 ≤ n ∧ n ≤ sc_F c ∧ sc_lf c n = 1 ∧ sc_par c n = g) ∨
    (∃ n v, i = (2, n, v, sc_rp c n, sc_dep c n) ∧ n = lc ∧ ph = sc_lst c n + 1 ∧ sc_lab c n = 2 ∧ 1 ≤ n ∧ n ≤ sc_F c ∧ sc_lf c n = 1 ∧ sc_par c n = g) ∨
    (∃ n, i = (1, n, 0, r, 0) ∧ n = ph ∧ 1 ≤ n ∧ n ≤ sc_F c ∧ sc_lf c n = 0 ∧ sc_par c n = g) ∨
    (∃ n, i = (1, n, 0, sc_rp c n, 0) ∧ n = lc ∧ ph = sc_lst c n + 1 ∧ sc_lab c n = 2 ∧ 1 ≤ n ∧ n ≤ sc_F c ∧ sc_lf c n = 0 ∧ sc_par c n = g) ∨
    (i = (3, g, 0, 0, 0) ∧ ph = sc_lst c g + 1)
def wk_st (c : sc_T) (s : List wk_Fr) (i : wk_I) : List wk_Fr :=
  match s, i with
  | [], _ => [(0, 0, 1, 0)]
  | (g, lc, ph, r) :: S, (0, _, _, _, _) => (g, lc, ph + 1, r) :: S
  | (g, _, _, r) :: S, (1, n, _, q, _) => (n, 0, n + 1, q) :: (g, n, sc_lst c n + 1, r) :: S
  | (g, _, _, r) :: S, (2, n, _, _, _) => (g, n, sc_lst c n + 1, r) :: S
  | _ :: S, (_ + 3, _, _, _, _) => S
section
variable {c : sc_T}
theorem st_b (i : wk_I) : wk_st c [] i = [(0, 0, 1, 0)] := rfl
theorem st_0 (g lc ph r n q d : Nat) (v : Int32) (S : List wk_Fr) : wk_st c ((g, lc, ph, r) :: S) (0, n, v, q, d) = (g, lc, ph + 1, r) :: S := rfl
theorem st_1 (g lc ph r n q d : Nat) (v : Int32) (S : List wk_Fr) : wk_st c ((g, lc, ph, r) :: S) (1, n, v, q, d) = (n, 0, n + 1, q) :: (g, n, sc_lst c n + 1, r) :: S := rfl
theorem st_2 (g lc ph r n q d : Nat) (v : Int32) (S : List wk_Fr) : wk_st c ((g, lc, ph, r) :: S) (2, n, v, q, d) = (g, n, sc_lst c n + 1, r) :: S := rfl
theorem st_3 (g lc ph r n q d : Nat) (v : Int32) (S : List wk_Fr) : wk_st c ((g, lc, ph, r) :: S) (3, n, v, q, d) = S := rfl
end
def wk_lk (c : sc_T) (g r : Nat) : List wk_Fr → Prop
  | [] => g = 0 ∧ r = 0
  | (g', lc', ph', _) :: _ => 1 ≤ g ∧ sc_par c g = g' ∧ lc' = g ∧ ph' = sc_lst c g + 1
def wk_inv (c : sc_T) : List wk_Fr → Prop
  | [] => True
  | (g, lc, ph, r) :: S => (g ≤ sc_F c ∧ sc_lf c g = 0 ∧ sc_dep c g = S.length ∧ g < ph ∧ ph ≤ sc_lst c g + 1 ∧ r ≤ sc_rp c g ∧ (lc = 0 ∨ (1 ≤ lc ∧ lc ≤ sc_F c ∧ sc_par c lc = g ∧ sc_lst c lc < ph))) ∧ wk_lk c g r S ∧ wk_inv c S
section
variable {c : sc_T}
theorem wk_is (h : sc_tr c) {s : List wk_Fr} {i : wk_I} (hi : wk_inv c s) (hk : wk_ok c s i) : wk_inv c (wk_st c s i) := by
  cases s with
  | nil =>
    rw [st_b]
    exact ⟨⟨Nat.zero_le _, tr_f0 h, tr_d0 h, Nat.zero_lt_one, by omega, Nat.zero_le _, Or.inl rfl⟩, ⟨rfl, rfl⟩, trivial⟩
  | cons f S =>
    obtain ⟨g, lc, ph, r⟩ := f
    obtain ⟨⟨i1, i2, i3, i4, i5, i6, i7⟩, il, iS⟩ := hi
    rcases hk with ⟨rfl, hp⟩ | ⟨n, v, rfl, e0, h1, h2, h3, h4⟩ | ⟨n, v, rfl, e0, e1, e2, h1, h2, h3, h4⟩ | ⟨n, rfl, e0, h1, h2, h3, h4⟩ | ⟨n, rfl, e0, e1, e2, h1, h2, h3, h4⟩ | ⟨rfl, hp⟩
    · rw [st_0]
      refine ⟨⟨i1, i2, i3, by omega, by omega, i6, ?_⟩, il, iS⟩
      rcases i7 with q | ⟨q1, q2, q3, q4⟩
      · exact Or.inl q
      · exact Or.inr ⟨q1, q2, q3, by omega⟩
    · rw [st_2]
      have a := tr_par h h1 h2
      have b := tr_chl h h1 h2
      have d := tr_ge h h2
      rw [h4] at a b
      exact ⟨⟨i1, i2, i3, by omega, by omega, i6, Or.inr ⟨h1, h2, h4, by omega⟩⟩, il, iS⟩
    · rw [st_2]
      have a := tr_par h h1 h2
      have b := tr_chl h h1 h2
      have d := tr_ge h h2
      rw [h4] at a b
      exact ⟨⟨i1, i2, i3, by omega, by omega, i6, Or.inr ⟨h1, h2, h4, by omega⟩⟩, il, iS⟩
    · rw [st_1]
      have a := tr_par h h1 h2
      have b := tr_chl h h1 h2
      have d := tr_ge h h2
      have e := tr_rpm h h1 h2
      have x := tr_dp h h1 h2
      rw [h4] at a b e x
      exact ⟨⟨h2, h3, by rw [x, i3]; rfl, by omega, by omega, by omega, Or.inl rfl⟩, ⟨h1, h4, rfl, rfl⟩, ⟨i1, i2, i3, by omega, by omega, i6, Or.inr ⟨h1, h2, h4, by omega⟩⟩, il, iS⟩
    · rw [st_1]
      have a := tr_par h h1 h2
      have b := tr_chl h h1 h2
      have d := tr_ge h h2
      have x := tr_dp h h1 h2
      rw [h4] at a b x
      exact ⟨⟨h2, h3, by rw [x, i3]; rfl, by omega, by omega, by omega, Or.inl rfl⟩, ⟨h1, h4, rfl, rfl⟩, ⟨i1, i2, i3, by omega, by omega, i6, Or.inr ⟨h1, h2, h4, by omega⟩⟩, il, iS⟩
    · rw [st_3]
      exact iS
end
/-! forward walks -/
def wk_W (c : sc_T) : List wk_I → List wk_Fr → Prop
  | [], _ => True
  | i :: B, s => wk_ok c s i ∧ wk_W c B (wk_st c s i)
def wk_go (c : sc_T) : List wk_I → List wk_Fr → List wk_Fr
  | [], s => s
  | i :: B, s => wk_go c B (wk_st c s i)
/-- the repetition level of the next entry of leaf l -/
def wk_nr (l : Nat) : List wk_I → Nat
  | [] => 0
  | i :: B => if (i.1 = 0 ∨ i.1 = 2) ∧ i.2.1 = l then i.2.2.2.1 else wk_nr l B
/-- the definition level of the next entry of leaf l -/
def wk_nd (l : Nat) : List wk_I → Nat
  | [] => 0
  | i :: B => if (i.1 = 0 ∨ i.1 = 2) ∧ i.2.1 = l then i.2.2.2.2 else wk_nd l B
/-- the leaf of the next chosen entry in this record; 0 if none -/
def wk_nl (ch : Nat → Bool) : List wk_I → Nat
  | [] => 0
  | i :: B => if (i.1 = 0 ∨ i.1 = 2) ∧ ch i.2.1 = true then i.2.1 else if i.1 = 3 ∧ i.2.1 = 0 then 0 else wk_nl ch B
def wk_PR (c : sc_T) (l : Nat) : List wk_Fr → Nat
  | [] => 0
  | (g, _, _, r) :: S => if l ≤ sc_lst c g then r else wk_PR c l S
def wk_pd (l : Nat) : List wk_Fr → Prop
  | [] => True
  | (_, _, ph, _) :: _ => ph ≤ l
def wk_kp (c : sc_T) (ch : Nat → Bool) (n : Nat) : Bool := (List.range (sc_lst c n + 1)).any (fun m => decide (n ≤ m) && ch m)
theorem kp_iff {c : sc_T} {ch : Nat → Bool} {n : Nat} : wk_kp c ch n = true ↔ ∃ m, n ≤ m ∧ m ≤ sc_lst c n ∧ ch m = true := by
  unfold wk_kp
  rw [List.any_eq_true]
  constructor
  · rintro ⟨m, h1, h2⟩
    rw [List.mem_range] at h1
    rw [Bool.and_eq_true, decide_eq_true_eq] at h2
    exact ⟨m, h2.1, by omega, h2.2⟩
  · rintro ⟨m, h1, h2, h3⟩
    exact ⟨m, List.mem_range.mpr (by omega), by rw [Bool.and_eq_true, decide_eq_true_eq]; exact ⟨h1, h3⟩⟩
def wk_kd (c : sc_T) (ch : Nat → Bool) : List wk_Fr → Nat
  | [] => 0
  | (g, _, _, _) :: S => if wk_kp c ch g = true then S.length else wk_kd c ch S
def wk_kn (c : sc_T) (ch : Nat → Bool) : List wk_Fr → Nat
  | [] => 0
  | (g, _, _, _) :: S => if wk_kp c ch g = true then g else wk_kn c ch S
def wk_low (c : sc_T) (ch : Nat → Bool) : List wk_I → List wk_Fr → Nat
  | [], s => wk_kd c ch s
  | i :: B, s => if ((i.1 = 0 ∨ i.1 = 2) ∧ ch i.2.1 = true) ∨ (i.1 = 3 ∧ i.2.1 = 0) then wk_kd c ch s else min (wk_kd c ch s) (wk_low c ch B (wk_st c s i))
theorem low_le {c : sc_T} {ch : Nat → Bool} (B : List wk_I) (s : List wk_Fr) : wk_low c ch B s ≤ wk_kd c ch s := by
  cases B with
  | nil => exact Nat.le_refl _
  | cons i B =>
    unfold wk_low
    split
    · exact Nat.le_refl _
    · exact Nat.min_le_left _ _
/-! the next chosen leaf -/
def nc_a (ch : Nat → Bool) : Nat → Nat → Nat
  | 0, _ => 0
  | k + 1, n => if ch n = true then n else nc_a ch k (n + 1)
def wk_nc (c : sc_T) (ch : Nat → Bool) (n : Nat) : Nat := nc_a ch (sc_F c + 1 - n) n
theorem nca_0 {ch : Nat → Bool} : ∀ k n, (∀ m, n ≤ m → m < n + k → ch m = false) → nc_a ch k n = 0
  | 0, _, _ => rfl
  | k + 1, n, h => by
    unfold nc_a
    rw [if_neg (by rw [h n (Nat.le_refl _) (by omega)]; exact Bool.false_ne_true)]
    exact nca_0 k (n + 1) (fun m h1 h2 => h m (by omega) (by omega))
theorem nca_1 {ch : Nat → Bool} {m : Nat} (hm : ch m = true) : ∀ k n, n ≤ m → m < n + k → (∀ j, n ≤ j → j < m → ch j = false) → nc_a ch k n = m
  | 0, n, h1, h2, _ => by omega
  | k + 1, n, h1, h2, h => by
    unfold nc_a
    rcases Nat.lt_or_ge n m with z | z
    · rw [if_neg (by rw [h n (Nat.le_refl _) z]; exact Bool.false_ne_true)]
      exact nca_1 hm k (n + 1) z (by omega) (fun j h1 h2 => h j (by omega) h2)
    · have e : n = m := by omega
      rw [e, if_pos hm]
theorem nca_2 {ch : Nat → Bool} : ∀ k n, (∀ m, n ≤ m → m < n + k → ch m = false) ∨ ∃ m, n ≤ m ∧ m < n + k ∧ ch m = true ∧ ∀ j, n ≤ j → j < m → ch j = false
  | 0, n => Or.inl (fun m h1 h2 => by omega)
  | k + 1, n => by
    rcases Bool.eq_false_or_eq_true (ch n) with z | z
    · exact Or.inr ⟨n, Nat.le_refl _, by omega, z, fun j h1 h2 => by omega⟩
    · rcases nca_2 (ch := ch) k (n + 1) with y | ⟨m, h1, h2, h3, h4⟩
      · refine Or.inl (fun m h1 h2 => ?_)
        rcases Nat.lt_or_ge n m with w | w
        · exact y m w (by omega)
        · have e : m = n := by omega
          rw [e]; exact z
      · refine Or.inr ⟨m, by omega, by omega, h3, fun j h5 h6 => ?_⟩
        rcases Nat.lt_or_ge n j with w | w
        · exact h4 j w h6
        · have e : j = n := by omega
          rw [e]; exact z
section
variable {c : sc_T} {ch : Nat → Bool}
theorem nc_0 {n : Nat} (h : ∀ m, n ≤ m → m ≤ sc_F c → ch m = false) : wk_nc c ch n = 0 := nca_0 _ _ (fun m h1 h2 => h m h1 (by omega))
theorem nc_1 {n m : Nat} (h1 : n ≤ m) (h2 : m ≤ sc_F c) (hm : ch m = true) (h : ∀ j, n ≤ j → j < m → ch j = false) : wk_nc c ch n = m := nca_1 hm _ _ h1 (by omega) h
theorem nc_2 (n : Nat) : (wk_nc c ch n = 0 ∧ ∀ m, n ≤ m → m ≤ sc_F c → ch m = false) ∨ (n ≤ wk_nc c ch n ∧ wk_nc c ch n ≤ sc_F c ∧ ch (wk_nc c ch n) = true ∧ ∀ j, n ≤ j → j < wk_nc c ch n → ch j = false) := by
  rcases nca_2 (ch := ch) (sc_F c + 1 - n) n with y | ⟨m, h1, h2, h3, h4⟩
  · have y' : ∀ m, n ≤ m → m ≤ sc_F c → ch m = false := fun m h1 h2 => y m h1 (by omega)
    exact Or.inl ⟨nc_0 y', y'⟩
  · have e := nc_1 (c := c) h1 (by omega) h3 h4
    rw [e]
    exact Or.inr ⟨h1, by omega, h3, h4⟩
/-! where to go after an entry of leaf l, if its next entry has level r -/
def wk_J (c : sc_T) (ch : Nat → Bool) (l r : Nat) : Nat := if wk_ra c r (sc_dep c l) l ≠ 0 ∧ (wk_nc c ch (l + 1) = 0 ∨ sc_lst c (wk_ra c r (sc_dep c l) l) < wk_nc c ch (l + 1)) then wk_nc c ch (wk_ra c r (sc_dep c l) l) else wk_nc c ch (l + 1)
def wk_JD (c : sc_T) (ch : Nat → Bool) (l r : Nat) : Nat := if wk_ra c r (sc_dep c l) l ≠ 0 ∧ (wk_nc c ch (l + 1) = 0 ∨ sc_lst c (wk_ra c r (sc_dep c l) l) < wk_nc c ch (l + 1)) then sc_dep c (wk_ra c r (sc_dep c l) l) - 1 else if wk_nc c ch (l + 1) = 0 then 0 else wk_cd c (wk_nc c ch (l + 1)) (sc_dep c l - 1) (sc_par c l)
theorem J_1 (h : sc_tr c) {l b r : Nat} (hb : 1 ≤ b) (hF : b ≤ sc_F c) (h1 : b ≤ l) (h2 : l ≤ sc_lst c b) (e1 : sc_lab c b = 2) (e2 : sc_rp c b = r) (hn : ∀ j, l < j → j ≤ sc_lst c b → ch j = false) : wk_J c ch l r = wk_nc c ch b ∧ wk_JD c ch l r = sc_dep c b - 1 := by
  have x := ra_1 h hb hF e1 e2 (sc_dep c l) l rfl h1 h2
  have y : wk_nc c ch (l + 1) = 0 ∨ sc_lst c b < wk_nc c ch (l + 1) := by
    rcases nc_2 (c := c) (ch := ch) (l + 1) with ⟨q, _⟩ | ⟨q1, q2, q3, q4⟩
    · exact Or.inl q
    · refine Or.inr ?_
      rcases Nat.lt_or_ge (sc_lst c b) (wk_nc c ch (l + 1)) with z | z
      · exact z
      · have := hn _ (by omega) z
        rw [this] at q3
        exact absurd q3 Bool.false_ne_true
  unfold wk_J wk_JD
  rw [x]
  rw [if_pos ⟨by omega, y⟩, if_pos ⟨by omega, y⟩]
  exact ⟨rfl, rfl⟩
theorem J_2 (h : sc_tr c) {l m r : Nat} (hl : l ≤ sc_F c) (h1 : l < m) (h2 : m ≤ sc_F c) (hm : ch m = true) (hn : ∀ j, l < j → j < m → ch j = false) (hr : r = 0 ∨ ∃ b, 1 ≤ b ∧ b ≤ l ∧ l ≤ sc_lst c b ∧ sc_lab c b = 2 ∧ sc_rp c b = r ∧ m ≤ sc_lst c b) : wk_J c ch l r = m ∧ wk_JD c ch l r = wk_cd c m (sc_dep c l - 1) (sc_par c l) := by
  have o : wk_nc c ch (l + 1) = m := nc_1 h1 h2 hm (fun j a b => hn j a b)
  have x : ¬ (wk_ra c r (sc_dep c l) l ≠ 0 ∧ (m = 0 ∨ sc_lst c (wk_ra c r (sc_dep c l) l) < m)) := by
    rcases hr with e | ⟨b, b1, b2, b3, b4, b5, b6⟩
    · rw [e]
      exact fun q => q.1 (ra_0 h hl)
    · rw [ra_1 h b1 (by omega) b4 b5 (sc_dep c l) l rfl b2 b3]
      omega
  unfold wk_J wk_JD
  rw [o]
  rw [if_neg x, if_neg x, if_neg (by omega)]
  exact ⟨rfl, rfl⟩
theorem J_3 (h : sc_tr c) {l : Nat} (hl : l ≤ sc_F c) (hn : ∀ j, l < j → j ≤ sc_F c → ch j = false) : wk_J c ch l 0 = 0 ∧ wk_JD c ch l 0 = 0 := by
  have o : wk_nc c ch (l + 1) = 0 := nc_0 (fun j a b => hn j a b)
  unfold wk_J wk_JD
  rw [o, ra_0 h hl]
  exact ⟨by simp, by simp⟩
theorem J_4 (h : sc_tr c) {l g r : Nat} (hl : l ≤ sc_F c) (l1 : 1 ≤ l) (g1 : g < l) (g2 : l ≤ sc_lst c g) (gd : 1 ≤ sc_dep c g) (hn : ∀ j, l < j → j ≤ sc_lst c g → ch j = false) (hr : r = 0 ∨ ∃ b, 1 ≤ b ∧ b ≤ l ∧ l ≤ sc_lst c b ∧ sc_lab c b = 2 ∧ sc_rp c b = r ∧ sc_dep c b ≤ sc_dep c g) : wk_JD c ch l r ≤ sc_dep c g - 1 := by
  have key : (if wk_nc c ch (l + 1) = 0 then 0 else wk_cd c (wk_nc c ch (l + 1)) (sc_dep c l - 1) (sc_par c l)) ≤ sc_dep c g - 1 := by
    by_cases z : wk_nc c ch (l + 1) = 0
    · rw [if_pos z]; exact Nat.zero_le _
    · rw [if_neg z]
      have dl := tr_dp h l1 hl
      have pl := tr_par h l1 hl
      rcases cd_2 h (m := wk_nc c ch (l + 1)) (sc_dep c l - 1) (sc_par c l) (by omega) (by omega) with q | ⟨a, a1, a2, a3, a4⟩
      · rw [q]; exact Nat.zero_le _
      · rcases nc_2 (c := c) (ch := ch) (l + 1) with ⟨q, _⟩ | ⟨q1, q2, q3, q4⟩
        · exact absurd q z
        · have big : sc_lst c g < wk_nc c ch (l + 1) := by
            rcases Nat.lt_or_ge (sc_lst c g) (wk_nc c ch (l + 1)) with y | y
            · exact y
            · have := hn _ (by omega) y
              rw [this] at q3
              exact absurd q3 Bool.false_ne_true
          have al : l ≤ sc_lst c a := (h.2.2.2 a l (by omega) hl).mpr ⟨a1, a2⟩
          rcases Nat.lt_or_ge a g with y | y
          · have := tr_dlt h (n := a) (by omega) g y (by omega)
            omega
          · have := tr_lam h (n := g) (m := a) y (by omega) (by omega)
            omega
  unfold wk_JD
  by_cases z : wk_ra c r (sc_dep c l) l ≠ 0 ∧ (wk_nc c ch (l + 1) = 0 ∨ sc_lst c (wk_ra c r (sc_dep c l) l) < wk_nc c ch (l + 1))
  · rw [if_pos z]
    rcases hr with e | ⟨b, b1, b2, b3, b4, b5, b6⟩
    · rw [e] at z
      exact absurd (ra_0 h hl) z.1
    · rw [ra_1 h b1 (by omega) b4 b5 (sc_dep c l) l rfl b2 b3]
      omega
  · rw [if_neg z]
    exact key
end
end
section
section
variable {c : sc_T} {ch : Nat → Bool} {n l q d : Nat} {v : Int32} {B : List wk_I} {s : List wk_Fr}
theorem nl_e0 (hc : ch n = true) : wk_nl ch ((0, n, v, q, d) :: B) = n := by simp [wk_nl, hc]
theorem nl_e2 (hc : ch n = true) : wk_nl ch ((2, n, v, q, d) :: B) = n := by simp [wk_nl, hc]
theorem nl_s0 (hc : ch n = false) : wk_nl ch ((0, n, v, q, d) :: B) = wk_nl ch B := by simp [wk_nl, hc]
theorem nl_s2 (hc : ch n = false) : wk_nl ch ((2, n, v, q, d) :: B) = wk_nl ch B := by simp [wk_nl, hc]
theorem nl_1 : wk_nl ch ((1, n, v, q, d) :: B) = wk_nl ch B := by simp [wk_nl]
theorem nl_3 (hn : n ≠ 0) : wk_nl ch ((3, n, v, q, d) :: B) = wk_nl ch B := by simp [wk_nl, hn]
theorem nl_30 : wk_nl ch ((3, 0, v, q, d) :: B) = 0 := by simp [wk_nl]
theorem nr_e0 : wk_nr l ((0, l, v, q, d) :: B) = q := by simp [wk_nr]
theorem nr_e2 : wk_nr l ((2, l, v, q, d) :: B) = q := by simp [wk_nr]
theorem nr_s0 (hn : n ≠ l) : wk_nr l ((0, n, v, q, d) :: B) = wk_nr l B := by simp [wk_nr, hn]
theorem nr_s2 (hn : n ≠ l) : wk_nr l ((2, n, v, q, d) :: B) = wk_nr l B := by simp [wk_nr, hn]
theorem nr_1 : wk_nr l ((1, n, v, q, d) :: B) = wk_nr l B := by simp [wk_nr]
theorem nr_3 : wk_nr l ((3, n, v, q, d) :: B) = wk_nr l B := by simp [wk_nr]
theorem nd_e0 : wk_nd l ((0, l, v, q, d) :: B) = d := by simp [wk_nd]
theorem nd_e2 : wk_nd l ((2, l, v, q, d) :: B) = d := by simp [wk_nd]
theorem nd_s0 (hn : n ≠ l) : wk_nd l ((0, n, v, q, d) :: B) = wk_nd l B := by simp [wk_nd, hn]
theorem nd_s2 (hn : n ≠ l) : wk_nd l ((2, n, v, q, d) :: B) = wk_nd l B := by simp [wk_nd, hn]
theorem nd_1 : wk_nd l ((1, n, v, q, d) :: B) = wk_nd l B := by simp [wk_nd]
theorem nd_3 : wk_nd l ((3, n, v, q, d) :: B) = wk_nd l B := by simp [wk_nd]
theorem low_e0 (hc : ch n = true) : wk_low c ch ((0, n, v, q, d) :: B) s = wk_kd c ch s := by simp [wk_low, hc]
theorem low_e2 (hc : ch n = true) : wk_low c ch ((2, n, v, q, d) :: B) s = wk_kd c ch s := by simp [wk_low, hc]
theorem low_s0 (hc : ch n = false) : wk_low c ch ((0, n, v, q, d) :: B) s = min (wk_kd c ch s) (wk_low c ch B (wk_st c s (0, n, v, q, d))) := by simp [wk_low, hc]
theorem low_s2 (hc : ch n = false) : wk_low c ch ((2, n, v, q, d) :: B) s = min (wk_kd c ch s) (wk_low c ch B (wk_st c s (2, n, v, q, d))) := by simp [wk_low, hc]
theorem low_1 : wk_low c ch ((1, n, v, q, d) :: B) s = min (wk_kd c ch s) (wk_low c ch B (wk_st c s (1, n, v, q, d))) := by simp [wk_low]
theorem low_3 (hn : n ≠ 0) : wk_low c ch ((3, n, v, q, d) :: B) s = min (wk_kd c ch s) (wk_low c ch B (wk_st c s (3, n, v, q, d))) := by simp [wk_low, hn]
theorem low_30 : wk_low c ch ((3, 0, v, q, d) :: B) s = wk_kd c ch s := by simp [wk_low]
end
section
variable {c : sc_T}
theorem wk_N (h : sc_tr c) {l : Nat} (hl : sc_lf c l = 1) (l1 : 1 ≤ l) (l2 : l ≤ sc_F c) : ∀ (B : List wk_I) (s : List wk_Fr), wk_inv c s → wk_W c B s → wk_go c B s = [] → wk_pd l s → wk_nr l B = wk_PR c l s := by
  intro B
  induction B with
  | nil =>
    intro s _ _ hg _
    have e : s = [] := hg
    rw [e]; rfl
  | cons i B ih =>
    intro s hi hW hg hp
    obtain ⟨hk, hW⟩ := hW
    have hi' := wk_is h hi hk
    have hg' : wk_go c B (wk_st c s i) = [] := hg
    cases s with
    | nil =>
      have e : i = (1, 0, 0, 0, 0) := hk
      subst e
      rw [nr_1, ih _ hi' hW hg' l1, st_b]
      unfold wk_PR
      split
      · rfl
      · rfl
    | cons f S =>
      obtain ⟨g, lc, ph, r⟩ := f
      have hp' : ph ≤ l := hp
      obtain ⟨⟨i1, i2, i3, i4, i5, i6, i7⟩, il, iS⟩ := hi
      rcases hk with ⟨rfl, hq⟩ | ⟨n, v, rfl, e0, h1, h2, h3, h4⟩ | ⟨n, v, rfl, e0, e1, e2, h1, h2, h3, h4⟩ | ⟨n, rfl, e0, h1, h2, h3, h4⟩ | ⟨n, rfl, e0, e1, e2, h1, h2, h3, h4⟩ | ⟨rfl, hq⟩
      · rw [st_0] at hi' hW hg'
        by_cases z : ph = l
        · subst z
          rw [nr_e0]
          unfold wk_PR
          rw [if_pos hq]
        · rw [nr_s0 z, ih _ hi' hW hg' (show ph + 1 ≤ l by omega)]
          rfl
      · rw [st_2] at hi' hW hg'
        have cl := tr_chd h h1 h2
        have ll := tr_leaf h h2 h3
        rw [h4] at cl
        by_cases z : n = l
        · rw [z] at cl ⊢
          rw [nr_e2]
          unfold wk_PR
          rw [if_pos cl]
        · rw [nr_s2 z, ih _ hi' hW hg' (show sc_lst c n + 1 ≤ l by omega)]
          rfl
      · rw [st_2] at hi' hW hg'
        have ll := tr_leaf h h2 h3
        rw [nr_s2 (by omega), ih _ hi' hW hg' (show sc_lst c n + 1 ≤ l by omega)]
        rfl
      · rw [st_1] at hi' hW hg'
        have ne : n ≠ l := fun z => by rw [z, hl] at h3; omega
        have cl := tr_chl h h1 h2
        rw [h4] at cl
        rw [nr_1, ih _ hi' hW hg' (show n + 1 ≤ l by omega)]
        unfold wk_PR
        by_cases z : l ≤ sc_lst c n
        · rw [if_pos z, if_pos (by omega)]
        · rw [if_neg z]
          rfl
      · rw [st_1] at hi' hW hg'
        have gl := tr_ge h h2
        rw [nr_1, ih _ hi' hW hg' (show n + 1 ≤ l by omega)]
        show (if l ≤ sc_lst c n then _ else wk_PR c l ((g, n, sc_lst c n + 1, r) :: S)) = _
        rw [if_neg (by omega)]
        rfl
      · rw [st_3] at hi' hW hg'
        have pS : wk_pd l S := by
          cases S with
          | nil => trivial
          | cons f' S' =>
            obtain ⟨g', lc', ph', r'⟩ := f'
            obtain ⟨_, _, _, ep⟩ := il
            show ph' ≤ l
            omega
        rw [nr_3, ih _ hi' hW hg' pS]
        show _ = if l ≤ sc_lst c g then r else wk_PR c l S
        rw [if_neg (by omega)]
def wk_on (n0 : Nat) : List wk_Fr → Prop
  | [] => False
  | (g, _, _, _) :: S => g = n0 ∨ wk_on n0 S
theorem on_top (h : sc_tr c) {n0 : Nat} : ∀ (S : List wk_Fr) (g lc ph r : Nat), wk_inv c ((g, lc, ph, r) :: S) → wk_on n0 ((g, lc, ph, r) :: S) → n0 ≤ g ∧ sc_lst c g ≤ sc_lst c n0 ∧ sc_dep c n0 ≤ S.length ∧ n0 ≤ sc_F c := by
  intro S
  induction S with
  | nil =>
    intro g lc ph r hi ho
    rcases ho with e | e
    · rw [← e]
      exact ⟨Nat.le_refl _, Nat.le_refl _, Nat.le_of_eq hi.1.2.2.1, hi.1.1⟩
    · exact absurd e id
  | cons f' S' ih =>
    obtain ⟨g', lc', ph', r'⟩ := f'
    intro g lc ph r hi ho
    rcases ho with e | e
    · rw [← e]
      exact ⟨Nat.le_refl _, Nat.le_refl _, Nat.le_of_eq hi.1.2.2.1, hi.1.1⟩
    · obtain ⟨⟨i1, i2, i3, i4, i5, i6, i7⟩, ⟨k1, k2, k3, k4⟩, iS⟩ := hi
      obtain ⟨a1, a2, a3, a4⟩ := ih g' lc' ph' r' iS e
      have x := tr_par h k1 i1
      have y := tr_chl h k1 i1
      rw [k2] at x y
      exact ⟨by omega, by omega, by rw [List.length_cons]; omega, a4⟩
theorem wk_R (h : sc_tr c) {l : Nat} (hl : sc_lf c l = 1) (l1 : 1 ≤ l) (l2 : l ≤ sc_F c) : ∀ (B : List wk_I) (g lc ph r : Nat) (S : List wk_Fr), wk_inv c ((g, lc, ph, r) :: S) → wk_W c B ((g, lc, ph, r) :: S) → wk_go c B ((g, lc, ph, r) :: S) = [] → l < ph → wk_nr l B = 0 ∨ ∃ b, 1 ≤ b ∧ b ≤ l ∧ l ≤ sc_lst c b ∧ sc_lab c b = 2 ∧ sc_rp c b = wk_nr l B ∧ ph ≤ sc_lst c b + 1 ∧ wk_on (sc_par c b) ((g, lc, ph, r) :: S) := by
  intro B
  induction B with
  | nil => intro g lc ph r S _ _ hg _; exact absurd hg (List.cons_ne_nil _ _)
  | cons i B ih =>
    intro g lc ph r S hi hW hg hp
    obtain ⟨hk, hW⟩ := hW
    have hi' := wk_is h hi hk
    have hg' : wk_go c B (wk_st c ((g, lc, ph, r) :: S) i) = [] := hg
    obtain ⟨⟨i1, i2, i3, i4, i5, i6, i7⟩, il, iS⟩ := hi
    rcases hk with ⟨rfl, hq⟩ | ⟨n, v, rfl, e0, h1, h2, h3, h4⟩ | ⟨n, v, rfl, e0, e1, e2, h1, h2, h3, h4⟩ | ⟨n, rfl, e0, h1, h2, h3, h4⟩ | ⟨n, rfl, e0, e1, e2, h1, h2, h3, h4⟩ | ⟨rfl, hq⟩
    · rw [st_0] at hi' hW hg'
      rw [nr_s0 (by omega)]
      rcases ih g lc (ph + 1) r S hi' hW hg' (by omega) with x | ⟨b, b1, b2, b3, b4, b5, b6, b7⟩
      · exact Or.inl x
      · exact Or.inr ⟨b, b1, b2, b3, b4, b5, by omega, b7⟩
    · rw [st_2] at hi' hW hg'
      have ll := tr_leaf h h2 h3
      rw [nr_s2 (by omega)]
      rcases ih g n (sc_lst c n + 1) r S hi' hW hg' (by omega) with x | ⟨b, b1, b2, b3, b4, b5, b6, b7⟩
      · exact Or.inl x
      · exact Or.inr ⟨b, b1, b2, b3, b4, b5, by omega, b7⟩
    · rw [st_2] at hi' hW hg'
      have ll := tr_leaf h h2 h3
      by_cases z : n = l
      · subst z
        rw [nr_e2]
        exact Or.inr ⟨n, h1, Nat.le_refl _, by omega, e2, rfl, by omega, Or.inl h4.symm⟩
      · rw [nr_s2 z]
        rcases ih g n (sc_lst c n + 1) r S hi' hW hg' (by omega) with x | ⟨b, b1, b2, b3, b4, b5, b6, b7⟩
        · exact Or.inl x
        · exact Or.inr ⟨b, b1, b2, b3, b4, b5, by omega, b7⟩
    · rw [st_1] at hi' hW hg'
      rw [nr_1]
      rcases ih n 0 (n + 1) r _ hi' hW hg' (by omega) with x | ⟨b, b1, b2, b3, b4, b5, b6, b7⟩
      · exact Or.inl x
      · refine Or.inr ⟨b, b1, b2, b3, b4, b5, by omega, ?_⟩
        rcases b7 with y | y
        · have := tr_par h (n := b) b1 (by omega)
          omega
        · exact y
    · rw [st_1] at hi' hW hg'
      rw [nr_1]
      rcases Nat.lt_or_ge l n with z | z
      · rcases ih n 0 (n + 1) _ _ hi' hW hg' (by omega) with x | ⟨b, b1, b2, b3, b4, b5, b6, b7⟩
        · exact Or.inl x
        · have lm := tr_lam h (n := b) (m := n) (by omega) (by omega) (by omega)
          refine Or.inr ⟨b, b1, b2, b3, b4, b5, by omega, ?_⟩
          rcases b7 with y | y
          · have := tr_par h (n := b) b1 (by omega)
            omega
          · exact y
      · have ne : n ≠ l := fun z => by rw [z, hl] at h3; omega
        have e := wk_N h hl l1 l2 B _ hi' hW hg' (show n + 1 ≤ l by omega)
        have e' : wk_nr l B = sc_rp c n := by
          rw [e]
          show (if l ≤ sc_lst c n then _ else _) = _
          rw [if_pos (by omega)]
        rw [e']
        exact Or.inr ⟨n, h1, z, by omega, e2, rfl, by omega, Or.inl h4.symm⟩
    · rw [st_3] at hi' hW hg'
      rw [nr_3]
      cases S with
      | nil =>
        have e := wk_N h hl l1 l2 B [] hi' hW hg' trivial
        exact Or.inl e
      | cons f' S' =>
        obtain ⟨g', lc', ph', r'⟩ := f'
        obtain ⟨_, _, _, ep⟩ := il
        rcases ih g' lc' ph' r' S' hi' hW hg' (by omega) with x | ⟨b, b1, b2, b3, b4, b5, b6, b7⟩
        · exact Or.inl x
        · exact Or.inr ⟨b, b1, b2, b3, b4, b5, by omega, Or.inr b7⟩
end
section
variable {c : sc_T} {ch : Nat → Bool}
theorem kd_t {g lc ph r : Nat} {S : List wk_Fr} (e : wk_kp c ch g = true) : wk_kd c ch ((g, lc, ph, r) :: S) = S.length := if_pos e
theorem kd_f {g lc ph r : Nat} {S : List wk_Fr} (e : wk_kp c ch g = false) : wk_kd c ch ((g, lc, ph, r) :: S) = wk_kd c ch S := if_neg (by rw [e]; exact Bool.false_ne_true)
theorem kn_t {g lc ph r : Nat} {S : List wk_Fr} (e : wk_kp c ch g = true) : wk_kn c ch ((g, lc, ph, r) :: S) = g := if_pos e
theorem kn_f {g lc ph r : Nat} {S : List wk_Fr} (e : wk_kp c ch g = false) : wk_kn c ch ((g, lc, ph, r) :: S) = wk_kn c ch S := if_neg (by rw [e]; exact Bool.false_ne_true)
theorem kd_g {g lc ph r lc' ph' r' : Nat} {S : List wk_Fr} : wk_kd c ch ((g, lc, ph, r) :: S) = wk_kd c ch ((g, lc', ph', r') :: S) := rfl
theorem kn_g {g lc ph r lc' ph' r' : Nat} {S : List wk_Fr} : wk_kn c ch ((g, lc, ph, r) :: S) = wk_kn c ch ((g, lc', ph', r') :: S) := rfl
theorem kp_up (h : sc_tr c) {g n : Nat} (hg : g ≤ sc_F c) (h1 : g ≤ n) (h2 : n ≤ sc_lst c g) (k : wk_kp c ch n = true) : wk_kp c ch g = true := by
  obtain ⟨m, a1, a2, a3⟩ := kp_iff.mp k
  have := tr_lam h h1 h2 hg
  exact kp_iff.mpr ⟨m, by omega, by omega, a3⟩
theorem kp_no {n : Nat} (h : ∀ j, n ≤ j → j ≤ sc_lst c n → ch j = false) : wk_kp c ch n = false := by
  rcases Bool.eq_false_or_eq_true (wk_kp c ch n) with z | z
  · obtain ⟨m, a1, a2, a3⟩ := kp_iff.mp z
    rw [h m a1 a2] at a3
    exact absurd a3 Bool.false_ne_true
  · exact z
theorem kd_ge (h : sc_tr c) {n0 : Nat} (k : wk_kp c ch n0 = true) : ∀ (S : List wk_Fr) (g lc ph r : Nat), wk_inv c ((g, lc, ph, r) :: S) → wk_on n0 ((g, lc, ph, r) :: S) → sc_dep c n0 ≤ wk_kd c ch ((g, lc, ph, r) :: S) := by
  intro S
  induction S with
  | nil =>
    intro g lc ph r hi ho
    rcases ho with e | e
    · rw [← e] at k
      rw [kd_t k, ← e, hi.1.2.2.1]
      exact Nat.le_refl _
    · exact absurd e id
  | cons f' S' ih =>
    obtain ⟨g', lc', ph', r'⟩ := f'
    intro g lc ph r hi ho
    have t := on_top h _ _ _ _ _ hi ho
    rcases Bool.eq_false_or_eq_true (wk_kp c ch g) with z | z
    · rw [kd_t z]; exact t.2.2.1
    · rw [kd_f z]
      rcases ho with e | e
      · rw [e, k] at z
        exact absurd z.symm Bool.false_ne_true
      · exact ih g' lc' ph' r' hi.2.2 e
theorem wk_M (h : sc_tr c) (hch : ∀ n, ch n = true → 1 ≤ n ∧ n ≤ sc_F c ∧ sc_lf c n = 1) {n0 m : Nat} (hm : ch m = true) (m1 : n0 < m) (m2 : m ≤ sc_lst c n0) (hno : ∀ j, n0 ≤ j → j < m → ch j = false) : ∀ (B : List wk_I) (g lc ph r : Nat) (S : List wk_Fr), wk_inv c ((g, lc, ph, r) :: S) → wk_W c B ((g, lc, ph, r) :: S) → wk_go c B ((g, lc, ph, r) :: S) = [] → wk_on n0 ((g, lc, ph, r) :: S) → ph ≤ m → wk_nl ch B = m ∧ sc_dep c n0 ≤ wk_nd m B ∧ sc_dep c n0 ≤ wk_low c ch B ((g, lc, ph, r) :: S) := by
  intro B
  induction B with
  | nil => intro g lc ph r S _ _ hg _; exact absurd hg (List.cons_ne_nil _ _)
  | cons i B ih =>
    intro g lc ph r S hi hW hg ho hp
    obtain ⟨hk, hW⟩ := hW
    have hi' := wk_is h hi hk
    have hg' : wk_go c B (wk_st c ((g, lc, ph, r) :: S) i) = [] := hg
    have ot := on_top h _ _ _ _ _ hi ho
    have k0 : wk_kp c ch n0 = true := kp_iff.mpr ⟨m, by omega, m2, hm⟩
    have kd0 := kd_ge h k0 _ _ _ _ _ hi ho
    have ml := (hch m hm).2.2
    obtain ⟨⟨i1, i2, i3, i4, i5, i6, i7⟩, il, iS⟩ := hi
    rcases hk with ⟨rfl, hq⟩ | ⟨n, v, rfl, e0, h1, h2, h3, h4⟩ | ⟨n, v, rfl, e0, e1, e2, h1, h2, h3, h4⟩ | ⟨n, rfl, e0, h1, h2, h3, h4⟩ | ⟨n, rfl, e0, e1, e2, h1, h2, h3, h4⟩ | ⟨rfl, hq⟩
    · rw [st_0] at hi' hW hg'
      by_cases z : ph = m
      · subst z
        rw [nl_e0 hm, nd_e0, low_e0 hm]
        exact ⟨rfl, ot.2.2.1, kd0⟩
      · have cz := hno ph (by omega) (by omega)
        obtain ⟨a1, a2, a3⟩ := ih g lc (ph + 1) r S hi' hW hg' ho (by omega)
        rw [nl_s0 cz, nd_s0 z, low_s0 cz, st_0]
        exact ⟨a1, a2, Nat.le_min.mpr ⟨kd0, a3⟩⟩
    · rw [st_2] at hi' hW hg'
      have ll := tr_leaf h h2 h3
      by_cases z : n = m
      · subst z
        rw [nl_e2 hm, nd_e2, low_e2 hm]
        have x := tr_dp h h1 h2
        rw [h4, i3] at x
        exact ⟨rfl, by have := ot.2.2.1; omega, kd0⟩
      · have cz := hno n (by omega) (by omega)
        obtain ⟨a1, a2, a3⟩ := ih g n (sc_lst c n + 1) r S hi' hW hg' ho (by omega)
        rw [nl_s2 cz, nd_s2 z, low_s2 cz, st_2]
        exact ⟨a1, a2, Nat.le_min.mpr ⟨kd0, a3⟩⟩
    · rw [st_2] at hi' hW hg'
      have ll := tr_leaf h h2 h3
      have pn := tr_par h h1 h2
      have cz := hno n (by omega) (by omega)
      obtain ⟨a1, a2, a3⟩ := ih g n (sc_lst c n + 1) r S hi' hW hg' ho (by omega)
      rw [nl_s2 cz, nd_s2 (by omega), low_s2 cz, st_2]
      exact ⟨a1, a2, Nat.le_min.mpr ⟨kd0, a3⟩⟩
    · rw [st_1] at hi' hW hg'
      have ne : n ≠ m := fun z => by rw [z, ml] at h3; omega
      obtain ⟨a1, a2, a3⟩ := ih n 0 (n + 1) r _ hi' hW hg' (Or.inr ho) (by omega)
      rw [nl_1, nd_1, low_1, st_1]
      exact ⟨a1, a2, Nat.le_min.mpr ⟨kd0, a3⟩⟩
    · rw [st_1] at hi' hW hg'
      have gl := tr_ge h h2
      obtain ⟨a1, a2, a3⟩ := ih n 0 (n + 1) _ _ hi' hW hg' (Or.inr ho) (by omega)
      rw [nl_1, nd_1, low_1, st_1]
      exact ⟨a1, a2, Nat.le_min.mpr ⟨kd0, a3⟩⟩
    · rw [st_3] at hi' hW hg'
      have gne : g ≠ n0 := fun z => by rw [z] at hq; omega
      have oS : wk_on n0 S := by
        rcases ho with e | e
        · exact absurd e gne
        · exact e
      cases S with
      | nil => exact absurd oS id
      | cons f' S' =>
        obtain ⟨g', lc', ph', r'⟩ := f'
        obtain ⟨k1, _, _, ep⟩ := il
        obtain ⟨a1, a2, a3⟩ := ih g' lc' ph' r' S' hi' hW hg' oS (by omega)
        rw [nl_3 (by omega), nd_3, low_3 (by omega), st_3]
        exact ⟨a1, a2, Nat.le_min.mpr ⟨kd0, a3⟩⟩
end
end
section
section
variable {c : sc_T} {ch : Nat → Bool}
theorem kp_nc (h : sc_tr c) (hch : ∀ n, ch n = true → 1 ≤ n ∧ n ≤ sc_F c ∧ sc_lf c n = 1) {n : Nat} (hn : n ≤ sc_F c) (hg : sc_lf c n = 0) (k : wk_kp c ch n = true) : n < wk_nc c ch n ∧ wk_nc c ch n ≤ sc_lst c n ∧ ch (wk_nc c ch n) = true ∧ ∀ j, n ≤ j → j < wk_nc c ch n → ch j = false := by
  obtain ⟨m, a1, a2, a3⟩ := kp_iff.mp k
  have lF := tr_le h hn
  rcases nc_2 (c := c) (ch := ch) n with ⟨q, q'⟩ | ⟨q1, q2, q3, q4⟩
  · rw [q' m a1 (by omega)] at a3
    exact absurd a3 Bool.false_ne_true
  · have ne : wk_nc c ch n ≠ n := fun z => by
      rw [z] at q3
      have := (hch n q3).2.2
      omega
    have le : wk_nc c ch n ≤ m := by
      rcases Nat.lt_or_ge m (wk_nc c ch n) with z | z
      · rw [q4 m a1 z] at a3
        exact absurd a3 Bool.false_ne_true
      · exact z
    exact ⟨by omega, by omega, q3, q4⟩
theorem ch_grp (hch : ∀ n, ch n = true → 1 ≤ n ∧ n ≤ sc_F c ∧ sc_lf c n = 1) {n : Nat} (hg : sc_lf c n = 0) : ch n = false := by
  rcases Bool.eq_false_or_eq_true (ch n) with z | z
  · have := (hch n z).2.2
    omega
  · exact z
/-- the jump after an entry of l is right: the next chosen leaf, and how far the groups close -/
theorem wk_JT (h : sc_tr c) (hch : ∀ n, ch n = true → 1 ≤ n ∧ n ≤ sc_F c ∧ sc_lf c n = 1) {l : Nat} (hc : ch l = true) : ∀ (B : List wk_I) (g lc ph r : Nat) (S : List wk_Fr), wk_inv c ((g, lc, ph, r) :: S) → wk_W c B ((g, lc, ph, r) :: S) → wk_go c B ((g, lc, ph, r) :: S) = [] → l < ph → (∀ j, l < j → j < ph → ch j = false) → wk_kn c ch ((g, lc, ph, r) :: S) ≤ l → l ≤ sc_lst c (wk_kn c ch ((g, lc, ph, r) :: S)) → wk_nl ch B = wk_J c ch l (wk_nr l B) ∧ min (wk_kd c ch ((g, lc, ph, r) :: S)) (wk_JD c ch l (wk_nr l B)) = wk_low c ch B ((g, lc, ph, r) :: S) := by
  obtain ⟨l1, l2, hl⟩ := hch l hc
  have ldp := tr_dp h l1 l2
  have lpar := tr_par h l1 l2
  intro B
  induction B with
  | nil => intro g lc ph r S _ _ hg _; exact absurd hg (List.cons_ne_nil _ _)
  | cons i B ih =>
    intro g lc ph r S hi hW hg hp hno kn1 kn2
    have hR := wk_R h hl l1 l2 _ _ _ _ _ _ hi hW hg hp
    obtain ⟨hk, hW⟩ := hW
    have hi' := wk_is h hi hk
    have hg' : wk_go c B (wk_st c ((g, lc, ph, r) :: S) i) = [] := hg
    have hI := hi
    obtain ⟨⟨i1, i2, i3, i4, i5, i6, i7⟩, il, iS⟩ := hi
    have gl := tr_le h i1
    have hcd : ∀ m, wk_kp c ch g = true → m ≤ sc_lst c g → S.length ≤ wk_cd c m (sc_dep c l - 1) (sc_par c l) := by
      intro m kg hm
      rw [kn_t kg] at kn1 kn2
      have ne : g ≠ l := fun z => by rw [z, hl] at i2; omega
      have q := tr_in h (n := g) (k := l) (by omega) kn2 i1
      have := cd_1 h i1 hm (sc_dep c l - 1) (sc_par c l) (by omega) q.1 q.2
      omega
    rcases hk with ⟨rfl, hq⟩ | ⟨n, v, rfl, e0, h1, h2, h3, h4⟩ | ⟨n, v, rfl, e0, e1, e2, h1, h2, h3, h4⟩ | ⟨n, rfl, e0, h1, h2, h3, h4⟩ | ⟨n, rfl, e0, e1, e2, h1, h2, h3, h4⟩ | ⟨rfl, hq⟩
    · rw [st_0] at hi' hW hg'
      rcases Bool.eq_false_or_eq_true (ch ph) with z | z
      · have kg : wk_kp c ch g = true := kp_iff.mpr ⟨ph, by omega, hq, z⟩
        have hR' := wk_R h hl l1 l2 _ _ _ _ _ _ hi' hW hg' (by omega)
        rw [nr_s0 (by omega)]
        obtain ⟨j1, j2⟩ := J_2 h l2 hp (by omega) z hno (r := wk_nr l B) (by
          rcases hR' with x | ⟨b, b1, b2, b3, b4, b5, b6, b7⟩
          · exact Or.inl x
          · exact Or.inr ⟨b, b1, b2, b3, b4, b5, by omega⟩)
        rw [nl_e0 z, low_e0 z, j1, j2, kd_t kg]
        exact ⟨rfl, Nat.min_eq_left (hcd ph kg hq)⟩
      · obtain ⟨a1, a2⟩ := ih g lc (ph + 1) r S hi' hW hg' (by omega) (fun j x y => by
          rcases Nat.lt_or_ge j ph with w | w
          · exact hno j x w
          · have e : j = ph := by omega
            rw [e]; exact z) kn1 kn2
        rw [nr_s0 (by omega), nl_s0 z, low_s0 z, st_0]
        refine ⟨a1, ?_⟩
        rw [kd_g (lc' := lc) (ph' := ph + 1) (r' := r), a2]
        exact (Nat.min_eq_right (low_le _ _)).symm
    · rw [st_2] at hi' hW hg'
      have ll := tr_leaf h h2 h3
      have cl := tr_chd h h1 h2
      rw [h4] at cl
      rcases Bool.eq_false_or_eq_true (ch n) with z | z
      · have kg : wk_kp c ch g = true := kp_iff.mpr ⟨n, by omega, cl, z⟩
        have hR' := wk_R h hl l1 l2 _ _ _ _ _ _ hi' hW hg' (by omega)
        rw [nr_s2 (by omega)]
        obtain ⟨j1, j2⟩ := J_2 h l2 (m := n) (by omega) h2 z (fun j x y => hno j x (by omega)) (r := wk_nr l B) (by
          rcases hR' with x | ⟨b, b1, b2, b3, b4, b5, b6, b7⟩
          · exact Or.inl x
          · exact Or.inr ⟨b, b1, b2, b3, b4, b5, by omega⟩)
        rw [nl_e2 z, low_e2 z, j1, j2, kd_t kg]
        exact ⟨rfl, Nat.min_eq_left (hcd n kg cl)⟩
      · obtain ⟨a1, a2⟩ := ih g n (sc_lst c n + 1) r S hi' hW hg' (by omega) (fun j x y => by
          rcases Nat.lt_or_ge j n with w | w
          · exact hno j x (by omega)
          · have e : j = n := by omega
            rw [e]; exact z) kn1 kn2
        rw [nr_s2 (by omega), nl_s2 z, low_s2 z, st_2]
        refine ⟨a1, ?_⟩
        rw [kd_g (lc' := n) (ph' := sc_lst c n + 1) (r' := r), a2]
        exact (Nat.min_eq_right (low_le _ _)).symm
    · rw [st_2] at hi' hW hg'
      have ll := tr_leaf h h2 h3
      have cl := tr_chd h h1 h2
      have pn := tr_par h h1 h2
      rw [h4] at cl pn
      rcases Bool.eq_false_or_eq_true (ch n) with z | z
      · have en : n = l := by
          rcases Nat.lt_or_ge l n with w | w
          · rw [hno n w (by omega)] at z
            exact absurd z Bool.false_ne_true
          · omega
        subst en
        have kg : wk_kp c ch g = true := kp_iff.mpr ⟨n, by omega, cl, z⟩
        obtain ⟨j1, j2⟩ := J_1 h (ch := ch) (l := n) (b := n) h1 h2 (Nat.le_refl _) (by omega) e2 rfl (fun j x y => by omega)
        have en : wk_nc c ch n = n := nc_1 (Nat.le_refl _) h2 z (fun j x y => by omega)
        rw [nr_e2, nl_e2 z, low_e2 z, j1, j2, kd_t kg, en]
        refine ⟨rfl, ?_⟩
        rw [h4, i3] at ldp
        rw [ldp]
        exact Nat.min_self _
      · have ne : n ≠ l := fun w => by rw [w, hc] at z; exact absurd z.symm Bool.false_ne_true
        obtain ⟨a1, a2⟩ := ih g n (sc_lst c n + 1) r S hi' hW hg' (by omega) (fun j x y => hno j x (by omega)) kn1 kn2
        rw [nr_s2 ne, nl_s2 z, low_s2 z, st_2]
        refine ⟨a1, ?_⟩
        rw [kd_g (lc' := n) (ph' := sc_lst c n + 1) (r' := r), a2]
        exact (Nat.min_eq_right (low_le _ _)).symm
    · rw [st_1] at hi' hW hg'
      have cl := tr_chl h h1 h2
      have pn := tr_par h h1 h2
      have gn := tr_ge h h2
      rw [h4] at cl pn
      rw [nr_1, nl_1, low_1, st_1]
      rcases Bool.eq_false_or_eq_true (wk_kp c ch n) with z | z
      · have kg := kp_up h i1 (by omega) (by omega) z
        obtain ⟨m1, m2, m3, m4⟩ := kp_nc h hch h2 h3 z
        obtain ⟨a1, a2, a3⟩ := wk_M h hch m3 m1 m2 m4 B _ _ _ _ _ hi' hW hg' (Or.inl rfl) m1
        have dn := tr_dp h h1 h2
        rw [h4, i3] at dn
        have hR' := wk_R h hl l1 l2 _ _ _ _ _ _ hi' hW hg' (by omega)
        have nl2 := tr_le h h2
        obtain ⟨j1, j2⟩ := J_2 h l2 (m := wk_nc c ch n) (by omega) (by omega) m3 (fun j x y => by
          rcases Nat.lt_or_ge j n with w | w
          · exact hno j x (by omega)
          · exact m4 j w y) (r := wk_nr l B) (by
          rcases hR' with x | ⟨b, b1, b2, b3, b4, b5, b6, b7⟩
          · exact Or.inl x
          · have lm := tr_lam h (n := b) (m := n) (by omega) (by omega) (by omega)
            exact Or.inr ⟨b, b1, b2, b3, b4, b5, by omega⟩)
        have cdm := hcd (wk_nc c ch n) kg (by omega)
        rw [a1, j1, j2, kd_t kg]
        refine ⟨rfl, ?_⟩
        rw [Nat.min_eq_left cdm, Nat.min_eq_left (by omega)]
      · have cn := ch_grp hch h3
        obtain ⟨a1, a2⟩ := ih n 0 (n + 1) r _ hi' hW hg' (by omega) (fun j x y => by
          rcases Nat.lt_or_ge j n with w | w
          · exact hno j x (by omega)
          · have e : j = n := by omega
            rw [e]; exact cn) (by rw [kn_f z]; exact kn1) (by rw [kn_f z]; exact kn2)
        refine ⟨a1, ?_⟩
        rw [kd_f z] at a2
        rw [kd_g (lc' := n) (ph' := sc_lst c n + 1) (r' := r), a2]
        have q := low_le (c := c) (ch := ch) B ((n, 0, n + 1, r) :: (g, n, sc_lst c n + 1, r) :: S)
        rw [kd_f z] at q
        exact (Nat.min_eq_right q).symm
    · rw [st_1] at hi' hW hg'
      have cl := tr_chl h h1 h2
      have pn := tr_par h h1 h2
      have gn := tr_ge h h2
      rw [h4] at cl pn
      rw [nr_1, nl_1, low_1, st_1]
      rcases Nat.lt_or_ge l n with w | w
      · have z : wk_kp c ch n = false := kp_no (fun j x y => hno j (by omega) (by omega))
        have cn := ch_grp hch h3
        obtain ⟨a1, a2⟩ := ih n 0 (n + 1) (sc_rp c n) _ hi' hW hg' (by omega) (fun j x y => by
          rcases Nat.lt_or_ge j n with w | w
          · exact hno j x (by omega)
          · have e : j = n := by omega
            rw [e]; exact cn) (by rw [kn_f z]; exact kn1) (by rw [kn_f z]; exact kn2)
        refine ⟨a1, ?_⟩
        rw [kd_f z] at a2
        rw [kd_g (lc' := n) (ph' := sc_lst c n + 1) (r' := r), a2]
        have q := low_le (c := c) (ch := ch) B ((n, 0, n + 1, sc_rp c n) :: (g, n, sc_lst c n + 1, r) :: S)
        rw [kd_f z] at q
        exact (Nat.min_eq_right q).symm
      · have ne : n ≠ l := fun y => by rw [y, hl] at h3; omega
        have z : wk_kp c ch n = true := kp_iff.mpr ⟨l, w, by omega, hc⟩
        have kg := kp_up h i1 (by omega) (by omega) z
        obtain ⟨m1, m2, m3, m4⟩ := kp_nc h hch h2 h3 z
        obtain ⟨a1, a2, a3⟩ := wk_M h hch m3 m1 m2 m4 B _ _ _ _ _ hi' hW hg' (Or.inl rfl) m1
        have dn := tr_dp h h1 h2
        rw [h4, i3] at dn
        have e := wk_N h hl l1 l2 B _ hi' hW hg' (show n + 1 ≤ l by omega)
        have e' : wk_nr l B = sc_rp c n := by
          rw [e]
          show (if l ≤ sc_lst c n then _ else _) = _
          rw [if_pos (by omega)]
        obtain ⟨j1, j2⟩ := J_1 h (ch := ch) (l := l) (b := n) h1 h2 w (by omega) e2 e'.symm (fun j x y => hno j x (by omega))
        rw [a1, j1, j2, kd_t kg]
        refine ⟨rfl, ?_⟩
        rw [Nat.min_eq_left (by omega), Nat.min_eq_left (by omega)]
    · rw [st_3] at hi' hW hg'
      rw [nr_3]
      cases S with
      | nil =>
        obtain ⟨g0, r0⟩ := il
        subst g0
        have e := wk_N h hl l1 l2 B [] hi' hW hg' trivial
        have e' : wk_nr l B = 0 := e
        have z := tr_l0 h
        obtain ⟨j1, j2⟩ := J_3 h (ch := ch) l2 (fun j x y => hno j x (by omega))
        rw [e', nl_30, low_30, j1, j2]
        refine ⟨rfl, ?_⟩
        show min _ 0 = (if wk_kp c ch 0 = true then 0 else 0)
        rw [Nat.min_zero, ite_self]
      | cons f' S' =>
        obtain ⟨g', lc', ph', r'⟩ := f'
        obtain ⟨k1, k2, k3, k4⟩ := il
        have i1' : g' ≤ sc_F c := iS.1.1
        have pn := tr_par h k1 i1
        have cl := tr_chl h k1 i1
        rw [k2] at pn cl
        have hR' := wk_R h hl l1 l2 _ _ _ _ _ _ hi' hW hg' (by omega)
        rw [nl_3 (by omega), low_3 (by omega), st_3]
        rcases Bool.eq_false_or_eq_true (wk_kp c ch g) with z | z
        · have kg' := kp_up h i1' (by omega) (by have := tr_chd h k1 i1; rw [k2] at this; exact this) z
          rw [kn_t z] at kn1 kn2
          have ne : g ≠ l := fun y => by rw [y, hl] at i2; omega
          obtain ⟨a1, a2⟩ := ih g' lc' ph' r' S' hi' hW hg' (by omega) (fun j x y => hno j x (by omega)) (by rw [kn_t kg']; omega) (by rw [kn_t kg']; omega)
          refine ⟨a1, ?_⟩
          have gd : sc_dep c g = S'.length + 1 := i3
          have jd := J_4 h (ch := ch) (r := wk_nr l B) l2 l1 (g := g) (by omega) kn2 (by omega) (fun j x y => hno j x (by omega)) (by
            rcases hR' with x | ⟨b, b1, b2, b3, b4, b5, b6, b7⟩
            · exact Or.inl x
            · have bF : b ≤ sc_F c := by omega
              have bd := tr_dp h b1 bF
              have t := on_top h _ _ _ _ _ hi' b7
              exact Or.inr ⟨b, b1, b2, b3, b4, b5, by omega⟩)
          rw [kd_t kg'] at a2
          have q := low_le (c := c) (ch := ch) B ((g', lc', ph', r') :: S')
          rw [kd_t kg'] at q
          rw [kd_t z, ← a2, List.length_cons]
          omega
        · rw [kn_f z] at kn1 kn2
          obtain ⟨a1, a2⟩ := ih g' lc' ph' r' S' hi' hW hg' (by omega) (fun j x y => hno j x (by omega)) kn1 kn2
          refine ⟨a1, ?_⟩
          rw [kd_f z, a2]
          exact (Nat.min_eq_right (low_le _ _)).symm
end
end
section
/-! histories, newest item first -/
def wk_fin (c : sc_T) : List wk_I → List wk_Fr
  | [] => []
  | i :: R => wk_st c (wk_fin c R) i
def wk_V (c : sc_T) : List wk_I → Prop
  | [] => True
  | i :: R => wk_ok c (wk_fin c R) i ∧ wk_V c R
def wk_rv : List wk_I → List wk_I → List wk_I
  | [], H => H
  | i :: B, H => wk_rv B (i :: H)
theorem rv_nil (H : List wk_I) : wk_rv [] H = H := rfl
theorem rv_cons (i : wk_I) (B H : List wk_I) : wk_rv (i :: B) H = wk_rv B (i :: H) := rfl
theorem rv_fin {c : sc_T} : ∀ (B H : List wk_I), wk_fin c (wk_rv B H) = wk_go c B (wk_fin c H)
  | [], _ => rfl
  | i :: B, H => rv_fin B (i :: H)
theorem rv_V {c : sc_T} : ∀ (B H : List wk_I), wk_V c (wk_rv B H) ↔ wk_V c H ∧ wk_W c B (wk_fin c H)
  | [], H => ⟨fun h => ⟨h, trivial⟩, fun h => h.1⟩
  | i :: B, H => by
    have e : wk_V c (wk_rv B (i :: H)) ↔ _ := rv_V B (i :: H)
    show wk_V c (wk_rv B (i :: H)) ↔ _
    rw [e]
    constructor
    · rintro ⟨⟨a, b⟩, d⟩
      exact ⟨b, a, d⟩
    · rintro ⟨a, b, d⟩
      exact ⟨⟨b, a⟩, d⟩
theorem rv_app : ∀ (B X H : List wk_I), wk_rv (B ++ X) H = wk_rv X (wk_rv B H)
  | [], _, _ => rfl
  | i :: B, X, H => rv_app B X (i :: H)
theorem rv_rev (R H : List wk_I) : wk_rv R.reverse H = R ++ H := by
  induction R generalizing H with
  | nil => rfl
  | cons i R ih =>
    rw [List.reverse_cons, rv_app, ih]
    rfl
theorem rv_all (R : List wk_I) : wk_rv R.reverse [] = R := by rw [rv_rev, List.append_nil]
theorem V_inv {c : sc_T} (h : sc_tr c) : ∀ (R : List wk_I), wk_V c R → wk_inv c (wk_fin c R)
  | [], _ => trivial
  | i :: R, hV => wk_is h (V_inv h R hV.2) hV.1
theorem V_app {c : sc_T} : ∀ (X R : List wk_I), wk_V c (X ++ R) → wk_V c R
  | [], _, h => h
  | _ :: X, R, h => V_app X R h.2
/-! counts -/
def wk_ct (p : wk_I → Bool) : List wk_I → Nat
  | [] => 0
  | i :: R => wk_ct p R + (if p i = true then 1 else 0)
theorem ct_rv (p : wk_I → Bool) : ∀ (B H : List wk_I), wk_ct p (wk_rv B H) = wk_ct p H + wk_ct p B
  | [], _ => rfl
  | i :: B, H => by
    show wk_ct p (wk_rv B (i :: H)) = _
    rw [ct_rv p B (i :: H)]
    show wk_ct p H + _ + _ = wk_ct p H + (wk_ct p B + _)
    omega
theorem ct_app (p : wk_I → Bool) : ∀ (X R : List wk_I), wk_ct p (X ++ R) = wk_ct p X + wk_ct p R
  | [], R => (Nat.zero_add _).symm
  | i :: X, R => by
    show wk_ct p (X ++ R) + _ = wk_ct p X + _ + wk_ct p R
    rw [ct_app p X R]
    omega
def wk_ev : List wk_I → Nat := wk_ct (fun i => decide (i.1 ≠ 0))
def wk_ce : List wk_I → Nat := wk_ct (fun i => decide (i.1 = 1 ∨ i.1 = 2))
def wk_re : List wk_I → Nat := wk_ct (fun i => decide (i.1 = 3 ∧ i.2.1 = 0))
def wk_en (l : Nat) : List wk_I → Nat := wk_ct (fun i => decide ((i.1 = 0 ∨ i.1 = 2) ∧ i.2.1 = l))
def wk_hn (n : Nat) : List wk_I → Nat := wk_ct (fun i => decide ((i.1 = 1 ∨ i.1 = 2) ∧ i.2.1 = n))
def wk_zc (l : Nat) : List wk_I → Nat := wk_ct (fun i => decide ((i.1 = 0 ∨ i.1 = 2) ∧ i.2.1 = l ∧ i.2.2.2.1 = 0))
section
variable {n l q d : Nat} {v : Int32} {R : List wk_I}
theorem ev_0 : wk_ev ((0, n, v, q, d) :: R) = wk_ev R := by simp [wk_ev, wk_ct]
theorem ev_1 : wk_ev ((1, n, v, q, d) :: R) = wk_ev R + 1 := by simp [wk_ev, wk_ct]
theorem ev_2 : wk_ev ((2, n, v, q, d) :: R) = wk_ev R + 1 := by simp [wk_ev, wk_ct]
theorem ev_3 : wk_ev ((3, n, v, q, d) :: R) = wk_ev R + 1 := by simp [wk_ev, wk_ct]
theorem ce_0 : wk_ce ((0, n, v, q, d) :: R) = wk_ce R := by simp [wk_ce, wk_ct]
theorem ce_1 : wk_ce ((1, n, v, q, d) :: R) = wk_ce R + 1 := by simp [wk_ce, wk_ct]
theorem ce_2 : wk_ce ((2, n, v, q, d) :: R) = wk_ce R + 1 := by simp [wk_ce, wk_ct]
theorem ce_3 : wk_ce ((3, n, v, q, d) :: R) = wk_ce R := by simp [wk_ce, wk_ct]
theorem re_0 : wk_re ((0, n, v, q, d) :: R) = wk_re R := by simp [wk_re, wk_ct]
theorem re_1 : wk_re ((1, n, v, q, d) :: R) = wk_re R := by simp [wk_re, wk_ct]
theorem re_2 : wk_re ((2, n, v, q, d) :: R) = wk_re R := by simp [wk_re, wk_ct]
theorem re_3 (hn : n ≠ 0) : wk_re ((3, n, v, q, d) :: R) = wk_re R := by simp [wk_re, wk_ct, hn]
theorem re_30 : wk_re ((3, 0, v, q, d) :: R) = wk_re R + 1 := by simp [wk_re, wk_ct]
theorem en_0 : wk_en l ((0, l, v, q, d) :: R) = wk_en l R + 1 := by simp [wk_en, wk_ct]
theorem en_2 : wk_en l ((2, l, v, q, d) :: R) = wk_en l R + 1 := by simp [wk_en, wk_ct]
theorem en_s0 (hn : n ≠ l) : wk_en l ((0, n, v, q, d) :: R) = wk_en l R := by simp [wk_en, wk_ct, hn]
theorem en_s2 (hn : n ≠ l) : wk_en l ((2, n, v, q, d) :: R) = wk_en l R := by simp [wk_en, wk_ct, hn]
theorem en_1 : wk_en l ((1, n, v, q, d) :: R) = wk_en l R := by simp [wk_en, wk_ct]
theorem en_3 : wk_en l ((3, n, v, q, d) :: R) = wk_en l R := by simp [wk_en, wk_ct]
theorem hn_0 : wk_hn l ((0, n, v, q, d) :: R) = wk_hn l R := by simp [wk_hn, wk_ct]
theorem hn_1 : wk_hn l ((1, l, v, q, d) :: R) = wk_hn l R + 1 := by simp [wk_hn, wk_ct]
theorem hn_2 : wk_hn l ((2, l, v, q, d) :: R) = wk_hn l R + 1 := by simp [wk_hn, wk_ct]
theorem hn_s1 (hn : n ≠ l) : wk_hn l ((1, n, v, q, d) :: R) = wk_hn l R := by simp [wk_hn, wk_ct, hn]
theorem hn_s2 (hn : n ≠ l) : wk_hn l ((2, n, v, q, d) :: R) = wk_hn l R := by simp [wk_hn, wk_ct, hn]
theorem hn_3 : wk_hn l ((3, n, v, q, d) :: R) = wk_hn l R := by simp [wk_hn, wk_ct]
theorem zc_0 : wk_zc l ((0, l, v, 0, d) :: R) = wk_zc l R + 1 := by simp [wk_zc, wk_ct]
theorem zc_2 : wk_zc l ((2, l, v, 0, d) :: R) = wk_zc l R + 1 := by simp [wk_zc, wk_ct]
theorem zc_q0 (hq : q ≠ 0) : wk_zc l ((0, n, v, q, d) :: R) = wk_zc l R := by simp [wk_zc, wk_ct, hq]
theorem zc_q2 (hq : q ≠ 0) : wk_zc l ((2, n, v, q, d) :: R) = wk_zc l R := by simp [wk_zc, wk_ct, hq]
theorem zc_s0 (hn : n ≠ l) : wk_zc l ((0, n, v, q, d) :: R) = wk_zc l R := by simp [wk_zc, wk_ct, hn]
theorem zc_s2 (hn : n ≠ l) : wk_zc l ((2, n, v, q, d) :: R) = wk_zc l R := by simp [wk_zc, wk_ct, hn]
theorem zc_1 : wk_zc l ((1, n, v, q, d) :: R) = wk_zc l R := by simp [wk_zc, wk_ct]
theorem zc_3 : wk_zc l ((3, n, v, q, d) :: R) = wk_zc l R := by simp [wk_zc, wk_ct]
end
theorem hn_ce (n : Nat) : ∀ R, wk_hn n R ≤ wk_ce R
  | [] => Nat.le_refl _
  | i :: R => by
    have a := hn_ce n R
    show wk_hn n R + _ ≤ wk_ce R + _
    by_cases z : i.1 = 1 ∨ i.1 = 2
    · simp only [z, decide_true, if_true]
      split <;> omega
    · simp only [z, false_and, decide_false]
      exact a
def wk_pn (l : Nat) : List wk_Fr → Nat
  | [] => 0
  | (_, _, ph, _) :: _ => if ph ≤ l then 1 else 0
def wk_pz (c : sc_T) (l : Nat) : List wk_Fr → Nat
  | [] => 0
  | (g, lc, ph, r) :: S => if ph ≤ l ∧ wk_PR c l ((g, lc, ph, r) :: S) = 0 then 1 else 0
def wk_ne : List wk_Fr → Nat
  | [] => 0
  | _ :: _ => 1
section
variable {c : sc_T}
theorem ct_1 : ∀ R, wk_V c R → wk_ev R + (wk_fin c R).length ≤ 2 * wk_ce R := by
  intro R
  induction R with
  | nil => intro _; exact Nat.le_refl _
  | cons i R ih =>
    intro hV
    have a := ih hV.2
    have hk := hV.1
    show _ + (wk_st c (wk_fin c R) i).length ≤ _
    generalize wk_fin c R = s at a hk
    cases s with
    | nil =>
      have e : i = (1, 0, 0, 0, 0) := hk
      subst e
      rw [ev_1, ce_1, st_b]
      simp only [List.length_cons, List.length_nil] at a ⊢
      omega
    | cons f S =>
      obtain ⟨g, lc, ph, r⟩ := f
      simp only [List.length_cons] at a
      rcases hk with ⟨rfl, hq⟩ | ⟨n, v, rfl, e0, h1, h2, h3, h4⟩ | ⟨n, v, rfl, e0, e1, e2, h1, h2, h3, h4⟩ | ⟨n, rfl, e0, h1, h2, h3, h4⟩ | ⟨n, rfl, e0, e1, e2, h1, h2, h3, h4⟩ | ⟨rfl, hq⟩
      · rw [st_0, ev_0, ce_0]; simp only [List.length_cons]; omega
      · rw [st_2, ev_2, ce_2]; simp only [List.length_cons]; omega
      · rw [st_2, ev_2, ce_2]; simp only [List.length_cons]; omega
      · rw [st_1, ev_1, ce_1]; simp only [List.length_cons]; omega
      · rw [st_1, ev_1, ce_1]; simp only [List.length_cons]; omega
      · rw [st_3, ev_3, ce_3]; omega
theorem ct_2 (h : sc_tr c) {l : Nat} (hl : sc_lf c l = 1) (l1 : 1 ≤ l) (l2 : l ≤ sc_F c) : ∀ R, wk_V c R → wk_en l R + wk_pn l (wk_fin c R) ≤ wk_ce R := by
  intro R
  induction R with
  | nil => intro _; exact Nat.le_refl _
  | cons i R ih =>
    intro hV
    have a := ih hV.2
    have hk := hV.1
    have hi := V_inv h R hV.2
    show _ + wk_pn l (wk_st c (wk_fin c R) i) ≤ _
    generalize wk_fin c R = s at a hk hi
    cases s with
    | nil =>
      have e : i = (1, 0, 0, 0, 0) := hk
      subst e
      rw [en_1, ce_1, st_b]
      simp only [wk_pn] at a ⊢
      split <;> omega
    | cons f S =>
      obtain ⟨g, lc, ph, r⟩ := f
      obtain ⟨⟨i1, i2, i3, i4, i5, i6, i7⟩, il, iS⟩ := hi
      simp only [wk_pn] at a
      rcases hk with ⟨rfl, hq⟩ | ⟨n, v, rfl, e0, h1, h2, h3, h4⟩ | ⟨n, v, rfl, e0, e1, e2, h1, h2, h3, h4⟩ | ⟨n, rfl, e0, h1, h2, h3, h4⟩ | ⟨n, rfl, e0, e1, e2, h1, h2, h3, h4⟩ | ⟨rfl, hq⟩
      · rw [st_0, ce_0]
        simp only [wk_pn]
        by_cases z : ph = l
        · subst z
          rw [en_0]
          rw [if_pos (Nat.le_refl _)] at a
          rw [if_neg (by omega)]
          omega
        · rw [en_s0 z]
          split at a <;> split <;> omega
      · rw [st_2, ce_2]
        simp only [wk_pn]
        have ll := tr_leaf h h2 h3
        by_cases z : n = l
        · subst z
          rw [en_2]
          split at a <;> split <;> omega
        · rw [en_s2 z]
          split at a <;> split <;> omega
      · rw [st_2, ce_2]
        simp only [wk_pn]
        have ll := tr_leaf h h2 h3
        by_cases z : n = l
        · subst z
          rw [en_2]
          split at a <;> split <;> omega
        · rw [en_s2 z]
          split at a <;> split <;> omega
      · rw [st_1, ce_1, en_1]
        simp only [wk_pn]
        split at a <;> split <;> omega
      · rw [st_1, ce_1, en_1]
        simp only [wk_pn]
        split at a <;> split <;> omega
      · rw [st_3, ce_3, en_3]
        cases S with
        | nil => simp only [wk_pn]; omega
        | cons f' S' =>
          obtain ⟨g', lc', ph', r'⟩ := f'
          obtain ⟨_, _, _, ep⟩ := il
          simp only [wk_pn]
          split at a <;> split <;> omega
theorem PR_t {l g lc ph r : Nat} {S : List wk_Fr} (h : l ≤ sc_lst c g) : wk_PR c l ((g, lc, ph, r) :: S) = r := if_pos h
theorem PR_f {l g lc ph r : Nat} {S : List wk_Fr} (h : ¬ l ≤ sc_lst c g) : wk_PR c l ((g, lc, ph, r) :: S) = wk_PR c l S := if_neg h
theorem pz_1 {l g lc ph r : Nat} {S : List wk_Fr} (h1 : ph ≤ l) (h2 : wk_PR c l ((g, lc, ph, r) :: S) = 0) : wk_pz c l ((g, lc, ph, r) :: S) = 1 := if_pos ⟨h1, h2⟩
theorem pz_0 {l g lc ph r : Nat} {S : List wk_Fr} (h : ¬ (ph ≤ l ∧ wk_PR c l ((g, lc, ph, r) :: S) = 0)) : wk_pz c l ((g, lc, ph, r) :: S) = 0 := if_neg h
theorem pz_e {l g lc ph r g' lc' ph' r' : Nat} {S S' : List wk_Fr} (h1 : ph ≤ l ↔ ph' ≤ l) (h2 : ph ≤ l → wk_PR c l ((g, lc, ph, r) :: S) = wk_PR c l ((g', lc', ph', r') :: S')) : wk_pz c l ((g, lc, ph, r) :: S) = wk_pz c l ((g', lc', ph', r') :: S') := by
  by_cases z : ph ≤ l
  · have e := h2 z
    by_cases w : wk_PR c l ((g, lc, ph, r) :: S) = 0
    · rw [pz_1 z w, pz_1 (h1.mp z) (e.symm.trans w)]
    · rw [pz_0 (fun q => w q.2), pz_0 (fun q => w (e.trans q.2))]
  · rw [pz_0 (fun q => z q.1), pz_0 (fun q => z (h1.mpr q.1))]
theorem ct_4 (h : sc_tr c) {l : Nat} (hl : sc_lf c l = 1) (l1 : 1 ≤ l) (l2 : l ≤ sc_F c) : ∀ R, wk_V c R → wk_zc l R + wk_pz c l (wk_fin c R) = wk_re R + wk_ne (wk_fin c R) := by
  intro R
  induction R with
  | nil => intro _; rfl
  | cons i R ih =>
    intro hV
    have a := ih hV.2
    have hk := hV.1
    have hi := V_inv h R hV.2
    show _ + wk_pz c l (wk_st c (wk_fin c R) i) = _ + wk_ne (wk_st c (wk_fin c R) i)
    generalize wk_fin c R = s at a hk hi
    cases s with
    | nil =>
      have e : i = (1, 0, 0, 0, 0) := hk
      subst e
      rw [zc_1, re_1, st_b, pz_1 l1 (by unfold wk_PR; split <;> rfl)]
      have a' : wk_zc l R + 0 = wk_re R + 0 := a
      show _ = _ + 1
      omega
    | cons f S =>
      obtain ⟨g, lc, ph, r⟩ := f
      obtain ⟨⟨i1, i2, i3, i4, i5, i6, i7⟩, il, iS⟩ := hi
      change _ = wk_re R + 1 at a
      rcases hk with ⟨rfl, hq⟩ | ⟨n, v, rfl, e0, h1, h2, h3, h4⟩ | ⟨n, v, rfl, e0, e1, e2, h1, h2, h3, h4⟩ | ⟨n, rfl, e0, h1, h2, h3, h4⟩ | ⟨n, rfl, e0, e1, e2, h1, h2, h3, h4⟩ | ⟨rfl, hq⟩
      · rw [st_0, re_0]
        show _ = _ + 1
        by_cases z : ph = l
        · subst z
          rw [pz_0 (fun q => by omega)]
          by_cases w : r = 0
          · subst w
            rw [zc_0]
            rw [pz_1 (Nat.le_refl _) (PR_t hq)] at a
            omega
          · rw [zc_q0 w]
            rw [pz_0 (fun x => w (by rw [PR_t hq] at x; exact x.2))] at a
            omega
        · rw [zc_s0 z, ← a, pz_e (g := g) (lc := lc) (ph := ph) (r := r) (g' := g) (lc' := lc) (ph' := ph + 1) (r' := r) (by omega) (fun _ => rfl)]
      · rw [st_2, re_2]
        show _ = _ + 1
        have ll := tr_leaf h h2 h3
        have cl := tr_chd h h1 h2
        rw [h4] at cl
        by_cases z : n = l
        · subst z
          rw [pz_0 (fun q => by omega)]
          by_cases w : r = 0
          · subst w
            rw [zc_2]
            rw [pz_1 (by omega) (PR_t cl)] at a
            omega
          · rw [zc_q2 w]
            rw [pz_0 (fun x => w (by rw [PR_t cl] at x; exact x.2))] at a
            omega
        · rw [zc_s2 z, ← a, pz_e (g := g) (lc := lc) (ph := ph) (r := r) (g' := g) (lc' := n) (ph' := sc_lst c n + 1) (r' := r) (by omega) (fun _ => rfl)]
      · rw [st_2, re_2]
        show _ = _ + 1
        have r2 := tr_rp2 h h1 h2 e2
        rw [zc_q2 (by omega), ← a, pz_e (g := g) (lc := lc) (ph := ph) (r := r) (g' := g) (lc' := n) (ph' := sc_lst c n + 1) (r' := r) (by omega) (fun _ => rfl)]
      · rw [st_1, re_1, zc_1]
        show _ = _ + 1
        have cl := tr_chl h h1 h2
        rw [h4] at cl
        have ne : n ≠ l := fun z => by rw [z, hl] at h3; omega
        rw [← a, pz_e (g := g) (lc := lc) (ph := ph) (r := r) (g' := n) (lc' := 0) (ph' := n + 1) (r' := r) (S := S) (S' := (g, n, sc_lst c n + 1, r) :: S) (by omega) (fun _ => by
          by_cases w : l ≤ sc_lst c n
          · rw [PR_t w, PR_t (by omega)]
          · rw [PR_f w]; rfl)]
      · rw [st_1, re_1, zc_1]
        show _ = _ + 1
        have r2 := tr_rp2 h h1 h2 e2
        have gn := tr_ge h h2
        by_cases w : l ≤ sc_lst c n
        · rw [pz_0 (fun q => by rw [PR_t w] at q; omega)]
          rw [pz_0 (fun q => by omega)] at a
          omega
        · rw [← a, pz_e (g := g) (lc := lc) (ph := ph) (r := r) (g' := n) (lc' := 0) (ph' := n + 1) (r' := sc_rp c n) (S := S) (S' := (g, n, sc_lst c n + 1, r) :: S) (by omega) (fun _ => by rw [PR_f w]; rfl)]
      · rw [st_3, zc_3]
        cases S with
        | nil =>
          obtain ⟨g0, r0⟩ := il
          subst g0
          have z := tr_l0 h
          rw [re_30]
          rw [pz_0 (fun q => by omega)] at a
          show _ + 0 = _ + 0
          omega
        | cons f' S' =>
          obtain ⟨g', lc', ph', r'⟩ := f'
          obtain ⟨k1, _, _, ep⟩ := il
          rw [re_3 (by omega)]
          show _ = _ + 1
          rw [← a, pz_e (g := g) (lc := lc) (ph := ph) (r := r) (g' := g') (lc' := lc') (ph' := ph') (r' := r') (by omega) (fun _ => by rw [PR_f (by omega)])]
end
end
section
/-! the log: what the reference keeps of a history -/
def wr_kc (i : wk_I) : Int32 := match i.1 with
  | 0 => 0
  | 1 => if i.2.1 = 0 then 1 else 2
  | 2 => 3
  | _ => if i.2.1 = 0 then 5 else 4
def wr_L (bk bf bv : Nat → Int32) : List wk_I → Prop
  | [] => True
  | i :: R => (i.1 ≠ 0 → bk (wk_ev R) = wr_kc i ∧ bf (wk_ev R) = im_f i.2.1 ∧ bv (wk_ev R) = i.2.2.1) ∧ wr_L bk bf bv R
theorem ev_cons (i : wk_I) (R : List wk_I) : wk_ev (i :: R) = wk_ev R + (if i.1 = 0 then 0 else 1) := by
  unfold wk_ev
  show wk_ct _ R + _ = _
  by_cases z : i.1 = 0 <;> simp [z]
theorem ev_z {i : wk_I} (R : List wk_I) (z : i.1 = 0) : wk_ev (i :: R) = wk_ev R := by rw [ev_cons, if_pos z]; rfl
theorem ev_nz {i : wk_I} (R : List wk_I) (z : i.1 ≠ 0) : wk_ev (i :: R) = wk_ev R + 1 := by rw [ev_cons, if_neg z]
theorem ev_rv (B H : List wk_I) : wk_ev (wk_rv B H) = wk_ev H + wk_ev B := ct_rv _ B H
theorem ev_app (X R : List wk_I) : wk_ev (X ++ R) = wk_ev X + wk_ev R := ct_app _ X R
theorem ev_le (B H : List wk_I) : wk_ev H ≤ wk_ev (wk_rv B H) := by rw [ev_rv]; omega
section
variable {bk bf bv bk' bf' bv' : Nat → Int32}
theorem L_app : ∀ (X R : List wk_I), wr_L bk bf bv (X ++ R) → wr_L bk bf bv R
  | [], _, h => h
  | _ :: X, R, h => L_app X R h.2
theorem L_rv : ∀ (B H : List wk_I), wr_L bk bf bv (wk_rv B H) → wr_L bk bf bv H
  | [], _, h => h
  | i :: B, H, h => (L_rv B (i :: H) h).2
theorem L_hd {i : wk_I} {B H : List wk_I} (h : wr_L bk bf bv (wk_rv (i :: B) H)) (z : i.1 ≠ 0) : bk (wk_ev H) = wr_kc i ∧ bf (wk_ev H) = im_f i.2.1 ∧ bv (wk_ev H) = i.2.2.1 := (L_rv B (i :: H) h).1 z
theorem L_keep : ∀ (R : List wk_I), (∀ j, j < wk_ev R → bk' j = bk j ∧ bf' j = bf j ∧ bv' j = bv j) → wr_L bk bf bv R → wr_L bk' bf' bv' R
  | [], _, _ => trivial
  | i :: R, h, hL => by
    have e := ev_cons i R
    refine ⟨fun z => ?_, L_keep R (fun j hj => h j (by omega)) hL.2⟩
    rw [if_neg z] at e
    obtain ⟨a, b, d⟩ := h (wk_ev R) (by omega)
    rw [a, b, d]
    exact hL.1 z
theorem L_put {R : List wk_I} {i : wk_I} (hL : wr_L bk bf bv R) {x y w : Int32} (h1 : x = wr_kc i) (h2 : y = im_f i.2.1) (h3 : w = i.2.2.1) : wr_L (upd bk (wk_ev R) x) (upd bf (wk_ev R) y) (upd bv (wk_ev R) w) (i :: R) := by
  refine ⟨fun _ => ⟨by rw [pk_us, h1], by rw [pk_us, h2], by rw [pk_us, h3]⟩, L_keep R (fun j hj => ⟨pk_un (by omega), pk_un (by omega), pk_un (by omega)⟩) hL⟩
theorem L_null {R : List wk_I} {i : wk_I} (z : i.1 = 0) (hL : wr_L bk bf bv R) : wr_L bk bf bv (i :: R) := ⟨fun q => absurd z q, hL⟩
end
/-- splitting a history after k events -/
theorem rv_split : ∀ (R : List wk_I) (k : Nat), k ≤ wk_ev R → ∃ B H, wk_rv B H = R ∧ wk_ev H = k := by
  intro R
  induction R with
  | nil => intro k h; exact ⟨[], [], rfl, by have : wk_ev [] = 0 := rfl; omega⟩
  | cons i R ih =>
    intro k h
    rcases Nat.lt_or_ge (wk_ev R) k with z | z
    · have e := ev_cons i R
      refine ⟨[], i :: R, rfl, ?_⟩
      split at e <;> omega
    · obtain ⟨B, H, a, b⟩ := ih k z
      refine ⟨B ++ [i], H, ?_, b⟩
      rw [rv_app, a]
      rfl
/-! the places in the log where the instances on the stack began -/
def wk_ix : List wk_I → List Nat
  | [] => []
  | i :: R => match i.1 with
    | 0 => wk_ix R
    | 1 => wk_ev R :: wk_ix R
    | 2 => wk_ix R
    | _ => (wk_ix R).tail
theorem ix_0 {n q d : Nat} {v : Int32} {R : List wk_I} : wk_ix ((0, n, v, q, d) :: R) = wk_ix R := rfl
theorem ix_1 {n q d : Nat} {v : Int32} {R : List wk_I} : wk_ix ((1, n, v, q, d) :: R) = wk_ev R :: wk_ix R := rfl
theorem ix_2 {n q d : Nat} {v : Int32} {R : List wk_I} : wk_ix ((2, n, v, q, d) :: R) = wk_ix R := rfl
theorem ix_3 {n q d : Nat} {v : Int32} {R : List wk_I} : wk_ix ((3, n, v, q, d) :: R) = (wk_ix R).tail := rfl
theorem ix_len {c : sc_T} : ∀ R, wk_V c R → (wk_ix R).length = (wk_fin c R).length := by
  intro R
  induction R with
  | nil => intro _; rfl
  | cons i R ih =>
    intro hV
    have a := ih hV.2
    have hk := hV.1
    show _ = (wk_st c (wk_fin c R) i).length
    generalize wk_fin c R = s at a hk
    cases s with
    | nil =>
      have e : i = (1, 0, 0, 0, 0) := hk
      subst e
      rw [ix_1, st_b, List.length_cons, a]
      rfl
    | cons f S =>
      obtain ⟨g, lc, ph, r⟩ := f
      simp only [List.length_cons] at a
      rcases hk with ⟨rfl, hq⟩ | ⟨n, v, rfl, e0, h1, h2, h3, h4⟩ | ⟨n, v, rfl, e0, e1, e2, h1, h2, h3, h4⟩ | ⟨n, rfl, e0, h1, h2, h3, h4⟩ | ⟨n, rfl, e0, e1, e2, h1, h2, h3, h4⟩ | ⟨rfl, hq⟩
      · rw [st_0, ix_0]; simp only [List.length_cons]; omega
      · rw [st_2, ix_2]; simp only [List.length_cons]; omega
      · rw [st_2, ix_2]; simp only [List.length_cons]; omega
      · rw [st_1, ix_1]; simp only [List.length_cons]; omega
      · rw [st_1, ix_1]; simp only [List.length_cons]; omega
      · rw [st_3, ix_3, List.length_tail]; omega
theorem ix_lt : ∀ (R : List wk_I) (k : Nat), k ∈ wk_ix R → k < wk_ev R := by
  intro R
  induction R with
  | nil => intro k h; exact absurd h List.not_mem_nil
  | cons i R ih =>
    intro k h
    have e := ev_cons i R
    obtain ⟨t, n, v, q, d⟩ := i
    match t, h, e with
    | 0, h, e => have := ih k h; rw [ev_0]; exact this
    | 1, h, e =>
      rw [ix_1] at h
      rw [ev_1]
      rcases List.mem_cons.mp h with z | z
      · omega
      · have := ih k z; omega
    | 2, h, e => have := ih k h; rw [ev_2]; omega
    | (t + 3), h, e =>
      have := ih k (List.mem_of_mem_tail h)
      rw [ev_nz R (by simp)]
      omega
/-- what the scan for the last child has found: the last child and the depth -/
def wk_lf (i : wk_I) (p : Nat × Int) : Nat × Int := match i.1 with
  | 0 => p
  | 1 => if i.2.1 = 0 then p else (if p.2 = 0 then i.2.1 else p.1, p.2 + 1)
  | 2 => (if p.2 = 0 then i.2.1 else p.1, p.2)
  | _ => if i.2.1 = 0 then p else (p.1, p.2 - 1)
def wk_ls (k : Nat) : List wk_I → Nat × Int
  | [] => (0, 0)
  | i :: R => if i.1 = 0 then wk_ls k R else if wk_ev R ≤ k then (0, 0) else wk_lf i (wk_ls k R)
theorem ls_z {k : Nat} {i : wk_I} {R : List wk_I} (z : i.1 = 0) : wk_ls k (i :: R) = wk_ls k R := by
  show (if i.1 = 0 then _ else _) = _
  rw [if_pos z]
theorem ls_b {k : Nat} {i : wk_I} {R : List wk_I} (z : i.1 ≠ 0) (h : wk_ev R ≤ k) : wk_ls k (i :: R) = (0, 0) := by
  show (if i.1 = 0 then _ else _) = _
  rw [if_neg z, if_pos h]
theorem ls_a {k : Nat} {i : wk_I} {R : List wk_I} (z : i.1 ≠ 0) (h : k < wk_ev R) : wk_ls k (i :: R) = wk_lf i (wk_ls k R) := by
  show (if i.1 = 0 then _ else _) = _
  rw [if_neg z, if_neg (by omega)]
theorem ls_0 {k : Nat} : ∀ (H : List wk_I), wk_ev H ≤ k + 1 → wk_ls k H = (0, 0)
  | [], _ => rfl
  | i :: H, h => by
    by_cases z : i.1 = 0
    · rw [ls_z z]
      exact ls_0 H (by rw [ev_z H z] at h; exact h)
    · rw [ev_nz H z] at h
      exact ls_b z (by omega)
theorem ls_bd {k : Nat} : ∀ (H : List wk_I), (wk_ls k H).2 ≤ wk_ev H ∧ -(wk_ev H : Int) ≤ (wk_ls k H).2
  | [] => ⟨Int.le_refl _, Int.le_refl _⟩
  | i :: H => by
    have ih := ls_bd (k := k) H
    by_cases z : i.1 = 0
    · rw [ls_z z, ev_z H z]; exact ih
    · rw [ev_nz H z]
      rcases Nat.lt_or_ge k (wk_ev H) with w | w
      · rw [ls_a z w]
        unfold wk_lf
        split
        · omega
        · split
          · omega
          · dsimp only; omega
        · dsimp only; omega
        · split
          · omega
          · dsimp only; omega
      · rw [ls_b z w]
        dsimp only; omega
theorem ls_fr {c : sc_T} (h : sc_tr c) : ∀ (R : List wk_I), wk_V c R → ∀ (j g lc ph r k : Nat), (wk_fin c R)[j]? = some (g, lc, ph, r) → (wk_ix R)[j]? = some k → wk_ls k R = (lc, (j : Int)) := by
  intro R
  induction R with
  | nil => intro _ j g lc ph r k h1; exact absurd h1 (by simp [wk_fin])
  | cons i R ih =>
    intro hV j g0 lc0 ph0 r0 k e1 e2
    have a := ih hV.2
    have hk := hV.1
    have lt := ix_lt R
    change (wk_st c (wk_fin c R) i)[j]? = _ at e1
    have li := ix_len R hV.2
    have hI := V_inv h R hV.2
    generalize wk_fin c R = s at a hk e1 li hI
    cases s with
    | nil =>
      have e : i = (1, 0, 0, 0, 0) := hk
      subst e
      rw [st_b] at e1
      rw [ix_1] at e2
      have ixe : wk_ix R = [] := List.eq_nil_of_length_eq_zero li
      rw [ixe] at e2
      cases j with
      | zero =>
        simp only [List.getElem?_cons_zero, Option.some.injEq] at e1 e2
        cases e1
        rw [ls_b (by simp) (by omega)]
        rfl
      | succ j => simp at e1
    | cons f S =>
      obtain ⟨g, lc, ph, r⟩ := f
      rcases hk with ⟨rfl, hq⟩ | ⟨n, v, rfl, x0, h1, h2, h3, h4⟩ | ⟨n, v, rfl, x0, x1, x2, h1, h2, h3, h4⟩ | ⟨n, rfl, x0, h1, h2, h3, h4⟩ | ⟨n, rfl, x0, x1, x2, h1, h2, h3, h4⟩ | ⟨rfl, hq⟩
      · rw [st_0] at e1
        rw [ix_0] at e2
        rw [ls_z rfl]
        cases j with
        | zero =>
          simp only [List.getElem?_cons_zero, Option.some.injEq] at e1
          cases e1
          exact a 0 _ _ _ _ k rfl e2
        | succ j => exact a (j + 1) g0 lc0 ph0 r0 k e1 e2
      · rw [st_2] at e1
        rw [ix_2] at e2
        have kl := lt k (List.mem_of_getElem? e2)
        rw [ls_a (by simp) kl]
        cases j with
        | zero =>
          simp only [List.getElem?_cons_zero, Option.some.injEq] at e1
          cases e1
          rw [a 0 _ _ _ _ k rfl e2]
          simp [wk_lf]
        | succ j =>
          rw [a (j + 1) g0 lc0 ph0 r0 k e1 e2]
          have nz : ((j + 1 : Nat) : Int) ≠ 0 := by omega
          simp only [wk_lf, if_neg nz]
      · rw [st_2] at e1
        rw [ix_2] at e2
        have kl := lt k (List.mem_of_getElem? e2)
        rw [ls_a (by simp) kl]
        cases j with
        | zero =>
          simp only [List.getElem?_cons_zero, Option.some.injEq] at e1
          cases e1
          rw [a 0 _ _ _ _ k rfl e2]
          simp [wk_lf]
        | succ j =>
          rw [a (j + 1) g0 lc0 ph0 r0 k e1 e2]
          have nz : ((j + 1 : Nat) : Int) ≠ 0 := by omega
          simp only [wk_lf, if_neg nz]
      all_goals try (
        rw [st_1] at e1
        rw [ix_1] at e2
        have nz0 : n ≠ 0 := by omega
        cases j with
        | zero =>
          simp only [List.getElem?_cons_zero, Option.some.injEq] at e1 e2
          cases e1
          rw [ls_b (by simp) (by omega)]
          rfl
        | succ j =>
          simp only [List.getElem?_cons_succ] at e1 e2
          have kl := lt k (List.mem_of_getElem? e2)
          rw [ls_a (by simp) kl]
          cases j with
          | zero =>
            simp only [List.getElem?_cons_zero, Option.some.injEq] at e1
            cases e1
            rw [a 0 _ _ _ _ k rfl e2]
            simp [wk_lf, nz0]
          | succ j =>
            rw [a (j + 1) g0 lc0 ph0 r0 k e1 e2]
            have nz : ((j + 1 : Nat) : Int) ≠ 0 := by omega
            simp only [wk_lf, if_neg nz, if_neg nz0]
            congr 1)
      · rw [st_3] at e1
        rw [ix_3, List.getElem?_tail] at e2
        have kl := lt k (List.mem_of_getElem? e2)
        rw [ls_a (by simp) kl, a (j + 1) g0 lc0 ph0 r0 k e1 e2]
        have g0n : g ≠ 0 := by
          cases S with
          | nil => simp at e1
          | cons f' S' =>
            obtain ⟨g', lc', ph', r'⟩ := f'
            have := hI.2.1.1
            omega
        simp only [wk_lf, if_neg g0n]
        congr 1
        omega
theorem ix_log {c : sc_T} {bk bf bv : Nat → Int32} : ∀ (R : List wk_I), wk_V c R → wr_L bk bf bv R → ∀ (j g lc ph r k : Nat), (wk_fin c R)[j]? = some (g, lc, ph, r) → (wk_ix R)[j]? = some k → bf k = im_f g ∧ bk k = if g = 0 then 1 else 2 := by
  intro R
  induction R with
  | nil => intro _ _ j g lc ph r k h1; exact absurd h1 (by simp [wk_fin])
  | cons i R ih =>
    intro hV hL j g0 lc0 ph0 r0 k e1 e2
    have a := ih hV.2 hL.2
    have hk := hV.1
    have hL1 := hL.1
    change (wk_st c (wk_fin c R) i)[j]? = _ at e1
    generalize wk_fin c R = s at a hk e1
    cases s with
    | nil =>
      have e : i = (1, 0, 0, 0, 0) := hk
      subst e
      rw [st_b] at e1
      rw [ix_1] at e2
      cases j with
      | zero =>
        simp only [List.getElem?_cons_zero, Option.some.injEq] at e1 e2
        cases e1
        have q := hL1 (by simp)
        rw [← e2]
        exact ⟨q.2.1, q.1⟩
      | succ j => simp at e1
    | cons f S =>
      obtain ⟨g, lc, ph, r⟩ := f
      rcases hk with ⟨rfl, hq⟩ | ⟨n, v, rfl, x0, h1, h2, h3, h4⟩ | ⟨n, v, rfl, x0, x1, x2, h1, h2, h3, h4⟩ | ⟨n, rfl, x0, h1, h2, h3, h4⟩ | ⟨n, rfl, x0, x1, x2, h1, h2, h3, h4⟩ | ⟨rfl, hq⟩
      · rw [st_0] at e1
        rw [ix_0] at e2
        cases j with
        | zero =>
          simp only [List.getElem?_cons_zero, Option.some.injEq] at e1
          cases e1
          exact a 0 _ _ _ _ k rfl e2
        | succ j => exact a (j + 1) g0 lc0 ph0 r0 k e1 e2
      · rw [st_2] at e1
        rw [ix_2] at e2
        cases j with
        | zero =>
          simp only [List.getElem?_cons_zero, Option.some.injEq] at e1
          cases e1
          exact a 0 _ _ _ _ k rfl e2
        | succ j => exact a (j + 1) g0 lc0 ph0 r0 k e1 e2
      · rw [st_2] at e1
        rw [ix_2] at e2
        cases j with
        | zero =>
          simp only [List.getElem?_cons_zero, Option.some.injEq] at e1
          cases e1
          exact a 0 _ _ _ _ k rfl e2
        | succ j => exact a (j + 1) g0 lc0 ph0 r0 k e1 e2
      · rw [st_1] at e1
        rw [ix_1] at e2
        cases j with
        | zero =>
          simp only [List.getElem?_cons_zero, Option.some.injEq] at e1 e2
          cases e1
          have q := hL1 (by simp)
          rw [← e2]
          exact ⟨q.2.1, q.1⟩
        | succ j =>
          simp only [List.getElem?_cons_succ] at e1 e2
          cases j with
          | zero =>
            simp only [List.getElem?_cons_zero, Option.some.injEq] at e1
            cases e1
            exact a 0 _ _ _ _ k rfl e2
          | succ j => exact a (j + 1) g0 lc0 ph0 r0 k e1 e2
      · rw [st_1] at e1
        rw [ix_1] at e2
        cases j with
        | zero =>
          simp only [List.getElem?_cons_zero, Option.some.injEq] at e1 e2
          cases e1
          have q := hL1 (by simp)
          rw [← e2]
          exact ⟨q.2.1, q.1⟩
        | succ j =>
          simp only [List.getElem?_cons_succ] at e1 e2
          cases j with
          | zero =>
            simp only [List.getElem?_cons_zero, Option.some.injEq] at e1
            cases e1
            exact a 0 _ _ _ _ k rfl e2
          | succ j => exact a (j + 1) g0 lc0 ph0 r0 k e1 e2
      · rw [st_3] at e1
        rw [ix_3, List.getElem?_tail] at e2
        exact a (j + 1) g0 lc0 ph0 r0 k e1 e2
/-! the place of the last record's start; the place behind the record with number k -/
def wk_lr : List wk_I → Nat
  | [] => 0
  | i :: R => if i.1 = 1 ∧ i.2.1 = 0 then wk_ev R else wk_lr R
def wk_ps (k : Nat) : List wk_I → Nat
  | [] => 0
  | i :: R => if (i.1 = 3 ∧ i.2.1 = 0) ∧ wk_re R + 1 = k then wk_ev R + 1 else wk_ps k R
theorem re_cons (i : wk_I) (R : List wk_I) : wk_re (i :: R) = wk_re R + (if i.1 = 3 ∧ i.2.1 = 0 then 1 else 0) := by
  unfold wk_re
  show wk_ct _ R + _ = _
  by_cases z : i.1 = 3 ∧ i.2.1 = 0 <;> simp [z]
theorem fin_e {c : sc_T} (h : sc_tr c) {i : wk_I} {R : List wk_I} (hV : wk_V c (i :: R)) (z : i.1 = 3 ∧ i.2.1 = 0) : wk_fin c (i :: R) = [] := by
  have hk := hV.1
  have hI := V_inv h R hV.2
  show wk_st c (wk_fin c R) i = []
  generalize wk_fin c R = s at hk hI
  cases s with
  | nil =>
    have e : i = (1, 0, 0, 0, 0) := hk
    rw [e] at z
    exact absurd z.1 (by decide)
  | cons f S =>
    obtain ⟨g, lc, ph, r⟩ := f
    obtain ⟨z1, z2⟩ := z
    rcases hk with ⟨rfl, hq⟩ | ⟨n, v, rfl, x0, h1, h2, h3, h4⟩ | ⟨n, v, rfl, x0, x1, x2, h1, h2, h3, h4⟩ | ⟨n, rfl, x0, h1, h2, h3, h4⟩ | ⟨n, rfl, x0, x1, x2, h1, h2, h3, h4⟩ | ⟨rfl, hq⟩
    · exact absurd z1 (by simp)
    · exact absurd z1 (by simp)
    · exact absurd z1 (by simp)
    · exact absurd z1 (by simp)
    · exact absurd z1 (by simp)
    · rw [st_3]
      cases S with
      | nil => rfl
      | cons f' S' =>
        obtain ⟨g', lc', ph', r'⟩ := f'
        have := hI.2.1.1
        have z2' : g = 0 := z2
        omega
theorem ps_H {c : sc_T} (h : sc_tr c) {k : Nat} : ∀ (R : List wk_I), wk_V c R → k ≤ wk_re R → ∃ B H, wk_rv B H = R ∧ wk_re H = k ∧ wk_ev H = wk_ps k R ∧ wk_fin c H = [] := by
  intro R
  induction R with
  | nil => intro _ hk; exact ⟨[], [], rfl, by have : wk_re [] = 0 := rfl; omega, rfl, rfl⟩
  | cons i R ih =>
    intro hV hk
    have e := re_cons i R
    by_cases z : (i.1 = 3 ∧ i.2.1 = 0) ∧ wk_re R + 1 = k
    · refine ⟨[], i :: R, rfl, ?_, ?_, fin_e h hV z.1⟩
      · rw [e, if_pos z.1]; exact z.2
      · show _ = if _ then _ else _
        rw [if_pos z, ev_nz R (by rw [z.1.1]; decide)]
    · have le : k ≤ wk_re R := by
        by_cases w : i.1 = 3 ∧ i.2.1 = 0
        · rw [if_pos w] at e
          have : wk_re R + 1 ≠ k := fun q => z ⟨w, q⟩
          omega
        · rw [if_neg w] at e
          omega
      obtain ⟨B, H, a1, a2, a3, a4⟩ := ih hV.2 le
      refine ⟨B ++ [i], H, ?_, a2, ?_, a4⟩
      · rw [rv_app, a1]; rfl
      · rw [a3]
        show _ = if _ then _ else _
        rw [if_neg z]
theorem ps_app {k : Nat} : ∀ (X R : List wk_I), wk_re (X ++ R) = wk_re R → wk_ps k (X ++ R) = wk_ps k R
  | [], _, _ => rfl
  | i :: X, R, h => by
    have e := re_cons i (X ++ R)
    have a : wk_re (X ++ R) = wk_re X + wk_re R := ct_app _ X R
    have h' : wk_re (i :: (X ++ R)) = wk_re R := h
    by_cases w : i.1 = 3 ∧ i.2.1 = 0
    · rw [if_pos w] at e
      omega
    · show (if _ then _ else _) = _
      rw [if_neg (fun q => w q.1)]
      rw [if_neg w] at e
      exact ps_app X R (by omega)
end
section
/-! the reference's scans of its log -/
def wk_ck (x : Int32) : List wk_I → Nat := wk_ct (fun i => decide (i.1 ≠ 0 ∧ wr_kc i = x))
section
variable {x : Int32} {i : wk_I} {H : List wk_I}
theorem ck_z (z : i.1 = 0) : wk_ck x (i :: H) = wk_ck x H := by
  show wk_ck x H + _ = _
  simp [z]
theorem ck_t (z : i.1 ≠ 0) (e : wr_kc i = x) : wk_ck x (i :: H) = wk_ck x H + 1 := by
  show wk_ck x H + _ = _
  simp [z, e]
theorem ck_f (e : ¬ wr_kc i = x) : wk_ck x (i :: H) = wk_ck x H := by
  show wk_ck x H + _ = _
  simp [e]
end
theorem ck_le (x : Int32) : ∀ R, wk_ck x R ≤ wk_ev R
  | [] => Nat.le_refl _
  | i :: R => by
    have a := ck_le x R
    by_cases z : i.1 = 0
    · rw [ck_z z, ev_z R z]; exact a
    · rw [ev_nz R z]
      by_cases w : wr_kc i = x
      · rw [ck_t z w]; omega
      · rw [ck_f w]; omega
theorem ck_5 : ∀ R : List wk_I, (∀ i ∈ R, i.1 ≤ 3) → wk_ck 5 R = wk_re R
  | [], _ => rfl
  | (t, n, v, q, d) :: R, h => by
    have a := ck_5 R (fun i hi => h i (List.mem_cons_of_mem _ hi))
    have ht : t ≤ 3 := h _ List.mem_cons_self
    match t, ht with
    | 0, _ => rw [ck_z rfl, re_0, a]
    | 1, _ =>
      rw [re_1, ck_f, a]
      show ¬ (if n = 0 then (1 : Int32) else 2) = 5
      split <;> decide
    | 2, _ => rw [re_2, ck_f (i := (2, n, v, q, d)) (show ¬ (3 : Int32) = 5 by decide), a]
    | 3, _ =>
      by_cases z : n = 0
      · subst z
        rw [re_30, ck_t (x := 5) (i := (3, 0, v, q, d)) (by simp) rfl, a]
      · rw [re_3 z, ck_f, a]
        show ¬ (if n = 0 then (5 : Int32) else 4) = 5
        rw [if_neg z]
        decide
theorem ck_123 : ∀ R : List wk_I, (∀ i ∈ R, i.1 ≤ 3) → wk_ck 1 R + wk_ck 2 R + wk_ck 3 R = wk_ce R
  | [], _ => rfl
  | (t, n, v, q, d) :: R, h => by
    have a := ck_123 R (fun i hi => h i (List.mem_cons_of_mem _ hi))
    have ht : t ≤ 3 := h _ List.mem_cons_self
    match t, ht with
    | 0, _ => rw [ck_z rfl, ck_z rfl, ck_z rfl, ce_0, a]
    | 1, _ =>
      rw [ce_1]
      by_cases z : n = 0
      · subst z
        rw [ck_t (x := 1) (i := (1, 0, v, q, d)) (by simp) rfl, ck_f (x := 2) (i := (1, 0, v, q, d)) (show ¬ (1 : Int32) = 2 by decide), ck_f (x := 3) (i := (1, 0, v, q, d)) (show ¬ (1 : Int32) = 3 by decide)]
        omega
      · have e : wr_kc (1, n, v, q, d) = 2 := if_neg z
        rw [ck_f (x := 1) (by rw [e]; decide), ck_t (x := 2) (by simp) e, ck_f (x := 3) (by rw [e]; decide)]
        omega
    | 2, _ =>
      rw [ce_2, ck_f (x := 1) (i := (2, n, v, q, d)) (show ¬ (3 : Int32) = 1 by decide), ck_f (x := 2) (i := (2, n, v, q, d)) (show ¬ (3 : Int32) = 2 by decide), ck_t (x := 3) (i := (2, n, v, q, d)) (by simp) rfl]
      omega
    | 3, _ =>
      rw [ce_3]
      have e : wr_kc (3, n, v, q, d) = 5 ∨ wr_kc (3, n, v, q, d) = 4 := by
        show (if n = 0 then (5 : Int32) else 4) = 5 ∨ (if n = 0 then (5 : Int32) else 4) = 4
        split
        · exact Or.inl rfl
        · exact Or.inr rfl
      rw [ck_f (x := 1), ck_f (x := 2), ck_f (x := 3), a]
      · rcases e with e | e <;> rw [e] <;> decide
      · rcases e with e | e <;> rw [e] <;> decide
      · rcases e with e | e <;> rw [e] <;> decide
theorem V_tag {c : sc_T} : ∀ R, wk_V c R → ∀ i ∈ R, i.1 ≤ 3 := by
  intro R
  induction R with
  | nil => intro _ i hi; exact absurd hi List.not_mem_nil
  | cons i R ih =>
    intro hV j hj
    rcases List.mem_cons.mp hj with e | e
    · subst e
      have hk := hV.1
      generalize wk_fin c R = s at hk
      cases s with
      | nil =>
        have e : j = (1, 0, 0, 0, 0) := hk
        rw [e]; decide
      | cons f S =>
        obtain ⟨g, lc, ph, r⟩ := f
        rcases hk with ⟨rfl, hq⟩ | ⟨n, v, rfl, x0, h1, h2, h3, h4⟩ | ⟨n, v, rfl, x0, x1, x2, h1, h2, h3, h4⟩ | ⟨n, rfl, x0, h1, h2, h3, h4⟩ | ⟨n, rfl, x0, x1, x2, h1, h2, h3, h4⟩ | ⟨rfl, hq⟩ <;> simp
    · exact ih hV.2 j e
theorem io_a (d : Int) : Int32.ofInt d + 1 = Int32.ofInt (d + 1) := by rw [Int32.ofInt_add]; rfl
theorem io_m (d : Int) : Int32.ofInt d + (-1) = Int32.ofInt (d - 1) := by rw [Int.sub_eq_add_neg, Int32.ofInt_add]; rfl
theorem io_0 {d : Int} (h1 : d ≤ 1000) (h2 : -1000 ≤ d) : Int32.ofInt d = 0 ↔ d = 0 := by
  rw [← Int32.toInt_inj, Int32.toInt_ofInt_of_le (by simp; omega) (by simp; omega), show (0 : Int32).toInt = 0 from by decide]
section
variable {g_maxFields g_maxLeaves g_maxDepth g_maxCells g_fields g_filling g_schemaDone g_size g_reading g_chosen g_pos g_eventField g_eventValue : Int32} {b_parents b_labels b_leafBits b_kinds b_logFields b_logValues : Nat → Int32}
theorem yk_5 {post : Int32 → Prop} {x1 : Int32} : ∀ (B H : List wk_I), wr_L b_kinds b_logFields b_logValues (wk_rv B H) → wk_ev (wk_rv B H) ≤ 64 → post (nI (wk_ck x1 (wk_rv B H))) → ∀ n, B.length < n → wY_countKind_5 post x1 (nI (wk_ev (wk_rv B H))) g_maxFields g_maxLeaves g_maxDepth g_maxCells g_fields g_filling g_schemaDone g_size g_reading g_chosen g_pos g_eventField g_eventValue b_parents b_labels b_leafBits b_kinds b_logFields b_logValues n (nI (wk_ck x1 H)) (nI (wk_ev H)) := by
  intro B
  induction B with
  | nil =>
    intro H hL he hp n hn
    obtain ⟨m, rfl⟩ : ∃ m, n = m + 1 := ⟨n - 1, by omega⟩
    exact br_t (nI_le (Nat.le_refl _) (by have : wk_rv [] H = H := rfl; rw [this] at he; omega)) hp
  | cons i B ih =>
    intro H hL he hp n hn
    simp only [List.length_cons] at hn
    have he' : wk_ev (wk_rv B (i :: H)) ≤ 64 := he
    have hI := ih (i :: H) hL he hp
    by_cases z : i.1 = 0
    · have := hI n (by omega)
      rw [ev_z H z, ck_z z] at this
      exact this
    · obtain ⟨m, rfl⟩ : ∃ m, n = m + 1 := ⟨n - 1, by omega⟩
      have hd := L_hd hL z
      have lt : wk_ev H < wk_ev (wk_rv (i :: B) H) := by
        have := ev_le B (i :: H)
        rw [ev_nz H z] at this
        exact this
      have hin : vp_in (nI (wk_ev H)) 64 := vp_in_nI (by omega) (by omega)
      have e : b_kinds (nI (wk_ev H)).toNatClampNeg = wr_kc i := by rw [nI_clamp (by omega)]; exact hd.1
      refine br_f (nI_ge lt (by omega)) (br_f (nI_ge (b := 64) (by omega) (by decide)) ⟨hin, ?_⟩)
      have hm := hI m (by omega)
      by_cases w : wr_kc i = x1
      · refine br_t (e.trans w) (nm_r (nI_1 _) (nm_r (nI_1 _) ?_))
        rw [ev_nz H z, ck_t z w] at hm
        exact hm
      · refine br_f (fun q => w (e.symm.trans q)) (nm_r (nI_1 _) ?_)
        rw [ev_nz H z, ck_f w] at hm
        exact hm
theorem yk_K {post : Int32 → Prop} {x1 : Int32} {R : List wk_I} (hL : wr_L b_kinds b_logFields b_logValues R) (he : wk_ev R ≤ 64) (hp : post (nI (wk_ck x1 R))) : wpY_countKind post (g_maxFields, g_maxLeaves, g_maxDepth, g_maxCells, g_fields, g_filling, g_schemaDone, g_size, g_reading, g_chosen, g_pos, g_eventField, g_eventValue, b_parents, b_labels, b_leafBits, b_kinds, b_logFields, b_logValues) x1 (nI (wk_ev R)) := by
  refine ⟨R.reverse.length + 1, ?_⟩
  have a := yk_5 (post := post) (x1 := x1) (g_maxFields := g_maxFields) (g_maxLeaves := g_maxLeaves) (g_maxDepth := g_maxDepth) (g_maxCells := g_maxCells) (g_fields := g_fields) (g_filling := g_filling) (g_schemaDone := g_schemaDone) (g_size := g_size) (g_reading := g_reading) (g_chosen := g_chosen) (g_pos := g_pos) (g_eventField := g_eventField) (g_eventValue := g_eventValue) (b_parents := b_parents) (b_labels := b_labels) (b_leafBits := b_leafBits) (b_kinds := b_kinds) (b_logFields := b_logFields) (b_logValues := b_logValues) R.reverse [] (by rw [rv_all]; exact hL) (by rw [rv_all]; exact he) (by rw [rv_all]; exact hp) _ (Nat.lt_succ_self _)
  rw [rv_all] at a
  exact a
def wk_yc (R : List wk_I) (cl : Nat) : Int32 := match (wk_ix R)[cl]? with
  | some k => nI k
  | none => -1
theorem yk_9 {post : Int32 → Prop} : ∀ (R : List wk_I) (cl : Nat), wr_L b_kinds b_logFields b_logValues R → wk_ev R ≤ 64 → cl + wk_ev R ≤ 1000 → post (wk_yc R cl) → ∀ n, R.length < n → wY_current_9 post g_maxFields g_maxLeaves g_maxDepth g_maxCells g_fields g_filling g_schemaDone g_size g_reading g_chosen g_pos g_eventField g_eventValue b_parents b_labels b_leafBits b_kinds b_logFields b_logValues n (nI cl) (im_f (wk_ev R)) := by
  intro R
  induction R with
  | nil =>
    intro cl hL he hc hp n hn
    obtain ⟨m, rfl⟩ : ∃ m, n = m + 1 := ⟨n - 1, by omega⟩
    exact br_t (show (-1 : Int32) < 0 by decide) hp
  | cons i R ih =>
    obtain ⟨t, n0, v, q, d⟩ := i
    intro cl hL he hc hp n hn
    simp only [List.length_cons] at hn
    match t, hL, he, hc, hp with
    | 0, hL, he, hc, hp =>
      rw [ev_0] at he hc ⊢
      exact ih cl hL.2 he hc hp n (by omega)
    | 1, hL, he, hc, hp =>
      obtain ⟨m, rfl⟩ : ∃ m, n = m + 1 := ⟨n - 1, by omega⟩
      rw [ev_1] at he hc
      rw [ev_1, im_s]
      have hd := (hL.1 (by simp)).1
      have hin : vp_in (nI (wk_ev R)) 64 := vp_in_nI (by omega) (by omega)
      have e : b_kinds (nI (wk_ev R)).toNatClampNeg = if n0 = 0 then 1 else 2 := by rw [nI_clamp (by omega)]; exact hd
      have last : wY_current_56 post (wY_current_9 post g_maxFields g_maxLeaves g_maxDepth g_maxCells g_fields g_filling g_schemaDone g_size g_reading g_chosen g_pos g_eventField g_eventValue b_parents b_labels b_leafBits b_kinds b_logFields b_logValues m) (nI cl) (nI (wk_ev R)) g_maxFields g_maxLeaves g_maxDepth g_maxCells g_fields g_filling g_schemaDone g_size g_reading g_chosen g_pos g_eventField g_eventValue b_parents b_labels b_leafBits b_kinds b_logFields b_logValues := by
        cases cl with
        | zero => exact br_t rfl hp
        | succ k =>
          refine br_f (nI_ne0 (by omega) (by omega)) (nm_r (pk_m1 k) (nm_r (im_nm1 _) ?_))
          exact ih k hL.2 (by omega) (by omega) hp m (by omega)
      refine br_f (nI_pos (by omega)) ⟨hin, br_f (by rw [e]; split <;> decide) ⟨hin, br_f (by rw [e]; split <;> decide) ?_⟩⟩
      by_cases z : n0 = 0
      · rw [if_pos z] at e
        exact And.intro hin (br_f (by rw [e]; decide) ⟨hin, br_t e last⟩)
      · rw [if_neg z] at e
        exact And.intro hin (br_t e last)
    | 2, hL, he, hc, hp =>
      obtain ⟨m, rfl⟩ : ∃ m, n = m + 1 := ⟨n - 1, by omega⟩
      rw [ev_2] at he hc
      rw [ev_2, im_s]
      have hd := (hL.1 (by simp)).1
      have hin : vp_in (nI (wk_ev R)) 64 := vp_in_nI (by omega) (by omega)
      have e : b_kinds (nI (wk_ev R)).toNatClampNeg = 3 := by rw [nI_clamp (by omega)]; exact hd
      refine br_f (nI_pos (by omega)) ⟨hin, br_f (by rw [e]; decide) ⟨hin, br_f (by rw [e]; decide) (And.intro hin (br_f (by rw [e]; decide) ⟨hin, br_f (by rw [e]; decide) (nm_r (im_nm1 _) ?_)⟩))⟩⟩
      exact ih cl hL.2 (by omega) (by omega) hp m (by omega)
    | (t + 3), hL, he, hc, hp =>
      obtain ⟨m, rfl⟩ : ∃ m, n = m + 1 := ⟨n - 1, by omega⟩
      rw [ev_nz R (by simp)] at he hc
      rw [ev_nz R (by simp), im_s]
      have hd := (hL.1 (by simp)).1
      have hin : vp_in (nI (wk_ev R)) 64 := vp_in_nI (by omega) (by omega)
      have e : b_kinds (nI (wk_ev R)).toNatClampNeg = if n0 = 0 then 5 else 4 := by rw [nI_clamp (by omega)]; exact hd
      have hp' : post (wk_yc R (cl + 1)) := by
        have : wk_yc R (cl + 1) = wk_yc ((t + 3, n0, v, q, d) :: R) cl := by
          show (match (wk_ix R)[cl + 1]? with | some k => nI k | none => -1) = (match (wk_ix R).tail[cl]? with | some k => nI k | none => -1)
          rw [List.getElem?_tail]
        rw [this]; exact hp
      have go : wY_current_33 post (wY_current_9 post g_maxFields g_maxLeaves g_maxDepth g_maxCells g_fields g_filling g_schemaDone g_size g_reading g_chosen g_pos g_eventField g_eventValue b_parents b_labels b_leafBits b_kinds b_logFields b_logValues m) (nI cl) (nI (wk_ev R)) g_maxFields g_maxLeaves g_maxDepth g_maxCells g_fields g_filling g_schemaDone g_size g_reading g_chosen g_pos g_eventField g_eventValue b_parents b_labels b_leafBits b_kinds b_logFields b_logValues := by
        refine nm_r (nI_1 _) (And.intro hin (br_f (by rw [e]; split <;> decide) ⟨hin, br_f (by rw [e]; split <;> decide) (nm_r (im_nm1 _) ?_)⟩))
        exact ih (cl + 1) hL.2 (by omega) (by omega) hp' m (by omega)
      refine br_f (nI_pos (by omega)) ⟨hin, ?_⟩
      by_cases z : n0 = 0
      · rw [if_pos z] at e
        exact br_f (by rw [e]; decide) ⟨hin, br_t e go⟩
      · rw [if_neg z] at e
        exact br_t e go
theorem yk_C {post : Int32 → Prop} {R : List wk_I} (hL : wr_L b_kinds b_logFields b_logValues R) (he : wk_ev R ≤ 64) (hs : g_size = nI (wk_ev R)) (hp : post (wk_yc R 0)) : wpY_current post (g_maxFields, g_maxLeaves, g_maxDepth, g_maxCells, g_fields, g_filling, g_schemaDone, g_size, g_reading, g_chosen, g_pos, g_eventField, g_eventValue, b_parents, b_labels, b_leafBits, b_kinds, b_logFields, b_logValues) := by
  refine nm_r (e' := im_f (wk_ev R)) (by rw [hs]; exact im_n1 _) ⟨R.length + 1, ?_⟩
  exact yk_9 R 0 hL he (by omega) hp _ (Nat.lt_succ_self _)
theorem yk_15 {post : Int32 → Prop} {k : Nat} : ∀ (B H : List wk_I), wr_L b_kinds b_logFields b_logValues (wk_rv B H) → k < wk_ev H → wk_ev (wk_rv B H) ≤ 64 → g_size = nI (wk_ev (wk_rv B H)) → post (im_f (wk_ls k (wk_rv B H)).1) → ∀ n, B.length < n → wY_lastChild_15 post g_maxFields g_maxLeaves g_maxDepth g_maxCells g_fields g_filling g_schemaDone g_size g_reading g_chosen g_pos g_eventField g_eventValue b_parents b_labels b_leafBits b_kinds b_logFields b_logValues n (im_f (wk_ls k H).1) (Int32.ofInt (wk_ls k H).2) (nI (wk_ev H)) := by
  intro B
  induction B with
  | nil =>
    intro H hL hk he hs hp n hn
    obtain ⟨m, rfl⟩ : ∃ m, n = m + 1 := ⟨n - 1, by omega⟩
    have he' : wk_ev H ≤ 64 := he
    exact br_t (by rw [hs]; exact nI_le (Nat.le_refl _) (by omega)) hp
  | cons i B ih =>
    intro H hL hk he hs hp n hn
    simp only [List.length_cons] at hn
    have he' : wk_ev (wk_rv B (i :: H)) ≤ 64 := he
    have hI := ih (i :: H) hL (by rw [ev_cons]; omega) he hs hp
    by_cases z : i.1 = 0
    · have := hI n (by omega)
      rw [ev_z H z, ls_z z] at this
      exact this
    · obtain ⟨m, rfl⟩ : ∃ m, n = m + 1 := ⟨n - 1, by omega⟩
      have hd := L_hd hL z
      have lt : wk_ev H < wk_ev (wk_rv (i :: B) H) := by
        have := ev_le B (i :: H)
        rw [ev_nz H z] at this
        exact this
      have hin : vp_in (nI (wk_ev H)) 64 := vp_in_nI (by omega) (by omega)
      have hm := hI m (by omega)
      rw [ls_a z hk, ev_nz H z] at hm
      have bd := ls_bd (k := k) H
      generalize wk_ls k H = p at hm bd
      obtain ⟨p1, p2⟩ := p
      dsimp only at bd ⊢
      have p0 : Int32.ofInt p2 = 0 ↔ p2 = 0 := io_0 (by omega) (by omega)
      have hsz : ¬ g_size ≤ nI (wk_ev H) := by rw [hs]; exact nI_ge lt (by omega)
      obtain ⟨t, n0, v, q, d⟩ := i
      match t, z, hd, hm with
      | 0, z, _, _ => exact absurd rfl z
      | 1, z, hd, hm =>
        have e : b_kinds (nI (wk_ev H)).toNatClampNeg = if n0 = 0 then 1 else 2 := by rw [nI_clamp (by omega)]; exact hd.1
        have ef : b_logFields (nI (wk_ev H)).toNatClampNeg = im_f n0 := by rw [nI_clamp (by omega)]; exact hd.2.1
        by_cases w : n0 = 0
        · rw [if_pos w] at e
          have hm' : wY_lastChild_15 post g_maxFields g_maxLeaves g_maxDepth g_maxCells g_fields g_filling g_schemaDone g_size g_reading g_chosen g_pos g_eventField g_eventValue b_parents b_labels b_leafBits b_kinds b_logFields b_logValues m (im_f p1) (Int32.ofInt p2) (nI (wk_ev H + 1)) := by
            have ee : wk_lf (1, n0, v, q, d) (p1, p2) = (p1, p2) := if_pos w
            rw [ee] at hm
            exact hm
          have l72 : wY_lastChild_72 post (wY_lastChild_15 post g_maxFields g_maxLeaves g_maxDepth g_maxCells g_fields g_filling g_schemaDone g_size g_reading g_chosen g_pos g_eventField g_eventValue b_parents b_labels b_leafBits b_kinds b_logFields b_logValues m) (im_f p1) (Int32.ofInt p2) (nI (wk_ev H)) g_maxFields g_maxLeaves g_maxDepth g_maxCells g_fields g_filling g_schemaDone g_size g_reading g_chosen g_pos g_eventField g_eventValue b_parents b_labels b_leafBits b_kinds b_logFields b_logValues :=
            And.intro hin (br_f (by rw [e]; decide) (nm_r (nI_1 _) hm'))
          refine br_f hsz ⟨hin, br_f (by rw [e]; decide) ?_⟩
          by_cases y : p2 = 0
          · exact br_t (p0.mpr y) ⟨hin, br_f (by rw [e]; decide) ⟨hin, br_f (by rw [e]; decide) l72⟩⟩
          · exact br_f (fun x => y (p0.mp x)) l72
        · rw [if_neg w] at e
          have ee : wk_lf (1, n0, v, q, d) (p1, p2) = (if p2 = 0 then n0 else p1, p2 + 1) := if_neg w
          rw [ee] at hm
          refine br_f hsz ⟨hin, br_f (by rw [e]; decide) ?_⟩
          by_cases y : p2 = 0
          · rw [if_pos y] at hm
            refine br_t (p0.mpr y) ⟨hin, br_t e (And.intro hin (nm_r ef (And.intro hin (br_t e (nm_r (io_a _) (nm_r (nI_1 _) ?_))))))⟩
            exact hm
          · rw [if_neg y] at hm
            refine br_f (fun x => y (p0.mp x)) (And.intro hin (br_t e (nm_r (io_a _) (nm_r (nI_1 _) ?_))))
            exact hm
      | 2, z, hd, hm =>
        have e : b_kinds (nI (wk_ev H)).toNatClampNeg = 3 := by rw [nI_clamp (by omega)]; exact hd.1
        have ef : b_logFields (nI (wk_ev H)).toNatClampNeg = im_f n0 := by rw [nI_clamp (by omega)]; exact hd.2.1
        have ee : wk_lf (2, n0, v, q, d) (p1, p2) = (if p2 = 0 then n0 else p1, p2) := rfl
        rw [ee] at hm
        refine br_f hsz ⟨hin, br_f (by rw [e]; decide) ?_⟩
        by_cases y : p2 = 0
        · rw [if_pos y] at hm
          refine br_t (p0.mpr y) ⟨hin, br_f (by rw [e]; decide) ⟨hin, br_t e (And.intro hin (nm_r ef (And.intro hin (br_f (by rw [e]; decide) (nm_r (nI_1 _) ?_)))))⟩⟩
          exact hm
        · rw [if_neg y] at hm
          refine br_f (fun x => y (p0.mp x)) (And.intro hin (br_f (by rw [e]; decide) (nm_r (nI_1 _) ?_)))
          exact hm
      | (t + 3), z, hd, hm =>
        have e : b_kinds (nI (wk_ev H)).toNatClampNeg = if n0 = 0 then 5 else 4 := by rw [nI_clamp (by omega)]; exact hd.1
        by_cases w : n0 = 0
        · rw [if_pos w] at e
          have ee : wk_lf (t + 3, n0, v, q, d) (p1, p2) = (p1, p2) := if_pos w
          rw [ee] at hm
          have l72 : wY_lastChild_72 post (wY_lastChild_15 post g_maxFields g_maxLeaves g_maxDepth g_maxCells g_fields g_filling g_schemaDone g_size g_reading g_chosen g_pos g_eventField g_eventValue b_parents b_labels b_leafBits b_kinds b_logFields b_logValues m) (im_f p1) (Int32.ofInt p2) (nI (wk_ev H)) g_maxFields g_maxLeaves g_maxDepth g_maxCells g_fields g_filling g_schemaDone g_size g_reading g_chosen g_pos g_eventField g_eventValue b_parents b_labels b_leafBits b_kinds b_logFields b_logValues :=
            And.intro hin (br_f (by rw [e]; decide) (nm_r (nI_1 _) hm))
          refine br_f hsz ⟨hin, br_f (by rw [e]; decide) ?_⟩
          by_cases y : p2 = 0
          · exact br_t (p0.mpr y) ⟨hin, br_f (by rw [e]; decide) ⟨hin, br_f (by rw [e]; decide) l72⟩⟩
          · exact br_f (fun x => y (p0.mp x)) l72
        · rw [if_neg w] at e
          have ee : wk_lf (t + 3, n0, v, q, d) (p1, p2) = (p1, p2 - 1) := if_neg w
          rw [ee] at hm
          have l72 : wY_lastChild_72 post (wY_lastChild_15 post g_maxFields g_maxLeaves g_maxDepth g_maxCells g_fields g_filling g_schemaDone g_size g_reading g_chosen g_pos g_eventField g_eventValue b_parents b_labels b_leafBits b_kinds b_logFields b_logValues m) (im_f p1) (Int32.ofInt (p2 - 1)) (nI (wk_ev H)) g_maxFields g_maxLeaves g_maxDepth g_maxCells g_fields g_filling g_schemaDone g_size g_reading g_chosen g_pos g_eventField g_eventValue b_parents b_labels b_leafBits b_kinds b_logFields b_logValues :=
            And.intro hin (br_f (by rw [e]; decide) (nm_r (nI_1 _) hm))
          have q0 : Int32.ofInt (p2 - 1) = 0 ↔ p2 - 1 = 0 := io_0 (by omega) (by omega)
          refine br_f hsz ⟨hin, br_t e (nm_r (io_m _) ?_)⟩
          by_cases y : p2 - 1 = 0
          · exact br_t (q0.mpr y) ⟨hin, br_f (by rw [e]; decide) ⟨hin, br_f (by rw [e]; decide) l72⟩⟩
          · exact br_f (fun x => y (q0.mp x)) l72
theorem yk_LC {post : Int32 → Prop} {R : List wk_I} {k : Nat} (hL : wr_L b_kinds b_logFields b_logValues R) (he : wk_ev R ≤ 64) (hs : g_size = nI (wk_ev R)) (hk : k < wk_ev R) (hp : post (im_f (wk_ls k R).1)) : wpY_lastChild post (g_maxFields, g_maxLeaves, g_maxDepth, g_maxCells, g_fields, g_filling, g_schemaDone, g_size, g_reading, g_chosen, g_pos, g_eventField, g_eventValue, b_parents, b_labels, b_leafBits, b_kinds, b_logFields, b_logValues) (nI k) := by
  obtain ⟨B, H, a, b⟩ := rv_split R (k + 1) hk
  refine br_t (nI_pos' (by omega)) (nm_r (nI_1 _) ⟨B.length + 1, ?_⟩)
  have l0 := ls_0 (k := k) H (by omega)
  have x := yk_15 (post := post) (k := k) (g_maxFields := g_maxFields) (g_maxLeaves := g_maxLeaves) (g_maxDepth := g_maxDepth) (g_maxCells := g_maxCells) (g_fields := g_fields) (g_filling := g_filling) (g_schemaDone := g_schemaDone) (g_size := g_size) (g_reading := g_reading) (g_chosen := g_chosen) (g_pos := g_pos) (g_eventField := g_eventField) (g_eventValue := g_eventValue) (b_parents := b_parents) (b_labels := b_labels) (b_leafBits := b_leafBits) (b_kinds := b_kinds) (b_logFields := b_logFields) (b_logValues := b_logValues) B H (by rw [a]; exact hL) (by omega) (by rw [a]; exact he) (by rw [a]; exact hs) (by rw [a]; exact hp) _ (Nat.lt_succ_self _)
  rw [l0, b] at x
  exact x
end
end
section
/-! columns -/
def lv_c (lf : Nat → Nat) : Nat → Nat
  | 0 => 0
  | n + 1 => lv_c lf n + lf (n + 1)
def sc_col (c : sc_T) (n : Nat) : Nat := lv_c (sc_lf c) (n - 1)
theorem lv_mono (lf : Nat → Nat) : ∀ {a b : Nat}, a ≤ b → lv_c lf a ≤ lv_c lf b := by
  intro a b h
  induction b with
  | zero => have e : a = 0 := by omega
            rw [e]; exact Nat.le_refl _
  | succ b ih =>
    rcases Nat.lt_or_ge b a with z | z
    · have e : a = b + 1 := by omega
      rw [e]; exact Nat.le_refl _
    · have := ih z
      show _ ≤ lv_c lf b + _
      omega
theorem col_s {c : sc_T} {n : Nat} (h1 : 1 ≤ n) (e : sc_lf c n = 1) : sc_col c n + 1 = lv_c (sc_lf c) n := by
  obtain ⟨m, rfl⟩ : ∃ m, n = m + 1 := ⟨n - 1, by omega⟩
  show lv_c _ m + 1 = lv_c _ m + sc_lf c (m + 1)
  rw [e]
theorem col_lt {c : sc_T} {n : Nat} (h1 : 1 ≤ n) (h2 : n ≤ sc_F c) (e : sc_lf c n = 1) : sc_col c n < lv_c (sc_lf c) (sc_F c) := by
  have a := col_s h1 e
  have b := lv_mono (sc_lf c) h2
  omega
theorem col_inj1 {c : sc_T} {n m : Nat} (h1 : 1 ≤ n) (e : sc_lf c n = 1) (h : n < m) : sc_col c n < sc_col c m := by
  have a := col_s h1 e
  have b := lv_mono (sc_lf c) (show n ≤ m - 1 by omega)
  show _ < lv_c (sc_lf c) (m - 1)
  omega
theorem col_inj {c : sc_T} {n m : Nat} (h1 : 1 ≤ n) (h2 : 1 ≤ m) (e : sc_lf c n = 1) (e2 : sc_lf c m = 1) (h : sc_col c n = sc_col c m) : n = m := by
  rcases Nat.lt_trichotomy n m with z | z | z
  · have := col_inj1 h1 e z; omega
  · exact z
  · have := col_inj1 h2 e2 z; omega
/-! what the component's columns hold of a history -/
def wr_C (c : sc_T) (ar ad av : Nat → Int32) : List wk_I → Prop
  | [] => True
  | i :: R => ((i.1 = 0 ∨ i.1 = 2) → sc_lf c i.2.1 = 1 → ar (sc_col c i.2.1 * 32 + wk_en i.2.1 R) = nI i.2.2.2.1 ∧ ad (sc_col c i.2.1 * 32 + wk_en i.2.1 R) = nI i.2.2.2.2) ∧ (i.1 = 2 → sc_lf c i.2.1 = 1 → av (sc_col c i.2.1 * 32 + wk_hn i.2.1 R) = i.2.2.1) ∧ wr_C c ar ad av R
theorem en_cons (l : Nat) (i : wk_I) (R : List wk_I) : wk_en l (i :: R) = wk_en l R + (if (i.1 = 0 ∨ i.1 = 2) ∧ i.2.1 = l then 1 else 0) := by
  unfold wk_en
  show wk_ct _ R + _ = _
  by_cases z : (i.1 = 0 ∨ i.1 = 2) ∧ i.2.1 = l <;> simp [z]
theorem hn_cons (l : Nat) (i : wk_I) (R : List wk_I) : wk_hn l (i :: R) = wk_hn l R + (if (i.1 = 1 ∨ i.1 = 2) ∧ i.2.1 = l then 1 else 0) := by
  unfold wk_hn
  show wk_ct _ R + _ = _
  by_cases z : (i.1 = 1 ∨ i.1 = 2) ∧ i.2.1 = l <;> simp [z]
section
variable {c : sc_T} {ar ad av ar' ad' av' : Nat → Int32}
theorem C_app : ∀ (X R : List wk_I), wr_C c ar ad av (X ++ R) → wr_C c ar ad av R
  | [], _, h => h
  | _ :: X, R, h => C_app X R h.2.2
theorem C_rv : ∀ (B H : List wk_I), wr_C c ar ad av (wk_rv B H) → wr_C c ar ad av H
  | [], _, h => h
  | i :: B, H, h => (C_rv B (i :: H) h).2.2
theorem C_keep : ∀ (R : List wk_I), (∀ l k, sc_lf c l = 1 → k < wk_en l R → ar' (sc_col c l * 32 + k) = ar (sc_col c l * 32 + k) ∧ ad' (sc_col c l * 32 + k) = ad (sc_col c l * 32 + k)) → (∀ l k, sc_lf c l = 1 → k < wk_hn l R → av' (sc_col c l * 32 + k) = av (sc_col c l * 32 + k)) → wr_C c ar ad av R → wr_C c ar' ad' av' R
  | [], _, _, _ => trivial
  | i :: R, h1, h2, hC => by
    refine ⟨fun z e => ?_, fun z e => ?_, C_keep R (fun l k e hk => h1 l k e (by rw [en_cons]; omega)) (fun l k e hk => h2 l k e (by rw [hn_cons]; omega)) hC.2.2⟩
    · obtain ⟨a, b⟩ := h1 i.2.1 (wk_en i.2.1 R) e (by rw [en_cons, if_pos ⟨z, rfl⟩]; omega)
      rw [a, b]
      exact hC.1 z e
    · rw [h2 i.2.1 (wk_hn i.2.1 R) e (by rw [hn_cons, if_pos ⟨Or.inr z, rfl⟩]; omega)]
      exact hC.2.1 z e
theorem C_nx {l : Nat} (hl : sc_lf c l = 1) : ∀ (B H : List wk_I), wr_C c ar ad av (wk_rv B H) → wk_en l H < wk_en l (wk_rv B H) → ar (sc_col c l * 32 + wk_en l H) = nI (wk_nr l B) ∧ ad (sc_col c l * 32 + wk_en l H) = nI (wk_nd l B)
  | [], H, _, h => absurd h (Nat.lt_irrefl _)
  | i :: B, H, hC, h => by
    have e := en_cons l i H
    by_cases z : (i.1 = 0 ∨ i.1 = 2) ∧ i.2.1 = l
    · have hh := (C_rv B (i :: H) hC).1 z.1 (by rw [z.2]; exact hl)
      unfold wk_nr wk_nd
      rw [if_pos z, if_pos z]
      rw [z.2] at hh
      exact hh
    · rw [if_neg z] at e
      have x := C_nx hl B (i :: H) hC (by rw [e]; exact h)
      rw [e] at x
      unfold wk_nr wk_nd
      rw [if_neg z, if_neg z]
      exact x
end
/-! the path arrays; frames at rest -/
def wr_P (aF aL aR : Nat → Int32) : List wk_Fr → Prop
  | [] => True
  | (g, lc, _, r) :: S => (aF S.length = im_f g ∧ aL S.length = im_f lc ∧ aR S.length = nI r) ∧ wr_P aF aL aR S
theorem P_keep {aF aL aR aF' aL' aR' : Nat → Int32} : ∀ (S : List wk_Fr), (∀ j, j < S.length → aF' j = aF j ∧ aL' j = aL j ∧ aR' j = aR j) → wr_P aF aL aR S → wr_P aF' aL' aR' S
  | [], _, _ => trivial
  | (g, lc, ph, r) :: S, h, hP => by
    obtain ⟨a, b, d⟩ := h S.length (by rw [List.length_cons]; omega)
    refine ⟨by rw [a, b, d]; exact hP.1, P_keep S (fun j hj => h j (by rw [List.length_cons]; omega)) hP.2⟩
def wk_rs (c : sc_T) : List wk_Fr → Prop
  | [] => True
  | (g, lc, ph, _) :: S => ph = (if lc = 0 then g + 1 else sc_lst c lc + 1) ∧ wk_rs c S
/-! the relation -/
def sc_fl (c : sc_T) (fill : Nat) : Prop :=
  (fill ≤ sc_F c ∧ sc_lf c fill = 0 ∧ (sc_lf c (sc_F c) = 0 → fill = sc_F c)) ∧
  (∀ n, n ≤ fill → fill ≤ sc_lst c n → sc_lst c n = sc_F c) ∧
  (∀ g, g + 1 ≤ sc_F c → sc_lf c g = 0 → sc_par c (g + 1) = g)
def rl_A (c : sc_T) (a_labels a_parent a_depthOf a_repOf a_columnOf b_leafBits : Nat → Int32) : Prop :=
  ∀ n, 1 ≤ n → n ≤ sc_F c → a_labels (n - 1) = nI (sc_lab c n) ∧ a_parent (n - 1) = im_f (sc_par c n) ∧ a_depthOf (n - 1) = nI (sc_dep c n) ∧ a_repOf (n - 1) = nI (sc_rp c n) ∧ a_columnOf (n - 1) = (if sc_lf c n = 1 then nI (sc_col c n) else -1) ∧ b_leafBits (n - 1) = nI (sc_lf c n)
def rl_E (c : sc_T) (fill : Nat) (a_lastOf : Nat → Int32) : Prop :=
  ∀ n, 1 ≤ n → n ≤ sc_F c → ¬ (n ≤ fill ∧ fill ≤ sc_lst c n) → a_lastOf (n - 1) = im_f (sc_lst c n)
def rl_S (c : sc_T) (fill mF mL mD mC sd : Nat) (f_maxFields f_maxLeaves f_maxDepth f_maxCells f_fields f_leaves f_leafMask f_filling f_sealed : Int32) (a_labels a_parent a_depthOf a_repOf a_lastOf a_columnOf b_leafBits : Nat → Int32) : Prop :=
  (sc_tr c ∧ sc_fl c fill) ∧
  (f_maxFields = nI mF ∧ f_maxLeaves = nI mL ∧ f_maxDepth = nI mD ∧ f_maxCells = nI mC ∧ mF ≤ 16 ∧ mL ≤ 8 ∧ mD ≤ 6 ∧ mC ≤ 32) ∧
  (f_fields = nI (sc_F c) ∧ sc_F c ≤ mF ∧ f_leaves = nI (lv_c (sc_lf c) (sc_F c)) ∧ lv_c (sc_lf c) (sc_F c) ≤ mL ∧ f_filling = im_f fill ∧ f_sealed = nI sd ∧ sd ≤ 1 ∧ (sd = 1 → fill = 0)) ∧
  (∀ i, i < 32 → bt f_leafMask i = decide (i < sc_F c ∧ sc_lf c (i + 1) = 1)) ∧
  rl_A c a_labels a_parent a_depthOf a_repOf a_columnOf b_leafBits ∧ rl_E c fill a_lastOf ∧ (∀ n, n ≤ sc_F c → sc_lf c n = 0 → sc_dep c n ≤ mD)
def rl_W (c : sc_T) (mC sd : Nat) (R R0 : List wk_I) (f_cells f_cellsKept f_records f_level g_size : Int32) (a_reps a_defs a_values a_entries a_entriesKept a_held a_heldKept a_pathField a_pathLast a_pathRep b_kinds b_logFields b_logValues : Nat → Int32) : Prop :=
  (wk_V c R ∧ (∃ R1, R = R1 ++ R0) ∧ wk_fin c R0 = [] ∧ (wk_fin c R = [] → R = R0) ∧ (wk_fin c R ≠ [] → wk_lr R = wk_ev R0) ∧ wk_re R = wk_re R0 ∧ (sd = 0 → R = []) ∧ wk_rs c (wk_fin c R)) ∧
  (f_cells = nI (wk_ce R) ∧ wk_ce R ≤ mC ∧ f_cellsKept = nI (wk_ce R0) ∧ f_records = nI (wk_re R0) ∧ f_level = im_f (wk_fin c R).length ∧ g_size = nI (wk_ev R)) ∧
  wr_C c a_reps a_defs a_values R ∧ wr_L b_kinds b_logFields b_logValues R ∧ wr_P a_pathField a_pathLast a_pathRep (wk_fin c R) ∧
  (∀ l, 1 ≤ l → l ≤ sc_F c → sc_lf c l = 1 → a_entries (sc_col c l) = nI (wk_en l R) ∧ a_entriesKept (sc_col c l) = nI (wk_en l R0)) ∧
  (∀ n, 1 ≤ n → n ≤ 16 → a_held (n - 1) = nI (wk_hn n R) ∧ a_heldKept (n - 1) = nI (wk_hn n R0)) ∧
  (sd = 0 → ∀ j, a_entries j = 0 ∧ a_entriesKept j = 0)
def rl_T (c : sc_T) (ch : Nat → Bool) (a_jumpTo a_jumpDepth : Nat → Int32) : Prop :=
  ∀ l r, ch l = true → r ≤ sc_rp c l → a_jumpTo (sc_col c l * 8 + r) = im_f (wk_J c ch l r) ∧ a_jumpDepth (sc_col c l * 8 + r) = nI (wk_JD c ch l r)
def rl_P (c : sc_T) (ch : Nat → Bool) (H : List wk_I) (a_readPos a_readValue : Nat → Int32) : Prop :=
  ∀ l, ch l = true → a_readPos (sc_col c l) = nI (wk_en l H) ∧ a_readValue (sc_col c l) = nI (wk_hn l H)
def rl_D (c : sc_T) (ch : Nat → Bool) (H B : List wk_I) (f_readLeaf f_readNode f_openDepth f_keepDepth : Int32) : Prop :=
  ∃ k, f_openDepth = nI (wk_kd c ch (wk_fin c H)) ∧ f_readNode = im_f (wk_kn c ch (wk_fin c H)) ∧ f_readLeaf = im_f (wk_nl ch B) ∧ f_keepDepth = nI k ∧ k ≤ 7 ∧ min (wk_kd c ch (wk_fin c H)) k = wk_low c ch B (wk_fin c H)
def rl_Q (c : sc_T) (R0 : List wk_I) (ch : Nat → Bool) (H B : List wk_I) (f_readRecord f_inRecord f_readLeaf f_readNode f_openDepth f_keepDepth g_pos : Int32) (a_readPos a_readValue a_jumpTo a_jumpDepth : Nat → Int32) : Prop :=
  wk_rv B H = R0 ∧ g_pos = nI (wk_ev H) ∧ f_readRecord = nI (wk_re H) ∧ rl_T c ch a_jumpTo a_jumpDepth ∧ rl_P c ch H a_readPos a_readValue ∧
  ((wk_fin c H = [] ∧ f_inRecord = 0) ∨ (wk_fin c H ≠ [] ∧ f_inRecord = 1 ∧ rl_D c ch H B f_readLeaf f_readNode f_openDepth f_keepDepth))
def rl_R (c : sc_T) (sd : Nat) (R0 : List wk_I) (ch : Nat → Bool) (f_chosen f_readRecord f_inRecord f_readLeaf f_readNode f_openDepth f_keepDepth g_reading g_pos : Int32) (a_readPos a_readValue a_jumpTo a_jumpDepth : Nat → Int32) : Prop :=
  (∀ n, ch n = true → 1 ≤ n ∧ n ≤ sc_F c ∧ sc_lf c n = 1) ∧ (∀ i, i < 32 → bt f_chosen i = ch (i + 1)) ∧ (sd = 0 → f_chosen = 0) ∧
  ((f_chosen = 0 ∧ g_reading = 0) ∨ (¬ f_chosen = 0 ∧ g_reading = 1 ∧ ∃ H B, rl_Q c R0 ch H B f_readRecord f_inRecord f_readLeaf f_readNode f_openDepth f_keepDepth g_pos a_readPos a_readValue a_jumpTo a_jumpDepth))
def i_Rel (k : Nat) (u : SX) (v : SY) : Prop := match u, v with
  | (f_maxFields, f_maxLeaves, f_maxDepth, f_maxCells, f_fields, f_leaves, f_leafMask, f_filling, f_sealed, f_cells, f_cellsKept, f_records, f_level, f_chosen, f_readRecord, f_inRecord, f_readLeaf, f_readNode, f_openDepth, f_keepDepth, f_eventField, f_eventValue, a_labels, a_parent, a_depthOf, a_repOf, a_lastOf, a_columnOf, a_reps, a_defs, a_values, a_entries, a_entriesKept, a_held, a_heldKept, a_pathField, a_pathLast, a_pathRep, a_readPos, a_readValue, a_jumpTo, a_jumpDepth), (g_maxFields, g_maxLeaves, g_maxDepth, g_maxCells, g_fields, g_filling, g_schemaDone, g_size, g_reading, g_chosen, g_pos, g_eventField, g_eventValue, b_parents, b_labels, b_leafBits, b_kinds, b_logFields, b_logValues) =>
    (g_maxFields = f_maxFields ∧ g_maxLeaves = f_maxLeaves ∧ g_maxDepth = f_maxDepth ∧ g_maxCells = f_maxCells ∧ g_fields = f_fields ∧ g_filling = f_filling ∧ g_schemaDone = f_sealed ∧ g_chosen = f_chosen ∧ g_eventField = f_eventField ∧ g_eventValue = f_eventValue ∧ b_parents = a_parent ∧ b_labels = a_labels) ∧
    ∃ (c : sc_T) (fill mF mL mD mC sd : Nat) (R R0 : List wk_I) (ch : Nat → Bool),
      rl_S c fill mF mL mD mC sd f_maxFields f_maxLeaves f_maxDepth f_maxCells f_fields f_leaves f_leafMask f_filling f_sealed a_labels a_parent a_depthOf a_repOf a_lastOf a_columnOf b_leafBits ∧
      rl_W c mC sd R R0 f_cells f_cellsKept f_records f_level g_size a_reps a_defs a_values a_entries a_entriesKept a_held a_heldKept a_pathField a_pathLast a_pathRep b_kinds b_logFields b_logValues ∧
      rl_R c sd R0 ch f_chosen f_readRecord f_inRecord f_readLeaf f_readNode f_openDepth f_keepDepth g_reading g_pos a_readPos a_readValue a_jumpTo a_jumpDepth
theorem zz_el {k : Nat} {P : SX → SY → Prop}
  (h : ∀ (f_maxFields f_maxLeaves f_maxDepth f_maxCells f_fields f_leaves f_leafMask f_filling f_sealed f_cells f_cellsKept f_records f_level f_chosen f_readRecord f_inRecord f_readLeaf f_readNode f_openDepth f_keepDepth f_eventField f_eventValue : Int32) (a_labels a_parent a_depthOf a_repOf a_lastOf a_columnOf a_reps a_defs a_values a_entries a_entriesKept a_held a_heldKept a_pathField a_pathLast a_pathRep a_readPos a_readValue a_jumpTo a_jumpDepth : Nat → Int32) (g_size g_reading g_pos : Int32) (b_leafBits b_kinds b_logFields b_logValues : Nat → Int32)
    (c : sc_T) (fill mF mL mD mC sd : Nat) (R R0 : List wk_I) (ch : Nat → Bool),
      rl_S c fill mF mL mD mC sd f_maxFields f_maxLeaves f_maxDepth f_maxCells f_fields f_leaves f_leafMask f_filling f_sealed a_labels a_parent a_depthOf a_repOf a_lastOf a_columnOf b_leafBits →
      rl_W c mC sd R R0 f_cells f_cellsKept f_records f_level g_size a_reps a_defs a_values a_entries a_entriesKept a_held a_heldKept a_pathField a_pathLast a_pathRep b_kinds b_logFields b_logValues →
      rl_R c sd R0 ch f_chosen f_readRecord f_inRecord f_readLeaf f_readNode f_openDepth f_keepDepth g_reading g_pos a_readPos a_readValue a_jumpTo a_jumpDepth →
      P (f_maxFields, f_maxLeaves, f_maxDepth, f_maxCells, f_fields, f_leaves, f_leafMask, f_filling, f_sealed, f_cells, f_cellsKept, f_records, f_level, f_chosen, f_readRecord, f_inRecord, f_readLeaf, f_readNode, f_openDepth, f_keepDepth, f_eventField, f_eventValue, a_labels, a_parent, a_depthOf, a_repOf, a_lastOf, a_columnOf, a_reps, a_defs, a_values, a_entries, a_entriesKept, a_held, a_heldKept, a_pathField, a_pathLast, a_pathRep, a_readPos, a_readValue, a_jumpTo, a_jumpDepth) (f_maxFields, f_maxLeaves, f_maxDepth, f_maxCells, f_fields, f_filling, f_sealed, g_size, g_reading, f_chosen, g_pos, f_eventField, f_eventValue, a_parent, a_labels, b_leafBits, b_kinds, b_logFields, b_logValues))
  {u : SX} {v : SY} (I : i_Rel k u v) : P u v := by
  obtain ⟨f_maxFields, f_maxLeaves, f_maxDepth, f_maxCells, f_fields, f_leaves, f_leafMask, f_filling, f_sealed, f_cells, f_cellsKept, f_records, f_level, f_chosen, f_readRecord, f_inRecord, f_readLeaf, f_readNode, f_openDepth, f_keepDepth, f_eventField, f_eventValue, a_labels, a_parent, a_depthOf, a_repOf, a_lastOf, a_columnOf, a_reps, a_defs, a_values, a_entries, a_entriesKept, a_held, a_heldKept, a_pathField, a_pathLast, a_pathRep, a_readPos, a_readValue, a_jumpTo, a_jumpDepth⟩ := u
  obtain ⟨g_maxFields, g_maxLeaves, g_maxDepth, g_maxCells, g_fields, g_filling, g_schemaDone, g_size, g_reading, g_chosen, g_pos, g_eventField, g_eventValue, b_parents, b_labels, b_leafBits, b_kinds, b_logFields, b_logValues⟩ := v
  obtain ⟨⟨e1, e2, e3, e4, e5, e6, e7, e8, e9, e10, e11, e12⟩, c, fill, mF, mL, mD, mC, sd, R, R0, ch, hS, hW, hR⟩ := I
  rw [e1, e2, e3, e4, e5, e6, e7, e8, e9, e10, e11, e12]
  exact h _ _ _ _ _ _ _ _ _ _ _ _ _ _ _ _ _ _ _ _ _ _ _ _ _ _ _ _ _ _ _ _ _ _ _ _ _ _ _ _ _ _ _ _ _ _ _ _ _ c fill mF mL mD mC sd R R0 ch hS hW hR
section
variable {f_maxFields f_maxLeaves f_maxDepth f_maxCells f_fields f_leaves f_leafMask f_filling f_sealed f_cells f_cellsKept f_records f_level f_chosen f_readRecord f_inRecord f_readLeaf f_readNode f_openDepth f_keepDepth f_eventField f_eventValue : Int32} {a_labels a_parent a_depthOf a_repOf a_lastOf a_columnOf a_reps a_defs a_values a_entries a_entriesKept a_held a_heldKept a_pathField a_pathLast a_pathRep a_readPos a_readValue a_jumpTo a_jumpDepth : Nat → Int32}
variable {g_size g_reading g_pos : Int32} {b_leafBits b_kinds b_logFields b_logValues : Nat → Int32}
theorem zz_in {k : Nat} {c : sc_T} {fill mF mL mD mC sd : Nat} {R R0 : List wk_I} {ch : Nat → Bool} (hS : rl_S c fill mF mL mD mC sd f_maxFields f_maxLeaves f_maxDepth f_maxCells f_fields f_leaves f_leafMask f_filling f_sealed a_labels a_parent a_depthOf a_repOf a_lastOf a_columnOf b_leafBits) (hW : rl_W c mC sd R R0 f_cells f_cellsKept f_records f_level g_size a_reps a_defs a_values a_entries a_entriesKept a_held a_heldKept a_pathField a_pathLast a_pathRep b_kinds b_logFields b_logValues) (hR : rl_R c sd R0 ch f_chosen f_readRecord f_inRecord f_readLeaf f_readNode f_openDepth f_keepDepth g_reading g_pos a_readPos a_readValue a_jumpTo a_jumpDepth) : i_Rel k (f_maxFields, f_maxLeaves, f_maxDepth, f_maxCells, f_fields, f_leaves, f_leafMask, f_filling, f_sealed, f_cells, f_cellsKept, f_records, f_level, f_chosen, f_readRecord, f_inRecord, f_readLeaf, f_readNode, f_openDepth, f_keepDepth, f_eventField, f_eventValue, a_labels, a_parent, a_depthOf, a_repOf, a_lastOf, a_columnOf, a_reps, a_defs, a_values, a_entries, a_entriesKept, a_held, a_heldKept, a_pathField, a_pathLast, a_pathRep, a_readPos, a_readValue, a_jumpTo, a_jumpDepth) (f_maxFields, f_maxLeaves, f_maxDepth, f_maxCells, f_fields, f_filling, f_sealed, g_size, g_reading, f_chosen, g_pos, f_eventField, f_eventValue, a_parent, a_labels, b_leafBits, b_kinds, b_logFields, b_logValues) :=
  ⟨⟨rfl, rfl, rfl, rfl, rfl, rfl, rfl, rfl, rfl, rfl, rfl, rfl⟩, c, fill, mF, mL, mD, mC, sd, R, R0, ch, hS, hW, hR⟩
end
theorem i_up {k : Nat} {u : SX} {v : SY} (h : i_Rel k u v) : i_Rel (k + 3) u v := h
end
section
/-! the schema grows -/
def sc_u (f : Nat → Nat) (k v : Nat) : Nat → Nat := fun j => if j = k then v else f j
theorem su_e {f : Nat → Nat} {k v : Nat} : sc_u f k v k = v := if_pos rfl
theorem su_n {f : Nat → Nat} {k v j : Nat} (h : j ≠ k) : sc_u f k v j = f j := if_neg h
def sc_add (c : sc_T) (fill lab lf : Nat) : sc_T :=
  (sc_F c + 1, sc_u (sc_par c) (sc_F c + 1) fill, sc_u (sc_lab c) (sc_F c + 1) lab, sc_u (sc_lf c) (sc_F c + 1) lf, sc_u (sc_dep c) (sc_F c + 1) (sc_dep c fill + 1), sc_u (sc_rp c) (sc_F c + 1) (sc_rp c fill + (if lab = 2 then 1 else 0)), fun n => if n = sc_F c + 1 ∨ (n ≤ fill ∧ fill ≤ sc_lst c n) then sc_F c + 1 else sc_lst c n)
section
variable {c : sc_T} {fill lab lf : Nat}
theorem ad_F : sc_F (sc_add c fill lab lf) = sc_F c + 1 := rfl
theorem ad_par1 : sc_par (sc_add c fill lab lf) (sc_F c + 1) = fill := su_e
theorem ad_lab1 : sc_lab (sc_add c fill lab lf) (sc_F c + 1) = lab := su_e
theorem ad_lf1 : sc_lf (sc_add c fill lab lf) (sc_F c + 1) = lf := su_e
theorem ad_dep1 : sc_dep (sc_add c fill lab lf) (sc_F c + 1) = sc_dep c fill + 1 := su_e
theorem ad_rp1 : sc_rp (sc_add c fill lab lf) (sc_F c + 1) = sc_rp c fill + (if lab = 2 then 1 else 0) := su_e
theorem ad_par {n : Nat} (h : n ≤ sc_F c) : sc_par (sc_add c fill lab lf) n = sc_par c n := su_n (by omega)
theorem ad_lab {n : Nat} (h : n ≤ sc_F c) : sc_lab (sc_add c fill lab lf) n = sc_lab c n := su_n (by omega)
theorem ad_lf {n : Nat} (h : n ≤ sc_F c) : sc_lf (sc_add c fill lab lf) n = sc_lf c n := su_n (by omega)
theorem ad_dep {n : Nat} (h : n ≤ sc_F c) : sc_dep (sc_add c fill lab lf) n = sc_dep c n := su_n (by omega)
theorem ad_rp {n : Nat} (h : n ≤ sc_F c) : sc_rp (sc_add c fill lab lf) n = sc_rp c n := su_n (by omega)
theorem ad_lst1 : sc_lst (sc_add c fill lab lf) (sc_F c + 1) = sc_F c + 1 := if_pos (Or.inl rfl)
theorem ad_lstO {n : Nat} (h : n ≤ fill ∧ fill ≤ sc_lst c n) : sc_lst (sc_add c fill lab lf) n = sc_F c + 1 := if_pos (Or.inr h)
theorem ad_lstC {n : Nat} (h1 : n ≤ sc_F c) (h : ¬ (n ≤ fill ∧ fill ≤ sc_lst c n)) : sc_lst (sc_add c fill lab lf) n = sc_lst c n := if_neg (fun q => q.elim (fun e => by omega) h)
theorem ad_tr (h : sc_tr c) (hf : sc_fl c fill) (h1 : lab ≤ 2) (h2 : lf ≤ 1) : sc_tr (sc_add c fill lab lf) := by
  obtain ⟨⟨f1, f2, f3⟩, f4, f5⟩ := hf
  refine ⟨⟨?_, ?_, ?_, ?_⟩, ?_, ?_, ?_⟩
  · rw [ad_dep (Nat.zero_le _)]; exact tr_d0 h
  · rw [ad_rp (Nat.zero_le _)]; exact tr_r0 h
  · rw [ad_lf (Nat.zero_le _)]; exact tr_f0 h
  · rw [ad_lstO ⟨Nat.zero_le _, by rw [tr_l0 h]; exact f1⟩]; rfl
  · intro n n1 n2
    rw [ad_F] at n2
    rcases Nat.lt_or_ge (sc_F c) n with z | z
    · have e : n = sc_F c + 1 := by omega
      subst e
      rw [ad_par1, ad_lab1, ad_lf1, ad_dep1, ad_rp1, ad_lf f1, ad_dep f1, ad_rp f1]
      exact ⟨by omega, f2, h1, h2, rfl, rfl⟩
    · have p := tr_par h n1 z
      rw [ad_par z, ad_lab z, ad_lf z, ad_dep z, ad_rp z, ad_lf (by omega), ad_dep (by omega), ad_rp (by omega)]
      exact h.2.1 n n1 z
  · intro n n2
    rw [ad_F] at n2 ⊢
    rcases Nat.lt_or_ge (sc_F c) n with z | z
    · have e : n = sc_F c + 1 := by omega
      subst e
      rw [ad_lst1]
      exact ⟨Nat.le_refl _, Nat.le_refl _, fun _ => rfl⟩
    · have a := tr_le h z
      have b := tr_ge h z
      by_cases o : n ≤ fill ∧ fill ≤ sc_lst c n
      · rw [ad_lstO o, ad_lf z]
        refine ⟨by omega, by omega, fun e => ?_⟩
        have := tr_leaf h z e
        have e2 : fill = n := by omega
        rw [e2, e] at f2
        omega
      · rw [ad_lstC z o, ad_lf z]
        exact ⟨b, by omega, tr_leaf h z⟩
  · intro n k hnk hk
    rw [ad_F] at hk
    have nz : n ≤ sc_F c := by omega
    have a := tr_le h nz
    rcases Nat.lt_or_ge (sc_F c) k with z | z
    · have e : k = sc_F c + 1 := by omega
      subst e
      rw [ad_par1]
      by_cases o : n ≤ fill ∧ fill ≤ sc_lst c n
      · rw [ad_lstO o]
        exact ⟨fun _ => ⟨o.1, by omega⟩, fun _ => Nat.le_refl _⟩
      · rw [ad_lstC nz o]
        exact ⟨fun q => by omega, fun q => absurd q o⟩
    · have L := h.2.2.2 n k hnk z
      have p := tr_par h (n := k) (by omega) z
      rw [ad_par z]
      by_cases o : n ≤ fill ∧ fill ≤ sc_lst c n
      · rw [ad_lstO o]
        rw [f4 n o.1 o.2] at L
        exact ⟨fun _ => ⟨(L.mp z).1, by omega⟩, fun _ => by omega⟩
      · rw [ad_lstC nz o]
        exact L
theorem ad_fl (h : sc_tr c) (hf : sc_fl c fill) (h2 : lf ≤ 1) : sc_fl (sc_add c fill lab lf) (if lf = 1 then fill else sc_F c + 1) := by
  obtain ⟨⟨f1, f2, f3⟩, f4, f5⟩ := hf
  have child : ∀ g, g + 1 ≤ sc_F (sc_add c fill lab lf) → sc_lf (sc_add c fill lab lf) g = 0 → sc_par (sc_add c fill lab lf) (g + 1) = g := by
    intro g hg e
    rw [ad_F] at hg
    rw [ad_lf (by omega)] at e
    rcases Nat.lt_or_ge g (sc_F c) with z | z
    · rw [ad_par (by omega)]
      exact f5 g z e
    · have eg : g = sc_F c := by omega
      subst eg
      rw [ad_par1]
      exact f3 e
  by_cases z : lf = 1
  · rw [if_pos z]
    refine ⟨⟨by rw [ad_F]; omega, by rw [ad_lf f1]; exact f2, fun e => ?_⟩, ?_, child⟩
    · rw [ad_F, ad_lf1] at e
      omega
    · intro n n1 n2
      by_cases o : n ≤ fill ∧ fill ≤ sc_lst c n
      · rw [ad_lstO o]; rfl
      · rw [ad_lstC (by omega) o] at n2
        exact absurd ⟨n1, n2⟩ o
  · rw [if_neg z]
    refine ⟨⟨Nat.le_refl _, by rw [ad_lf1]; omega, fun _ => rfl⟩, ?_, child⟩
    intro n n1 n2
    rcases Nat.lt_or_ge (sc_F c) n with w | w
    · have e : n = sc_F c + 1 := by omega
      rw [e, ad_lst1]; rfl
    · by_cases o : n ≤ fill ∧ fill ≤ sc_lst c n
      · rw [ad_lstO o]; rfl
      · rw [ad_lstC w o] at n2
        have := tr_le h w
        omega
theorem lv_ext {f g : Nat → Nat} : ∀ n, (∀ j, j ≤ n → f j = g j) → lv_c f n = lv_c g n
  | 0, _ => rfl
  | n + 1, h => by
    show lv_c f n + f (n + 1) = lv_c g n + g (n + 1)
    rw [lv_ext n (fun j hj => h j (by omega)), h (n + 1) (Nat.le_refl _)]
theorem ad_lv : lv_c (sc_lf (sc_add c fill lab lf)) (sc_F c) = lv_c (sc_lf c) (sc_F c) := lv_ext _ (fun j hj => ad_lf hj)
theorem ad_lv1 : lv_c (sc_lf (sc_add c fill lab lf)) (sc_F c + 1) = lv_c (sc_lf c) (sc_F c) + lf := by
  show lv_c _ (sc_F c) + _ = _
  rw [ad_lv, ad_lf1]
theorem ad_col {n : Nat} (h : n ≤ sc_F c + 1) : sc_col (sc_add c fill lab lf) n = sc_col c n := lv_ext _ (fun j hj => ad_lf (by omega))
theorem ad_A {aL aP aD aR aC bL : Nat → Int32} (hA : rl_A c aL aP aD aR aC bL) {x : Int32} (hx : x = if lf = 1 then nI (lv_c (sc_lf c) (sc_F c)) else -1) : rl_A (sc_add c fill lab lf) (upd aL (sc_F c) (nI lab)) (upd aP (sc_F c) (im_f fill)) (upd aD (sc_F c) (nI (sc_dep c fill + 1))) (upd aR (sc_F c) (nI (sc_rp c fill + (if lab = 2 then 1 else 0)))) (upd aC (sc_F c) x) (upd bL (sc_F c) (nI lf)) := by
  intro n n1 n2
  rw [ad_F] at n2
  rcases Nat.lt_or_ge (sc_F c) n with z | z
  · have e : n = sc_F c + 1 := by omega
    subst e
    rw [ad_lab1, ad_par1, ad_dep1, ad_rp1, ad_lf1, ad_col (Nat.le_refl _), Nat.add_sub_cancel]
    exact ⟨pk_us, pk_us, pk_us, pk_us, by rw [pk_us, hx]; rfl, pk_us⟩
  · rw [ad_lab z, ad_par z, ad_dep z, ad_rp z, ad_lf z, ad_col n2]
    have ne : n - 1 ≠ sc_F c := by omega
    rw [pk_un ne, pk_un ne, pk_un ne, pk_un ne, pk_un ne, pk_un ne]
    exact hA n n1 z
theorem ad_E (h : sc_tr c) {aE : Nat → Int32} (hE : rl_E c fill aE) (h2 : lf ≤ 1) : rl_E (sc_add c fill lab lf) (if lf = 1 then fill else sc_F c + 1) (upd aE (sc_F c) (nI (sc_F c))) := by
  intro n n1 n2 o
  rw [ad_F] at n2
  rcases Nat.lt_or_ge (sc_F c) n with z | z
  · have e : n = sc_F c + 1 := by omega
    subst e
    rw [ad_lst1, Nat.add_sub_cancel, pk_us]
    rfl
  · have no : ¬ (n ≤ fill ∧ fill ≤ sc_lst c n) := by
      intro q
      apply o
      rw [ad_lstO q]
      by_cases w : lf = 1
      · rw [if_pos w]
        have := tr_le h z
        exact ⟨q.1, by omega⟩
      · rw [if_neg w]
        exact ⟨by omega, by omega⟩
    rw [ad_lstC z no, pk_un (by omega)]
    exact hE n n1 z no
theorem ad_D {mD : Nat} (hD : ∀ n, n ≤ sc_F c → sc_lf c n = 0 → sc_dep c n ≤ mD) (e : lf = 0 → sc_dep c fill + 1 ≤ mD) : ∀ n, n ≤ sc_F (sc_add c fill lab lf) → sc_lf (sc_add c fill lab lf) n = 0 → sc_dep (sc_add c fill lab lf) n ≤ mD := by
  intro n n2 e2
  rw [ad_F] at n2
  rcases Nat.lt_or_ge (sc_F c) n with z | z
  · have e : n = sc_F c + 1 := by omega
    subst e
    rw [ad_lf1] at e2
    rw [ad_dep1]
    exact e e2
  · rw [ad_lf z] at e2
    rw [ad_dep z]
    exact hD n z e2
theorem ad_W {mC : Nat} {c' : sc_T} {R R0 : List wk_I} {f_cells f_cellsKept f_records f_level g_size : Int32} {a_reps a_defs a_values a_entries a_entriesKept a_held a_heldKept a_pathField a_pathLast a_pathRep b_kinds b_logFields b_logValues : Nat → Int32} (hW : rl_W c mC 0 R R0 f_cells f_cellsKept f_records f_level g_size a_reps a_defs a_values a_entries a_entriesKept a_held a_heldKept a_pathField a_pathLast a_pathRep b_kinds b_logFields b_logValues) : rl_W c' mC 0 R R0 f_cells f_cellsKept f_records f_level g_size a_reps a_defs a_values a_entries a_entriesKept a_held a_heldKept a_pathField a_pathLast a_pathRep b_kinds b_logFields b_logValues := by
  obtain ⟨⟨v1, ⟨R1, v2⟩, v3, v4, v5, v6, v7, v8⟩, ⟨n1, n2, n3, n4, n5, n6⟩, hC, hL, hP, hN, hH, hZ⟩ := hW
  have e := v7 rfl
  subst e
  have e0 : R0 = [] := (List.append_eq_nil_iff.mp v2.symm).2
  subst e0
  exact ⟨⟨trivial, ⟨R1, v2⟩, rfl, fun _ => rfl, fun q => absurd rfl q, rfl, fun _ => rfl, trivial⟩, ⟨n1, n2, n3, n4, n5, n6⟩, trivial, trivial, trivial, fun l _ _ _ => hZ rfl _, hH, hZ⟩
theorem ad_R {c' : sc_T} {R0 : List wk_I} {ch : Nat → Bool} {f_chosen f_readRecord f_inRecord f_readLeaf f_readNode f_openDepth f_keepDepth g_reading g_pos : Int32} {a_readPos a_readValue a_jumpTo a_jumpDepth : Nat → Int32} (hF : sc_F c ≤ 16) (hR : rl_R c 0 R0 ch f_chosen f_readRecord f_inRecord f_readLeaf f_readNode f_openDepth f_keepDepth g_reading g_pos a_readPos a_readValue a_jumpTo a_jumpDepth) : rl_R c' 0 R0 ch f_chosen f_readRecord f_inRecord f_readLeaf f_readNode f_openDepth f_keepDepth g_reading g_pos a_readPos a_readValue a_jumpTo a_jumpDepth := by
  obtain ⟨r1, r2, r3, r4⟩ := hR
  have e := r3 rfl
  have no : ∀ n, ¬ ch n = true := by
    intro n hn
    obtain ⟨q1, q2, q3⟩ := r1 n hn
    have := r2 (n - 1) (by omega)
    rw [e, b_0, show n - 1 + 1 = n by omega, hn] at this
    exact Bool.false_ne_true this
  refine ⟨fun n hn => absurd hn (no n), r2, r3, ?_⟩
  rcases r4 with q | q
  · exact Or.inl q
  · exact absurd e q.1
end
end
section
/-! the schema's methods, step by step -/
section
variable {f_maxFields f_maxLeaves f_maxDepth f_maxCells f_fields f_leaves f_leafMask f_filling f_sealed f_cells f_cellsKept f_records f_level f_chosen f_readRecord f_inRecord f_readLeaf f_readNode f_openDepth f_keepDepth f_eventField f_eventValue : Int32} {a_labels a_parent a_depthOf a_repOf a_lastOf a_columnOf a_reps a_defs a_values a_entries a_entriesKept a_held a_heldKept a_pathField a_pathLast a_pathRep a_readPos a_readValue a_jumpTo a_jumpDepth : Nat → Int32}
theorem x_fd {post : Int32 → Prop} {c : sc_T} {fill : Nat} (hT : sc_tr c) (h16 : fill ≤ 16) (e : f_filling = im_f fill) (hd : 0 < fill → a_depthOf (fill - 1) = nI (sc_dep c fill)) (hp : post (nI (sc_dep c fill))) : wpX_fillingDepth post (f_maxFields, f_maxLeaves, f_maxDepth, f_maxCells, f_fields, f_leaves, f_leafMask, f_filling, f_sealed, f_cells, f_cellsKept, f_records, f_level, f_chosen, f_readRecord, f_inRecord, f_readLeaf, f_readNode, f_openDepth, f_keepDepth, f_eventField, f_eventValue, a_labels, a_parent, a_depthOf, a_repOf, a_lastOf, a_columnOf, a_reps, a_defs, a_values, a_entries, a_entriesKept, a_held, a_heldKept, a_pathField, a_pathLast, a_pathRep, a_readPos, a_readValue, a_jumpTo, a_jumpDepth) := by
  subst e
  rcases Nat.eq_zero_or_pos fill with z | z
  · subst z
    rw [tr_d0 hT] at hp
    exact br_t rfl hp
  · refine br_f (fun q => by rw [im_m1 (by omega)] at q; omega) ⟨im_in z h16 (by decide), ?_⟩
    rw [im_cl z (by omega), hd z]
    exact hp
theorem x_add {post : Int32 → SX → Prop} {c : sc_T} {fill lab : Nat} {b_leafBits : Nat → Int32} (hT : sc_tr c) (hfl : fill ≤ sc_F c) (hF : sc_F c < 16) (hA : rl_A c a_labels a_parent a_depthOf a_repOf a_columnOf b_leafBits) (e1 : f_filling = im_f fill) (e2 : f_fields = nI (sc_F c)) (hl : lab ≤ 2) (K : post (nI (sc_F c)) (f_maxFields, f_maxLeaves, f_maxDepth, f_maxCells, nI (sc_F c + 1), f_leaves, f_leafMask, f_filling, f_sealed, f_cells, f_cellsKept, f_records, f_level, f_chosen, f_readRecord, f_inRecord, f_readLeaf, f_readNode, f_openDepth, f_keepDepth, f_eventField, f_eventValue, upd a_labels (sc_F c) (nI lab), upd a_parent (sc_F c) (im_f fill), upd a_depthOf (sc_F c) (nI (sc_dep c fill + 1)), upd a_repOf (sc_F c) (nI (sc_rp c fill + (if lab = 2 then 1 else 0))), upd a_lastOf (sc_F c) (nI (sc_F c)), a_columnOf, a_reps, a_defs, a_values, a_entries, a_entriesKept, a_held, a_heldKept, a_pathField, a_pathLast, a_pathRep, a_readPos, a_readValue, a_jumpTo, a_jumpDepth)) : wpX_addField post (f_maxFields, f_maxLeaves, f_maxDepth, f_maxCells, f_fields, f_leaves, f_leafMask, f_filling, f_sealed, f_cells, f_cellsKept, f_records, f_level, f_chosen, f_readRecord, f_inRecord, f_readLeaf, f_readNode, f_openDepth, f_keepDepth, f_eventField, f_eventValue, a_labels, a_parent, a_depthOf, a_repOf, a_lastOf, a_columnOf, a_reps, a_defs, a_values, a_entries, a_entriesKept, a_held, a_heldKept, a_pathField, a_pathLast, a_pathRep, a_readPos, a_readValue, a_jumpTo, a_jumpDepth) (nI lab) := by
  subst e1 e2
  have hin : vp_in (nI (sc_F c)) 16 := vp_in_nI hF (by decide)
  have cl : (nI (sc_F c)).toNatClampNeg = sc_F c := nI_clamp (by omega)
  have hd : 0 < fill → a_depthOf (fill - 1) = nI (sc_dep c fill) := fun z => (hA fill z hfl).2.2.1
  have j26 : wX_addField_26 post (nI lab) (nI (sc_F c)) (nI (sc_rp c fill)) f_maxFields f_maxLeaves f_maxDepth f_maxCells (nI (sc_F c)) f_leaves f_leafMask (im_f fill) f_sealed f_cells f_cellsKept f_records f_level f_chosen f_readRecord f_inRecord f_readLeaf f_readNode f_openDepth f_keepDepth f_eventField f_eventValue a_labels a_parent a_depthOf a_repOf a_lastOf a_columnOf a_reps a_defs a_values a_entries a_entriesKept a_held a_heldKept a_pathField a_pathLast a_pathRep a_readPos a_readValue a_jumpTo a_jumpDepth := by
    refine And.intro hin (nm_r (by rw [cl]) (And.intro hin (nm_r (by rw [cl]) ?_)))
    refine x_fd hT (by omega) rfl hd ?_
    refine And.intro hin (nm_r (e' := upd a_depthOf (sc_F c) (nI (sc_dep c fill + 1))) (by rw [cl, nI_1]) ?_)
    by_cases z : lab = 2
    · subst z
      rw [if_pos rfl] at K
      refine br_t rfl (And.intro hin (nm_r (by rw [cl, nI_1]) (And.intro hin (nm_r (by rw [cl]) (nm_r (nI_1 _) K)))))
    · rw [if_neg z] at K
      refine br_f (fun q => z ((nI_eq (b := 2) (by omega) (by decide)).mp q)) (And.intro hin (nm_r (by rw [cl]; rfl) (And.intro hin (nm_r (by rw [cl]) (nm_r (nI_1 _) K)))))
  rcases Nat.eq_zero_or_pos fill with z | z
  · subst z
    rw [tr_r0 hT] at j26
    exact br_t rfl j26
  · refine br_f (fun q => by rw [im_m1 (by omega)] at q; omega) ⟨im_in z (by omega) (by decide), ?_⟩
    rw [im_cl z (by omega), (hA fill z hfl).2.2.2.1]
    exact j26
theorem x_is {post : Int32 → Prop} {F : Nat} {p0 : Int32} (hF : F ≤ 16) (e : f_fields = nI F) (h1 : ∀ n, 1 ≤ n → n ≤ F → p0 = im_f n → post 1) (h0 : (p0 < 0 ∨ f_fields ≤ p0) → post 0) : wpX_isField post (f_maxFields, f_maxLeaves, f_maxDepth, f_maxCells, f_fields, f_leaves, f_leafMask, f_filling, f_sealed, f_cells, f_cellsKept, f_records, f_level, f_chosen, f_readRecord, f_inRecord, f_readLeaf, f_readNode, f_openDepth, f_keepDepth, f_eventField, f_eventValue, a_labels, a_parent, a_depthOf, a_repOf, a_lastOf, a_columnOf, a_reps, a_defs, a_values, a_entries, a_entriesKept, a_held, a_heldKept, a_pathField, a_pathLast, a_pathRep, a_readPos, a_readValue, a_jumpTo, a_jumpDepth) p0 := by
  refine br_c (fun q => h0 (Or.inl q)) (fun q => br_c (fun w => h0 (Or.inr w)) (fun w => ?_))
  obtain ⟨j, hj, rfl⟩ := nI_of q
  rw [e, nI_leI (by omega) hj] at w
  exact h1 (j + 1) (by omega) (by omega) rfl
end
section
variable {g_maxFields g_maxLeaves g_maxDepth g_maxCells g_fields g_filling g_schemaDone g_size g_reading g_chosen g_pos g_eventField g_eventValue : Int32} {b_parents b_labels b_leafBits b_kinds b_logFields b_logValues : Nat → Int32}
theorem y_l4 {post : Int32 → Prop} {lf : Nat → Nat} {F : Nat} (hF : F ≤ 16) (e : g_fields = nI F) (hb : ∀ n, 1 ≤ n → n ≤ F → b_leafBits (n - 1) = nI (lf n)) (hp : post (nI (lv_c lf F))) : ∀ d j, j + d = F → ∀ n, d < n → wY_leaves_4 post g_maxFields g_maxLeaves g_maxDepth g_maxCells g_fields g_filling g_schemaDone g_size g_reading g_chosen g_pos g_eventField g_eventValue b_parents b_labels b_leafBits b_kinds b_logFields b_logValues n (nI (lv_c lf j)) (nI j) := by
  subst e
  intro d
  induction d with
  | zero =>
    intro j hj n hn
    obtain ⟨m, rfl⟩ : ∃ m, n = m + 1 := ⟨n - 1, by omega⟩
    have e : j = F := by omega
    subst e
    exact br_t (nI_le (Nat.le_refl _) (by omega)) hp
  | succ d ih =>
    intro j hj n hn
    obtain ⟨m, rfl⟩ : ∃ m, n = m + 1 := ⟨n - 1, by omega⟩
    refine br_f (nI_ge (by omega) (by omega)) ⟨vp_in_nI (by omega) (by decide), nm_r (e' := nI (lv_c lf (j + 1))) ?_ (nm_r (nI_1 _) (ih (j + 1) (by omega) m (by omega)))⟩
    have := hb (j + 1) (by omega) (by omega)
    rw [Nat.add_sub_cancel] at this
    rw [nI_clamp (by omega), this, nI_add]
    rfl
theorem y_lv {post : Int32 → Prop} {lf : Nat → Nat} {F : Nat} (hF : F ≤ 16) (e : g_fields = nI F) (hb : ∀ n, 1 ≤ n → n ≤ F → b_leafBits (n - 1) = nI (lf n)) (hp : post (nI (lv_c lf F))) : wpY_leaves post (g_maxFields, g_maxLeaves, g_maxDepth, g_maxCells, g_fields, g_filling, g_schemaDone, g_size, g_reading, g_chosen, g_pos, g_eventField, g_eventValue, b_parents, b_labels, b_leafBits, b_kinds, b_logFields, b_logValues) :=
  ⟨F + 1, y_l4 hF e hb hp F 0 (by omega) _ (by omega)⟩
theorem y_add {post : Int32 → SY → Prop} {F lab lf fill : Nat} (hF : F < 16) (e : g_fields = nI F) (e1 : g_filling = im_f fill) (K : post (nI F) (g_maxFields, g_maxLeaves, g_maxDepth, g_maxCells, nI (F + 1), g_filling, g_schemaDone, g_size, g_reading, g_chosen, g_pos, g_eventField, g_eventValue, upd b_parents F (im_f fill), upd b_labels F (nI lab), upd b_leafBits F (nI lf), b_kinds, b_logFields, b_logValues)) : wpY_addField post (g_maxFields, g_maxLeaves, g_maxDepth, g_maxCells, g_fields, g_filling, g_schemaDone, g_size, g_reading, g_chosen, g_pos, g_eventField, g_eventValue, b_parents, b_labels, b_leafBits, b_kinds, b_logFields, b_logValues) (nI lab) (nI lf) := by
  subst e e1
  have hin : vp_in (nI F) 16 := vp_in_nI hF (by decide)
  have cl : (nI F).toNatClampNeg = F := nI_clamp (by omega)
  refine br_t (nI_lt (b := 16) hF (by decide)) ⟨hin, nm_r (by rw [cl]) ⟨hin, nm_r (by rw [cl]) ⟨hin, nm_r (by rw [cl]) (nm_r (nI_1 _) ?_)⟩⟩⟩
  rw [nI_pred]
  exact K
theorem y_g32 {post : Int32 → SY → Prop} {x1 : Int32} {c : sc_T} (hT : sc_tr c) (hF : sc_F c ≤ 16) (hb : ∀ n, 1 ≤ n → n ≤ sc_F c → b_parents (n - 1) = im_f (sc_par c n)) : ∀ d p, sc_dep c p = d → p ≤ sc_F c → ∀ d0 st, st + d ≤ 15 → ∀ n, d < n → wY_group_65 post x1 (nI (d0 + d)) g_maxFields g_maxLeaves g_maxDepth g_maxCells g_fields g_filling g_schemaDone g_size g_reading g_chosen g_pos g_eventField g_eventValue b_parents b_labels b_leafBits b_kinds b_logFields b_logValues → wY_group_32 post x1 g_maxFields g_maxLeaves g_maxDepth g_maxCells g_fields g_filling g_schemaDone g_size g_reading g_chosen g_pos g_eventField g_eventValue b_parents b_labels b_leafBits b_kinds b_logFields b_logValues n (nI d0) (im_f p) (nI st) := by
  intro d
  induction d with
  | zero =>
    intro p hp hpF d0 st hst n hn K
    obtain ⟨m, rfl⟩ : ∃ m, n = m + 1 := ⟨n - 1, by omega⟩
    have e : p = 0 := by
      rcases Nat.eq_zero_or_pos p with z | z
      · exact z
      · have := tr_dp hT z hpF
        omega
    subst e
    exact br_f (nI_ge (b := 16) (by omega) (by decide)) (br_t (by decide) K)
  | succ d ih =>
    intro p hp hpF d0 st hst n hn K
    obtain ⟨m, rfl⟩ : ∃ m, n = m + 1 := ⟨n - 1, by omega⟩
    have z : 1 ≤ p := by
      rcases Nat.eq_zero_or_pos p with z | z
      · rw [z, tr_d0 hT] at hp
        omega
      · exact z
    have dp := tr_dp hT z hpF
    have pp := tr_par hT z hpF
    refine br_f (nI_ge (b := 16) (by omega) (by decide)) (br_f (fun q => by rw [im_lt0 (by omega)] at q; omega) (br_f ?_ (nm_r (nI_1 _) ⟨im_in z (by omega) (by decide), nm_r (e' := im_f (sc_par c p)) (by rw [im_cl z (by omega)]; exact hb p z hpF) (nm_r (nI_1 _) ?_)⟩)))
    · rw [im_p z]
      exact nI_ge (b := 16) (by omega) (by decide)
    · refine ih (sc_par c p) (by omega) (by omega) (d0 + 1) (st + 1) (by omega) m (by omega) ?_
      rw [show d0 + 1 + d = d0 + (d + 1) by omega]
      exact K
theorem y_up {post : Int32 → SY → Prop} {c : sc_T} {fill : Nat} (hT : sc_tr c) (hfl : sc_fl c fill) (hF : sc_F c ≤ 16) (e : g_fields = nI (sc_F c)) (e1 : g_filling = im_f fill) (hb : ∀ n, 1 ≤ n → n ≤ sc_F c → b_parents (n - 1) = im_f (sc_par c n)) (K0 : fill = sc_F c → post (-7) (g_maxFields, g_maxLeaves, g_maxDepth, g_maxCells, g_fields, g_filling, g_schemaDone, g_size, g_reading, g_chosen, g_pos, g_eventField, g_eventValue, b_parents, b_labels, b_leafBits, b_kinds, b_logFields, b_logValues)) (K1 : fill < sc_F c → fill = 0 → post 1 (g_maxFields, g_maxLeaves, g_maxDepth, g_maxCells, g_fields, g_filling, 1, g_size, g_reading, g_chosen, g_pos, g_eventField, g_eventValue, b_parents, b_labels, b_leafBits, b_kinds, b_logFields, b_logValues)) (K2 : fill < sc_F c → 0 < fill → post 0 (g_maxFields, g_maxLeaves, g_maxDepth, g_maxCells, g_fields, im_f (sc_par c fill), g_schemaDone, g_size, g_reading, g_chosen, g_pos, g_eventField, g_eventValue, b_parents, b_labels, b_leafBits, b_kinds, b_logFields, b_logValues)) : ∀ d j, j + d = sc_F c → ∀ n, d < n → wY_up_14 post g_maxFields g_maxLeaves g_maxDepth g_maxCells g_fields g_filling g_schemaDone g_size g_reading g_chosen g_pos g_eventField g_eventValue b_parents b_labels b_leafBits b_kinds b_logFields b_logValues n (nI (if fill < j then 1 else 0)) (nI j) := by
  subst e e1
  intro d
  induction d with
  | zero =>
    intro j hj n hn
    obtain ⟨m, rfl⟩ : ∃ m, n = m + 1 := ⟨n - 1, by omega⟩
    have e : j = sc_F c := by omega
    subst e
    refine br_t (nI_le (Nat.le_refl _) (by omega)) ?_
    have f1 := hfl.1.1
    rcases Nat.lt_or_ge fill (sc_F c) with z | z
    · rw [if_pos z]
      refine br_f (by decide) ?_
      rcases Nat.eq_zero_or_pos fill with w | w
      · subst w
        exact br_t (by decide) (K1 z rfl)
      · refine br_f (fun q => by rw [im_lt0 (by omega)] at q; omega) (br_f ?_ ⟨im_in w (by omega) (by decide), nm_r (e' := im_f (sc_par c fill)) (by rw [im_cl w (by omega)]; exact hb fill w (by omega)) (K2 z w)⟩)
        rw [im_p w]
        exact nI_ge (by omega) (by omega)
    · rw [if_neg (by omega)]
      exact br_t rfl (K0 (by omega))
  | succ d ih =>
    intro j hj n hn
    obtain ⟨m, rfl⟩ : ∃ m, n = m + 1 := ⟨n - 1, by omega⟩
    have a := hb (j + 1) (by omega) (by omega)
    rw [Nat.add_sub_cancel] at a
    have p := tr_par hT (n := j + 1) (by omega) (by omega)
    have f1 := hfl.1.1
    have ihm := ih (j + 1) (by omega) m (by omega)
    refine br_f (nI_ge (by omega) (by omega)) ⟨vp_in_nI (by omega) (by decide), ?_⟩
    rw [nI_clamp (by omega), a]
    by_cases w : sc_par c (j + 1) = fill
    · rw [if_pos (by omega)] at ihm
      exact br_t (by rw [w]) (nm_r (nI_1 _) ihm)
    · refine br_f (fun q => w ((im_eq (by omega) (by omega)).mp q)) (nm_r (nI_1 _) ?_)
      have e : (if fill < j + 1 then 1 else 0) = (if fill < j then 1 else 0) := by
        by_cases y : fill < j
        · rw [if_pos y, if_pos (by omega)]
        · rw [if_neg y, if_neg]
          intro y2
          have ef : fill = j := by omega
          exact w (by rw [ef]; exact hfl.2.2 j (by omega) (by rw [← ef]; exact hfl.1.2.1))
      rw [e] at ihm
      exact ihm
end
end
section
theorem cl_ex (p : Int32) {lo hi : Nat} (h : lo ≤ hi) (hh : hi < 2 ^ 31) : ∃ m, m ≤ hi ∧ (∀ (post : Int32 → Prop) (u : SX), post (nI m) → wpX_clamp post u p (nI lo) (nI hi)) ∧ (∀ (post : Int32 → Prop) (u : SY), post (nI m) → wpY_clamp post u p (nI lo) (nI hi)) := by
  by_cases z : nI lo ≤ p
  · by_cases w : p ≤ nI hi
    · obtain ⟨m, hm, rfl⟩ := nI_of2 (n := hi) (nI_toInt hh) (fun q => by
        have := nI_pos' (n := lo) (by omega)
        rw [Int32.le_iff_toInt_le] at z this
        rw [Int32.lt_iff_toInt_lt] at q
        omega) w
      exact ⟨m, hm, fun post u hp => br_t z (br_t w hp), fun post u hp => br_t z (br_t w hp)⟩
    · exact ⟨hi, Nat.le_refl _, fun post u hp => br_t z (br_f w hp), fun post u hp => br_t z (br_f w hp)⟩
  · exact ⟨lo, h, fun post u hp => br_f z hp, fun post u hp => br_f z hp⟩
def sc_0 : sc_T := (0, fun _ => 0, fun _ => 0, fun _ => 0, fun _ => 0, fun _ => 0, fun _ => 0)
theorem i_vc0 (k0 : Int32) (k1 : Int32) (k2 : Int32) (k3 : Int32) : wpX_init (fun u => wpY_init (fun v => i_Rel 4 u v) k0 k1 k2 k3) k0 k1 k2 k3 := by
  obtain ⟨m0, l0, x0, y0⟩ := cl_ex k0 (lo := 2) (hi := 16) (by decide) (by decide)
  obtain ⟨m1, l1, x1, y1⟩ := cl_ex k1 (lo := 1) (hi := 8) (by decide) (by decide)
  obtain ⟨m2, l2, x2, y2⟩ := cl_ex k2 (lo := 0) (hi := 6) (by decide) (by decide)
  obtain ⟨m3, l3, x3, y3⟩ := cl_ex k3 (lo := 8) (hi := 32) (by decide) (by decide)
  refine x0 _ _ (x1 _ _ (x2 _ _ (x3 _ _ (y0 _ _ (y1 _ _ (y2 _ _ (y3 _ _ ?_)))))))
  refine zz_in (c := sc_0) (fill := 0) (mF := m0) (mL := m1) (mD := m2) (mC := m3) (sd := 0) (R := []) (R0 := []) (ch := fun _ => false) ?_ ?_ ?_
  · refine ⟨⟨⟨⟨rfl, rfl, rfl, rfl⟩, ?_, ?_, ?_⟩, ⟨⟨Nat.le_refl _, rfl, fun _ => rfl⟩, fun n _ _ => rfl, ?_⟩⟩, ⟨rfl, rfl, rfl, rfl, l0, l1, l2, l3⟩, ⟨rfl, Nat.zero_le _, rfl, Nat.zero_le _, rfl, rfl, by decide, fun q => absurd q (by decide)⟩, ?_, ?_, ?_, ?_⟩
    · intro n h1 h2
      have : n ≤ 0 := h2
      omega
    · intro n h2
      have h3 : n ≤ 0 := h2
      have e : n = 0 := by omega
      subst e
      exact ⟨Nat.le_refl _, Nat.le_refl _, fun _ => rfl⟩
    · intro n k h1 h2
      have : k ≤ 0 := h2
      omega
    · intro g h2 _
      have : g + 1 ≤ 0 := h2
      omega
    · intro i _
      rw [b_0]
      exact (decide_eq_false (fun q => by have : i < 0 := q.1; omega)).symm
    · intro n h1 h2
      have : n ≤ 0 := h2
      omega
    · intro n h1 h2
      have : n ≤ 0 := h2
      omega
    · intro n _ _
      exact Nat.zero_le _
  · exact ⟨⟨trivial, ⟨[], rfl⟩, rfl, fun _ => rfl, fun q => absurd rfl q, rfl, fun _ => rfl, trivial⟩, ⟨rfl, Nat.zero_le _, rfl, rfl, rfl, rfl⟩, trivial, trivial, trivial, fun _ _ _ _ => ⟨rfl, rfl⟩, fun _ _ _ => ⟨rfl, rfl⟩, fun _ _ => ⟨rfl, rfl⟩⟩
  · exact ⟨fun n hn => absurd hn Bool.false_ne_true, fun i _ => b_0 i, fun _ => rfl, Or.inl ⟨rfl, rfl⟩⟩
theorem i_vc_group {k : Nat} {u : SX} {v : SY} (I : i_Rel k u v) (hk : k + 3 ≤ 1540) (v1 : Int32) : wpX_group (fun r u' => wpY_group (fun r' v' => r' = r ∧ i_Rel (k + 3) u' v') v v1) u v1 := by
  refine zz_el (P := fun u v => wpX_group (fun r u' => wpY_group (fun r' v' => r' = r ∧ i_Rel (k + 3) u' v') v v1) u v1) ?_ I
  intro f_maxFields f_maxLeaves f_maxDepth f_maxCells f_fields f_leaves f_leafMask f_filling f_sealed f_cells f_cellsKept f_records f_level f_chosen f_readRecord f_inRecord f_readLeaf f_readNode f_openDepth f_keepDepth f_eventField f_eventValue a_labels a_parent a_depthOf a_repOf a_lastOf a_columnOf a_reps a_defs a_values a_entries a_entriesKept a_held a_heldKept a_pathField a_pathLast a_pathRep a_readPos a_readValue a_jumpTo a_jumpDepth g_size g_reading g_pos b_leafBits b_kinds b_logFields b_logValues c fill mF mL mD mC sd R R0 ch hS hW hR
  have hS' := hS
  obtain ⟨⟨hT, hFl⟩, ⟨rfl, rfl, rfl, rfl, m1, m2, m3, m4⟩, ⟨rfl, F1, rfl, F2, rfl, rfl, s1, s2⟩, hM, hA, hE, hD⟩ := hS
  rcases Nat.eq_zero_or_pos sd with hs | hs
  · subst hs
    by_cases h1 : v1 < 0
    · exact br_t rfl (br_t h1 (br_t rfl (br_t h1 ⟨rfl, zz_in hS' hW hR⟩)))
    · by_cases h2 : v1 ≤ 2
      · obtain ⟨lab, hl, rfl⟩ := nI_of2 (n := 2) (by decide) h1 h2
        have f1 := hFl.1.1
        have fd := hD fill f1 hFl.1.2.1
        have hb : ∀ n, 1 ≤ n → n ≤ sc_F c → a_parent (n - 1) = im_f (sc_par c n) := fun n a b => (hA n a b).2.1
        have hbl : ∀ n, 1 ≤ n → n ≤ sc_F c → b_leafBits (n - 1) = nI (sc_lf c n) := fun n a b => (hA n a b).2.2.2.2.2
        have hY : ∀ {post : Int32 → SY → Prop}, wY_group_65 post (nI lab) (nI (sc_dep c fill)) (nI mF) (nI mL) (nI mD) (nI mC) (nI (sc_F c)) (im_f fill) (nI 0) g_size g_reading f_chosen g_pos f_eventField f_eventValue a_parent a_labels b_leafBits b_kinds b_logFields b_logValues → wpY_group post (nI mF, nI mL, nI mD, nI mC, nI (sc_F c), im_f fill, nI 0, g_size, g_reading, f_chosen, g_pos, f_eventField, f_eventValue, a_parent, a_labels, b_leafBits, b_kinds, b_logFields, b_logValues) (nI lab) := by
          intro post K
          refine br_t rfl (br_f h1 (br_t h2 ⟨sc_dep c fill + 1, ?_⟩))
          refine y_g32 hT (by omega) hb (sc_dep c fill) fill rfl f1 0 0 (by omega) _ (by omega) ?_
          rw [Nat.zero_add]
          exact K
        refine br_t rfl (br_f h1 (br_t h2 (x_fd hT (by omega) rfl (fun z => (hA fill z f1).2.2.1) ?_)))
        by_cases d1 : sc_dep c fill = mD
        · refine br_t (by rw [d1]) (hY (br_t (by rw [d1]) ⟨rfl, zz_in hS' hW hR⟩))
        · have d1' : ¬ nI (sc_dep c fill) = nI mD := fun q => d1 ((nI_eq (by omega) (by omega)).mp q)
          refine br_f d1' ?_
          by_cases d2 : mF < sc_F c + 2
          · have d2' : nI mF < nI (sc_F c) + 2 := by rw [show (2 : Int32) = nI 2 from rfl, nI_add]; exact nI_lt d2 (by omega)
            exact br_t d2' (hY (br_f d1' (br_t d2' ⟨rfl, zz_in hS' hW hR⟩)))
          · have d2' : ¬ nI mF < nI (sc_F c) + 2 := by rw [show (2 : Int32) = nI 2 from rfl, nI_add]; exact nI_nlt (by omega) (by omega)
            refine br_f d2' ?_
            by_cases d3 : lv_c (sc_lf c) (sc_F c) = mL
            · exact br_t (by rw [d3]) (hY (br_f d1' (br_f d2' (y_lv (by omega) rfl hbl (br_t (by rw [d3]) ⟨rfl, zz_in hS' hW hR⟩)))))
            · have d3' : ¬ nI (lv_c (sc_lf c) (sc_F c)) = nI mL := fun q => d3 ((nI_eq (by omega) (by omega)).mp q)
              refine br_f d3' (x_add hT f1 (by omega) hA rfl rfl hl ?_)
              refine ⟨vp_in_nI (by omega) (by decide), nm_r (e' := upd a_columnOf (sc_F c) (-1)) (by rw [nI_clamp (by omega)]) ?_⟩
              refine hY (br_f d1' (br_f d2' (y_lv (by omega) rfl hbl (br_f d3' (y_add (lf := 0) (F := sc_F c) (fill := fill) (by omega) rfl rfl ?_)))))
              refine ⟨rfl, ?_⟩
              refine zz_in (c := sc_add c fill lab 0) (fill := sc_F c + 1) (mF := mF) (mL := mL) (mD := mD) (mC := mC) (sd := 0) (R := R) (R0 := R0) (ch := ch) ?_ (ad_W hW) (ad_R (by omega) hR)
              have e1 := ad_fl (lab := lab) (lf := 0) hT hFl (by decide)
              have e2 := ad_E (lab := lab) (lf := 0) hT hE (by decide)
              rw [if_neg (by decide)] at e1 e2
              refine ⟨⟨ad_tr hT hFl hl (by decide), e1⟩, ⟨rfl, rfl, rfl, rfl, m1, m2, m3, m4⟩, ⟨rfl, by rw [ad_F]; omega, by rw [ad_F, ad_lv1]; rfl, by rw [ad_F, ad_lv1]; omega, rfl, rfl, by decide, fun q => absurd q (by decide)⟩, ?_, ad_A hA rfl, e2, ad_D hD (fun _ => by omega)⟩
              intro i hi
              rw [hM i hi, ad_F]
              apply decide_eq_decide.mpr
              rcases Nat.lt_trichotomy i (sc_F c) with w | w | w
              · rw [ad_lf (by omega)]
                exact ⟨fun q => ⟨by omega, q.2⟩, fun q => ⟨w, q.2⟩⟩
              · subst w
                rw [ad_lf1]
                omega
              · omega
      · exact br_t rfl (br_f h1 (br_f h2 (br_t rfl (br_f h1 (br_f h2 ⟨rfl, zz_in hS' hW hR⟩)))))
  · have e : sd = 1 := by omega
    subst e
    exact br_f (by decide) (br_f (by decide) ⟨rfl, zz_in hS' hW hR⟩)
theorem i_vc_leaf {k : Nat} {u : SX} {v : SY} (I : i_Rel k u v) (hk : k + 3 ≤ 1540) (v1 : Int32) : wpX_leaf (fun r u' => wpY_leaf (fun r' v' => r' = r ∧ i_Rel (k + 3) u' v') v v1) u v1 := by
  refine zz_el (P := fun u v => wpX_leaf (fun r u' => wpY_leaf (fun r' v' => r' = r ∧ i_Rel (k + 3) u' v') v v1) u v1) ?_ I
  intro f_maxFields f_maxLeaves f_maxDepth f_maxCells f_fields f_leaves f_leafMask f_filling f_sealed f_cells f_cellsKept f_records f_level f_chosen f_readRecord f_inRecord f_readLeaf f_readNode f_openDepth f_keepDepth f_eventField f_eventValue a_labels a_parent a_depthOf a_repOf a_lastOf a_columnOf a_reps a_defs a_values a_entries a_entriesKept a_held a_heldKept a_pathField a_pathLast a_pathRep a_readPos a_readValue a_jumpTo a_jumpDepth g_size g_reading g_pos b_leafBits b_kinds b_logFields b_logValues c fill mF mL mD mC sd R R0 ch hS hW hR
  have hS' := hS
  obtain ⟨⟨hT, hFl⟩, ⟨rfl, rfl, rfl, rfl, m1, m2, m3, m4⟩, ⟨rfl, F1, rfl, F2, rfl, rfl, s1, s2⟩, hM, hA, hE, hD⟩ := hS
  rcases Nat.eq_zero_or_pos sd with hs | hs
  · subst hs
    by_cases h1 : v1 < 0
    · exact br_t rfl (br_t h1 (br_t rfl (br_t h1 ⟨rfl, zz_in hS' hW hR⟩)))
    · by_cases h2 : v1 ≤ 2
      · obtain ⟨lab, hl, rfl⟩ := nI_of2 (n := 2) (by decide) h1 h2
        have f1 := hFl.1.1
        have hbl : ∀ n, 1 ≤ n → n ≤ sc_F c → b_leafBits (n - 1) = nI (sc_lf c n) := fun n a b => (hA n a b).2.2.2.2.2
        refine br_t rfl (br_f h1 (br_t h2 ?_))
        by_cases d2 : sc_F c = mF
        · exact br_t (by rw [d2]) (br_t rfl (br_f h1 (br_t h2 (br_t (by rw [d2]) ⟨rfl, zz_in hS' hW hR⟩))))
        · have d2' : ¬ nI (sc_F c) = nI mF := fun q => d2 ((nI_eq (by omega) (by omega)).mp q)
          refine br_f d2' ?_
          by_cases d3 : lv_c (sc_lf c) (sc_F c) = mL
          · exact br_t (by rw [d3]) (br_t rfl (br_f h1 (br_t h2 (br_f d2' (y_lv (by omega) rfl hbl (br_t (by rw [d3]) ⟨rfl, zz_in hS' hW hR⟩))))))
          · have d3' : ¬ nI (lv_c (sc_lf c) (sc_F c)) = nI mL := fun q => d3 ((nI_eq (by omega) (by omega)).mp q)
            refine br_f d3' (x_add hT f1 (by omega) hA rfl rfl hl ?_)
            refine ⟨vp_in_nI (by omega) (by decide), nm_r (e' := upd a_columnOf (sc_F c) (nI (lv_c (sc_lf c) (sc_F c)))) (by rw [nI_clamp (by omega)]) (nm_e (nm_r (nI_1 _) ?_))⟩
            refine br_t rfl (br_f h1 (br_t h2 (br_f d2' (y_lv (by omega) rfl hbl (br_f d3' (y_add (lf := 1) (F := sc_F c) (fill := fill) (by omega) rfl rfl ?_))))))
            refine ⟨rfl, ?_⟩
            refine zz_in (c := sc_add c fill lab 1) (fill := fill) (mF := mF) (mL := mL) (mD := mD) (mC := mC) (sd := 0) (R := R) (R0 := R0) (ch := ch) ?_ (ad_W hW) (ad_R (by omega) hR)
            have e1 := ad_fl (lab := lab) (lf := 1) hT hFl (by decide)
            have e2 := ad_E (lab := lab) (lf := 1) hT hE (by decide)
            rw [if_pos rfl] at e1 e2
            refine ⟨⟨ad_tr hT hFl hl (by decide), e1⟩, ⟨rfl, rfl, rfl, rfl, m1, m2, m3, m4⟩, ⟨rfl, by rw [ad_F]; omega, by rw [ad_F, ad_lv1], by rw [ad_F, ad_lv1]; omega, rfl, rfl, by decide, fun q => absurd q (by decide)⟩, ?_, ad_A hA rfl, e2, ad_D hD (fun q => absurd q (by decide))⟩
            intro i hi
            rw [b_or, hM i hi, ad_F, b_shl (sc_F c) (by omega) 1 hi]
            have one : bt 1 (i - sc_F c) = decide (i - sc_F c = 0) := (by decide +kernel : ∀ j, j < 32 → bt 1 j = decide (j = 0)) _ (by omega)
            rw [one, ← Bool.decide_and, ← Bool.decide_or]
            apply decide_eq_decide.mpr
            rcases Nat.lt_trichotomy i (sc_F c) with w | w | w
            · rw [ad_lf (by omega)]
              exact ⟨fun q => q.elim (fun q => ⟨by omega, q.2⟩) (fun q => by omega), fun q => Or.inl ⟨w, q.2⟩⟩
            · subst w
              rw [ad_lf1]
              exact ⟨fun _ => ⟨by omega, rfl⟩, fun _ => Or.inr ⟨by omega, by omega⟩⟩
            · omega
      · exact br_t rfl (br_f h1 (br_f h2 (br_t rfl (br_f h1 (br_f h2 ⟨rfl, zz_in hS' hW hR⟩)))))
  · have e : sd = 1 := by omega
    subst e
    exact br_f (by decide) (br_f (by decide) ⟨rfl, zz_in hS' hW hR⟩)
end
section
theorem up_fl {c : sc_T} {fill : Nat} (hT : sc_tr c) (hFl : sc_fl c fill) (h1 : 0 < fill) (h2 : fill < sc_F c) : sc_fl c (sc_par c fill) := by
  obtain ⟨⟨f1, f2, f3⟩, f4, f5⟩ := hFl
  have p := tr_par hT h1 f1
  refine ⟨⟨by omega, tr_plf hT h1 f1, fun e => ?_⟩, fun n n1 n2 => ?_, f5⟩
  · have := f3 e
    omega
  · have := (hT.2.2.2 n fill (by omega) f1).mpr ⟨n1, n2⟩
    exact f4 n (by omega) this
theorem up_E {c : sc_T} {fill : Nat} {aE : Nat → Int32} (hT : sc_tr c) (hFl : sc_fl c fill) (h1 : 0 < fill) (hE : rl_E c fill aE) : rl_E c (sc_par c fill) (upd aE (fill - 1) (im_f (sc_F c))) := by
  obtain ⟨⟨f1, f2, f3⟩, f4, f5⟩ := hFl
  intro n n1 n2 o
  by_cases e : n = fill
  · subst e
    rw [pk_us, f4 n (Nat.le_refl _) (tr_ge hT f1)]
  · rw [pk_un (by omega)]
    refine hE n n1 n2 (fun q => o ?_)
    exact (hT.2.2.2 n fill (by omega) f1).mp q.2
theorem up_W {c : sc_T} {mC : Nat} {R R0 : List wk_I} {f_cells f_cellsKept f_records f_level g_size : Int32} {a_reps a_defs a_values a_entries a_entriesKept a_held a_heldKept a_pathField a_pathLast a_pathRep b_kinds b_logFields b_logValues : Nat → Int32} (hW : rl_W c mC 0 R R0 f_cells f_cellsKept f_records f_level g_size a_reps a_defs a_values a_entries a_entriesKept a_held a_heldKept a_pathField a_pathLast a_pathRep b_kinds b_logFields b_logValues) : rl_W c mC 1 R R0 f_cells f_cellsKept f_records f_level g_size a_reps a_defs a_values a_entries a_entriesKept a_held a_heldKept a_pathField a_pathLast a_pathRep b_kinds b_logFields b_logValues := by
  obtain ⟨⟨v1, v2, v3, v4, v5, v6, v7, v8⟩, hN, hC, hL, hP, hE, hH, hZ⟩ := hW
  exact ⟨⟨v1, v2, v3, v4, v5, v6, fun q => absurd q (by decide), v8⟩, hN, hC, hL, hP, hE, hH, fun q => absurd q (by decide)⟩
theorem up_R {c : sc_T} {R0 : List wk_I} {ch : Nat → Bool} {f_chosen f_readRecord f_inRecord f_readLeaf f_readNode f_openDepth f_keepDepth g_reading g_pos : Int32} {a_readPos a_readValue a_jumpTo a_jumpDepth : Nat → Int32} (hR : rl_R c 0 R0 ch f_chosen f_readRecord f_inRecord f_readLeaf f_readNode f_openDepth f_keepDepth g_reading g_pos a_readPos a_readValue a_jumpTo a_jumpDepth) : rl_R c 1 R0 ch f_chosen f_readRecord f_inRecord f_readLeaf f_readNode f_openDepth f_keepDepth g_reading g_pos a_readPos a_readValue a_jumpTo a_jumpDepth := by
  obtain ⟨r1, r2, r3, r4⟩ := hR
  exact ⟨r1, r2, fun q => absurd q (by decide), r4⟩
theorem i_vc_up {k : Nat} {u : SX} {v : SY} (I : i_Rel k u v) (hk : k + 3 ≤ 1540) : wpX_up (fun r u' => wpY_up (fun r' v' => r' = r ∧ i_Rel (k + 3) u' v') v) u := by
  refine zz_el (P := fun u v => wpX_up (fun r u' => wpY_up (fun r' v' => r' = r ∧ i_Rel (k + 3) u' v') v) u) ?_ I
  intro f_maxFields f_maxLeaves f_maxDepth f_maxCells f_fields f_leaves f_leafMask f_filling f_sealed f_cells f_cellsKept f_records f_level f_chosen f_readRecord f_inRecord f_readLeaf f_readNode f_openDepth f_keepDepth f_eventField f_eventValue a_labels a_parent a_depthOf a_repOf a_lastOf a_columnOf a_reps a_defs a_values a_entries a_entriesKept a_held a_heldKept a_pathField a_pathLast a_pathRep a_readPos a_readValue a_jumpTo a_jumpDepth g_size g_reading g_pos b_leafBits b_kinds b_logFields b_logValues c fill mF mL mD mC sd R R0 ch hS hW hR
  have hS' := hS
  obtain ⟨⟨hT, hFl⟩, ⟨rfl, rfl, rfl, rfl, m1, m2, m3, m4⟩, ⟨rfl, F1, rfl, F2, rfl, rfl, s1, s2⟩, hM, hA, hE, hD⟩ := hS
  rcases Nat.eq_zero_or_pos sd with hs | hs
  · subst hs
    have f1 := hFl.1.1
    have hb : ∀ n, 1 ≤ n → n ≤ sc_F c → a_parent (n - 1) = im_f (sc_par c n) := fun n a b => (hA n a b).2.1
    refine br_t rfl ?_
    by_cases z : fill = sc_F c
    · refine br_t (by rw [im_n1, z]) (br_t rfl ⟨sc_F c + 1, ?_⟩)
      exact y_up hT hFl (by omega) rfl rfl hb (fun _ => ⟨rfl, zz_in hS' hW hR⟩) (fun q => by omega) (fun q => by omega) (sc_F c) 0 (by omega) _ (by omega)
    · refine br_f (fun q => z (by rw [im_n1, im_eq (by omega) (by omega)] at q; exact q.symm)) ?_
      rcases Nat.eq_zero_or_pos fill with w | w
      · subst w
        refine br_t rfl (br_t rfl ⟨sc_F c + 1, ?_⟩)
        refine y_up hT hFl (by omega) rfl rfl hb (fun q => absurd q z) (fun _ _ => ⟨rfl, ?_⟩) (fun _ q => by omega) (sc_F c) 0 (by omega) _ (by omega)
        exact zz_in (c := c) (fill := 0) (mF := mF) (mL := mL) (mD := mD) (mC := mC) (sd := 1) (R := R) (R0 := R0) (ch := ch) ⟨⟨hT, hFl⟩, ⟨rfl, rfl, rfl, rfl, m1, m2, m3, m4⟩, ⟨rfl, F1, rfl, F2, rfl, rfl, by decide, fun _ => rfl⟩, hM, hA, hE, hD⟩ (up_W hW) (up_R hR)
      · have hin : vp_in (im_f fill) 16 := im_in w (by omega) (by decide)
        have cl : (im_f fill).toNatClampNeg = fill - 1 := im_cl w (by omega)
        refine br_f (fun q => by rw [im_m1 (by omega)] at q; omega) ⟨hin, nm_r (e' := upd a_lastOf (fill - 1) (im_f (sc_F c))) (by rw [cl, im_n1]) ⟨hin, nm_r (e' := im_f (sc_par c fill)) (by rw [cl]; exact hb fill w f1) ?_⟩⟩
        refine br_t rfl ⟨sc_F c + 1, ?_⟩
        refine y_up hT hFl (by omega) rfl rfl hb (fun q => absurd q z) (fun _ q => by omega) (fun _ _ => ⟨rfl, ?_⟩) (sc_F c) 0 (by omega) _ (by omega)
        exact zz_in (c := c) (fill := sc_par c fill) (mF := mF) (mL := mL) (mD := mD) (mC := mC) (sd := 0) (R := R) (R0 := R0) (ch := ch) ⟨⟨hT, up_fl hT hFl w (by omega)⟩, ⟨rfl, rfl, rfl, rfl, m1, m2, m3, m4⟩, ⟨rfl, F1, rfl, F2, rfl, rfl, by decide, fun q => absurd q (by decide)⟩, hM, hA, up_E hT hFl w hE, hD⟩ hW hR
  · have e : sd = 1 := by omega
    subst e
    exact br_f (by decide) (br_f (by decide) ⟨rfl, zz_in hS' hW hR⟩)
theorem i_vc_describe {k : Nat} {u : SX} {v : SY} (I : i_Rel k u v) (hk : k + 3 ≤ 1540) (v1 : Int32) : wpX_describe (fun r => wpY_describe (fun r' => r' = r ∧ i_Rel (k + 3) u v) v v1) u v1 := by
  refine zz_el (P := fun u v => wpX_describe (fun r => wpY_describe (fun r' => r' = r ∧ i_Rel (k + 3) u v) v v1) u v1) ?_ I
  intro f_maxFields f_maxLeaves f_maxDepth f_maxCells f_fields f_leaves f_leafMask f_filling f_sealed f_cells f_cellsKept f_records f_level f_chosen f_readRecord f_inRecord f_readLeaf f_readNode f_openDepth f_keepDepth f_eventField f_eventValue a_labels a_parent a_depthOf a_repOf a_lastOf a_columnOf a_reps a_defs a_values a_entries a_entriesKept a_held a_heldKept a_pathField a_pathLast a_pathRep a_readPos a_readValue a_jumpTo a_jumpDepth g_size g_reading g_pos b_leafBits b_kinds b_logFields b_logValues c fill mF mL mD mC sd R R0 ch hS hW hR
  have hS' := hS
  obtain ⟨⟨hT, hFl⟩, ⟨rfl, rfl, rfl, rfl, m1, m2, m3, m4⟩, ⟨rfl, F1, rfl, F2, rfl, rfl, s1, s2⟩, hM, hA, hE, hD⟩ := hS
  have hrel : i_Rel (k + 3) (nI mF, nI mL, nI mD, nI mC, nI (sc_F c), nI (lv_c (sc_lf c) (sc_F c)), f_leafMask, im_f fill, nI sd, f_cells, f_cellsKept, f_records, f_level, f_chosen, f_readRecord, f_inRecord, f_readLeaf, f_readNode, f_openDepth, f_keepDepth, f_eventField, f_eventValue, a_labels, a_parent, a_depthOf, a_repOf, a_lastOf, a_columnOf, a_reps, a_defs, a_values, a_entries, a_entriesKept, a_held, a_heldKept, a_pathField, a_pathLast, a_pathRep, a_readPos, a_readValue, a_jumpTo, a_jumpDepth) (nI mF, nI mL, nI mD, nI mC, nI (sc_F c), im_f fill, nI sd, g_size, g_reading, f_chosen, g_pos, f_eventField, f_eventValue, a_parent, a_labels, b_leafBits, b_kinds, b_logFields, b_logValues) := zz_in hS' hW hR
  unfold wpX_describe
  refine x_is (F := sc_F c) (by omega) rfl (fun n n1 n2 e => ?_) (fun q => ?_)
  · subst e
    have hin : vp_in (im_f n) 16 := im_in n1 (by omega) (by decide)
    have cl : (im_f n).toNatClampNeg = n - 1 := im_cl n1 (by omega)
    obtain ⟨a1, a2, a3, a4, a5, a6⟩ := hA n n1 n2
    have g0 : ¬ im_f n < 0 := fun q => by rw [im_lt0 (by omega)] at q; omega
    have gF : im_f n < nI (sc_F c) := by rw [im_p n1]; exact nI_lt (by omega) (by omega)
    refine br_f (by decide) ⟨hin, ?_⟩
    rw [cl, a5]
    have lf := tr_lf hT n1 n2
    by_cases z : sc_lf c n = 1
    · rw [if_pos z]
      refine br_f (fun q => ?_) (And.intro hin (And.intro hin (br_f g0 (br_t gF ⟨hin, hin, hin, ?_, hrel⟩))))
      · have := col_lt n1 n2 z
        have e := Int32.toInt_inj.mpr q
        rw [nI_toInt (by omega), show (-1 : Int32).toInt = -1 from by decide] at e
        omega
      · rw [cl, a6, z]
        rfl
    · rw [if_neg z]
      refine br_t rfl (And.intro hin (And.intro hin (br_f g0 (br_t gF ⟨hin, hin, hin, ?_, hrel⟩))))
      rw [cl, a6, show sc_lf c n = 0 by omega]
      rfl
  · refine br_t rfl ?_
    rcases q with q | q
    · exact br_t q ⟨rfl, hrel⟩
    · by_cases w : v1 < 0
      · exact br_t w ⟨rfl, hrel⟩
      · refine br_f w (br_f (fun q2 => ?_) ⟨rfl, hrel⟩)
        rw [Int32.le_iff_toInt_le] at q
        rw [Int32.lt_iff_toInt_lt] at q2
        omega
end
section
/-! is a required child missing? -/
def mi_P (c : sc_T) (g lo hi : Nat) : Prop := ∃ m, lo < m ∧ m < hi ∧ m ≤ sc_F c ∧ sc_par c m = g ∧ sc_lab c m = 0
section
variable {f_maxFields f_maxLeaves f_maxDepth f_maxCells f_fields f_leaves f_leafMask f_filling f_sealed f_cells f_cellsKept f_records f_level f_chosen f_readRecord f_inRecord f_readLeaf f_readNode f_openDepth f_keepDepth f_eventField f_eventValue : Int32} {a_labels a_parent a_depthOf a_repOf a_lastOf a_columnOf a_reps a_defs a_values a_entries a_entriesKept a_held a_heldKept a_pathField a_pathLast a_pathRep a_readPos a_readValue a_jumpTo a_jumpDepth : Nat → Int32}
theorem x_m5 {post : Int32 → Prop} {c : sc_T} {g hi : Nat} {b_leafBits : Nat → Int32} (hT : sc_tr c) (hF : sc_F c ≤ 16) (hA : rl_A c a_labels a_parent a_depthOf a_repOf a_columnOf b_leafBits) (hg : g ≤ 16) (hh : hi ≤ sc_F c + 1) : ∀ d lo, lo + 1 + d = hi ∨ (hi ≤ lo + 1 ∧ d = 0 ∧ lo ≤ 17) → (mi_P c g lo hi → post 1) → (¬ mi_P c g lo hi → post 0) → ∀ n, d < n → wX_missing_5 post (im_f hi) (im_f g) f_maxFields f_maxLeaves f_maxDepth f_maxCells f_fields f_leaves f_leafMask f_filling f_sealed f_cells f_cellsKept f_records f_level f_chosen f_readRecord f_inRecord f_readLeaf f_readNode f_openDepth f_keepDepth f_eventField f_eventValue a_labels a_parent a_depthOf a_repOf a_lastOf a_columnOf a_reps a_defs a_values a_entries a_entriesKept a_held a_heldKept a_pathField a_pathLast a_pathRep a_readPos a_readValue a_jumpTo a_jumpDepth n (im_f (lo + 1)) := by
  intro d
  induction d with
  | zero =>
    intro lo hd h1 h0 n hn
    obtain ⟨m, rfl⟩ : ∃ m, n = m + 1 := ⟨n - 1, by omega⟩
    refine br_t ?_ (h0 (fun ⟨m, a, b, _⟩ => by omega))
    rw [im_le (by omega) (by omega)]
    omega
  | succ d ih =>
    intro lo hd h1 h0 n hn
    obtain ⟨m, rfl⟩ : ∃ m, n = m + 1 := ⟨n - 1, by omega⟩
    have hlo : lo + 1 + (d + 1) = hi := by omega
    have hin : vp_in (im_f (lo + 1)) 16 := im_in (by omega) (by omega) (by decide)
    have cl : (im_f (lo + 1)).toNatClampNeg = lo + 1 - 1 := im_cl (by omega) (by omega)
    obtain ⟨a1, a2, a3, a4, a5, a6⟩ := hA (lo + 1) (by omega) (by omega)
    have pp := tr_par hT (n := lo + 1) (by omega) (by omega)
    have lb := tr_lab hT (n := lo + 1) (by omega) (by omega)
    have nx : ¬ (sc_par c (lo + 1) = g ∧ sc_lab c (lo + 1) = 0) → wX_missing_5 post (im_f hi) (im_f g) f_maxFields f_maxLeaves f_maxDepth f_maxCells f_fields f_leaves f_leafMask f_filling f_sealed f_cells f_cellsKept f_records f_level f_chosen f_readRecord f_inRecord f_readLeaf f_readNode f_openDepth f_keepDepth f_eventField f_eventValue a_labels a_parent a_depthOf a_repOf a_lastOf a_columnOf a_reps a_defs a_values a_entries a_entriesKept a_held a_heldKept a_pathField a_pathLast a_pathRep a_readPos a_readValue a_jumpTo a_jumpDepth m (im_f (lo + 1 + 1)) := by
      intro q
      have iff : mi_P c g (lo + 1) hi ↔ mi_P c g lo hi := by
        constructor
        · rintro ⟨j, x1, x2, x3, x4, x5⟩
          exact ⟨j, by omega, x2, x3, x4, x5⟩
        · rintro ⟨j, x1, x2, x3, x4, x5⟩
          refine ⟨j, ?_, x2, x3, x4, x5⟩
          rcases Nat.lt_or_ge (lo + 1) j with w | w
          · exact w
          · have e : j = lo + 1 := by omega
            rw [e] at x4 x5
            exact absurd ⟨x4, x5⟩ q
      exact ih (lo + 1) (by omega) (fun y => h1 (iff.mp y)) (fun y => h0 (fun w => y (iff.mpr w))) m (by omega)
    refine br_f (fun q => by rw [im_le (by omega) (by omega)] at q; omega) ⟨hin, ?_⟩
    rw [cl, a2]
    by_cases z : sc_par c (lo + 1) = g
    · refine br_t (by rw [z]) ⟨hin, ?_⟩
      rw [a1]
      by_cases w : sc_lab c (lo + 1) = 0
      · exact br_t (by rw [w]; rfl) (h1 ⟨lo + 1, by omega, by omega, by omega, z, w⟩)
      · exact br_f (fun q => w ((nI_eq (b := 0) (by omega) (by decide)).mp q)) (nm_r (im_a1 _) (nx (fun q => w q.2)))
    · exact br_f (fun q => z ((im_eq (by omega) (by omega)).mp q)) (nm_r (im_a1 _) (nx (fun q => z q.1)))
theorem x_ms {post : Int32 → Prop} {c : sc_T} {g lo hi : Nat} {b_leafBits : Nat → Int32} (hT : sc_tr c) (hF : sc_F c ≤ 16) (hA : rl_A c a_labels a_parent a_depthOf a_repOf a_columnOf b_leafBits) (hg : g ≤ 16) (hh : hi ≤ sc_F c + 1) (hl : lo ≤ 17) (h1 : mi_P c g lo hi → post 1) (h0 : ¬ mi_P c g lo hi → post 0) : wpX_missing post (f_maxFields, f_maxLeaves, f_maxDepth, f_maxCells, f_fields, f_leaves, f_leafMask, f_filling, f_sealed, f_cells, f_cellsKept, f_records, f_level, f_chosen, f_readRecord, f_inRecord, f_readLeaf, f_readNode, f_openDepth, f_keepDepth, f_eventField, f_eventValue, a_labels, a_parent, a_depthOf, a_repOf, a_lastOf, a_columnOf, a_reps, a_defs, a_values, a_entries, a_entriesKept, a_held, a_heldKept, a_pathField, a_pathLast, a_pathRep, a_readPos, a_readValue, a_jumpTo, a_jumpDepth) (im_f lo) (im_f hi) (im_f g) := by
  refine nm_r (im_a1 lo) ⟨hi + 1, ?_⟩
  exact x_m5 hT hF hA hg hh (hi - (lo + 1)) lo (by omega) h1 h0 _ (by omega)
end
section
variable {g_maxFields g_maxLeaves g_maxDepth g_maxCells g_fields g_filling g_schemaDone g_size g_reading g_chosen g_pos g_eventField g_eventValue : Int32} {b_parents b_labels b_leafBits b_kinds b_logFields b_logValues : Nat → Int32}
theorem y_m3 {post : Int32 → Prop} {c : sc_T} {g lo hi : Nat} (hT : sc_tr c) (hF : sc_F c ≤ 16) (e : g_fields = nI (sc_F c)) (hb : ∀ n, 1 ≤ n → n ≤ sc_F c → b_parents (n - 1) = im_f (sc_par c n)) (hb2 : ∀ n, 1 ≤ n → n ≤ sc_F c → b_labels (n - 1) = nI (sc_lab c n)) (hg : g ≤ 16) (hh : hi ≤ 17) (hl : lo ≤ 17) : ∀ d j, j + d = sc_F c → (mi_P c g (max lo j) hi → post 1) → (¬ mi_P c g (max lo j) hi → post 0) → ∀ n, d < n → wY_missing_3 post (im_f g) (im_f lo) (im_f hi) g_maxFields g_maxLeaves g_maxDepth g_maxCells g_fields g_filling g_schemaDone g_size g_reading g_chosen g_pos g_eventField g_eventValue b_parents b_labels b_leafBits b_kinds b_logFields b_logValues n (nI j) := by
  subst e
  intro d
  induction d with
  | zero =>
    intro j hj h1 h0 n hn
    obtain ⟨m, rfl⟩ : ∃ m, n = m + 1 := ⟨n - 1, by omega⟩
    refine br_t (nI_le (by omega) (by omega)) (h0 ?_)
    rintro ⟨m, a, b, d, _⟩
    omega
  | succ d ih =>
    intro j hj h1 h0 n hn
    obtain ⟨m, rfl⟩ : ∃ m, n = m + 1 := ⟨n - 1, by omega⟩
    have hin : vp_in (nI j) 16 := vp_in_nI (by omega) (by decide)
    have a := hb (j + 1) (by omega) (by omega)
    have a2 := hb2 (j + 1) (by omega) (by omega)
    rw [Nat.add_sub_cancel] at a a2
    have pp := tr_par hT (n := j + 1) (by omega) (by omega)
    have lb := tr_lab hT (n := j + 1) (by omega) (by omega)
    have nx : ¬ ((sc_par c (j + 1) = g ∧ sc_lab c (j + 1) = 0) ∧ lo < j + 1 ∧ j + 1 < hi) → wY_missing_3 post (im_f g) (im_f lo) (im_f hi) g_maxFields g_maxLeaves g_maxDepth g_maxCells (nI (sc_F c)) g_filling g_schemaDone g_size g_reading g_chosen g_pos g_eventField g_eventValue b_parents b_labels b_leafBits b_kinds b_logFields b_logValues m (nI (j + 1)) := by
      intro q
      have iff : mi_P c g (max lo (j + 1)) hi ↔ mi_P c g (max lo j) hi := by
        constructor
        · rintro ⟨i, x1, x2, x3, x4, x5⟩
          exact ⟨i, by omega, x2, x3, x4, x5⟩
        · rintro ⟨i, x1, x2, x3, x4, x5⟩
          refine ⟨i, ?_, x2, x3, x4, x5⟩
          rcases Nat.lt_or_ge (j + 1) i with w | w
          · omega
          · have e : i = j + 1 := by omega
            rw [e] at x4 x5
            exact absurd ⟨⟨x4, x5⟩, by omega, by omega⟩ q
      exact ih (j + 1) (by omega) (fun y => h1 (iff.mp y)) (fun y => h0 (fun w => y (iff.mpr w))) m (by omega)
    refine br_f (nI_ge (by omega) (by omega)) ⟨hin, ?_⟩
    rw [nI_clamp (by omega), a]
    by_cases z : sc_par c (j + 1) = g
    · refine br_t (by rw [z]) ⟨hin, ?_⟩
      rw [a2]
      by_cases w : sc_lab c (j + 1) = 0
      · refine br_t (by rw [w]; rfl) ?_
        rw [← im_s j]
        by_cases y1 : j + 1 ≤ lo
        · refine br_t ((im_le (by omega) (by omega)).mpr y1) (nm_r (nI_1 _) (nx (fun q => by omega)))
        · refine br_f (fun q => y1 ((im_le (by omega) (by omega)).mp q)) ?_
          by_cases y2 : hi ≤ j + 1
          · exact br_t ((im_le (by omega) (by omega)).mpr y2) (nm_r (nI_1 _) (nx (fun q => by omega)))
          · exact br_f (fun q => y2 ((im_le (by omega) (by omega)).mp q)) (h1 ⟨j + 1, by omega, by omega, by omega, z, w⟩)
      · exact br_f (fun q => w ((nI_eq (b := 0) (by omega) (by decide)).mp q)) (nm_r (nI_1 _) (nx (fun q => w q.1.2)))
    · exact br_f (fun q => z ((im_eq (by omega) (by omega)).mp q)) (nm_r (nI_1 _) (nx (fun q => z q.1.1)))
theorem y_ms {post : Int32 → Prop} {c : sc_T} {g lo hi : Nat} (hT : sc_tr c) (hF : sc_F c ≤ 16) (e : g_fields = nI (sc_F c)) (hb : ∀ n, 1 ≤ n → n ≤ sc_F c → b_parents (n - 1) = im_f (sc_par c n)) (hb2 : ∀ n, 1 ≤ n → n ≤ sc_F c → b_labels (n - 1) = nI (sc_lab c n)) (hg : g ≤ 16) (hh : hi ≤ 17) (hl : lo ≤ 17) (h1 : mi_P c g lo hi → post 1) (h0 : ¬ mi_P c g lo hi → post 0) : wpY_missing post (g_maxFields, g_maxLeaves, g_maxDepth, g_maxCells, g_fields, g_filling, g_schemaDone, g_size, g_reading, g_chosen, g_pos, g_eventField, g_eventValue, b_parents, b_labels, b_leafBits, b_kinds, b_logFields, b_logValues) (im_f g) (im_f lo) (im_f hi) := by
  refine ⟨sc_F c + 1, ?_⟩
  exact y_m3 hT hF e hb hb2 hg hh hl (sc_F c) 0 (by omega) (by rw [Nat.max_eq_left (Nat.zero_le _)]; exact h1) (by rw [Nat.max_eq_left (Nat.zero_le _)]; exact h0) _ (by omega)
theorem y_ce {post : Int32 → Prop} {c : sc_T} {R : List wk_I} (hV : wk_V c R) (hL : wr_L b_kinds b_logFields b_logValues R) (he : wk_ev R ≤ 64) (hs : g_size = nI (wk_ev R)) (hp : post (nI (wk_ce R))) : wpY_cells post (g_maxFields, g_maxLeaves, g_maxDepth, g_maxCells, g_fields, g_filling, g_schemaDone, g_size, g_reading, g_chosen, g_pos, g_eventField, g_eventValue, b_parents, b_labels, b_leafBits, b_kinds, b_logFields, b_logValues) := by
  subst hs
  have t := V_tag R hV
  unfold wpY_cells
  refine yk_K hL he (yk_K hL he (yk_K hL he ?_))
  rw [nI_add, nI_add, ck_123 R t]
  exact hp
theorem y_wr {post : SY → Prop} {R : List wk_I} {x y w : Int32} (he : wk_ev R < 64) (hs : g_size = nI (wk_ev R)) (hp : post (g_maxFields, g_maxLeaves, g_maxDepth, g_maxCells, g_fields, g_filling, g_schemaDone, nI (wk_ev R + 1), g_reading, g_chosen, g_pos, g_eventField, g_eventValue, b_parents, b_labels, b_leafBits, upd b_kinds (wk_ev R) x, upd b_logFields (wk_ev R) y, upd b_logValues (wk_ev R) w)) : wpY_write post (g_maxFields, g_maxLeaves, g_maxDepth, g_maxCells, g_fields, g_filling, g_schemaDone, g_size, g_reading, g_chosen, g_pos, g_eventField, g_eventValue, b_parents, b_labels, b_leafBits, b_kinds, b_logFields, b_logValues) x y w := by
  subst hs
  have hin : vp_in (nI (wk_ev R)) 64 := vp_in_nI he (by decide)
  have cl : (nI (wk_ev R)).toNatClampNeg = wk_ev R := nI_clamp (by omega)
  exact br_t (nI_lt (b := 64) he (by decide)) ⟨hin, nm_r (by rw [cl]) ⟨hin, nm_r (by rw [cl]) ⟨hin, nm_r (by rw [cl]) (nm_r (nI_1 _) hp)⟩⟩⟩
end
end
section
section
variable {g_maxFields g_maxLeaves g_maxDepth g_maxCells g_fields g_filling g_schemaDone g_size g_reading g_chosen g_pos g_eventField g_eventValue : Int32} {b_parents b_labels b_leafBits b_kinds b_logFields b_logValues : Nat → Int32}
theorem y_ckp {post : Int32 → Prop} {k0 n g lc w F lf p lab : Nat} (hcur : ∀ post : Int32 → Prop, post (nI k0) → wpY_current post (g_maxFields, g_maxLeaves, g_maxDepth, g_maxCells, g_fields, g_filling, g_schemaDone, g_size, g_reading, g_chosen, g_pos, g_eventField, g_eventValue, b_parents, b_labels, b_leafBits, b_kinds, b_logFields, b_logValues)) (hlc : ∀ post : Int32 → Prop, post (im_f lc) → wpY_lastChild post (g_maxFields, g_maxLeaves, g_maxDepth, g_maxCells, g_fields, g_filling, g_schemaDone, g_size, g_reading, g_chosen, g_pos, g_eventField, g_eventValue, b_parents, b_labels, b_leafBits, b_kinds, b_logFields, b_logValues) (nI k0)) (hk : k0 < 64) (hF : F ≤ 16) (eF : g_fields = nI F) (n1 : 1 ≤ n) (n2 : n ≤ F) (ef : b_logFields k0 = im_f g) (elf : b_leafBits (n - 1) = nI lf) (ep : b_parents (n - 1) = im_f p) (eLb : b_labels (n - 1) = nI lab) (w1 : w ≤ 1) (lf1 : lf ≤ 1) (p1 : p ≤ 16) (g1 : g ≤ 16) (lc1 : lc ≤ 16) (lab1 : lab ≤ 2)
    (h10 : lf ≠ w → post (-10)) (h11 : lf = w → p ≠ g → post (-11)) (h12 : lf = w → p = g → (n < lc ∨ (n = lc ∧ lab ≠ 2)) → post (-12)) (h87 : lf = w → p = g → (lc < n ∨ (n = lc ∧ lab = 2)) → wY_check_87 post (im_f n) (im_f lc) g_maxFields g_maxLeaves g_maxDepth g_maxCells g_fields g_filling g_schemaDone g_size g_reading g_chosen g_pos g_eventField g_eventValue b_parents b_labels b_leafBits b_kinds b_logFields b_logValues) : wpY_check post (g_maxFields, g_maxLeaves, g_maxDepth, g_maxCells, g_fields, g_filling, g_schemaDone, g_size, g_reading, g_chosen, g_pos, g_eventField, g_eventValue, b_parents, b_labels, b_leafBits, b_kinds, b_logFields, b_logValues) (im_f n) (nI w) := by
  have hin : vp_in (im_f n) 16 := im_in n1 (by omega) (by decide)
  have cl : (im_f n).toNatClampNeg = n - 1 := im_cl n1 (by omega)
  unfold wpY_check
  refine hcur _ ?_
  refine br_t (nI_pos' (by omega)) (br_f (fun q => by rw [im_lt0 (by omega)] at q; omega) (br_f (by rw [eF, im_p n1]; exact nI_ge (by omega) (by omega)) ⟨hin, ?_⟩))
  rw [cl, elf]
  by_cases z1 : lf = w
  · refine br_t (by rw [z1]) ⟨hin, vp_in_nI hk (by decide), ?_⟩
    rw [nI_clamp (by omega), ef, ep]
    by_cases z2 : p = g
    · refine br_t (by rw [z2]) (hlc _ ?_)
      rcases Nat.lt_trichotomy n lc with z3 | z3 | z3
      · exact br_t ((im_lt (by omega) (by omega)).mpr z3) (h12 z1 z2 (Or.inl z3))
      · refine br_f (fun q => by rw [im_lt (by omega) (by omega)] at q; omega) (br_t (by rw [z3]) ⟨hin, ?_⟩)
        rw [eLb]
        by_cases z4 : lab = 2
        · exact br_t (by rw [z4]; rfl) (h87 z1 z2 (Or.inr ⟨z3, z4⟩))
        · exact br_f (fun q => z4 ((nI_eq (b := 2) (by omega) (by decide)).mp q)) (h12 z1 z2 (Or.inr ⟨z3, z4⟩))
      · exact br_f (fun q => by rw [im_lt (by omega) (by omega)] at q; omega) (br_f (fun q => by rw [im_eq (by omega) (by omega)] at q; omega) (h87 z1 z2 (Or.inl z3)))
    · exact br_f (fun q => z2 ((im_eq (by omega) (by omega)).mp q)) (h11 z1 z2)
  · exact br_f (fun q => z1 ((nI_eq (by omega) (by omega)).mp q)) (h10 z1)
theorem y_87 {post : Int32 → Prop} {c : sc_T} {R : List wk_I} {mC n g lc : Nat} (hT : sc_tr c) (hF : sc_F c ≤ 16) (e : g_fields = nI (sc_F c)) (hb : ∀ n, 1 ≤ n → n ≤ sc_F c → b_parents (n - 1) = im_f (sc_par c n)) (hb2 : ∀ n, 1 ≤ n → n ≤ sc_F c → b_labels (n - 1) = nI (sc_lab c n)) (n1 : 1 ≤ n) (n2 : n ≤ sc_F c) (eg : sc_par c n = g) (lc1 : lc ≤ 16) (hV : wk_V c R) (hL : wr_L b_kinds b_logFields b_logValues R) (he : wk_ev R ≤ 64) (hs : g_size = nI (wk_ev R)) (hm : g_maxCells = nI mC) (m1 : mC ≤ 32) (hc : wk_ce R ≤ mC) (h13 : mi_P c g lc n → post (-13)) (h6 : ¬ mi_P c g lc n → wk_ce R = mC → post (-6)) (h0 : ¬ mi_P c g lc n → wk_ce R < mC → post 0) : wY_check_87 post (im_f n) (im_f lc) g_maxFields g_maxLeaves g_maxDepth g_maxCells g_fields g_filling g_schemaDone g_size g_reading g_chosen g_pos g_eventField g_eventValue b_parents b_labels b_leafBits b_kinds b_logFields b_logValues := by
  have pp := tr_par hT n1 n2
  refine And.intro (im_in n1 (by omega) (by decide)) ?_
  rw [im_cl n1 (by omega), hb n n1 n2, eg]
  refine y_ms hT hF e hb hb2 (by omega) (by omega) (by omega) (fun q => br_f (by decide) (h13 q)) (fun q => br_t rfl (y_ce hV hL he hs ?_))
  rw [hm]
  rcases Nat.lt_or_ge (wk_ce R) mC with z | z
  · exact br_f (fun w => by rw [nI_eq (by omega) (by omega)] at w; omega) (h0 q z)
  · have e : wk_ce R = mC := by omega
    exact br_t (by rw [e]) (h6 q e)
end
section
variable {f_maxFields f_maxLeaves f_maxDepth f_maxCells f_fields f_leaves f_leafMask f_filling f_sealed f_cells f_cellsKept f_records f_level f_chosen f_readRecord f_inRecord f_readLeaf f_readNode f_openDepth f_keepDepth f_eventField f_eventValue : Int32} {a_labels a_parent a_depthOf a_repOf a_lastOf a_columnOf a_reps a_defs a_values a_entries a_entriesKept a_held a_heldKept a_pathField a_pathLast a_pathRep a_readPos a_readValue a_jumpTo a_jumpDepth : Nat → Int32}
theorem x_ckp {post : Int32 → Prop} {n g lc w F lf p lab lv col : Nat} (hlv : lv < 8) (e0 : f_level = nI lv) (hF : F ≤ 16) (eF : f_fields = nI F) (n1 : 1 ≤ n) (n2 : n ≤ F) (ef : a_pathField lv = im_f g) (el : a_pathLast lv = im_f lc) (elf : a_columnOf (n - 1) = if lf = 1 then nI col else -1) (hcol : lf = 1 → col < 8) (ep : a_parent (n - 1) = im_f p) (eLb : a_labels (n - 1) = nI lab) (w1 : w ≤ 1) (lf1 : lf ≤ 1) (p1 : p ≤ 16) (g1 : g ≤ 16) (lc1 : lc ≤ 16) (lab1 : lab ≤ 2)
    (h10 : lf ≠ w → post (-10)) (h11 : lf = w → p ≠ g → post (-11)) (h12 : lf = w → p = g → (n < lc ∨ (n = lc ∧ lab ≠ 2)) → post (-12)) (h100 : lf = w → p = g → (lc < n ∨ (n = lc ∧ lab = 2)) → wX_check_100 post (im_f n) (im_f lc) f_maxFields f_maxLeaves f_maxDepth f_maxCells f_fields f_leaves f_leafMask f_filling f_sealed f_cells f_cellsKept f_records f_level f_chosen f_readRecord f_inRecord f_readLeaf f_readNode f_openDepth f_keepDepth f_eventField f_eventValue a_labels a_parent a_depthOf a_repOf a_lastOf a_columnOf a_reps a_defs a_values a_entries a_entriesKept a_held a_heldKept a_pathField a_pathLast a_pathRep a_readPos a_readValue a_jumpTo a_jumpDepth) : wpX_check post (f_maxFields, f_maxLeaves, f_maxDepth, f_maxCells, f_fields, f_leaves, f_leafMask, f_filling, f_sealed, f_cells, f_cellsKept, f_records, f_level, f_chosen, f_readRecord, f_inRecord, f_readLeaf, f_readNode, f_openDepth, f_keepDepth, f_eventField, f_eventValue, a_labels, a_parent, a_depthOf, a_repOf, a_lastOf, a_columnOf, a_reps, a_defs, a_values, a_entries, a_entriesKept, a_held, a_heldKept, a_pathField, a_pathLast, a_pathRep, a_readPos, a_readValue, a_jumpTo, a_jumpDepth) (im_f n) (nI w) := by
  have hin : vp_in (im_f n) 16 := im_in n1 (by omega) (by decide)
  have cl : (im_f n).toNatClampNeg = n - 1 := im_cl n1 (by omega)
  have hil : vp_in f_level 8 := by rw [e0]; exact vp_in_nI hlv (by decide)
  have k36 : wX_check_36 post (im_f n) (nI w) (nI lf) f_maxFields f_maxLeaves f_maxDepth f_maxCells f_fields f_leaves f_leafMask f_filling f_sealed f_cells f_cellsKept f_records f_level f_chosen f_readRecord f_inRecord f_readLeaf f_readNode f_openDepth f_keepDepth f_eventField f_eventValue a_labels a_parent a_depthOf a_repOf a_lastOf a_columnOf a_reps a_defs a_values a_entries a_entriesKept a_held a_heldKept a_pathField a_pathLast a_pathRep a_readPos a_readValue a_jumpTo a_jumpDepth := by
    by_cases z1 : lf = w
    · refine br_t (by rw [z1]) ⟨hin, hil, ?_⟩
      rw [cl, e0, nI_clamp (by omega), ef, ep, el]
      by_cases z2 : p = g
      · refine br_t (by rw [z2]) ⟨vp_in_nI hlv (by decide), nm_e ?_⟩
        rcases Nat.lt_trichotomy n lc with z3 | z3 | z3
        · exact br_f (fun q => by rw [im_le (by omega) (by omega)] at q; omega) (h12 z1 z2 (Or.inl z3))
        · refine br_t ((im_le (by omega) (by omega)).mpr (by omega)) (br_t (by rw [z3]) ⟨hin, ?_⟩)
          rw [eLb]
          by_cases z4 : lab = 2
          · have := h100 z1 z2 (Or.inr ⟨z3, z4⟩)
            rw [e0] at this
            exact br_t (by rw [z4]; rfl) this
          · exact br_f (fun q => z4 ((nI_eq (b := 2) (by omega) (by decide)).mp q)) (h12 z1 z2 (Or.inr ⟨z3, z4⟩))
        · have := h100 z1 z2 (Or.inl z3)
          rw [e0] at this
          exact br_t ((im_le (by omega) (by omega)).mpr (by omega)) (br_f (fun q => by rw [im_eq (by omega) (by omega)] at q; omega) this)
      · exact br_f (fun q => z2 ((im_eq (by omega) (by omega)).mp q)) (h11 z1 z2)
    · exact br_f (fun q => z1 ((nI_eq (by omega) (by omega)).mp q).symm.symm) (h10 z1)
  unfold wpX_check
  refine br_t (by rw [e0]; exact nI_pos' (by omega)) (x_is hF eF (fun _ _ _ _ => br_f (by decide) ⟨hin, ?_⟩) (fun q => ?_))
  · rw [cl, elf]
    by_cases z : lf = 1
    · rw [if_pos z]
      refine br_f (fun q => ?_) (by rw [z] at k36; exact k36)
      have := hcol z
      have e := Int32.toInt_inj.mpr q
      rw [nI_toInt (by omega), show (-1 : Int32).toInt = -1 from by decide] at e
      omega
    · rw [if_neg z]
      have : lf = 0 := by omega
      exact br_t rfl (by rw [this] at k36; exact k36)
  · exfalso
    rcases q with q | q
    · rw [im_lt0 (by omega)] at q
      omega
    · rw [eF, im_p n1, nI_leI (by omega) (by omega)] at q
      omega
theorem x_100 {post : Int32 → Prop} {c : sc_T} {R : List wk_I} {mC n g lc : Nat} {b_leafBits : Nat → Int32} (hT : sc_tr c) (hF : sc_F c ≤ 16) (hA : rl_A c a_labels a_parent a_depthOf a_repOf a_columnOf b_leafBits) (n1 : 1 ≤ n) (n2 : n ≤ sc_F c) (eg : sc_par c n = g) (lc1 : lc ≤ 16) (ec : f_cells = nI (wk_ce R)) (hm : f_maxCells = nI mC) (m1 : mC ≤ 32) (hc : wk_ce R ≤ mC) (h13 : mi_P c g lc n → post (-13)) (h6 : ¬ mi_P c g lc n → wk_ce R = mC → post (-6)) (h0 : ¬ mi_P c g lc n → wk_ce R < mC → post 0) : wX_check_100 post (im_f n) (im_f lc) f_maxFields f_maxLeaves f_maxDepth f_maxCells f_fields f_leaves f_leafMask f_filling f_sealed f_cells f_cellsKept f_records f_level f_chosen f_readRecord f_inRecord f_readLeaf f_readNode f_openDepth f_keepDepth f_eventField f_eventValue a_labels a_parent a_depthOf a_repOf a_lastOf a_columnOf a_reps a_defs a_values a_entries a_entriesKept a_held a_heldKept a_pathField a_pathLast a_pathRep a_readPos a_readValue a_jumpTo a_jumpDepth := by
  have pp := tr_par hT n1 n2
  refine And.intro (im_in n1 (by omega) (by decide)) ?_
  rw [im_cl n1 (by omega), (hA n n1 n2).2.1, eg]
  refine x_ms hT hF hA (by omega) (by omega) (by omega) (fun q => br_f (by decide) (h13 q)) (fun q => br_t rfl ?_)
  rw [hm, ec]
  rcases Nat.lt_or_ge (wk_ce R) mC with z | z
  · exact br_f (fun w => by rw [nI_eq (by omega) (by omega)] at w; omega) (h0 q z)
  · have e : wk_ce R = mC := by omega
    exact br_t (by rw [e]) (h6 q e)
variable {g_size g_reading g_pos : Int32} {b_leafBits b_kinds b_logFields b_logValues : Nat → Int32}
/-- the top frame, as the two sides see it -/
theorem top_fr {c : sc_T} {mC mD sd : Nat} {R R0 : List wk_I} (hT : sc_tr c) (hF : sc_F c ≤ 16) (hD : ∀ n, n ≤ sc_F c → sc_lf c n = 0 → sc_dep c n ≤ mD) (m3 : mD ≤ 6) (m4 : mC ≤ 32) (hW : rl_W c mC sd R R0 f_cells f_cellsKept f_records f_level g_size a_reps a_defs a_values a_entries a_entriesKept a_held a_heldKept a_pathField a_pathLast a_pathRep b_kinds b_logFields b_logValues) : wk_ev R + (wk_fin c R).length ≤ 64 ∧ ((wk_fin c R = [] ∧ f_level = -1 ∧ (∀ post : Int32 → Prop, post (-1) → wpY_current post (f_maxFields, f_maxLeaves, f_maxDepth, f_maxCells, f_fields, f_filling, f_sealed, g_size, g_reading, f_chosen, g_pos, f_eventField, f_eventValue, a_parent, a_labels, b_leafBits, b_kinds, b_logFields, b_logValues))) ∨ ∃ g lc ph q S k0, wk_fin c R = (g, lc, ph, q) :: S ∧ f_level = nI S.length ∧ S.length ≤ 6 ∧ g ≤ sc_F c ∧ lc ≤ sc_F c ∧ wk_inv c ((g, lc, ph, q) :: S) ∧ a_pathField S.length = im_f g ∧ a_pathLast S.length = im_f lc ∧ a_pathRep S.length = nI q ∧ ph = (if lc = 0 then g + 1 else sc_lst c lc + 1) ∧ k0 < wk_ev R ∧ b_logFields k0 = im_f g ∧ b_kinds k0 = (if g = 0 then 1 else 2) ∧ (∀ post : Int32 → Prop, post (nI k0) → wpY_current post (f_maxFields, f_maxLeaves, f_maxDepth, f_maxCells, f_fields, f_filling, f_sealed, g_size, g_reading, f_chosen, g_pos, f_eventField, f_eventValue, a_parent, a_labels, b_leafBits, b_kinds, b_logFields, b_logValues)) ∧ (∀ post : Int32 → Prop, post (im_f lc) → wpY_lastChild post (f_maxFields, f_maxLeaves, f_maxDepth, f_maxCells, f_fields, f_filling, f_sealed, g_size, g_reading, f_chosen, g_pos, f_eventField, f_eventValue, a_parent, a_labels, b_leafBits, b_kinds, b_logFields, b_logValues) (nI k0))) := by
  obtain ⟨⟨v1, v2, v3, v4, v5, v6, v7, v8⟩, ⟨rfl, n2, rfl, rfl, rfl, rfl⟩, hC, hL, hP, hN, hH, hZ⟩ := hW
  have c1 := ct_1 R v1
  refine ⟨by omega, ?_⟩
  have hI := V_inv hT R v1
  have li := ix_len R v1
  have lsf := ls_fr hT R v1
  have ixl := ix_log R v1 hL
  have ilt := ix_lt R
  rcases hfin : wk_fin c R with _ | ⟨⟨g, lc, ph, q⟩, S⟩
  · left
    rw [hfin] at li
    have ixe : wk_ix R = [] := List.eq_nil_of_length_eq_zero li
    refine ⟨rfl, rfl, fun post hp => yk_C hL (by omega) rfl ?_⟩
    unfold wk_yc
    rw [ixe]
    exact hp
  · right
    rw [hfin] at li hI hP v8 c1
    rcases hix : wk_ix R with _ | ⟨k0, ixs⟩
    · rw [hix] at li
      exact absurd li (by simp)
    · have kl := ilt k0 (by rw [hix]; exact List.mem_cons_self)
      have l1 := lsf 0 g lc ph q k0 (by rw [hfin]; rfl) (by rw [hix]; rfl)
      have l2 := ixl 0 g lc ph q k0 (by rw [hfin]; rfl) (by rw [hix]; rfl)
      have hI' := hI
      obtain ⟨⟨i1, i2, i3, i4, i5, i6, i7⟩, il, iS⟩ := hI'
      have dg := hD g i1 i2
      obtain ⟨⟨p1, p2, p3⟩, pS⟩ := hP
      refine ⟨g, lc, ph, q, S, k0, rfl, rfl, by omega, i1, by omega, hI, p1, p2, p3, v8.1, kl, l2.1, l2.2, fun post hp => yk_C hL (by omega) rfl ?_, fun post hp => yk_LC hL (by omega) rfl kl ?_⟩
      · unfold wk_yc
        rw [hix]
        exact hp
      · rw [l1]
        exact hp
theorem ck_b {c : sc_T} {fill mF mL mD mC sd : Nat} {R R0 : List wk_I} (hS : rl_S c fill mF mL mD mC sd f_maxFields f_maxLeaves f_maxDepth f_maxCells f_fields f_leaves f_leafMask f_filling f_sealed a_labels a_parent a_depthOf a_repOf a_lastOf a_columnOf b_leafBits) (hW : rl_W c mC sd R R0 f_cells f_cellsKept f_records f_level g_size a_reps a_defs a_values a_entries a_entriesKept a_held a_heldKept a_pathField a_pathLast a_pathRep b_kinds b_logFields b_logValues) (v1 : Int32) {w : Nat} (hw : w ≤ 1) : ∃ r : Int32, (r = 0 → ∃ n g lc ph q S, v1 = im_f n ∧ 1 ≤ n ∧ n ≤ sc_F c ∧ sc_lf c n = w ∧ wk_fin c R = (g, lc, ph, q) :: S ∧ sc_par c n = g ∧ (lc < n ∨ (n = lc ∧ sc_lab c n = 2)) ∧ wk_ce R < mC) ∧ (∀ post : Int32 → Prop, post r → wpX_check post (f_maxFields, f_maxLeaves, f_maxDepth, f_maxCells, f_fields, f_leaves, f_leafMask, f_filling, f_sealed, f_cells, f_cellsKept, f_records, f_level, f_chosen, f_readRecord, f_inRecord, f_readLeaf, f_readNode, f_openDepth, f_keepDepth, f_eventField, f_eventValue, a_labels, a_parent, a_depthOf, a_repOf, a_lastOf, a_columnOf, a_reps, a_defs, a_values, a_entries, a_entriesKept, a_held, a_heldKept, a_pathField, a_pathLast, a_pathRep, a_readPos, a_readValue, a_jumpTo, a_jumpDepth) v1 (nI w)) ∧ (∀ post : Int32 → Prop, post r → wpY_check post (f_maxFields, f_maxLeaves, f_maxDepth, f_maxCells, f_fields, f_filling, f_sealed, g_size, g_reading, f_chosen, g_pos, f_eventField, f_eventValue, a_parent, a_labels, b_leafBits, b_kinds, b_logFields, b_logValues) v1 (nI w)) := by
  obtain ⟨⟨hT, hFl⟩, ⟨rfl, rfl, rfl, rfl, m1, m2, m3, m4⟩, ⟨rfl, F1, rfl, F2, rfl, rfl, s1, s2⟩, hM, hA, hE, hD⟩ := hS
  obtain ⟨ev64, tf⟩ := top_fr (f_maxFields := nI mF) (f_maxLeaves := nI mL) (f_maxDepth := nI mD) (f_maxCells := nI mC) (f_fields := nI (sc_F c)) (f_filling := im_f fill) (f_sealed := nI sd) (f_chosen := f_chosen) (f_eventField := f_eventField) (f_eventValue := f_eventValue) (a_parent := a_parent) (a_labels := a_labels) (g_reading := g_reading) (g_pos := g_pos) (b_leafBits := b_leafBits) hT (by omega) hD m3 m4 hW
  obtain ⟨⟨w1, w2, w3, w4, w5, w6, w7, w8⟩, ⟨rfl, n2, rfl, rfl, el, rfl⟩, hC, hL, hP, hN, hH, hZ⟩ := hW
  rcases tf with ⟨fe, fl, hc⟩ | ⟨g, lc, ph, q, S, k0, fe, fl, S6, g1, lc1, hI, p1, p2, p3, er, k1, k2, k3, hc, hlc⟩
  · refine ⟨-9, fun q => absurd q (by decide), fun post hp => ?_, fun post hp => ?_⟩
    · exact br_f (by rw [fl]; decide) hp
    · unfold wpY_check
      exact hc _ (br_f (by decide) hp)
  · by_cases hv : ∃ n, 1 ≤ n ∧ n ≤ sc_F c ∧ v1 = im_f n
    · obtain ⟨n, n1, nF, rfl⟩ := hv
      obtain ⟨a1, a2, a3, a4, a5, a6⟩ := hA n n1 nF
      have lf1 := tr_lf hT n1 nF
      have lab1 := tr_lab hT n1 nF
      have pp := tr_par hT n1 nF
      have hcol : sc_lf c n = 1 → sc_col c n < 8 := fun e => by have := col_lt n1 nF e; omega
      have hb : ∀ n, 1 ≤ n → n ≤ sc_F c → a_parent (n - 1) = im_f (sc_par c n) := fun n a b => (hA n a b).2.1
      have hb2 : ∀ n, 1 ≤ n → n ≤ sc_F c → a_labels (n - 1) = nI (sc_lab c n) := fun n a b => (hA n a b).1
      by_cases z1 : sc_lf c n = w
      · by_cases z2 : sc_par c n = g
        · by_cases z3 : n < lc ∨ (n = lc ∧ sc_lab c n ≠ 2)
          · refine ⟨-12, fun q => absurd q (by decide), fun post hp => ?_, fun post hp => ?_⟩
            · exact x_ckp (by omega) fl (by omega) rfl n1 nF p1 p2 a5 hcol a2 a1 hw lf1 (by omega) (by omega) (by omega) lab1 (fun q => absurd z1 q) (fun _ q => absurd z2 q) (fun _ _ _ => hp) (fun _ _ q => by omega)
            · exact y_ckp hc hlc (by omega) (by omega) rfl n1 nF k2 a6 a2 a1 hw lf1 (by omega) (by omega) (by omega) lab1 (fun q => absurd z1 q) (fun _ q => absurd z2 q) (fun _ _ _ => hp) (fun _ _ q => by omega)
          · have z4 : lc < n ∨ (n = lc ∧ sc_lab c n = 2) := by omega
            by_cases z5 : mi_P c g lc n
            · refine ⟨-13, fun q => absurd q (by decide), fun post hp => ?_, fun post hp => ?_⟩
              · exact x_ckp (by omega) fl (by omega) rfl n1 nF p1 p2 a5 hcol a2 a1 hw lf1 (by omega) (by omega) (by omega) lab1 (fun q => absurd z1 q) (fun _ q => absurd z2 q) (fun _ _ q => absurd q z3) (fun _ _ _ => x_100 hT (by omega) hA n1 nF z2 (by omega) rfl rfl m4 n2 (fun _ => hp) (fun q => absurd z5 q) (fun q => absurd z5 q))
              · exact y_ckp hc hlc (by omega) (by omega) rfl n1 nF k2 a6 a2 a1 hw lf1 (by omega) (by omega) (by omega) lab1 (fun q => absurd z1 q) (fun _ q => absurd z2 q) (fun _ _ q => absurd q z3) (fun _ _ _ => y_87 hT (by omega) rfl hb hb2 n1 nF z2 (by omega) w1 hL (by omega) rfl rfl m4 n2 (fun _ => hp) (fun q => absurd z5 q) (fun q => absurd z5 q))
            · by_cases z6 : wk_ce R = mC
              · refine ⟨-6, fun q => absurd q (by decide), fun post hp => ?_, fun post hp => ?_⟩
                · exact x_ckp (by omega) fl (by omega) rfl n1 nF p1 p2 a5 hcol a2 a1 hw lf1 (by omega) (by omega) (by omega) lab1 (fun q => absurd z1 q) (fun _ q => absurd z2 q) (fun _ _ q => absurd q z3) (fun _ _ _ => x_100 hT (by omega) hA n1 nF z2 (by omega) rfl rfl m4 n2 (fun q => absurd q z5) (fun _ _ => hp) (fun _ q => by omega))
                · exact y_ckp hc hlc (by omega) (by omega) rfl n1 nF k2 a6 a2 a1 hw lf1 (by omega) (by omega) (by omega) lab1 (fun q => absurd z1 q) (fun _ q => absurd z2 q) (fun _ _ q => absurd q z3) (fun _ _ _ => y_87 hT (by omega) rfl hb hb2 n1 nF z2 (by omega) w1 hL (by omega) rfl rfl m4 n2 (fun q => absurd q z5) (fun _ _ => hp) (fun _ q => by omega))
              · refine ⟨0, fun _ => ⟨n, g, lc, ph, q, S, rfl, n1, nF, z1, fe, z2, z4, by omega⟩, fun post hp => ?_, fun post hp => ?_⟩
                · exact x_ckp (by omega) fl (by omega) rfl n1 nF p1 p2 a5 hcol a2 a1 hw lf1 (by omega) (by omega) (by omega) lab1 (fun q => absurd z1 q) (fun _ q => absurd z2 q) (fun _ _ q => absurd q z3) (fun _ _ _ => x_100 hT (by omega) hA n1 nF z2 (by omega) rfl rfl m4 n2 (fun q => absurd q z5) (fun _ q => absurd q z6) (fun _ _ => hp))
                · exact y_ckp hc hlc (by omega) (by omega) rfl n1 nF k2 a6 a2 a1 hw lf1 (by omega) (by omega) (by omega) lab1 (fun q => absurd z1 q) (fun _ q => absurd z2 q) (fun _ _ q => absurd q z3) (fun _ _ _ => y_87 hT (by omega) rfl hb hb2 n1 nF z2 (by omega) w1 hL (by omega) rfl rfl m4 n2 (fun q => absurd q z5) (fun _ q => absurd q z6) (fun _ _ => hp))
        · refine ⟨-11, fun q => absurd q (by decide), fun post hp => ?_, fun post hp => ?_⟩
          · exact x_ckp (by omega) fl (by omega) rfl n1 nF p1 p2 a5 hcol a2 a1 hw lf1 (by omega) (by omega) (by omega) lab1 (fun q => absurd z1 q) (fun _ _ => hp) (fun _ q => absurd q z2) (fun _ q => absurd q z2)
          · exact y_ckp hc hlc (by omega) (by omega) rfl n1 nF k2 a6 a2 a1 hw lf1 (by omega) (by omega) (by omega) lab1 (fun q => absurd z1 q) (fun _ _ => hp) (fun _ q => absurd q z2) (fun _ q => absurd q z2)
      · refine ⟨-10, fun q => absurd q (by decide), fun post hp => ?_, fun post hp => ?_⟩
        · exact x_ckp (by omega) fl (by omega) rfl n1 nF p1 p2 a5 hcol a2 a1 hw lf1 (by omega) (by omega) (by omega) lab1 (fun _ => hp) (fun q => absurd q z1) (fun q => absurd q z1) (fun q => absurd q z1)
        · exact y_ckp hc hlc (by omega) (by omega) rfl n1 nF k2 a6 a2 a1 hw lf1 (by omega) (by omega) (by omega) lab1 (fun _ => hp) (fun q => absurd q z1) (fun q => absurd q z1) (fun q => absurd q z1)
    · refine ⟨-10, fun q => absurd q (by decide), fun post hp => ?_, fun post hp => ?_⟩
      · unfold wpX_check
        exact br_t (by rw [fl]; exact nI_pos' (by omega)) (x_is (F := sc_F c) (by omega) rfl (fun n a b e => absurd ⟨n, a, b, e⟩ hv) (fun _ => br_t rfl hp))
      · unfold wpY_check
        refine hc _ (br_t (nI_pos' (by omega)) ?_)
        rcases pk_ix v1 (n := sc_F c) (by omega) with y | y | ⟨j, y1, y2⟩
        · exact br_t y hp
        · by_cases y0 : v1 < 0
          · exact br_t y0 hp
          · exact br_f y0 (br_t y hp)
        · exact absurd ⟨j + 1, by omega, by omega, y2⟩ hv
end
end
section
/-! nulls on top of a history -/
def wk_nu (R R' : List wk_I) : Prop := ∃ X, R' = X ++ R ∧ ∀ i ∈ X, i.1 = 0
theorem nu_rf (R : List wk_I) : wk_nu R R := ⟨[], rfl, fun _ h => absurd h List.not_mem_nil⟩
theorem nu_tr {R R' : List wk_I} {i : wk_I} (h : wk_nu (i :: R) R') (z : i.1 = 0) : wk_nu R R' := by
  obtain ⟨X, e, a⟩ := h
  refine ⟨X ++ [i], by rw [e, List.append_assoc]; rfl, fun j hj => ?_⟩
  rcases List.mem_append.mp hj with q | q
  · exact a j q
  · rw [List.mem_singleton.mp q]; exact z
theorem ce_cons (i : wk_I) (R : List wk_I) : wk_ce (i :: R) = wk_ce R + (if i.1 = 1 ∨ i.1 = 2 then 1 else 0) := by
  unfold wk_ce
  show wk_ct _ R + _ = _
  by_cases z : i.1 = 1 ∨ i.1 = 2 <;> simp [z]
theorem nu_f {R R' : List wk_I} (h : wk_nu R R') : wk_ev R' = wk_ev R ∧ wk_ce R' = wk_ce R ∧ wk_re R' = wk_re R ∧ (∀ n, wk_hn n R' = wk_hn n R) ∧ wk_lr R' = wk_lr R ∧ ∀ bk bf bv, wr_L bk bf bv R → wr_L bk bf bv R' := by
  obtain ⟨X, e, a⟩ := h
  subst e
  induction X with
  | nil => exact ⟨rfl, rfl, rfl, fun _ => rfl, rfl, fun _ _ _ h => h⟩
  | cons i X ih =>
    obtain ⟨b1, b2, b3, b4, b5, b6⟩ := ih (fun j hj => a j (List.mem_cons_of_mem _ hj))
    have z : i.1 = 0 := a i List.mem_cons_self
    refine ⟨?_, ?_, ?_, fun n => ?_, ?_, fun bk bf bv hL => L_null z (b6 bk bf bv hL)⟩
    · show wk_ev (i :: (X ++ R)) = _
      rw [ev_z _ z, b1]
    · show wk_ce (i :: (X ++ R)) = _
      rw [ce_cons, if_neg (by omega), b2]; rfl
    · show wk_re (i :: (X ++ R)) = _
      rw [re_cons, if_neg (by omega), b3]; rfl
    · show wk_hn n (i :: (X ++ R)) = _
      rw [hn_cons, if_neg (by omega), b4]; rfl
    · show (if _ then _ else _) = _
      rw [if_neg (by omega)]
      exact b5
theorem en_F {c : sc_T} (h : sc_tr c) {l : Nat} : ∀ R, wk_V c R → 0 < wk_en l R → 1 ≤ l ∧ l ≤ sc_F c := by
  intro R
  induction R with
  | nil => intro _ q; exact absurd q (Nat.lt_irrefl _)
  | cons i R ih =>
    intro hV q
    have e := en_cons l i R
    by_cases z : (i.1 = 0 ∨ i.1 = 2) ∧ i.2.1 = l
    · have hk := hV.1
      have hI := V_inv h R hV.2
      generalize wk_fin c R = s at hk hI
      cases s with
      | nil =>
        have e : i = (1, 0, 0, 0, 0) := hk
        rw [e] at z
        exact absurd z.1 (by decide)
      | cons f S =>
        obtain ⟨g, lc, ph, r⟩ := f
        obtain ⟨⟨i1, i2, i3, i4, i5, i6, i7⟩, il, iS⟩ := hI
        have gl := tr_le h i1
        obtain ⟨z1, z2⟩ := z
        rcases hk with ⟨rfl, hq⟩ | ⟨n, v, rfl, e0, h1, h2, h3, h4⟩ | ⟨n, v, rfl, e0, e1, e2, h1, h2, h3, h4⟩ | ⟨n, rfl, e0, h1, h2, h3, h4⟩ | ⟨n, rfl, e0, e1, e2, h1, h2, h3, h4⟩ | ⟨rfl, hq⟩
        · have z2' : ph = l := z2
          omega
        · have z2' : n = l := z2
          omega
        · have z2' : n = l := z2
          omega
        · exact absurd z1 (by simp)
        · exact absurd z1 (by simp)
        · exact absurd z1 (by simp)
    · rw [if_neg z] at e
      exact ih hV.2 (by omega)
theorem en_32 {c : sc_T} (h : sc_tr c) {l : Nat} (hl : sc_lf c l = 1) {R : List wk_I} (hV : wk_V c R) (hc : wk_ce R ≤ 32) : wk_en l R ≤ 32 := by
  rcases Nat.eq_zero_or_pos (wk_en l R) with z | z
  · omega
  · obtain ⟨a, b⟩ := en_F h R hV z
    have := ct_2 h hl a b R hV
    omega
theorem C_put {c : sc_T} (h : sc_tr c) {ar ad av : Nat → Int32} {R : List wk_I} {i : wk_I} (hV : wk_V c R) (hc : wk_ce R ≤ 32) (hC : wr_C c ar ad av R) (l1 : 1 ≤ i.2.1) (hl : sc_lf c i.2.1 = 1) (hn : wk_en i.2.1 R < 32) (hv : i.1 = 2 → av (sc_col c i.2.1 * 32 + wk_hn i.2.1 R) = i.2.2.1) : wr_C c (upd ar (sc_col c i.2.1 * 32 + wk_en i.2.1 R) (nI i.2.2.2.1)) (upd ad (sc_col c i.2.1 * 32 + wk_en i.2.1 R) (nI i.2.2.2.2)) av (i :: R) := by
  refine ⟨fun _ _ => ⟨pk_us, pk_us⟩, fun z _ => hv z, C_keep R (fun l k e hk => ?_) (fun l k e hk => rfl) hC⟩
  have ne : sc_col c l * 32 + k ≠ sc_col c i.2.1 * 32 + wk_en i.2.1 R := by
    have b := en_32 h e hV hc
    obtain ⟨q1, q2⟩ := en_F h R hV (l := l) (by omega)
    intro q
    have ec : sc_col c l = sc_col c i.2.1 := by omega
    have el := col_inj q1 l1 e hl ec
    rw [el] at hk q
    omega
  exact ⟨pk_un ne, pk_un ne⟩
theorem C_val {c : sc_T} (h : sc_tr c) {ar ad av : Nat → Int32} {R : List wk_I} {n : Nat} {v : Int32} (hc : wk_ce R ≤ 32) (hC : wr_C c ar ad av R) (l1 : 1 ≤ n) (hl : sc_lf c n = 1) (hn : wk_hn n R < 32) : wr_C c ar ad (upd av (sc_col c n * 32 + wk_hn n R) v) R := by
  refine C_keep R (fun l k e hk => ⟨rfl, rfl⟩) (fun l k e hk => ?_) hC
  have ne : sc_col c l * 32 + k ≠ sc_col c n * 32 + wk_hn n R := by
    have b := hn_ce l R
    have q1 : 1 ≤ l := by
      rcases Nat.eq_zero_or_pos l with z | z
      · rw [z, tr_f0 h] at e
        omega
      · exact z
    intro q
    have ec : sc_col c l = sc_col c n := by omega
    have el := col_inj q1 l1 e hl ec
    rw [el] at hk q
    omega
  exact pk_un ne
theorem C_skip {c : sc_T} {ar ad av : Nat → Int32} {R : List wk_I} {i : wk_I} (hC : wr_C c ar ad av R) (hl : ¬ ((i.1 = 0 ∨ i.1 = 2) ∧ sc_lf c i.2.1 = 1)) : wr_C c ar ad av (i :: R) :=
  ⟨fun a b => absurd ⟨a, b⟩ hl, fun a b => absurd ⟨Or.inr a, b⟩ hl, hC⟩
theorem nb_8 {q : Nat} (h : q < 8) : vp_nar .byte (nI q).toInt8.toInt32 = nI q := by
  rw [pk_vb]
  exact (by decide +kernel : ∀ q, q < 8 → (nI q).toInt8.toInt32 = nI q) q h
section
variable {f_maxFields f_maxLeaves f_maxDepth f_maxCells f_fields f_leaves f_leafMask f_filling f_sealed f_cells f_cellsKept f_records f_level f_chosen f_readRecord f_inRecord f_readLeaf f_readNode f_openDepth f_keepDepth f_eventField f_eventValue : Int32} {a_labels a_parent a_depthOf a_repOf a_lastOf a_columnOf a_reps a_defs a_values a_entries a_entriesKept a_held a_heldKept a_pathField a_pathLast a_pathRep a_readPos a_readValue a_jumpTo a_jumpDepth : Nat → Int32}
theorem x_ap {post : SX → Prop} {col k q d : Nat} (h1 : col < 8) (h2 : k < 32) (ek : a_entries col = nI k) (hq : q < 8) (hd : d < 8) (hp : post (f_maxFields, f_maxLeaves, f_maxDepth, f_maxCells, f_fields, f_leaves, f_leafMask, f_filling, f_sealed, f_cells, f_cellsKept, f_records, f_level, f_chosen, f_readRecord, f_inRecord, f_readLeaf, f_readNode, f_openDepth, f_keepDepth, f_eventField, f_eventValue, a_labels, a_parent, a_depthOf, a_repOf, a_lastOf, a_columnOf, upd a_reps (col * 32 + k) (nI q), upd a_defs (col * 32 + k) (nI d), a_values, upd a_entries col (nI (k + 1)), a_entriesKept, a_held, a_heldKept, a_pathField, a_pathLast, a_pathRep, a_readPos, a_readValue, a_jumpTo, a_jumpDepth)) : wpX_append post (f_maxFields, f_maxLeaves, f_maxDepth, f_maxCells, f_fields, f_leaves, f_leafMask, f_filling, f_sealed, f_cells, f_cellsKept, f_records, f_level, f_chosen, f_readRecord, f_inRecord, f_readLeaf, f_readNode, f_openDepth, f_keepDepth, f_eventField, f_eventValue, a_labels, a_parent, a_depthOf, a_repOf, a_lastOf, a_columnOf, a_reps, a_defs, a_values, a_entries, a_entriesKept, a_held, a_heldKept, a_pathField, a_pathLast, a_pathRep, a_readPos, a_readValue, a_jumpTo, a_jumpDepth) (nI col) (nI q) (nI d) := by
  have hin : vp_in (nI col) 8 := vp_in_nI h1 (by decide)
  have cl : (nI col).toNatClampNeg = col := nI_clamp (by omega)
  have hat : vp_in (nI (col * 32 + k)) 256 := vp_in_nI (by omega) (by decide)
  have cat : (nI (col * 32 + k)).toNatClampNeg = col * 32 + k := nI_clamp (by omega)
  refine ⟨hin, nm_r (e' := nI (col * 32 + k)) (by rw [cl, ek, show (32 : Int32) = nI 32 from rfl, pk_mul, nI_add]) ⟨hat, nm_r (by rw [cat, nb_8 hq]) ⟨hat, nm_r (by rw [cat, nb_8 hd]) ⟨hin, hin, nm_r (by rw [cl, ek, nI_1]) hp⟩⟩⟩⟩
theorem x_g41 {post : SX → Prop} {c : sc_T} {g lc q e : Nat} {S : List wk_Fr} {b_leafBits : Nat → Int32} (hT : sc_tr c) (hF : sc_F c ≤ 16) (hA : rl_A c a_labels a_parent a_depthOf a_repOf a_columnOf b_leafBits) (hlv : lv_c (sc_lf c) (sc_F c) ≤ 8) (fl : f_level = nI S.length) (S6 : S.length ≤ 6) (pr : a_pathRep S.length = nI q) (hq : q < 8) (he : e ≤ sc_lst c g + 1) : ∀ (d ph : Nat) (R : List wk_I) (a_reps a_defs a_entries : Nat → Int32), ph + d = e → wk_fin c R = (g, lc, ph, q) :: S → wk_V c R → wk_ce R ≤ 32 → wr_C c a_reps a_defs a_values R → (∀ l, 1 ≤ l → l ≤ sc_F c → sc_lf c l = 1 → a_entries (sc_col c l) = nI (wk_en l R)) → (∀ (R' : List wk_I) (ar ad ae : Nat → Int32), wk_nu R R' → wk_fin c R' = (g, lc, e, q) :: S → wk_V c R' → wr_C c ar ad a_values R' → (∀ l, 1 ≤ l → l ≤ sc_F c → sc_lf c l = 1 → ae (sc_col c l) = nI (wk_en l R')) → post (f_maxFields, f_maxLeaves, f_maxDepth, f_maxCells, f_fields, f_leaves, f_leafMask, f_filling, f_sealed, f_cells, f_cellsKept, f_records, f_level, f_chosen, f_readRecord, f_inRecord, f_readLeaf, f_readNode, f_openDepth, f_keepDepth, f_eventField, f_eventValue, a_labels, a_parent, a_depthOf, a_repOf, a_lastOf, a_columnOf, ar, ad, a_values, ae, a_entriesKept, a_held, a_heldKept, a_pathField, a_pathLast, a_pathRep, a_readPos, a_readValue, a_jumpTo, a_jumpDepth)) → ∀ n, d < n → wX_fillGap_41 post (im_f e) n (im_f ph) f_maxFields f_maxLeaves f_maxDepth f_maxCells f_fields f_leaves f_leafMask f_filling f_sealed f_cells f_cellsKept f_records f_level f_chosen f_readRecord f_inRecord f_readLeaf f_readNode f_openDepth f_keepDepth f_eventField f_eventValue a_labels a_parent a_depthOf a_repOf a_lastOf a_columnOf a_reps a_defs a_values a_entries a_entriesKept a_held a_heldKept a_pathField a_pathLast a_pathRep a_readPos a_readValue a_jumpTo a_jumpDepth := by
  intro d
  induction d with
  | zero =>
    intro ph R a_reps a_defs a_entries hd hf hV hc hC hN K n hn
    obtain ⟨m, rfl⟩ : ∃ m, n = m + 1 := ⟨n - 1, by omega⟩
    have e0 : ph = e := by omega
    subst e0
    have hI := V_inv hT R hV
    rw [hf] at hI
    have i1 := hI.1.1
    have gl := tr_le hT i1
    exact br_t ((im_le (by omega) (by omega)).mpr (Nat.le_refl _)) (K R _ _ _ (nu_rf R) hf hV hC hN)
  | succ d ih =>
    intro ph R a_reps a_defs a_entries hd hf hV hc hC hN K n hn
    obtain ⟨m, rfl⟩ : ∃ m, n = m + 1 := ⟨n - 1, by omega⟩
    have hI := V_inv hT R hV
    rw [hf] at hI
    obtain ⟨⟨i1, i2, i3, i4, i5, i6, i7⟩, il, iS⟩ := hI
    have gl := tr_le hT i1
    have p1 : 1 ≤ ph := by omega
    have pF : ph ≤ sc_F c := by omega
    have hin : vp_in (im_f ph) 16 := im_in p1 (by omega) (by decide)
    have cl : (im_f ph).toNatClampNeg = ph - 1 := im_cl p1 (by omega)
    obtain ⟨a1, a2, a3, a4, a5, a6⟩ := hA ph p1 pF
    have ok : wk_V c ((0, ph, 0, q, S.length) :: R) := by
      refine ⟨?_, hV⟩
      rw [hf]
      exact Or.inl ⟨rfl, by omega⟩
    have fin' : wk_fin c ((0, ph, 0, q, S.length) :: R) = (g, lc, ph + 1, q) :: S := by
      show wk_st c (wk_fin c R) _ = _
      rw [hf]
      rfl
    refine br_f (fun w => by rw [im_le (by omega) (by omega)] at w; omega) ⟨hin, ?_⟩
    rw [cl, a5]
    by_cases z : sc_lf c ph = 1
    · rw [if_pos z]
      have cl8 := col_lt p1 pF z
      have en := ct_2 hT z p1 pF R hV
      rw [hf] at en
      have pn : wk_pn ph ((g, lc, ph, q) :: S) = 1 := if_pos (Nat.le_refl _)
      rw [pn] at en
      refine br_f (fun w => ?_) ⟨hin, by rw [fl]; exact vp_in_nI (by omega) (by decide), ?_⟩
      · have e := Int32.toInt_inj.mpr w
        rw [nI_toInt (by omega), show (-1 : Int32).toInt = -1 from by decide] at e
        omega
      · rw [fl, nI_clamp (by omega), pr]
        refine x_ap (k := wk_en ph R) (by omega) (by omega) (hN ph p1 pF z) hq (by omega) ?_
        refine nm_r (im_a1 ph) ?_
        have := ih (ph + 1) ((0, ph, 0, q, S.length) :: R) (upd a_reps (sc_col c ph * 32 + wk_en ph R) (nI q)) (upd a_defs (sc_col c ph * 32 + wk_en ph R) (nI S.length)) (upd a_entries (sc_col c ph) (nI (wk_en ph R + 1))) (by omega) fin' ok (by rw [ce_0]; exact hc) (C_put hT (i := (0, ph, 0, q, S.length)) hV hc hC p1 z (show wk_en ph R < 32 by omega) (fun w => absurd w (by simp))) (fun l l1 l2 l3 => by
          by_cases y : l = ph
          · subst y
            rw [pk_us, en_0]
          · rw [en_s0 (fun w => y w.symm), pk_un (fun w => y (col_inj l1 p1 l3 z w))]
            exact hN l l1 l2 l3) (fun R' ar ad ae hu h1 h2 h3 h4 => by
              have := K R' ar ad ae (nu_tr hu rfl) h1 h2 h3 h4
              rw [fl] at this
              rw [fl]
              exact this) m (by omega)
        rw [fl] at this
        exact this
    · rw [if_neg z]
      refine br_t rfl (nm_r (im_a1 ph) ?_)
      exact ih (ph + 1) ((0, ph, 0, q, S.length) :: R) a_reps a_defs a_entries (by omega) fin' ok (by rw [ce_0]; exact hc) (C_skip hC (fun w => z w.2)) (fun l l1 l2 l3 => by
        rw [en_s0 (fun w => z (by rw [w]; exact l3))]
        exact hN l l1 l2 l3) (fun R' ar ad ae hu h1 h2 h3 h4 => K R' ar ad ae (nu_tr hu rfl) h1 h2 h3 h4) m (by omega)
theorem x_gap {post : SX → Prop} {c : sc_T} {g lc ph q e fill : Nat} {S : List wk_Fr} {R : List wk_I} {b_leafBits : Nat → Int32} (hT : sc_tr c) (hF : sc_F c ≤ 16) (hA : rl_A c a_labels a_parent a_depthOf a_repOf a_columnOf b_leafBits) (hE : rl_E c 0 a_lastOf) (hlv : lv_c (sc_lf c) (sc_F c) ≤ 8) (fl : f_level = nI S.length) (S6 : S.length ≤ 6) (pf : a_pathField S.length = im_f g) (pl : a_pathLast S.length = im_f lc) (pr : a_pathRep S.length = nI q) (hq : q < 8) (hf : wk_fin c R = (g, lc, ph, q) :: S) (er : ph = (if lc = 0 then g + 1 else sc_lst c lc + 1)) (hV : wk_V c R) (hc : wk_ce R ≤ 32) (hC : wr_C c a_reps a_defs a_values R) (hN : ∀ l, 1 ≤ l → l ≤ sc_F c → sc_lf c l = 1 → a_entries (sc_col c l) = nI (wk_en l R)) (e16 : e ≤ 17)
    (K : ph ≤ e → e ≤ sc_lst c g + 1 ∧ ∀ (R' : List wk_I) (ar ad ae : Nat → Int32), wk_nu R R' → wk_fin c R' = (g, lc, e, q) :: S → wk_V c R' → wr_C c ar ad a_values R' → (∀ l, 1 ≤ l → l ≤ sc_F c → sc_lf c l = 1 → ae (sc_col c l) = nI (wk_en l R')) → post (f_maxFields, f_maxLeaves, f_maxDepth, f_maxCells, f_fields, f_leaves, f_leafMask, f_filling, f_sealed, f_cells, f_cellsKept, f_records, f_level, f_chosen, f_readRecord, f_inRecord, f_readLeaf, f_readNode, f_openDepth, f_keepDepth, f_eventField, f_eventValue, a_labels, a_parent, a_depthOf, a_repOf, a_lastOf, a_columnOf, ar, ad, a_values, ae, a_entriesKept, a_held, a_heldKept, a_pathField, a_pathLast, a_pathRep, a_readPos, a_readValue, a_jumpTo, a_jumpDepth)) (K0 : e < ph → post (f_maxFields, f_maxLeaves, f_maxDepth, f_maxCells, f_fields, f_leaves, f_leafMask, f_filling, f_sealed, f_cells, f_cellsKept, f_records, f_level, f_chosen, f_readRecord, f_inRecord, f_readLeaf, f_readNode, f_openDepth, f_keepDepth, f_eventField, f_eventValue, a_labels, a_parent, a_depthOf, a_repOf, a_lastOf, a_columnOf, a_reps, a_defs, a_values, a_entries, a_entriesKept, a_held, a_heldKept, a_pathField, a_pathLast, a_pathRep, a_readPos, a_readValue, a_jumpTo, a_jumpDepth)) : wpX_fillGap post (f_maxFields, f_maxLeaves, f_maxDepth, f_maxCells, f_fields, f_leaves, f_leafMask, f_filling, f_sealed, f_cells, f_cellsKept, f_records, f_level, f_chosen, f_readRecord, f_inRecord, f_readLeaf, f_readNode, f_openDepth, f_keepDepth, f_eventField, f_eventValue, a_labels, a_parent, a_depthOf, a_repOf, a_lastOf, a_columnOf, a_reps, a_defs, a_values, a_entries, a_entriesKept, a_held, a_heldKept, a_pathField, a_pathLast, a_pathRep, a_readPos, a_readValue, a_jumpTo, a_jumpDepth) (im_f e) := by
  have hI := V_inv hT R hV
  rw [hf] at hI
  obtain ⟨⟨i1, i2, i3, i4, i5, i6, i7⟩, il, iS⟩ := hI
  have gl := tr_le hT i1
  have hil : vp_in f_level 8 := by rw [fl]; exact vp_in_nI (by omega) (by decide)
  have main : ∃ n, wX_fillGap_41 post (im_f e) n (im_f ph) f_maxFields f_maxLeaves f_maxDepth f_maxCells f_fields f_leaves f_leafMask f_filling f_sealed f_cells f_cellsKept f_records f_level f_chosen f_readRecord f_inRecord f_readLeaf f_readNode f_openDepth f_keepDepth f_eventField f_eventValue a_labels a_parent a_depthOf a_repOf a_lastOf a_columnOf a_reps a_defs a_values a_entries a_entriesKept a_held a_heldKept a_pathField a_pathLast a_pathRep a_readPos a_readValue a_jumpTo a_jumpDepth := by
    rcases Nat.lt_or_ge e ph with z | z
    · exact ⟨1, br_t ((im_le (by omega) (by omega)).mpr (by omega)) (K0 z)⟩
    · exact ⟨e - ph + 1, x_g41 hT hF hA hlv fl S6 pr hq (K z).1 (e - ph) ph R _ _ _ (by omega) hf hV hc hC hN (K z).2 _ (by omega)⟩
  refine ⟨hil, nm_r (e' := im_f lc) (by rw [fl, nI_clamp (by omega)]; exact pl) ?_⟩
  rcases Nat.eq_zero_or_pos lc with z | z
  · subst z
    rw [if_pos rfl] at er
    refine br_t rfl ⟨hil, nm_r (e' := im_f ph) ?_ main⟩
    rw [fl, nI_clamp (by omega), pf, im_a1, er]
    rfl
  · rcases i7 with w | ⟨l1, l2, l3, l4⟩
    · omega
    · rw [if_neg (by omega)] at er
      refine br_f (fun w => by rw [im_m1 (by omega)] at w; omega) ⟨im_in z (by omega) (by decide), nm_r (e' := im_f ph) ?_ main⟩
      rw [im_cl z (by omega), hE lc l1 l2 (by omega), im_a1, er]
      rfl
end
end
section
section
variable {f_maxFields f_maxLeaves f_maxDepth f_maxCells f_fields f_leaves f_leafMask f_filling f_sealed f_cells f_cellsKept f_records f_level f_chosen f_readRecord f_inRecord f_readLeaf f_readNode f_openDepth f_keepDepth f_eventField f_eventValue : Int32} {a_labels a_parent a_depthOf a_repOf a_lastOf a_columnOf a_reps a_defs a_values a_entries a_entriesKept a_held a_heldKept a_pathField a_pathLast a_pathRep a_readPos a_readValue a_jumpTo a_jumpDepth : Nat → Int32}
theorem x_ent {post : Int32 → SX → Prop} {c : sc_T} {g lc ph q n : Nat} {S : List wk_Fr} {R : List wk_I} {b_leafBits : Nat → Int32} (hT : sc_tr c) (hF : sc_F c ≤ 16) (hA : rl_A c a_labels a_parent a_depthOf a_repOf a_columnOf b_leafBits) (hE : rl_E c 0 a_lastOf) (hlv : lv_c (sc_lf c) (sc_F c) ≤ 8) (fl : f_level = nI S.length) (S6 : S.length ≤ 6) (pf : a_pathField S.length = im_f g) (pl : a_pathLast S.length = im_f lc) (pr : a_pathRep S.length = nI q) (hq : q < 8) (hf : wk_fin c R = (g, lc, ph, q) :: S) (er : ph = (if lc = 0 then g + 1 else sc_lst c lc + 1)) (hV : wk_V c R) (hc : wk_ce R ≤ 32) (ec : f_cells = nI (wk_ce R)) (hC : wr_C c a_reps a_defs a_values R) (hN : ∀ l, 1 ≤ l → l ≤ sc_F c → sc_lf c l = 1 → a_entries (sc_col c l) = nI (wk_en l R)) (eh : a_held (n - 1) = nI (wk_hn n R)) (n1 : 1 ≤ n) (n2 : n ≤ sc_F c) (eg : sc_par c n = g) (ord : lc < n ∨ (n = lc ∧ sc_lab c n = 2))
    (K : ∀ (R' : List wk_I) (ph' q' : Nat) (ar ad ae : Nat → Int32), wk_nu R R' → wk_fin c R' = (g, lc, ph', q) :: S → wk_V c R' → ((n = ph' ∧ q' = q) ∨ (n = lc ∧ ph' = sc_lst c n + 1 ∧ sc_lab c n = 2 ∧ q' = sc_rp c n)) → wr_C c ar ad a_values R' → (∀ l, 1 ≤ l → l ≤ sc_F c → sc_lf c l = 1 → ae (sc_col c l) = nI (wk_en l R')) → post (nI q') (f_maxFields, f_maxLeaves, f_maxDepth, f_maxCells, f_fields, f_leaves, f_leafMask, f_filling, f_sealed, nI (wk_ce R + 1), f_cellsKept, f_records, f_level, f_chosen, f_readRecord, f_inRecord, f_readLeaf, f_readNode, f_openDepth, f_keepDepth, f_eventField, f_eventValue, a_labels, a_parent, a_depthOf, a_repOf, a_lastOf, a_columnOf, ar, ad, a_values, ae, a_entriesKept, upd a_held (n - 1) (nI (wk_hn n R + 1)), a_heldKept, a_pathField, upd a_pathLast S.length (im_f n), a_pathRep, a_readPos, a_readValue, a_jumpTo, a_jumpDepth)) : wpX_enter post (f_maxFields, f_maxLeaves, f_maxDepth, f_maxCells, f_fields, f_leaves, f_leafMask, f_filling, f_sealed, f_cells, f_cellsKept, f_records, f_level, f_chosen, f_readRecord, f_inRecord, f_readLeaf, f_readNode, f_openDepth, f_keepDepth, f_eventField, f_eventValue, a_labels, a_parent, a_depthOf, a_repOf, a_lastOf, a_columnOf, a_reps, a_defs, a_values, a_entries, a_entriesKept, a_held, a_heldKept, a_pathField, a_pathLast, a_pathRep, a_readPos, a_readValue, a_jumpTo, a_jumpDepth) (im_f n) := by
  have hI := V_inv hT R hV
  rw [hf] at hI
  obtain ⟨⟨i1, i2, i3, i4, i5, i6, i7⟩, il, iS⟩ := hI
  have hil : vp_in f_level 8 := by rw [fl]; exact vp_in_nI (by omega) (by decide)
  have cll : f_level.toNatClampNeg = S.length := by rw [fl]; exact nI_clamp (by omega)
  have hin : vp_in (im_f n) 16 := im_in n1 (by omega) (by decide)
  have cl : (im_f n).toNatClampNeg = n - 1 := im_cl n1 (by omega)
  have pp := tr_par hT n1 n2
  have cd := tr_chd hT n1 n2
  have gn := tr_ge hT n2
  rw [eg] at pp cd
  have phn : lc < n → ph ≤ n := by
    intro z
    rcases i7 with w | ⟨l1, l2, l3, l4⟩
    · rw [if_pos w] at er
      omega
    · rw [if_neg (by omega)] at er
      have := tr_sib hT (n := lc) (m := n) (by rw [eg, l3]) l1 z n2
      omega
  unfold wpX_enter
  refine ⟨hil, ?_⟩
  rw [cll, pl, cl]
  rcases ord with z | ⟨z, lb⟩
  · refine br_f (fun w => by rw [im_eq (by omega) (by omega)] at w; omega) ⟨hil, ?_⟩
    rw [pr]
    unfold wX_enter_31
    refine x_gap (c := c) (fill := 0) hT hF hA hE hlv fl S6 pf pl pr hq hf er hV hc hC hN (by omega) (fun _ => ⟨by omega, fun R' ar ad ae hu h1 h2 h3 h4 => ?_⟩) (fun w => by have := phn z; omega)
    refine ⟨hil, nm_r (by rw [cll]) (nm_r (by rw [ec, nI_1]) ⟨hin, hin, nm_r (by rw [cl, eh, nI_1]) ?_⟩)⟩
    exact K R' n q ar ad ae hu h1 h2 (Or.inl ⟨rfl, rfl⟩) h3 h4
  · have phl : ph = sc_lst c n + 1 := by
      rw [if_neg (by omega)] at er
      rw [z]; exact er
    refine br_t (by rw [z]) ⟨hin, ?_⟩
    rw [(hA n n1 n2).2.2.2.1]
    unfold wX_enter_31
    refine x_gap (c := c) (fill := 0) hT hF hA hE hlv fl S6 pf pl pr hq hf er hV hc hC hN (by omega) (fun w => by omega) (fun _ => ?_)
    refine ⟨hil, nm_r (by rw [cll]) (nm_r (by rw [ec, nI_1]) ⟨hin, hin, nm_r (by rw [cl, eh, nI_1]) ?_⟩)⟩
    exact K R ph (sc_rp c n) _ _ _ (nu_rf R) hf hV (Or.inr ⟨z, phl, lb, rfl⟩) hC hN
theorem x_pu {post : SX → Prop} {m : Nat} {p0 p1 : Int32} (h : m < 8) (fl : f_level = im_f m) (hp : post (f_maxFields, f_maxLeaves, f_maxDepth, f_maxCells, f_fields, f_leaves, f_leafMask, f_filling, f_sealed, f_cells, f_cellsKept, f_records, nI m, f_chosen, f_readRecord, f_inRecord, f_readLeaf, f_readNode, f_openDepth, f_keepDepth, f_eventField, f_eventValue, a_labels, a_parent, a_depthOf, a_repOf, a_lastOf, a_columnOf, a_reps, a_defs, a_values, a_entries, a_entriesKept, a_held, a_heldKept, upd a_pathField m p0, upd a_pathLast m (-1), upd a_pathRep m p1, a_readPos, a_readValue, a_jumpTo, a_jumpDepth)) : wpX_push post (f_maxFields, f_maxLeaves, f_maxDepth, f_maxCells, f_fields, f_leaves, f_leafMask, f_filling, f_sealed, f_cells, f_cellsKept, f_records, f_level, f_chosen, f_readRecord, f_inRecord, f_readLeaf, f_readNode, f_openDepth, f_keepDepth, f_eventField, f_eventValue, a_labels, a_parent, a_depthOf, a_repOf, a_lastOf, a_columnOf, a_reps, a_defs, a_values, a_entries, a_entriesKept, a_held, a_heldKept, a_pathField, a_pathLast, a_pathRep, a_readPos, a_readValue, a_jumpTo, a_jumpDepth) p0 p1 := by
  subst fl
  have hin : vp_in (nI m) 8 := vp_in_nI h (by decide)
  have cl : (nI m).toNatClampNeg = m := nI_clamp (by omega)
  exact nm_r (im_a1 m) ⟨hin, nm_r (by rw [cl]) ⟨hin, nm_r (by rw [cl]) ⟨hin, nm_r (by rw [cl]) hp⟩⟩⟩
end
theorem rs_tl {c : sc_T} {f : wk_Fr} {S : List wk_Fr} (h : wk_rs c (f :: S)) : wk_rs c S := h.2
section
variable {c : sc_T} {mC sd : Nat} {R R0 R' : List wk_I} {f_cells f_cellsKept f_records f_level g_size : Int32} {a_reps a_defs a_values a_entries a_entriesKept a_held a_heldKept a_pathField a_pathLast a_pathRep b_kinds b_logFields b_logValues : Nat → Int32}
theorem W_sd (hW : rl_W c mC sd R R0 f_cells f_cellsKept f_records f_level g_size a_reps a_defs a_values a_entries a_entriesKept a_held a_heldKept a_pathField a_pathLast a_pathRep b_kinds b_logFields b_logValues) (h : wk_fin c R ≠ []) : sd ≠ 0 := by
  intro e
  have := hW.1.2.2.2.2.2.2.1 e
  rw [this] at h
  exact h rfl
theorem W_open {g lc ph ph' q q' n : Nat} {S : List wk_Fr} {ar ad ae : Nat → Int32} (hW : rl_W c mC sd R R0 f_cells f_cellsKept f_records f_level g_size a_reps a_defs a_values a_entries a_entriesKept a_held a_heldKept a_pathField a_pathLast a_pathRep b_kinds b_logFields b_logValues) (hf : wk_fin c R = (g, lc, ph, q) :: S) (hu : wk_nu R R') (hf' : wk_fin c R' = (g, lc, ph', q) :: S) (hV' : wk_V c R') (hC' : wr_C c ar ad a_values R') (hN' : ∀ l, 1 ≤ l → l ≤ sc_F c → sc_lf c l = 1 → ae (sc_col c l) = nI (wk_en l R')) (hm : wk_ce R < mC) (n1 : 1 ≤ n) (n2 : n ≤ sc_F c) (eg : sc_par c n = g) (hg : sc_lf c n = 0) (hk : (n = ph' ∧ q' = q) ∨ (n = lc ∧ ph' = sc_lst c n + 1 ∧ sc_lab c n = 2 ∧ q' = sc_rp c n)) : rl_W c mC sd ((1, n, 0, q', 0) :: R') R0 (nI (wk_ce R + 1)) f_cellsKept f_records (nI (S.length + 1)) (nI (wk_ev R + 1)) ar ad a_values ae a_entriesKept (upd a_held (n - 1) (nI (wk_hn n R + 1))) a_heldKept (upd a_pathField (S.length + 1) (im_f n)) (upd (upd a_pathLast S.length (im_f n)) (S.length + 1) (-1)) (upd a_pathRep (S.length + 1) (nI q')) (upd b_kinds (wk_ev R) 2) (upd b_logFields (wk_ev R) (im_f n)) (upd b_logValues (wk_ev R) 0) := by
  have nz : wk_fin c R ≠ [] := by rw [hf]; exact List.cons_ne_nil _ _
  have sd0 := W_sd hW nz
  obtain ⟨⟨v1, ⟨R1, v2⟩, v3, v4, v5, v6, v7, v8⟩, ⟨c1, c2, c3, c4, c5, c6⟩, hC, hL, hP, hN, hH, hZ⟩ := hW
  obtain ⟨u1, u2, u3, u4, u5, u6⟩ := nu_f hu
  obtain ⟨X, ue, ux⟩ := hu
  have fin' : wk_fin c ((1, n, 0, q', 0) :: R') = (n, 0, n + 1, q') :: (g, n, sc_lst c n + 1, q) :: S := by
    show wk_st c (wk_fin c R') _ = _
    rw [hf']
    rfl
  have nn : ¬ (1 = 1 ∧ n = 0) := by omega
  refine ⟨⟨⟨?_, hV'⟩, ⟨(1, n, 0, q', 0) :: (X ++ R1), by rw [ue, v2]; simp⟩, v3, fun w => ?_, fun _ => ?_, ?_, fun w => absurd w sd0, ?_⟩, ⟨?_, ?_, c3, c4, ?_, ?_⟩, C_skip hC' (fun w => by simp at w), ?_, ?_, ?_, ?_, fun w => absurd w sd0⟩
  · rw [hf']
    rcases hk with ⟨k1, k2⟩ | ⟨k1, k2, k3, k4⟩
    · subst k2
      exact Or.inr (Or.inr (Or.inr (Or.inl ⟨n, rfl, k1, n1, n2, hg, eg⟩)))
    · subst k4
      exact Or.inr (Or.inr (Or.inr (Or.inr (Or.inl ⟨n, rfl, k1, k2, k3, n1, n2, hg, eg⟩))))
  · rw [fin'] at w
    exact absurd w (List.cons_ne_nil _ _)
  · show (if _ then _ else _) = _
    rw [if_neg nn, u5]
    exact v5 nz
  · rw [re_1, u3]
    exact v6
  · rw [fin']
    rw [hf] at v8
    refine ⟨rfl, ?_, rs_tl v8⟩
    rw [if_neg (by omega)]
  · rw [ce_1, u2]
  · rw [ce_1, u2]
    omega
  · rw [fin']
    rfl
  · rw [ev_1, u1]
  · rw [← u1]
    refine L_put (u6 _ _ _ hL) ?_ rfl rfl
    exact (if_neg (show ¬ n = 0 by omega)).symm
  · rw [fin']
    rw [hf] at hP
    obtain ⟨⟨p1, p2, p3⟩, pS⟩ := hP
    refine ⟨⟨pk_us, pk_us, pk_us⟩, ⟨?_, ?_, ?_⟩, P_keep S (fun j hj => ⟨pk_un (by omega), ?_, pk_un (by omega)⟩) pS⟩
    · rw [pk_un (by omega)]; exact p1
    · rw [pk_un (by omega), pk_us]
    · rw [pk_un (by omega)]; exact p3
    · rw [pk_un (by omega), pk_un (by omega)]
  · intro l l1 l2 l3
    rw [en_1]
    exact ⟨hN' l l1 l2 l3, (hN l l1 l2 l3).2⟩
  · intro m m1 m2
    by_cases z : m = n
    · subst z
      rw [pk_us, hn_1, u4]
      exact ⟨rfl, (hH m m1 m2).2⟩
    · rw [pk_un (by omega), hn_s1 (fun w => z w.symm), u4]
      exact hH m m1 m2
theorem W_value (h : sc_tr c) {g lc ph ph' q q' n : Nat} {v : Int32} {S : List wk_Fr} {ar ad ae : Nat → Int32} (hW : rl_W c mC sd R R0 f_cells f_cellsKept f_records f_level g_size a_reps a_defs a_values a_entries a_entriesKept a_held a_heldKept a_pathField a_pathLast a_pathRep b_kinds b_logFields b_logValues) (m4 : mC ≤ 32) (hf : wk_fin c R = (g, lc, ph, q) :: S) (hu : wk_nu R R') (hf' : wk_fin c R' = (g, lc, ph', q) :: S) (hV' : wk_V c R') (hC' : wr_C c ar ad a_values R') (hN' : ∀ l, 1 ≤ l → l ≤ sc_F c → sc_lf c l = 1 → ae (sc_col c l) = nI (wk_en l R')) (hm : wk_ce R < mC) (n1 : 1 ≤ n) (n2 : n ≤ sc_F c) (eg : sc_par c n = g) (hg : sc_lf c n = 1) (hk : (n = ph' ∧ q' = q) ∨ (n = lc ∧ ph' = sc_lst c n + 1 ∧ sc_lab c n = 2 ∧ q' = sc_rp c n)) : rl_W c mC sd ((2, n, v, q', sc_dep c n) :: R') R0 (nI (wk_ce R + 1)) f_cellsKept f_records (nI S.length) (nI (wk_ev R + 1)) (upd ar (sc_col c n * 32 + wk_en n R') (nI q')) (upd ad (sc_col c n * 32 + wk_en n R') (nI (sc_dep c n))) (upd a_values (sc_col c n * 32 + wk_hn n R) v) (upd ae (sc_col c n) (nI (wk_en n R' + 1))) a_entriesKept (upd a_held (n - 1) (nI (wk_hn n R + 1))) a_heldKept a_pathField (upd a_pathLast S.length (im_f n)) a_pathRep (upd b_kinds (wk_ev R) 3) (upd b_logFields (wk_ev R) (im_f n)) (upd b_logValues (wk_ev R) v) := by
  have nz : wk_fin c R ≠ [] := by rw [hf]; exact List.cons_ne_nil _ _
  have sd0 := W_sd hW nz
  obtain ⟨⟨v1, ⟨R1, v2⟩, v3, v4, v5, v6, v7, v8⟩, ⟨c1, c2, c3, c4, c5, c6⟩, hC, hL, hP, hN, hH, hZ⟩ := hW
  obtain ⟨u1, u2, u3, u4, u5, u6⟩ := nu_f hu
  obtain ⟨X, ue, ux⟩ := hu
  have fin' : wk_fin c ((2, n, v, q', sc_dep c n) :: R') = (g, n, sc_lst c n + 1, q) :: S := by
    show wk_st c (wk_fin c R') _ = _
    rw [hf']
    rfl
  have en := ct_2 h hg n1 n2 R' hV'
  have hh := hn_ce n R'
  refine ⟨⟨⟨?_, hV'⟩, ⟨(2, n, v, q', sc_dep c n) :: (X ++ R1), by rw [ue, v2]; simp⟩, v3, fun w => ?_, fun _ => ?_, ?_, fun w => absurd w sd0, ?_⟩, ⟨?_, ?_, c3, c4, ?_, ?_⟩, ?_, ?_, ?_, ?_, ?_, fun w => absurd w sd0⟩
  · rw [hf']
    rcases hk with ⟨k1, k2⟩ | ⟨k1, k2, k3, k4⟩
    · subst k2
      exact Or.inr (Or.inl ⟨n, v, rfl, k1, n1, n2, hg, eg⟩)
    · subst k4
      exact Or.inr (Or.inr (Or.inl ⟨n, v, rfl, k1, k2, k3, n1, n2, hg, eg⟩))
  · rw [fin'] at w
    exact absurd w (List.cons_ne_nil _ _)
  · show (if _ then _ else _) = _
    rw [if_neg (by simp), u5]
    exact v5 nz
  · rw [re_2, u3]
    exact v6
  · rw [fin']
    rw [hf] at v8
    refine ⟨?_, rs_tl v8⟩
    rw [if_neg (by omega)]
  · rw [ce_2, u2]
  · rw [ce_2, u2]
    omega
  · rw [fin']
    rfl
  · rw [ev_2, u1]
  · refine C_put h (i := (2, n, v, q', sc_dep c n)) hV' (by omega) ?_ n1 hg (show wk_en n R' < 32 by omega) (fun _ => ?_)
    · rw [← u4]
      exact C_val h (by omega) hC' n1 hg (by omega)
    · show upd _ _ _ (sc_col c n * 32 + wk_hn n R') = v
      rw [u4, pk_us]
  · rw [← u1]
    exact L_put (u6 _ _ _ hL) rfl rfl rfl
  · rw [fin']
    rw [hf] at hP
    obtain ⟨⟨p1, p2, p3⟩, pS⟩ := hP
    exact ⟨⟨p1, pk_us, p3⟩, P_keep S (fun j hj => ⟨rfl, pk_un (by omega), rfl⟩) pS⟩
  · intro l l1 l2 l3
    by_cases z : l = n
    · subst z
      rw [pk_us, en_2]
      exact ⟨rfl, (hN l l1 l2 l3).2⟩
    · rw [pk_un (fun w => z (col_inj l1 n1 l3 hg w)), en_s2 (fun w => z w.symm)]
      exact ⟨hN' l l1 l2 l3, (hN l l1 l2 l3).2⟩
  · intro m m1 m2
    by_cases z : m = n
    · subst z
      rw [pk_us, hn_2, u4]
      exact ⟨rfl, (hH m m1 m2).2⟩
    · rw [pk_un (by omega), hn_s2 (fun w => z w.symm), u4]
      exact hH m m1 m2
end
end
section
theorem W_begin {c : sc_T} {mC sd : Nat} {R R0 : List wk_I} {f_cells f_cellsKept f_records f_level g_size : Int32} {a_reps a_defs a_values a_entries a_entriesKept a_held a_heldKept a_pathField a_pathLast a_pathRep b_kinds b_logFields b_logValues : Nat → Int32} (hW : rl_W c mC sd R R0 f_cells f_cellsKept f_records f_level g_size a_reps a_defs a_values a_entries a_entriesKept a_held a_heldKept a_pathField a_pathLast a_pathRep b_kinds b_logFields b_logValues) (hs : sd ≠ 0) (hf : wk_fin c R = []) (hm : wk_ce R < mC) : rl_W c mC sd ((1, 0, 0, 0, 0) :: R) R0 (nI (wk_ce R + 1)) f_cellsKept f_records (nI 0) (nI (wk_ev R + 1)) a_reps a_defs a_values a_entries a_entriesKept a_held a_heldKept (upd a_pathField 0 (-1)) (upd a_pathLast 0 (-1)) (upd a_pathRep 0 0) (upd b_kinds (wk_ev R) 1) (upd b_logFields (wk_ev R) (-1)) (upd b_logValues (wk_ev R) 0) := by
  obtain ⟨⟨v1, ⟨R1, v2⟩, v3, v4, v5, v6, v7, v8⟩, ⟨c1, c2, c3, c4, c5, c6⟩, hC, hL, hP, hN, hH, hZ⟩ := hW
  have fin' : wk_fin c ((1, 0, 0, 0, 0) :: R) = [(0, 0, 1, 0)] := by
    show wk_st c (wk_fin c R) _ = _
    rw [hf]
    rfl
  refine ⟨⟨⟨?_, v1⟩, ⟨(1, 0, 0, 0, 0) :: R1, by rw [v2]; rfl⟩, v3, fun w => ?_, fun _ => ?_, ?_, fun w => absurd w hs, ?_⟩, ⟨?_, ?_, c3, c4, ?_, ?_⟩, C_skip hC (fun w => by simp at w), L_put hL rfl rfl rfl, ?_, ?_, ?_, fun w => absurd w hs⟩
  · rw [hf]
    rfl
  · rw [fin'] at w
    exact absurd w (List.cons_ne_nil _ _)
  · show (if _ then _ else _) = _
    rw [if_pos ⟨rfl, rfl⟩, v4 hf]
  · rw [re_1]
    exact v6
  · rw [fin']
    exact ⟨rfl, trivial⟩
  · rw [ce_1]
  · rw [ce_1]
    omega
  · rw [fin']
    rfl
  · rw [ev_1]
  · rw [fin']
    exact ⟨⟨pk_us, pk_us, pk_us⟩, trivial⟩
  · intro l l1 l2 l3
    rw [en_1]
    exact hN l l1 l2 l3
  · intro m m1 m2
    rw [hn_s1 (by omega)]
    exact hH m m1 m2
theorem i_vc_begin {k : Nat} {u : SX} {v : SY} (I : i_Rel k u v) (hk : k + 3 ≤ 1540) : wpX_begin (fun r u' => wpY_begin (fun r' v' => r' = r ∧ i_Rel (k + 3) u' v') v) u := by
  refine zz_el (P := fun u v => wpX_begin (fun r u' => wpY_begin (fun r' v' => r' = r ∧ i_Rel (k + 3) u' v') v) u) ?_ I
  intro f_maxFields f_maxLeaves f_maxDepth f_maxCells f_fields f_leaves f_leafMask f_filling f_sealed f_cells f_cellsKept f_records f_level f_chosen f_readRecord f_inRecord f_readLeaf f_readNode f_openDepth f_keepDepth f_eventField f_eventValue a_labels a_parent a_depthOf a_repOf a_lastOf a_columnOf a_reps a_defs a_values a_entries a_entriesKept a_held a_heldKept a_pathField a_pathLast a_pathRep a_readPos a_readValue a_jumpTo a_jumpDepth g_size g_reading g_pos b_leafBits b_kinds b_logFields b_logValues c fill mF mL mD mC sd R R0 ch hS hW hR
  have hS' := hS
  have hW' := hW
  obtain ⟨⟨hT, hFl⟩, ⟨rfl, rfl, rfl, rfl, m1, m2, m3, m4⟩, ⟨rfl, F1, rfl, F2, rfl, rfl, s1, s2⟩, hM, hA, hE, hD⟩ := hS
  obtain ⟨ev64, tf⟩ := top_fr (f_maxFields := nI mF) (f_maxLeaves := nI mL) (f_maxDepth := nI mD) (f_maxCells := nI mC) (f_fields := nI (sc_F c)) (f_filling := im_f fill) (f_sealed := nI sd) (f_chosen := f_chosen) (f_eventField := f_eventField) (f_eventValue := f_eventValue) (a_parent := a_parent) (a_labels := a_labels) (g_reading := g_reading) (g_pos := g_pos) (b_leafBits := b_leafBits) hT (by omega) hD m3 m4 hW
  obtain ⟨⟨w1, w2, w3, w4, w5, w6, w7, w8⟩, ⟨rfl, n2, rfl, rfl, el, rfl⟩, hC, hL, hP, hN, hH, hZ⟩ := hW
  rcases Nat.eq_zero_or_pos sd with hs | hs
  · subst hs
    exact br_t rfl (br_t rfl ⟨rfl, zz_in hS' hW' hR⟩)
  · have es : sd = 1 := by omega
    have hs1 : ¬ nI sd = 0 := by rw [es]; decide
    refine br_f hs1 ?_
    rcases tf with ⟨fe, fl, hc⟩ | ⟨g, lc, ph, q, S, k0, fe, fl, S6, g1, lc1, hI, p1, p2, p3, er, k1, k2, k3, hc, hlc⟩
    · have l0 : f_level < 0 := by rw [fl]; decide
      refine br_t l0 ?_
      by_cases z : wk_ce R = mC
      · exact br_t (by rw [z]) (br_f hs1 (hc _ (br_t (by decide) (y_ce w1 hL (by omega) rfl (br_t (by rw [z]) ⟨rfl, zz_in hS' hW' hR⟩)))))
      · have z' : ¬ nI (wk_ce R) = nI mC := fun q => z ((nI_eq (by omega) (by omega)).mp q)
        have c1 := ct_1 R w1
        refine br_f z' (nm_r (nI_1 _) (x_pu (m := 0) (by decide) fl ?_))
        exact br_f hs1 (hc _ (br_t (by decide) (y_ce w1 hL (by omega) rfl (br_f z' (y_wr (R := R) (by omega) rfl ⟨rfl, zz_in hS' (W_begin hW' (by omega) fe (by omega)) hR⟩)))))
    · have l0 : ¬ f_level < 0 := by rw [fl]; exact nI_pos (by omega)
      exact br_f l0 (br_f hs1 (hc _ (br_f (nI_pos (by omega)) ⟨rfl, zz_in hS' hW' hR⟩)))
theorem i_vc_open {k : Nat} {u : SX} {v : SY} (I : i_Rel k u v) (hk : k + 3 ≤ 1540) (v1 : Int32) : wpX_open (fun r u' => wpY_open (fun r' v' => r' = r ∧ i_Rel (k + 3) u' v') v v1) u v1 := by
  refine zz_el (P := fun u v => wpX_open (fun r u' => wpY_open (fun r' v' => r' = r ∧ i_Rel (k + 3) u' v') v v1) u v1) ?_ I
  intro f_maxFields f_maxLeaves f_maxDepth f_maxCells f_fields f_leaves f_leafMask f_filling f_sealed f_cells f_cellsKept f_records f_level f_chosen f_readRecord f_inRecord f_readLeaf f_readNode f_openDepth f_keepDepth f_eventField f_eventValue a_labels a_parent a_depthOf a_repOf a_lastOf a_columnOf a_reps a_defs a_values a_entries a_entriesKept a_held a_heldKept a_pathField a_pathLast a_pathRep a_readPos a_readValue a_jumpTo a_jumpDepth g_size g_reading g_pos b_leafBits b_kinds b_logFields b_logValues c fill mF mL mD mC sd R R0 ch hS hW hR
  obtain ⟨r, hr, hX, hY⟩ := ck_b (f_chosen := f_chosen) (f_readRecord := f_readRecord) (f_inRecord := f_inRecord) (f_readLeaf := f_readLeaf) (f_readNode := f_readNode) (f_openDepth := f_openDepth) (f_keepDepth := f_keepDepth) (f_eventField := f_eventField) (f_eventValue := f_eventValue) (a_readPos := a_readPos) (a_readValue := a_readValue) (a_jumpTo := a_jumpTo) (a_jumpDepth := a_jumpDepth) (g_reading := g_reading) (g_pos := g_pos) hS hW v1 (w := 0) (by decide)
  have hS' := hS
  have hW' := hW
  unfold wpX_open
  refine hX _ ?_
  by_cases z : r = 0
  · subst z
    obtain ⟨n, g, lc, ph, q, S, rfl, n1, nF, lfn, fe, eg, ord, hm⟩ := hr rfl
    obtain ⟨⟨hT, hFl⟩, ⟨rfl, rfl, rfl, rfl, m1, m2, m3, m4⟩, ⟨rfl, F1, rfl, F2, rfl, rfl, s1, s2⟩, hM, hA, hE, hD⟩ := hS
    have sd0 := W_sd hW' (by rw [fe]; exact List.cons_ne_nil _ _)
    have f0 : fill = 0 := s2 (by omega)
    subst f0
    obtain ⟨⟨w1, w2, w3, w4, w5, w6, w7, w8⟩, ⟨rfl, n2, rfl, rfl, rfl, rfl⟩, hC, hL, hP, hN, hH, hZ⟩ := hW
    have hI := V_inv hT R w1
    have c1 := ct_1 R w1
    rw [fe] at hI hP w8 c1
    have c1' : wk_ev R + (S.length + 1) ≤ 2 * wk_ce R := c1
    obtain ⟨⟨i1, i2, i3, i4, i5, i6, i7⟩, il, iS⟩ := hI
    obtain ⟨⟨p1, p2, p3⟩, pS⟩ := hP
    have dg := hD g i1 i2
    have rd := tr_rd hT g i1
    refine br_t rfl ?_
    refine x_ent (c := c) (R := R) hT (by omega) hA hE (by omega) (by rw [fe]; rfl) (by omega) p1 p2 p3 (by omega) fe w8.1 w1 (by omega) rfl hC (fun l a b d => (hN l a b d).1) (hH n n1 (by omega)).1 n1 nF eg ord ?_
    intro R' ph' q' ar ad ae hu hf' hV' hk' hC' hN'
    refine x_pu (m := S.length + 1) (by omega) (by rw [fe]; rfl) ?_
    unfold wpY_open
    exact hY _ (br_t rfl (y_wr (R := R) (by omega) rfl ⟨rfl, zz_in hS' (W_open hW' fe hu hf' hV' hC' hN' hm n1 nF eg lfn hk') hR⟩))
  · refine br_f z ?_
    unfold wpY_open
    exact hY _ (br_f z ⟨rfl, zz_in hS' hW' hR⟩)
theorem i_vc_value {k : Nat} {u : SX} {v : SY} (I : i_Rel k u v) (hk : k + 3 ≤ 1540) (v1 : Int32) (v2 : Int32) : wpX_value (fun r u' => wpY_value (fun r' v' => r' = r ∧ i_Rel (k + 3) u' v') v v1 v2) u v1 v2 := by
  refine zz_el (P := fun u v => wpX_value (fun r u' => wpY_value (fun r' v' => r' = r ∧ i_Rel (k + 3) u' v') v v1 v2) u v1 v2) ?_ I
  intro f_maxFields f_maxLeaves f_maxDepth f_maxCells f_fields f_leaves f_leafMask f_filling f_sealed f_cells f_cellsKept f_records f_level f_chosen f_readRecord f_inRecord f_readLeaf f_readNode f_openDepth f_keepDepth f_eventField f_eventValue a_labels a_parent a_depthOf a_repOf a_lastOf a_columnOf a_reps a_defs a_values a_entries a_entriesKept a_held a_heldKept a_pathField a_pathLast a_pathRep a_readPos a_readValue a_jumpTo a_jumpDepth g_size g_reading g_pos b_leafBits b_kinds b_logFields b_logValues c fill mF mL mD mC sd R R0 ch hS hW hR
  obtain ⟨r, hr, hX, hY⟩ := ck_b (f_chosen := f_chosen) (f_readRecord := f_readRecord) (f_inRecord := f_inRecord) (f_readLeaf := f_readLeaf) (f_readNode := f_readNode) (f_openDepth := f_openDepth) (f_keepDepth := f_keepDepth) (f_eventField := f_eventField) (f_eventValue := f_eventValue) (a_readPos := a_readPos) (a_readValue := a_readValue) (a_jumpTo := a_jumpTo) (a_jumpDepth := a_jumpDepth) (g_reading := g_reading) (g_pos := g_pos) hS hW v1 (w := 1) (by decide)
  have hS' := hS
  have hW' := hW
  unfold wpX_value
  refine hX _ ?_
  by_cases z : r = 0
  · subst z
    obtain ⟨n, g, lc, ph, q, S, rfl, n1, nF, lfn, fe, eg, ord, hm⟩ := hr rfl
    obtain ⟨⟨hT, hFl⟩, ⟨rfl, rfl, rfl, rfl, m1, m2, m3, m4⟩, ⟨rfl, F1, rfl, F2, rfl, rfl, s1, s2⟩, hM, hA, hE, hD⟩ := hS
    have sd0 := W_sd hW' (by rw [fe]; exact List.cons_ne_nil _ _)
    have f0 : fill = 0 := s2 (by omega)
    subst f0
    obtain ⟨⟨w1, w2, w3, w4, w5, w6, w7, w8⟩, ⟨rfl, n2, rfl, rfl, rfl, rfl⟩, hC, hL, hP, hN, hH, hZ⟩ := hW
    have hI := V_inv hT R w1
    have c1 := ct_1 R w1
    rw [fe] at hI hP w8 c1
    have c1' : wk_ev R + (S.length + 1) ≤ 2 * wk_ce R := c1
    obtain ⟨⟨i1, i2, i3, i4, i5, i6, i7⟩, il, iS⟩ := hI
    obtain ⟨⟨p1, p2, p3⟩, pS⟩ := hP
    have dg := hD g i1 i2
    have rd := tr_rd hT g i1
    have rdn := tr_rd hT n nF
    have dn := tr_dp hT n1 nF
    rw [eg] at dn
    have hin : vp_in (im_f n) 16 := im_in n1 (by omega) (by decide)
    have cl : (im_f n).toNatClampNeg = n - 1 := im_cl n1 (by omega)
    have col8 := col_lt n1 nF lfn
    have hnc := hn_ce n R
    obtain ⟨a1, a2, a3, a4, a5, a6⟩ := hA n n1 nF
    rw [if_pos lfn] at a5
    refine br_t rfl ?_
    refine x_ent (c := c) (R := R) hT (by omega) hA hE (by omega) (by rw [fe]; rfl) (by omega) p1 p2 p3 (by omega) fe w8.1 w1 (by omega) rfl hC (fun l a b d => (hN l a b d).1) (hH n n1 (by omega)).1 n1 nF eg ord ?_
    intro R' ph' q' ar ad ae hu hf' hV' hk' hC' hN'
    have e1 : nI (sc_col c n) * 32 + upd a_held (n - 1) (nI (wk_hn n R + 1)) (im_f n).toNatClampNeg - 1 = nI (sc_col c n * 32 + wk_hn n R) := by
      rw [cl, pk_us, show (32 : Int32) = nI 32 from rfl, pk_mul, nI_add, ← Nat.add_assoc, nI_pred]
    have hq' : q' < 8 := by
      rcases hk' with ⟨_, y⟩ | ⟨_, _, _, y⟩ <;> omega
    have enb := ct_2 hT lfn n1 nF R' hV'
    obtain ⟨u1, u2, u3, u4, u5, u6⟩ := nu_f hu
    refine ⟨hin, nm_r (e' := nI (sc_col c n)) (by rw [cl]; exact a5) ⟨hin, by rw [e1]; exact vp_in_nI (by omega) (by decide), nm_r (e' := upd a_values (sc_col c n * 32 + wk_hn n R) v2) (by rw [e1, nI_clamp (by omega)]) ⟨hin, ?_⟩⟩⟩
    rw [cl, a3]
    refine x_ap (k := wk_en n R') (by omega) (by omega) (hN' n n1 nF lfn) hq' (by omega) ?_
    unfold wpY_value
    refine hY _ (br_t rfl (y_wr (R := R) (by omega) rfl ⟨rfl, ?_⟩))
    have hWW := W_value hT hW' (v := v2) m4 fe hu hf' hV' hC' hN' hm n1 nF eg lfn hk'
    rw [fe]
    exact zz_in hS' hWW hR
  · refine br_f z ?_
    unfold wpY_value
    exact hY _ (br_f z ⟨rfl, zz_in hS' hW' hR⟩)
end
section
/-! the copying loops -/
section
variable {f_maxFields f_maxLeaves f_maxDepth f_maxCells f_fields f_leaves f_leafMask f_filling f_sealed f_cells f_cellsKept f_records f_level f_chosen f_readRecord f_inRecord f_readLeaf f_readNode f_openDepth f_keepDepth f_eventField f_eventValue : Int32} {a_labels a_parent a_depthOf a_repOf a_lastOf a_columnOf a_reps a_defs a_values a_entries a_entriesKept a_held a_heldKept a_pathField a_pathLast a_pathRep a_readPos a_readValue a_jumpTo a_jumpDepth : Nat → Int32}
theorem x_c46 {post : SX → Prop} : ∀ (d i : Nat) (a_entriesKept : Nat → Int32), i + d = 8 → (∀ j, j < i → a_entriesKept j = a_entries j) → (∀ (w : Nat → Int32), (∀ j, j < 8 → w j = a_entries j) → post (f_maxFields, f_maxLeaves, f_maxDepth, f_maxCells, f_fields, f_leaves, f_leafMask, f_filling, f_sealed, f_cells, f_cellsKept, f_records, f_level, f_chosen, f_readRecord, f_inRecord, f_readLeaf, f_readNode, f_openDepth, f_keepDepth, f_eventField, f_eventValue, a_labels, a_parent, a_depthOf, a_repOf, a_lastOf, a_columnOf, a_reps, a_defs, a_values, a_entries, w, a_held, a_heldKept, a_pathField, a_pathLast, a_pathRep, a_readPos, a_readValue, a_jumpTo, a_jumpDepth)) → ∀ n, d < n → wX_commit_46 post f_maxFields f_maxLeaves f_maxDepth f_maxCells f_fields f_leaves f_leafMask f_filling f_sealed f_cells f_cellsKept f_records f_level f_chosen f_readRecord f_inRecord f_readLeaf f_readNode f_openDepth f_keepDepth f_eventField f_eventValue n (nI i) a_labels a_parent a_depthOf a_repOf a_lastOf a_columnOf a_reps a_defs a_values a_entries a_entriesKept a_held a_heldKept a_pathField a_pathLast a_pathRep a_readPos a_readValue a_jumpTo a_jumpDepth := by
  intro d
  induction d with
  | zero =>
    intro i a_entriesKept hi h K n hn
    obtain ⟨m, rfl⟩ : ∃ m, n = m + 1 := ⟨n - 1, by omega⟩
    have e : i = 8 := by omega
    subst e
    exact br_t (nI_le (b := 8) (Nat.le_refl _) (by decide)) (K _ h)
  | succ d ih =>
    intro i a_entriesKept hi h K n hn
    obtain ⟨m, rfl⟩ : ∃ m, n = m + 1 := ⟨n - 1, by omega⟩
    have hin : vp_in (nI i) 8 := vp_in_nI (by omega) (by decide)
    have cl : (nI i).toNatClampNeg = i := nI_clamp (by omega)
    refine br_f (nI_ge (b := 8) (by omega) (by decide)) ⟨hin, hin, nm_r (by rw [cl]) (nm_r (nI_1 _) ?_)⟩
    exact ih (i + 1) (upd a_entriesKept i (a_entries i)) (by omega) (fun j hj => by
      by_cases z : j = i
      · rw [z, pk_us]
      · rw [pk_un z]
        exact h j (by omega)) K m (by omega)
theorem x_c20 {post : SX → Prop} : ∀ (d i : Nat) (a_heldKept : Nat → Int32), i + d = 16 → (∀ j, j < i → a_heldKept j = a_held j) → (∀ (w : Nat → Int32), (∀ j, j < 16 → w j = a_held j) → ∃ n, wX_commit_46 post f_maxFields f_maxLeaves f_maxDepth f_maxCells f_fields f_leaves f_leafMask f_filling f_sealed f_cells f_cellsKept f_records f_level f_chosen f_readRecord f_inRecord f_readLeaf f_readNode f_openDepth f_keepDepth f_eventField f_eventValue n 0 a_labels a_parent a_depthOf a_repOf a_lastOf a_columnOf a_reps a_defs a_values a_entries a_entriesKept a_held w a_pathField a_pathLast a_pathRep a_readPos a_readValue a_jumpTo a_jumpDepth) → ∀ n, d < n → wX_commit_20 post f_maxFields f_maxLeaves f_maxDepth f_maxCells f_fields f_leaves f_leafMask f_filling f_sealed f_cells f_cellsKept f_records f_level f_chosen f_readRecord f_inRecord f_readLeaf f_readNode f_openDepth f_keepDepth f_eventField f_eventValue n (nI i) a_labels a_parent a_depthOf a_repOf a_lastOf a_columnOf a_reps a_defs a_values a_entries a_entriesKept a_held a_heldKept a_pathField a_pathLast a_pathRep a_readPos a_readValue a_jumpTo a_jumpDepth := by
  intro d
  induction d with
  | zero =>
    intro i a_heldKept hi h K n hn
    obtain ⟨m, rfl⟩ : ∃ m, n = m + 1 := ⟨n - 1, by omega⟩
    have e : i = 16 := by omega
    subst e
    exact br_t (nI_le (b := 16) (Nat.le_refl _) (by decide)) (K _ h)
  | succ d ih =>
    intro i a_heldKept hi h K n hn
    obtain ⟨m, rfl⟩ : ∃ m, n = m + 1 := ⟨n - 1, by omega⟩
    have hin : vp_in (nI i) 16 := vp_in_nI (by omega) (by decide)
    have cl : (nI i).toNatClampNeg = i := nI_clamp (by omega)
    refine br_f (nI_ge (b := 16) (by omega) (by decide)) ⟨hin, hin, nm_r (by rw [cl]) (nm_r (nI_1 _) ?_)⟩
    exact ih (i + 1) (upd a_heldKept i (a_held i)) (by omega) (fun j hj => by
      by_cases z : j = i
      · rw [z, pk_us]
      · rw [pk_un z]
        exact h j (by omega)) K m (by omega)
theorem x_r36 {post : SX → Prop} : ∀ (d i : Nat) (a_entries : Nat → Int32), i + d = 8 → (∀ j, j < i → a_entries j = a_entriesKept j) → (∀ (w : Nat → Int32), (∀ j, j < 8 → w j = a_entriesKept j) → post (f_maxFields, f_maxLeaves, f_maxDepth, f_maxCells, f_fields, f_leaves, f_leafMask, f_filling, f_sealed, f_cells, f_cellsKept, f_records, f_level, f_chosen, f_readRecord, f_inRecord, f_readLeaf, f_readNode, f_openDepth, f_keepDepth, f_eventField, f_eventValue, a_labels, a_parent, a_depthOf, a_repOf, a_lastOf, a_columnOf, a_reps, a_defs, a_values, w, a_entriesKept, a_held, a_heldKept, a_pathField, a_pathLast, a_pathRep, a_readPos, a_readValue, a_jumpTo, a_jumpDepth)) → ∀ n, d < n → wX_restore_36 post f_maxFields f_maxLeaves f_maxDepth f_maxCells f_fields f_leaves f_leafMask f_filling f_sealed f_cells f_cellsKept f_records f_level f_chosen f_readRecord f_inRecord f_readLeaf f_readNode f_openDepth f_keepDepth f_eventField f_eventValue n (nI i) a_labels a_parent a_depthOf a_repOf a_lastOf a_columnOf a_reps a_defs a_values a_entries a_entriesKept a_held a_heldKept a_pathField a_pathLast a_pathRep a_readPos a_readValue a_jumpTo a_jumpDepth := by
  intro d
  induction d with
  | zero =>
    intro i a_entries hi h K n hn
    obtain ⟨m, rfl⟩ : ∃ m, n = m + 1 := ⟨n - 1, by omega⟩
    have e : i = 8 := by omega
    subst e
    exact br_t (nI_le (b := 8) (Nat.le_refl _) (by decide)) (K _ h)
  | succ d ih =>
    intro i a_entries hi h K n hn
    obtain ⟨m, rfl⟩ : ∃ m, n = m + 1 := ⟨n - 1, by omega⟩
    have hin : vp_in (nI i) 8 := vp_in_nI (by omega) (by decide)
    have cl : (nI i).toNatClampNeg = i := nI_clamp (by omega)
    refine br_f (nI_ge (b := 8) (by omega) (by decide)) ⟨hin, hin, nm_r (by rw [cl]) (nm_r (nI_1 _) ?_)⟩
    exact ih (i + 1) (upd a_entries i (a_entriesKept i)) (by omega) (fun j hj => by
      by_cases z : j = i
      · rw [z, pk_us]
      · rw [pk_un z]
        exact h j (by omega)) K m (by omega)
theorem x_r10 {post : SX → Prop} : ∀ (d i : Nat) (a_held : Nat → Int32), i + d = 16 → (∀ j, j < i → a_held j = a_heldKept j) → (∀ (w : Nat → Int32), (∀ j, j < 16 → w j = a_heldKept j) → ∃ n, wX_restore_36 post f_maxFields f_maxLeaves f_maxDepth f_maxCells f_fields f_leaves f_leafMask f_filling f_sealed f_cells f_cellsKept f_records f_level f_chosen f_readRecord f_inRecord f_readLeaf f_readNode f_openDepth f_keepDepth f_eventField f_eventValue n 0 a_labels a_parent a_depthOf a_repOf a_lastOf a_columnOf a_reps a_defs a_values a_entries a_entriesKept w a_heldKept a_pathField a_pathLast a_pathRep a_readPos a_readValue a_jumpTo a_jumpDepth) → ∀ n, d < n → wX_restore_10 post f_maxFields f_maxLeaves f_maxDepth f_maxCells f_fields f_leaves f_leafMask f_filling f_sealed f_cells f_cellsKept f_records f_level f_chosen f_readRecord f_inRecord f_readLeaf f_readNode f_openDepth f_keepDepth f_eventField f_eventValue n (nI i) a_labels a_parent a_depthOf a_repOf a_lastOf a_columnOf a_reps a_defs a_values a_entries a_entriesKept a_held a_heldKept a_pathField a_pathLast a_pathRep a_readPos a_readValue a_jumpTo a_jumpDepth := by
  intro d
  induction d with
  | zero =>
    intro i a_held hi h K n hn
    obtain ⟨m, rfl⟩ : ∃ m, n = m + 1 := ⟨n - 1, by omega⟩
    have e : i = 16 := by omega
    subst e
    exact br_t (nI_le (b := 16) (Nat.le_refl _) (by decide)) (K _ h)
  | succ d ih =>
    intro i a_held hi h K n hn
    obtain ⟨m, rfl⟩ : ∃ m, n = m + 1 := ⟨n - 1, by omega⟩
    have hin : vp_in (nI i) 16 := vp_in_nI (by omega) (by decide)
    have cl : (nI i).toNatClampNeg = i := nI_clamp (by omega)
    refine br_f (nI_ge (b := 16) (by omega) (by decide)) ⟨hin, hin, nm_r (by rw [cl]) (nm_r (nI_1 _) ?_)⟩
    exact ih (i + 1) (upd a_held i (a_heldKept i)) (by omega) (fun j hj => by
      by_cases z : j = i
      · rw [z, pk_us]
      · rw [pk_un z]
        exact h j (by omega)) K m (by omega)
theorem x_cm {post : SX → Prop} {r : Nat} (er : f_records = nI r) (K : ∀ w1 w2 : Nat → Int32, (∀ j, j < 16 → w1 j = a_held j) → (∀ j, j < 8 → w2 j = a_entries j) → post (f_maxFields, f_maxLeaves, f_maxDepth, f_maxCells, f_fields, f_leaves, f_leafMask, f_filling, f_sealed, f_cells, f_cells, nI (r + 1), f_level, f_chosen, f_readRecord, f_inRecord, f_readLeaf, f_readNode, f_openDepth, f_keepDepth, f_eventField, f_eventValue, a_labels, a_parent, a_depthOf, a_repOf, a_lastOf, a_columnOf, a_reps, a_defs, a_values, a_entries, w2, a_held, w1, a_pathField, a_pathLast, a_pathRep, a_readPos, a_readValue, a_jumpTo, a_jumpDepth)) : wpX_commit post (f_maxFields, f_maxLeaves, f_maxDepth, f_maxCells, f_fields, f_leaves, f_leafMask, f_filling, f_sealed, f_cells, f_cellsKept, f_records, f_level, f_chosen, f_readRecord, f_inRecord, f_readLeaf, f_readNode, f_openDepth, f_keepDepth, f_eventField, f_eventValue, a_labels, a_parent, a_depthOf, a_repOf, a_lastOf, a_columnOf, a_reps, a_defs, a_values, a_entries, a_entriesKept, a_held, a_heldKept, a_pathField, a_pathLast, a_pathRep, a_readPos, a_readValue, a_jumpTo, a_jumpDepth) := by
  subst er
  refine nm_r (nI_1 _) ⟨17, ?_⟩
  refine x_c20 16 0 _ (by omega) (fun j hj => by omega) (fun w1 h1 => ⟨9, ?_⟩) _ (by omega)
  exact x_c46 8 0 _ (by omega) (fun j hj => by omega) (fun w2 h2 => K w1 w2 h1 h2) _ (by omega)
theorem x_rs {post : SX → Prop} (K : ∀ w1 w2 : Nat → Int32, (∀ j, j < 16 → w1 j = a_heldKept j) → (∀ j, j < 8 → w2 j = a_entriesKept j) → post (f_maxFields, f_maxLeaves, f_maxDepth, f_maxCells, f_fields, f_leaves, f_leafMask, f_filling, f_sealed, f_cellsKept, f_cellsKept, f_records, f_level, f_chosen, f_readRecord, f_inRecord, f_readLeaf, f_readNode, f_openDepth, f_keepDepth, f_eventField, f_eventValue, a_labels, a_parent, a_depthOf, a_repOf, a_lastOf, a_columnOf, a_reps, a_defs, a_values, w2, a_entriesKept, w1, a_heldKept, a_pathField, a_pathLast, a_pathRep, a_readPos, a_readValue, a_jumpTo, a_jumpDepth)) : wpX_restore post (f_maxFields, f_maxLeaves, f_maxDepth, f_maxCells, f_fields, f_leaves, f_leafMask, f_filling, f_sealed, f_cells, f_cellsKept, f_records, f_level, f_chosen, f_readRecord, f_inRecord, f_readLeaf, f_readNode, f_openDepth, f_keepDepth, f_eventField, f_eventValue, a_labels, a_parent, a_depthOf, a_repOf, a_lastOf, a_columnOf, a_reps, a_defs, a_values, a_entries, a_entriesKept, a_held, a_heldKept, a_pathField, a_pathLast, a_pathRep, a_readPos, a_readValue, a_jumpTo, a_jumpDepth) := by
  refine ⟨17, ?_⟩
  refine x_r10 16 0 _ (by omega) (fun j hj => by omega) (fun w1 h1 => ⟨9, ?_⟩) _ (by omega)
  exact x_r36 8 0 _ (by omega) (fun j hj => by omega) (fun w2 h2 => K w1 w2 h1 h2) _ (by omega)
theorem x_e58 {post : Int32 → SX → Prop} {x1 : Int32} : ∀ (d i : Nat) (a_entriesKept : Nat → Int32), i + d = 8 → (∀ j, j < i → a_entriesKept j = 0) → (∀ (w : Nat → Int32), (∀ j, j < 8 → w j = 0) → wpX_restore (fun u => wpX_resetReader (fun u => post x1 u) u 0 0) (f_maxFields, f_maxLeaves, f_maxDepth, f_maxCells, f_fields, f_leaves, f_leafMask, f_filling, f_sealed, f_cells, f_cellsKept, f_records, f_level, f_chosen, f_readRecord, f_inRecord, f_readLeaf, f_readNode, f_openDepth, f_keepDepth, f_eventField, f_eventValue, a_labels, a_parent, a_depthOf, a_repOf, a_lastOf, a_columnOf, a_reps, a_defs, a_values, a_entries, w, a_held, a_heldKept, a_pathField, a_pathLast, a_pathRep, a_readPos, a_readValue, a_jumpTo, a_jumpDepth)) → ∀ n, d < n → wX_erase_58 post x1 f_maxFields f_maxLeaves f_maxDepth f_maxCells f_fields f_leaves f_leafMask f_filling f_sealed f_cells f_cellsKept f_records f_level f_chosen f_readRecord f_inRecord f_readLeaf f_readNode f_openDepth f_keepDepth f_eventField f_eventValue n (nI i) a_labels a_parent a_depthOf a_repOf a_lastOf a_columnOf a_reps a_defs a_values a_entries a_entriesKept a_held a_heldKept a_pathField a_pathLast a_pathRep a_readPos a_readValue a_jumpTo a_jumpDepth := by
  intro d
  induction d with
  | zero =>
    intro i a_entriesKept hi h K n hn
    obtain ⟨m, rfl⟩ : ∃ m, n = m + 1 := ⟨n - 1, by omega⟩
    have e : i = 8 := by omega
    subst e
    exact br_t (nI_le (b := 8) (Nat.le_refl _) (by decide)) (K _ h)
  | succ d ih =>
    intro i a_entriesKept hi h K n hn
    obtain ⟨m, rfl⟩ : ∃ m, n = m + 1 := ⟨n - 1, by omega⟩
    have hin : vp_in (nI i) 8 := vp_in_nI (by omega) (by decide)
    have cl : (nI i).toNatClampNeg = i := nI_clamp (by omega)
    refine br_f (nI_ge (b := 8) (by omega) (by decide)) ⟨hin, nm_r (by rw [cl]) (nm_r (nI_1 _) ?_)⟩
    exact ih (i + 1) (upd a_entriesKept i (0)) (by omega) (fun j hj => by
      by_cases z : j = i
      · rw [z, pk_us]
      · rw [pk_un z]
        exact h j (by omega)) K m (by omega)
theorem x_e37 {post : Int32 → SX → Prop} {x1 : Int32} : ∀ (d i : Nat) (a_heldKept : Nat → Int32), i + d = 16 → (∀ j, j < i → a_heldKept j = 0) → (∀ (w : Nat → Int32), (∀ j, j < 16 → w j = 0) → ∃ n, wX_erase_58 post x1 f_maxFields f_maxLeaves f_maxDepth f_maxCells f_fields f_leaves f_leafMask f_filling f_sealed f_cells f_cellsKept f_records f_level f_chosen f_readRecord f_inRecord f_readLeaf f_readNode f_openDepth f_keepDepth f_eventField f_eventValue n 0 a_labels a_parent a_depthOf a_repOf a_lastOf a_columnOf a_reps a_defs a_values a_entries a_entriesKept a_held w a_pathField a_pathLast a_pathRep a_readPos a_readValue a_jumpTo a_jumpDepth) → ∀ n, d < n → wX_erase_37 post x1 f_maxFields f_maxLeaves f_maxDepth f_maxCells f_fields f_leaves f_leafMask f_filling f_sealed f_cells f_cellsKept f_records f_level f_chosen f_readRecord f_inRecord f_readLeaf f_readNode f_openDepth f_keepDepth f_eventField f_eventValue n (nI i) a_labels a_parent a_depthOf a_repOf a_lastOf a_columnOf a_reps a_defs a_values a_entries a_entriesKept a_held a_heldKept a_pathField a_pathLast a_pathRep a_readPos a_readValue a_jumpTo a_jumpDepth := by
  intro d
  induction d with
  | zero =>
    intro i a_heldKept hi h K n hn
    obtain ⟨m, rfl⟩ : ∃ m, n = m + 1 := ⟨n - 1, by omega⟩
    have e : i = 16 := by omega
    subst e
    exact br_t (nI_le (b := 16) (Nat.le_refl _) (by decide)) (K _ h)
  | succ d ih =>
    intro i a_heldKept hi h K n hn
    obtain ⟨m, rfl⟩ : ∃ m, n = m + 1 := ⟨n - 1, by omega⟩
    have hin : vp_in (nI i) 16 := vp_in_nI (by omega) (by decide)
    have cl : (nI i).toNatClampNeg = i := nI_clamp (by omega)
    refine br_f (nI_ge (b := 16) (by omega) (by decide)) ⟨hin, nm_r (by rw [cl]) (nm_r (nI_1 _) ?_)⟩
    exact ih (i + 1) (upd a_heldKept i (0)) (by omega) (fun j hj => by
      by_cases z : j = i
      · rw [z, pk_us]
      · rw [pk_un z]
        exact h j (by omega)) K m (by omega)
end
end
section
section
variable {c : sc_T} {ch : Nat → Bool}
theorem ext_B (h : sc_tr c) {Y : List wk_I} : ∀ (B : List wk_I) (g lc ph r : Nat) (S : List wk_Fr), wk_inv c ((g, lc, ph, r) :: S) → wk_W c B ((g, lc, ph, r) :: S) → wk_go c B ((g, lc, ph, r) :: S) = [] → wk_nl ch (B ++ Y) = wk_nl ch B ∧ wk_low c ch (B ++ Y) ((g, lc, ph, r) :: S) = wk_low c ch B ((g, lc, ph, r) :: S) := by
  intro B
  induction B with
  | nil => intro g lc ph r S _ _ hg; exact absurd hg (List.cons_ne_nil _ _)
  | cons i B ih =>
    intro g lc ph r S hi hW hg
    obtain ⟨hk, hW⟩ := hW
    have hi' := wk_is h hi hk
    have hg' : wk_go c B (wk_st c ((g, lc, ph, r) :: S) i) = [] := hg
    obtain ⟨_, il, iS⟩ := hi
    have app : (i :: B) ++ Y = i :: (B ++ Y) := rfl
    rw [app]
    rcases hk with ⟨rfl, hq⟩ | ⟨n, v, rfl, e0, h1, h2, h3, h4⟩ | ⟨n, v, rfl, e0, e1, e2, h1, h2, h3, h4⟩ | ⟨n, rfl, e0, h1, h2, h3, h4⟩ | ⟨n, rfl, e0, e1, e2, h1, h2, h3, h4⟩ | ⟨rfl, hq⟩
    · rw [st_0] at hi' hW hg'
      obtain ⟨a1, a2⟩ := ih _ _ _ _ _ hi' hW hg'
      rcases Bool.eq_false_or_eq_true (ch ph) with z | z
      · rw [nl_e0 z, nl_e0 z, low_e0 z, low_e0 z]; exact ⟨rfl, rfl⟩
      · rw [nl_s0 z, nl_s0 z, low_s0 z, low_s0 z, st_0, a1, a2]; exact ⟨rfl, rfl⟩
    · rw [st_2] at hi' hW hg'
      obtain ⟨a1, a2⟩ := ih _ _ _ _ _ hi' hW hg'
      rcases Bool.eq_false_or_eq_true (ch n) with z | z
      · rw [nl_e2 z, nl_e2 z, low_e2 z, low_e2 z]; exact ⟨rfl, rfl⟩
      · rw [nl_s2 z, nl_s2 z, low_s2 z, low_s2 z, st_2, a1, a2]; exact ⟨rfl, rfl⟩
    · rw [st_2] at hi' hW hg'
      obtain ⟨a1, a2⟩ := ih _ _ _ _ _ hi' hW hg'
      rcases Bool.eq_false_or_eq_true (ch n) with z | z
      · rw [nl_e2 z, nl_e2 z, low_e2 z, low_e2 z]; exact ⟨rfl, rfl⟩
      · rw [nl_s2 z, nl_s2 z, low_s2 z, low_s2 z, st_2, a1, a2]; exact ⟨rfl, rfl⟩
    · rw [st_1] at hi' hW hg'
      obtain ⟨a1, a2⟩ := ih _ _ _ _ _ hi' hW hg'
      rw [nl_1, nl_1, low_1, low_1, st_1, a1, a2]; exact ⟨rfl, rfl⟩
    · rw [st_1] at hi' hW hg'
      obtain ⟨a1, a2⟩ := ih _ _ _ _ _ hi' hW hg'
      rw [nl_1, nl_1, low_1, low_1, st_1, a1, a2]; exact ⟨rfl, rfl⟩
    · rw [st_3] at hi' hW hg'
      cases S with
      | nil =>
        obtain ⟨g0, r0⟩ := il
        subst g0
        rw [nl_30, nl_30, low_30, low_30]; exact ⟨rfl, rfl⟩
      | cons f' S' =>
        obtain ⟨g', lc', ph', r'⟩ := f'
        obtain ⟨k1, _, _, ep⟩ := il
        obtain ⟨a1, a2⟩ := ih _ _ _ _ _ hi' hW hg'
        rw [nl_3 (by omega), nl_3 (by omega), low_3 (by omega), low_3 (by omega), st_3, a1, a2]; exact ⟨rfl, rfl⟩
theorem R_ext (h : sc_tr c) {sd : Nat} {R0 X : List wk_I} {f_chosen f_readRecord f_inRecord f_readLeaf f_readNode f_openDepth f_keepDepth g_reading g_pos : Int32} {a_readPos a_readValue a_jumpTo a_jumpDepth : Nat → Int32} (hV : wk_V c R0) (hf : wk_fin c R0 = []) (hR : rl_R c sd R0 ch f_chosen f_readRecord f_inRecord f_readLeaf f_readNode f_openDepth f_keepDepth g_reading g_pos a_readPos a_readValue a_jumpTo a_jumpDepth) : rl_R c sd (X ++ R0) ch f_chosen f_readRecord f_inRecord f_readLeaf f_readNode f_openDepth f_keepDepth g_reading g_pos a_readPos a_readValue a_jumpTo a_jumpDepth := by
  obtain ⟨r1, r2, r3, r4⟩ := hR
  refine ⟨r1, r2, r3, ?_⟩
  rcases r4 with q | ⟨q1, q2, H, B, b1, b2, b3, b4, b5, b6⟩
  · exact Or.inl q
  · refine Or.inr ⟨q1, q2, H, B ++ X.reverse, ?_, b2, b3, b4, b5, ?_⟩
    · rw [rv_app, b1, rv_rev]
    · rcases b6 with y | ⟨y1, y2, k, y3, y4, y5, y6, y7, y8⟩
      · exact Or.inl y
      · refine Or.inr ⟨y1, y2, k, y3, y4, ?_, y6, y7, ?_⟩
        all_goals
          rw [← b1] at hV hf
          obtain ⟨x1, x2⟩ := (rv_V B H).mp hV
          have x3 := V_inv h H x1
          rw [rv_fin] at hf
          rcases hH : wk_fin c H with _ | ⟨⟨g, lc, ph, r⟩, S⟩
          · exact absurd hH y1
          · rw [hH] at x2 x3 hf y8
            obtain ⟨e1, e2⟩ := ext_B (ch := ch) h (Y := X.reverse) B g lc ph r S x3 x2 hf
            first
              | rw [e1]; exact y5
              | rw [e2]; exact y8
end
section
variable {c : sc_T} {mC sd : Nat} {R R0 R' : List wk_I} {f_cells f_cellsKept f_records f_level g_size : Int32} {a_reps a_defs a_values a_entries a_entriesKept a_held a_heldKept a_pathField a_pathLast a_pathRep b_kinds b_logFields b_logValues : Nat → Int32}
theorem W_close {g lc ph q : Nat} {f' : wk_Fr} {S' : List wk_Fr} {ar ad ae : Nat → Int32} (h : sc_tr c) (hW : rl_W c mC sd R R0 f_cells f_cellsKept f_records f_level g_size a_reps a_defs a_values a_entries a_entriesKept a_held a_heldKept a_pathField a_pathLast a_pathRep b_kinds b_logFields b_logValues) (hf : wk_fin c R = (g, lc, ph, q) :: f' :: S') (hu : wk_nu R R') (hf' : wk_fin c R' = (g, lc, sc_lst c g + 1, q) :: f' :: S') (hV' : wk_V c R') (hC' : wr_C c ar ad a_values R') (hN' : ∀ l, 1 ≤ l → l ≤ sc_F c → sc_lf c l = 1 → ae (sc_col c l) = nI (wk_en l R')) (g0 : g ≠ 0) : rl_W c mC sd ((3, g, 0, 0, 0) :: R') R0 f_cells f_cellsKept f_records (nI S'.length) (nI (wk_ev R + 1)) ar ad a_values ae a_entriesKept a_held a_heldKept a_pathField a_pathLast a_pathRep (upd b_kinds (wk_ev R) 4) (upd b_logFields (wk_ev R) (im_f g)) (upd b_logValues (wk_ev R) 0) := by
  have nz : wk_fin c R ≠ [] := by rw [hf]; exact List.cons_ne_nil _ _
  have sd0 := W_sd hW nz
  obtain ⟨⟨v1, ⟨R1, v2⟩, v3, v4, v5, v6, v7, v8⟩, ⟨c1, c2, c3, c4, c5, c6⟩, hC, hL, hP, hN, hH, hZ⟩ := hW
  obtain ⟨u1, u2, u3, u4, u5, u6⟩ := nu_f hu
  obtain ⟨X, ue, ux⟩ := hu
  have fin' : wk_fin c ((3, g, 0, 0, 0) :: R') = f' :: S' := by
    show wk_st c (wk_fin c R') _ = _
    rw [hf']
    rfl
  refine ⟨⟨⟨?_, hV'⟩, ⟨(3, g, 0, 0, 0) :: (X ++ R1), by rw [ue, v2]; simp⟩, v3, fun w => ?_, fun _ => ?_, ?_, fun w => absurd w sd0, ?_⟩, ⟨?_, ?_, c3, c4, ?_, ?_⟩, C_skip hC' (fun w => by simp at w), ?_, ?_, ?_, ?_, fun w => absurd w sd0⟩
  · rw [hf']
    exact Or.inr (Or.inr (Or.inr (Or.inr (Or.inr ⟨rfl, rfl⟩))))
  · rw [fin'] at w
    exact absurd w (List.cons_ne_nil _ _)
  · show (if _ then _ else _) = _
    rw [if_neg (by simp), u5]
    exact v5 nz
  · rw [re_3 g0, u3]
    exact v6
  · rw [fin']
    rw [hf] at v8
    exact rs_tl v8
  · rw [ce_3, u2]
    exact c1
  · rw [ce_3, u2]
    exact c2
  · rw [fin']
    rfl
  · rw [ev_3, u1]
  · rw [← u1]
    refine L_put (u6 _ _ _ hL) ?_ rfl rfl
    exact (if_neg g0).symm
  · rw [fin']
    rw [hf] at hP
    exact hP.2
  · intro l l1 l2 l3
    rw [en_3]
    exact ⟨hN' l l1 l2 l3, (hN l l1 l2 l3).2⟩
  · intro m m1 m2
    rw [hn_3, u4]
    exact hH m m1 m2
theorem W_close0 {lc ph q : Nat} {ar ad ae w1 w2 : Nat → Int32} (h : sc_tr c) (hlv : lv_c (sc_lf c) (sc_F c) ≤ 8) (hW : rl_W c mC sd R R0 f_cells f_cellsKept f_records f_level g_size a_reps a_defs a_values a_entries a_entriesKept a_held a_heldKept a_pathField a_pathLast a_pathRep b_kinds b_logFields b_logValues) (hf : wk_fin c R = [(0, lc, ph, q)]) (hu : wk_nu R R') (hf' : wk_fin c R' = [(0, lc, sc_lst c 0 + 1, q)]) (hV' : wk_V c R') (hC' : wr_C c ar ad a_values R') (hN' : ∀ l, 1 ≤ l → l ≤ sc_F c → sc_lf c l = 1 → ae (sc_col c l) = nI (wk_en l R')) (k1 : ∀ j, j < 16 → w1 j = a_held j) (k2 : ∀ j, j < 8 → w2 j = ae j) : rl_W c mC sd ((3, 0, 0, 0, 0) :: R') ((3, 0, 0, 0, 0) :: R') f_cells f_cells (nI (wk_re R0 + 1)) (-1) (nI (wk_ev R + 1)) ar ad a_values ae w2 a_held w1 a_pathField a_pathLast a_pathRep (upd b_kinds (wk_ev R) 5) (upd b_logFields (wk_ev R) (-1)) (upd b_logValues (wk_ev R) 0) := by
  have nz : wk_fin c R ≠ [] := by rw [hf]; exact List.cons_ne_nil _ _
  have sd0 := W_sd hW nz
  obtain ⟨⟨v1, ⟨R1, v2⟩, v3, v4, v5, v6, v7, v8⟩, ⟨c1, c2, c3, c4, c5, c6⟩, hC, hL, hP, hN, hH, hZ⟩ := hW
  obtain ⟨u1, u2, u3, u4, u5, u6⟩ := nu_f hu
  have fin' : wk_fin c ((3, 0, 0, 0, 0) :: R') = [] := by
    show wk_st c (wk_fin c R') _ = _
    rw [hf']
    rfl
  refine ⟨⟨⟨?_, hV'⟩, ⟨[], rfl⟩, fin', fun _ => rfl, fun w => absurd fin' w, rfl, fun w => absurd w sd0, by rw [fin']; exact trivial⟩, ⟨?_, ?_, ?_, ?_, ?_, ?_⟩, C_skip hC' (fun w => by simp at w), ?_, ?_, ?_, ?_, fun w => absurd w sd0⟩
  · rw [hf']
    exact Or.inr (Or.inr (Or.inr (Or.inr (Or.inr ⟨rfl, rfl⟩))))
  · rw [ce_3, u2]
    exact c1
  · rw [ce_3, u2]
    exact c2
  · rw [ce_3, u2]
    exact c1
  · rw [re_30, u3, v6]
  · rw [fin']
    rfl
  · rw [ev_3, u1]
  · rw [← u1]
    exact L_put (u6 _ _ _ hL) rfl rfl rfl
  · rw [fin']
    exact trivial
  · intro l l1 l2 l3
    have := col_lt l1 l2 l3
    rw [en_3, k2 _ (by omega)]
    exact ⟨hN' l l1 l2 l3, hN' l l1 l2 l3⟩
  · intro m m1 m2
    rw [hn_3, u4, k1 _ (by omega)]
    exact ⟨(hH m m1 m2).1, (hH m m1 m2).1⟩
theorem W_back {w1 w2 : Nat → Int32} (hlv : lv_c (sc_lf c) (sc_F c) ≤ 8) (hs : sd ≠ 0) (m : wk_ce R0 ≤ mC) (hW : rl_W c mC sd R R0 f_cells f_cellsKept f_records f_level g_size a_reps a_defs a_values a_entries a_entriesKept a_held a_heldKept a_pathField a_pathLast a_pathRep b_kinds b_logFields b_logValues) (k1 : ∀ j, j < 16 → w1 j = a_heldKept j) (k2 : ∀ j, j < 8 → w2 j = a_entriesKept j) : rl_W c mC sd R0 R0 f_cellsKept f_cellsKept f_records (-1) (nI (wk_ev R0)) a_reps a_defs a_values w2 a_entriesKept w1 a_heldKept a_pathField a_pathLast a_pathRep b_kinds b_logFields b_logValues := by
  obtain ⟨⟨v1, ⟨R1, v2⟩, v3, v4, v5, v6, v7, v8⟩, ⟨c1, c2, c3, c4, c5, c6⟩, hC, hL, hP, hN, hH, hZ⟩ := hW
  subst v2
  refine ⟨⟨V_app _ _ v1, ⟨[], rfl⟩, v3, fun _ => rfl, fun w => absurd v3 w, rfl, fun w => absurd w hs, by rw [v3]; exact trivial⟩, ⟨c3, m, c3, c4, by rw [v3]; rfl, rfl⟩, C_app _ _ hC, L_app _ _ hL, by rw [v3]; exact trivial, ?_, ?_, fun w => absurd w hs⟩
  · intro l l1 l2 l3
    have := col_lt l1 l2 l3
    rw [k2 _ (by omega)]
    exact ⟨(hN l l1 l2 l3).2, (hN l l1 l2 l3).2⟩
  · intro m m1 m2
    rw [k1 _ (by omega)]
    exact ⟨(hH m m1 m2).2, (hH m m1 m2).2⟩
end
theorem i_vc_close {k : Nat} {u : SX} {v : SY} (I : i_Rel k u v) (hk : k + 3 ≤ 1540) : wpX_close (fun r u' => wpY_close (fun r' v' => r' = r ∧ i_Rel (k + 3) u' v') v) u := by
  refine zz_el (P := fun u v => wpX_close (fun r u' => wpY_close (fun r' v' => r' = r ∧ i_Rel (k + 3) u' v') v) u) ?_ I
  intro f_maxFields f_maxLeaves f_maxDepth f_maxCells f_fields f_leaves f_leafMask f_filling f_sealed f_cells f_cellsKept f_records f_level f_chosen f_readRecord f_inRecord f_readLeaf f_readNode f_openDepth f_keepDepth f_eventField f_eventValue a_labels a_parent a_depthOf a_repOf a_lastOf a_columnOf a_reps a_defs a_values a_entries a_entriesKept a_held a_heldKept a_pathField a_pathLast a_pathRep a_readPos a_readValue a_jumpTo a_jumpDepth g_size g_reading g_pos b_leafBits b_kinds b_logFields b_logValues c fill mF mL mD mC sd R R0 ch hS hW hR
  have hS' := hS
  have hW' := hW
  obtain ⟨⟨hT, hFl⟩, ⟨rfl, rfl, rfl, rfl, m1, m2, m3, m4⟩, ⟨rfl, F1, rfl, F2, rfl, rfl, s1, s2⟩, hM, hA, hE, hD⟩ := hS
  obtain ⟨ev64, tf⟩ := top_fr (f_maxFields := nI mF) (f_maxLeaves := nI mL) (f_maxDepth := nI mD) (f_maxCells := nI mC) (f_fields := nI (sc_F c)) (f_filling := im_f fill) (f_sealed := nI sd) (f_chosen := f_chosen) (f_eventField := f_eventField) (f_eventValue := f_eventValue) (a_parent := a_parent) (a_labels := a_labels) (g_reading := g_reading) (g_pos := g_pos) (b_leafBits := b_leafBits) hT (by omega) hD m3 m4 hW
  rcases tf with ⟨fe, fl, hc⟩ | ⟨g, lc, ph, q, S, k0, fe, fl, S6, g1, lc1, hI, p1, p2, p3, er, k1, k2, k3, hc, hlc⟩
  · refine br_f (by rw [fl]; decide) ?_
    unfold wpY_close
    exact hc _ (br_f (by decide) ⟨rfl, zz_in hS' hW' hR⟩)
  · have sd0 := W_sd hW' (by rw [fe]; exact List.cons_ne_nil _ _)
    have f0 : fill = 0 := s2 (by omega)
    subst f0
    obtain ⟨⟨w1, w2, w3, w4, w5, w6, w7, w8⟩, ⟨rfl, n2, rfl, rfl, el, rfl⟩, hC, hL, hP, hN, hH, hZ⟩ := hW
    obtain ⟨⟨i1, i2, i3, i4, i5, i6, i7⟩, il, iS⟩ := hI
    have gl := tr_le hT g1
    have gg := tr_ge hT g1
    have rd := tr_rd hT g g1
    have hb : ∀ n, 1 ≤ n → n ≤ sc_F c → a_parent (n - 1) = im_f (sc_par c n) := fun n a b => (hA n a b).2.1
    have hb2 : ∀ n, 1 ≤ n → n ≤ sc_F c → a_labels (n - 1) = nI (sc_lab c n) := fun n a b => (hA n a b).1
    have hil : vp_in f_level 8 := by rw [fl]; exact vp_in_nI (by omega) (by decide)
    have cll : f_level.toNatClampNeg = S.length := by rw [fl]; exact nI_clamp (by omega)
    have hink : vp_in (nI k0) 64 := vp_in_nI (by omega) (by decide)
    have clk : (nI k0).toNatClampNeg = k0 := nI_clamp (by omega)
    have miff : mi_P c g lc (sc_F c + 1) ↔ mi_P c g lc (sc_lst c g + 1) := by
      constructor
      · rintro ⟨m, x1, x2, x3, x4, x5⟩
        have := tr_chd hT (k := m) (by omega) x3
        rw [x4] at this
        exact ⟨m, x1, by omega, x3, x4, x5⟩
      · rintro ⟨m, x1, x2, x3, x4, x5⟩
        exact ⟨m, x1, by omega, x3, x4, x5⟩
    have hY : ∀ {post : Int32 → SY → Prop}, (mi_P c g lc (sc_lst c g + 1) → post (-13) (nI mF, nI mL, nI mD, nI mC, nI (sc_F c), im_f 0, nI sd, nI (wk_ev R), g_reading, f_chosen, g_pos, f_eventField, f_eventValue, a_parent, a_labels, b_leafBits, b_kinds, b_logFields, b_logValues)) → (¬ mi_P c g lc (sc_lst c g + 1) → g = 0 → post 1 (nI mF, nI mL, nI mD, nI mC, nI (sc_F c), im_f 0, nI sd, nI (wk_ev R + 1), g_reading, f_chosen, g_pos, f_eventField, f_eventValue, a_parent, a_labels, b_leafBits, upd b_kinds (wk_ev R) 5, upd b_logFields (wk_ev R) (im_f g), upd b_logValues (wk_ev R) 0)) → (¬ mi_P c g lc (sc_lst c g + 1) → g ≠ 0 → post 0 (nI mF, nI mL, nI mD, nI mC, nI (sc_F c), im_f 0, nI sd, nI (wk_ev R + 1), g_reading, f_chosen, g_pos, f_eventField, f_eventValue, a_parent, a_labels, b_leafBits, upd b_kinds (wk_ev R) 4, upd b_logFields (wk_ev R) (im_f g), upd b_logValues (wk_ev R) 0)) → wpY_close post (nI mF, nI mL, nI mD, nI mC, nI (sc_F c), im_f 0, nI sd, nI (wk_ev R), g_reading, f_chosen, g_pos, f_eventField, f_eventValue, a_parent, a_labels, b_leafBits, b_kinds, b_logFields, b_logValues) := by
      intro post h1 h2 h3
      unfold wpY_close
      refine hc _ (br_t (nI_pos' (by omega)) (hlc _ ⟨hink, ?_⟩))
      rw [clk, k2]
      rw [fe] at ev64
      have ev64' : wk_ev R + (S.length + 1) ≤ 64 := ev64
      refine y_ms (hi := sc_F c + 1) hT (by omega) rfl hb hb2 (by omega) (by omega) (by omega) (fun y => br_f (by decide) (h1 (miff.mp y))) (fun y => br_t rfl ⟨hink, ?_⟩)
      rw [k3]
      by_cases z : g = 0
      · rw [if_pos z]
        refine br_t rfl (br_f (by decide) (And.intro hink (y_wr (R := R) (by omega) rfl ?_)))
        rw [clk, k2]
        exact br_f (by decide) (h2 (fun w => y (miff.mpr w)) z)
      · rw [if_neg z]
        refine br_f (by decide) (br_t rfl (And.intro hink (y_wr (R := R) (by omega) rfl ?_)))
        rw [clk, k2]
        exact br_t rfl (h3 (fun w => y (miff.mpr w)) z)
    have k40 : wX_close_40 (fun r u' => wpY_close (fun r' v' => r' = r ∧ i_Rel (k + 3) u' v') (nI mF, nI mL, nI mD, nI mC, nI (sc_F c), im_f 0, nI sd, nI (wk_ev R), g_reading, f_chosen, g_pos, f_eventField, f_eventValue, a_parent, a_labels, b_leafBits, b_kinds, b_logFields, b_logValues)) (im_f g) (im_f (sc_lst c g + 1)) (nI mF) (nI mL) (nI mD) (nI mC) (nI (sc_F c)) (nI (lv_c (sc_lf c) (sc_F c))) f_leafMask (im_f 0) (nI sd) (nI (wk_ce R)) (nI (wk_ce R0)) (nI (wk_re R0)) f_level f_chosen f_readRecord f_inRecord f_readLeaf f_readNode f_openDepth f_keepDepth f_eventField f_eventValue a_labels a_parent a_depthOf a_repOf a_lastOf a_columnOf a_reps a_defs a_values a_entries a_entriesKept a_held a_heldKept a_pathField a_pathLast a_pathRep a_readPos a_readValue a_jumpTo a_jumpDepth := by
      unfold wX_close_40
      refine And.intro hil ?_
      rw [cll, p2]
      refine x_ms hT (by omega) hA (by omega) (by omega) (by omega) (fun y => br_f (by decide) (hY (fun _ => ⟨rfl, zz_in hS' hW' hR⟩) (fun w => absurd y w) (fun w => absurd y w))) (fun y => br_t rfl ?_)
      refine x_gap (c := c) (fill := 0) hT (by omega) hA hE (by omega) fl S6 p1 p2 p3 (by omega) fe er w1 (by omega) hC (fun l a b d => (hN l a b d).1) (by omega) (fun _ => ⟨Nat.le_refl _, fun R' ar ad ae hu h1 h2 h3 h4 => ?_⟩) (fun w => by omega)
      refine nm_r (e' := im_f S.length) (by rw [fl, im_n1]) ?_
      cases S with
      | nil =>
        obtain ⟨g0, q0⟩ := il
        subst g0
        refine br_t (by decide) (x_cm rfl (fun z1 z2 y1 y2 => ?_))
        refine hY (fun w => absurd w y) (fun _ _ => ⟨rfl, ?_⟩) (fun _ w => absurd rfl w)
        have hWW := W_close0 hT (by omega) hW' fe hu h1 h2 h3 h4 y1 y2
        obtain ⟨R1, e1⟩ := w2
        obtain ⟨X, e2, _⟩ := hu
        have hRR := R_ext (X := (3, 0, 0, 0, 0) :: (X ++ R1)) hT (V_app _ _ (e1 ▸ w1)) w3 hR
        have e3 : (3, 0, 0, 0, 0) :: R' = (3, 0, 0, 0, 0) :: (X ++ R1) ++ R0 := by rw [e2, e1]; simp
        rw [← e3] at hRR
        exact zz_in hS' hWW hRR
      | cons f' S' =>
        obtain ⟨g', lc', ph', r'⟩ := f'
        obtain ⟨g0, _, _, ep⟩ := il
        refine br_f (fun w => by rw [im_lt0 (by omega)] at w; exact absurd w (by simp)) ?_
        refine hY (fun w => absurd w y) (fun _ w => by omega) (fun _ _ => ⟨rfl, ?_⟩)
        exact zz_in hS' (W_close hT hW' fe hu h1 h2 h3 h4 (by omega)) hR
    refine br_t (by rw [fl]; exact nI_pos' (by omega)) ⟨hil, nm_r (e' := im_f g) (by rw [cll]; exact p1) ?_⟩
    rcases Nat.eq_zero_or_pos g with z | z
    · subst z
      rw [tr_l0 hT] at k40
      exact br_t rfl k40
    · refine br_f (fun w => by rw [im_m1 (by omega)] at w; omega) ⟨im_in z (by omega) (by decide), ?_⟩
      rw [im_cl z (by omega), hE g z g1 (by omega), im_a1]
      exact k40
end
section
theorem V_nd {c : sc_T} (h : sc_tr c) : ∀ R, wk_V c R → ∀ i ∈ R, (i.1 = 1 → i.2.1 ≤ sc_F c ∧ sc_lf c i.2.1 = 0) ∧ (i.1 = 2 → 1 ≤ i.2.1 ∧ i.2.1 ≤ sc_F c ∧ sc_lf c i.2.1 = 1) := by
  intro R
  induction R with
  | nil => intro _ i hi; exact absurd hi List.not_mem_nil
  | cons i R ih =>
    intro hV j hj
    rcases List.mem_cons.mp hj with e | e
    · subst e
      have hk := hV.1
      generalize wk_fin c R = s at hk
      cases s with
      | nil =>
        have e : j = (1, 0, 0, 0, 0) := hk
        rw [e]
        exact ⟨fun _ => ⟨Nat.zero_le _, tr_f0 h⟩, fun q => absurd q (by simp)⟩
      | cons f S =>
        obtain ⟨g, lc, ph, r⟩ := f
        rcases hk with ⟨rfl, hq⟩ | ⟨n, v, rfl, x0, h1, h2, h3, h4⟩ | ⟨n, v, rfl, x0, x1, x2, h1, h2, h3, h4⟩ | ⟨n, rfl, x0, h1, h2, h3, h4⟩ | ⟨n, rfl, x0, x1, x2, h1, h2, h3, h4⟩ | ⟨rfl, hq⟩
        · exact ⟨fun q => absurd q (by simp), fun q => absurd q (by simp)⟩
        · exact ⟨fun q => absurd q (by simp), fun _ => ⟨h1, h2, h3⟩⟩
        · exact ⟨fun q => absurd q (by simp), fun _ => ⟨h1, h2, h3⟩⟩
        · exact ⟨fun _ => ⟨h2, h3⟩, fun q => absurd q (by simp)⟩
        · exact ⟨fun _ => ⟨h2, h3⟩, fun q => absurd q (by simp)⟩
        · exact ⟨fun q => absurd q (by simp), fun q => absurd q (by simp)⟩
    · exact ih hV.2 j e
theorem rv_mem : ∀ (B H : List wk_I) (i : wk_I), (i ∈ B ∨ i ∈ H) → i ∈ wk_rv B H
  | [], H, i, h => h.elim (fun q => absurd q List.not_mem_nil) id
  | j :: B, H, i, h => by
    refine rv_mem B (j :: H) i ?_
    rcases h with q | q
    · rcases List.mem_cons.mp q with e | e
      · exact Or.inr (by rw [e]; exact List.mem_cons_self)
      · exact Or.inl e
    · exact Or.inr (List.mem_cons_of_mem _ q)
def wk_hx (x : Int32) : List wk_I → Nat := wk_ct (fun i => decide ((i.1 = 1 ∨ i.1 = 2) ∧ i.2.1 ≠ 0 ∧ im_f i.2.1 = x))
theorem hx_cons (x : Int32) (i : wk_I) (R : List wk_I) : wk_hx x (i :: R) = wk_hx x R + (if (i.1 = 1 ∨ i.1 = 2) ∧ i.2.1 ≠ 0 ∧ im_f i.2.1 = x then 1 else 0) := by
  show wk_hx x R + _ = _
  by_cases z : (i.1 = 1 ∨ i.1 = 2) ∧ i.2.1 ≠ 0 ∧ im_f i.2.1 = x <;> simp [z]
theorem hx_n {F n : Nat} (hF : F ≤ 16) (n1 : 1 ≤ n) (n2 : n ≤ 16) : ∀ R : List wk_I, (∀ i ∈ R, (i.1 = 1 ∨ i.1 = 2) → i.2.1 ≤ F) → wk_hx (im_f n) R = wk_hn n R
  | [], _ => rfl
  | i :: R, h => by
    have a := hx_n hF n1 n2 R (fun j hj => h j (List.mem_cons_of_mem _ hj))
    rw [hx_cons, hn_cons, a]
    congr 1
    by_cases z : i.1 = 1 ∨ i.1 = 2
    · have b := h i List.mem_cons_self z
      have e : (i.2.1 ≠ 0 ∧ im_f i.2.1 = im_f n) ↔ i.2.1 = n := by
        rw [im_eq (by omega) (by omega)]
        omega
      by_cases w : i.2.1 = n
      · rw [if_pos ⟨z, e.mpr w⟩, if_pos ⟨z, w⟩]
      · rw [if_neg (fun q => w (e.mp q.2)), if_neg (fun q => w q.2)]
    · rw [if_neg (fun q => z q.1), if_neg (fun q => z q.1)]
theorem hx_0 {F : Nat} {x : Int32} (hx : ∀ n, 1 ≤ n → n ≤ F → x ≠ im_f n) : ∀ R : List wk_I, (∀ i ∈ R, (i.1 = 1 ∨ i.1 = 2) → i.2.1 ≤ F) → wk_hx x R = 0
  | [], _ => rfl
  | i :: R, h => by
    have a := hx_0 hx R (fun j hj => h j (List.mem_cons_of_mem _ hj))
    rw [hx_cons, a, if_neg]
    rintro ⟨z, w, y⟩
    exact hx i.2.1 (by omega) (h i List.mem_cons_self z) y.symm
section
variable {g_maxFields g_maxLeaves g_maxDepth g_maxCells g_fields g_filling g_schemaDone g_size g_reading g_chosen g_pos g_eventField g_eventValue : Int32} {b_parents b_labels b_leafBits b_kinds b_logFields b_logValues : Nat → Int32}
theorem y_ab {post : Int32 → SY → Prop} : ∀ (B H : List wk_I), wr_L b_kinds b_logFields b_logValues (wk_rv B H) → (∀ i ∈ B, i.1 ≤ 3) → wk_ev (wk_rv B H) ≤ 64 → g_size = nI (wk_ev (wk_rv B H)) → post 0 (g_maxFields, g_maxLeaves, g_maxDepth, g_maxCells, g_fields, g_filling, g_schemaDone, nI (wk_lr (wk_rv B H)), g_reading, g_chosen, g_pos, g_eventField, g_eventValue, b_parents, b_labels, b_leafBits, b_kinds, b_logFields, b_logValues) → ∀ n, B.length < n → wY_abandon_14 post g_maxFields g_maxLeaves g_maxDepth g_maxCells g_fields g_filling g_schemaDone g_size g_reading g_chosen g_pos g_eventField g_eventValue b_parents b_labels b_leafBits b_kinds b_logFields b_logValues n (nI (wk_lr H)) (nI (wk_ev H)) := by
  intro B
  induction B with
  | nil =>
    intro H hL ht he hs hp n hn
    obtain ⟨m, rfl⟩ : ∃ m, n = m + 1 := ⟨n - 1, by omega⟩
    have he' : wk_ev H ≤ 64 := he
    exact br_t (by rw [hs]; exact nI_le (Nat.le_refl _) (by omega)) hp
  | cons i B ih =>
    intro H hL ht he hs hp n hn
    simp only [List.length_cons] at hn
    have he' : wk_ev (wk_rv B (i :: H)) ≤ 64 := he
    have hI := ih (i :: H) hL (fun j hj => ht j (List.mem_cons_of_mem _ hj)) he hs hp
    have lre : wk_lr (i :: H) = if i.1 = 1 ∧ i.2.1 = 0 then wk_ev H else wk_lr H := rfl
    by_cases z : i.1 = 0
    · have := hI n (by omega)
      rw [ev_z H z, lre, if_neg (by omega)] at this
      exact this
    · obtain ⟨m, rfl⟩ : ∃ m, n = m + 1 := ⟨n - 1, by omega⟩
      have hd := L_hd hL z
      have lt : wk_ev H < wk_ev (wk_rv (i :: B) H) := by
        have := ev_le B (i :: H)
        rw [ev_nz H z] at this
        exact this
      have hin : vp_in (nI (wk_ev H)) 64 := vp_in_nI (by omega) (by omega)
      have hm := hI m (by omega)
      have e : b_kinds (nI (wk_ev H)).toNatClampNeg = wr_kc i := by rw [nI_clamp (by omega)]; exact hd.1
      refine br_f (by rw [hs]; exact nI_ge lt (by omega)) ⟨hin, ?_⟩
      rw [ev_nz H z, lre] at hm
      by_cases w : i.1 = 1 ∧ i.2.1 = 0
      · rw [if_pos w] at hm
        refine br_t (e.trans ?_) (nm_r (nI_1 _) hm)
        obtain ⟨t, n0, v, q, d⟩ := i
        obtain ⟨w1, w2⟩ := w
        have w1' : t = 1 := w1
        have w2' : n0 = 0 := w2
        subst w1' w2'
        rfl
      · rw [if_neg w] at hm
        refine br_f (fun y => ?_) (nm_r (nI_1 _) hm)
        rw [e] at y
        obtain ⟨t, n0, v, q, d⟩ := i
        have t3 : t ≤ 3 := ht _ List.mem_cons_self
        match t, t3, z, w, y with
        | 0, _, z, _, _ => exact z rfl
        | 1, _, _, w, y =>
          have y' : (if n0 = 0 then (1 : Int32) else 2) = 1 := y
          by_cases w2 : n0 = 0
          · exact w ⟨rfl, w2⟩
          · rw [if_neg w2] at y'
            exact absurd y' (by decide)
        | 2, _, _, _, y => exact absurd y (show ¬ (3 : Int32) = 1 by decide)
        | 3, _, _, _, y =>
          have y' : (if n0 = 0 then (5 : Int32) else 4) = 1 := y
          split at y' <;> exact absurd y' (by decide)
theorem y_c4 {post : Int32 → Prop} {x1 : Int32} : ∀ (B H : List wk_I), wr_L b_kinds b_logFields b_logValues (wk_rv B H) → (∀ i ∈ B, i.1 ≤ 3 ∧ (i.1 = 2 → i.2.1 ≠ 0)) → wk_ev (wk_rv B H) ≤ 64 → g_size = nI (wk_ev (wk_rv B H)) → post (nI (wk_hx x1 (wk_rv B H))) → ∀ n, B.length < n → wY_count_4 post x1 g_maxFields g_maxLeaves g_maxDepth g_maxCells g_fields g_filling g_schemaDone g_size g_reading g_chosen g_pos g_eventField g_eventValue b_parents b_labels b_leafBits b_kinds b_logFields b_logValues n (nI (wk_hx x1 H)) (nI (wk_ev H)) := by
  intro B
  induction B with
  | nil =>
    intro H hL ht he hs hp n hn
    obtain ⟨m, rfl⟩ : ∃ m, n = m + 1 := ⟨n - 1, by omega⟩
    have he' : wk_ev H ≤ 64 := he
    exact br_t (by rw [hs]; exact nI_le (Nat.le_refl _) (by omega)) hp
  | cons i B ih =>
    intro H hL ht he hs hp n hn
    simp only [List.length_cons] at hn
    have he' : wk_ev (wk_rv B (i :: H)) ≤ 64 := he
    have hI := ih (i :: H) hL (fun j hj => ht j (List.mem_cons_of_mem _ hj)) he hs hp
    have hxe := hx_cons x1 i H
    by_cases z : i.1 = 0
    · have := hI n (by omega)
      rw [ev_z H z, hxe, if_neg (by omega)] at this
      exact this
    · obtain ⟨m, rfl⟩ : ∃ m, n = m + 1 := ⟨n - 1, by omega⟩
      have hd := L_hd hL z
      have lt : wk_ev H < wk_ev (wk_rv (i :: B) H) := by
        have := ev_le B (i :: H)
        rw [ev_nz H z] at this
        exact this
      have hin : vp_in (nI (wk_ev H)) 64 := vp_in_nI (by omega) (by omega)
      have hm := hI m (by omega)
      have e : b_kinds (nI (wk_ev H)).toNatClampNeg = wr_kc i := by rw [nI_clamp (by omega)]; exact hd.1
      have ef : b_logFields (nI (wk_ev H)).toNatClampNeg = im_f i.2.1 := by rw [nI_clamp (by omega)]; exact hd.2.1
      refine br_f (by rw [hs]; exact nI_ge lt (by omega)) ⟨hin, ?_⟩
      rw [ev_nz H z, hxe] at hm
      have k32 : (i.1 = 1 ∨ i.1 = 2) → i.2.1 ≠ 0 → wY_count_32 post (wY_count_4 post x1 g_maxFields g_maxLeaves g_maxDepth g_maxCells g_fields g_filling g_schemaDone g_size g_reading g_chosen g_pos g_eventField g_eventValue b_parents b_labels b_leafBits b_kinds b_logFields b_logValues m) x1 (nI (wk_hx x1 H)) (nI (wk_ev H)) g_maxFields g_maxLeaves g_maxDepth g_maxCells g_fields g_filling g_schemaDone g_size g_reading g_chosen g_pos g_eventField g_eventValue b_parents b_labels b_leafBits b_kinds b_logFields b_logValues := by
        intro q1 q2
        refine And.intro hin ?_
        rw [ef]
        by_cases w : im_f i.2.1 = x1
        · rw [if_pos ⟨q1, q2, w⟩] at hm
          exact br_t w (nm_r (nI_1 _) (nm_r (nI_1 _) hm))
        · rw [if_neg (fun y => w y.2.2)] at hm
          exact br_f w (nm_r (nI_1 _) hm)
      rw [e]
      obtain ⟨t, n0, v, q, d⟩ := i
      have t3 : t ≤ 3 ∧ (t = 2 → n0 ≠ 0) := ht _ List.mem_cons_self
      match t, t3, z, k32, hm with
      | 0, _, z, _, _ => exact absurd rfl z
      | 1, _, _, k32, hm =>
        by_cases w : n0 = 0
        · have ee : wr_kc (1, n0, v, q, d) = 1 := if_pos w
          rw [ee]
          rw [if_neg (fun y => y.2.1 w)] at hm
          exact br_f (by decide) ⟨hin, br_f (by decide) (nm_r (nI_1 _) hm)⟩
        · have ee : wr_kc (1, n0, v, q, d) = 2 := if_neg w
          rw [ee]
          exact br_t rfl (k32 (Or.inl rfl) w)
      | 2, t3, _, k32, hm =>
        have ee : wr_kc (2, n0, v, q, d) = 3 := rfl
        rw [ee]
        exact br_f (by decide) ⟨hin, br_t rfl (k32 (Or.inr rfl) (t3.2 rfl))⟩
      | 3, _, _, _, hm =>
        rw [if_neg (by simp)] at hm
        have ee : ¬ wr_kc (3, n0, v, q, d) = 2 ∧ ¬ wr_kc (3, n0, v, q, d) = 3 := by
          show ¬ (if n0 = 0 then (5 : Int32) else 4) = 2 ∧ ¬ (if n0 = 0 then (5 : Int32) else 4) = 3
          split <;> exact ⟨by decide, by decide⟩
        exact br_f ee.1 ⟨hin, br_f ee.2 (nm_r (nI_1 _) hm)⟩
theorem y_v5 {post : Int32 → Prop} {n0 F : Nat} {x2 : Int32} (n1 : 1 ≤ n0) (nF : n0 ≤ F) (hF : F ≤ 16) : ∀ (B H : List wk_I), wr_L b_kinds b_logFields b_logValues (wk_rv B H) → (∀ i ∈ B, i.1 ≤ 3 ∧ (i.1 = 1 → i.2.1 ≠ n0) ∧ (i.1 = 2 → i.2.1 ≤ F)) → wk_ev (wk_rv B H) ≤ 64 → g_size = nI (wk_ev (wk_rv B H)) → (∀ m, m < wk_hn n0 H → nI m ≠ x2) → ((∀ m, m < wk_hn n0 (wk_rv B H) → nI m ≠ x2) → post 0) → (∀ B' H' v q d, wk_rv ((2, n0, v, q, d) :: B') H' = wk_rv B H → nI (wk_hn n0 H') = x2 → post v) → ∀ n, B.length < n → wY_valueAt_5 post (im_f n0) x2 g_maxFields g_maxLeaves g_maxDepth g_maxCells g_fields g_filling g_schemaDone g_size g_reading g_chosen g_pos g_eventField g_eventValue b_parents b_labels b_leafBits b_kinds b_logFields b_logValues n (nI (wk_hn n0 H)) (nI (wk_ev H)) := by
  intro B
  induction B with
  | nil =>
    intro H hL ht he hs hm0 h0 hv n hn
    obtain ⟨m, rfl⟩ : ∃ m, n = m + 1 := ⟨n - 1, by omega⟩
    have he' : wk_ev H ≤ 64 := he
    exact br_t (by rw [hs]; exact nI_le (Nat.le_refl _) (by omega)) (h0 hm0)
  | cons i B ih =>
    intro H hL ht he hs hm0 h0 hv n hn
    simp only [List.length_cons] at hn
    have he' : wk_ev (wk_rv B (i :: H)) ≤ 64 := he
    have hne := hn_cons n0 i H
    have hI := fun q => ih (i :: H) hL (fun j hj => ht j (List.mem_cons_of_mem _ hj)) he hs q h0 hv
    by_cases z : i.1 = 0
    · rw [if_neg (by omega)] at hne
      rw [ev_z H z, hne] at hI
      exact hI hm0 n (by omega)
    · obtain ⟨m, rfl⟩ : ∃ m, n = m + 1 := ⟨n - 1, by omega⟩
      have hd := L_hd hL z
      have lt : wk_ev H < wk_ev (wk_rv (i :: B) H) := by
        have := ev_le B (i :: H)
        rw [ev_nz H z] at this
        exact this
      have hin : vp_in (nI (wk_ev H)) 64 := vp_in_nI (by omega) (by omega)
      have e : b_kinds (nI (wk_ev H)).toNatClampNeg = wr_kc i := by rw [nI_clamp (by omega)]; exact hd.1
      have ef : b_logFields (nI (wk_ev H)).toNatClampNeg = im_f i.2.1 := by rw [nI_clamp (by omega)]; exact hd.2.1
      have ev : b_logValues (nI (wk_ev H)).toNatClampNeg = i.2.2.1 := by rw [nI_clamp (by omega)]; exact hd.2.2
      refine br_f (by rw [hs]; exact nI_ge lt (by omega)) ⟨hin, ?_⟩
      rw [ev_nz H z, hne] at hI
      rw [e]
      obtain ⟨t, n9, v, q, d⟩ := i
      have t3 : t ≤ 3 ∧ (t = 1 → n9 ≠ n0) ∧ (t = 2 → n9 ≤ F) := ht _ List.mem_cons_self
      match t, t3, z, hI with
      | 0, _, z, _ => exact absurd rfl z
      | 1, t3, _, hI =>
        rw [if_neg (fun y => t3.2.1 rfl y.2)] at hI
        have ee : ¬ wr_kc (1, n9, v, q, d) = 3 := by
          show ¬ (if n9 = 0 then (1 : Int32) else 2) = 3
          split <;> decide
        exact br_f ee (nm_r (nI_1 _) (hI hm0 m (by omega)))
      | 2, t3, _, hI =>
        refine br_t rfl ⟨hin, ?_⟩
        rw [ef]
        have n9F := t3.2.2 rfl
        by_cases w : n9 = n0
        · subst w
          rw [if_pos ⟨Or.inr rfl, rfl⟩] at hI
          refine br_t rfl ?_
          by_cases y : nI (wk_hn n9 H) = x2
          · refine br_t y ⟨hin, ?_⟩
            rw [ev]
            exact hv B H v q d rfl y
          · refine br_f y (nm_r (nI_1 _) (nm_r (nI_1 _) (hI (fun j hj => ?_) m (by omega))))
            rcases Nat.lt_or_ge j (wk_hn n9 H) with x | x
            · exact hm0 j x
            · have ej : j = wk_hn n9 H := by omega
              rw [ej]; exact y
        · rw [if_neg (fun y => w y.2)] at hI
          refine br_f (fun y => w ?_) (nm_r (nI_1 _) (hI hm0 m (by omega)))
          have y' : im_f n9 = im_f n0 := y
          rw [im_eq (by omega) (by omega)] at y'
          exact y'
      | 3, _, _, hI =>
        rw [if_neg (by simp)] at hI
        have ee : ¬ wr_kc (3, n9, v, q, d) = 3 := by
          show ¬ (if n9 = 0 then (5 : Int32) else 4) = 3
          split <;> decide
        exact br_f ee (nm_r (nI_1 _) (hI hm0 m (by omega)))
theorem y_v0 {post : Int32 → Prop} {x1 x2 : Int32} {x3 : Int32} : ∀ (B H : List wk_I), wr_L b_kinds b_logFields b_logValues (wk_rv B H) → (∀ i ∈ B, i.1 ≤ 3 ∧ (i.1 = 2 → im_f i.2.1 ≠ x1)) → wk_ev (wk_rv B H) ≤ 64 → g_size = nI (wk_ev (wk_rv B H)) → post 0 → ∀ n, B.length < n → wY_valueAt_5 post x1 x2 g_maxFields g_maxLeaves g_maxDepth g_maxCells g_fields g_filling g_schemaDone g_size g_reading g_chosen g_pos g_eventField g_eventValue b_parents b_labels b_leafBits b_kinds b_logFields b_logValues n x3 (nI (wk_ev H)) := by
  intro B
  induction B with
  | nil =>
    intro H hL ht he hs h0 n hn
    obtain ⟨m, rfl⟩ : ∃ m, n = m + 1 := ⟨n - 1, by omega⟩
    have he' : wk_ev H ≤ 64 := he
    exact br_t (by rw [hs]; exact nI_le (Nat.le_refl _) (by omega)) h0
  | cons i B ih =>
    intro H hL ht he hs h0 n hn
    simp only [List.length_cons] at hn
    have he' : wk_ev (wk_rv B (i :: H)) ≤ 64 := he
    have hI := ih (i :: H) hL (fun j hj => ht j (List.mem_cons_of_mem _ hj)) he hs h0
    by_cases z : i.1 = 0
    · rw [ev_z H z] at hI
      exact hI n (by omega)
    · obtain ⟨m, rfl⟩ : ∃ m, n = m + 1 := ⟨n - 1, by omega⟩
      have hd := L_hd hL z
      have lt : wk_ev H < wk_ev (wk_rv (i :: B) H) := by
        have := ev_le B (i :: H)
        rw [ev_nz H z] at this
        exact this
      have hin : vp_in (nI (wk_ev H)) 64 := vp_in_nI (by omega) (by omega)
      have e : b_kinds (nI (wk_ev H)).toNatClampNeg = wr_kc i := by rw [nI_clamp (by omega)]; exact hd.1
      have ef : b_logFields (nI (wk_ev H)).toNatClampNeg = im_f i.2.1 := by rw [nI_clamp (by omega)]; exact hd.2.1
      refine br_f (by rw [hs]; exact nI_ge lt (by omega)) ⟨hin, ?_⟩
      rw [ev_nz H z] at hI
      by_cases w : i.1 = 2
      · refine br_c (fun _ => ⟨hin, br_f ?_ (nm_r (nI_1 _) (hI m (by omega)))⟩) (fun _ => nm_r (nI_1 _) (hI m (by omega)))
        rw [ef]
        exact (ht i List.mem_cons_self).2 w
      · refine br_f ?_ (nm_r (nI_1 _) (hI m (by omega)))
        rw [e]
        obtain ⟨t, n9, v, q, d⟩ := i
        have t3 : t ≤ 3 := (ht _ List.mem_cons_self).1
        match t, t3, z, w with
        | 0, _, z, _ => exact absurd rfl z
        | 1, _, _, _ =>
          show ¬ (if n9 = 0 then (1 : Int32) else 2) = 3
          split <;> decide
        | 2, _, _, w => exact absurd rfl w
        | 3, _, _, _ =>
          show ¬ (if n9 = 0 then (5 : Int32) else 4) = 3
          split <;> decide
end
end
section
theorem i_vc_abandon {k : Nat} {u : SX} {v : SY} (I : i_Rel k u v) (hk : k + 3 ≤ 1540) : wpX_abandon (fun r u' => wpY_abandon (fun r' v' => r' = r ∧ i_Rel (k + 3) u' v') v) u := by
  refine zz_el (P := fun u v => wpX_abandon (fun r u' => wpY_abandon (fun r' v' => r' = r ∧ i_Rel (k + 3) u' v') v) u) ?_ I
  intro f_maxFields f_maxLeaves f_maxDepth f_maxCells f_fields f_leaves f_leafMask f_filling f_sealed f_cells f_cellsKept f_records f_level f_chosen f_readRecord f_inRecord f_readLeaf f_readNode f_openDepth f_keepDepth f_eventField f_eventValue a_labels a_parent a_depthOf a_repOf a_lastOf a_columnOf a_reps a_defs a_values a_entries a_entriesKept a_held a_heldKept a_pathField a_pathLast a_pathRep a_readPos a_readValue a_jumpTo a_jumpDepth g_size g_reading g_pos b_leafBits b_kinds b_logFields b_logValues c fill mF mL mD mC sd R R0 ch hS hW hR
  have hS' := hS
  have hW' := hW
  obtain ⟨⟨hT, hFl⟩, ⟨rfl, rfl, rfl, rfl, m1, m2, m3, m4⟩, ⟨rfl, F1, rfl, F2, rfl, rfl, s1, s2⟩, hM, hA, hE, hD⟩ := hS
  obtain ⟨ev64, tf⟩ := top_fr (f_maxFields := nI mF) (f_maxLeaves := nI mL) (f_maxDepth := nI mD) (f_maxCells := nI mC) (f_fields := nI (sc_F c)) (f_filling := im_f fill) (f_sealed := nI sd) (f_chosen := f_chosen) (f_eventField := f_eventField) (f_eventValue := f_eventValue) (a_parent := a_parent) (a_labels := a_labels) (g_reading := g_reading) (g_pos := g_pos) (b_leafBits := b_leafBits) hT (by omega) hD m3 m4 hW
  rcases tf with ⟨fe, fl, hc⟩ | ⟨g, lc, ph, q, S, k0, fe, fl, S6, g1, lc1, hI, p1, p2, p3, er, k1, k2, k3, hc, hlc⟩
  · refine br_f (by rw [fl]; decide) ?_
    unfold wpY_abandon
    exact hc _ (br_f (by decide) ⟨rfl, zz_in hS' hW' hR⟩)
  · have nz : wk_fin c R ≠ [] := by rw [fe]; exact List.cons_ne_nil _ _
    have sd0 := W_sd hW' nz
    obtain ⟨⟨w1, w2, w3, w4, w5, w6, w7, w8⟩, ⟨rfl, n2, rfl, rfl, el, rfl⟩, hC, hL, hP, hN, hH, hZ⟩ := hW
    refine br_t (by rw [fl]; exact nI_pos' (by omega)) (x_rs (fun z1 z2 y1 y2 => ?_))
    unfold wpY_abandon
    refine hc _ (br_t (nI_pos' (by omega)) ⟨R.reverse.length + 1, ?_⟩)
    have a := V_tag R w1
    have m : wk_ce R0 ≤ mC := by
      obtain ⟨R1, e⟩ := w2
      have : wk_ce R = wk_ce R1 + wk_ce R0 := by rw [e]; exact ct_app _ _ _
      omega
    refine y_ab R.reverse [] (by rw [rv_all]; exact hL) (fun i hi => a i (List.mem_reverse.mp hi)) (by rw [rv_all]; omega) (by rw [rv_all]) ?_ _ (Nat.lt_succ_self _)
    rw [rv_all, w5 nz]
    exact ⟨rfl, zz_in hS' (W_back (by omega) sd0 m hW' y1 y2) hR⟩
theorem i_vc_erase {k : Nat} {u : SX} {v : SY} (I : i_Rel k u v) (hk : k + 3 ≤ 1540) : wpX_erase (fun r u' => wpY_erase (fun r' v' => r' = r ∧ i_Rel (k + 3) u' v') v) u := by
  refine zz_el (P := fun u v => wpX_erase (fun r u' => wpY_erase (fun r' v' => r' = r ∧ i_Rel (k + 3) u' v') v) u) ?_ I
  intro f_maxFields f_maxLeaves f_maxDepth f_maxCells f_fields f_leaves f_leafMask f_filling f_sealed f_cells f_cellsKept f_records f_level f_chosen f_readRecord f_inRecord f_readLeaf f_readNode f_openDepth f_keepDepth f_eventField f_eventValue a_labels a_parent a_depthOf a_repOf a_lastOf a_columnOf a_reps a_defs a_values a_entries a_entriesKept a_held a_heldKept a_pathField a_pathLast a_pathRep a_readPos a_readValue a_jumpTo a_jumpDepth g_size g_reading g_pos b_leafBits b_kinds b_logFields b_logValues c fill mF mL mD mC sd R R0 ch hS hW hR
  have hS' := hS
  have hW' := hW
  obtain ⟨⟨hT, hFl⟩, ⟨rfl, rfl, rfl, rfl, m1, m2, m3, m4⟩, ⟨rfl, F1, rfl, F2, rfl, rfl, s1, s2⟩, hM, hA, hE, hD⟩ := hS
  obtain ⟨ev64, tf⟩ := top_fr (f_maxFields := nI mF) (f_maxLeaves := nI mL) (f_maxDepth := nI mD) (f_maxCells := nI mC) (f_fields := nI (sc_F c)) (f_filling := im_f fill) (f_sealed := nI sd) (f_chosen := f_chosen) (f_eventField := f_eventField) (f_eventValue := f_eventValue) (a_parent := a_parent) (a_labels := a_labels) (g_reading := g_reading) (g_pos := g_pos) (b_leafBits := b_leafBits) hT (by omega) hD m3 m4 hW
  obtain ⟨⟨w1, w2, w3, w4, w5, w6, w7, w8⟩, ⟨rfl, n2, rfl, rfl, el, rfl⟩, hC, hL, hP, hN, hH, hZ⟩ := hW
  rcases Nat.eq_zero_or_pos sd with hs | hs
  · subst hs
    exact br_t rfl (br_t rfl ⟨rfl, zz_in hS' hW' hR⟩)
  · have es : sd = 1 := by omega
    have hs1 : ¬ nI sd = 0 := by rw [es]; decide
    refine br_f hs1 ?_
    rcases tf with ⟨fe, fl, hc⟩ | ⟨g, lc, ph, q, S, k0, fe, fl, S6, g1, lc1, hI, p1, p2, p3, er, k1, k2, k3, hc, hlc⟩
    · subst fl
      refine br_t (by decide) ⟨17, ?_⟩
      refine x_e37 16 0 _ (by omega) (fun j hj => by omega) (fun z1 y1 => ⟨9, ?_⟩) _ (by omega)
      refine x_e58 8 0 _ (by omega) (fun j hj => by omega) (fun z2 y2 => ?_) _ (by omega)
      refine x_rs (fun z3 z4 y3 y4 => ?_)
      refine br_f hs1 (hc _ (br_t (by decide) (yk_K hL (by omega) ?_)))
      rw [ck_5 R (V_tag R w1), w6]
      refine ⟨rfl, ?_⟩
      refine zz_in (c := c) (fill := fill) (mF := mF) (mL := mL) (mD := mD) (mC := mC) (sd := sd) (R := []) (R0 := []) (ch := fun _ => false) hS' ?_ ?_
      · refine ⟨⟨trivial, ⟨[], rfl⟩, rfl, fun _ => rfl, fun w => absurd rfl w, rfl, fun w => by omega, trivial⟩, ⟨rfl, Nat.zero_le _, rfl, rfl, rfl, rfl⟩, trivial, trivial, trivial, ?_, ?_, fun w => by omega⟩
        · intro l l1 l2 l3
          have := col_lt l1 l2 l3
          rw [y4 _ (by omega), y2 _ (by omega)]
          exact ⟨rfl, rfl⟩
        · intro m m1 m2
          rw [y3 _ (by omega), y1 _ (by omega)]
          exact ⟨rfl, rfl⟩
      · exact ⟨fun n hn => absurd hn Bool.false_ne_true, fun i _ => b_0 i, fun _ => rfl, Or.inl ⟨rfl, rfl⟩⟩
    · have l0 : ¬ f_level < 0 := by rw [fl]; exact nI_pos (by omega)
      exact br_f l0 (br_f hs1 (hc _ (br_f (nI_pos (by omega)) ⟨rfl, zz_in hS' hW' hR⟩)))
theorem i_vc_count {k : Nat} {u : SX} {v : SY} (I : i_Rel k u v) (hk : k + 3 ≤ 1540) (v1 : Int32) : wpX_count (fun r => wpY_count (fun r' => r' = r ∧ i_Rel (k + 3) u v) v v1) u v1 := by
  refine zz_el (P := fun u v => wpX_count (fun r => wpY_count (fun r' => r' = r ∧ i_Rel (k + 3) u v) v v1) u v1) ?_ I
  intro f_maxFields f_maxLeaves f_maxDepth f_maxCells f_fields f_leaves f_leafMask f_filling f_sealed f_cells f_cellsKept f_records f_level f_chosen f_readRecord f_inRecord f_readLeaf f_readNode f_openDepth f_keepDepth f_eventField f_eventValue a_labels a_parent a_depthOf a_repOf a_lastOf a_columnOf a_reps a_defs a_values a_entries a_entriesKept a_held a_heldKept a_pathField a_pathLast a_pathRep a_readPos a_readValue a_jumpTo a_jumpDepth g_size g_reading g_pos b_leafBits b_kinds b_logFields b_logValues c fill mF mL mD mC sd R R0 ch hS hW hR
  have hrel : i_Rel (k + 3) (f_maxFields, f_maxLeaves, f_maxDepth, f_maxCells, f_fields, f_leaves, f_leafMask, f_filling, f_sealed, f_cells, f_cellsKept, f_records, f_level, f_chosen, f_readRecord, f_inRecord, f_readLeaf, f_readNode, f_openDepth, f_keepDepth, f_eventField, f_eventValue, a_labels, a_parent, a_depthOf, a_repOf, a_lastOf, a_columnOf, a_reps, a_defs, a_values, a_entries, a_entriesKept, a_held, a_heldKept, a_pathField, a_pathLast, a_pathRep, a_readPos, a_readValue, a_jumpTo, a_jumpDepth) (f_maxFields, f_maxLeaves, f_maxDepth, f_maxCells, f_fields, f_filling, f_sealed, g_size, g_reading, f_chosen, g_pos, f_eventField, f_eventValue, a_parent, a_labels, b_leafBits, b_kinds, b_logFields, b_logValues) := zz_in hS hW hR
  obtain ⟨⟨hT, hFl⟩, ⟨x1, x2, x3, x4, m1, m2, m3, m4⟩, ⟨eF, F1, x5, F2, x6, x7, s1, s2⟩, hM, hA, hE, hD⟩ := hS
  obtain ⟨⟨w1, w2, w3, w4, w5, w6, w7, w8⟩, ⟨x8, n2, x9, x10, el, x11⟩, hC, hL, hP, hN, hH, hZ⟩ := hW
  have c1 := ct_1 R w1
  have nd := V_nd hT R w1
  have tg := V_tag R w1
  have hY : ∀ {post : Int32 → Prop}, post (nI (wk_hx v1 R)) → wpY_count post (f_maxFields, f_maxLeaves, f_maxDepth, f_maxCells, f_fields, f_filling, f_sealed, g_size, g_reading, f_chosen, g_pos, f_eventField, f_eventValue, a_parent, a_labels, b_leafBits, b_kinds, b_logFields, b_logValues) v1 := by
    intro post hp
    refine ⟨R.reverse.length + 1, ?_⟩
    exact y_c4 R.reverse [] (by rw [rv_all]; exact hL) (fun i hi => ⟨tg i (List.mem_reverse.mp hi), fun q => by have := ((nd i (List.mem_reverse.mp hi)).2 q).1; omega⟩) (by rw [rv_all]; omega) (by rw [rv_all]; exact x11) (by rw [rv_all]; exact hp) _ (Nat.lt_succ_self _)
  have bd : ∀ i ∈ R, (i.1 = 1 ∨ i.1 = 2) → i.2.1 ≤ sc_F c := fun i hi q => q.elim (fun q => ((nd i hi).1 q).1) (fun q => ((nd i hi).2 q).2.1)
  unfold wpX_count
  refine x_is (F := sc_F c) (by omega) eF (fun n a b e => ?_) (fun q => ?_)
  · subst e
    refine br_f (by decide) ⟨im_in a (by omega) (by decide), hY ⟨?_, hrel⟩⟩
    rw [im_cl a (by omega), (hH n a (by omega)).1, hx_n (F := sc_F c) (by omega) a (by omega) R bd]
  · refine br_t rfl (hY ⟨?_, hrel⟩)
    rw [hx_0 (F := sc_F c) (fun n a b e => ?_) R bd]
    · rfl
    · subst e
      rcases q with q | q
      · rw [im_lt0 (by omega)] at q
        omega
      · rw [eF, im_p a, nI_leI (by omega) (by omega)] at q
        omega
theorem i_vc_valueAt {k : Nat} {u : SX} {v : SY} (I : i_Rel k u v) (hk : k + 3 ≤ 1540) (v1 : Int32) (v2 : Int32) : wpX_valueAt (fun r => wpY_valueAt (fun r' => r' = r ∧ i_Rel (k + 3) u v) v v1 v2) u v1 v2 := by
  refine zz_el (P := fun u v => wpX_valueAt (fun r => wpY_valueAt (fun r' => r' = r ∧ i_Rel (k + 3) u v) v v1 v2) u v1 v2) ?_ I
  intro f_maxFields f_maxLeaves f_maxDepth f_maxCells f_fields f_leaves f_leafMask f_filling f_sealed f_cells f_cellsKept f_records f_level f_chosen f_readRecord f_inRecord f_readLeaf f_readNode f_openDepth f_keepDepth f_eventField f_eventValue a_labels a_parent a_depthOf a_repOf a_lastOf a_columnOf a_reps a_defs a_values a_entries a_entriesKept a_held a_heldKept a_pathField a_pathLast a_pathRep a_readPos a_readValue a_jumpTo a_jumpDepth g_size g_reading g_pos b_leafBits b_kinds b_logFields b_logValues c fill mF mL mD mC sd R R0 ch hS hW hR
  have hrel : i_Rel (k + 3) (f_maxFields, f_maxLeaves, f_maxDepth, f_maxCells, f_fields, f_leaves, f_leafMask, f_filling, f_sealed, f_cells, f_cellsKept, f_records, f_level, f_chosen, f_readRecord, f_inRecord, f_readLeaf, f_readNode, f_openDepth, f_keepDepth, f_eventField, f_eventValue, a_labels, a_parent, a_depthOf, a_repOf, a_lastOf, a_columnOf, a_reps, a_defs, a_values, a_entries, a_entriesKept, a_held, a_heldKept, a_pathField, a_pathLast, a_pathRep, a_readPos, a_readValue, a_jumpTo, a_jumpDepth) (f_maxFields, f_maxLeaves, f_maxDepth, f_maxCells, f_fields, f_filling, f_sealed, g_size, g_reading, f_chosen, g_pos, f_eventField, f_eventValue, a_parent, a_labels, b_leafBits, b_kinds, b_logFields, b_logValues) := zz_in hS hW hR
  obtain ⟨⟨hT, hFl⟩, ⟨x1, x2, x3, x4, m1, m2, m3, m4⟩, ⟨eF, F1, x5, F2, x6, x7, s1, s2⟩, hM, hA, hE, hD⟩ := hS
  obtain ⟨⟨w1, w2, w3, w4, w5, w6, w7, w8⟩, ⟨x8, n2, x9, x10, el, x11⟩, hC, hL, hP, hN, hH, hZ⟩ := hW
  have c1 := ct_1 R w1
  have nd := V_nd hT R w1
  have tg := V_tag R w1
  have hY0 : ∀ {post : Int32 → Prop}, (∀ n, 1 ≤ n → n ≤ sc_F c → sc_lf c n = 1 → v1 ≠ im_f n) → post 0 → wpY_valueAt post (f_maxFields, f_maxLeaves, f_maxDepth, f_maxCells, f_fields, f_filling, f_sealed, g_size, g_reading, f_chosen, g_pos, f_eventField, f_eventValue, a_parent, a_labels, b_leafBits, b_kinds, b_logFields, b_logValues) v1 v2 := by
    intro post hx hp
    refine ⟨R.reverse.length + 1, ?_⟩
    exact y_v0 R.reverse [] (by rw [rv_all]; exact hL) (fun i hi => ⟨tg i (List.mem_reverse.mp hi), fun q => by
      obtain ⟨a, b, d⟩ := (nd i (List.mem_reverse.mp hi)).2 q
      exact fun e => hx i.2.1 a b d e.symm⟩) (by rw [rv_all]; omega) (by rw [rv_all]; exact x11) hp _ (Nat.lt_succ_self _)
  unfold wpX_valueAt
  refine x_is (F := sc_F c) (by omega) eF (fun n a b e => ?_) (fun q => ?_)
  · subst e
    obtain ⟨a1, a2, a3, a4, a5, a6⟩ := hA n a b
    have hin : vp_in (im_f n) 16 := im_in a (by omega) (by decide)
    have cl : (im_f n).toNatClampNeg = n - 1 := im_cl a (by omega)
    refine br_f (by decide) ⟨hin, nm_r (by rw [cl, a5]) ?_⟩
    by_cases z : sc_lf c n = 1
    · rw [if_pos z]
      have col8 := col_lt a b z
      have hnc := hn_ce n R
      have hYv : ∀ {post : Int32 → Prop}, ((∀ m, m < wk_hn n R → nI m ≠ v2) → post 0) → (∀ B' H' v q d, wk_rv ((2, n, v, q, d) :: B') H' = R → nI (wk_hn n H') = v2 → post v) → wpY_valueAt post (f_maxFields, f_maxLeaves, f_maxDepth, f_maxCells, f_fields, f_filling, f_sealed, g_size, g_reading, f_chosen, g_pos, f_eventField, f_eventValue, a_parent, a_labels, b_leafBits, b_kinds, b_logFields, b_logValues) (im_f n) v2 := by
        intro post h0 hv
        refine ⟨R.reverse.length + 1, ?_⟩
        exact y_v5 (F := sc_F c) a b (by omega) R.reverse [] (by rw [rv_all]; exact hL) (fun i hi => ⟨tg i (List.mem_reverse.mp hi), fun q e => by
          have := ((nd i (List.mem_reverse.mp hi)).1 q).2
          rw [e, z] at this
          omega, fun q => ((nd i (List.mem_reverse.mp hi)).2 q).2.1⟩) (by rw [rv_all]; omega) (by rw [rv_all]; exact x11) (fun m hm => absurd hm (Nat.not_lt_zero _)) (by rw [rv_all]; exact h0) (by rw [rv_all]; exact hv) _ (Nat.lt_succ_self _)
      refine br_f (fun q => ?_) ?_
      · have e := Int32.toInt_inj.mpr q
        rw [nI_toInt (by omega), show (-1 : Int32).toInt = -1 from by decide] at e
        omega
      · by_cases y : v2 < 0
        · refine br_t y (hYv (fun _ => ⟨rfl, hrel⟩) (fun B' H' v q d e e2 => ?_))
          have bh : wk_hn n H' ≤ wk_hn n R := by
            have : wk_hn n R = wk_hn n H' + wk_hn n ((2, n, v, q, d) :: B') := by rw [← e]; exact ct_rv _ _ _
            omega
          rw [← e2] at y
          exact absurd y (nI_pos (by omega))
        · obtain ⟨j, hj, rfl⟩ := nI_of y
          refine br_f y ⟨hin, ?_⟩
          rw [cl, (hH n a (by omega)).1]
          have ei : nI (sc_col c n) * 32 + nI j = nI (sc_col c n * 32 + j) := by rw [show (32 : Int32) = nI 32 from rfl, pk_mul, nI_add]
          by_cases w : j < wk_hn n R
          · refine br_t (nI_lt w (by omega)) ⟨by rw [ei]; exact vp_in_nI (by omega) (by decide), ?_⟩
            rw [ei, nI_clamp (by omega)]
            refine hYv (fun q => absurd rfl (q j w)) (fun B' H' v q d e e2 => ⟨?_, hrel⟩)
            have bh : wk_hn n H' ≤ wk_hn n R := by
              have : wk_hn n R = wk_hn n H' + wk_hn n ((2, n, v, q, d) :: B') := by rw [← e]; exact ct_rv _ _ _
              omega
            rw [nI_eq (by omega) (by omega)] at e2
            rw [← e] at hC
            have := (C_rv B' ((2, n, v, q, d) :: H') hC).2.1 rfl z
            rw [← e2]
            exact this.symm
          · refine br_f (nI_nlt (by omega) hj) (hYv (fun _ => ⟨rfl, hrel⟩) (fun B' H' v q d e e2 => ?_))
            have bh : wk_hn n H' + 1 ≤ wk_hn n R := by
              have : wk_hn n R = wk_hn n H' + wk_hn n ((2, n, v, q, d) :: B') := by rw [← e]; exact ct_rv _ _ _
              rw [hn_2] at this
              omega
            rw [nI_eq (by omega) (by omega)] at e2
            omega
    · rw [if_neg z]
      refine br_t rfl (hY0 (fun m p1 p2 p3 e => ?_) ⟨rfl, hrel⟩)
      rw [im_eq (by omega) (by omega)] at e
      rw [e] at z
      exact z p3
  · refine br_t rfl (hY0 (fun n a b _ e => ?_) ⟨rfl, hrel⟩)
    subst e
    rcases q with q | q
    · rw [im_lt0 (by omega)] at q
      omega
    · rw [eF, im_p a, nI_leI (by omega) (by omega)] at q
      omega
theorem i_vc_status {k : Nat} {u : SX} {v : SY} (I : i_Rel k u v) (hk : k + 3 ≤ 1540) (v1 : Int32) : wpX_status (fun r => wpY_status (fun r' => r' = r ∧ i_Rel (k + 3) u v) v v1) u v1 := by
  refine zz_el (P := fun u v => wpX_status (fun r => wpY_status (fun r' => r' = r ∧ i_Rel (k + 3) u v) v v1) u v1) ?_ I
  intro f_maxFields f_maxLeaves f_maxDepth f_maxCells f_fields f_leaves f_leafMask f_filling f_sealed f_cells f_cellsKept f_records f_level f_chosen f_readRecord f_inRecord f_readLeaf f_readNode f_openDepth f_keepDepth f_eventField f_eventValue a_labels a_parent a_depthOf a_repOf a_lastOf a_columnOf a_reps a_defs a_values a_entries a_entriesKept a_held a_heldKept a_pathField a_pathLast a_pathRep a_readPos a_readValue a_jumpTo a_jumpDepth g_size g_reading g_pos b_leafBits b_kinds b_logFields b_logValues c fill mF mL mD mC sd R R0 ch hS hW hR
  have hrel : i_Rel (k + 3) (f_maxFields, f_maxLeaves, f_maxDepth, f_maxCells, f_fields, f_leaves, f_leafMask, f_filling, f_sealed, f_cells, f_cellsKept, f_records, f_level, f_chosen, f_readRecord, f_inRecord, f_readLeaf, f_readNode, f_openDepth, f_keepDepth, f_eventField, f_eventValue, a_labels, a_parent, a_depthOf, a_repOf, a_lastOf, a_columnOf, a_reps, a_defs, a_values, a_entries, a_entriesKept, a_held, a_heldKept, a_pathField, a_pathLast, a_pathRep, a_readPos, a_readValue, a_jumpTo, a_jumpDepth) (f_maxFields, f_maxLeaves, f_maxDepth, f_maxCells, f_fields, f_filling, f_sealed, g_size, g_reading, f_chosen, g_pos, f_eventField, f_eventValue, a_parent, a_labels, b_leafBits, b_kinds, b_logFields, b_logValues) := zz_in hS hW hR
  have hW' := hW
  obtain ⟨⟨hT, hFl⟩, ⟨x1, x2, x3, x4, m1, m2, m3, m4⟩, ⟨eF, F1, x5, F2, x6, x7, s1, s2⟩, hM, hA, hE, hD⟩ := hS
  obtain ⟨ev64, tf⟩ := top_fr (f_maxFields := f_maxFields) (f_maxLeaves := f_maxLeaves) (f_maxDepth := f_maxDepth) (f_maxCells := f_maxCells) (f_fields := f_fields) (f_filling := f_filling) (f_sealed := f_sealed) (f_chosen := f_chosen) (f_eventField := f_eventField) (f_eventValue := f_eventValue) (a_parent := a_parent) (a_labels := a_labels) (g_reading := g_reading) (g_pos := g_pos) (b_leafBits := b_leafBits) hT (by omega) hD m3 m4 hW
  obtain ⟨⟨w1, w2, w3, w4, w5, w6, w7, w8⟩, ⟨x8, n2, x9, x10, el, x11⟩, hC, hL, hP, hN, hH, hZ⟩ := hW
  have hbl : ∀ n, 1 ≤ n → n ≤ sc_F c → b_leafBits (n - 1) = nI (sc_lf c n) := fun n a b => (hA n a b).2.2.2.2.2
  obtain ⟨cur, hcur⟩ : ∃ cur : Int32, ∀ post : Int32 → Prop, post cur → wpY_current post (f_maxFields, f_maxLeaves, f_maxDepth, f_maxCells, f_fields, f_filling, f_sealed, g_size, g_reading, f_chosen, g_pos, f_eventField, f_eventValue, a_parent, a_labels, b_leafBits, b_kinds, b_logFields, b_logValues) := by
    rcases tf with ⟨fe, fl, hc⟩ | ⟨g, lc, ph, q, S, k0, fe, fl, S6, g1, lc1, hI, p1, p2, p3, er, k1, k2, k3, hc, hlc⟩
    · exact ⟨_, hc⟩
    · exact ⟨_, hc⟩
  have z0 : v1 < 0 ∨ (10 : Int32) < v1 ∨ v1 = 0 ∨ v1 = 1 ∨ v1 = 2 ∨ v1 = 3 ∨ v1 = 4 ∨ v1 = 5 ∨ v1 = 6 ∨ v1 = 7 ∨ v1 = 8 ∨ v1 = 9 ∨ v1 = 10 := by
    rcases pk_ix v1 (n := 11) (by decide) with y | y | ⟨j, y1, y2⟩
    · exact Or.inl y
    · refine Or.inr (Or.inl ?_)
      rw [Int32.le_iff_toInt_le, nI_toInt (by decide)] at y
      rw [Int32.lt_iff_toInt_lt, show (10 : Int32).toInt = 10 from by decide]
      omega
    · refine Or.inr (Or.inr ?_)
      rw [y2]
      exact (by decide +kernel : ∀ j, j < 11 → (nI j = 0 ∨ nI j = 1 ∨ nI j = 2 ∨ nI j = 3 ∨ nI j = 4 ∨ nI j = 5 ∨ nI j = 6 ∨ nI j = 7 ∨ nI j = 8 ∨ nI j = 9 ∨ nI j = 10)) j y1
  have neg : v1 < 0 ∨ (10 : Int32) < v1 → ¬ v1 = 0 ∧ ¬ v1 = 1 ∧ ¬ v1 = 2 ∧ ¬ v1 = 3 ∧ ¬ v1 = 4 ∧ ¬ v1 = 5 ∧ ¬ v1 = 6 ∧ ¬ v1 = 7 ∧ ¬ v1 = 8 ∧ ¬ v1 = 9 ∧ ¬ v1 = 10 := by
    intro q
    refine ⟨?_, ?_, ?_, ?_, ?_, ?_, ?_, ?_, ?_, ?_, ?_⟩ <;> (intro e; subst e; exact absurd q (by decide))
  have out : v1 < 0 ∨ (10 : Int32) < v1 → wpY_status (fun r' => r' = 0 ∧ i_Rel (k + 3) (f_maxFields, f_maxLeaves, f_maxDepth, f_maxCells, f_fields, f_leaves, f_leafMask, f_filling, f_sealed, f_cells, f_cellsKept, f_records, f_level, f_chosen, f_readRecord, f_inRecord, f_readLeaf, f_readNode, f_openDepth, f_keepDepth, f_eventField, f_eventValue, a_labels, a_parent, a_depthOf, a_repOf, a_lastOf, a_columnOf, a_reps, a_defs, a_values, a_entries, a_entriesKept, a_held, a_heldKept, a_pathField, a_pathLast, a_pathRep, a_readPos, a_readValue, a_jumpTo, a_jumpDepth) (f_maxFields, f_maxLeaves, f_maxDepth, f_maxCells, f_fields, f_filling, f_sealed, g_size, g_reading, f_chosen, g_pos, f_eventField, f_eventValue, a_parent, a_labels, b_leafBits, b_kinds, b_logFields, b_logValues)) (f_maxFields, f_maxLeaves, f_maxDepth, f_maxCells, f_fields, f_filling, f_sealed, g_size, g_reading, f_chosen, g_pos, f_eventField, f_eventValue, a_parent, a_labels, b_leafBits, b_kinds, b_logFields, b_logValues) v1 := by
    intro q
    obtain ⟨y0, y1, y2, y3, y4, y5, y6, y7, y8, y9, y10⟩ := neg q
    unfold wpY_status
    exact hcur _ (br_f y0 (br_f y1 (br_f y2 (br_f y3 (br_f y4 (br_f y5 (br_f y6 (br_f y7 (br_f y8 (br_f y9 (br_f y10 ⟨rfl, hrel⟩)))))))))))
  by_cases q1 : v1 < 0
  · exact br_t q1 (out (Or.inl q1))
  · by_cases q2 : (10 : Int32) < v1
    · exact br_f q1 (br_t q2 (out (Or.inr q2)))
    · refine br_f q1 (br_f q2 ?_)
      rcases z0 with y | y | y | y | y | y | y | y | y | y | y | y | y
      · exact absurd y q1
      · exact absurd y q2
      · subst y
        refine br_t rfl ?_
        unfold wpY_status
        exact hcur _ (br_t rfl ⟨rfl, hrel⟩)
      · subst y
        refine br_f (by decide) (br_t rfl ?_)
        unfold wpY_status
        exact hcur _ (br_f (by decide) (br_t rfl (y_lv (by omega) eF hbl ⟨x5.symm, hrel⟩)))
      · subst y
        refine br_f (by decide) (br_f (by decide) (br_t rfl ?_))
        unfold wpX_phase
        rcases Nat.eq_zero_or_pos sd with hs | hs
        · have e : f_sealed = 0 := by rw [x7, hs]; rfl
          refine br_t e ?_
          unfold wpY_status
          exact hcur _ (br_f (by decide) (br_f (by decide) (br_t rfl (br_t e ⟨rfl, hrel⟩))))
        · have e : ¬ f_sealed = 0 := by rw [x7, show sd = 1 by omega]; decide
          refine br_f e ?_
          rcases tf with ⟨fe, fl, hc⟩ | ⟨g, lc, ph, q, S, k0, fe, fl, S6, g1, lc1, hI, p1, p2, p3, er, k1, k2, k3, hc, hlc⟩
          · refine br_f (by rw [fl]; decide) ?_
            unfold wpY_status
            exact hc _ (br_f (by decide) (br_f (by decide) (br_t rfl (br_f e (br_f (by decide) ⟨rfl, hrel⟩)))))
          · refine br_t (by rw [fl]; exact nI_pos' (by omega)) ?_
            unfold wpY_status
            exact hc _ (br_f (by decide) (br_f (by decide) (br_t rfl (br_f e (br_t (nI_pos' (by omega)) ⟨rfl, hrel⟩)))))
      · subst y
        refine br_f (by decide) (br_f (by decide) (br_f (by decide) (br_t rfl ?_)))
        unfold wpY_status
        refine hcur _ (br_f (by decide) (br_f (by decide) (br_f (by decide) (br_t rfl ?_))))
        rw [x11]
        refine yk_K hL (by omega) ⟨?_, by rw [← x11]; exact hrel⟩
        rw [ck_5 R (V_tag R w1), w6, x10]
      · subst y
        refine br_f (by decide) (br_f (by decide) (br_f (by decide) (br_f (by decide) (br_t rfl ?_))))
        unfold wpY_status
        refine hcur _ (br_f (by decide) (br_f (by decide) (br_f (by decide) (br_f (by decide) (br_t rfl (y_ce w1 hL (by omega) x11 ⟨x8.symm, hrel⟩))))))
      · subst y
        refine br_f (by decide) (br_f (by decide) (br_f (by decide) (br_f (by decide) (br_f (by decide) (br_t rfl ?_)))))
        unfold wpX_currentGroup
        rcases Nat.eq_zero_or_pos sd with hs | hs
        · have e : f_sealed = 0 := by rw [x7, hs]; rfl
          refine br_t e ?_
          unfold wpY_status
          exact hcur _ (br_f (by decide) (br_f (by decide) (br_f (by decide) (br_f (by decide) (br_f (by decide) (br_t rfl (br_t e ⟨rfl, hrel⟩)))))))
        · have e : ¬ f_sealed = 0 := by rw [x7, show sd = 1 by omega]; decide
          refine br_f e ?_
          rcases tf with ⟨fe, fl, hc⟩ | ⟨g, lc, ph, q, S, k0, fe, fl, S6, g1, lc1, hI, p1, p2, p3, er, k1, k2, k3, hc, hlc⟩
          · refine br_t (by rw [fl]; decide) ?_
            unfold wpY_status
            exact hc _ (br_f (by decide) (br_f (by decide) (br_f (by decide) (br_f (by decide) (br_f (by decide) (br_t rfl (br_f e (br_f (by decide) ⟨rfl, hrel⟩))))))))
          · refine br_f (by rw [fl]; exact nI_pos (by omega)) ⟨by rw [fl]; exact vp_in_nI (by omega) (by decide), ?_⟩
            unfold wpY_status
            refine hc _ (br_f (by decide) (br_f (by decide) (br_f (by decide) (br_f (by decide) (br_f (by decide) (br_t rfl (br_f e (br_t (nI_pos' (by omega)) ⟨vp_in_nI (by omega) (by decide), ?_, hrel⟩))))))))
            rw [nI_clamp (by omega), k2, fl, nI_clamp (by omega), p1]
      · subst y
        refine br_f (by decide) (br_f (by decide) (br_f (by decide) (br_f (by decide) (br_f (by decide) (br_f (by decide) (br_t rfl ?_))))))
        rcases tf with ⟨fe, fl, hc⟩ | ⟨g, lc, ph, q, S, k0, fe, fl, S6, g1, lc1, hI, p1, p2, p3, er, k1, k2, k3, hc, hlc⟩
        · refine br_t (by rw [fl]; decide) ?_
          unfold wpY_status
          exact hc _ (br_f (by decide) (br_f (by decide) (br_f (by decide) (br_f (by decide) (br_f (by decide) (br_f (by decide) (br_t rfl (br_f (by decide) ⟨rfl, hrel⟩))))))))
        · refine br_f (by rw [fl]; exact nI_pos (by omega)) ⟨by rw [fl]; exact vp_in_nI (by omega) (by decide), ?_⟩
          unfold wpY_status
          refine hc _ (br_f (by decide) (br_f (by decide) (br_f (by decide) (br_f (by decide) (br_f (by decide) (br_f (by decide) (br_t rfl (hlc _ ⟨?_, hrel⟩))))))))
          rw [fl, nI_clamp (by omega), p2]
      · subst y
        refine br_f (by decide) (br_f (by decide) (br_f (by decide) (br_f (by decide) (br_f (by decide) (br_f (by decide) (br_f (by decide) (br_t rfl ?_)))))))
        unfold wpY_status
        refine hcur _ (br_f (by decide) (br_f (by decide) (br_f (by decide) (br_f (by decide) (br_f (by decide) (br_f (by decide) (br_f (by decide) (br_t rfl ?_))))))))
        rcases hR.2.2.2 with ⟨r1, r2⟩ | ⟨r1, r2, _⟩
        · exact br_t r2 ⟨r1.symm, hrel⟩
        · exact br_f (by rw [r2]; decide) ⟨rfl, hrel⟩
      · subst y
        refine br_f (by decide) (br_f (by decide) (br_f (by decide) (br_f (by decide) (br_f (by decide) (br_f (by decide) (br_f (by decide) (br_f (by decide) (br_t rfl ?_))))))))
        rcases hR.2.2.2 with ⟨r1, r2⟩ | ⟨r1, r2, H, B, b1, b2, b3, b4⟩
        · refine br_t r1 ?_
          unfold wpY_status
          exact hcur _ (br_f (by decide) (br_f (by decide) (br_f (by decide) (br_f (by decide) (br_f (by decide) (br_f (by decide) (br_f (by decide) (br_f (by decide) (br_t rfl (br_t r2 ⟨rfl, hrel⟩))))))))))
        · refine br_f r1 ?_
          unfold wpY_status
          refine hcur _ (br_f (by decide) (br_f (by decide) (br_f (by decide) (br_f (by decide) (br_f (by decide) (br_f (by decide) (br_f (by decide) (br_f (by decide) (br_t rfl (br_f (by rw [r2]; decide) ?_))))))))))
          obtain ⟨R1, e1⟩ := w2
          have V0 : wk_V c R0 := V_app R1 R0 (e1 ▸ w1)
          have L0 : wr_L b_kinds b_logFields b_logValues R0 := L_app R1 R0 (e1 ▸ hL)
          have ea : wk_ev R = wk_ev R1 + wk_ev R0 := by rw [e1]; exact ev_app _ _
          rw [← b1] at V0 L0 ea
          have eh := ev_le B H
          rw [b2]
          refine yk_K (L_rv B H L0) (by omega) ⟨?_, by rw [← b2]; exact hrel⟩
          rw [ck_5 H (V_tag H ((rv_V B H).mp V0).1), b3]
      · subst y
        refine br_f (by decide) (br_f (by decide) (br_f (by decide) (br_f (by decide) (br_f (by decide) (br_f (by decide) (br_f (by decide) (br_f (by decide) (br_f (by decide) (br_t rfl ?_)))))))))
        unfold wpY_status
        exact hcur _ (br_f (by decide) (br_f (by decide) (br_f (by decide) (br_f (by decide) (br_f (by decide) (br_f (by decide) (br_f (by decide) (br_f (by decide) (br_f (by decide) (br_t rfl ⟨rfl, hrel⟩))))))))))
      · subst y
        refine br_f (by decide) (br_f (by decide) (br_f (by decide) (br_f (by decide) (br_f (by decide) (br_f (by decide) (br_f (by decide) (br_f (by decide) (br_f (by decide) (br_f (by decide) (br_t rfl ?_))))))))))
        unfold wpY_status
        exact hcur _ (br_f (by decide) (br_f (by decide) (br_f (by decide) (br_f (by decide) (br_f (by decide) (br_f (by decide) (br_f (by decide) (br_f (by decide) (br_f (by decide) (br_f (by decide) (br_t rfl ⟨rfl, hrel⟩)))))))))))
end
section
/-! bits -/
theorem b_1 : ∀ i, i < 32 → bt 1 i = decide (i = 0) := by decide +kernel
theorem b_and1 (y : Int32) : (y &&& 1) = 1 ↔ bt y 0 = true := by
  constructor
  · intro h
    have e := b_and y 1 0
    rw [h, b_1 0 (by decide)] at e
    simpa using e.symm
  · intro h
    refine b_ext (fun i hi => ?_)
    rw [b_and, b_1 i hi]
    by_cases z : i = 0
    · subst z
      simp [h]
    · simp [z]
theorem b_tsx (x : Int32) {j : Nat} (hj : j < 31) : ((x >>> (nI j &&& 31)) &&& 1) = 1 ↔ bt x j = true := by
  rw [b_and1, b_sshr j (by omega) x (by decide), if_pos (by omega), Nat.add_zero]
theorem b_tst (x : Int32) {j : Nat} (hj : j < 31) : (x &&& ((1 : Int32) <<< (nI j &&& 31))) = 0 ↔ bt x j = false := by
  have s : ∀ i, i < 32 → bt ((1 : Int32) <<< (nI j &&& 31)) i = decide (i = j) := by
    intro i hi
    rw [b_shl j (by omega) 1 hi, b_1 _ (by omega), ← Bool.decide_and]
    apply decide_eq_decide.mpr
    omega
  constructor
  · intro h
    have e := b_and x ((1 : Int32) <<< (nI j &&& 31)) j
    rw [h, b_0, s j (by omega)] at e
    simpa using e.symm
  · intro h
    refine b_ext (fun i hi => ?_)
    rw [b_and, s i hi, b_0]
    by_cases z : i = j
    · subst z
      simp [h]
    · simp [z]
section
variable {f_maxFields f_maxLeaves f_maxDepth f_maxCells f_fields f_leaves f_leafMask f_filling f_sealed f_cells f_cellsKept f_records f_level f_chosen f_readRecord f_inRecord f_readLeaf f_readNode f_openDepth f_keepDepth f_eventField f_eventValue : Int32} {a_labels a_parent a_depthOf a_repOf a_lastOf a_columnOf a_reps a_defs a_values a_entries a_entriesKept a_held a_heldKept a_pathField a_pathLast a_pathRep a_readPos a_readValue a_jumpTo a_jumpDepth : Nat → Int32}
theorem x_n2 {post : Int32 → Prop} {F : Nat} {ch : Nat → Bool} (hF : F ≤ 16) (eF : f_fields = nI F) (hb : ∀ i, i < 32 → bt f_chosen i = ch (i + 1)) : ∀ k n, 1 ≤ n → n + k = F + 1 → post (im_f (nc_a ch k n)) → ∀ m, k < m → wX_nextChosen_2 post f_maxFields f_maxLeaves f_maxDepth f_maxCells f_fields f_leaves f_leafMask f_filling f_sealed f_cells f_cellsKept f_records f_level f_chosen f_readRecord f_inRecord f_readLeaf f_readNode f_openDepth f_keepDepth f_eventField f_eventValue a_labels a_parent a_depthOf a_repOf a_lastOf a_columnOf a_reps a_defs a_values a_entries a_entriesKept a_held a_heldKept a_pathField a_pathLast a_pathRep a_readPos a_readValue a_jumpTo a_jumpDepth m (im_f n) := by
  subst eF
  intro k
  induction k with
  | zero =>
    intro n n1 hn hp m hm
    obtain ⟨m, rfl⟩ : ∃ q, m = q + 1 := ⟨m - 1, by omega⟩
    refine br_t ?_ hp
    rw [im_p n1]
    exact nI_le (by omega) (by omega)
  | succ k ih =>
    intro n n1 hn hp m hm
    obtain ⟨m, rfl⟩ : ∃ q, m = q + 1 := ⟨m - 1, by omega⟩
    have b := hb (n - 1) (by omega)
    rw [show n - 1 + 1 = n by omega] at b
    have t := b_tsx f_chosen (j := n - 1) (by omega)
    rw [b, ← im_p n1] at t
    unfold nc_a at hp
    refine br_f ?_ ?_
    · rw [im_p n1]
      exact nI_ge (by omega) (by omega)
    · by_cases z : ch n = true
      · rw [if_pos z] at hp
        exact br_t (t.mpr z) hp
      · rw [if_neg z] at hp
        exact br_f (fun q => z (t.mp q)) (nm_r (im_a1 n) (ih (n + 1) (by omega) (by omega) hp m (by omega)))
theorem x_nc {post : Int32 → Prop} {c : sc_T} {ch : Nat → Bool} {n : Nat} (hF : sc_F c ≤ 16) (eF : f_fields = nI (sc_F c)) (hb : ∀ i, i < 32 → bt f_chosen i = ch (i + 1)) (n1 : 1 ≤ n) (n2 : n ≤ sc_F c + 1) (hp : post (im_f (wk_nc c ch n))) : wpX_nextChosen post (f_maxFields, f_maxLeaves, f_maxDepth, f_maxCells, f_fields, f_leaves, f_leafMask, f_filling, f_sealed, f_cells, f_cellsKept, f_records, f_level, f_chosen, f_readRecord, f_inRecord, f_readLeaf, f_readNode, f_openDepth, f_keepDepth, f_eventField, f_eventValue, a_labels, a_parent, a_depthOf, a_repOf, a_lastOf, a_columnOf, a_reps, a_defs, a_values, a_entries, a_entriesKept, a_held, a_heldKept, a_pathField, a_pathLast, a_pathRep, a_readPos, a_readValue, a_jumpTo, a_jumpDepth) (im_f n) :=
  ⟨sc_F c + 2, x_n2 hF eF hb (sc_F c + 1 - n) n n1 (by omega) hp _ (by omega)⟩
theorem x_ra10 {post : Int32 → Prop} {c : sc_T} {r : Nat} {b_leafBits : Nat → Int32} (hT : sc_tr c) (hF : sc_F c ≤ 16) (hr : r < 100) (hdp : ∀ n, n ≤ sc_F c → sc_dep c n ≤ 7) (hA : rl_A c a_labels a_parent a_depthOf a_repOf a_columnOf b_leafBits) : ∀ d n, sc_dep c n = d → n ≤ sc_F c → post (im_f (wk_ra c r d n)) → ∀ m, d < m → wX_repeatedAt_10 post (nI r) f_maxFields f_maxLeaves f_maxDepth f_maxCells f_fields f_leaves f_leafMask f_filling f_sealed f_cells f_cellsKept f_records f_level f_chosen f_readRecord f_inRecord f_readLeaf f_readNode f_openDepth f_keepDepth f_eventField f_eventValue a_labels a_parent a_depthOf a_repOf a_lastOf a_columnOf a_reps a_defs a_values a_entries a_entriesKept a_held a_heldKept a_pathField a_pathLast a_pathRep a_readPos a_readValue a_jumpTo a_jumpDepth m (im_f n) (nI d) := by
  intro d
  induction d with
  | zero =>
    intro n hd hn hp m hm
    obtain ⟨m, rfl⟩ : ∃ q, m = q + 1 := ⟨m - 1, by omega⟩
    exact br_t (by decide) hp
  | succ d ih =>
    intro n hd hn hp m hm
    obtain ⟨m, rfl⟩ : ∃ q, m = q + 1 := ⟨m - 1, by omega⟩
    have n1 : 1 ≤ n := by
      rcases Nat.eq_zero_or_pos n with e | e
      · rw [e, tr_d0 hT] at hd; omega
      · exact e
    have hin : vp_in (im_f n) 16 := im_in n1 (by omega) (by decide)
    have cl : (im_f n).toNatClampNeg = n - 1 := im_cl n1 (by omega)
    obtain ⟨a1, a2, a3, a4, a5, a6⟩ := hA n n1 hn
    have lb := tr_lab hT n1 hn
    have dp := tr_dp hT n1 hn
    have pp := tr_par hT n1 hn
    have rd := tr_rd hT n hn
    have d7 := hdp n hn
    unfold wk_ra at hp
    have nx : ¬ (sc_lab c n = 2 ∧ sc_rp c n = r) → wX_repeatedAt_10 post (nI r) f_maxFields f_maxLeaves f_maxDepth f_maxCells f_fields f_leaves f_leafMask f_filling f_sealed f_cells f_cellsKept f_records f_level f_chosen f_readRecord f_inRecord f_readLeaf f_readNode f_openDepth f_keepDepth f_eventField f_eventValue a_labels a_parent a_depthOf a_repOf a_lastOf a_columnOf a_reps a_defs a_values a_entries a_entriesKept a_held a_heldKept a_pathField a_pathLast a_pathRep a_readPos a_readValue a_jumpTo a_jumpDepth m (im_f (sc_par c n)) (nI d) := by
      intro z
      rw [if_neg z] at hp
      exact ih (sc_par c n) (by omega) (by omega) hp m (by omega)
    refine br_f (nI_nle (by omega) (by omega)) ⟨hin, ?_⟩
    rw [cl, a1]
    by_cases z : sc_lab c n = 2
    · refine br_t (by rw [z]; rfl) ⟨hin, ?_⟩
      rw [a4]
      by_cases w : sc_rp c n = r
      · rw [if_pos ⟨z, w⟩] at hp
        exact br_t (by rw [w]) hp
      · exact br_f (fun q => w ((nI_eq (by omega) (by omega)).mp q)) ⟨hin, nm_r (e' := im_f (sc_par c n)) a2 (nm_r (pk_m1 d) (nx (fun q => w q.2)))⟩
    · exact br_f (fun q => z ((nI_eq (b := 2) (by omega) (by decide)).mp q)) ⟨hin, nm_r (e' := im_f (sc_par c n)) a2 (nm_r (pk_m1 d) (nx (fun q => z q.1)))⟩
theorem x_ra {post : Int32 → Prop} {c : sc_T} {r l : Nat} {b_leafBits : Nat → Int32} (hT : sc_tr c) (hF : sc_F c ≤ 16) (hr : r < 100) (hdp : ∀ n, n ≤ sc_F c → sc_dep c n ≤ 7) (hA : rl_A c a_labels a_parent a_depthOf a_repOf a_columnOf b_leafBits) (l1 : 1 ≤ l) (l2 : l ≤ sc_F c) (hp : post (im_f (wk_ra c r (sc_dep c l) l))) : wpX_repeatedAt post (f_maxFields, f_maxLeaves, f_maxDepth, f_maxCells, f_fields, f_leaves, f_leafMask, f_filling, f_sealed, f_cells, f_cellsKept, f_records, f_level, f_chosen, f_readRecord, f_inRecord, f_readLeaf, f_readNode, f_openDepth, f_keepDepth, f_eventField, f_eventValue, a_labels, a_parent, a_depthOf, a_repOf, a_lastOf, a_columnOf, a_reps, a_defs, a_values, a_entries, a_entriesKept, a_held, a_heldKept, a_pathField, a_pathLast, a_pathRep, a_readPos, a_readValue, a_jumpTo, a_jumpDepth) (im_f l) (nI r) := by
  refine ⟨im_in l1 (by omega) (by decide), nm_r (e' := nI (sc_dep c l)) ?_ ⟨sc_dep c l + 1, x_ra10 hT hF hr hdp hA (sc_dep c l) l rfl l2 hp _ (by omega)⟩⟩
  rw [im_cl l1 (by omega)]
  exact (hA l l1 l2).2.2.1
theorem x_cd24 {post : Int32 → Prop} {c : sc_T} {t : Nat} {b_leafBits : Nat → Int32} (hT : sc_tr c) (hF : sc_F c ≤ 16) (ht : t ≤ 16) (hdp : ∀ n, n ≤ sc_F c → sc_dep c n ≤ 7) (hA : rl_A c a_labels a_parent a_depthOf a_repOf a_columnOf b_leafBits) (hE : rl_E c 0 a_lastOf) : ∀ d n, sc_dep c n = d → n ≤ sc_F c → post (nI (wk_cd c t d n)) → ∀ m, d < m → wX_commonDepth_24 post (im_f t) f_maxFields f_maxLeaves f_maxDepth f_maxCells f_fields f_leaves f_leafMask f_filling f_sealed f_cells f_cellsKept f_records f_level f_chosen f_readRecord f_inRecord f_readLeaf f_readNode f_openDepth f_keepDepth f_eventField f_eventValue a_labels a_parent a_depthOf a_repOf a_lastOf a_columnOf a_reps a_defs a_values a_entries a_entriesKept a_held a_heldKept a_pathField a_pathLast a_pathRep a_readPos a_readValue a_jumpTo a_jumpDepth m (im_f n) (nI d) := by
  intro d
  induction d with
  | zero =>
    intro n hd hn hp m hm
    obtain ⟨m, rfl⟩ : ∃ q, m = q + 1 := ⟨m - 1, by omega⟩
    exact br_t (by decide) hp
  | succ d ih =>
    intro n hd hn hp m hm
    obtain ⟨m, rfl⟩ : ∃ q, m = q + 1 := ⟨m - 1, by omega⟩
    have n1 : 1 ≤ n := by
      rcases Nat.eq_zero_or_pos n with e | e
      · rw [e, tr_d0 hT] at hd; omega
      · exact e
    have hin : vp_in (im_f n) 16 := im_in n1 (by omega) (by decide)
    have cl : (im_f n).toNatClampNeg = n - 1 := im_cl n1 (by omega)
    obtain ⟨a1, a2, a3, a4, a5, a6⟩ := hA n n1 hn
    have dp := tr_dp hT n1 hn
    have pp := tr_par hT n1 hn
    have le := tr_le hT hn
    have d7 := hdp n hn
    unfold wk_cd at hp
    refine br_f (nI_nle (by omega) (by omega)) ⟨hin, ?_⟩
    rw [cl, hE n n1 hn (by omega)]
    by_cases z : t ≤ sc_lst c n
    · rw [if_pos z] at hp
      exact br_f (fun q => by rw [im_lt (by omega) (by omega)] at q; omega) hp
    · rw [if_neg z] at hp
      exact br_t ((im_lt (by omega) (by omega)).mpr (by omega)) ⟨hin, nm_r (e' := im_f (sc_par c n)) a2 (nm_r (pk_m1 d) (ih (sc_par c n) (by omega) (by omega) hp m (by omega)))⟩
theorem x_cd {post : Int32 → Prop} {c : sc_T} {t l : Nat} {b_leafBits : Nat → Int32} (hT : sc_tr c) (hF : sc_F c ≤ 16) (ht : t ≤ 16) (hdp : ∀ n, n ≤ sc_F c → sc_dep c n ≤ 7) (hA : rl_A c a_labels a_parent a_depthOf a_repOf a_columnOf b_leafBits) (hE : rl_E c 0 a_lastOf) (l1 : 1 ≤ l) (l2 : l ≤ sc_F c) (hp : post (nI (if t = 0 then 0 else wk_cd c t (sc_dep c l - 1) (sc_par c l)))) : wpX_commonDepth post (f_maxFields, f_maxLeaves, f_maxDepth, f_maxCells, f_fields, f_leaves, f_leafMask, f_filling, f_sealed, f_cells, f_cellsKept, f_records, f_level, f_chosen, f_readRecord, f_inRecord, f_readLeaf, f_readNode, f_openDepth, f_keepDepth, f_eventField, f_eventValue, a_labels, a_parent, a_depthOf, a_repOf, a_lastOf, a_columnOf, a_reps, a_defs, a_values, a_entries, a_entriesKept, a_held, a_heldKept, a_pathField, a_pathLast, a_pathRep, a_readPos, a_readValue, a_jumpTo, a_jumpDepth) (im_f l) (im_f t) := by
  have hin : vp_in (im_f l) 16 := im_in l1 (by omega) (by decide)
  have cl : (im_f l).toNatClampNeg = l - 1 := im_cl l1 (by omega)
  have dp := tr_dp hT l1 l2
  have pp := tr_par hT l1 l2
  by_cases z : t = 0
  · rw [if_pos z] at hp
    exact br_t (by rw [z]; rfl) hp
  · rw [if_neg z] at hp
    refine br_f (fun q => by rw [im_m1 (by omega)] at q; omega) ⟨hin, nm_r (e' := im_f (sc_par c l)) (by rw [cl]; exact (hA l l1 l2).2.1) ⟨hin, nm_r (e' := nI (sc_dep c l - 1)) ?_ ⟨sc_dep c l, x_cd24 hT hF ht hdp hA hE (sc_dep c l - 1) (sc_par c l) (by omega) (by omega) hp _ (by omega)⟩⟩⟩
    rw [cl, (hA l l1 l2).2.2.1]
    obtain ⟨w, hw⟩ : ∃ w, sc_dep c l = w + 1 := ⟨sc_dep c l - 1, by omega⟩
    rw [hw, nI_pred]
    rfl
theorem x_an10 {post : Int32 → Prop} {c : sc_T} {t : Nat} {b_leafBits : Nat → Int32} (hT : sc_tr c) (hF : sc_F c ≤ 16) (ht : t ≤ 16) (hdp : ∀ n, n ≤ sc_F c → sc_dep c n ≤ 7) (hA : rl_A c a_labels a_parent a_depthOf a_repOf a_columnOf b_leafBits) : ∀ d n, sc_dep c n = d → n ≤ sc_F c → post (im_f (wk_an c t d n)) → ∀ m, d < m → wX_ancestorAt_10 post (nI t) f_maxFields f_maxLeaves f_maxDepth f_maxCells f_fields f_leaves f_leafMask f_filling f_sealed f_cells f_cellsKept f_records f_level f_chosen f_readRecord f_inRecord f_readLeaf f_readNode f_openDepth f_keepDepth f_eventField f_eventValue a_labels a_parent a_depthOf a_repOf a_lastOf a_columnOf a_reps a_defs a_values a_entries a_entriesKept a_held a_heldKept a_pathField a_pathLast a_pathRep a_readPos a_readValue a_jumpTo a_jumpDepth m (im_f n) (nI d) := by
  intro d
  induction d with
  | zero =>
    intro n hd hn hp m hm
    obtain ⟨m, rfl⟩ : ∃ q, m = q + 1 := ⟨m - 1, by omega⟩
    exact br_t (nI_le (by omega) (by omega)) hp
  | succ d ih =>
    intro n hd hn hp m hm
    obtain ⟨m, rfl⟩ : ∃ q, m = q + 1 := ⟨m - 1, by omega⟩
    have n1 : 1 ≤ n := by
      rcases Nat.eq_zero_or_pos n with e | e
      · rw [e, tr_d0 hT] at hd; omega
      · exact e
    have hin : vp_in (im_f n) 16 := im_in n1 (by omega) (by decide)
    have cl : (im_f n).toNatClampNeg = n - 1 := im_cl n1 (by omega)
    obtain ⟨a1, a2, a3, a4, a5, a6⟩ := hA n n1 hn
    have dp := tr_dp hT n1 hn
    have pp := tr_par hT n1 hn
    have d7 := hdp n hn
    unfold wk_an at hp
    by_cases z : d + 1 ≤ t
    · rw [if_pos (Or.inl z)] at hp
      exact br_t (nI_le z (by omega)) hp
    · refine br_f (nI_ge (by omega) (by omega)) ?_
      by_cases w : d + 1 ≤ 1
      · rw [if_pos (Or.inr w)] at hp
        exact br_t (nI_le (b := 1) w (by decide)) hp
      · rw [if_neg (by omega)] at hp
        refine br_f (nI_ge (a := 1) (by omega) (by omega)) ⟨hin, nm_r (e' := im_f (sc_par c n)) (by rw [cl]; exact a2) (nm_r (pk_m1 d) (ih (sc_par c n) (by omega) (by omega) hp m (by omega)))⟩
theorem x_an {post : Int32 → Prop} {c : sc_T} {t l : Nat} {b_leafBits : Nat → Int32} (hT : sc_tr c) (hF : sc_F c ≤ 16) (ht : t ≤ 16) (hdp : ∀ n, n ≤ sc_F c → sc_dep c n ≤ 7) (hA : rl_A c a_labels a_parent a_depthOf a_repOf a_columnOf b_leafBits) (l1 : 1 ≤ l) (l2 : l ≤ sc_F c) (hp : post (im_f (wk_an c t (sc_dep c l) l))) : wpX_ancestorAt post (f_maxFields, f_maxLeaves, f_maxDepth, f_maxCells, f_fields, f_leaves, f_leafMask, f_filling, f_sealed, f_cells, f_cellsKept, f_records, f_level, f_chosen, f_readRecord, f_inRecord, f_readLeaf, f_readNode, f_openDepth, f_keepDepth, f_eventField, f_eventValue, a_labels, a_parent, a_depthOf, a_repOf, a_lastOf, a_columnOf, a_reps, a_defs, a_values, a_entries, a_entriesKept, a_held, a_heldKept, a_pathField, a_pathLast, a_pathRep, a_readPos, a_readValue, a_jumpTo, a_jumpDepth) (im_f l) (nI t) := by
  refine ⟨im_in l1 (by omega) (by decide), nm_r (e' := nI (sc_dep c l)) ?_ ⟨sc_dep c l + 1, x_an10 hT hF ht hdp hA (sc_dep c l) l rfl l2 hp _ (by omega)⟩⟩
  rw [im_cl l1 (by omega)]
  exact (hA l l1 l2).2.2.1
end
end
section
theorem V_e {c : sc_T} (h : sc_tr c) {i : wk_I} {H : List wk_I} (hV : wk_V c (i :: H)) {l : Nat} (hl : sc_lf c l = 1) (z : (i.1 = 0 ∨ i.1 = 2) ∧ i.2.1 = l) : i.2.2.2.1 ≤ sc_rp c l ∧ ((i.1 = 0 ∧ i.2.2.2.2 < sc_dep c l) ∨ (i.1 = 2 ∧ i.2.2.2.2 = sc_dep c l)) := by
  have hk := hV.1
  have hI := V_inv h H hV.2
  generalize wk_fin c H = s at hk hI
  obtain ⟨z1, z2⟩ := z
  cases s with
  | nil =>
    have e : i = (1, 0, 0, 0, 0) := hk
    rw [e] at z1
    exact absurd z1 (by decide)
  | cons f S =>
    obtain ⟨g, lc, ph, r⟩ := f
    obtain ⟨⟨i1, i2, i3, i4, i5, i6, i7⟩, il, iS⟩ := hI
    have gl := tr_le h i1
    rcases hk with ⟨rfl, hq⟩ | ⟨n, v, rfl, x0, h1, h2, h3, h4⟩ | ⟨n, v, rfl, x0, x1, x2, h1, h2, h3, h4⟩ | ⟨n, rfl, x0, h1, h2, h3, h4⟩ | ⟨n, rfl, x0, x1, x2, h1, h2, h3, h4⟩ | ⟨rfl, hq⟩
    · have e : ph = l := z2
      subst e
      have a := tr_rle h i1 (by omega) hq
      have b := tr_dlt h i1 ph i4 hq
      exact ⟨by show r ≤ _; omega, Or.inl ⟨rfl, by show S.length < _; omega⟩⟩
    · have e : n = l := z2
      subst e
      have a := tr_rpm h h1 h2
      rw [h4] at a
      exact ⟨by show r ≤ _; omega, Or.inr ⟨rfl, rfl⟩⟩
    · have e : n = l := z2
      subst e
      exact ⟨Nat.le_refl _, Or.inr ⟨rfl, rfl⟩⟩
    · exact absurd z1 (by simp)
    · exact absurd z1 (by simp)
    · exact absurd z1 (by simp)
theorem zc_cons (l : Nat) (i : wk_I) (R : List wk_I) : wk_zc l (i :: R) = wk_zc l R + (if (i.1 = 0 ∨ i.1 = 2) ∧ i.2.1 = l ∧ i.2.2.2.1 = 0 then 1 else 0) := by
  unfold wk_zc
  show wk_ct _ R + _ = _
  by_cases z : (i.1 = 0 ∨ i.1 = 2) ∧ i.2.1 = l ∧ i.2.2.2.1 = 0 <;> simp [z]
theorem zc_en (l : Nat) : ∀ R, wk_zc l R ≤ wk_en l R
  | [] => Nat.le_refl _
  | i :: R => by
    have a := zc_en l R
    rw [zc_cons, en_cons]
    by_cases z : (i.1 = 0 ∨ i.1 = 2) ∧ i.2.1 = l
    · rw [if_pos z]
      split <;> omega
    · rw [if_neg z, if_neg (fun q => z ⟨q.1, q.2.1⟩)]
      exact a
theorem zc_le (l : Nat) (B H : List wk_I) : wk_zc l H ≤ wk_zc l (wk_rv B H) := by
  have : wk_zc l (wk_rv B H) = wk_zc l H + wk_zc l B := ct_rv _ _ _
  omega
theorem en_le (l : Nat) (B H : List wk_I) : wk_en l H ≤ wk_en l (wk_rv B H) := by
  have : wk_en l (wk_rv B H) = wk_en l H + wk_en l B := ct_rv _ _ _
  omega
def tb_P (c : sc_T) (ch : Nat → Bool) (P : Nat → Nat → Prop) (ajt ajd : Nat → Int32) : Prop :=
  ∀ l r, ch l = true → P l r → r ≤ sc_rp c l → ajt (sc_col c l * 8 + r) = im_f (wk_J c ch l r) ∧ ajd (sc_col c l * 8 + r) = nI (wk_JD c ch l r)
theorem tb_put {c : sc_T} {ch : Nat → Bool} {P P' : Nat → Nat → Prop} {ajt ajd : Nat → Int32} {l r : Nat} {x y : Int32} (hch : ∀ n, ch n = true → 1 ≤ n ∧ n ≤ sc_F c ∧ sc_lf c n = 1) (h7 : ∀ n, n ≤ sc_F c → sc_rp c n ≤ 7) (hl : ch l = true) (hr : r ≤ sc_rp c l) (hx : x = im_f (wk_J c ch l r)) (hy : y = nI (wk_JD c ch l r)) (hP : ∀ l' r', P' l' r' → P l' r' ∨ (l' = l ∧ r' = r)) (h : tb_P c ch P ajt ajd) : tb_P c ch P' (upd ajt (sc_col c l * 8 + r) x) (upd ajd (sc_col c l * 8 + r) y) := by
  intro l' r' a b d
  obtain ⟨p1, p2, p3⟩ := hch l hl
  obtain ⟨q1, q2, q3⟩ := hch l' a
  have e1 := h7 l p2
  have e2 := h7 l' q2
  by_cases z : l' = l ∧ r' = r
  · obtain ⟨z1, z2⟩ := z
    subst z1 z2
    rw [pk_us, pk_us]
    exact ⟨hx, hy⟩
  · have ne : sc_col c l' * 8 + r' ≠ sc_col c l * 8 + r := by
      intro q
      have ec : sc_col c l' = sc_col c l := by omega
      have el := col_inj q1 p1 q3 p3 ec
      exact z ⟨el, by omega⟩
    rw [pk_un ne, pk_un ne]
    rcases hP l' r' b with w | w
    · exact h l' r' a w d
    · exact absurd w z
section
variable {f_maxFields f_maxLeaves f_maxDepth f_maxCells f_fields f_leaves f_leafMask f_filling f_sealed f_cells f_cellsKept f_records f_level f_chosen f_readRecord f_inRecord f_readLeaf f_readNode f_openDepth f_keepDepth f_eventField f_eventValue : Int32} {a_labels a_parent a_depthOf a_repOf a_lastOf a_columnOf a_reps a_defs a_values a_entries a_entriesKept a_held a_heldKept a_pathField a_pathLast a_pathRep a_readPos a_readValue a_jumpTo a_jumpDepth : Nat → Int32}
theorem x_l16 {post : SX → Prop} {c : sc_T} {l k : Nat} {H1 B1 : List wk_I} {b_leafBits : Nat → Int32} (hT : sc_tr c) (hF : sc_F c ≤ 16) (hA : rl_A c a_labels a_parent a_depthOf a_repOf a_columnOf b_leafBits) (hdp : ∀ n, n ≤ sc_F c → sc_dep c n ≤ 7) (l1 : 1 ≤ l) (l2 : l ≤ sc_F c) (hl : sc_lf c l = 1) (c8 : sc_col c l < 8) (hV : wk_V c (wk_rv B1 H1)) (hf1 : wk_fin c H1 = []) (hff : wk_fin c (wk_rv B1 H1) = []) (hre : wk_re H1 = k) (hC : wr_C c a_reps a_defs a_values (wk_rv B1 H1)) (ek : a_entriesKept (sc_col c l) = nI (wk_en l (wk_rv B1 H1))) (b32 : wk_en l (wk_rv B1 H1) ≤ 32) (K : post (f_maxFields, f_maxLeaves, f_maxDepth, f_maxCells, f_fields, f_leaves, f_leafMask, f_filling, f_sealed, f_cells, f_cellsKept, f_records, f_level, f_chosen, f_readRecord, f_inRecord, f_readLeaf, f_readNode, f_openDepth, f_keepDepth, f_eventField, f_eventValue, a_labels, a_parent, a_depthOf, a_repOf, a_lastOf, a_columnOf, a_reps, a_defs, a_values, a_entries, a_entriesKept, a_held, a_heldKept, a_pathField, a_pathLast, a_pathRep, upd a_readPos (sc_col c l) (nI (wk_en l H1)), upd a_readValue (sc_col c l) (nI (wk_hn l H1)), a_jumpTo, a_jumpDepth)) : ∀ (B H : List wk_I), wk_rv B H = H1 → ∀ n, B.length < n → wX_locate_16 post (im_f l) (nI k) (nI (sc_col c l)) f_maxFields f_maxLeaves f_maxDepth f_maxCells f_fields f_leaves f_leafMask f_filling f_sealed f_cells f_cellsKept f_records f_level f_chosen f_readRecord f_inRecord f_readLeaf f_readNode f_openDepth f_keepDepth f_eventField f_eventValue a_labels a_parent a_depthOf a_repOf a_lastOf a_columnOf a_reps a_defs a_values a_entries a_entriesKept a_held a_heldKept a_pathField a_pathLast a_pathRep a_readPos a_readValue a_jumpTo a_jumpDepth n (nI (wk_zc l H)) (nI (wk_hn l H)) (nI (wk_en l H)) := by
  have hin : vp_in (nI (sc_col c l)) 8 := vp_in_nI c8 (by decide)
  have cl : (nI (sc_col c l)).toNatClampNeg = sc_col c l := nI_clamp (by omega)
  have hin2 : vp_in (im_f l) 16 := im_in l1 (by omega) (by decide)
  have cl2 : (im_f l).toNatClampNeg = l - 1 := im_cl l1 (by omega)
  obtain ⟨V1, W1⟩ := (rv_V B1 H1).mp hV
  have z1 := ct_4 hT hl l1 l2 H1 V1
  rw [hf1] at z1
  have z1' : wk_zc l H1 + 0 = wk_re H1 + 0 := z1
  have k83 : wX_locate_83 post (nI (sc_col c l)) (nI (wk_hn l H1)) (nI (wk_en l H1)) f_maxFields f_maxLeaves f_maxDepth f_maxCells f_fields f_leaves f_leafMask f_filling f_sealed f_cells f_cellsKept f_records f_level f_chosen f_readRecord f_inRecord f_readLeaf f_readNode f_openDepth f_keepDepth f_eventField f_eventValue a_labels a_parent a_depthOf a_repOf a_lastOf a_columnOf a_reps a_defs a_values a_entries a_entriesKept a_held a_heldKept a_pathField a_pathLast a_pathRep a_readPos a_readValue a_jumpTo a_jumpDepth := And.intro hin (nm_r (by rw [cl]) (And.intro hin (nm_r (by rw [cl]) K)))
  have eat : ∀ e, nI (sc_col c l) * 32 + nI e = nI (sc_col c l * 32 + e) := fun e => by rw [show (32 : Int32) = nI 32 from rfl, pk_mul, nI_add]
  have d7 := hdp l l2
  have r7 := tr_rd hT l l2
  have zl := zc_en l H1
  have el1 := en_le l B1 H1
  intro B
  induction B with
  | nil =>
    intro H e n hn
    have e : H = H1 := e
    subst e
    obtain ⟨m, rfl⟩ : ∃ m, n = m + 1 := ⟨n - 1, by omega⟩
    refine ⟨hin, ?_⟩
    rw [cl, ek]
    rcases Nat.lt_or_ge (wk_en l H) (wk_en l (wk_rv B1 H)) with z | z
    · refine br_f (nI_ge z (by omega)) (nm_r (eat _) ⟨vp_in_nI (by omega) (by decide), ?_⟩)
      have nx := (C_nx hl B1 H hC z).1
      have nr0 : wk_nr l B1 = 0 := by
        rw [rv_fin, hf1] at hff
        rw [hf1] at W1
        exact wk_N hT hl l1 l2 B1 [] trivial W1 hff trivial
      rw [nI_clamp (by omega), nx, nr0]
      exact br_t rfl (br_t (by rw [show wk_zc l H = k by omega]) k83)
    · exact br_t (nI_le z (by omega)) k83
  | cons i B ih =>
    intro H e n hn
    simp only [List.length_cons] at hn
    have e' : wk_rv B (i :: H) = H1 := e
    have hI := ih (i :: H) e'
    have ez := zc_cons l i H
    have ee := en_cons l i H
    have eh := hn_cons l i H
    have Vi : wk_V c (i :: H) := ((rv_V B (i :: H)).mp (by rw [e']; exact V1)).1
    have Ci : wr_C c a_reps a_defs a_values (i :: H) := C_rv B (i :: H) (by rw [e']; exact C_rv B1 H1 hC)
    by_cases z : (i.1 = 0 ∨ i.1 = 2) ∧ i.2.1 = l
    · obtain ⟨m, rfl⟩ : ∃ m, n = m + 1 := ⟨n - 1, by omega⟩
      obtain ⟨rb, df⟩ := V_e hT Vi hl z
      obtain ⟨c1, c2⟩ := Ci.1 z.1 (by rw [z.2]; exact hl)
      rw [z.2] at c1 c2
      rw [if_pos z] at ee
      have le1 := en_le l B (i :: H)
      have le2 := zc_le l B (i :: H)
      rw [e'] at le1 le2
      have hm := hI m (by omega)
      refine ⟨hin, ?_⟩
      rw [cl, ek]
      refine br_f (nI_ge (by omega) (by omega)) (nm_r (eat _) ⟨vp_in_nI (by omega) (by decide), ?_⟩)
      have hin3 : vp_in (nI (sc_col c l * 32 + wk_en l H)) 256 := vp_in_nI (by omega) (by decide)
      have k58 : ∀ s, nI s = nI (wk_zc l (i :: H)) → wX_locate_58 post (wX_locate_16 post (im_f l) (nI k) (nI (sc_col c l)) f_maxFields f_maxLeaves f_maxDepth f_maxCells f_fields f_leaves f_leafMask f_filling f_sealed f_cells f_cellsKept f_records f_level f_chosen f_readRecord f_inRecord f_readLeaf f_readNode f_openDepth f_keepDepth f_eventField f_eventValue a_labels a_parent a_depthOf a_repOf a_lastOf a_columnOf a_reps a_defs a_values a_entries a_entriesKept a_held a_heldKept a_pathField a_pathLast a_pathRep a_readPos a_readValue a_jumpTo a_jumpDepth m) (im_f l) (nI k) (nI (sc_col c l)) (nI s) (nI (wk_hn l H)) (nI (wk_en l H)) (nI (sc_col c l * 32 + wk_en l H)) f_maxFields f_maxLeaves f_maxDepth f_maxCells f_fields f_leaves f_leafMask f_filling f_sealed f_cells f_cellsKept f_records f_level f_chosen f_readRecord f_inRecord f_readLeaf f_readNode f_openDepth f_keepDepth f_eventField f_eventValue a_labels a_parent a_depthOf a_repOf a_lastOf a_columnOf a_reps a_defs a_values a_entries a_entriesKept a_held a_heldKept a_pathField a_pathLast a_pathRep a_readPos a_readValue a_jumpTo a_jumpDepth := by
        intro s es
        rw [es]
        refine And.intro hin3 (And.intro hin2 ?_)
        rw [nI_clamp (by omega), cl2, c2, (hA l l1 l2).2.2.1]
        rcases df with ⟨d1, d2⟩ | ⟨d1, d2⟩
        · rw [if_neg (by omega)] at eh
          rw [ee, eh] at hm
          exact br_f (fun q => by rw [nI_eq (by omega) (by omega)] at q; omega) (nm_r (nI_1 _) hm)
        · rw [if_pos ⟨Or.inr d1, z.2⟩] at eh
          rw [ee, eh] at hm
          exact br_t (by rw [d2]) (nm_r (nI_1 _) (nm_r (nI_1 _) hm))
      rw [nI_clamp (by omega), c1]
      by_cases w : i.2.2.2.1 = 0
      · rw [if_pos ⟨z.1, z.2, w⟩] at ez
        refine br_t (by rw [w]; rfl) (br_f (fun q => by rw [nI_eq (by omega) (by omega)] at q; omega) (nm_r (nI_1 _) (k58 _ (by rw [ez]))))
      · rw [if_neg (fun q => w q.2.2)] at ez
        refine br_f (fun q => w ((nI_eq (b := 0) (by omega) (by decide)).mp q)) (k58 _ (by rw [ez]; rfl))
    · rw [if_neg z] at ee
      rw [if_neg (fun q => z ⟨q.1, q.2.1⟩)] at ez
      rw [if_neg (fun q => ?_)] at eh
      · rw [ee, ez, eh] at hI
        exact hI n (by omega)
      · rcases q.1 with w | w
        · have := ((V_nd hT (i :: H) Vi i List.mem_cons_self).1 w).2
          rw [q.2, hl] at this
          omega
        · exact z ⟨Or.inr w, q.2⟩
theorem x_lo {post : SX → Prop} {c : sc_T} {l k : Nat} {H1 B1 : List wk_I} {b_leafBits : Nat → Int32} (hT : sc_tr c) (hF : sc_F c ≤ 16) (hA : rl_A c a_labels a_parent a_depthOf a_repOf a_columnOf b_leafBits) (hdp : ∀ n, n ≤ sc_F c → sc_dep c n ≤ 7) (l1 : 1 ≤ l) (l2 : l ≤ sc_F c) (hl : sc_lf c l = 1) (c8 : sc_col c l < 8) (hV : wk_V c (wk_rv B1 H1)) (hf1 : wk_fin c H1 = []) (hff : wk_fin c (wk_rv B1 H1) = []) (hre : wk_re H1 = k) (hC : wr_C c a_reps a_defs a_values (wk_rv B1 H1)) (ek : a_entriesKept (sc_col c l) = nI (wk_en l (wk_rv B1 H1))) (b32 : wk_en l (wk_rv B1 H1) ≤ 32) (K : post (f_maxFields, f_maxLeaves, f_maxDepth, f_maxCells, f_fields, f_leaves, f_leafMask, f_filling, f_sealed, f_cells, f_cellsKept, f_records, f_level, f_chosen, f_readRecord, f_inRecord, f_readLeaf, f_readNode, f_openDepth, f_keepDepth, f_eventField, f_eventValue, a_labels, a_parent, a_depthOf, a_repOf, a_lastOf, a_columnOf, a_reps, a_defs, a_values, a_entries, a_entriesKept, a_held, a_heldKept, a_pathField, a_pathLast, a_pathRep, upd a_readPos (sc_col c l) (nI (wk_en l H1)), upd a_readValue (sc_col c l) (nI (wk_hn l H1)), a_jumpTo, a_jumpDepth)) : wpX_locate post (f_maxFields, f_maxLeaves, f_maxDepth, f_maxCells, f_fields, f_leaves, f_leafMask, f_filling, f_sealed, f_cells, f_cellsKept, f_records, f_level, f_chosen, f_readRecord, f_inRecord, f_readLeaf, f_readNode, f_openDepth, f_keepDepth, f_eventField, f_eventValue, a_labels, a_parent, a_depthOf, a_repOf, a_lastOf, a_columnOf, a_reps, a_defs, a_values, a_entries, a_entriesKept, a_held, a_heldKept, a_pathField, a_pathLast, a_pathRep, a_readPos, a_readValue, a_jumpTo, a_jumpDepth) (im_f l) (nI k) := by
  have hin2 : vp_in (im_f l) 16 := im_in l1 (by omega) (by decide)
  have cl2 : (im_f l).toNatClampNeg = l - 1 := im_cl l1 (by omega)
  refine ⟨hin2, nm_r (e' := nI (sc_col c l)) (by rw [cl2, (hA l l1 l2).2.2.2.2.1, if_pos hl]) ⟨H1.reverse.length + 1, ?_⟩⟩
  exact x_l16 hT hF hA hdp l1 l2 hl c8 hV hf1 hff hre hC ek b32 K H1.reverse [] (rv_all H1) _ (Nat.lt_succ_self _)
theorem x_p21 {post : SX → Prop} {c : sc_T} {ch : Nat → Bool} {l : Nat} {b_leafBits : Nat → Int32} (hT : sc_tr c) (hF : sc_F c ≤ 16) (hA : rl_A c a_labels a_parent a_depthOf a_repOf a_columnOf b_leafBits) (hE : rl_E c 0 a_lastOf) (hdp : ∀ n, n ≤ sc_F c → sc_dep c n ≤ 7) (eF : f_fields = nI (sc_F c)) (hb : ∀ i, i < 32 → bt f_chosen i = ch (i + 1)) (hch : ∀ n, ch n = true → 1 ≤ n ∧ n ≤ sc_F c ∧ sc_lf c n = 1) (hl : ch l = true) (c8 : sc_col c l < 8) : ∀ (d r : Nat) (a_jumpTo a_jumpDepth : Nat → Int32), r + d = sc_rp c l + 1 → tb_P c ch (fun l' r' => l' < l ∨ (l' = l ∧ r' < r)) a_jumpTo a_jumpDepth → (∀ ajt ajd, tb_P c ch (fun l' _ => l' ≤ l) ajt ajd → post (f_maxFields, f_maxLeaves, f_maxDepth, f_maxCells, f_fields, f_leaves, f_leafMask, f_filling, f_sealed, f_cells, f_cellsKept, f_records, f_level, f_chosen, f_readRecord, f_inRecord, f_readLeaf, f_readNode, f_openDepth, f_keepDepth, f_eventField, f_eventValue, a_labels, a_parent, a_depthOf, a_repOf, a_lastOf, a_columnOf, a_reps, a_defs, a_values, a_entries, a_entriesKept, a_held, a_heldKept, a_pathField, a_pathLast, a_pathRep, a_readPos, a_readValue, ajt, ajd)) → ∀ n, d < n → wX_planJumps_21 post (im_f l) (nI (sc_col c l * 8)) (im_f (wk_nc c ch (l + 1))) f_maxFields f_maxLeaves f_maxDepth f_maxCells f_fields f_leaves f_leafMask f_filling f_sealed f_cells f_cellsKept f_records f_level f_chosen f_readRecord f_inRecord f_readLeaf f_readNode f_openDepth f_keepDepth f_eventField f_eventValue n (nI r) a_labels a_parent a_depthOf a_repOf a_lastOf a_columnOf a_reps a_defs a_values a_entries a_entriesKept a_held a_heldKept a_pathField a_pathLast a_pathRep a_readPos a_readValue a_jumpTo a_jumpDepth := by
  obtain ⟨l1, l2, lf1⟩ := hch l hl
  have h7 : ∀ n, n ≤ sc_F c → sc_rp c n ≤ 7 := fun n hn => by have := tr_rd hT n hn; have := hdp n hn; omega
  have hin : vp_in (im_f l) 16 := im_in l1 (by omega) (by decide)
  have cl : (im_f l).toNatClampNeg = l - 1 := im_cl l1 (by omega)
  have l7 := h7 l l2
  have oF : wk_nc c ch (l + 1) ≤ sc_F c := by
    rcases nc_2 (c := c) (ch := ch) (l + 1) with ⟨q, _⟩ | ⟨q1, q2, q3, q4⟩
    · omega
    · exact q2
  intro d
  induction d with
  | zero =>
    intro r a_jumpTo a_jumpDepth hr hP K n hn
    obtain ⟨m, rfl⟩ : ∃ m, n = m + 1 := ⟨n - 1, by omega⟩
    refine ⟨hin, ?_⟩
    rw [cl, (hA l l1 l2).2.2.2.1]
    exact br_t (nI_lt (by omega) (by omega)) (K _ _ (fun l' r' a b e => hP l' r' a (by
      rcases Nat.lt_or_ge l' l with z | z
      · exact Or.inl z
      · have el : l' = l := by omega
        subst el
        exact Or.inr ⟨rfl, by omega⟩) e))
  | succ d ih =>
    intro r a_jumpTo a_jumpDepth hr hP K n hn
    obtain ⟨m, rfl⟩ : ∃ m, n = m + 1 := ⟨n - 1, by omega⟩
    have exi : nI (sc_col c l * 8) + nI r = nI (sc_col c l * 8 + r) := nI_add _ _
    have hix : vp_in (nI (sc_col c l * 8) + nI r) 64 := by rw [exi]; exact vp_in_nI (by omega) (by decide)
    have cix : (nI (sc_col c l * 8) + nI r).toNatClampNeg = sc_col c l * 8 + r := by rw [exi]; exact nI_clamp (by omega)
    have hP' : ∀ l' r', (l' < l ∨ (l' = l ∧ r' < r + 1)) → (l' < l ∨ (l' = l ∧ r' < r)) ∨ (l' = l ∧ r' = r) := fun l' r' => by omega
    have go : ∀ x y, x = im_f (wk_J c ch l r) → y = nI (wk_JD c ch l r) → wX_planJumps_21 post (im_f l) (nI (sc_col c l * 8)) (im_f (wk_nc c ch (l + 1))) f_maxFields f_maxLeaves f_maxDepth f_maxCells f_fields f_leaves f_leafMask f_filling f_sealed f_cells f_cellsKept f_records f_level f_chosen f_readRecord f_inRecord f_readLeaf f_readNode f_openDepth f_keepDepth f_eventField f_eventValue m (nI (r + 1)) a_labels a_parent a_depthOf a_repOf a_lastOf a_columnOf a_reps a_defs a_values a_entries a_entriesKept a_held a_heldKept a_pathField a_pathLast a_pathRep a_readPos a_readValue (upd a_jumpTo (sc_col c l * 8 + r) x) (upd a_jumpDepth (sc_col c l * 8 + r) y) := by
      intro x y hx hy
      exact ih (r + 1) _ _ (by omega) (tb_put hch h7 hl (by omega) hx hy hP' hP) K m (by omega)
    have bs := ra_2 hT (r := r) (sc_dep c l) l rfl l2
    have k99 : ¬ (wk_ra c r (sc_dep c l) l ≠ 0 ∧ (wk_nc c ch (l + 1) = 0 ∨ sc_lst c (wk_ra c r (sc_dep c l) l) < wk_nc c ch (l + 1))) → wX_planJumps_99 post (wX_planJumps_21 post (im_f l) (nI (sc_col c l * 8)) (im_f (wk_nc c ch (l + 1))) f_maxFields f_maxLeaves f_maxDepth f_maxCells f_fields f_leaves f_leafMask f_filling f_sealed f_cells f_cellsKept f_records f_level f_chosen f_readRecord f_inRecord f_readLeaf f_readNode f_openDepth f_keepDepth f_eventField f_eventValue m) (im_f l) (nI (sc_col c l * 8)) (im_f (wk_nc c ch (l + 1))) (nI r) f_maxFields f_maxLeaves f_maxDepth f_maxCells f_fields f_leaves f_leafMask f_filling f_sealed f_cells f_cellsKept f_records f_level f_chosen f_readRecord f_inRecord f_readLeaf f_readNode f_openDepth f_keepDepth f_eventField f_eventValue a_labels a_parent a_depthOf a_repOf a_lastOf a_columnOf a_reps a_defs a_values a_entries a_entriesKept a_held a_heldKept a_pathField a_pathLast a_pathRep a_readPos a_readValue a_jumpTo a_jumpDepth := by
      intro q
      refine And.intro hix (nm_r (by rw [cix]) ?_)
      refine x_cd hT hF (by omega) hdp hA hE l1 l2 ?_
      refine ⟨hix, nm_r (by rw [cix]) (nm_r (nI_1 _) (go _ _ ?_ ?_))⟩
      · unfold wk_J; rw [if_neg q]
      · unfold wk_JD; rw [if_neg q]
    have k63 : (wk_ra c r (sc_dep c l) l ≠ 0 ∧ (wk_nc c ch (l + 1) = 0 ∨ sc_lst c (wk_ra c r (sc_dep c l) l) < wk_nc c ch (l + 1))) → wX_planJumps_63 post (wX_planJumps_21 post (im_f l) (nI (sc_col c l * 8)) (im_f (wk_nc c ch (l + 1))) f_maxFields f_maxLeaves f_maxDepth f_maxCells f_fields f_leaves f_leafMask f_filling f_sealed f_cells f_cellsKept f_records f_level f_chosen f_readRecord f_inRecord f_readLeaf f_readNode f_openDepth f_keepDepth f_eventField f_eventValue m) (im_f l) (nI (sc_col c l * 8)) (im_f (wk_nc c ch (l + 1))) (nI r) (im_f (wk_ra c r (sc_dep c l) l)) f_maxFields f_maxLeaves f_maxDepth f_maxCells f_fields f_leaves f_leafMask f_filling f_sealed f_cells f_cellsKept f_records f_level f_chosen f_readRecord f_inRecord f_readLeaf f_readNode f_openDepth f_keepDepth f_eventField f_eventValue a_labels a_parent a_depthOf a_repOf a_lastOf a_columnOf a_reps a_defs a_values a_entries a_entriesKept a_held a_heldKept a_pathField a_pathLast a_pathRep a_readPos a_readValue a_jumpTo a_jumpDepth := by
      intro q
      obtain ⟨b1, b2, b3, b4, b5⟩ := bs q.1
      have hinb : vp_in (im_f (wk_ra c r (sc_dep c l) l)) 16 := im_in b1 (by omega) (by decide)
      have dpb := tr_dp hT b1 (by omega)
      have d7 := hdp (wk_ra c r (sc_dep c l) l) (by omega)
      unfold wX_planJumps_63
      refine x_nc hF eF hb b1 (by omega) ?_
      refine ⟨hix, nm_r (by rw [cix]) ⟨hinb, hix, nm_r (by rw [cix]) (nm_r (nI_1 _) (go _ _ ?_ ?_))⟩⟩
      · unfold wk_J; rw [if_pos q]
      · unfold wk_JD; rw [if_pos q, im_cl b1 (by omega), (hA _ b1 (by omega)).2.2.1]
        obtain ⟨w, hw⟩ : ∃ w, sc_dep c (wk_ra c r (sc_dep c l) l) = w + 1 := ⟨_, dpb⟩
        rw [hw, nI_pred]
        rfl
    refine ⟨hin, ?_⟩
    rw [cl, (hA l l1 l2).2.2.2.1]
    refine br_f (nI_nlt (by omega) (by omega)) (x_ra hT hF (by omega) hdp hA l1 l2 ?_)
    by_cases z : wk_ra c r (sc_dep c l) l = 0
    · exact br_t (by rw [z]; rfl) (k99 (fun q => q.1 z))
    · obtain ⟨b1, b2, b3, b4, b5⟩ := bs z
      have hinb : vp_in (im_f (wk_ra c r (sc_dep c l) l)) 16 := im_in b1 (by omega) (by decide)
      have ble := tr_le hT (n := wk_ra c r (sc_dep c l) l) (by omega)
      refine br_f (fun q => by rw [im_m1 (by omega)] at q; exact z q) ?_
      by_cases w : wk_nc c ch (l + 1) = 0
      · exact br_t (by rw [w]; rfl) (k63 ⟨z, Or.inl w⟩)
      · refine br_f (fun q => by rw [im_m1 (by omega)] at q; exact w q) ⟨hinb, ?_⟩
        rw [im_cl b1 (by omega), hE _ b1 (by omega) (by omega)]
        by_cases y : wk_nc c ch (l + 1) ≤ sc_lst c (wk_ra c r (sc_dep c l) l)
        · exact br_t ((im_le (by omega) (by omega)).mpr y) (k99 (fun q => by omega))
        · exact br_f (fun q => y ((im_le (by omega) (by omega)).mp q)) (k63 ⟨z, Or.inr (by omega)⟩)
theorem x_pj {post : SX → Prop} {c : sc_T} {ch : Nat → Bool} {l : Nat} {b_leafBits : Nat → Int32} (hT : sc_tr c) (hF : sc_F c ≤ 16) (hA : rl_A c a_labels a_parent a_depthOf a_repOf a_columnOf b_leafBits) (hE : rl_E c 0 a_lastOf) (hdp : ∀ n, n ≤ sc_F c → sc_dep c n ≤ 7) (eF : f_fields = nI (sc_F c)) (hb : ∀ i, i < 32 → bt f_chosen i = ch (i + 1)) (hch : ∀ n, ch n = true → 1 ≤ n ∧ n ≤ sc_F c ∧ sc_lf c n = 1) (hl : ch l = true) (c8 : sc_col c l < 8) (hP : tb_P c ch (fun l' _ => l' < l) a_jumpTo a_jumpDepth) (K : ∀ ajt ajd, tb_P c ch (fun l' _ => l' ≤ l) ajt ajd → post (f_maxFields, f_maxLeaves, f_maxDepth, f_maxCells, f_fields, f_leaves, f_leafMask, f_filling, f_sealed, f_cells, f_cellsKept, f_records, f_level, f_chosen, f_readRecord, f_inRecord, f_readLeaf, f_readNode, f_openDepth, f_keepDepth, f_eventField, f_eventValue, a_labels, a_parent, a_depthOf, a_repOf, a_lastOf, a_columnOf, a_reps, a_defs, a_values, a_entries, a_entriesKept, a_held, a_heldKept, a_pathField, a_pathLast, a_pathRep, a_readPos, a_readValue, ajt, ajd)) : wpX_planJumps post (f_maxFields, f_maxLeaves, f_maxDepth, f_maxCells, f_fields, f_leaves, f_leafMask, f_filling, f_sealed, f_cells, f_cellsKept, f_records, f_level, f_chosen, f_readRecord, f_inRecord, f_readLeaf, f_readNode, f_openDepth, f_keepDepth, f_eventField, f_eventValue, a_labels, a_parent, a_depthOf, a_repOf, a_lastOf, a_columnOf, a_reps, a_defs, a_values, a_entries, a_entriesKept, a_held, a_heldKept, a_pathField, a_pathLast, a_pathRep, a_readPos, a_readValue, a_jumpTo, a_jumpDepth) (im_f l) := by
  obtain ⟨l1, l2, lf1⟩ := hch l hl
  have hin : vp_in (im_f l) 16 := im_in l1 (by omega) (by decide)
  have cl : (im_f l).toNatClampNeg = l - 1 := im_cl l1 (by omega)
  unfold wpX_planJumps
  refine ⟨hin, nm_r (e' := nI (sc_col c l * 8)) (by rw [cl, (hA l l1 l2).2.2.2.2.1, if_pos lf1, show (8 : Int32) = nI 8 from rfl, pk_mul]) ?_⟩
  rw [im_a1]
  refine x_nc (n := l + 1) hF eF hb (by omega) (by omega) ⟨sc_rp c l + 2, ?_⟩
  exact x_p21 hT hF hA hE hdp eF hb hch hl c8 (sc_rp c l + 1) 0 _ _ (by omega) (fun l' r' a b e => hP l' r' a (by omega) e) K _ (by omega)
def nm_c (ch : Nat → Bool) : Nat → Nat
  | 0 => 0
  | n + 1 => nm_c ch n + (if ch (n + 1) = true then 1 else 0)
theorem nm_le (ch : Nat → Bool) : ∀ n, nm_c ch n ≤ n
  | 0 => Nat.le_refl _
  | n + 1 => by
    have := nm_le ch n
    show nm_c ch n + _ ≤ _
    split <;> omega
theorem x_a51 {post : Int32 → SX → Prop} {c : sc_T} {ch : Nat → Bool} {k : Nat} {H1 B1 : List wk_I} {b_leafBits : Nat → Int32} (hT : sc_tr c) (hF : sc_F c ≤ 16) (hA : rl_A c a_labels a_parent a_depthOf a_repOf a_columnOf b_leafBits) (hE : rl_E c 0 a_lastOf) (hdp : ∀ n, n ≤ sc_F c → sc_dep c n ≤ 7) (eF : f_fields = nI (sc_F c)) (hb : ∀ i, i < 32 → bt f_chosen i = ch (i + 1)) (hch : ∀ n, ch n = true → 1 ≤ n ∧ n ≤ sc_F c ∧ sc_lf c n = 1) (hc8 : lv_c (sc_lf c) (sc_F c) ≤ 8) (hV : wk_V c (wk_rv B1 H1)) (hf1 : wk_fin c H1 = []) (hff : wk_fin c (wk_rv B1 H1) = []) (hre : wk_re H1 = k) (hC : wr_C c a_reps a_defs a_values (wk_rv B1 H1)) (ek : ∀ l, 1 ≤ l → l ≤ sc_F c → sc_lf c l = 1 → a_entriesKept (sc_col c l) = nI (wk_en l (wk_rv B1 H1)) ∧ wk_en l (wk_rv B1 H1) ≤ 32) : ∀ (d j : Nat) (a_readPos a_readValue a_jumpTo a_jumpDepth : Nat → Int32), j + d = sc_F c → tb_P c ch (fun l' _ => l' ≤ j) a_jumpTo a_jumpDepth → (∀ l, ch l = true → l ≤ j → a_readPos (sc_col c l) = nI (wk_en l H1) ∧ a_readValue (sc_col c l) = nI (wk_hn l H1)) → (∀ arp arv ajt ajd, rl_T c ch ajt ajd → rl_P c ch H1 arp arv → post (nI (nm_c ch (sc_F c))) (f_maxFields, f_maxLeaves, f_maxDepth, f_maxCells, f_fields, f_leaves, f_leafMask, f_filling, f_sealed, f_cells, f_cellsKept, f_records, f_level, f_chosen, f_readRecord, f_inRecord, f_readLeaf, f_readNode, f_openDepth, f_keepDepth, f_eventField, f_eventValue, a_labels, a_parent, a_depthOf, a_repOf, a_lastOf, a_columnOf, a_reps, a_defs, a_values, a_entries, a_entriesKept, a_held, a_heldKept, a_pathField, a_pathLast, a_pathRep, arp, arv, ajt, ajd)) → ∀ n, d < n → wX_assemble_51 post (nI k) f_chosen n (nI (nm_c ch j)) (nI j) f_maxFields f_maxLeaves f_maxDepth f_maxCells f_fields f_leaves f_leafMask f_filling f_sealed f_cells f_cellsKept f_records f_level f_chosen f_readRecord f_inRecord f_readLeaf f_readNode f_openDepth f_keepDepth f_eventField f_eventValue a_labels a_parent a_depthOf a_repOf a_lastOf a_columnOf a_reps a_defs a_values a_entries a_entriesKept a_held a_heldKept a_pathField a_pathLast a_pathRep a_readPos a_readValue a_jumpTo a_jumpDepth := by
  intro d
  induction d with
  | zero =>
    intro j a_readPos a_readValue a_jumpTo a_jumpDepth hj hP hQ K n hn
    obtain ⟨m, rfl⟩ : ∃ m, n = m + 1 := ⟨n - 1, by omega⟩
    have e : j = sc_F c := by omega
    subst e
    exact br_t (by rw [eF]; exact nI_le (Nat.le_refl _) (by omega)) (K _ _ _ _ (fun l r a b => hP l r a (hch l a).2.1 b) (fun l a => hQ l a (hch l a).2.1))
  | succ d ih =>
    intro j a_readPos a_readValue a_jumpTo a_jumpDepth hj hP hQ K n hn
    obtain ⟨m, rfl⟩ : ∃ m, n = m + 1 := ⟨n - 1, by omega⟩
    have t := b_tsx f_chosen (j := j) (by omega)
    rw [hb j (by omega)] at t
    refine br_f (by rw [eF]; exact nI_ge (by omega) (by omega)) ?_
    have nme : nm_c ch (j + 1) = nm_c ch j + (if ch (j + 1) = true then 1 else 0) := rfl
    by_cases z : ch (j + 1) = true
    · rw [if_pos z] at nme
      obtain ⟨l1, l2, l3⟩ := hch (j + 1) z
      have c8 := col_lt l1 l2 l3
      refine br_t (t.mpr z) ?_
      refine x_lo (l := j + 1) hT hF hA hdp l1 l2 l3 (by omega) hV hf1 hff hre hC (ek (j + 1) l1 l2 l3).1 (ek (j + 1) l1 l2 l3).2 ?_
      refine x_pj (l := j + 1) hT hF hA hE hdp eF hb hch z (by omega) (fun l' r' a b e => hP l' r' a (by omega) e) (fun ajt ajd hP' => ?_)
      refine nm_r (nI_1 _) (nm_r (nI_1 _) ?_)
      have := ih (j + 1) (upd a_readPos (sc_col c (j + 1)) (nI (wk_en (j + 1) H1))) (upd a_readValue (sc_col c (j + 1)) (nI (wk_hn (j + 1) H1))) ajt ajd (by omega) hP' (fun l a b => by
        obtain ⟨q1, q2, q3⟩ := hch l a
        by_cases w : l = j + 1
        · subst w
          exact ⟨pk_us, pk_us⟩
        · have ne : sc_col c l ≠ sc_col c (j + 1) := fun y => w (col_inj q1 l1 q3 l3 y)
          rw [pk_un ne, pk_un ne]
          exact hQ l a (by omega)) K m (by omega)
      rw [nme] at this
      exact this
    · rw [if_neg z] at nme
      refine br_f (fun q => z (t.mp q)) (nm_r (nI_1 _) ?_)
      have sub : ∀ l, ch l = true → l ≤ j + 1 → l ≤ j := fun l a b => by
        rcases Nat.lt_or_ge j l with w | w
        · have e : l = j + 1 := by omega
          rw [e] at a
          exact absurd a z
        · exact w
      have := ih (j + 1) a_readPos a_readValue a_jumpTo a_jumpDepth (by omega) (fun l r a b e => hP l r a (sub l a b) e) (fun l a b => hQ l a (sub l a b)) K m (by omega)
      rw [nme] at this
      exact this
end
end
section
theorem ps_le (k : Nat) : ∀ R, wk_ps k R ≤ wk_ev R
  | [] => Nat.le_refl _
  | i :: R => by
    have a := ps_le k R
    have e := ev_cons i R
    show (if _ then _ else _) ≤ _
    by_cases z : (i.1 = 3 ∧ i.2.1 = 0) ∧ wk_re R + 1 = k
    · rw [if_pos z, ev_nz R (by rw [z.1.1]; decide)]
      exact Nat.le_refl _
    · rw [if_neg z]
      omega
theorem re_ev : ∀ R, wk_re R ≤ wk_ev R
  | [] => Nat.le_refl _
  | i :: R => by
    have a := re_ev R
    rw [re_cons, ev_cons]
    by_cases z : i.1 = 3 ∧ i.2.1 = 0
    · rw [if_pos z, if_neg (by omega)]
      omega
    · rw [if_neg z]
      omega
section
variable {g_maxFields g_maxLeaves g_maxDepth g_maxCells g_fields g_filling g_schemaDone g_size g_reading g_chosen g_pos g_eventField g_eventValue : Int32} {b_parents b_labels b_leafBits b_kinds b_logFields b_logValues : Nat → Int32}
theorem y_a122 {post : Int32 → SY → Prop} {k : Nat} {x4 : Int32} (hk : k < 1000) : ∀ (B H : List wk_I), wr_L b_kinds b_logFields b_logValues (wk_rv B H) → (∀ i ∈ B, i.1 ≤ 3) → wk_ev (wk_rv B H) ≤ 64 → g_size = nI (wk_ev (wk_rv B H)) → post x4 (g_maxFields, g_maxLeaves, g_maxDepth, g_maxCells, g_fields, g_filling, g_schemaDone, g_size, g_reading, g_chosen, nI (wk_ps k (wk_rv B H)), g_eventField, g_eventValue, b_parents, b_labels, b_leafBits, b_kinds, b_logFields, b_logValues) → ∀ n, B.length < n → wY_assemble_122 post (nI k) x4 g_maxFields g_maxLeaves g_maxDepth g_maxCells g_fields g_filling g_schemaDone g_size g_reading g_chosen g_eventField g_eventValue b_parents b_labels b_leafBits b_kinds b_logFields b_logValues n (nI (wk_re H)) (nI (wk_ev H)) (nI (wk_ps k H)) := by
  intro B
  induction B with
  | nil =>
    intro H hL ht he hs hp n hn
    obtain ⟨m, rfl⟩ : ∃ m, n = m + 1 := ⟨n - 1, by omega⟩
    have he' : wk_ev H ≤ 64 := he
    exact br_t (by rw [hs]; exact nI_le (Nat.le_refl _) (by omega)) hp
  | cons i B ih =>
    intro H hL ht he hs hp n hn
    simp only [List.length_cons] at hn
    have he' : wk_ev (wk_rv B (i :: H)) ≤ 64 := he
    have hI := ih (i :: H) hL (fun j hj => ht j (List.mem_cons_of_mem _ hj)) he hs hp
    have ps : wk_ps k (i :: H) = if (i.1 = 3 ∧ i.2.1 = 0) ∧ wk_re H + 1 = k then wk_ev H + 1 else wk_ps k H := rfl
    have rc := re_cons i H
    by_cases z : i.1 = 0
    · rw [ev_z H z, rc, ps, if_neg (by omega), if_neg (by omega)] at hI
      exact hI n (by omega)
    · obtain ⟨m, rfl⟩ : ∃ m, n = m + 1 := ⟨n - 1, by omega⟩
      have hd := L_hd hL z
      have lt : wk_ev H < wk_ev (wk_rv (i :: B) H) := by
        have := ev_le B (i :: H)
        rw [ev_nz H z] at this
        exact this
      have hin : vp_in (nI (wk_ev H)) 64 := vp_in_nI (by omega) (by omega)
      have hm := hI m (by omega)
      have e : b_kinds (nI (wk_ev H)).toNatClampNeg = wr_kc i := by rw [nI_clamp (by omega)]; exact hd.1
      have rb := re_ev H
      refine br_f (by rw [hs]; exact nI_ge lt (by omega)) ⟨hin, ?_⟩
      rw [e]
      rw [ev_nz H z, rc, ps] at hm
      by_cases w : i.1 = 3 ∧ i.2.1 = 0
      · rw [if_pos w] at hm
        refine br_t ?_ (nm_r (nI_1 _) ?_)
        · obtain ⟨t, n0, v, q, d⟩ := i
          obtain ⟨w1, w2⟩ := w
          have w1' : t = 3 := w1
          have w2' : n0 = 0 := w2
          subst w1' w2'
          rfl
        · by_cases y : wk_re H + 1 = k
          · rw [if_pos ⟨w, y⟩] at hm
            exact br_t (by rw [y]) (nm_r (nI_1 _) (nm_r (nI_1 _) hm))
          · rw [if_neg (fun q => y q.2)] at hm
            exact br_f (fun q => y ((nI_eq (by omega) (by omega)).mp q)) (nm_r (nI_1 _) hm)
      · rw [if_neg w, if_neg (fun q => w q.1)] at hm
        refine br_f (fun y => ?_) (nm_r (nI_1 _) hm)
        obtain ⟨t, n0, v, q, d⟩ := i
        have t3 : t ≤ 3 := ht _ List.mem_cons_self
        match t, t3, z, w, y with
        | 0, _, z, _, _ => exact z rfl
        | 1, _, _, _, y =>
          have y' : (if n0 = 0 then (1 : Int32) else 2) = 5 := y
          split at y' <;> exact absurd y' (by decide)
        | 2, _, _, _, y => exact absurd y (show ¬ (3 : Int32) = 5 by decide)
        | 3, _, _, w, y =>
          have y' : (if n0 = 0 then (5 : Int32) else 4) = 5 := y
          by_cases w2 : n0 = 0
          · exact w ⟨rfl, w2⟩
          · rw [if_neg w2] at y'
            exact absurd y' (by decide)
theorem y_a18 {post : Int32 → SY → Prop} {c : sc_T} {ch : Nat → Bool} {R : List wk_I} {x1 x2 picked : Int32} (hF : sc_F c ≤ 16) (eF : g_fields = nI (sc_F c)) (hb : ∀ n, 1 ≤ n → n ≤ sc_F c → b_leafBits (n - 1) = nI (sc_lf c n)) (hlf : ∀ n, 1 ≤ n → n ≤ sc_F c → sc_lf c n ≤ 1) (hc : ∀ n, 1 ≤ n → n ≤ sc_F c → ch n = (decide (sc_lf c n = 1) && bt x1 (n - 1))) (hch : ∀ n, ch n = true → n ≤ sc_F c) (hpk : ∀ i, i < 32 → bt picked i = ch (i + 1)) (hV : wk_V c R) (hL : wr_L b_kinds b_logFields b_logValues R) (he : wk_ev R ≤ 64) (hs : g_size = nI (wk_ev R))
    (h14 : nm_c ch (sc_F c) = 0 → post (-14) (g_maxFields, g_maxLeaves, g_maxDepth, g_maxCells, g_fields, g_filling, g_schemaDone, g_size, g_reading, g_chosen, g_pos, g_eventField, g_eventValue, b_parents, b_labels, b_leafBits, b_kinds, b_logFields, b_logValues)) (h15 : nm_c ch (sc_F c) ≠ 0 → (x2 < 0 ∨ ¬ x2 ≤ nI (wk_re R)) → post (-15) (g_maxFields, g_maxLeaves, g_maxDepth, g_maxCells, g_fields, g_filling, g_schemaDone, g_size, g_reading, g_chosen, g_pos, g_eventField, g_eventValue, b_parents, b_labels, b_leafBits, b_kinds, b_logFields, b_logValues)) (hgo : nm_c ch (sc_F c) ≠ 0 → ∀ k, x2 = nI k → k ≤ wk_re R → post (nI (nm_c ch (sc_F c))) (g_maxFields, g_maxLeaves, g_maxDepth, g_maxCells, g_fields, g_filling, g_schemaDone, g_size, 1, picked, nI (wk_ps k R), -1, 0, b_parents, b_labels, b_leafBits, b_kinds, b_logFields, b_logValues)) : ∀ (d j : Nat) (bits : Int32), j + d = sc_F c → (∀ i, i < 32 → bt bits i = (decide (i < j) && ch (i + 1))) → ∀ n, d < n → wY_assemble_18 post x1 x2 g_maxFields g_maxLeaves g_maxDepth g_maxCells g_fields g_filling g_schemaDone g_size g_reading g_chosen g_pos g_eventField g_eventValue b_parents b_labels b_leafBits b_kinds b_logFields b_logValues n bits (nI (nm_c ch j)) (nI j) := by
  intro d
  induction d with
  | zero =>
    intro j bits hj hbit n hn
    obtain ⟨m, rfl⟩ : ∃ m, n = m + 1 := ⟨n - 1, by omega⟩
    have e : j = sc_F c := by omega
    subst e
    have nl := nm_le ch (sc_F c)
    have eb : bits = picked := b_ext (fun i hi => by
      rw [hbit i hi, hpk i hi]
      by_cases w : i < sc_F c
      · simp [w]
      · have : ch (i + 1) = false := by
          rcases Bool.eq_false_or_eq_true (ch (i + 1)) with q | q
          · have := hch _ q; omega
          · exact q
        simp [this])
    subst eb
    refine br_t (by rw [eF]; exact nI_le (Nat.le_refl _) (by omega)) ?_
    by_cases z : nm_c ch (sc_F c) = 0
    · exact br_t (by rw [z]; rfl) (h14 z)
    · refine br_f (nI_ne0 (by omega) (by omega)) ?_
      by_cases w : x2 < 0
      · exact br_t w (h15 z (Or.inl w))
      · refine br_f w ?_
        have rb := re_ev R
        rw [hs]
        refine yk_K hL he ?_
        rw [ck_5 R (V_tag R hV)]
        by_cases y : x2 ≤ nI (wk_re R)
        · obtain ⟨k, hk, rfl⟩ := nI_of w
          rw [nI_leI hk (by omega)] at y
          refine br_t (nI_le y (by omega)) ⟨R.reverse.length + 1, ?_⟩
          have g := hgo z k rfl y
          have a := V_tag R hV
          rw [← rv_all R] at g
          have := y_a122 (post := post) (k := k) (x4 := nI (nm_c ch (sc_F c))) (g_maxFields := g_maxFields) (g_maxLeaves := g_maxLeaves) (g_maxDepth := g_maxDepth) (g_maxCells := g_maxCells) (g_fields := g_fields) (g_filling := g_filling) (g_schemaDone := g_schemaDone) (g_size := g_size) (g_reading := 1) (g_chosen := bits) (g_eventField := -1) (g_eventValue := 0) (b_parents := b_parents) (b_labels := b_labels) (b_leafBits := b_leafBits) (by omega) R.reverse [] (by rw [rv_all]; exact hL) (fun i hi => a i (List.mem_reverse.mp hi)) (by rw [rv_all]; exact he) (by rw [rv_all]; exact hs) g _ (Nat.lt_succ_self _)
          rw [hs] at this
          exact this
        · refine br_f y ?_
          rw [← hs]
          exact h15 z (Or.inr y)
  | succ d ih =>
    intro j bits hj hbit n hn
    obtain ⟨m, rfl⟩ : ∃ m, n = m + 1 := ⟨n - 1, by omega⟩
    have a := hb (j + 1) (by omega) (by omega)
    rw [Nat.add_sub_cancel] at a
    have l1 := hlf (j + 1) (by omega) (by omega)
    have cj := hc (j + 1) (by omega) (by omega)
    rw [Nat.add_sub_cancel] at cj
    have t := b_tst x1 (j := j) (by omega)
    have nme : nm_c ch (j + 1) = nm_c ch j + (if ch (j + 1) = true then 1 else 0) := rfl
    have skip : ch (j + 1) = false → wY_assemble_18 post x1 x2 g_maxFields g_maxLeaves g_maxDepth g_maxCells g_fields g_filling g_schemaDone g_size g_reading g_chosen g_pos g_eventField g_eventValue b_parents b_labels b_leafBits b_kinds b_logFields b_logValues m bits (nI (nm_c ch j)) (nI (j + 1)) := by
      intro w
      rw [if_neg (by rw [w]; exact Bool.false_ne_true)] at nme
      have := ih (j + 1) bits (by omega) (fun i hi => by
        rw [hbit i hi]
        by_cases q : i = j
        · subst q
          rw [w]
          simp
        · have e : decide (i < j) = decide (i < j + 1) := decide_eq_decide.mpr (by omega)
          rw [e]) m (by omega)
      rw [nme] at this
      exact this
    refine br_f (by rw [eF]; exact nI_ge (by omega) (by omega)) ⟨vp_in_nI (by omega) (by decide), ?_⟩
    rw [nI_clamp (by omega), a]
    by_cases z : sc_lf c (j + 1) = 1
    · refine br_t (by rw [z]; rfl) ?_
      rw [decide_eq_true z, Bool.true_and] at cj
      by_cases w : bt x1 j = false
      · refine br_t (t.mpr w) (nm_r (nI_1 _) (skip (by rw [cj]; exact w)))
      · have w' : ch (j + 1) = true := by
          rcases Bool.eq_false_or_eq_true (ch (j + 1)) with q | q
          · exact q
          · rw [cj] at q; exact absurd q w
        rw [if_pos w'] at nme
        refine br_f (fun q => w (t.mp q)) (nm_e (nm_r (nI_1 _) (nm_r (nI_1 _) ?_)))
        have := ih (j + 1) (bits ||| ((1 : Int32) <<< (nI j &&& 31))) (by omega) (fun i hi => by
          rw [b_or, hbit i hi, b_shl j (by omega) 1 hi, b_1 _ (by omega), ← Bool.decide_and]
          by_cases q : i = j
          · subst q
            rw [w']
            simp
          · have e : decide (i < j) = decide (i < j + 1) := decide_eq_decide.mpr (by omega)
            have e2 : decide (j ≤ i ∧ i - j = 0) = false := decide_eq_false (by omega)
            rw [e, e2, Bool.or_false]) m (by omega)
        rw [nme] at this
        exact this
    · refine br_f (fun q => z ((nI_eq (b := 1) (by omega) (by decide)).mp q)) (nm_r (nI_1 _) (skip ?_))
      rw [cj, decide_eq_false z]
      rfl
end
theorem nm_pos {ch : Nat → Bool} {n : Nat} (hn : ch n = true) (h1 : 1 ≤ n) : ∀ j, n ≤ j → nm_c ch j ≠ 0
  | 0, h => by omega
  | j + 1, h => by
    show nm_c ch j + _ ≠ 0
    rcases Nat.lt_or_ge j n with z | z
    · have e : n = j + 1 := by omega
      rw [← e, if_pos hn]
      omega
    · have := nm_pos hn h1 j z
      omega
theorem nm_zero {ch : Nat → Bool} (h : ∀ n, ch n = false) : ∀ j, nm_c ch j = 0
  | 0 => rfl
  | j + 1 => by
    show nm_c ch j + _ = 0
    rw [nm_zero h j, if_neg (by rw [h]; exact Bool.false_ne_true)]
theorem i_vc_assemble {k : Nat} {u : SX} {v : SY} (I : i_Rel k u v) (hk : k + 3 ≤ 1540) (v1 : Int32) (v2 : Int32) : wpX_assemble (fun r u' => wpY_assemble (fun r' v' => r' = r ∧ i_Rel (k + 3) u' v') v v1 v2) u v1 v2 := by
  refine zz_el (P := fun u v => wpX_assemble (fun r u' => wpY_assemble (fun r' v' => r' = r ∧ i_Rel (k + 3) u' v') v v1 v2) u v1 v2) ?_ I
  intro f_maxFields f_maxLeaves f_maxDepth f_maxCells f_fields f_leaves f_leafMask f_filling f_sealed f_cells f_cellsKept f_records f_level f_chosen f_readRecord f_inRecord f_readLeaf f_readNode f_openDepth f_keepDepth f_eventField f_eventValue a_labels a_parent a_depthOf a_repOf a_lastOf a_columnOf a_reps a_defs a_values a_entries a_entriesKept a_held a_heldKept a_pathField a_pathLast a_pathRep a_readPos a_readValue a_jumpTo a_jumpDepth g_size g_reading g_pos b_leafBits b_kinds b_logFields b_logValues c fill mF mL mD mC sd R R0 ch hS hW hR
  have hS' := hS
  have hW' := hW
  obtain ⟨⟨hT, hFl⟩, ⟨rfl, rfl, rfl, rfl, m1, m2, m3, m4⟩, ⟨rfl, F1, rfl, F2, rfl, rfl, s1, s2⟩, hM, hA, hE, hD⟩ := hS
  rcases Nat.eq_zero_or_pos sd with hs | hs
  · subst hs
    exact br_t rfl (br_t rfl ⟨rfl, zz_in hS' hW' hR⟩)
  · have es : sd = 1 := by omega
    have hs1 : ¬ nI sd = 0 := by rw [es]; decide
    have f0 : fill = 0 := s2 es
    subst f0
    obtain ⟨⟨w1, ⟨R1, w2⟩, w3, w4, w5, w6, w7, w8⟩, ⟨rfl, n2, rfl, rfl, el, rfl⟩, hC, hL, hP, hN, hH, hZ⟩ := hW
    have c1 := ct_1 R w1
    have hdp : ∀ n, n ≤ sc_F c → sc_dep c n ≤ 7 := by
      intro n hn
      rcases Nat.eq_zero_or_pos n with e | e
      · rw [e, tr_d0 hT]; omega
      · have := tr_dp hT e hn
        have p := tr_par hT e hn
        have := hD (sc_par c n) (by omega) (tr_plf hT e hn)
        omega
    obtain ⟨ch2, hch2⟩ : ∃ ch2 : Nat → Bool, ∀ n, ch2 n = (decide (1 ≤ n ∧ n ≤ sc_F c ∧ sc_lf c n = 1) && bt v1 (n - 1)) := ⟨_, fun _ => rfl⟩
    have hcl : ∀ n, ch2 n = true → 1 ≤ n ∧ n ≤ sc_F c ∧ sc_lf c n = 1 := by
      intro n hn
      rw [hch2, Bool.and_eq_true, decide_eq_true_eq] at hn
      exact hn.1
    have hpk : ∀ i, i < 32 → bt (v1 &&& f_leafMask) i = ch2 (i + 1) := by
      intro i hi
      rw [b_and, hM i hi, hch2, Bool.and_comm, Nat.add_sub_cancel]
      congr 1
      exact decide_eq_decide.mpr ⟨fun q => ⟨by omega, by omega, q.2⟩, fun q => ⟨by omega, q.2.2⟩⟩
    have hbl : ∀ n, 1 ≤ n → n ≤ sc_F c → b_leafBits (n - 1) = nI (sc_lf c n) := fun n a b => (hA n a b).2.2.2.2.2
    have hY : ∀ {post : Int32 → SY → Prop}, (nm_c ch2 (sc_F c) = 0 → post (-14) (nI mF, nI mL, nI mD, nI mC, nI (sc_F c), im_f 0, nI sd, nI (wk_ev R), g_reading, f_chosen, g_pos, f_eventField, f_eventValue, a_parent, a_labels, b_leafBits, b_kinds, b_logFields, b_logValues)) → (nm_c ch2 (sc_F c) ≠ 0 → (v2 < 0 ∨ ¬ v2 ≤ nI (wk_re R)) → post (-15) (nI mF, nI mL, nI mD, nI mC, nI (sc_F c), im_f 0, nI sd, nI (wk_ev R), g_reading, f_chosen, g_pos, f_eventField, f_eventValue, a_parent, a_labels, b_leafBits, b_kinds, b_logFields, b_logValues)) → (nm_c ch2 (sc_F c) ≠ 0 → ∀ k, v2 = nI k → k ≤ wk_re R → post (nI (nm_c ch2 (sc_F c))) (nI mF, nI mL, nI mD, nI mC, nI (sc_F c), im_f 0, nI sd, nI (wk_ev R), 1, v1 &&& f_leafMask, nI (wk_ps k R), -1, 0, a_parent, a_labels, b_leafBits, b_kinds, b_logFields, b_logValues)) → wpY_assemble post (nI mF, nI mL, nI mD, nI mC, nI (sc_F c), im_f 0, nI sd, nI (wk_ev R), g_reading, f_chosen, g_pos, f_eventField, f_eventValue, a_parent, a_labels, b_leafBits, b_kinds, b_logFields, b_logValues) v1 v2 := by
      intro post h14 h15 hgo
      refine br_f hs1 ⟨sc_F c + 1, ?_⟩
      exact y_a18 (c := c) (ch := ch2) (R := R) (picked := v1 &&& f_leafMask) (by omega) rfl hbl (fun n a b => tr_lf hT a b) (fun n a b => by
        rw [hch2]
        congr 1
        exact decide_eq_decide.mpr ⟨fun q => q.2.2, fun q => ⟨a, b, q⟩⟩) (fun n q => (hcl n q).2.1) hpk w1 hL (by omega) rfl h14 h15 hgo (sc_F c) 0 0 (by omega) (fun i hi => by rw [b_0]; simp) _ (by omega)
    have pz : (v1 &&& f_leafMask) = 0 ↔ nm_c ch2 (sc_F c) = 0 := by
      constructor
      · intro q
        apply nm_zero
        intro n
        rcases Bool.eq_false_or_eq_true (ch2 n) with y | y
        · obtain ⟨a, b, d⟩ := hcl n y
          have := hpk (n - 1) (by omega)
          rw [q, b_0, show n - 1 + 1 = n by omega, y] at this
          exact absurd this Bool.false_ne_true
        · exact y
      · intro q
        refine b_ext (fun i hi => ?_)
        rw [hpk i hi, b_0]
        rcases Bool.eq_false_or_eq_true (ch2 (i + 1)) with y | y
        · obtain ⟨a, b, d⟩ := hcl _ y
          exact absurd q (nm_pos y a _ b)
        · exact y
    refine br_f hs1 (nm_e ?_)
    by_cases z : (v1 &&& f_leafMask) = 0
    · have z' := pz.mp z
      exact br_t z (hY (fun _ => ⟨rfl, zz_in hS' hW' hR⟩) (fun q => absurd z' q) (fun q => absurd z' q))
    · have z' : nm_c ch2 (sc_F c) ≠ 0 := fun q => z (pz.mpr q)
      refine br_f z ?_
      by_cases y : v2 < 0
      · exact br_t y (hY (fun q => absurd q z') (fun _ _ => ⟨rfl, zz_in hS' hW' hR⟩) (fun _ k e _ => by
          rw [e] at y
          exact absurd y (by
            rcases Nat.lt_or_ge k (2 ^ 31) with w | w
            · exact nI_pos w
            · have := re_ev R; omega)))
      · refine br_f y ?_
        have rb := re_ev R
        by_cases x : v2 ≤ nI (wk_re R0)
        · refine br_t x ?_
          obtain ⟨j, hj, rfl⟩ := nI_of y
          rw [nI_leI hj (by omega)] at x
          have V0 : wk_V c R0 := V_app R1 R0 (w2 ▸ w1)
          obtain ⟨B, H, b1, b2, b3, b4⟩ := ps_H hT R0 V0 x
          have pse : wk_ps j R = wk_ps j R0 := by rw [w2]; exact ps_app _ _ (by rw [← w2]; exact w6)
          unfold wpX_resetReader
          refine ⟨sc_F c + 1, ?_⟩
          have C0 : wr_C c a_reps a_defs a_values R0 := C_app R1 R0 (w2 ▸ hC)
          have ce0 : wk_ce R0 ≤ 32 := by
            have : wk_ce R = wk_ce R1 + wk_ce R0 := by rw [w2]; exact ct_app _ _ _
            omega
          refine x_a51 (c := c) (ch := ch2) (k := j) (H1 := H) (B1 := B) hT (by omega) hA hE hdp rfl hpk hcl (by omega) (by rw [b1]; exact V0) b4 (by rw [b1]; exact w3) b2 (by rw [b1]; exact C0) (fun l l1 l2 l3 => by
            rw [b1]
            exact ⟨(hN l l1 l2 l3).2, en_32 hT l3 V0 ce0⟩) (sc_F c) 0 _ _ _ _ (by omega) (fun l r a b _ => by have := (hcl l a).1; omega) (fun l a b => by have := (hcl l a).1; omega) ?_ _ (by omega)
          intro arp arv ajt ajd hT' hP'
          refine hY (fun q => absurd q z') (fun _ q => ?_) (fun _ k' e he => ⟨rfl, ?_⟩)
          · rcases q with q | q
            · exact absurd q y
            · rw [w6] at q
              exact absurd (nI_le x (by omega)) q
          · have ej : j = k' := (nI_eq hj (by omega)).mp e
            subst ej
            refine zz_in (ch := ch2) hS' hW' ⟨hcl, hpk, fun q => by omega, Or.inr ⟨z, rfl, H, B, b1, ?_, ?_, hT', hP', Or.inl ⟨b4, rfl⟩⟩⟩
            · rw [pse, b3]
            · rw [b2]
        · refine br_f x (hY (fun q => absurd q z') (fun _ _ => ⟨rfl, zz_in hS' hW' hR⟩) (fun _ k' e he => ?_))
          rw [e, nI_leI (by omega) (by omega)] at x
          omega
end
section
section
variable {g_maxFields g_maxLeaves g_maxDepth g_maxCells g_fields g_filling g_schemaDone g_size g_reading g_chosen g_pos g_eventField g_eventValue : Int32} {b_parents b_labels b_leafBits b_kinds b_logFields b_logValues : Nat → Int32}
theorem y_k30 {post : Int32 → Prop} {J2 : Int32 → Prop} {x2 : Int32} {c : sc_T} {n : Nat} (hT : sc_tr c) (hF : sc_F c ≤ 16) (hb : ∀ n, 1 ≤ n → n ≤ sc_F c → b_parents (n - 1) = im_f (sc_par c n)) (n1 : 1 ≤ n) (n2 : n ≤ sc_F c) : ∀ d p, sc_dep c p = d → p ≤ sc_F c → ∀ st, st + d ≤ 15 → ((n ≤ p ∧ p ≤ sc_lst c n) → post 1) → (¬ (n ≤ p ∧ p ≤ sc_lst c n) → J2 (x2 + 1)) → ∀ m, d < m → wY_kept_30 post J2 (im_f n) x2 g_maxFields g_maxLeaves g_maxDepth g_maxCells g_fields g_filling g_schemaDone g_size g_reading g_chosen g_pos g_eventField g_eventValue b_parents b_labels b_leafBits b_kinds b_logFields b_logValues m (im_f p) (nI st) := by
  intro d
  induction d with
  | zero =>
    intro p hp hpF st hst h1 h0 m hm
    obtain ⟨m, rfl⟩ : ∃ q, m = q + 1 := ⟨m - 1, by omega⟩
    have e : p = 0 := by
      rcases Nat.eq_zero_or_pos p with z | z
      · exact z
      · have := tr_dp hT z hpF
        omega
    subst e
    exact br_f (nI_ge (b := 16) (by omega) (by decide)) (br_t (by decide) (nm_e (h0 (by omega))))
  | succ d ih =>
    intro p hp hpF st hst h1 h0 m hm
    obtain ⟨m, rfl⟩ : ∃ q, m = q + 1 := ⟨m - 1, by omega⟩
    have z : 1 ≤ p := by
      rcases Nat.eq_zero_or_pos p with z | z
      · rw [z, tr_d0 hT] at hp
        omega
      · exact z
    have dp := tr_dp hT z hpF
    have pp := tr_par hT z hpF
    have gl := tr_ge hT n2
    refine br_f (nI_ge (b := 16) (by omega) (by decide)) (br_f (fun q => by rw [im_lt0 (by omega)] at q; omega) (br_f ?_ ?_))
    · rw [im_p z]
      exact nI_ge (b := 16) (by omega) (by decide)
    · by_cases w : p = n
      · exact br_t (by rw [w]) (h1 (by omega))
      · refine br_f (fun q => w ((im_eq (by omega) (by omega)).mp q)) ⟨im_in z (by omega) (by decide), nm_r (e' := im_f (sc_par c p)) (by rw [im_cl z (by omega)]; exact hb p z hpF) (nm_r (nI_1 _) ?_)⟩
        have iff : (n ≤ sc_par c p ∧ sc_par c p ≤ sc_lst c n) ↔ (n ≤ p ∧ p ≤ sc_lst c n) := by
          rcases Nat.lt_or_ge n p with y | y
          · have L := hT.2.2.2 n p y hpF
            exact ⟨fun q => ⟨by omega, L.mpr q⟩, fun q => L.mp q.2⟩
          · omega
        exact ih (sc_par c p) (by omega) (by omega) (st + 1) (by omega) (fun q => h1 (iff.mp q)) (fun q => h0 (fun y => q (iff.mpr y))) m (by omega)
theorem y_k2 {post : Int32 → Prop} {c : sc_T} {ch : Nat → Bool} {n : Nat} (hT : sc_tr c) (hF : sc_F c ≤ 16) (hdp : ∀ n, n ≤ sc_F c → sc_dep c n ≤ 7) (eF : g_fields = nI (sc_F c)) (hcb : ∀ i, i < 32 → bt g_chosen i = ch (i + 1)) (hb : ∀ n, 1 ≤ n → n ≤ sc_F c → b_parents (n - 1) = im_f (sc_par c n)) (n1 : 1 ≤ n) (n2 : n ≤ sc_F c) : ∀ d j, j + d = sc_F c → ((∃ m, j < m ∧ m ≤ sc_F c ∧ ch m = true ∧ n ≤ m ∧ m ≤ sc_lst c n) → post 1) → ((¬ ∃ m, j < m ∧ m ≤ sc_F c ∧ ch m = true ∧ n ≤ m ∧ m ≤ sc_lst c n) → post 0) → ∀ q, d < q → wY_kept_2 post (im_f n) g_maxFields g_maxLeaves g_maxDepth g_maxCells g_fields g_filling g_schemaDone g_size g_reading g_chosen g_pos g_eventField g_eventValue b_parents b_labels b_leafBits b_kinds b_logFields b_logValues q (nI j) := by
  subst eF
  intro d
  induction d with
  | zero =>
    intro j hj h1 h0 q hq
    obtain ⟨q, rfl⟩ : ∃ w, q = w + 1 := ⟨q - 1, by omega⟩
    exact br_t (nI_le (by omega) (by omega)) (h0 (fun ⟨m, a, b, _⟩ => by omega))
  | succ d ih =>
    intro j hj h1 h0 q hq
    obtain ⟨q, rfl⟩ : ∃ w, q = w + 1 := ⟨q - 1, by omega⟩
    have t := b_tst g_chosen (j := j) (by omega)
    rw [hcb j (by omega)] at t
    have nx : ¬ (ch (j + 1) = true ∧ n ≤ j + 1 ∧ j + 1 ≤ sc_lst c n) → wY_kept_2 post (im_f n) g_maxFields g_maxLeaves g_maxDepth g_maxCells (nI (sc_F c)) g_filling g_schemaDone g_size g_reading g_chosen g_pos g_eventField g_eventValue b_parents b_labels b_leafBits b_kinds b_logFields b_logValues q (nI j + 1) := by
      intro w
      have iff : (∃ m, j + 1 < m ∧ m ≤ sc_F c ∧ ch m = true ∧ n ≤ m ∧ m ≤ sc_lst c n) ↔ (∃ m, j < m ∧ m ≤ sc_F c ∧ ch m = true ∧ n ≤ m ∧ m ≤ sc_lst c n) := by
        constructor
        · rintro ⟨m, a, b⟩
          exact ⟨m, by omega, b⟩
        · rintro ⟨m, a, b, x1, x2, x3⟩
          refine ⟨m, ?_, b, x1, x2, x3⟩
          rcases Nat.lt_or_ge (j + 1) m with y | y
          · exact y
          · have e : m = j + 1 := by omega
            rw [e] at x1 x2 x3
            exact absurd ⟨x1, x2, x3⟩ w
      rw [nI_1]
      exact ih (j + 1) (by omega) (fun y => h1 (iff.mp y)) (fun y => h0 (fun x => y (iff.mpr x))) q (by omega)
    have d7 := hdp (j + 1) (by omega)
    refine br_f (nI_ge (by omega) (by omega)) ?_
    by_cases z : ch (j + 1) = false
    · refine br_t (t.mpr z) ⟨1, ?_⟩
      exact y_k30 (p := 0) hT hF hb n1 n2 0 (tr_d0 hT) (Nat.zero_le _) 0 (by omega) (fun y => by omega) (fun _ => nx (fun y => by rw [z] at y; exact absurd y.1 Bool.false_ne_true)) _ (by omega)
    · have z' : ch (j + 1) = true := by
        rcases Bool.eq_false_or_eq_true (ch (j + 1)) with y | y
        · exact y
        · exact absurd y z
      refine br_f (fun y => z (t.mp y)) ⟨sc_dep c (j + 1) + 1, ?_⟩
      exact y_k30 (p := j + 1) hT hF hb n1 n2 _ rfl (by omega) 0 (by omega) (fun y => h1 ⟨j + 1, by omega, by omega, z', y.1, y.2⟩) (fun y => nx (fun x => y x.2)) _ (by omega)
theorem y_kp {post : Int32 → Prop} {c : sc_T} {ch : Nat → Bool} {n : Nat} (hT : sc_tr c) (hF : sc_F c ≤ 16) (hdp : ∀ n, n ≤ sc_F c → sc_dep c n ≤ 7) (eF : g_fields = nI (sc_F c)) (hcb : ∀ i, i < 32 → bt g_chosen i = ch (i + 1)) (hb : ∀ n, 1 ≤ n → n ≤ sc_F c → b_parents (n - 1) = im_f (sc_par c n)) (n1 : 1 ≤ n) (n2 : n ≤ sc_F c) (h1 : wk_kp c ch n = true → post 1) (h0 : wk_kp c ch n = false → post 0) : wpY_kept post (g_maxFields, g_maxLeaves, g_maxDepth, g_maxCells, g_fields, g_filling, g_schemaDone, g_size, g_reading, g_chosen, g_pos, g_eventField, g_eventValue, b_parents, b_labels, b_leafBits, b_kinds, b_logFields, b_logValues) (im_f n) := by
  have le := tr_le hT n2
  refine ⟨sc_F c + 1, y_k2 hT hF hdp eF hcb hb n1 n2 (sc_F c) 0 (by omega) (fun ⟨m, a, b, x1, x2, x3⟩ => h1 (kp_iff.mpr ⟨m, x2, x3, x1⟩)) (fun q => h0 ?_) _ (by omega)⟩
  rcases Bool.eq_false_or_eq_true (wk_kp c ch n) with y | y
  · obtain ⟨m, a1, a2, a3⟩ := kp_iff.mp y
    exact absurd ⟨m, by omega, by omega, a3, a1, a2⟩ q
  · exact y
end
section
variable {f_maxFields f_maxLeaves f_maxDepth f_maxCells f_fields f_leaves f_leafMask f_filling f_sealed f_cells f_cellsKept f_records f_level f_chosen f_readRecord f_inRecord f_readLeaf f_readNode f_openDepth f_keepDepth f_eventField f_eventValue : Int32} {a_labels a_parent a_depthOf a_repOf a_lastOf a_columnOf a_reps a_defs a_values a_entries a_entriesKept a_held a_heldKept a_pathField a_pathLast a_pathRep a_readPos a_readValue a_jumpTo a_jumpDepth : Nat → Int32}
theorem x_fj {post : SX → Prop} {col p N r : Nat} (c8 : col < 8) (ep : a_readPos col = nI p) (en : a_entriesKept col = nI N) (hN : N ≤ 32) (hp : p ≤ 32) (h0 : N ≤ p → r = 0) (h1 : p < N → a_reps (col * 32 + p) = nI r) (hr : r < 8) (K : post (f_maxFields, f_maxLeaves, f_maxDepth, f_maxCells, f_fields, f_leaves, f_leafMask, f_filling, f_sealed, f_cells, f_cellsKept, f_records, f_level, f_chosen, f_readRecord, f_inRecord, a_jumpTo (col * 8 + r), f_readNode, f_openDepth, a_jumpDepth (col * 8 + r), f_eventField, f_eventValue, a_labels, a_parent, a_depthOf, a_repOf, a_lastOf, a_columnOf, a_reps, a_defs, a_values, a_entries, a_entriesKept, a_held, a_heldKept, a_pathField, a_pathLast, a_pathRep, a_readPos, a_readValue, a_jumpTo, a_jumpDepth)) : wpX_followJump post (f_maxFields, f_maxLeaves, f_maxDepth, f_maxCells, f_fields, f_leaves, f_leafMask, f_filling, f_sealed, f_cells, f_cellsKept, f_records, f_level, f_chosen, f_readRecord, f_inRecord, f_readLeaf, f_readNode, f_openDepth, f_keepDepth, f_eventField, f_eventValue, a_labels, a_parent, a_depthOf, a_repOf, a_lastOf, a_columnOf, a_reps, a_defs, a_values, a_entries, a_entriesKept, a_held, a_heldKept, a_pathField, a_pathLast, a_pathRep, a_readPos, a_readValue, a_jumpTo, a_jumpDepth) (nI col) := by
  have hin : vp_in (nI col) 8 := vp_in_nI c8 (by decide)
  have cl : (nI col).toNatClampNeg = col := nI_clamp (by omega)
  have e8 : nI col * 8 + nI r = nI (col * 8 + r) := by rw [show (8 : Int32) = nI 8 from rfl, pk_mul, nI_add]
  have h8 : vp_in (nI col * 8 + nI r) 64 := by rw [e8]; exact vp_in_nI (by omega) (by decide)
  have c64 : (nI col * 8 + nI r).toNatClampNeg = col * 8 + r := by rw [e8]; exact nI_clamp (by omega)
  have k32 : wX_followJump_32 post (nI col) (nI r) f_maxFields f_maxLeaves f_maxDepth f_maxCells f_fields f_leaves f_leafMask f_filling f_sealed f_cells f_cellsKept f_records f_level f_chosen f_readRecord f_inRecord f_readLeaf f_readNode f_openDepth f_keepDepth f_eventField f_eventValue a_labels a_parent a_depthOf a_repOf a_lastOf a_columnOf a_reps a_defs a_values a_entries a_entriesKept a_held a_heldKept a_pathField a_pathLast a_pathRep a_readPos a_readValue a_jumpTo a_jumpDepth := And.intro h8 (nm_r (by rw [c64]) (And.intro h8 (nm_r (by rw [c64]) K)))
  refine ⟨hin, nm_r (e' := nI p) (by rw [cl]; exact ep) ⟨hin, ?_⟩⟩
  rw [cl, en]
  rcases Nat.lt_or_ge p N with z | z
  · have ei : nI col * 32 + nI p = nI (col * 32 + p) := by rw [show (32 : Int32) = nI 32 from rfl, pk_mul, nI_add]
    refine br_f (nI_ge z (by omega)) ⟨by rw [ei]; exact vp_in_nI (by omega) (by decide), ?_⟩
    rw [ei, nI_clamp (by omega), h1 z]
    exact k32
  · have e := h0 z
    subst e
    exact br_t (nI_le z (by omega)) k32
theorem x_te {post : Int32 → SX → Prop} {c : sc_T} {l p N r δ h : Nat} {b_leafBits : Nat → Int32} (hT : sc_tr c) (hF : sc_F c ≤ 16) (hA : rl_A c a_labels a_parent a_depthOf a_repOf a_columnOf b_leafBits) (hdp : ∀ n, n ≤ sc_F c → sc_dep c n ≤ 7) (l1 : 1 ≤ l) (l2 : l ≤ sc_F c) (hl : sc_lf c l = 1) (c8 : sc_col c l < 8) (eL : f_readLeaf = im_f l) (ep : a_readPos (sc_col c l) = nI p) (eh : a_readValue (sc_col c l) = nI h) (hp : p < 32) (hh : δ = sc_dep c l → h < 32) (en : a_entriesKept (sc_col c l) = nI N) (hN : N ≤ 32) (ed : a_defs (sc_col c l * 32 + p) = nI δ) (hd : δ ≤ 100) (h0 : N ≤ p + 1 → r = 0) (h1 : p + 1 < N → a_reps (sc_col c l * 32 + (p + 1)) = nI r) (hr : r < 8)
    (K0 : δ ≠ sc_dep c l → post 0 (f_maxFields, f_maxLeaves, f_maxDepth, f_maxCells, f_fields, f_leaves, f_leafMask, f_filling, f_sealed, f_cells, f_cellsKept, f_records, f_level, f_chosen, f_readRecord, f_inRecord, a_jumpTo (sc_col c l * 8 + r), f_readNode, f_openDepth, a_jumpDepth (sc_col c l * 8 + r), f_eventField, f_eventValue, a_labels, a_parent, a_depthOf, a_repOf, a_lastOf, a_columnOf, a_reps, a_defs, a_values, a_entries, a_entriesKept, a_held, a_heldKept, a_pathField, a_pathLast, a_pathRep, upd a_readPos (sc_col c l) (nI (p + 1)), a_readValue, a_jumpTo, a_jumpDepth))
    (K1 : δ = sc_dep c l → post 1 (f_maxFields, f_maxLeaves, f_maxDepth, f_maxCells, f_fields, f_leaves, f_leafMask, f_filling, f_sealed, f_cells, f_cellsKept, f_records, f_level, f_chosen, f_readRecord, f_inRecord, a_jumpTo (sc_col c l * 8 + r), f_readNode, f_openDepth, a_jumpDepth (sc_col c l * 8 + r), im_f l, a_values (sc_col c l * 32 + h), a_labels, a_parent, a_depthOf, a_repOf, a_lastOf, a_columnOf, a_reps, a_defs, a_values, a_entries, a_entriesKept, a_held, a_heldKept, a_pathField, a_pathLast, a_pathRep, upd a_readPos (sc_col c l) (nI (p + 1)), upd a_readValue (sc_col c l) (nI (h + 1)), a_jumpTo, a_jumpDepth)) : wpX_takeEntry post (f_maxFields, f_maxLeaves, f_maxDepth, f_maxCells, f_fields, f_leaves, f_leafMask, f_filling, f_sealed, f_cells, f_cellsKept, f_records, f_level, f_chosen, f_readRecord, f_inRecord, f_readLeaf, f_readNode, f_openDepth, f_keepDepth, f_eventField, f_eventValue, a_labels, a_parent, a_depthOf, a_repOf, a_lastOf, a_columnOf, a_reps, a_defs, a_values, a_entries, a_entriesKept, a_held, a_heldKept, a_pathField, a_pathLast, a_pathRep, a_readPos, a_readValue, a_jumpTo, a_jumpDepth) := by
  subst eL
  have hin : vp_in (im_f l) 16 := im_in l1 (by omega) (by decide)
  have cl : (im_f l).toNatClampNeg = l - 1 := im_cl l1 (by omega)
  have hic : vp_in (nI (sc_col c l)) 8 := vp_in_nI c8 (by decide)
  have cc : (nI (sc_col c l)).toNatClampNeg = sc_col c l := nI_clamp (by omega)
  have eb : nI (sc_col c l) * 32 = nI (sc_col c l * 32) := by rw [show (32 : Int32) = nI 32 from rfl, pk_mul]
  obtain ⟨a1, a2, a3, a4, a5, a6⟩ := hA l l1 l2
  have d7 := hdp l l2
  refine ⟨hin, nm_r (e' := nI (sc_col c l)) (by rw [cl, a5, if_pos hl]) (nm_r (e' := nI (sc_col c l * 32)) eb ⟨hic, ?_, hin, ?_⟩)⟩
  · rw [cc, ep, nI_add]
    exact vp_in_nI (by omega) (by decide)
  · rw [cc, ep, nI_add, nI_clamp (by omega), cl, ed, a3]
    by_cases z : δ = sc_dep c l
    · have hhz := hh z
      refine br_t (by rw [z]) (br_f (by decide) ⟨hic, ?_, ?_⟩)
      · rw [cc, eh, nI_add]
        exact vp_in_nI (by omega) (by decide)
      · rw [cc, eh, nI_add, nI_clamp (by omega)]
        refine And.intro hic (And.intro hic (nm_r (e' := upd a_readValue (sc_col c l) (nI (h + 1))) (by rw [eh, nI_1]) ?_))
        refine And.intro hic (And.intro hic (nm_r (e' := upd a_readPos (sc_col c l) (nI (p + 1))) (by rw [cc, ep, nI_1]) ?_))
        exact x_fj (r := r) c8 pk_us en hN (by omega) h0 h1 hr ⟨rfl, K1 z⟩
    · refine br_f (fun q => z ((nI_eq (by omega) (by omega)).mp q)) (br_t rfl ?_)
      refine And.intro hic (And.intro hic (nm_r (e' := upd a_readPos (sc_col c l) (nI (p + 1))) (by rw [cc, ep, nI_1]) ?_))
      exact x_fj (r := r) c8 pk_us en hN (by omega) h0 h1 hr ⟨rfl, K0 z⟩
theorem x_pd {post : Int32 → Prop} {c : sc_T} {l p δ : Nat} {b_leafBits : Nat → Int32} (hT : sc_tr c) (hF : sc_F c ≤ 16) (hA : rl_A c a_labels a_parent a_depthOf a_repOf a_columnOf b_leafBits) (hdp : ∀ n, n ≤ sc_F c → sc_dep c n ≤ 7) (l1 : 1 ≤ l) (l2 : l ≤ sc_F c) (hl : sc_lf c l = 1) (c8 : sc_col c l < 8) (eL : f_readLeaf = im_f l) (ep : a_readPos (sc_col c l) = nI p) (hp : p < 32) (ed : a_defs (sc_col c l * 32 + p) = nI δ) (hd : δ ≤ 100) (K : post (nI (min δ (sc_dep c l - 1)))) : wpX_presentDepth post (f_maxFields, f_maxLeaves, f_maxDepth, f_maxCells, f_fields, f_leaves, f_leafMask, f_filling, f_sealed, f_cells, f_cellsKept, f_records, f_level, f_chosen, f_readRecord, f_inRecord, f_readLeaf, f_readNode, f_openDepth, f_keepDepth, f_eventField, f_eventValue, a_labels, a_parent, a_depthOf, a_repOf, a_lastOf, a_columnOf, a_reps, a_defs, a_values, a_entries, a_entriesKept, a_held, a_heldKept, a_pathField, a_pathLast, a_pathRep, a_readPos, a_readValue, a_jumpTo, a_jumpDepth) := by
  subst eL
  have hin : vp_in (im_f l) 16 := im_in l1 (by omega) (by decide)
  have cl : (im_f l).toNatClampNeg = l - 1 := im_cl l1 (by omega)
  have hic : vp_in (nI (sc_col c l)) 8 := vp_in_nI c8 (by decide)
  have cc : (nI (sc_col c l)).toNatClampNeg = sc_col c l := nI_clamp (by omega)
  have ei : nI (sc_col c l) * 32 + nI p = nI (sc_col c l * 32 + p) := by rw [show (32 : Int32) = nI 32 from rfl, pk_mul, nI_add]
  obtain ⟨a1, a2, a3, a4, a5, a6⟩ := hA l l1 l2
  have d7 := hdp l l2
  have dp := tr_dp hT l1 l2
  refine ⟨hin, nm_r (e' := nI (sc_col c l)) (by rw [cl, a5, if_pos hl]) ⟨hic, by rw [cc, ep, ei]; exact vp_in_nI (by omega) (by decide), nm_r (e' := nI δ) (by rw [cc, ep, ei, nI_clamp (by omega)]; exact ed) ⟨hin, nm_r (e' := nI (sc_dep c l - 1)) ?_ ?_⟩⟩⟩
  · rw [cl, a3]
    obtain ⟨w, hw⟩ : ∃ w, sc_dep c l = w + 1 := ⟨_, dp⟩
    rw [hw, nI_pred]
    rfl
  · rcases Nat.lt_or_ge δ (sc_dep c l - 1) with z | z
    · rw [Nat.min_eq_left (by omega)] at K
      exact br_f (nI_ge z (by omega)) K
    · rw [Nat.min_eq_right z] at K
      exact br_t (nI_le z (by omega)) K
theorem x_ne {post : Int32 → SX → Prop} {c : sc_T} {l p N r δ h D k x1 m : Nat} {b_leafBits : Nat → Int32} (hT : sc_tr c) (hF : sc_F c ≤ 16) (hA : rl_A c a_labels a_parent a_depthOf a_repOf a_columnOf b_leafBits) (hdp : ∀ n, n ≤ sc_F c → sc_dep c n ≤ 7) (l1 : 1 ≤ l) (l2 : l ≤ sc_F c) (hl : sc_lf c l = 1) (c8 : sc_col c l < 8) (eL : f_readLeaf = im_f l) (ep : a_readPos (sc_col c l) = nI p) (eh : a_readValue (sc_col c l) = nI h) (hp : p < 32) (hh : δ = sc_dep c l → h < 32) (en : a_entriesKept (sc_col c l) = nI N) (hN : N ≤ 32) (ed : a_defs (sc_col c l * 32 + p) = nI δ) (hd : δ ≤ 100) (h0 : N ≤ p + 1 → r = 0) (h1 : p + 1 < N → a_reps (sc_col c l * 32 + (p + 1)) = nI r) (hr : r < 8) (eo : f_openDepth = nI D) (ek : f_keepDepth = nI k) (dk : D ≤ k) (k7 : k ≤ 7) (hm : min δ (sc_dep c l - 1) = D) (hx : x1 < 512)
    (K0 : δ ≠ sc_dep c l → wX_next_24 post m (nI (x1 + 1)) f_maxFields f_maxLeaves f_maxDepth f_maxCells f_fields f_leaves f_leafMask f_filling f_sealed f_cells f_cellsKept f_records f_level f_chosen f_readRecord f_inRecord (a_jumpTo (sc_col c l * 8 + r)) f_readNode f_openDepth (a_jumpDepth (sc_col c l * 8 + r)) f_eventField f_eventValue a_labels a_parent a_depthOf a_repOf a_lastOf a_columnOf a_reps a_defs a_values a_entries a_entriesKept a_held a_heldKept a_pathField a_pathLast a_pathRep (upd a_readPos (sc_col c l) (nI (p + 1))) a_readValue a_jumpTo a_jumpDepth)
    (K1 : δ = sc_dep c l → post 3 (f_maxFields, f_maxLeaves, f_maxDepth, f_maxCells, f_fields, f_leaves, f_leafMask, f_filling, f_sealed, f_cells, f_cellsKept, f_records, f_level, f_chosen, f_readRecord, f_inRecord, a_jumpTo (sc_col c l * 8 + r), f_readNode, f_openDepth, a_jumpDepth (sc_col c l * 8 + r), im_f l, a_values (sc_col c l * 32 + h), a_labels, a_parent, a_depthOf, a_repOf, a_lastOf, a_columnOf, a_reps, a_defs, a_values, a_entries, a_entriesKept, a_held, a_heldKept, a_pathField, a_pathLast, a_pathRep, upd a_readPos (sc_col c l) (nI (p + 1)), upd a_readValue (sc_col c l) (nI (h + 1)), a_jumpTo, a_jumpDepth)) : wX_next_24 post (m + 1) (nI x1) f_maxFields f_maxLeaves f_maxDepth f_maxCells f_fields f_leaves f_leafMask f_filling f_sealed f_cells f_cellsKept f_records f_level f_chosen f_readRecord f_inRecord f_readLeaf f_readNode f_openDepth f_keepDepth f_eventField f_eventValue a_labels a_parent a_depthOf a_repOf a_lastOf a_columnOf a_reps a_defs a_values a_entries a_entriesKept a_held a_heldKept a_pathField a_pathLast a_pathRep a_readPos a_readValue a_jumpTo a_jumpDepth := by
  have f1 : l < 2 ^ 31 := by omega
  have f2 : k < 2 ^ 31 := by omega
  have f3 : l ≠ 0 := by omega
  refine br_f (nI_ge (b := 512) hx (by decide)) (br_t ?_ (br_f ?_ ?_))
  · rw [eo, ek]; exact nI_le dk f2
  · rw [eL]
    exact fun q => f3 ((im_m1 f1).mp q)
  · refine x_pd (p := p) (δ := δ) hT hF hA hdp l1 l2 hl c8 eL ep hp ed hd ?_
    rw [hm]
    refine br_t (by rw [eo]; exact nI_le (Nat.le_refl _) (by omega)) ?_
    exact x_te (p := p) (N := N) (r := r) (δ := δ) (h := h) hT hF hA hdp l1 l2 hl c8 eL ep eh hp hh en hN ed hd h0 h1 hr (fun q => br_t rfl (nm_r (nI_1 _) (K0 q))) (fun q => br_f (by decide) (K1 q))
end
end
section
/-! small facts for the reader's steps -/
theorem nr_0 (l : Nat) : ∀ B, wk_en l B = 0 → wk_nr l B = 0
  | [], _ => rfl
  | i :: B, h => by
    rw [en_cons] at h
    by_cases z : (i.1 = 0 ∨ i.1 = 2) ∧ i.2.1 = l
    · rw [if_pos z] at h
      omega
    · unfold wk_nr
      rw [if_neg z]
      exact nr_0 l B (by omega)
theorem nl_en {ch : Nat → Bool} {m : Nat} : ∀ B, wk_nl ch B = m → m ≠ 0 → 0 < wk_en m B
  | [], h, z => absurd h.symm z
  | i :: B, h, z => by
    rw [en_cons]
    unfold wk_nl at h
    by_cases w : (i.1 = 0 ∨ i.1 = 2) ∧ ch i.2.1 = true
    · rw [if_pos w] at h
      rw [if_pos ⟨w.1, h⟩]
      omega
    · rw [if_neg w] at h
      by_cases y : i.1 = 3 ∧ i.2.1 = 0
      · rw [if_pos y] at h
        exact absurd h.symm z
      · rw [if_neg y] at h
        have := nl_en B h z
        omega
theorem nd_le {c : sc_T} (h : sc_tr c) {l : Nat} (hl : sc_lf c l = 1) : ∀ (B H : List wk_I), wk_V c (wk_rv B H) → wk_nd l B ≤ sc_dep c l
  | [], _, _ => Nat.zero_le _
  | i :: B, H, hV => by
    have Vi : wk_V c (i :: H) := ((rv_V B (i :: H)).mp hV).1
    unfold wk_nd
    by_cases z : (i.1 = 0 ∨ i.1 = 2) ∧ i.2.1 = l
    · rw [if_pos z]
      obtain ⟨_, df⟩ := V_e h Vi hl z
      omega
    · rw [if_neg z]
      exact nd_le h hl B (i :: H) hV
theorem cd_le {c : sc_T} {m : Nat} : ∀ d g, wk_cd c m d g ≤ d
  | 0, _ => Nat.le_refl _
  | d + 1, g => by
    unfold wk_cd
    split
    · exact Nat.le_refl _
    · have := cd_le (c := c) (m := m) d (sc_par c g)
      omega
theorem JD_7 {c : sc_T} {ch : Nat → Bool} (h : sc_tr c) (hdp : ∀ n, n ≤ sc_F c → sc_dep c n ≤ 7) {l r : Nat} (l2 : l ≤ sc_F c) : wk_JD c ch l r ≤ 7 := by
  have d := hdp l l2
  unfold wk_JD
  by_cases z : wk_ra c r (sc_dep c l) l ≠ 0 ∧ (wk_nc c ch (l + 1) = 0 ∨ sc_lst c (wk_ra c r (sc_dep c l) l) < wk_nc c ch (l + 1))
  · rw [if_pos z]
    obtain ⟨b1, b2, b3, b4, b5⟩ := ra_2 h (r := r) (sc_dep c l) l rfl l2 z.1
    have := hdp (wk_ra c r (sc_dep c l) l) (by omega)
    omega
  · rw [if_neg z]
    split
    · omega
    · have := cd_le (c := c) (m := wk_nc c ch (l + 1)) (sc_dep c l - 1) (sc_par c l)
      omega
def sm_c (ch : Nat → Bool) (H : List wk_I) : Nat → Nat
  | 0 => 0
  | n + 1 => sm_c ch H n + (if ch (n + 1) = true then wk_en (n + 1) H else 0)
theorem sm_mono {ch : Nat → Bool} {H H' : List wk_I} (h : ∀ l, wk_en l H ≤ wk_en l H') : ∀ n, sm_c ch H n ≤ sm_c ch H' n
  | 0 => Nat.le_refl _
  | n + 1 => by
    have a := sm_mono (ch := ch) h n
    have b := h (n + 1)
    show sm_c ch H n + _ ≤ sm_c ch H' n + _
    split <;> omega
theorem sm_inc {ch : Nat → Bool} {H H' : List wk_I} (h : ∀ l, wk_en l H ≤ wk_en l H') {l : Nat} (hl : ch l = true) (l1 : 1 ≤ l) (e : wk_en l H' = wk_en l H + 1) : ∀ n, l ≤ n → sm_c ch H n + 1 ≤ sm_c ch H' n
  | 0, hn => by omega
  | n + 1, hn => by
    show sm_c ch H n + _ + 1 ≤ sm_c ch H' n + _
    rcases Nat.lt_or_ge n l with z | z
    · have el : l = n + 1 := by omega
      have a := sm_mono (ch := ch) h n
      rw [← el, if_pos hl, if_pos hl]
      omega
    · have a := sm_inc (ch := ch) h hl l1 e n z
      have b := h (n + 1)
      split <;> omega
theorem sm_le {c : sc_T} {ch : Nat → Bool} {H : List wk_I} (hcl : ∀ n, ch n = true → 1 ≤ n ∧ n ≤ sc_F c ∧ sc_lf c n = 1) (h : ∀ l, sc_lf c l = 1 → wk_en l H ≤ 32) : ∀ n, sm_c ch H n ≤ 32 * lv_c (sc_lf c) n
  | 0 => Nat.le_refl _
  | n + 1 => by
    have a := sm_le hcl h n
    show sm_c ch H n + _ ≤ 32 * (lv_c (sc_lf c) n + sc_lf c (n + 1))
    by_cases z : ch (n + 1) = true
    · have e := (hcl _ z).2.2
      have b := h _ e
      rw [if_pos z, e]
      omega
    · rw [if_neg z]
      omega
theorem en_mono (l : Nat) (i : wk_I) (H : List wk_I) : wk_en l H ≤ wk_en l (i :: H) := by rw [en_cons]; omega
section
variable {g_maxFields g_maxLeaves g_maxDepth g_maxCells g_fields g_filling g_schemaDone g_size g_reading g_chosen g_pos g_eventField g_eventValue : Int32} {b_parents b_labels b_leafBits b_kinds b_logFields b_logValues : Nat → Int32}
theorem y_em {post : Int32 → SY → Prop} {c : sc_T} {ch : Nat → Bool} {H : List wk_I} {i : wk_I} {N : Nat} (hT : sc_tr c) (hF : sc_F c ≤ 16) (hdp : ∀ n, n ≤ sc_F c → sc_dep c n ≤ 7) (eF : g_fields = nI (sc_F c)) (hcb : ∀ i, i < 32 → bt g_chosen i = ch (i + 1)) (hb : ∀ n, 1 ≤ n → n ≤ sc_F c → b_parents (n - 1) = im_f (sc_par c n)) (es : g_size = nI N) (hN : N ≤ 64) (lt : wk_ev H < N) (k1 : b_kinds (wk_ev H) = wr_kc i) (k2 : b_logFields (wk_ev H) = im_f i.2.1) (k3 : b_logValues (wk_ev H) = i.2.2.1) (hk : wr_kc i = 1 ∨ wr_kc i = 5 ∨ (1 ≤ i.2.1 ∧ i.2.1 ≤ sc_F c ∧ wk_kp c ch i.2.1 = true)) (hp : post (wr_kc i) (g_maxFields, g_maxLeaves, g_maxDepth, g_maxCells, g_fields, g_filling, g_schemaDone, g_size, g_reading, g_chosen, nI (wk_ev H + 1), im_f i.2.1, i.2.2.1, b_parents, b_labels, b_leafBits, b_kinds, b_logFields, b_logValues)) : wY_next_40 post g_maxFields g_maxLeaves g_maxDepth g_maxCells g_fields g_filling g_schemaDone g_size g_reading g_chosen g_pos g_eventField g_eventValue b_parents b_labels b_leafBits b_kinds b_logFields b_logValues 1 (nI (wk_ev H)) := by
  have hin : vp_in (nI (wk_ev H)) 64 := vp_in_nI (by omega) (by decide)
  have cl : (nI (wk_ev H)).toNatClampNeg = wk_ev H := nI_clamp (by omega)
  have k85 : wY_next_85 post (nI (wk_ev H)) g_maxFields g_maxLeaves g_maxDepth g_maxCells g_fields g_filling g_schemaDone g_size g_reading g_chosen g_pos g_eventField g_eventValue b_parents b_labels b_leafBits b_kinds b_logFields b_logValues := by
    refine nm_r (nI_1 _) (And.intro hin (nm_r (e' := im_f i.2.1) (by rw [cl]; exact k2) (And.intro hin (nm_r (e' := i.2.2.1) (by rw [cl]; exact k3) (And.intro hin ?_)))))
    rw [cl, k1]
    exact hp
  refine br_f (nI_pos (by omega)) (br_f (by rw [es]; exact nI_ge lt (by omega)) ⟨hin, ?_⟩)
  rw [cl, k1, k2]
  by_cases z1 : wr_kc i = 1
  · exact br_t z1 k85
  · refine br_f z1 ⟨hin, ?_⟩
    by_cases z2 : wr_kc i = 5
    · exact br_t z2 k85
    · refine br_f z2 ⟨hin, ?_⟩
      rcases hk with q | q | ⟨q1, q2, q3⟩
      · exact absurd q z1
      · exact absurd q z2
      · exact y_kp hT hF hdp eF hcb hb q1 q2 (fun _ => br_f (by decide) k85) (fun w => by rw [q3] at w; exact absurd w.symm Bool.false_ne_true)
theorem y_sk {post : Int32 → SY → Prop} {c : sc_T} {ch : Nat → Bool} {H : List wk_I} {i : wk_I} {N m : Nat} (hT : sc_tr c) (hF : sc_F c ≤ 16) (hdp : ∀ n, n ≤ sc_F c → sc_dep c n ≤ 7) (eF : g_fields = nI (sc_F c)) (hcb : ∀ i, i < 32 → bt g_chosen i = ch (i + 1)) (hb : ∀ n, 1 ≤ n → n ≤ sc_F c → b_parents (n - 1) = im_f (sc_par c n)) (es : g_size = nI N) (hN : N ≤ 64) (lt : wk_ev H < N) (k1 : b_kinds (wk_ev H) = wr_kc i) (k2 : b_logFields (wk_ev H) = im_f i.2.1) (z1 : ¬ wr_kc i = 1) (z2 : ¬ wr_kc i = 5) (q1 : 1 ≤ i.2.1) (q2 : i.2.1 ≤ sc_F c) (q3 : wk_kp c ch i.2.1 = false) (hp : wY_next_40 post g_maxFields g_maxLeaves g_maxDepth g_maxCells g_fields g_filling g_schemaDone g_size g_reading g_chosen g_pos g_eventField g_eventValue b_parents b_labels b_leafBits b_kinds b_logFields b_logValues m (nI (wk_ev H + 1))) : wY_next_40 post g_maxFields g_maxLeaves g_maxDepth g_maxCells g_fields g_filling g_schemaDone g_size g_reading g_chosen g_pos g_eventField g_eventValue b_parents b_labels b_leafBits b_kinds b_logFields b_logValues (m + 1) (nI (wk_ev H)) := by
  have hin : vp_in (nI (wk_ev H)) 64 := vp_in_nI (by omega) (by decide)
  have cl : (nI (wk_ev H)).toNatClampNeg = wk_ev H := nI_clamp (by omega)
  refine br_f (nI_pos (by omega)) (br_f (by rw [es]; exact nI_ge lt (by omega)) ⟨hin, ?_⟩)
  rw [cl, k1, k2]
  refine br_f z1 ⟨hin, br_f z2 ⟨hin, ?_⟩⟩
  exact y_kp hT hF hdp eF hcb hb q1 q2 (fun w => by rw [q3] at w; exact absurd w Bool.false_ne_true) (fun _ => br_t rfl (nm_r (nI_1 _) hp))
end
end
section
theorem P_skip {c : sc_T} {ch : Nat → Bool} {H : List wk_I} {i : wk_I} {arp arv : Nat → Int32} (hP : rl_P c ch H arp arv) (h1 : ∀ l, ch l = true → wk_en l (i :: H) = wk_en l H) (h2 : ∀ l, ch l = true → wk_hn l (i :: H) = wk_hn l H) : rl_P c ch (i :: H) arp arv := by
  intro l hl
  rw [h1 l hl, h2 l hl]
  exact hP l hl
theorem P_null {c : sc_T} {ch : Nat → Bool} (hcl : ∀ n, ch n = true → 1 ≤ n ∧ n ≤ sc_F c ∧ sc_lf c n = 1) {H : List wk_I} {i : wk_I} {l : Nat} {arp arv : Nat → Int32} (hP : rl_P c ch H arp arv) (hl : ch l = true) (z : i.1 = 0) (e : i.2.1 = l) : rl_P c ch (i :: H) (upd arp (sc_col c l) (nI (wk_en l H + 1))) arv := by
  intro l' hl'
  obtain ⟨p1, p2, p3⟩ := hcl l hl
  obtain ⟨q1, q2, q3⟩ := hcl l' hl'
  have a := en_cons l' i H
  have b := hn_cons l' i H
  rw [if_neg (by omega)] at b
  by_cases y : l' = l
  · subst y
    rw [if_pos ⟨Or.inl z, e⟩] at a
    rw [a, b, pk_us]
    exact ⟨rfl, (hP l' hl').2⟩
  · rw [if_neg (fun q => y (q.2.symm.trans e))] at a
    rw [a, b, pk_un (fun q => y (col_inj q1 p1 q3 p3 q))]
    exact hP l' hl'
theorem P_val {c : sc_T} {ch : Nat → Bool} (hcl : ∀ n, ch n = true → 1 ≤ n ∧ n ≤ sc_F c ∧ sc_lf c n = 1) {H : List wk_I} {i : wk_I} {l : Nat} {arp arv : Nat → Int32} (hP : rl_P c ch H arp arv) (hl : ch l = true) (z : i.1 = 2) (e : i.2.1 = l) : rl_P c ch (i :: H) (upd arp (sc_col c l) (nI (wk_en l H + 1))) (upd arv (sc_col c l) (nI (wk_hn l H + 1))) := by
  intro l' hl'
  obtain ⟨p1, p2, p3⟩ := hcl l hl
  obtain ⟨q1, q2, q3⟩ := hcl l' hl'
  have a := en_cons l' i H
  have b := hn_cons l' i H
  by_cases y : l' = l
  · subst y
    rw [if_pos ⟨Or.inr z, e⟩] at a b
    rw [a, b, pk_us, pk_us]
    exact ⟨rfl, rfl⟩
  · have ne : sc_col c l' ≠ sc_col c l := fun q => y (col_inj q1 p1 q3 p3 q)
    rw [if_neg (fun q => y (q.2.symm.trans e))] at a b
    rw [a, b, pk_un ne, pk_un ne]
    exact hP l' hl'
section
variable {f_maxFields f_maxLeaves f_maxDepth f_maxCells f_fields f_leaves f_leafMask f_filling f_sealed f_cells f_cellsKept f_records f_level f_chosen f_readRecord f_inRecord f_readLeaf f_readNode f_openDepth f_keepDepth f_eventField f_eventValue : Int32} {a_labels a_parent a_depthOf a_repOf a_lastOf a_columnOf a_reps a_defs a_values a_entries a_entriesKept a_held a_heldKept a_pathField a_pathLast a_pathRep a_readPos a_readValue a_jumpTo a_jumpDepth : Nat → Int32}
variable {g_size g_reading g_pos : Int32} {b_leafBits b_kinds b_logFields b_logValues : Nat → Int32}
/-- one call of next inside a record: both sides walk the future B to the same event -/
theorem nx_L {kk : Nat} {c : sc_T} {fill mF mL mD mC sd : Nat} {R R0 : List wk_I} {ch : Nat → Bool} (hS : rl_S c fill mF mL mD mC sd f_maxFields f_maxLeaves f_maxDepth f_maxCells f_fields f_leaves f_leafMask f_filling f_sealed a_labels a_parent a_depthOf a_repOf a_lastOf a_columnOf b_leafBits) (hW : rl_W c mC sd R R0 f_cells f_cellsKept f_records f_level g_size a_reps a_defs a_values a_entries a_entriesKept a_held a_heldKept a_pathField a_pathLast a_pathRep b_kinds b_logFields b_logValues) (hcl : ∀ n, ch n = true → 1 ≤ n ∧ n ≤ sc_F c ∧ sc_lf c n = 1) (hpk : ∀ i, i < 32 → bt f_chosen i = ch (i + 1)) (hnz : ¬ f_chosen = 0) (hsd : sd ≠ 0) (hTb : rl_T c ch a_jumpTo a_jumpDepth) (egr : g_reading = 1) (ein : f_inRecord = 1) : ∀ (B H : List wk_I) (a_readPos : Nat → Int32) (f_readLeaf f_keepDepth : Int32) (x1 : Nat), wk_rv B H = R0 → wk_fin c H ≠ [] → f_readRecord = nI (wk_re H) → rl_P c ch H a_readPos a_readValue → rl_D c ch H B f_readLeaf f_readNode f_openDepth f_keepDepth → x1 ≤ sm_c ch H (sc_F c) → ∃ (r : Int32) (u' : SX) (v' : SY), i_Rel kk u' v' ∧ (∀ post : Int32 → SX → Prop, post r u' → ∃ n, wX_next_24 post n (nI x1) f_maxFields f_maxLeaves f_maxDepth f_maxCells f_fields f_leaves f_leafMask f_filling f_sealed f_cells f_cellsKept f_records f_level f_chosen f_readRecord f_inRecord f_readLeaf f_readNode f_openDepth f_keepDepth f_eventField f_eventValue a_labels a_parent a_depthOf a_repOf a_lastOf a_columnOf a_reps a_defs a_values a_entries a_entriesKept a_held a_heldKept a_pathField a_pathLast a_pathRep a_readPos a_readValue a_jumpTo a_jumpDepth) ∧ (∀ post : Int32 → SY → Prop, post r v' → ∃ n, wY_next_40 post f_maxFields f_maxLeaves f_maxDepth f_maxCells f_fields f_filling f_sealed g_size g_reading f_chosen g_pos f_eventField f_eventValue a_parent a_labels b_leafBits b_kinds b_logFields b_logValues n (nI (wk_ev H))) := by
  have hS' := hS
  have hW' := hW
  obtain ⟨⟨hT, hFl⟩, ⟨y1, y2, y3, y4, m1, m2, m3, m4⟩, ⟨eF, F1, y5, F2, y6, y7, s1, s2⟩, hM, hA, hE, hD⟩ := hS
  obtain ⟨⟨w1, ⟨R1, w2⟩, w3, w4, w5, w6, w7, w8⟩, ⟨y8, n2, y9, y10, el, y11⟩, hC, hL, hPt, hN, hH, hZ⟩ := hW
  have f0 : fill = 0 := s2 (by omega)
  rw [f0] at hE
  have c1 := ct_1 R w1
  have hdp : ∀ n, n ≤ sc_F c → sc_dep c n ≤ 7 := by
    intro n hn
    rcases Nat.eq_zero_or_pos n with e | e
    · rw [e, tr_d0 hT]; omega
    · have := tr_dp hT e hn
      have p := tr_par hT e hn
      have := hD (sc_par c n) (by omega) (tr_plf hT e hn)
      omega
  have hb : ∀ n, 1 ≤ n → n ≤ sc_F c → a_parent (n - 1) = im_f (sc_par c n) := fun n a b => (hA n a b).2.1
  have V0 : wk_V c R0 := V_app R1 R0 (w2 ▸ w1)
  have L0 : wr_L b_kinds b_logFields b_logValues R0 := L_app R1 R0 (w2 ▸ hL)
  have C0 : wr_C c a_reps a_defs a_values R0 := C_app R1 R0 (w2 ▸ hC)
  have ev0 : wk_ev R = wk_ev R1 + wk_ev R0 := by rw [w2]; exact ev_app _ _
  have ce0 : wk_ce R0 ≤ 32 := by
    have : wk_ce R = wk_ce R1 + wk_ce R0 := by rw [w2]; exact ct_app _ _ _
    omega
  have e32 : ∀ l, sc_lf c l = 1 → wk_en l R0 ≤ 32 := fun l hl => en_32 hT hl V0 ce0
  have h32 : ∀ l, wk_hn l R0 ≤ 32 := fun l => Nat.le_trans (hn_ce l R0) ce0
  have mk : ∀ (H B : List wk_I) (a_readPos a_readValue : Nat → Int32) (f_readRecord f_inRecord f_readLeaf f_readNode f_openDepth f_keepDepth f_eventField f_eventValue : Int32), wk_rv B H = R0 → f_readRecord = nI (wk_re H) → rl_P c ch H a_readPos a_readValue → ((wk_fin c H = [] ∧ f_inRecord = 0) ∨ (wk_fin c H ≠ [] ∧ f_inRecord = 1 ∧ rl_D c ch H B f_readLeaf f_readNode f_openDepth f_keepDepth)) → i_Rel kk (f_maxFields, f_maxLeaves, f_maxDepth, f_maxCells, f_fields, f_leaves, f_leafMask, f_filling, f_sealed, f_cells, f_cellsKept, f_records, f_level, f_chosen, f_readRecord, f_inRecord, f_readLeaf, f_readNode, f_openDepth, f_keepDepth, f_eventField, f_eventValue, a_labels, a_parent, a_depthOf, a_repOf, a_lastOf, a_columnOf, a_reps, a_defs, a_values, a_entries, a_entriesKept, a_held, a_heldKept, a_pathField, a_pathLast, a_pathRep, a_readPos, a_readValue, a_jumpTo, a_jumpDepth) (f_maxFields, f_maxLeaves, f_maxDepth, f_maxCells, f_fields, f_filling, f_sealed, g_size, g_reading, f_chosen, nI (wk_ev H), f_eventField, f_eventValue, a_parent, a_labels, b_leafBits, b_kinds, b_logFields, b_logValues) :=
    fun H B a_readPos a_readValue f_readRecord f_inRecord f_readLeaf f_readNode f_openDepth f_keepDepth f_eventField f_eventValue a b d e => zz_in hS' hW' ⟨hcl, hpk, fun q => absurd q hsd, Or.inr ⟨hnz, egr, H, B, a, rfl, b, hTb, d, e⟩⟩
  intro B
  induction B with
  | nil =>
    intro H a_readPos f_readLeaf f_keepDepth x1 hrv hne
    have e : H = R0 := hrv
    rw [e] at hne
    exact absurd w3 hne
  | cons i B ih =>
    intro H a_readPos f_readLeaf f_keepDepth x1 hrv hne hrr hP hDD hx
    have hrv' : wk_rv B (i :: H) = R0 := hrv
    have VH : wk_V c (wk_rv (i :: B) H) := by rw [hrv]; exact V0
    obtain ⟨VH1, WH⟩ := (rv_V (i :: B) H).mp VH
    have hI := V_inv hT H VH1
    have gH : wk_go c (i :: B) (wk_fin c H) = [] := by rw [← rv_fin, hrv]; exact w3
    have Vi : wk_V c (i :: H) := ((rv_V B (i :: H)).mp VH).1
    have Ci : wr_C c a_reps a_defs a_values (i :: H) := C_rv B (i :: H) (by rw [hrv']; exact C0)
    have CB : wr_C c a_reps a_defs a_values (wk_rv B (i :: H)) := by rw [hrv']; exact C0
    have LH : wr_L b_kinds b_logFields b_logValues (wk_rv (i :: B) H) := by rw [hrv]; exact L0
    have smi := sm_mono (ch := ch) (fun l => en_mono l i H) (sc_F c)
    have x256 : x1 < 512 := by
      have := sm_le (c := c) (ch := ch) (H := H) hcl (fun l hl => by
        have a := e32 l hl
        have b := en_le l (i :: B) H
        rw [hrv] at b
        omega) (sc_F c)
      omega
    have n512 : ¬ (512 : Int32) ≤ nI x1 := nI_ge (b := 512) x256 (by decide)
    have evi := ev_le B (i :: H)
    rw [hrv'] at evi
    obtain ⟨hk, hWB⟩ := WH
    have hI' := wk_is hT hI hk
    have gH' : wk_go c B (wk_st c (wk_fin c H) i) = [] := gH
    have fin' : wk_fin c (i :: H) = wk_st c (wk_fin c H) i := rfl
    obtain ⟨k, d1, d2, d3, d4, d5, d6⟩ := hDD
    rcases hfin : wk_fin c H with _ | ⟨⟨g, lc, ph, r⟩, S⟩
    · exact absurd hfin hne
    · rw [hfin] at hk hI hI' gH' hWB fin' d1 d2 d6
      have hII := hI
      obtain ⟨⟨i1, i2, i3, i4, i5, i6, i7⟩, il, iS⟩ := hI
      have gl := tr_le hT i1
      have dg := hD g i1 i2
      -- an entry of a chosen leaf l that stands at the front of the future
      have ent : ∀ l (hc : ch l = true), (i.1 = 0 ∨ i.1 = 2) ∧ i.2.1 = l → g < l → l ≤ sc_lst c g → wk_nl ch (i :: B) = l → wk_low c ch (i :: B) ((g, lc, ph, r) :: S) = wk_kd c ch ((g, lc, ph, r) :: S) → min i.2.2.2.2 (sc_dep c l - 1) = S.length → (∀ lc' ph', wk_st c ((g, lc, ph, r) :: S) i = (g, lc', ph', r) :: S → ph' = l + 1 →
          rl_D c ch (i :: H) B (im_f (wk_nl ch B)) f_readNode f_openDepth (nI (wk_JD c ch l (wk_nr l B))) ∧ ∀ (post : Int32 → SX → Prop) (m : Nat),
          (i.1 = 0 → wX_next_24 post m (nI (x1 + 1)) f_maxFields f_maxLeaves f_maxDepth f_maxCells f_fields f_leaves f_leafMask f_filling f_sealed f_cells f_cellsKept f_records f_level f_chosen f_readRecord f_inRecord (im_f (wk_nl ch B)) f_readNode f_openDepth (nI (wk_JD c ch l (wk_nr l B))) f_eventField f_eventValue a_labels a_parent a_depthOf a_repOf a_lastOf a_columnOf a_reps a_defs a_values a_entries a_entriesKept a_held a_heldKept a_pathField a_pathLast a_pathRep (upd a_readPos (sc_col c l) (nI (wk_en l H + 1))) a_readValue a_jumpTo a_jumpDepth) → (i.1 = 2 → post 3 (f_maxFields, f_maxLeaves, f_maxDepth, f_maxCells, f_fields, f_leaves, f_leafMask, f_filling, f_sealed, f_cells, f_cellsKept, f_records, f_level, f_chosen, f_readRecord, f_inRecord, im_f (wk_nl ch B), f_readNode, f_openDepth, nI (wk_JD c ch l (wk_nr l B)), im_f l, i.2.2.1, a_labels, a_parent, a_depthOf, a_repOf, a_lastOf, a_columnOf, a_reps, a_defs, a_values, a_entries, a_entriesKept, a_held, a_heldKept, a_pathField, a_pathLast, a_pathRep, upd a_readPos (sc_col c l) (nI (wk_en l H + 1)), upd a_readValue (sc_col c l) (nI (wk_hn l H + 1)), a_jumpTo, a_jumpDepth)) → wX_next_24 post (m + 1) (nI x1) f_maxFields f_maxLeaves f_maxDepth f_maxCells f_fields f_leaves f_leafMask f_filling f_sealed f_cells f_cellsKept f_records f_level f_chosen f_readRecord f_inRecord f_readLeaf f_readNode f_openDepth f_keepDepth f_eventField f_eventValue a_labels a_parent a_depthOf a_repOf a_lastOf a_columnOf a_reps a_defs a_values a_entries a_entriesKept a_held a_heldKept a_pathField a_pathLast a_pathRep a_readPos a_readValue a_jumpTo a_jumpDepth) := by
        intro l hc hz g1 g2 hnl hlow hmin lc' ph' est eph
        obtain ⟨l1, l2, l3⟩ := hcl l hc
        have c8 := col_lt l1 l2 l3
        have c8' : sc_col c l < 8 := by omega
        have kg : wk_kp c ch g = true := kp_iff.mpr ⟨l, by omega, g2, hc⟩
        have kdg : wk_kd c ch ((g, lc, ph, r) :: S) = S.length := kd_t kg
        have kng : wk_kn c ch ((g, lc, ph, r) :: S) = g := kn_t kg
        have d6' := d6
        rw [hlow, kdg] at d6'
        have d1' := d1
        rw [kdg] at d1'
        have dk : S.length ≤ k := by omega
        obtain ⟨rb, df⟩ := V_e hT Vi l3 hz
        have d7 := hdp l l2
        have r7 := tr_rd hT l l2
        have ee := en_cons l i H
        rw [if_pos hz] at ee
        have eh := hn_cons l i H
        have le1 := en_le l B (i :: H)
        rw [hrv'] at le1
        have le2 : wk_hn l (i :: H) ≤ wk_hn l R0 := by
          have : wk_hn l (wk_rv B (i :: H)) = wk_hn l (i :: H) + wk_hn l B := ct_rv _ _ _
          rw [hrv'] at this
          omega
        have e32' := e32 l l3
        have h32' := h32 l
        obtain ⟨p1, p2⟩ := hP l hc
        obtain ⟨q1, q2⟩ := Ci.1 hz.1 (by rw [hz.2]; exact l3)
        rw [hz.2] at q1 q2
        rw [est] at hI' gH' hWB fin'
        have hR := wk_R hT l3 l1 l2 B g lc' ph' r S hI' hWB gH' (by omega)
        have rr : wk_nr l B ≤ sc_rp c l := by
          rcases hR with x | ⟨b, b1, b2, b3, b4, b5, b6, b7⟩
          · omega
          · have := tr_rle hT (n := b) (by omega) b2 b3
            omega
        clear hR
        have JT := wk_JT hT hcl hc B g lc' ph' r S hI' hWB gH' (by omega) (fun j x y => by omega) (by rw [kn_t kg]; omega) (by rw [kn_t kg]; exact g2)
        obtain ⟨t1, t2⟩ := hTb l (wk_nr l B) hc rr
        have hN0 := (hN l l1 l2 l3).2
        have hh0 : wk_en l R0 ≤ wk_en l H + 1 → wk_nr l B = 0 := by
          intro q
          have : wk_en l (wk_rv B (i :: H)) = wk_en l (i :: H) + wk_en l B := ct_rv _ _ _
          rw [hrv'] at this
          exact nr_0 l B (by omega)
        have hh1 : wk_en l H + 1 < wk_en l R0 → a_reps (sc_col c l * 32 + (wk_en l H + 1)) = nI (wk_nr l B) := by
          intro q
          have := (C_nx l3 B (i :: H) CB (by rw [hrv', ee]; exact q)).1
          rw [ee] at this
          exact this
        have rl : f_readLeaf = im_f l := by rw [d3, hnl]
        have hnb : i.2.2.2.2 = sc_dep c l → wk_hn l H < 32 := by
          intro q
          rcases df with ⟨z1, z2⟩ | ⟨z1, z2⟩
          · omega
          · rw [if_pos ⟨Or.inr z1, hz.2⟩] at eh
            omega
        have b1 : wk_en l H < 32 := by omega
        have b2 : i.2.2.2.2 ≤ 100 := by omega
        have b3 : wk_nr l B < 8 := by omega
        have b4 : sc_F c ≤ 16 := by omega
        have z0 : i.2.2.2.2 ≠ sc_dep c l → i.1 = 0 := fun q => by
          rcases df with ⟨z1, z2⟩ | ⟨z1, z2⟩
          · exact z1
          · exact absurd z2 q
        have z2 : i.2.2.2.2 = sc_dep c l → i.1 = 2 := fun q => by
          rcases df with ⟨z1, z2⟩ | ⟨z1, z2⟩
          · omega
          · exact z1
        refine ⟨⟨wk_JD c ch l (wk_nr l B), ?_, ?_, rfl, rfl, JD_7 hT hdp l2, ?_⟩, fun post m K0 K1 => ?_⟩
        · rw [fin', kd_t kg]
          exact d1'
        · rw [fin', kn_t kg]
          rw [kng] at d2
          exact d2
        · rw [fin']
          exact JT.2
        · refine x_ne (p := wk_en l H) (N := wk_en l R0) (r := wk_nr l B) (δ := i.2.2.2.2) (h := wk_hn l H) hT b4 hA hdp l1 l2 l3 c8' rl p1 p2 b1 hnb hN0 e32' q2 b2 hh0 hh1 b3 d1' d4 dk d5 hmin x256 (fun q => ?_) (fun q => ?_)
          · rw [t1, t2, ← JT.1]
            exact K0 (z0 q)
          · have vv := Ci.2.1 (z2 q) (by rw [hz.2]; exact l3)
            rw [hz.2] at vv
            rw [t1, t2, vv, ← JT.1]
            exact K1 (z2 q)
      have skipD : ∀ s', wk_st c ((g, lc, ph, r) :: S) i = s' → wk_kd c ch s' = wk_kd c ch ((g, lc, ph, r) :: S) → wk_kn c ch s' = wk_kn c ch ((g, lc, ph, r) :: S) → wk_nl ch (i :: B) = wk_nl ch B → wk_low c ch (i :: B) ((g, lc, ph, r) :: S) = min (wk_kd c ch ((g, lc, ph, r) :: S)) (wk_low c ch B s') → rl_D c ch (i :: H) B f_readLeaf f_readNode f_openDepth f_keepDepth := by
        intro s' es e1 e2 e3 e4
        have ll := low_le (c := c) (ch := ch) B s'
        refine ⟨k, ?_, ?_, ?_, d4, d5, ?_⟩
        · rw [fin', es, e1]; exact d1
        · rw [fin', es, e2]; exact d2
        · rw [← e3]; exact d3
        · rw [fin', es, e1]
          rw [e1] at ll
          rw [e4, Nat.min_eq_right ll] at d6
          exact d6
      have skip : wk_fin c (i :: H) ≠ [] → wk_re (i :: H) = wk_re H → rl_P c ch (i :: H) a_readPos a_readValue → rl_D c ch (i :: H) B f_readLeaf f_readNode f_openDepth f_keepDepth → (i.1 = 0 ∨ (¬ wr_kc i = 1 ∧ ¬ wr_kc i = 5 ∧ 1 ≤ i.2.1 ∧ i.2.1 ≤ sc_F c ∧ wk_kp c ch i.2.1 = false)) → ∃ (r : Int32) (u' : SX) (v' : SY), i_Rel kk u' v' ∧ (∀ post : Int32 → SX → Prop, post r u' → ∃ n, wX_next_24 post n (nI x1) f_maxFields f_maxLeaves f_maxDepth f_maxCells f_fields f_leaves f_leafMask f_filling f_sealed f_cells f_cellsKept f_records f_level f_chosen f_readRecord f_inRecord f_readLeaf f_readNode f_openDepth f_keepDepth f_eventField f_eventValue a_labels a_parent a_depthOf a_repOf a_lastOf a_columnOf a_reps a_defs a_values a_entries a_entriesKept a_held a_heldKept a_pathField a_pathLast a_pathRep a_readPos a_readValue a_jumpTo a_jumpDepth) ∧ (∀ post : Int32 → SY → Prop, post r v' → ∃ n, wY_next_40 post f_maxFields f_maxLeaves f_maxDepth f_maxCells f_fields f_filling f_sealed g_size g_reading f_chosen g_pos f_eventField f_eventValue a_parent a_labels b_leafBits b_kinds b_logFields b_logValues n (nI (wk_ev H))) := by
        intro q1 q2 q3 q4 q5
        have b16 : sc_F c ≤ 16 := by omega
        have b64 : wk_ev R ≤ 64 := by omega
        have bx : x1 ≤ sm_c ch (i :: H) (sc_F c) := by omega
        have blt : i.1 ≠ 0 → wk_ev H < wk_ev R := fun q => by rw [ev_nz H q] at evi; omega
        obtain ⟨r', u', v', h1, h2, h3⟩ := ih (i :: H) a_readPos f_readLeaf f_keepDepth x1 hrv' q1 (by rw [q2]; exact hrr) q3 q4 bx
        refine ⟨r', u', v', h1, h2, fun post hp => ?_⟩
        obtain ⟨n, hn⟩ := h3 post hp
        by_cases z : i.1 = 0
        · rw [ev_z H z] at hn
          exact ⟨n, hn⟩
        · rw [ev_nz H z] at hn
          obtain ⟨k1, k2, k3⟩ := L_hd LH z
          rcases q5 with q5 | ⟨z1, z2, z3, z4, z5⟩
          · exact absurd q5 z
          · exact ⟨n + 1, y_sk hT b16 hdp eF hpk hb y11 b64 (blt z) k1 k2 z1 z2 z3 z4 z5 hn⟩
      have emit : i.1 ≠ 0 → (wr_kc i = 1 ∨ wr_kc i = 5 ∨ (1 ≤ i.2.1 ∧ i.2.1 ≤ sc_F c ∧ wk_kp c ch i.2.1 = true)) → ∀ post : Int32 → SY → Prop, post (wr_kc i) (f_maxFields, f_maxLeaves, f_maxDepth, f_maxCells, f_fields, f_filling, f_sealed, g_size, g_reading, f_chosen, nI (wk_ev (i :: H)), im_f i.2.1, i.2.2.1, a_parent, a_labels, b_leafBits, b_kinds, b_logFields, b_logValues) → ∃ n, wY_next_40 post f_maxFields f_maxLeaves f_maxDepth f_maxCells f_fields f_filling f_sealed g_size g_reading f_chosen g_pos f_eventField f_eventValue a_parent a_labels b_leafBits b_kinds b_logFields b_logValues n (nI (wk_ev H)) := by
        intro z q post hp
        have b16 : sc_F c ≤ 16 := by omega
        have b64 : wk_ev R ≤ 64 := by omega
        have blt : wk_ev H < wk_ev R := by rw [ev_nz H z] at evi; omega
        obtain ⟨k1, k2, k3⟩ := L_hd LH z
        rw [ev_nz H z] at hp
        exact ⟨1, y_em hT b16 hdp eF hpk hb y11 b64 blt k1 k2 k3 q hp⟩
      have value : ∀ n v q lc' ph', i = (2, n, v, q, sc_dep c n) → 1 ≤ n → n ≤ sc_F c → sc_lf c n = 1 → sc_par c n = g → wk_st c ((g, lc, ph, r) :: S) i = (g, lc', ph', r) :: S → ph' = sc_lst c n + 1 → ∃ (r : Int32) (u' : SX) (v' : SY), i_Rel kk u' v' ∧ (∀ post : Int32 → SX → Prop, post r u' → ∃ n, wX_next_24 post n (nI x1) f_maxFields f_maxLeaves f_maxDepth f_maxCells f_fields f_leaves f_leafMask f_filling f_sealed f_cells f_cellsKept f_records f_level f_chosen f_readRecord f_inRecord f_readLeaf f_readNode f_openDepth f_keepDepth f_eventField f_eventValue a_labels a_parent a_depthOf a_repOf a_lastOf a_columnOf a_reps a_defs a_values a_entries a_entriesKept a_held a_heldKept a_pathField a_pathLast a_pathRep a_readPos a_readValue a_jumpTo a_jumpDepth) ∧ (∀ post : Int32 → SY → Prop, post r v' → ∃ n, wY_next_40 post f_maxFields f_maxLeaves f_maxDepth f_maxCells f_fields f_filling f_sealed g_size g_reading f_chosen g_pos f_eventField f_eventValue a_parent a_labels b_leafBits b_kinds b_logFields b_logValues n (nI (wk_ev H))) := by
        intro n v q lc' ph' ei h1 h2 h3 h4 est eph
        subst ei
        have ll := tr_leaf hT h2 h3
        have cl := tr_chd hT h1 h2
        have pn := tr_par hT h1 h2
        have dn := tr_dp hT h1 h2
        rw [h4] at cl pn
        rw [h4, i3] at dn
        have ne' : wk_fin c ((2, n, v, q, sc_dep c n) :: H) ≠ [] := by rw [fin', est]; exact List.cons_ne_nil _ _
        rcases Bool.eq_false_or_eq_true (ch n) with z | z
        · have kpn : wk_kp c ch n = true := kp_iff.mpr ⟨n, Nat.le_refl _, by omega, z⟩
          have hmn : min (sc_dep c n) (sc_dep c n - 1) = S.length := by omega
          obtain ⟨hD', hstep⟩ := ent n z ⟨Or.inr rfl, rfl⟩ pn cl (nl_e2 z) (low_e2 z) hmn lc' ph' est (by omega)
          refine ⟨3, _, _, mk _ B _ _ _ _ _ _ _ _ (im_f n) v hrv' (by rw [re_2]; exact hrr) (P_val hcl hP z rfl rfl) (Or.inr ⟨ne', ein, hD'⟩), fun post hp => ⟨1, hstep post 0 (fun w => absurd w (by simp)) (fun _ => hp)⟩, fun post hp => ?_⟩
          exact emit (by simp) (Or.inr (Or.inr ⟨h1, h2, kpn⟩)) post hp
        · have kpn : wk_kp c ch n = false := by
            refine kp_no (fun j a b => ?_)
            have e : j = n := by omega
            rw [e]; exact z
          refine skip ne' re_2 (P_skip hP (fun l hl => en_s2 (fun w => by rw [w, hl] at z; exact absurd z.symm Bool.false_ne_true)) (fun l hl => hn_s2 (fun w => by rw [w, hl] at z; exact absurd z.symm Bool.false_ne_true))) (skipD _ est rfl rfl (nl_s2 z) (by rw [low_s2 z, est])) (Or.inr ⟨by show ¬ (3 : Int32) = 1; decide, by show ¬ (3 : Int32) = 5; decide, h1, h2, kpn⟩)
      have opn : ∀ n q, i = (1, n, 0, q, 0) → 1 ≤ n → n ≤ sc_F c → sc_lf c n = 0 → sc_par c n = g → ∃ (r : Int32) (u' : SX) (v' : SY), i_Rel kk u' v' ∧ (∀ post : Int32 → SX → Prop, post r u' → ∃ n, wX_next_24 post n (nI x1) f_maxFields f_maxLeaves f_maxDepth f_maxCells f_fields f_leaves f_leafMask f_filling f_sealed f_cells f_cellsKept f_records f_level f_chosen f_readRecord f_inRecord f_readLeaf f_readNode f_openDepth f_keepDepth f_eventField f_eventValue a_labels a_parent a_depthOf a_repOf a_lastOf a_columnOf a_reps a_defs a_values a_entries a_entriesKept a_held a_heldKept a_pathField a_pathLast a_pathRep a_readPos a_readValue a_jumpTo a_jumpDepth) ∧ (∀ post : Int32 → SY → Prop, post r v' → ∃ n, wY_next_40 post f_maxFields f_maxLeaves f_maxDepth f_maxCells f_fields f_filling f_sealed g_size g_reading f_chosen g_pos f_eventField f_eventValue a_parent a_labels b_leafBits b_kinds b_logFields b_logValues n (nI (wk_ev H))) := by
        intro n q ei h1 h2 h3 h4
        subst ei
        have cl := tr_chd hT h1 h2
        have pn := tr_par hT h1 h2
        have dn := tr_dp hT h1 h2
        have gn := tr_ge hT h2
        have ln := tr_le hT h2
        have dn7 := hD n h2 h3
        rw [h4] at cl pn
        rw [h4, i3] at dn
        rw [st_1] at hI' gH' hWB fin'
        have ne' : wk_fin c ((1, n, 0, q, 0) :: H) ≠ [] := by rw [fin']; exact List.cons_ne_nil _ _
        have kc2 : wr_kc (1, n, 0, q, 0) = 2 := if_neg (show ¬ n = 0 by omega)
        have hP' : rl_P c ch ((1, n, 0, q, 0) :: H) a_readPos a_readValue := P_skip hP (fun l hl => en_1) (fun l hl => hn_s1 (fun w => by
          have := (hcl l hl).2.2
          rw [← w, h3] at this
          omega))
        rcases Bool.eq_false_or_eq_true (wk_kp c ch n) with z | z
        · have kg := kp_up hT i1 (by omega) cl z
          obtain ⟨q1, q2, q3, q4⟩ := kp_nc hT hcl h2 h3 z
          obtain ⟨a1, a2, a3⟩ := wk_M hT hcl q3 q1 q2 q4 B n 0 (n + 1) q _ hI' hWB gH' (Or.inl rfl) q1
          have ll := low_le (c := c) (ch := ch) B ((n, 0, n + 1, q) :: (g, n, sc_lst c n + 1, r) :: S)
          rw [kd_t z] at ll
          have ll' : wk_low c ch B ((n, 0, n + 1, q) :: (g, n, sc_lst c n + 1, r) :: S) ≤ S.length + 1 := ll
          rw [kd_t kg] at d1 d6
          rw [low_1, st_1, kd_t kg] at d6
          have dk : S.length ≤ k := by omega
          obtain ⟨l1, l2, l3⟩ := hcl _ q3
          have c8 := col_lt l1 l2 l3
          have nlB : wk_nl ch ((1, n, 0, q, 0) :: B) = wk_nc c ch n := by rw [nl_1]; exact a1
          have rl : f_readLeaf = im_f (wk_nc c ch n) := by rw [d3, nlB]
          have npos := nl_en B a1 (by omega)
          have enb : wk_en (wk_nc c ch n) H < wk_en (wk_nc c ch n) R0 := by
            have e1 : wk_en (wk_nc c ch n) (wk_rv B ((1, n, 0, q, 0) :: H)) = wk_en (wk_nc c ch n) ((1, n, 0, q, 0) :: H) + wk_en (wk_nc c ch n) B := ct_rv _ _ _
            rw [hrv', en_1] at e1
            omega
          have e32' := e32 _ l3
          obtain ⟨p1, p2⟩ := hP _ q3
          have cx := (C_nx l3 B ((1, n, 0, q, 0) :: H) CB (by rw [hrv', en_1]; exact enb)).2
          rw [en_1] at cx
          have ndl := nd_le hT l3 B ((1, n, 0, q, 0) :: H) VH
          have d7 := hdp _ l2
          have dnm := tr_dlt hT h2 _ q1 q2
          have an := an_1 hT h2 (t := S.length + 1) (by omega) (by omega) (sc_dep c (wk_nc c ch n)) (wk_nc c ch n) rfl (by omega) q2
          have f16 : sc_F c ≤ 16 := by omega
          have fc : sc_col c (wk_nc c ch n) < 8 := by omega
          have fp : wk_en (wk_nc c ch n) H < 32 := by omega
          have fd : wk_nd (wk_nc c ch n) B ≤ 100 := by omega
          have fm : S.length < min (wk_nd (wk_nc c ch n) B) (sc_dep c (wk_nc c ch n) - 1) := by omega
          have fm2 : min (wk_nd (wk_nc c ch n) B) (sc_dep c (wk_nc c ch n) - 1) < 2 ^ 31 := by omega
          have fk : k < 2 ^ 31 := by omega
          have fl31 : wk_nc c ch n < 2 ^ 31 := by omega
          have fl0 : wk_nc c ch n ≠ 0 := by omega
          have ft : S.length + 1 ≤ 16 := by omega
          refine ⟨2, (f_maxFields, f_maxLeaves, f_maxDepth, f_maxCells, f_fields, f_leaves, f_leafMask, f_filling, f_sealed, f_cells, f_cellsKept, f_records, f_level, f_chosen, f_readRecord, f_inRecord, f_readLeaf, im_f n, nI (S.length + 1), nI (S.length + 1), im_f n, 0, a_labels, a_parent, a_depthOf, a_repOf, a_lastOf, a_columnOf, a_reps, a_defs, a_values, a_entries, a_entriesKept, a_held, a_heldKept, a_pathField, a_pathLast, a_pathRep, a_readPos, a_readValue, a_jumpTo, a_jumpDepth), _, mk _ B _ _ _ _ _ _ _ _ (im_f n) 0 hrv' (by rw [re_1]; exact hrr) hP' (Or.inr ⟨ne', ein, S.length + 1, ?_, ?_, ?_, rfl, by omega, ?_⟩), fun post hp => ⟨1, ?_⟩, fun post hp => ?_⟩
          · rw [fin', kd_t z]
            rfl
          · rw [fin', kn_t z]
          · rw [d3, nl_1]
          · rw [fin', kd_t z]
            show min (S.length + 1) (S.length + 1) = _
            omega
          · refine br_f n512 (br_t ?_ (br_f ?_ ?_))
            · rw [d1, d4]; exact nI_le dk fk
            · rw [rl]
              exact fun w => fl0 ((im_m1 fl31).mp w)
            · refine x_pd (p := wk_en (wk_nc c ch n) H) (δ := wk_nd (wk_nc c ch n) B) hT f16 hA hdp l1 l2 l3 fc rl p1 fp cx fd ?_
              refine br_f (by rw [d1]; exact nI_ge fm fm2) ?_
              refine nm_r (e' := nI (S.length + 1)) (by rw [d1]; exact nI_1 _) ?_
              rw [rl]
              refine x_an (t := S.length + 1) hT f16 ft hdp hA l1 l2 ?_
              rw [an, ← rl]
              exact hp
          · refine emit (by simp) (Or.inr (Or.inr ⟨h1, h2, z⟩)) post ?_
            rw [kc2]
            exact hp
        · refine skip ne' re_1 hP' (skipD _ (st_1 _ _ _ _ _ _ _ _ _) (kd_f z) (kn_f z) nl_1 (by rw [low_1, st_1])) (Or.inr ⟨?_, ?_, h1, h2, z⟩)
          · rw [kc2]; decide
          · rw [kc2]; decide
      rcases hk with ⟨rfl, hq⟩ | ⟨n, v, rfl, e0, h1, h2, h3, h4⟩ | ⟨n, v, rfl, e0, e1, e2, h1, h2, h3, h4⟩ | ⟨n, rfl, e0, h1, h2, h3, h4⟩ | ⟨n, rfl, e0, e1, e2, h1, h2, h3, h4⟩ | ⟨rfl, hq⟩
      · have ne' : wk_fin c ((0, ph, 0, r, S.length) :: H) ≠ [] := by rw [fin', st_0]; exact List.cons_ne_nil _ _
        rcases Bool.eq_false_or_eq_true (ch ph) with z | z
        · obtain ⟨l1, l2, l3⟩ := hcl _ z
          have dl := tr_dlt hT i1 ph i4 hq
          have hmn : min S.length (sc_dep c ph - 1) = S.length := by omega
          obtain ⟨hD', hstep⟩ := ent ph z ⟨Or.inl rfl, rfl⟩ i4 hq (nl_e0 z) (low_e0 z) hmn lc (ph + 1) rfl rfl
          have inc := sm_inc (ch := ch) (fun l => en_mono l (0, ph, 0, r, S.length) H) z l1 en_0 (sc_F c) l2
          have bx : x1 + 1 ≤ sm_c ch ((0, ph, 0, r, S.length) :: H) (sc_F c) := by omega
          obtain ⟨r', u', v', h1, h2, h3⟩ := ih _ _ _ _ (x1 + 1) hrv' ne' (by rw [re_0]; exact hrr) (P_null hcl hP z rfl rfl) hD' bx
          refine ⟨r', u', v', h1, fun post hp => ?_, fun post hp => ?_⟩
          · obtain ⟨m, hm⟩ := h2 post hp
            exact ⟨m + 1, hstep post m (fun _ => hm) (fun w => absurd w (by simp))⟩
          · have := h3 post hp
            rw [ev_0] at this
            exact this
        · exact skip ne' re_0 (P_skip hP (fun l hl => en_s0 (fun w => by rw [w, hl] at z; exact absurd z.symm Bool.false_ne_true)) (fun l hl => hn_0)) (skipD _ (st_0 _ _ _ _ _ _ _ _ _) rfl rfl (nl_s0 z) (by rw [low_s0 z, st_0])) (Or.inl rfl)
      · exact value n v r n (sc_lst c n + 1) rfl h1 h2 h3 h4 rfl rfl
      · exact value n v (sc_rp c n) n (sc_lst c n + 1) rfl h1 h2 h3 h4 rfl rfl
      · exact opn n r rfl h1 h2 h3 h4
      · exact opn n (sc_rp c n) rfl h1 h2 h3 h4
      · rw [st_3] at hI' gH' hWB fin'
        have hP' : rl_P c ch ((3, g, 0, 0, 0) :: H) a_readPos a_readValue := P_skip hP (fun l hl => en_3) (fun l hl => hn_3)
        cases S with
        | nil =>
          obtain ⟨g0, r0⟩ := il
          subst g0
          have kd0 : wk_kd c ch [(0, lc, ph, r)] = 0 := by
            show (if wk_kp c ch 0 = true then 0 else 0) = 0
            rw [ite_self]
          rw [kd0] at d1
          rw [nl_30] at d3
          have fk : k < 2 ^ 31 := by omega
          refine ⟨5, (f_maxFields, f_maxLeaves, f_maxDepth, f_maxCells, f_fields, f_leaves, f_leafMask, f_filling, f_sealed, f_cells, f_cellsKept, f_records, f_level, f_chosen, nI (wk_re ((3, 0, 0, 0, 0) :: H)), 0, f_readLeaf, f_readNode, f_openDepth, f_keepDepth, im_f 0, 0, a_labels, a_parent, a_depthOf, a_repOf, a_lastOf, a_columnOf, a_reps, a_defs, a_values, a_entries, a_entriesKept, a_held, a_heldKept, a_pathField, a_pathLast, a_pathRep, a_readPos, a_readValue, a_jumpTo, a_jumpDepth), _, mk _ B _ _ _ _ _ _ _ _ (im_f 0) 0 hrv' rfl hP' (Or.inl ⟨fin', rfl⟩), fun post hp => ⟨1, ?_⟩, fun post hp => ?_⟩
          · refine br_f n512 (br_t ?_ (br_t d3 ?_))
            · rw [d1, d4]; exact nI_le (Nat.zero_le _) fk
            · refine nm_r (e' := nI (wk_re ((3, 0, 0, 0, 0) :: H))) (by rw [hrr, nI_1, re_30]) ?_
              exact hp
          · exact emit (by simp) (Or.inr (Or.inl rfl)) post hp
        | cons f' S' =>
          obtain ⟨g', lc', ph', r'⟩ := f'
          obtain ⟨k1, k2, k3, k4⟩ := il
          have i1' : g' ≤ sc_F c := iS.1.1
          have i3' : sc_dep c g' = S'.length := iS.1.2.2.1
          have pn := tr_par hT k1 i1
          have cd := tr_chd hT k1 i1
          rw [k2] at pn cd
          have g0 : g ≠ 0 := by omega
          have kc4 : wr_kc (3, g, 0, 0, 0) = 4 := if_neg g0
          have ne' : wk_fin c ((3, g, 0, 0, 0) :: H) ≠ [] := by rw [fin']; exact List.cons_ne_nil _ _
          rcases Bool.eq_false_or_eq_true (wk_kp c ch g) with z | z
          · have kg' := kp_up hT i1' (by omega) cd z
            have ll := low_le (c := c) (ch := ch) B ((g', lc', ph', r') :: S')
            rw [kd_t kg'] at ll
            rw [kd_t z] at d1 d6
            rw [low_3 g0, st_3, kd_t z] at d6
            rw [kn_t z] at d2
            rw [nl_3 g0] at d3
            rw [List.length_cons] at d1 d6
            have dk : k < S'.length + 1 := by omega
            have f1 : g < 2 ^ 31 := by omega
            have f2 : S'.length + 1 < 2 ^ 31 := by
              have : sc_dep c g = S'.length + 1 := i3
              omega
            have hin : vp_in (im_f g) 16 := im_in k1 (by omega) (by decide)
            have cl : (im_f g).toNatClampNeg = g - 1 := im_cl k1 f1
            have pg := hb g k1 i1
            rw [k2] at pg
            refine ⟨4, (f_maxFields, f_maxLeaves, f_maxDepth, f_maxCells, f_fields, f_leaves, f_leafMask, f_filling, f_sealed, f_cells, f_cellsKept, f_records, f_level, f_chosen, f_readRecord, f_inRecord, f_readLeaf, im_f g', nI S'.length, f_keepDepth, im_f g, 0, a_labels, a_parent, a_depthOf, a_repOf, a_lastOf, a_columnOf, a_reps, a_defs, a_values, a_entries, a_entriesKept, a_held, a_heldKept, a_pathField, a_pathLast, a_pathRep, a_readPos, a_readValue, a_jumpTo, a_jumpDepth), _, mk _ B _ _ _ _ _ _ _ _ (im_f g) 0 hrv' (by rw [re_3 g0]; exact hrr) hP' (Or.inr ⟨ne', ein, k, ?_, ?_, d3, d4, d5, ?_⟩), fun post hp => ⟨1, ?_⟩, fun post hp => ?_⟩
            · rw [fin', kd_t kg']
            · rw [fin', kn_t kg']
            · rw [fin', kd_t kg']
              omega
            · refine br_f n512 (br_f ?_ ?_)
              · rw [d1, d4]; exact nI_ge dk f2
              · refine ⟨by rw [d2]; exact hin, nm_r (e' := im_f g') (by rw [d2, cl]; exact pg) (nm_r (e' := nI S'.length) (by rw [d1]; exact nI_pred _) ?_)⟩
                rw [d2]
                exact hp
            · refine emit (by simp) (Or.inr (Or.inr ⟨k1, i1, z⟩)) post ?_
              rw [kc4]
              exact hp
          · refine skip ne' (re_3 g0) hP' (skipD _ (st_3 _ _ _ _ _ _ _ _ _) (kd_f z).symm (kn_f z).symm (nl_3 g0) (by rw [low_3 g0, st_3])) (Or.inr ⟨?_, ?_, k1, i1, z⟩)
            · rw [kc4]; decide
            · rw [kc4]; decide
end
end
section
theorem cl_B {c : sc_T} (h : sc_tr c) : ∀ (B : List wk_I) (g lc ph r : Nat) (S : List wk_Fr), wk_inv c ((g, lc, ph, r) :: S) → wk_W c B ((g, lc, ph, r) :: S) → wk_go c B ((g, lc, ph, r) :: S) = [] → 0 < wk_re B := by
  intro B
  induction B with
  | nil => intro g lc ph r S _ _ hg; exact absurd hg (List.cons_ne_nil _ _)
  | cons i B ih =>
    intro g lc ph r S hi hW hg
    obtain ⟨hk, hW⟩ := hW
    have hi' := wk_is h hi hk
    have hg' : wk_go c B (wk_st c ((g, lc, ph, r) :: S) i) = [] := hg
    obtain ⟨_, il, iS⟩ := hi
    have rc := re_cons i B
    have up : 0 < wk_re B → 0 < wk_re (i :: B) := fun q => by omega
    rcases hk with ⟨rfl, hq⟩ | ⟨n, v, rfl, e0, h1, h2, h3, h4⟩ | ⟨n, v, rfl, e0, e1, e2, h1, h2, h3, h4⟩ | ⟨n, rfl, e0, h1, h2, h3, h4⟩ | ⟨n, rfl, e0, e1, e2, h1, h2, h3, h4⟩ | ⟨rfl, hq⟩
    · rw [st_0] at hi' hW hg'
      exact up (ih _ _ _ _ _ hi' hW hg')
    · rw [st_2] at hi' hW hg'
      exact up (ih _ _ _ _ _ hi' hW hg')
    · rw [st_2] at hi' hW hg'
      exact up (ih _ _ _ _ _ hi' hW hg')
    · rw [st_1] at hi' hW hg'
      exact up (ih _ _ _ _ _ hi' hW hg')
    · rw [st_1] at hi' hW hg'
      exact up (ih _ _ _ _ _ hi' hW hg')
    · rw [st_3] at hi' hW hg'
      cases S with
      | nil =>
        obtain ⟨g0, r0⟩ := il
        subst g0
        rw [re_30]
        omega
      | cons f' S' =>
        obtain ⟨g', lc', ph', r'⟩ := f'
        exact up (ih _ _ _ _ _ hi' hW hg')
theorem i_vc_next {k : Nat} {u : SX} {v : SY} (I : i_Rel k u v) (hk : k + 3 ≤ 1540) : wpX_next (fun r u' => wpY_next (fun r' v' => r' = r ∧ i_Rel (k + 3) u' v') v) u := by
  refine zz_el (P := fun u v => wpX_next (fun r u' => wpY_next (fun r' v' => r' = r ∧ i_Rel (k + 3) u' v') v) u) ?_ I
  intro f_maxFields f_maxLeaves f_maxDepth f_maxCells f_fields f_leaves f_leafMask f_filling f_sealed f_cells f_cellsKept f_records f_level f_chosen f_readRecord f_inRecord f_readLeaf f_readNode f_openDepth f_keepDepth f_eventField f_eventValue a_labels a_parent a_depthOf a_repOf a_lastOf a_columnOf a_reps a_defs a_values a_entries a_entriesKept a_held a_heldKept a_pathField a_pathLast a_pathRep a_readPos a_readValue a_jumpTo a_jumpDepth g_size g_reading g_pos b_leafBits b_kinds b_logFields b_logValues c fill mF mL mD mC sd R R0 ch hS hW hR
  have hR' := hR
  obtain ⟨hcl, hpk, r3, r4⟩ := hR
  rcases r4 with ⟨q1, q2⟩ | ⟨q1, q2, H, B, b1, b2, b3, b4, b5, b6⟩
  · exact br_t q1 (br_t q2 ⟨rfl, zz_in hS hW hR'⟩)
  · have hsd : sd ≠ 0 := fun e => q1 (r3 e)
    have hS' := hS
    have hW' := hW
    obtain ⟨⟨hT, hFl⟩, ⟨y1, y2, y3, y4, m1, m2, m3, m4⟩, ⟨eF, F1, y5, F2, y6, y7, s1, s2⟩, hM, hA, hE, hD⟩ := hS
    obtain ⟨⟨w1, ⟨R1, w2⟩, w3, w4, w5, w6, w7, w8⟩, ⟨y8, n2, y9, y10, el, y11⟩, hC, hL, hPt, hN, hH, hZ⟩ := hW
    have c1 := ct_1 R w1
    have V0 : wk_V c R0 := V_app R1 R0 (w2 ▸ w1)
    have L0 : wr_L b_kinds b_logFields b_logValues R0 := L_app R1 R0 (w2 ▸ hL)
    have ev0 : wk_ev R = wk_ev R1 + wk_ev R0 := by rw [w2]; exact ev_app _ _
    have hdp : ∀ n, n ≤ sc_F c → sc_dep c n ≤ 7 := by
      intro n hn
      rcases Nat.eq_zero_or_pos n with e | e
      · rw [e, tr_d0 hT]; omega
      · have := tr_dp hT e hn
        have p := tr_par hT e hn
        have := hD (sc_par c n) (by omega) (tr_plf hT e hn)
        omega
    have hb : ∀ n, 1 ≤ n → n ≤ sc_F c → a_parent (n - 1) = im_f (sc_par c n) := fun n a b => (hA n a b).2.1
    have VB : wk_V c (wk_rv B H) := by rw [b1]; exact V0
    have LB : wr_L b_kinds b_logFields b_logValues (wk_rv B H) := by rw [b1]; exact L0
    obtain ⟨VH, WB⟩ := (rv_V B H).mp VB
    have gB : wk_go c B (wk_fin c H) = [] := by rw [← rv_fin, b1]; exact w3
    have LH := L_rv B H LB
    have hI := V_inv hT H VH
    have evH := ev_le B H
    rw [b1] at evH
    have rer : wk_re R0 = wk_re H + wk_re B := by rw [← b1]; exact ct_rv _ _ _
    have reR := re_ev R
    have b16 : sc_F c ≤ 16 := by omega
    have b64 : wk_ev R ≤ 64 := by omega
    have bH : wk_ev H ≤ 64 := by omega
    have hrd : ¬ g_reading = 0 := by rw [q2]; decide
    have hY : ∀ {post : Int32 → SY → Prop}, (wk_re B = 0 → post 0 (f_maxFields, f_maxLeaves, f_maxDepth, f_maxCells, f_fields, f_filling, f_sealed, g_size, g_reading, f_chosen, g_pos, f_eventField, f_eventValue, a_parent, a_labels, b_leafBits, b_kinds, b_logFields, b_logValues)) → (wk_re B ≠ 0 → ∃ n, wY_next_40 post f_maxFields f_maxLeaves f_maxDepth f_maxCells f_fields f_filling f_sealed g_size g_reading f_chosen g_pos f_eventField f_eventValue a_parent a_labels b_leafBits b_kinds b_logFields b_logValues n (nI (wk_ev H))) → wpY_next post (f_maxFields, f_maxLeaves, f_maxDepth, f_maxCells, f_fields, f_filling, f_sealed, g_size, g_reading, f_chosen, g_pos, f_eventField, f_eventValue, a_parent, a_labels, b_leafBits, b_kinds, b_logFields, b_logValues) := by
      intro post h0 h1
      refine br_f hrd ?_
      rw [b2, y11]
      refine yk_K LH bH (yk_K hL b64 ?_)
      rw [ck_5 H (V_tag H VH), ck_5 R (V_tag R w1), w6]
      rw [b2, y11] at h0 h1
      by_cases z : wk_re B = 0
      · exact br_t (by rw [rer, z]; rfl) (h0 z)
      · refine br_f (fun q => ?_) (h1 z)
        have q' := (nI_eq (by omega) (by omega)).mp q
        omega
    refine br_f q1 ?_
    rcases b6 with ⟨z1, z2⟩ | ⟨z1, z2, z3⟩
    · refine br_t z2 ?_
      rw [z1] at WB gB hI
      cases B with
      | nil =>
        have e0 : wk_re [] = 0 := rfl
        have eH : H = R0 := b1
        refine br_t (by rw [b3, y10, eH]) (hY (fun _ => ⟨rfl, zz_in hS' hW' hR'⟩) (fun q => absurd e0 q))
      | cons i B =>
        obtain ⟨ok, WB'⟩ := WB
        have ei : i = (1, 0, 0, 0, 0) := ok
        subst ei
        have fin' : wk_fin c ((1, 0, 0, 0, 0) :: H) = [(0, 0, 1, 0)] := by
          show wk_st c (wk_fin c H) _ = _
          rw [z1]
          rfl
        have hI' := wk_is hT hI ok
        rw [st_b] at hI' WB'
        have gB' : wk_go c B [(0, 0, 1, 0)] = [] := gB
        have rp := cl_B hT B 0 0 1 0 [] hI' WB' gB'
        have rp' : wk_re ((1, 0, 0, 0, 0) :: B) ≠ 0 := by rw [re_1]; omega
        rw [re_1] at rer
        -- the first chosen leaf
        have c0 : ch 0 = false := by
          rcases Bool.eq_false_or_eq_true (ch 0) with y | y
          · have := (hcl 0 y).1; omega
          · exact y
        obtain ⟨e1, e2, e3, e4⟩ : 1 ≤ wk_nc c ch 1 ∧ wk_nc c ch 1 ≤ sc_F c ∧ ch (wk_nc c ch 1) = true ∧ ∀ j, 1 ≤ j → j < wk_nc c ch 1 → ch j = false := by
          rcases nc_2 (c := c) (ch := ch) 1 with ⟨y, y'⟩ | y
          · exfalso
            apply q1
            refine b_ext (fun i hi => ?_)
            rw [hpk i hi, b_0]
            rcases Bool.eq_false_or_eq_true (ch (i + 1)) with x | x
            · rw [y' _ (by omega) (hcl _ x).2.1] at x
              exact absurd x Bool.false_ne_true
            · exact x
          · exact y
        have M := wk_M hT hcl (n0 := 0) e3 (by omega) (by rw [tr_l0 hT]; exact e2) (fun j x y => by
          rcases Nat.eq_zero_or_pos j with w | w
          · rw [w]; exact c0
          · exact e4 j w y) B 0 0 1 0 [] hI' WB' gB' (Or.inl rfl) e1
        have kd0 : wk_kd c ch [(0, 0, 1, 0)] = 0 := by
          show (if wk_kp c ch 0 = true then 0 else 0) = 0
          rw [ite_self]
        have kn0 : wk_kn c ch [(0, 0, 1, 0)] = 0 := by
          show (if wk_kp c ch 0 = true then 0 else 0) = 0
          rw [ite_self]
        have lw := low_le (c := c) (ch := ch) B [(0, 0, 1, 0)]
        have blt : wk_ev H < wk_ev R := by
          have := ev_le B ((1, 0, 0, 0, 0) :: H)
          have e : wk_rv B ((1, 0, 0, 0, 0) :: H) = R0 := b1
          rw [e, ev_1] at this
          omega
        refine br_f (fun q => ?_) ?_
        · rw [b3, y10] at q
          have q' := (nI_eq (by omega) (by omega)).mp q
          omega
        · refine x_nc (n := 1) b16 eF hpk (by omega) (by omega) ?_
          unfold wpX_emit
          refine hY (fun q => absurd q rp') (fun _ => ⟨1, ?_⟩)
          obtain ⟨k1, k2, k3⟩ := L_hd LB (by simp)
          refine y_em (i := (1, 0, 0, 0, 0)) hT b16 hdp eF hpk hb y11 b64 blt k1 k2 k3 (Or.inl rfl) ⟨rfl, ?_⟩
          rw [← ev_1 (n := 0) (v := 0) (q := 0) (d := 0)]
          refine zz_in hS' hW' ⟨hcl, hpk, r3, Or.inr ⟨q1, q2, (1, 0, 0, 0, 0) :: H, B, b1, rfl, by rw [re_1]; exact b3, b4, ?_, Or.inr ⟨by rw [fin']; exact List.cons_ne_nil _ _, rfl, 0, ?_, ?_, ?_, rfl, by omega, ?_⟩⟩⟩
          · intro l hl
            rw [en_1, hn_s1 (by have := (hcl l hl).1; omega)]
            exact b5 l hl
          · rw [fin', kd0]; rfl
          · rw [fin', kn0]; rfl
          · rw [M.1]
          · rw [fin', kd0]
            omega
    · refine br_f (by rw [z2]; decide) ?_
      have rp : wk_re B ≠ 0 := by
        rcases hf : wk_fin c H with _ | ⟨⟨g, lc, ph, r⟩, S⟩
        · exact absurd hf z1
        · rw [hf] at WB gB hI
          have := cl_B hT B g lc ph r S hI WB gB
          omega
      obtain ⟨r', u', v', h1, h2, h3⟩ := nx_L (kk := k + 3) (g_pos := g_pos) (f_eventField := f_eventField) (f_eventValue := f_eventValue) hS' hW' hcl hpk q1 hsd b4 q2 z2 B H a_readPos f_readLeaf f_keepDepth 0 b1 z1 b3 b5 z3 (Nat.zero_le _)
      refine h2 _ ?_
      exact hY (fun q => absurd q rp) (fun _ => h3 _ ⟨rfl, h1⟩)
end
