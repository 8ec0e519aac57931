section
/-! rows of the kit's PURE-ROWS, pasted -/
theorem pk_us {f : Nat → Int32} {k : Nat} {x : Int32} : upd f k x k = x := if_pos rfl
theorem pk_un {f : Nat → Int32} {k j : Nat} {x : Int32} (h : j ≠ k) : upd f k x j = f j := if_neg h
theorem pk_sub {a b : Nat} (h : b ≤ a) : nI a - nI b = nI (a - b) := by
  obtain ⟨c, rfl⟩ : ∃ c, a = c + b := ⟨a - b, by omega⟩
  rw [← nI_add, Int32.add_sub_cancel, Nat.add_sub_cancel]
theorem pk_m1 (n : Nat) : nI (n + 1) + (-1) = nI n := by
  rw [← nI_1, Int32.add_assoc, show (1 : Int32) + (-1) = 0 from rfl, Int32.add_zero]
theorem pk_mul (a b : Nat) : nI a * nI b = nI (a * b) := (Int32.ofNat_mul a b).symm
theorem pk_div {a d : Nat} (ha : a < 2 ^ 31) (h0 : 0 < d) (hd : d < 2 ^ 31) : nI a / nI d = nI (a / d) := by
  apply Int32.toInt_inj.mp
  rw [lg_idiv_nonneg (by rw [nI_toInt ha]; omega) (by rw [nI_toInt hd]; omega), nI_toInt ha, nI_toInt hd, nI_toInt (Nat.lt_of_le_of_lt (Nat.div_le_self a d) ha)]
  first | rfl | exact (Int.natCast_ediv _ _).symm
theorem pk_rem {a d : Nat} (ha : a < 2 ^ 31) (h0 : 0 < d) (hd : d < 2 ^ 31) : nI a - nI a / nI d * nI d = nI (a % d) := by
  rw [pk_div ha h0 hd, pk_mul, pk_sub (Nat.div_mul_le_self a d)]
  exact congrArg nI (by have := Nat.div_add_mod' a d; omega)
theorem pk_sub_toInt {a b : Nat} (ha : a < 2 ^ 30) (hb : b < 2 ^ 30) : (nI a - nI b).toInt = (a : Int) - b := by
  rw [Int32.toInt_sub, nI_toInt (by omega), nI_toInt (by omega)]
  exact Int.bmod_eq_of_le (by omega) (by omega)
theorem pk_sneg {a b : Nat} (hb : b < 2 ^ 30) (h : a < b) : nI a - nI b < 0 := by
  rw [Int32.lt_iff_toInt_lt, pk_sub_toInt (by omega) hb, show (0 : Int32).toInt = 0 from by decide]
  omega
theorem pk_ix (x : Int32) {n : Nat} (hn : n < 2 ^ 31) : x < 0 ∨ nI n ≤ x ∨ ∃ j : Nat, j < n ∧ x = nI j := by
  by_cases h : x < 0
  · exact Or.inl h
  · obtain ⟨j, hj, rfl⟩ := nI_of h
    by_cases h2 : j < n
    · exact Or.inr (Or.inr ⟨j, h2, rfl⟩)
    · exact Or.inr (Or.inl (nI_le (by omega) hj))
theorem pk_le {x y : Int32} {A B : Prop} (a b : Nat) (f : a ≤ b → A) (g : b < a → B) (hx : x = nI a := by rfl) (hy : y = nI b := by rfl) (ha : a < 2 ^ 31 := by omega) (hb : b < 2 ^ 31 := by omega) : (x ≤ y → A) ∧ (¬ x ≤ y → B) := by
  subst hx hy
  rw [nI_leI ha hb]
  exact ⟨f, fun z => g (by omega)⟩
theorem pk_lt {x y : Int32} {A B : Prop} (a b : Nat) (f : a < b → A) (g : b ≤ a → B) (hx : x = nI a := by rfl) (hy : y = nI b := by rfl) (ha : a < 2 ^ 31 := by omega) (hb : b < 2 ^ 31 := by omega) : (x < y → A) ∧ (¬ x < y → B) := by
  subst hx hy
  rw [nI_ltI ha hb]
  exact ⟨f, fun z => g (by omega)⟩
theorem pk_eq {x y : Int32} {A B : Prop} (a b : Nat) (f : a = b → A) (g : a ≠ b → B) (hx : x = nI a := by rfl) (hy : y = nI b := by rfl) (ha : a < 2 ^ 31 := by omega) (hb : b < 2 ^ 31 := by omega) : (x = y → A) ∧ (¬ x = y → B) := by
  subst hx hy
  rw [nI_eq ha hb]
  exact ⟨f, g⟩
theorem pk_in {x : Int32} (n N : Nat) (h : n < N) (hx : x = nI n := by rfl) (hN : N < 2 ^ 31 := by omega) : vp_in x N := by
  subst hx
  exact vp_in_nI h hN
theorem pk_cl {x : Int32} (n : Nat) (hx : x = nI n := by rfl) (h : n < 2 ^ 31 := by omega) : x.toNatClampNeg = n := by
  subst hx
  exact nI_clamp h
theorem pk_tn {n : Nat} (h : n < 2 ^ 32) : (nI n).toBitVec.toNat = n := Nat.mod_eq_of_lt h
theorem pk_and (x : Int32) {m : Int32} (k : Nat) (hm : m.toBitVec.toNat = 2 ^ k - 1) : x &&& m = nI (x.toBitVec.toNat % 2 ^ k) := by
  apply Int32.toBitVec_inj.mp
  apply BitVec.eq_of_toNat_eq
  rw [Int32.toBitVec_and, BitVec.toNat_and, hm, Nat.and_two_pow_sub_one_eq_mod]
  show _ = (BitVec.ofNat 32 _).toNat
  rw [BitVec.toNat_ofNat]
  exact (Nat.mod_eq_of_lt (Nat.lt_of_le_of_lt (Nat.mod_le _ _) x.toBitVec.isLt)).symm
theorem pk_andN {n : Nat} (h : n < 2 ^ 32) {m : Int32} (k : Nat) (hm : m.toBitVec.toNat = 2 ^ k - 1) : nI n &&& m = nI (n % 2 ^ k) := by
  rw [pk_and _ k hm, pk_tn h]
theorem pk_shr (a s : Int32) (k : Nat) (hs : (s.toBitVec.smod 32).toNat = k) : (a >>> s).toInt = a.toInt >>> k := by
  show (a.toBitVec.sshiftRight (s.toBitVec.smod 32).toNat).toInt = _
  rw [hs, BitVec.toInt_sshiftRight]
  rfl
theorem pk_shrN {n : Nat} (h : n < 2 ^ 31) (s : Int32) (k : Nat) (hs : (s.toBitVec.smod 32).toNat = k) : nI n >>> s = nI (n / 2 ^ k) := by
  apply Int32.toInt_inj.mp
  have h2 : n / 2 ^ k ≤ n := Nat.div_le_self _ _
  rw [pk_shr _ _ k hs, nI_toInt h, nI_toInt (by omega), Int.shiftRight_eq_div_pow]
  rfl
end
section
section KTA
/-! the trees' numbers: leaves, first place, a node's places, a subtree's nodes -/
def kt_lv (t : Nat) : Nat := 2 * 2 ^ t
def kt_ba (t : Nat) : Nat := 8 * 2 ^ t - 8
def kt_hg (t n : Nat) : Nat := t + 1 - Nat.log2 n
def kt_ln (t n : Nat) : Nat := 4 * 2 ^ kt_hg t n
def kt_lo (t n : Nat) : Nat := kt_ba t + 4 * (n * 2 ^ kt_hg t n - kt_lv t)
def kt_sb (t n : Nat) : Nat := 2 * 2 ^ kt_hg t n - 1
theorem kt_inner1 : ∀ t, t < 4 → ∀ n, n < 32 → 1 ≤ n → n < kt_lv t → (kt_lo t (2 * n) = kt_lo t n ∧ kt_lo t (2 * n + 1) = kt_lo t n + kt_ln t (2 * n)) := by decide +kernel
theorem kt_inner2 : ∀ t, t < 4 → ∀ n, n < 32 → 1 ≤ n → n < kt_lv t → (kt_ln t n = kt_ln t (2 * n) + kt_ln t (2 * n + 1) ∧ kt_sb t n = 1 + kt_sb t (2 * n) + kt_sb t (2 * n + 1)) := by decide +kernel
theorem kt_leaf0 : ∀ t, t < 4 → ∀ n, n < 32 → kt_lv t ≤ n → n < 2 * kt_lv t → (kt_ln t n = 4 ∧ kt_lo t n = kt_ba t + 4 * (n - kt_lv t)) := by decide +kernel
theorem kt_root : ∀ t, t < 4 → (kt_lo t 1 = kt_ba t ∧ kt_ln t 1 = 8 * 2 ^ t ∧ kt_sb t 1 ≤ 31) := by decide +kernel
theorem kt_bd0 : ∀ t, t < 4 → ∀ n, n < 32 → 1 ≤ n → n < 2 * kt_lv t → (kt_ba t ≤ kt_lo t n ∧ kt_lo t n + kt_ln t n ≤ kt_ba t + 8 * 2 ^ t ∧ 1 ≤ kt_sb t n) := by decide +kernel
theorem kt_lv16 : ∀ t, t < 4 → (2 ≤ kt_lv t ∧ kt_lv t ≤ 16 ∧ kt_ba t + 8 * 2 ^ t ≤ 120 ∧ 8 * 2 ^ t = 4 * kt_lv t) := by decide +kernel
theorem kt_inner {t n : Nat} (ht : t < 4) (h1 : 1 ≤ n) (h2 : n < kt_lv t) : kt_lo t (2 * n) = kt_lo t n ∧ kt_lo t (2 * n + 1) = kt_lo t n + kt_ln t (2 * n) ∧ kt_ln t n = kt_ln t (2 * n) + kt_ln t (2 * n + 1) ∧ kt_sb t n = 1 + kt_sb t (2 * n) + kt_sb t (2 * n + 1) := by
  have := kt_lv16 t ht
  have a := kt_inner1 t ht n (by omega) h1 h2
  have b := kt_inner2 t ht n (by omega) h1 h2
  exact ⟨a.1, a.2, b.1, b.2⟩
theorem kt_leaf {t n : Nat} (ht : t < 4) (h1 : kt_lv t ≤ n) (h2 : n < 2 * kt_lv t) : kt_ln t n = 4 ∧ kt_lo t n = kt_ba t + 4 * (n - kt_lv t) := by
  have := kt_lv16 t ht
  exact kt_leaf0 t ht n (by omega) h1 h2
theorem kt_bd {t n : Nat} (ht : t < 4) (h1 : 1 ≤ n) (h2 : n < 2 * kt_lv t) : kt_ba t ≤ kt_lo t n ∧ kt_lo t n + kt_ln t n ≤ kt_ba t + 8 * 2 ^ t ∧ 1 ≤ kt_sb t n := by
  have := kt_lv16 t ht
  exact kt_bd0 t ht n (by omega) h1 h2
/-- place k lies in tree t -/
def kt_in (t k : Nat) : Prop := kt_ba t ≤ k ∧ k < kt_ba t + 8 * 2 ^ t
theorem kt_ba4 : kt_ba 0 = 0 ∧ kt_ba 1 = 8 ∧ kt_ba 2 = 24 ∧ kt_ba 3 = 56 := by decide
theorem kt_t4 {t : Nat} (ht : t < 4) : t = 0 ∨ t = 1 ∨ t = 2 ∨ t = 3 := by omega
theorem kt_in_eq {t t' k : Nat} (ht : t < 4) (ht' : t' < 4) (h : kt_in t k) (h' : kt_in t' k) : t = t' := by
  obtain ⟨b0, b1, b2, b3⟩ := kt_ba4
  unfold kt_in at h h'
  rcases kt_t4 ht with rfl | rfl | rfl | rfl <;> rcases kt_t4 ht' with rfl | rfl | rfl | rfl <;> simp only [b0, b1, b2, b3] at h h' <;> omega
theorem kt_in_120 {t k : Nat} (ht : t < 4) (h : kt_in t k) : k < 120 := by
  have := kt_lv16 t ht
  unfold kt_in at h
  omega
/-- the first places rise with the trees -/
theorem kt_in_le {t k j : Nat} (ht : t < 4) (hj : j < 4) (h : kt_in t k) : kt_ba j ≤ k ↔ j ≤ t := by
  obtain ⟨b0, b1, b2, b3⟩ := kt_ba4
  unfold kt_in at h
  rcases kt_t4 ht with rfl | rfl | rfl | rfl <;> rcases kt_t4 hj with rfl | rfl | rfl | rfl <;> simp only [b0, b1, b2, b3] at h ⊢ <;> omega
def kt_ancB (t q n : Nat) : Bool := !(decide (q < kt_lv t) && decide (1 ≤ n) && decide (n < 2 * kt_lv t) && decide (kt_lo t n ≤ kt_ba t + 4 * q) && decide (kt_ba t + 4 * q < kt_lo t n + kt_ln t n)) || decide (n = (kt_lv t + q) / 2 ^ kt_hg t n)
theorem kt_anc0 : ∀ t, t < 4 → ∀ q, q < 16 → ∀ n, n < 32 → kt_ancB t q n = true := by decide +kernel
/-- the nodes over a place are its leaf's halves -/
theorem kt_anc {t k n : Nat} (ht : t < 4) (hk : kt_in t k) (h1 : 1 ≤ n) (h2 : n < 2 * kt_lv t) (h3 : kt_lo t n ≤ k) (h4 : k < kt_lo t n + kt_ln t n) : n = (kt_lv t + (k - kt_ba t) / 4) / 2 ^ kt_hg t n := by
  have h := kt_lv16 t ht
  unfold kt_in at hk
  obtain ⟨X, e1⟩ : ∃ X, kt_lo t n = kt_ba t + 4 * X := ⟨_, rfl⟩
  obtain ⟨Y, e2⟩ : ∃ Y, kt_ln t n = 4 * Y := ⟨_, rfl⟩
  have := kt_anc0 t ht ((k - kt_ba t) / 4) (by omega) n (by omega)
  have a1 : (k - kt_ba t) / 4 < kt_lv t := by omega
  have a4 : kt_lo t n ≤ kt_ba t + 4 * ((k - kt_ba t) / 4) := by omega
  have a5 : kt_ba t + 4 * ((k - kt_ba t) / 4) < kt_lo t n + kt_ln t n := by omega
  unfold kt_ancB at this
  simp only [a1, h1, h2, a4, a5, decide_true, Bool.and_self, Bool.not_true, Bool.false_or, decide_eq_true_eq] at this
  exact this
theorem kt_anc2 {l a b : Nat} (h1 : l / 2 ^ a / 2 < l / 2 ^ b) (h2 : l / 2 ^ b < l / 2 ^ a) : False := by
  rcases Nat.lt_or_ge a b with h | h
  · have e : 2 ^ b = 2 ^ (a + 1) * 2 ^ (b - (a + 1)) := by rw [← Nat.pow_add]; congr 1; omega
    have h3 : l / 2 ^ b ≤ l / 2 ^ (a + 1) := Nat.div_le_div_left (by rw [e]; exact Nat.le_mul_of_pos_right _ (Nat.two_pow_pos _)) (Nat.two_pow_pos _)
    have e2 : l / 2 ^ a / 2 = l / 2 ^ (a + 1) := by rw [Nat.div_div_eq_div_mul, Nat.pow_succ]
    omega
  · have h3 : l / 2 ^ a ≤ l / 2 ^ b := Nat.div_le_div_left (Nat.pow_le_pow_right (by decide) h) (Nat.two_pow_pos _)
    omega
/-- spans: node n of a tree over g gathered ones -/
def kt_sp (g : Nat) : Nat → Nat → Nat × Nat
  | 0, _ => (0, g)
  | f + 1, n => if n ≤ 1 then (0, g) else if n % 2 = 0 then ((kt_sp g f (n / 2)).1, ((kt_sp g f (n / 2)).1 + (kt_sp g f (n / 2)).2) / 2) else (((kt_sp g f (n / 2)).1 + (kt_sp g f (n / 2)).2) / 2, (kt_sp g f (n / 2)).2)
theorem kt_sp_e (g f n : Nat) : kt_sp g (f + 1) n = if n ≤ 1 then (0, g) else if n % 2 = 0 then ((kt_sp g f (n / 2)).1, ((kt_sp g f (n / 2)).1 + (kt_sp g f (n / 2)).2) / 2) else (((kt_sp g f (n / 2)).1 + (kt_sp g f (n / 2)).2) / 2, (kt_sp g f (n / 2)).2) := rfl
theorem kt_sp_s (g : Nat) : ∀ f n, n < 2 ^ f → kt_sp g (f + 1) n = kt_sp g f n := by
  intro f
  induction f with
  | zero =>
    intro n hn
    have : n ≤ 1 := by omega
    simp only [kt_sp, this, if_true]
  | succ f ih =>
    intro n hn
    have e := ih (n / 2) (by rw [Nat.pow_succ] at hn; omega)
    rw [kt_sp_e g (f + 1) n, kt_sp_e g f n, e]
def kt_sf (g n : Nat) : Nat := (kt_sp g 6 n).1
def kt_st (g n : Nat) : Nat := (kt_sp g 6 n).2
theorem kt_sp1 (g : Nat) : kt_sf g 1 = 0 ∧ kt_st g 1 = g := ⟨rfl, rfl⟩
theorem kt_spE (g : Nat) {n : Nat} (h1 : 1 ≤ n) (h2 : n < 32) : kt_sf g (2 * n) = kt_sf g n ∧ kt_st g (2 * n) = (kt_sf g n + kt_st g n) / 2 ∧ kt_sf g (2 * n + 1) = (kt_sf g n + kt_st g n) / 2 ∧ kt_st g (2 * n + 1) = kt_st g n := by
  have e : kt_sp g 6 n = kt_sp g 5 n := kt_sp_s g 5 n (by omega)
  have a1 : ¬ 2 * n ≤ 1 := by omega
  have a2 : 2 * n % 2 = 0 := by omega
  have a3 : 2 * n / 2 = n := by omega
  have b1 : ¬ 2 * n + 1 ≤ 1 := by omega
  have b2 : ¬ (2 * n + 1) % 2 = 0 := by omega
  have b3 : (2 * n + 1) / 2 = n := by omega
  have c1 : kt_sp g 6 (2 * n) = ((kt_sp g 5 n).1, ((kt_sp g 5 n).1 + (kt_sp g 5 n).2) / 2) := by
    rw [kt_sp_e g 5, if_neg a1, if_pos a2, a3]
  have c2 : kt_sp g 6 (2 * n + 1) = (((kt_sp g 5 n).1 + (kt_sp g 5 n).2) / 2, (kt_sp g 5 n).2) := by
    rw [kt_sp_e g 5, if_neg b1, if_neg b2, b3]
  unfold kt_sf kt_st
  rw [c1, c2, e]
  exact ⟨rfl, rfl, rfl, rfl⟩
theorem kt_spB (g : Nat) : ∀ f n, (kt_sp g f n).1 ≤ (kt_sp g f n).2 ∧ (kt_sp g f n).2 ≤ g := by
  intro f
  induction f with
  | zero => intro n; exact ⟨Nat.zero_le _, Nat.le_refl _⟩
  | succ f ih =>
    intro n
    have h := ih (n / 2)
    rw [kt_sp_e]
    by_cases h1 : n ≤ 1
    · rw [if_pos h1]; exact ⟨Nat.zero_le _, Nat.le_refl _⟩
    · rw [if_neg h1]
      by_cases h2 : n % 2 = 0
      · rw [if_pos h2]; dsimp only; omega
      · rw [if_neg h2]; dsimp only; omega
theorem kt_spb (g n : Nat) : kt_sf g n ≤ kt_st g n ∧ kt_st g n ≤ g := kt_spB g 6 n
def kt_spLB (t g j : Nat) : Bool := !(decide (g ≤ 8 * 2 ^ t) && decide (j < kt_lv t)) || (decide (kt_st g (kt_lv t + j) ≤ kt_sf g (kt_lv t + j) + 4) && (!decide (j + 1 < kt_lv t) || decide (kt_st g (kt_lv t + j) = kt_sf g (kt_lv t + j + 1))) && (!decide (j + 1 = kt_lv t) || decide (kt_st g (kt_lv t + j) = g)) && (!decide (j = 0) || decide (kt_sf g (kt_lv t + j) = 0)))
theorem kt_spL0 : ∀ t, t < 4 → ∀ g, g < 65 → ∀ j, j < 16 → kt_spLB t g j = true := by decide +kernel
theorem kt_spL1 {t g j : Nat} (ht : t < 4) (hg : g ≤ 8 * 2 ^ t) (hg2 : g < 65) (hj : j < 16) (h : j < kt_lv t) : kt_st g (kt_lv t + j) ≤ kt_sf g (kt_lv t + j) + 4 ∧ (j + 1 < kt_lv t → kt_st g (kt_lv t + j) = kt_sf g (kt_lv t + j + 1)) ∧ (j + 1 = kt_lv t → kt_st g (kt_lv t + j) = g) ∧ (j = 0 → kt_sf g (kt_lv t + j) = 0) := by
  have := kt_spL0 t ht g hg2 j hj
  unfold kt_spLB at this
  simp only [hg, h, decide_true, Bool.and_self, Bool.not_true, Bool.false_or, Bool.and_eq_true, decide_eq_true_eq] at this
  obtain ⟨⟨⟨q1, q2⟩, q3⟩, q4⟩ := this
  refine ⟨q1, fun z => ?_, fun z => ?_, fun z => ?_⟩
  · simp only [z, decide_true, Bool.not_true, Bool.false_or, decide_eq_true_eq] at q2; exact q2
  · simp only [z, decide_true, Bool.not_true, Bool.false_or, decide_eq_true_eq] at q3; exact q3
  · simp only [z, decide_true, Bool.not_true, Bool.false_or, decide_eq_true_eq] at q4; rw [z]; exact q4
/-- leaves: at most four a leaf, one behind another -/
theorem kt_spL {t g n : Nat} (ht : t < 4) (hg : g ≤ 8 * 2 ^ t) (h1 : kt_lv t ≤ n) (h2 : n < 2 * kt_lv t) : kt_st g n ≤ kt_sf g n + 4 ∧ (n + 1 < 2 * kt_lv t → kt_st g n = kt_sf g (n + 1)) ∧ (n + 1 = 2 * kt_lv t → kt_st g n = g) ∧ (n = kt_lv t → kt_sf g n = 0) := by
  have h := kt_lv16 t ht
  obtain ⟨j, rfl⟩ : ∃ j, n = kt_lv t + j := ⟨n - kt_lv t, by omega⟩
  obtain ⟨q1, q2, q3, q4⟩ := kt_spL1 (t := t) (g := g) (j := j) ht hg (by omega) (by omega) (by omega)
  exact ⟨q1, fun z => q2 (by omega), fun z => q3 (by omega), fun z => q4 (by omega)⟩
end KTA
end
section
section KTB
/-! lists of slots -/
theorem kt_uu (f : Nat → Int32) (k : Nat) (x y : Int32) : upd (upd f k x) k y = upd f k y := by
  funext j
  unfold upd
  by_cases h : j = k
  · rw [if_pos h, if_pos h]
  · rw [if_neg h, if_neg h, if_neg h]
theorem kt_self (f : Nat → Int32) (k : Nat) : upd f k (f k) = f := by
  funext j
  unfold upd
  by_cases h : j = k
  · rw [if_pos h, h]
  · rw [if_neg h]
def kt_sl (f : Nat → Int32) (k : Nat) : Option Nat := if f k < 0 then none else some (f k).toNatClampNeg
/-- the slots in places a .. a + m - 1 -/
def kt_sg (f : Nat → Int32) (a m : Nat) : List Nat := (List.range' a m).filterMap (kt_sl f)
theorem kt_sg_app (f : Nat → Int32) (a m n : Nat) : kt_sg f a (m + n) = kt_sg f a m ++ kt_sg f (a + m) n := by
  unfold kt_sg
  rw [← List.range'_append_1, List.filterMap_append]
theorem kt_sg_0 (f : Nat → Int32) (a : Nat) : kt_sg f a 0 = [] := rfl
theorem kt_sg_1n {f : Nat → Int32} {a : Nat} (h : f a < 0) : kt_sg f a 1 = [] := by
  have e : kt_sl f a = none := if_pos h
  show (List.range' a 1).filterMap (kt_sl f) = []
  rw [show List.range' a 1 = [a] from rfl, List.filterMap_cons_none e]
  rfl
theorem kt_sg_1s {f : Nat → Int32} {a s : Nat} (h : f a = nI s) (hs : s < 2 ^ 31) : kt_sg f a 1 = [s] := by
  have e : kt_sl f a = some s := by
    unfold kt_sl
    rw [h, if_neg (nI_pos hs), nI_clamp hs]
  show (List.range' a 1).filterMap (kt_sl f) = [s]
  rw [show List.range' a 1 = [a] from rfl, List.filterMap_cons_some e]
  rfl
theorem kt_sg_mem {f : Nat → Int32} {a m s : Nat} : s ∈ kt_sg f a m ↔ ∃ k, a ≤ k ∧ k < a + m ∧ ¬ f k < 0 ∧ (f k).toNatClampNeg = s := by
  unfold kt_sg
  rw [List.mem_filterMap]
  constructor
  · rintro ⟨k, hk, e⟩
    rw [List.mem_range'_1] at hk
    unfold kt_sl at e
    by_cases h : f k < 0
    · rw [if_pos h] at e; cases e
    · rw [if_neg h] at e
      exact ⟨k, hk.1, hk.2, h, Option.some.inj e⟩
  · rintro ⟨k, h1, h2, h3, h4⟩
    refine ⟨k, List.mem_range'_1.mpr ⟨h1, h2⟩, ?_⟩
    unfold kt_sl
    rw [if_neg h3, h4]
theorem kt_fm_congr {f g : Nat → Option Nat} : ∀ {l : List Nat}, (∀ x, x ∈ l → f x = g x) → l.filterMap f = l.filterMap g
  | [], _ => rfl
  | a :: l, h => by
    rw [List.filterMap_cons, List.filterMap_cons, h a List.mem_cons_self, kt_fm_congr (l := l) (fun x hx => h x (List.mem_cons_of_mem _ hx))]
theorem kt_sg_congr {f g : Nat → Int32} {a m : Nat} (h : ∀ k, a ≤ k → k < a + m → f k = g k) : kt_sg f a m = kt_sg g a m := by
  unfold kt_sg
  apply kt_fm_congr
  intro k hk
  rw [List.mem_range'_1] at hk
  unfold kt_sl
  rw [h k hk.1 hk.2]
theorem kt_sg_len (f : Nat → Int32) (a m : Nat) : (kt_sg f a m).length ≤ m := by
  have h := List.length_filterMap_le (kt_sl f) (List.range' a m)
  rw [List.length_range'] at h
  exact h
/-- the sum of a list's weights -/
def kt_sm (h : Nat → Int32) : List Nat → Int32
  | [] => 0
  | s :: l => h s + kt_sm h l
theorem kt_sm_app (h : Nat → Int32) (l m : List Nat) : kt_sm h (l ++ m) = kt_sm h l + kt_sm h m := by
  induction l with
  | nil => show kt_sm h m = 0 + kt_sm h m; rw [Int32.zero_add]
  | cons s l ih => show h s + kt_sm h (l ++ m) = h s + kt_sm h l + kt_sm h m; rw [ih, Int32.add_assoc]
theorem kt_sm_perm (h : Nat → Int32) {l m : List Nat} (p : l.Perm m) : kt_sm h l = kt_sm h m := by
  induction p with
  | nil => rfl
  | cons x _ ih => show h x + _ = h x + _; rw [ih]
  | swap x y l => show h y + (h x + kt_sm h l) = h x + (h y + kt_sm h l); rw [← Int32.add_assoc, ← Int32.add_assoc, Int32.add_comm (h y)]
  | trans _ _ i1 i2 => rw [i1, i2]
theorem kt_sm_congr {h h' : Nat → Int32} {l : List Nat} (e : ∀ s, s ∈ l → h s = h' s) : kt_sm h l = kt_sm h' l := by
  induction l with
  | nil => rfl
  | cons s l ih =>
    show h s + kt_sm h l = h' s + kt_sm h' l
    rw [e s List.mem_cons_self, ih (fun z hz => e z (List.mem_cons_of_mem _ hz))]
theorem kt_sm_map (h : Nat → Int32) (g : Nat → Nat) (l : List Nat) : kt_sm h (l.map g) = kt_sm (fun s => h (g s)) l := by
  induction l with
  | nil => rfl
  | cons s l ih => show h (g s) + kt_sm h (l.map g) = _; rw [ih]; rfl
theorem kt_sm_1 (h : Nat → Int32) (s : Nat) : kt_sm h [s] = h s := Int32.add_zero _
/-- a map that is one to one on a list keeps it free of doubles -/
theorem kt_nd_map {g : Nat → Nat} {l : List Nat} (hl : l.Nodup) (hg : ∀ a b, a ∈ l → b ∈ l → g a = g b → a = b) : (l.map g).Nodup := by
  unfold List.Nodup at *
  rw [List.pairwise_map]
  exact List.Pairwise.imp_of_mem (fun {a b} ha hb hab e => hab (hg a b ha hb e)) hl
/-- the buffer's slots -/
def kt_bl (buf : Nat → Int32) (B : Nat) : List Nat := (List.range B).map (fun i => (buf i).toNatClampNeg)
/-- tree t's slots -/
def kt_tl (fil leaf : Nat → Int32) (t : Nat) : List Nat := if fil t = 0 then [] else kt_sg leaf (kt_ba t) (8 * 2 ^ t)
/-- the slots of the trees below n -/
def kt_ts (fil leaf : Nat → Int32) : Nat → List Nat
  | 0 => []
  | n + 1 => kt_ts fil leaf n ++ kt_tl fil leaf n
/-- all slots that stand somewhere -/
def kt_al (buf fil leaf : Nat → Int32) (B : Nat) : List Nat := kt_bl buf B ++ kt_ts fil leaf 4
theorem kt_bl_s (buf : Nat → Int32) (B : Nat) : kt_bl buf (B + 1) = kt_bl buf B ++ [(buf B).toNatClampNeg] := by
  unfold kt_bl
  rw [List.range_succ, List.map_append]
  rfl
theorem kt_bl_mem {buf : Nat → Int32} {B s : Nat} : s ∈ kt_bl buf B ↔ ∃ i, i < B ∧ (buf i).toNatClampNeg = s := by
  unfold kt_bl
  rw [List.mem_map]
  constructor
  · rintro ⟨i, hi, e⟩; exact ⟨i, List.mem_range.mp hi, e⟩
  · rintro ⟨i, hi, e⟩; exact ⟨i, List.mem_range.mpr hi, e⟩
theorem kt_tl_mem {fil leaf : Nat → Int32} {t s : Nat} : s ∈ kt_tl fil leaf t ↔ ¬ fil t = 0 ∧ ∃ k, kt_in t k ∧ ¬ leaf k < 0 ∧ (leaf k).toNatClampNeg = s := by
  unfold kt_tl kt_in
  by_cases h : fil t = 0
  · rw [if_pos h]
    constructor
    · intro z; cases z
    · intro z; exact absurd h z.1
  · rw [if_neg h, kt_sg_mem]
    constructor
    · rintro ⟨k, h1, h2, h3, h4⟩; exact ⟨h, k, ⟨h1, h2⟩, h3, h4⟩
    · rintro ⟨_, k, ⟨h1, h2⟩, h3, h4⟩; exact ⟨k, h1, h2, h3, h4⟩
theorem kt_ts_mem {fil leaf : Nat → Int32} {s : Nat} : ∀ n, s ∈ kt_ts fil leaf n ↔ ∃ t, t < n ∧ s ∈ kt_tl fil leaf t := by
  intro n
  induction n with
  | zero =>
    constructor
    · intro z; cases z
    · rintro ⟨t, h, _⟩; omega
  | succ n ih =>
    show s ∈ kt_ts fil leaf n ++ kt_tl fil leaf n ↔ _
    rw [List.mem_append, ih]
    constructor
    · rintro (⟨t, h, h1⟩ | h)
      · exact ⟨t, by omega, h1⟩
      · exact ⟨n, by omega, h⟩
    · rintro ⟨t, h, h1⟩
      by_cases e : t = n
      · subst e; exact Or.inr h1
      · exact Or.inl ⟨t, by omega, h1⟩
theorem kt_nodup_sg {f : Nat → Int32} {a m : Nat} (h : ∀ j k, a ≤ j → j < a + m → a ≤ k → k < a + m → ¬ f j < 0 → ¬ f k < 0 → (f j).toNatClampNeg = (f k).toNatClampNeg → j = k) : (kt_sg f a m).Nodup := by
  unfold kt_sg List.Nodup
  rw [List.pairwise_filterMap]
  refine List.Pairwise.imp_of_mem ?_ (List.nodup_range' (s := a) (n := m))
  intro j k hj hk hne b hb b' hb' e
  rw [List.mem_range'_1] at hj hk
  unfold kt_sl at hb hb'
  by_cases h1 : f j < 0
  · rw [if_pos h1] at hb; cases hb
  · by_cases h2 : f k < 0
    · rw [if_pos h2] at hb'; cases hb'
    · rw [if_neg h1] at hb
      rw [if_neg h2] at hb'
      exact hne (h j k hj.1 hj.2 hk.1 hk.2 h1 h2 ((Option.some.inj hb).trans (e.trans (Option.some.inj hb').symm)))
/-- how many: counts of naturals below n by a test -/
theorem kt_lt_len {l : List Nat} {N : Nat} (h : l.Nodup) (hb : ∀ s, s ∈ l → s < N) : l.length ≤ N := by
  have := List.Nodup.length_le_of_subset h (l₂ := List.range N) (fun s hs => List.mem_range.mpr (hb s hs))
  rw [List.length_range] at this
  exact this
theorem kt_cp_lt {α : Type} {p q : α → Bool} {l : List α} (h : ∀ a, a ∈ l → p a = true → q a = true) {b : α} (hb : b ∈ l) (hq : q b = true) (hp : ¬ p b = true) : l.countP p < l.countP q := by
  induction l with
  | nil => cases hb
  | cons a l ih =>
    rw [List.countP_cons, List.countP_cons]
    have hle : l.countP p ≤ l.countP q := List.countP_mono_left (fun x hx hpx => h x (List.mem_cons_of_mem _ hx) hpx)
    rcases List.mem_cons.mp hb with e | e
    · subst e
      rw [if_pos hq, if_neg hp]
      omega
    · have := ih (fun x hx => h x (List.mem_cons_of_mem _ hx)) e
      by_cases ha : p a = true
      · rw [if_pos ha, if_pos (h a List.mem_cons_self ha)]; omega
      · rw [if_neg ha]; omega
theorem kt_cp_eq {α : Type} {p q : α → Bool} {l : List α} (h : ∀ a, a ∈ l → (p a = true ↔ q a = true)) : l.countP p = l.countP q := List.countP_congr h
theorem kt_fl_eq {α : Type} {p q : α → Bool} {l : List α} (h : ∀ a, a ∈ l → p a = q a) : l.filter p = l.filter q := List.filter_congr h
theorem kt_fl_all {α : Type} {p : α → Bool} {l : List α} (h : ∀ a, a ∈ l → p a = true) : l.filter p = l := List.filter_eq_self.mpr h
theorem kt_fl_none {α : Type} {p : α → Bool} {l : List α} (h : ∀ a, a ∈ l → ¬ p a = true) : l.filter p = [] := List.filter_eq_nil_iff.mpr h
end KTB
end
section
section KTC
/-! what the trees keep, over a set pl of slots that stand somewhere -/
theorem kt_tr {a b c : Int32} (h : a ≤ b) (h' : b ≤ c) : a ≤ c := Int32.le_trans h h'
theorem kt_nl {a b : Int32} (h : ¬ a < b) : b ≤ a := Int32.not_lt.mp h
theorem kt_nle {a b : Int32} (h : ¬ a ≤ b) : b < a := Int32.not_le.mp h
theorem kt_lt_le {a b : Int32} (h : a < b) : a ≤ b := Int32.le_of_lt h
theorem kt_i {x : Int32} : 0 ≤ x ↔ 0 ≤ x.toInt := by
  rw [Int32.le_iff_toInt_le, show (0 : Int32).toInt = 0 from by decide]
theorem kt_neg {a : Nat} (h : a < 2 ^ 30) : ((-1 : Int32) - nI a).toInt = -1 - (a : Int) := by
  rw [Int32.toInt_sub, nI_toInt (by omega), show ((-1 : Int32)).toInt = -1 from by decide, Int.bmod_eq_of_le (by omega) (by omega)]
theorem kt_negne {a b : Nat} (h : a < 2 ^ 30) (hb : b < 2 ^ 31) : ¬ (-1 : Int32) - nI a = nI b := by
  intro e
  have := congrArg Int32.toInt e
  rw [kt_neg h, nI_toInt hb] at this
  omega
theorem kt_neginj {a b : Nat} (h : a < 2 ^ 30) (hb : b < 2 ^ 30) (e : (-1 : Int32) - nI a = (-1) - nI b) : a = b := by
  have := congrArg Int32.toInt e
  rw [kt_neg h, kt_neg hb] at this
  omega
theorem kt_nn (x : Int32) : (-1) - ((-1) - x) = x := by
  rw [Int32.sub_eq_add_neg, Int32.neg_sub, Int32.sub_eq_add_neg, Int32.add_comm x, ← Int32.add_assoc, Int32.add_right_neg, Int32.zero_add]
/-- a node's bounds, number and sum fit its slots -/
def kt_Nd (px py hv : Nat → Int32) (l : List Nat) (x0 x1 y0 y1 m w : Int32) : Prop :=
  (∀ s, s ∈ l → (x0 ≤ px s ∧ px s ≤ x1 ∧ y0 ≤ py s ∧ py s ≤ y1)) ∧ m = nI l.length ∧ w = kt_sm hv l ∧ ((0 ≤ x0 ∧ x0 ≤ 64) ∧ (-1 ≤ x1 ∧ x1 ≤ 63) ∧ (0 ≤ y0 ∧ y0 ≤ 64) ∧ (-1 ≤ y1 ∧ y1 ≤ 63))
/-- the lesser, the greater of two -/
def kt_mn (v a b : Int32) : Prop := v ≤ a ∧ v ≤ b ∧ (v = a ∨ v = b)
def kt_mx (v a b : Int32) : Prop := a ≤ v ∧ b ≤ v ∧ (v = a ∨ v = b)
theorem kt_Nd_nil (px py hv : Nat → Int32) : kt_Nd px py hv [] 64 (-1) 64 (-1) 0 0 :=
  ⟨fun s hs => (nomatch hs), rfl, rfl, by decide⟩
theorem kt_or {P : Int32 → Prop} {v a b : Int32} (h : v = a ∨ v = b) (ha : P a) (hb : P b) : P v := by
  rcases h with rfl | rfl
  · exact ha
  · exact hb
theorem kt_Nd_join {px py hv : Nat → Int32} {l l' : List Nat} {x0 x1 y0 y1 m w x0' x1' y0' y1' m' w' v0 v1 v2 v3 : Int32} (h : kt_Nd px py hv l x0 x1 y0 y1 m w) (h' : kt_Nd px py hv l' x0' x1' y0' y1' m' w') (e0 : kt_mn v0 x0 x0') (e1 : kt_mx v1 x1 x1') (e2 : kt_mn v2 y0 y0') (e3 : kt_mx v3 y1 y1') : kt_Nd px py hv (l ++ l') v0 v1 v2 v3 (m + m') (w + w') := by
  obtain ⟨a1, a2, a3, b0, b1, b2, b3⟩ := h
  obtain ⟨c1, c2, c3, d0, d1, d2, d3⟩ := h'
  refine ⟨?_, ?_, ?_, kt_or (P := fun v => 0 ≤ v ∧ v ≤ 64) e0.2.2 b0 d0, kt_or (P := fun v => -1 ≤ v ∧ v ≤ 63) e1.2.2 b1 d1, kt_or (P := fun v => 0 ≤ v ∧ v ≤ 64) e2.2.2 b2 d2, kt_or (P := fun v => -1 ≤ v ∧ v ≤ 63) e3.2.2 b3 d3⟩
  · intro s hs
    rcases List.mem_append.mp hs with z | z
    · obtain ⟨q0, q1, q2, q3⟩ := a1 s z
      exact ⟨kt_tr e0.1 q0, kt_tr q1 e1.1, kt_tr e2.1 q2, kt_tr q3 e3.1⟩
    · obtain ⟨q0, q1, q2, q3⟩ := c1 s z
      exact ⟨kt_tr e0.2.1 q0, kt_tr q1 e1.2.1, kt_tr e2.2.1 q2, kt_tr q3 e3.2.1⟩
  · rw [a2, c2, nI_add, List.length_append]
  · rw [a3, c3, kt_sm_app]
theorem kt_rfl (a : Int32) : a ≤ a := Int32.le_refl a
theorem kt_Nd_one {px py hv : Nat → Int32} {s : Nat} (h1 : 0 ≤ px s) (h2 : px s ≤ 63) (h3 : 0 ≤ py s) (h4 : py s ≤ 63) : kt_Nd px py hv [s] (px s) (px s) (py s) (py s) 1 (hv s) := by
  refine ⟨?_, rfl, (kt_sm_1 hv s).symm, ⟨h1, kt_tr h2 (by decide)⟩, ⟨kt_tr (by decide) h1, h2⟩, ⟨h3, kt_tr h4 (by decide)⟩, kt_tr (by decide) h3, h4⟩
  intro z hz
  rw [List.mem_singleton.mp hz]
  exact ⟨kt_rfl _, kt_rfl _, kt_rfl _, kt_rfl _⟩
theorem kt_Nd_congr {px py hv px' py' hv' : Nat → Int32} {l : List Nat} {x0 x1 y0 y1 m w : Int32} (h : kt_Nd px py hv l x0 x1 y0 y1 m w) (e : ∀ s, s ∈ l → (px' s = px s ∧ py' s = py s ∧ hv' s = hv s)) : kt_Nd px' py' hv' l x0 x1 y0 y1 m w := by
  obtain ⟨a1, a2, a3, a4⟩ := h
  refine ⟨fun s hs => ?_, a2, ?_, a4⟩
  · rw [(e s hs).1, (e s hs).2.1]; exact a1 s hs
  · rw [a3]; exact kt_sm_congr (fun s hs => (e s hs).2.2.symm)
def kt_Bf (pl : Nat → Prop) (B : Nat) (buf sta : Nat → Int32) : Prop := ∀ i, i < B → ∃ s, s < 64 ∧ buf i = nI s ∧ pl s ∧ sta s = (-1) - nI i
def kt_Tr (pl : Nat → Prop) (t : Nat) (leaf sta : Nat → Int32) : Prop := ∀ k, kt_in t k → (leaf k < 0 ∨ ∃ s, s < 64 ∧ leaf k = nI s ∧ pl s ∧ sta s = nI k)
/-- node n of tree t fits its places -/
def kt_No (t : Nat) (px py hv leaf mnx mxx mny mxy man tot : Nat → Int32) (n : Nat) : Prop := kt_Nd px py hv (kt_sg leaf (kt_lo t n) (kt_ln t n)) (mnx (t * 32 + n)) (mxx (t * 32 + n)) (mny (t * 32 + n)) (mxy (t * 32 + n)) (man (t * 32 + n)) (tot (t * 32 + n))
def kt_Ns (t : Nat) (px py hv leaf mnx mxx mny mxy man tot : Nat → Int32) : Prop := ∀ n, 1 ≤ n → n < 2 * kt_lv t → kt_No t px py hv leaf mnx mxx mny mxy man tot n
def kt_Cv (pl : Nat → Prop) (B : Nat) (buf fil leaf : Nat → Int32) : Prop := ∀ s, s < 64 → pl s → (∃ i, i < B ∧ buf i = nI s) ∨ (∃ t k, t < 4 ∧ ¬ fil t = 0 ∧ kt_in t k ∧ leaf k = nI s)
def kt_Bd (pl : Nat → Prop) (px py : Nat → Int32) : Prop := ∀ s, s < 64 → pl s → (0 ≤ px s ∧ px s ≤ 63 ∧ 0 ≤ py s ∧ py s ≤ 63)
def kt_Pl (pl : Nat → Prop) (B : Nat) (buf fil leaf sta px py hv mnx mxx mny mxy man tot : Nat → Int32) : Prop :=
  B ≤ 8 ∧ kt_Bf pl B buf sta ∧ (∀ t, t < 4 → ¬ fil t = 0 → (kt_Tr pl t leaf sta ∧ kt_Ns t px py hv leaf mnx mxx mny mxy man tot)) ∧ kt_Cv pl B buf fil leaf ∧ kt_Bd pl px py
theorem kt_cl {s : Nat} (h : s < 64) : (nI s).toNatClampNeg = s := nI_clamp (by omega)
theorem kt_ij {a b : Nat} (h : nI a = nI b) (ha : a < 2 ^ 31) (hb : b < 2 ^ 31) : a = b := (nI_eq ha hb).mp h
variable {pl : Nat → Prop} {B : Nat} {buf fil leaf sta px py hv mnx mxx mny mxy man tot : Nat → Int32}
theorem kt_Tr_mem {t s : Nat} (h : kt_Tr pl t leaf sta) {k : Nat} (hk : kt_in t k) (h1 : ¬ leaf k < 0) (h2 : (leaf k).toNatClampNeg = s) : s < 64 ∧ leaf k = nI s ∧ pl s ∧ sta s = nI k := by
  rcases h k hk with z | ⟨s', a, b, c, d⟩
  · exact absurd z h1
  · rw [b, kt_cl a] at h2
    subst h2
    exact ⟨a, b, c, d⟩
/-- the slots of a node's places stand in the tree -/
theorem kt_Tr_sg {t n s : Nat} (ht : t < 4) (h1 : 1 ≤ n) (h2 : n < 2 * kt_lv t) (h : kt_Tr pl t leaf sta) (hs : s ∈ kt_sg leaf (kt_lo t n) (kt_ln t n)) : s < 64 ∧ pl s := by
  obtain ⟨k, a, b, c, d⟩ := kt_sg_mem.mp hs
  have e := kt_bd ht h1 h2
  have := kt_Tr_mem h (k := k) ⟨by omega, by omega⟩ c d
  exact ⟨this.1, this.2.2.1⟩
theorem kt_Pl_bl (hP : kt_Pl pl B buf fil leaf sta px py hv mnx mxx mny mxy man tot) {s : Nat} (hs : s ∈ kt_bl buf B) : s < 64 ∧ pl s ∧ ∃ i, i < 8 ∧ sta s = (-1) - nI i := by
  obtain ⟨i, hi, e⟩ := kt_bl_mem.mp hs
  obtain ⟨s', a, b, c, d⟩ := hP.2.1 i hi
  rw [b, kt_cl a] at e
  subst e
  have := hP.1
  exact ⟨a, c, i, by omega, d⟩
theorem kt_Pl_tl (hP : kt_Pl pl B buf fil leaf sta px py hv mnx mxx mny mxy man tot) {t s : Nat} (ht : t < 4) (hs : s ∈ kt_tl fil leaf t) : s < 64 ∧ pl s ∧ ∃ k, kt_in t k ∧ sta s = nI k := by
  obtain ⟨hf, k, a, b, c⟩ := kt_tl_mem.mp hs
  obtain ⟨d1, d2, d3, d4⟩ := kt_Tr_mem (hP.2.2.1 t ht hf).1 a b c
  exact ⟨d1, d3, k, a, d4⟩
theorem kt_al_mem (hP : kt_Pl pl B buf fil leaf sta px py hv mnx mxx mny mxy man tot) {s : Nat} : s ∈ kt_al buf fil leaf B ↔ s < 64 ∧ pl s := by
  unfold kt_al
  rw [List.mem_append, kt_ts_mem]
  constructor
  · rintro (h | ⟨t, ht, h⟩)
    · have := kt_Pl_bl hP h
      exact ⟨this.1, this.2.1⟩
    · have := kt_Pl_tl hP ht h
      exact ⟨this.1, this.2.1⟩
  · rintro ⟨h1, h2⟩
    rcases hP.2.2.2.1 s h1 h2 with ⟨i, hi, e⟩ | ⟨t, k, ht, hf, hk, e⟩
    · exact Or.inl (kt_bl_mem.mpr ⟨i, hi, by rw [e, kt_cl h1]⟩)
    · exact Or.inr ⟨t, ht, kt_tl_mem.mpr ⟨hf, k, hk, by rw [e]; exact nI_pos (by omega), by rw [e, kt_cl h1]⟩⟩
theorem kt_bl_nd (hP : kt_Pl pl B buf fil leaf sta px py hv mnx mxx mny mxy man tot) : (kt_bl buf B).Nodup := by
  unfold kt_bl
  refine kt_nd_map List.nodup_range ?_
  intro i j hi hj e
  rw [List.mem_range] at hi hj
  have h8 := hP.1
  obtain ⟨s, a1, a2, a3, a4⟩ := hP.2.1 i hi
  obtain ⟨s', b1, b2, b3, b4⟩ := hP.2.1 j hj
  rw [a2, b2, kt_cl a1, kt_cl b1] at e
  subst e
  exact kt_neginj (by omega) (by omega) (a4.symm.trans b4)
theorem kt_tl_nd (hP : kt_Pl pl B buf fil leaf sta px py hv mnx mxx mny mxy man tot) {t : Nat} (ht : t < 4) : (kt_tl fil leaf t).Nodup := by
  unfold kt_tl
  by_cases hf : fil t = 0
  · rw [if_pos hf]; exact List.nodup_nil
  · rw [if_neg hf]
    have hT := (hP.2.2.1 t ht hf).1
    refine kt_nodup_sg ?_
    intro j k a1 a2 b1 b2 c1 c2 e
    have h1 := kt_Tr_mem hT (k := j) ⟨a1, a2⟩ c1 rfl
    have h2 := kt_Tr_mem hT (k := k) ⟨b1, b2⟩ c2 rfl
    have q1 := kt_in_120 ht (k := j) ⟨a1, a2⟩
    have q2 := kt_in_120 ht (k := k) ⟨b1, b2⟩
    rw [← e] at h2
    exact kt_ij (h1.2.2.2.symm.trans h2.2.2.2) (by omega) (by omega)
theorem kt_ts_nd (hP : kt_Pl pl B buf fil leaf sta px py hv mnx mxx mny mxy man tot) : ∀ n, n ≤ 4 → (kt_ts fil leaf n).Nodup := by
  intro n
  induction n with
  | zero => intro _; exact List.nodup_nil
  | succ n ih =>
    intro hn
    show (kt_ts fil leaf n ++ kt_tl fil leaf n).Nodup
    rw [List.nodup_append]
    refine ⟨ih (by omega), kt_tl_nd hP (by omega), ?_⟩
    intro a ha b hb e
    subst e
    obtain ⟨t, ht, h1⟩ := (kt_ts_mem n).mp ha
    obtain ⟨_, _, k, hk, e1⟩ := kt_Pl_tl hP (by omega) h1
    obtain ⟨_, _, k', hk', e2⟩ := kt_Pl_tl hP (by omega) hb
    have q1 := kt_in_120 (by omega) hk
    have q2 := kt_in_120 (by omega) hk'
    have e3 := kt_ij (e1.symm.trans e2) (by omega) (by omega)
    subst e3
    have := kt_in_eq (by omega) (by omega) hk hk'
    omega
theorem kt_al_nd (hP : kt_Pl pl B buf fil leaf sta px py hv mnx mxx mny mxy man tot) : (kt_al buf fil leaf B).Nodup := by
  unfold kt_al
  rw [List.nodup_append]
  refine ⟨kt_bl_nd hP, kt_ts_nd hP 4 (by omega), ?_⟩
  intro a ha b hb e
  subst e
  obtain ⟨_, _, i, hi, e1⟩ := kt_Pl_bl hP ha
  obtain ⟨t, ht, h1⟩ := (kt_ts_mem 4).mp hb
  obtain ⟨_, _, k, hk, e2⟩ := kt_Pl_tl hP ht h1
  have q1 := kt_in_120 (by omega) hk
  exact kt_negne (by omega) (by omega) (e1.symm.trans e2)
theorem kt_al_64 (hP : kt_Pl pl B buf fil leaf sta px py hv mnx mxx mny mxy man tot) : (kt_al buf fil leaf B).length ≤ 64 :=
  kt_lt_len (kt_al_nd hP) (fun s hs => ((kt_al_mem hP).mp hs).1)
/-- other places and weights for slots that stand nowhere change nothing -/
theorem kt_Pl_frame (hP : kt_Pl pl B buf fil leaf sta px py hv mnx mxx mny mxy man tot) {px' py' hv' : Nat → Int32} (e : ∀ s, s < 64 → pl s → (px' s = px s ∧ py' s = py s ∧ hv' s = hv s)) : kt_Pl pl B buf fil leaf sta px' py' hv' mnx mxx mny mxy man tot := by
  refine ⟨hP.1, hP.2.1, fun t ht hf => ⟨(hP.2.2.1 t ht hf).1, fun n h1 h2 => ?_⟩, hP.2.2.2.1, fun s h1 h2 => ?_⟩
  · refine kt_Nd_congr ((hP.2.2.1 t ht hf).2 n h1 h2) (fun s hs => ?_)
    have := kt_Tr_sg ht h1 h2 (hP.2.2.1 t ht hf).1 hs
    exact e s this.1 this.2
  · rw [(e s h1 h2).1, (e s h1 h2).2.1]
    exact hP.2.2.2.2 s h1 h2
theorem kt_Pl_iff (hP : kt_Pl pl B buf fil leaf sta px py hv mnx mxx mny mxy man tot) {pl' : Nat → Prop} (e : ∀ s, s < 64 → (pl' s ↔ pl s)) : kt_Pl pl' B buf fil leaf sta px py hv mnx mxx mny mxy man tot := by
  refine ⟨hP.1, fun i hi => ?_, fun t ht hf => ⟨fun k hk => ?_, (hP.2.2.1 t ht hf).2⟩, fun s h1 h2 => hP.2.2.2.1 s h1 ((e s h1).mp h2), fun s h1 h2 => hP.2.2.2.2 s h1 ((e s h1).mp h2)⟩
  · obtain ⟨s, a, b, c, d⟩ := hP.2.1 i hi
    exact ⟨s, a, b, (e s a).mpr c, d⟩
  · rcases (hP.2.2.1 t ht hf).1 k hk with z | ⟨s, a, b, c, d⟩
    · exact Or.inl z
    · exact Or.inr ⟨s, a, b, (e s a).mpr c, d⟩
end KTC
end
section
section KTD
/-! X's small methods -/
variable {f_added f_alive f_buffered f_gathered f_x0 f_x1 f_y0 f_y1 f_foundMany f_foundTotal f_listing f_listed f_centreX f_centreY f_bestDistance f_bestPoint f_behindDistance f_behindPoint f_leftOut : Int32} {a_slotOf a_used a_pointOf a_px a_py a_heavy a_buffer a_filled a_leafSlot a_standsAt a_minX a_maxX a_minY a_maxY a_many a_total a_work a_spanFrom a_spanTo a_stack a_list : Nat → Int32}
variable {post : SX → Prop} {pI : Int32 → Prop}
theorem kt_shl8 : ∀ t, t < 4 → ((8 : Int32) <<< (nI t &&& 31)) = nI (8 * 2 ^ t) := by decide +kernel
theorem kt_shl2 : ∀ t, t < 4 → ((2 : Int32) <<< (nI t &&& 31)) = nI (kt_lv t) := by decide +kernel
theorem kt_sub8 : ∀ t, t < 4 → ((8 : Int32) <<< (nI t &&& 31)) - 8 = nI (kt_ba t) := by decide +kernel
theorem xl_leaves {t : Nat} (ht : t < 4) (h : pI (nI (kt_lv t))) : wpX_leavesOf pI (f_added, f_alive, f_buffered, f_gathered, f_x0, f_x1, f_y0, f_y1, f_foundMany, f_foundTotal, f_listing, f_listed, f_centreX, f_centreY, f_bestDistance, f_bestPoint, f_behindDistance, f_behindPoint, f_leftOut, a_slotOf, a_used, a_pointOf, a_px, a_py, a_heavy, a_buffer, a_filled, a_leafSlot, a_standsAt, a_minX, a_maxX, a_minY, a_maxY, a_many, a_total, a_work, a_spanFrom, a_spanTo, a_stack, a_list) (nI t) := by
  show pI ((2 : Int32) <<< (nI t &&& 31))
  rw [kt_shl2 t ht]
  exact h
theorem xl_base {t : Nat} (ht : t < 4) (h : pI (nI (kt_ba t))) : wpX_treeBase pI (f_added, f_alive, f_buffered, f_gathered, f_x0, f_x1, f_y0, f_y1, f_foundMany, f_foundTotal, f_listing, f_listed, f_centreX, f_centreY, f_bestDistance, f_bestPoint, f_behindDistance, f_behindPoint, f_leftOut, a_slotOf, a_used, a_pointOf, a_px, a_py, a_heavy, a_buffer, a_filled, a_leafSlot, a_standsAt, a_minX, a_maxX, a_minY, a_maxY, a_many, a_total, a_work, a_spanFrom, a_spanTo, a_stack, a_list) (nI t) := by
  show pI (((8 : Int32) <<< (nI t &&& 31)) - 8)
  rw [kt_sub8 t ht]
  exact h
/-- a place on the board -/
def kt_ok (x y : Int32) : Prop := ¬ x < 0 ∧ ¬ 63 < x ∧ ¬ y < 0 ∧ ¬ 63 < y
theorem xl_bad {x y : Int32} (h0 : kt_ok x y → pI 0) (h1 : ¬ kt_ok x y → pI 1) : wpX_badPlace pI (f_added, f_alive, f_buffered, f_gathered, f_x0, f_x1, f_y0, f_y1, f_foundMany, f_foundTotal, f_listing, f_listed, f_centreX, f_centreY, f_bestDistance, f_bestPoint, f_behindDistance, f_behindPoint, f_leftOut, a_slotOf, a_used, a_pointOf, a_px, a_py, a_heavy, a_buffer, a_filled, a_leafSlot, a_standsAt, a_minX, a_maxX, a_minY, a_maxY, a_many, a_total, a_work, a_spanFrom, a_spanTo, a_stack, a_list) x y :=
  br_c (fun a => h1 (fun z => z.1 a)) (fun a => br_c (fun b => h1 (fun z => z.2.1 b)) (fun b => br_c (fun c => h1 (fun z => z.2.2.1 c)) (fun c => br_c (fun d => h0 ⟨a, b, c, Int32.not_lt.mpr d⟩) (fun d => h1 (fun z => z.2.2.2 (kt_nle d))))))
theorem xl_before {p q x3 : Int32} (hp : vp_in p 64) (hq : vp_in q 64) (h0 : pI 0) (h1 : pI 1) : wpX_before pI (f_added, f_alive, f_buffered, f_gathered, f_x0, f_x1, f_y0, f_y1, f_foundMany, f_foundTotal, f_listing, f_listed, f_centreX, f_centreY, f_bestDistance, f_bestPoint, f_behindDistance, f_behindPoint, f_leftOut, a_slotOf, a_used, a_pointOf, a_px, a_py, a_heavy, a_buffer, a_filled, a_leafSlot, a_standsAt, a_minX, a_maxX, a_minY, a_maxY, a_many, a_total, a_work, a_spanFrom, a_spanTo, a_stack, a_list) p q x3 := by
  have j40 : ∀ x4 z0 : Int32, wX_before_40 pI p q x4 z0 f_added f_alive f_buffered f_gathered f_x0 f_x1 f_y0 f_y1 f_foundMany f_foundTotal f_listing f_listed f_centreX f_centreY f_bestDistance f_bestPoint f_behindDistance f_behindPoint f_leftOut a_slotOf a_used a_pointOf a_px a_py a_heavy a_buffer a_filled a_leafSlot a_standsAt a_minX a_maxX a_minY a_maxY a_many a_total a_work a_spanFrom a_spanTo a_stack a_list := fun x4 z0 =>
    br_c (fun _ => ⟨hp, hq, br_c (fun _ => h0) (fun _ => h1)⟩) (fun _ => br_c (fun _ => h0) (fun _ => h1))
  have j19 : ∀ z0 : Int32, wX_before_19 pI p q x3 z0 f_added f_alive f_buffered f_gathered f_x0 f_x1 f_y0 f_y1 f_foundMany f_foundTotal f_listing f_listed f_centreX f_centreY f_bestDistance f_bestPoint f_behindDistance f_behindPoint f_leftOut a_slotOf a_used a_pointOf a_px a_py a_heavy a_buffer a_filled a_leafSlot a_standsAt a_minX a_maxX a_minY a_maxY a_many a_total a_work a_spanFrom a_spanTo a_stack a_list := fun z0 => br_c (fun _ => ⟨hq, j40 _ _⟩) (fun _ => ⟨hq, j40 _ _⟩)
  exact br_c (fun _ => ⟨hp, j19 _⟩) (fun _ => ⟨hp, j19 _⟩)
/-! sort: whatever a swap of two neighbours keeps -/
def kt_sw (w : Nat → Int32) (k : Nat) : Nat → Int32 := upd (upd w (k + 1) (w k)) k (w (k + 1))
theorem xl_s15 {Q : (Nat → Int32) → Prop} {g : Nat} (hg : g ≤ 128) (hin : ∀ w, Q w → ∀ i, i < g → vp_in (w i) 64) (hsw : ∀ w k, Q w → k + 1 < g → Q (kt_sw w k)) {J5 : Int32 → (Nat → Int32) → (Nat → Int32) → (Nat → Int32) → (Nat → Int32) → (Nat → Int32) → (Nat → Int32) → (Nat → Int32) → (Nat → Int32) → (Nat → Int32) → (Nat → Int32) → (Nat → Int32) → (Nat → Int32) → (Nat → Int32) → (Nat → Int32) → (Nat → Int32) → (Nat → Int32) → (Nat → Int32) → (Nat → Int32) → (Nat → Int32) → (Nat → Int32) → (Nat → Int32) → Prop} {fr : Nat} (hfr : fr < 2 ^ 31) {x2 x3 x4 : Int32} (hJ : ∀ w, Q w → J5 (x4 + 1) a_slotOf a_used a_pointOf a_px a_py a_heavy a_buffer a_filled a_leafSlot a_standsAt a_minX a_maxX a_minY a_maxY a_many a_total w a_spanFrom a_spanTo a_stack a_list) : ∀ k, k < g → ∀ w, Q w → ∀ n, k < n → wX_sort_15 post J5 (nI fr) x2 x3 x4 f_added f_alive f_buffered f_gathered f_x0 f_x1 f_y0 f_y1 f_foundMany f_foundTotal f_listing f_listed f_centreX f_centreY f_bestDistance f_bestPoint f_behindDistance f_behindPoint f_leftOut n (nI k) a_slotOf a_used a_pointOf a_px a_py a_heavy a_buffer a_filled a_leafSlot a_standsAt a_minX a_maxX a_minY a_maxY a_many a_total w a_spanFrom a_spanTo a_stack a_list := by
  intro k
  induction k with
  | zero =>
    intro hk w hw n hn
    obtain ⟨m, rfl⟩ : ∃ m, n = m + 1 := ⟨n - 1, by omega⟩
    exact br_t (nI_le (Nat.zero_le _) hfr) (nm_e (hJ w hw))
  | succ k ih =>
    intro hk w hw n hn
    obtain ⟨m, rfl⟩ : ∃ m, n = m + 1 := ⟨n - 1, by omega⟩
    by_cases hc : k + 1 ≤ fr
    · exact br_t (nI_le hc hfr) (nm_e (hJ w hw))
    · have e1 : nI (k + 1) - 1 = nI k := nI_pred k
      have c1 : (nI (k + 1)).toNatClampNeg = k + 1 := nI_clamp (by omega)
      have c0 : (nI k).toNatClampNeg = k := nI_clamp (by omega)
      have v1 : vp_in (nI (k + 1)) 128 := vp_in_nI (by omega) (by omega)
      have v0 : vp_in (nI k) 128 := vp_in_nI (by omega) (by omega)
      have em : nI (k + 1) + (-1) = nI k := pk_m1 k
      rw [wX_sort_15]
      simp only [e1, c1, c0, em]
      refine br_f (nI_ge (by omega) (by omega)) ⟨v1, v0, xl_before (hin w hw _ (by omega)) (hin w hw _ (by omega)) ?_ ?_⟩
      · exact br_t rfl (nm_e (hJ w hw))
      · refine br_f (by decide) ⟨v1, nm_e ⟨v0, v1, nm_e ⟨v0, nm_e (nm_e ?_)⟩⟩⟩
        exact ih (by omega) (kt_sw w k) (hsw w k hw hk) m (by omega)
theorem xl_s5 {Q : (Nat → Int32) → Prop} {g : Nat} (hg : g ≤ 128) (hin : ∀ w, Q w → ∀ i, i < g → vp_in (w i) 64) (hsw : ∀ w k, Q w → k + 1 < g → Q (kt_sw w k)) {fr to : Nat} (hfr : fr < 2 ^ 31) (hto : to ≤ g) {x3 : Int32} (hJ : ∀ w, Q w → post (f_added, f_alive, f_buffered, f_gathered, f_x0, f_x1, f_y0, f_y1, f_foundMany, f_foundTotal, f_listing, f_listed, f_centreX, f_centreY, f_bestDistance, f_bestPoint, f_behindDistance, f_behindPoint, f_leftOut, a_slotOf, a_used, a_pointOf, a_px, a_py, a_heavy, a_buffer, a_filled, a_leafSlot, a_standsAt, a_minX, a_maxX, a_minY, a_maxY, a_many, a_total, w, a_spanFrom, a_spanTo, a_stack, a_list)) : ∀ d i, to ≤ i + d → i < 2 ^ 30 → ∀ w, Q w → ∀ n, d < n → wX_sort_5 post (nI fr) (nI to) x3 f_added f_alive f_buffered f_gathered f_x0 f_x1 f_y0 f_y1 f_foundMany f_foundTotal f_listing f_listed f_centreX f_centreY f_bestDistance f_bestPoint f_behindDistance f_behindPoint f_leftOut n (nI i) a_slotOf a_used a_pointOf a_px a_py a_heavy a_buffer a_filled a_leafSlot a_standsAt a_minX a_maxX a_minY a_maxY a_many a_total w a_spanFrom a_spanTo a_stack a_list := by
  intro d
  induction d with
  | zero =>
    intro i h1 h2 w hw n hn
    obtain ⟨m, rfl⟩ : ∃ m, n = m + 1 := ⟨n - 1, by omega⟩
    exact br_t (nI_le (by omega) (by omega)) (hJ w hw)
  | succ d ih =>
    intro i h1 h2 w hw n hn
    obtain ⟨m, rfl⟩ : ∃ m, n = m + 1 := ⟨n - 1, by omega⟩
    by_cases hc : to ≤ i
    · exact br_t (nI_le (by omega) (by omega)) (hJ w hw)
    · refine br_f (nI_ge (by omega) (by omega)) ⟨i + 1, xl_s15 hg hin hsw hfr (fun w' hw' => ?_) i (by omega) w hw (i + 1) (by omega)⟩
      rw [nI_1]
      exact ih (i + 1) (by omega) (by omega) w' hw' m (by omega)
theorem xl_sort {Q : (Nat → Int32) → Prop} {g : Nat} (hg : g ≤ 128) (hin : ∀ w, Q w → ∀ i, i < g → vp_in (w i) 64) (hsw : ∀ w k, Q w → k + 1 < g → Q (kt_sw w k)) {fr to : Nat} (hfr : fr < 2 ^ 29) (hto : to ≤ g) {x3 : Int32} (hw : Q a_work) (hJ : ∀ w, Q w → post (f_added, f_alive, f_buffered, f_gathered, f_x0, f_x1, f_y0, f_y1, f_foundMany, f_foundTotal, f_listing, f_listed, f_centreX, f_centreY, f_bestDistance, f_bestPoint, f_behindDistance, f_behindPoint, f_leftOut, a_slotOf, a_used, a_pointOf, a_px, a_py, a_heavy, a_buffer, a_filled, a_leafSlot, a_standsAt, a_minX, a_maxX, a_minY, a_maxY, a_many, a_total, w, a_spanFrom, a_spanTo, a_stack, a_list)) : wpX_sort post (f_added, f_alive, f_buffered, f_gathered, f_x0, f_x1, f_y0, f_y1, f_foundMany, f_foundTotal, f_listing, f_listed, f_centreX, f_centreY, f_bestDistance, f_bestPoint, f_behindDistance, f_behindPoint, f_leftOut, a_slotOf, a_used, a_pointOf, a_px, a_py, a_heavy, a_buffer, a_filled, a_leafSlot, a_standsAt, a_minX, a_maxX, a_minY, a_maxY, a_many, a_total, a_work, a_spanFrom, a_spanTo, a_stack, a_list) (nI fr) (nI to) x3 :=
  nm_r (nI_1 fr) ⟨to + 1, xl_s5 hg hin hsw (by omega) hto hJ to (fr + 1) (by omega) (by omega) a_work hw (to + 1) (by omega)⟩
/-! wideX: any answer -/
theorem xl_w125 {J16 : Int32 → Int32 → Int32 → Int32 → Int32 → Prop} {x2 x3 x4 x6 x7 z0 : Int32} (hi : vp_in x7 128) (hw : vp_in (a_work x7.toNatClampNeg) 64) (h : ∀ a b c d, J16 a b c d (x7 + 1)) : wX_wideX_125 pI J16 x2 x3 x4 x6 x7 z0 f_added f_alive f_buffered f_gathered f_x0 f_x1 f_y0 f_y1 f_foundMany f_foundTotal f_listing f_listed f_centreX f_centreY f_bestDistance f_bestPoint f_behindDistance f_behindPoint f_leftOut a_slotOf a_used a_pointOf a_px a_py a_heavy a_buffer a_filled a_leafSlot a_standsAt a_minX a_maxX a_minY a_maxY a_many a_total a_work a_spanFrom a_spanTo a_stack a_list :=
  ⟨hi, hw, br_c (fun _ => nm_e (h _ _ _ _)) (fun _ => ⟨hi, hw, nm_e (nm_e (h _ _ _ _))⟩)⟩
theorem xl_w89 {J16 : Int32 → Int32 → Int32 → Int32 → Int32 → Prop} {x2 x3 x5 x6 x7 z0 : Int32} (hi : vp_in x7 128) (hw : vp_in (a_work x7.toNatClampNeg) 64) (h : ∀ a b c d, J16 a b c d (x7 + 1)) : wX_wideX_89 pI J16 x2 x3 x5 x6 x7 z0 f_added f_alive f_buffered f_gathered f_x0 f_x1 f_y0 f_y1 f_foundMany f_foundTotal f_listing f_listed f_centreX f_centreY f_bestDistance f_bestPoint f_behindDistance f_behindPoint f_leftOut a_slotOf a_used a_pointOf a_px a_py a_heavy a_buffer a_filled a_leafSlot a_standsAt a_minX a_maxX a_minY a_maxY a_many a_total a_work a_spanFrom a_spanTo a_stack a_list :=
  ⟨hi, hw, br_c (fun _ => xl_w125 hi hw h) (fun _ => ⟨hi, hw, xl_w125 hi hw h⟩)⟩
theorem xl_w54 {J16 : Int32 → Int32 → Int32 → Int32 → Int32 → Prop} {x2 x4 x5 x6 x7 z0 : Int32} (hi : vp_in x7 128) (hw : vp_in (a_work x7.toNatClampNeg) 64) (h : ∀ a b c d, J16 a b c d (x7 + 1)) : wX_wideX_54 pI J16 x2 x4 x5 x6 x7 z0 f_added f_alive f_buffered f_gathered f_x0 f_x1 f_y0 f_y1 f_foundMany f_foundTotal f_listing f_listed f_centreX f_centreY f_bestDistance f_bestPoint f_behindDistance f_behindPoint f_leftOut a_slotOf a_used a_pointOf a_px a_py a_heavy a_buffer a_filled a_leafSlot a_standsAt a_minX a_maxX a_minY a_maxY a_many a_total a_work a_spanFrom a_spanTo a_stack a_list :=
  ⟨hi, hw, br_c (fun _ => xl_w89 hi hw h) (fun _ => ⟨hi, hw, xl_w89 hi hw h⟩)⟩
theorem xl_w16 {to g : Nat} (hg : g ≤ 128) (hto : to ≤ g) (hin : ∀ i, i < g → vp_in (a_work i) 64) (h : ∀ r, pI r) : ∀ d i, to ≤ i + d → i < 2 ^ 30 → ∀ (x3 x4 x5 x6 : Int32) n, d < n → wX_wideX_16 pI (nI to) f_added f_alive f_buffered f_gathered f_x0 f_x1 f_y0 f_y1 f_foundMany f_foundTotal f_listing f_listed f_centreX f_centreY f_bestDistance f_bestPoint f_behindDistance f_behindPoint f_leftOut a_slotOf a_used a_pointOf a_px a_py a_heavy a_buffer a_filled a_leafSlot a_standsAt a_minX a_maxX a_minY a_maxY a_many a_total a_work a_spanFrom a_spanTo a_stack a_list n x3 x4 x5 x6 (nI i) := by
  intro d
  induction d with
  | zero =>
    intro i h1 h2 x3 x4 x5 x6 n hn
    obtain ⟨m, rfl⟩ : ∃ m, n = m + 1 := ⟨n - 1, by omega⟩
    exact br_t (nI_le (by omega) (by omega)) (br_c (fun _ => h _) (fun _ => h _))
  | succ d ih =>
    intro i h1 h2 x3 x4 x5 x6 n hn
    obtain ⟨m, rfl⟩ : ∃ m, n = m + 1 := ⟨n - 1, by omega⟩
    by_cases hc : to ≤ i
    · exact br_t (nI_le (by omega) (by omega)) (br_c (fun _ => h _) (fun _ => h _))
    · have hi : vp_in (nI i) 128 := vp_in_nI (by omega) (by omega)
      have hw : vp_in (a_work (nI i).toNatClampNeg) 64 := by rw [nI_clamp (by omega)]; exact hin i (by omega)
      have hJ : ∀ a b c d' : Int32, wX_wideX_16 pI (nI to) f_added f_alive f_buffered f_gathered f_x0 f_x1 f_y0 f_y1 f_foundMany f_foundTotal f_listing f_listed f_centreX f_centreY f_bestDistance f_bestPoint f_behindDistance f_behindPoint f_leftOut a_slotOf a_used a_pointOf a_px a_py a_heavy a_buffer a_filled a_leafSlot a_standsAt a_minX a_maxX a_minY a_maxY a_many a_total a_work a_spanFrom a_spanTo a_stack a_list m a b c d' (nI i + 1) := fun a b c d' => by
        rw [nI_1]
        exact ih (i + 1) (by omega) (by omega) a b c d' m (by omega)
      exact br_f (nI_ge (by omega) (by omega)) ⟨hi, hw, br_c (fun _ => xl_w54 hi hw hJ) (fun _ => ⟨hi, hw, xl_w54 hi hw hJ⟩)⟩
theorem xl_wide {fr to g : Nat} (hg : g ≤ 128) (hfr : fr < 2 ^ 30) (hto : to ≤ g) (hin : ∀ i, i < g → vp_in (a_work i) 64) (h : ∀ r, pI r) : wpX_wideX pI (f_added, f_alive, f_buffered, f_gathered, f_x0, f_x1, f_y0, f_y1, f_foundMany, f_foundTotal, f_listing, f_listed, f_centreX, f_centreY, f_bestDistance, f_bestPoint, f_behindDistance, f_behindPoint, f_leftOut, a_slotOf, a_used, a_pointOf, a_px, a_py, a_heavy, a_buffer, a_filled, a_leafSlot, a_standsAt, a_minX, a_maxX, a_minY, a_maxY, a_many, a_total, a_work, a_spanFrom, a_spanTo, a_stack, a_list) (nI fr) (nI to) :=
  ⟨to + 1, xl_w16 hg hto hin h to fr (by omega) hfr _ _ _ _ (to + 1) (by omega)⟩
end KTD
end
section
section KTE
/-! X's nodes: joinBounds, emptyNode, bindLeaf -/
variable {f_added f_alive f_buffered f_gathered f_x0 f_x1 f_y0 f_y1 f_foundMany f_foundTotal f_listing f_listed f_centreX f_centreY f_bestDistance f_bestPoint f_behindDistance f_behindPoint f_leftOut : Int32} {a_slotOf a_used a_pointOf a_px a_py a_heavy a_buffer a_filled a_leafSlot a_standsAt a_minX a_maxX a_minY a_maxY a_many a_total a_work a_spanFrom a_spanTo a_stack a_list : Nat → Int32}
variable {post : SX → Prop}
theorem xl_j147 {a b : Nat} (ha : a < 128) (hb : b + 1 < 128) {z0 : Int32} (h : post (f_added, f_alive, f_buffered, f_gathered, f_x0, f_x1, f_y0, f_y1, f_foundMany, f_foundTotal, f_listing, f_listed, f_centreX, f_centreY, f_bestDistance, f_bestPoint, f_behindDistance, f_behindPoint, f_leftOut, a_slotOf, a_used, a_pointOf, a_px, a_py, a_heavy, a_buffer, a_filled, a_leafSlot, a_standsAt, a_minX, a_maxX, a_minY, upd a_maxY a z0, upd a_many a (a_many b + a_many (b + 1)), upd a_total a (a_total b + a_total (b + 1)), a_work, a_spanFrom, a_spanTo, a_stack, a_list)) : wX_joinBounds_147 post (nI a) (nI b) (nI (b + 1)) z0 (nI a) f_added f_alive f_buffered f_gathered f_x0 f_x1 f_y0 f_y1 f_foundMany f_foundTotal f_listing f_listed f_centreX f_centreY f_bestDistance f_bestPoint f_behindDistance f_behindPoint f_leftOut a_slotOf a_used a_pointOf a_px a_py a_heavy a_buffer a_filled a_leafSlot a_standsAt a_minX a_maxX a_minY a_maxY a_many a_total a_work a_spanFrom a_spanTo a_stack a_list := by
  have ca : (nI a).toNatClampNeg = a := nI_clamp (by omega)
  have cb : (nI b).toNatClampNeg = b := nI_clamp (by omega)
  have cc : (nI (b + 1)).toNatClampNeg = b + 1 := nI_clamp (by omega)
  have va : vp_in (nI a) 128 := vp_in_nI (by omega) (by omega)
  have vb : vp_in (nI b) 128 := vp_in_nI (by omega) (by omega)
  have vc : vp_in (nI (b + 1)) 128 := vp_in_nI (by omega) (by omega)
  unfold wX_joinBounds_147
  simp only [ca, cb, cc]
  exact ⟨va, nm_e ⟨vb, vc, va, nm_e ⟨vb, vc, va, nm_e h⟩⟩⟩
theorem xl_j111 {a b : Nat} (ha : a < 128) (hb : b + 1 < 128) {z0 : Int32} (h : ∀ v, kt_mx v (a_maxY b) (a_maxY (b + 1)) → post (f_added, f_alive, f_buffered, f_gathered, f_x0, f_x1, f_y0, f_y1, f_foundMany, f_foundTotal, f_listing, f_listed, f_centreX, f_centreY, f_bestDistance, f_bestPoint, f_behindDistance, f_behindPoint, f_leftOut, a_slotOf, a_used, a_pointOf, a_px, a_py, a_heavy, a_buffer, a_filled, a_leafSlot, a_standsAt, a_minX, a_maxX, upd a_minY a z0, upd a_maxY a v, upd a_many a (a_many b + a_many (b + 1)), upd a_total a (a_total b + a_total (b + 1)), a_work, a_spanFrom, a_spanTo, a_stack, a_list)) : wX_joinBounds_111 post (nI a) (nI b) (nI (b + 1)) z0 (nI a) f_added f_alive f_buffered f_gathered f_x0 f_x1 f_y0 f_y1 f_foundMany f_foundTotal f_listing f_listed f_centreX f_centreY f_bestDistance f_bestPoint f_behindDistance f_behindPoint f_leftOut a_slotOf a_used a_pointOf a_px a_py a_heavy a_buffer a_filled a_leafSlot a_standsAt a_minX a_maxX a_minY a_maxY a_many a_total a_work a_spanFrom a_spanTo a_stack a_list := by
  have ca : (nI a).toNatClampNeg = a := nI_clamp (by omega)
  have cb : (nI b).toNatClampNeg = b := nI_clamp (by omega)
  have cc : (nI (b + 1)).toNatClampNeg = b + 1 := nI_clamp (by omega)
  have va : vp_in (nI a) 128 := vp_in_nI (by omega) (by omega)
  have vb : vp_in (nI b) 128 := vp_in_nI (by omega) (by omega)
  have vc : vp_in (nI (b + 1)) 128 := vp_in_nI (by omega) (by omega)
  unfold wX_joinBounds_111
  simp only [ca, cb, cc]
  exact ⟨va, nm_e ⟨vb, vc, br_c (fun hc => ⟨vc, xl_j147 ha hb (h _ ⟨hc, kt_rfl _, Or.inr rfl⟩)⟩) (fun hc => ⟨vb, xl_j147 ha hb (h _ ⟨kt_rfl _, kt_lt_le (kt_nle hc), Or.inl rfl⟩)⟩)⟩⟩
theorem xl_j75 {a b : Nat} (ha : a < 128) (hb : b + 1 < 128) {z0 : Int32} (h : ∀ v2 v, kt_mn v2 (a_minY b) (a_minY (b + 1)) → kt_mx v (a_maxY b) (a_maxY (b + 1)) → post (f_added, f_alive, f_buffered, f_gathered, f_x0, f_x1, f_y0, f_y1, f_foundMany, f_foundTotal, f_listing, f_listed, f_centreX, f_centreY, f_bestDistance, f_bestPoint, f_behindDistance, f_behindPoint, f_leftOut, a_slotOf, a_used, a_pointOf, a_px, a_py, a_heavy, a_buffer, a_filled, a_leafSlot, a_standsAt, a_minX, upd a_maxX a z0, upd a_minY a v2, upd a_maxY a v, upd a_many a (a_many b + a_many (b + 1)), upd a_total a (a_total b + a_total (b + 1)), a_work, a_spanFrom, a_spanTo, a_stack, a_list)) : wX_joinBounds_75 post (nI a) (nI b) (nI (b + 1)) z0 (nI a) f_added f_alive f_buffered f_gathered f_x0 f_x1 f_y0 f_y1 f_foundMany f_foundTotal f_listing f_listed f_centreX f_centreY f_bestDistance f_bestPoint f_behindDistance f_behindPoint f_leftOut a_slotOf a_used a_pointOf a_px a_py a_heavy a_buffer a_filled a_leafSlot a_standsAt a_minX a_maxX a_minY a_maxY a_many a_total a_work a_spanFrom a_spanTo a_stack a_list := by
  have ca : (nI a).toNatClampNeg = a := nI_clamp (by omega)
  have cb : (nI b).toNatClampNeg = b := nI_clamp (by omega)
  have cc : (nI (b + 1)).toNatClampNeg = b + 1 := nI_clamp (by omega)
  have va : vp_in (nI a) 128 := vp_in_nI (by omega) (by omega)
  have vb : vp_in (nI b) 128 := vp_in_nI (by omega) (by omega)
  have vc : vp_in (nI (b + 1)) 128 := vp_in_nI (by omega) (by omega)
  unfold wX_joinBounds_75
  simp only [ca, cb, cc]
  exact ⟨va, nm_e ⟨vb, vc, br_c (fun hc => ⟨vc, xl_j111 ha hb (fun v hv => h _ v ⟨hc, kt_rfl _, Or.inr rfl⟩ hv)⟩) (fun hc => ⟨vb, xl_j111 ha hb (fun v hv => h _ v ⟨kt_rfl _, kt_lt_le (kt_nle hc), Or.inl rfl⟩ hv)⟩)⟩⟩
theorem xl_j39 {a b : Nat} (ha : a < 128) (hb : b + 1 < 128) {z0 : Int32} (h : ∀ v1 v2 v, kt_mx v1 (a_maxX b) (a_maxX (b + 1)) → kt_mn v2 (a_minY b) (a_minY (b + 1)) → kt_mx v (a_maxY b) (a_maxY (b + 1)) → post (f_added, f_alive, f_buffered, f_gathered, f_x0, f_x1, f_y0, f_y1, f_foundMany, f_foundTotal, f_listing, f_listed, f_centreX, f_centreY, f_bestDistance, f_bestPoint, f_behindDistance, f_behindPoint, f_leftOut, a_slotOf, a_used, a_pointOf, a_px, a_py, a_heavy, a_buffer, a_filled, a_leafSlot, a_standsAt, upd a_minX a z0, upd a_maxX a v1, upd a_minY a v2, upd a_maxY a v, upd a_many a (a_many b + a_many (b + 1)), upd a_total a (a_total b + a_total (b + 1)), a_work, a_spanFrom, a_spanTo, a_stack, a_list)) : wX_joinBounds_39 post (nI a) (nI b) (nI (b + 1)) z0 (nI a) f_added f_alive f_buffered f_gathered f_x0 f_x1 f_y0 f_y1 f_foundMany f_foundTotal f_listing f_listed f_centreX f_centreY f_bestDistance f_bestPoint f_behindDistance f_behindPoint f_leftOut a_slotOf a_used a_pointOf a_px a_py a_heavy a_buffer a_filled a_leafSlot a_standsAt a_minX a_maxX a_minY a_maxY a_many a_total a_work a_spanFrom a_spanTo a_stack a_list := by
  have ca : (nI a).toNatClampNeg = a := nI_clamp (by omega)
  have cb : (nI b).toNatClampNeg = b := nI_clamp (by omega)
  have cc : (nI (b + 1)).toNatClampNeg = b + 1 := nI_clamp (by omega)
  have va : vp_in (nI a) 128 := vp_in_nI (by omega) (by omega)
  have vb : vp_in (nI b) 128 := vp_in_nI (by omega) (by omega)
  have vc : vp_in (nI (b + 1)) 128 := vp_in_nI (by omega) (by omega)
  unfold wX_joinBounds_39
  simp only [ca, cb, cc]
  exact ⟨va, nm_e ⟨vb, vc, br_c (fun hc => ⟨vc, xl_j75 ha hb (fun v2 v h2 hv => h _ v2 v ⟨hc, kt_rfl _, Or.inr rfl⟩ h2 hv)⟩) (fun hc => ⟨vb, xl_j75 ha hb (fun v2 v h2 hv => h _ v2 v ⟨kt_rfl _, kt_lt_le (kt_nle hc), Or.inl rfl⟩ h2 hv)⟩)⟩⟩
theorem xl_join {a b : Nat} (ha : a < 128) (hb : b + 1 < 128) {l l' : List Nat} (h1 : kt_Nd a_px a_py a_heavy l (a_minX b) (a_maxX b) (a_minY b) (a_maxY b) (a_many b) (a_total b)) (h2 : kt_Nd a_px a_py a_heavy l' (a_minX (b + 1)) (a_maxX (b + 1)) (a_minY (b + 1)) (a_maxY (b + 1)) (a_many (b + 1)) (a_total (b + 1))) (h : ∀ v0 v1 v2 v3 v4 v5, kt_Nd a_px a_py a_heavy (l ++ l') v0 v1 v2 v3 v4 v5 → post (f_added, f_alive, f_buffered, f_gathered, f_x0, f_x1, f_y0, f_y1, f_foundMany, f_foundTotal, f_listing, f_listed, f_centreX, f_centreY, f_bestDistance, f_bestPoint, f_behindDistance, f_behindPoint, f_leftOut, a_slotOf, a_used, a_pointOf, a_px, a_py, a_heavy, a_buffer, a_filled, a_leafSlot, a_standsAt, upd a_minX a v0, upd a_maxX a v1, upd a_minY a v2, upd a_maxY a v3, upd a_many a v4, upd a_total a v5, a_work, a_spanFrom, a_spanTo, a_stack, a_list)) : wpX_joinBounds post (f_added, f_alive, f_buffered, f_gathered, f_x0, f_x1, f_y0, f_y1, f_foundMany, f_foundTotal, f_listing, f_listed, f_centreX, f_centreY, f_bestDistance, f_bestPoint, f_behindDistance, f_behindPoint, f_leftOut, a_slotOf, a_used, a_pointOf, a_px, a_py, a_heavy, a_buffer, a_filled, a_leafSlot, a_standsAt, a_minX, a_maxX, a_minY, a_maxY, a_many, a_total, a_work, a_spanFrom, a_spanTo, a_stack, a_list) (nI a) (nI b) := by
  have cb : (nI b).toNatClampNeg = b := nI_clamp (by omega)
  have cc : (nI (b + 1)).toNatClampNeg = b + 1 := nI_clamp (by omega)
  have vb : vp_in (nI b) 128 := vp_in_nI (by omega) (by omega)
  have vc : vp_in (nI (b + 1)) 128 := vp_in_nI (by omega) (by omega)
  refine nm_r (nI_1 b) ?_
  simp only [cb, cc]
  exact ⟨vb, vc, br_c (fun hc => ⟨vc, xl_j39 ha hb (fun v1 v2 v3 k1 k2 k3 => h _ _ _ _ _ _ (kt_Nd_join h1 h2 ⟨hc, kt_rfl _, Or.inr rfl⟩ k1 k2 k3))⟩) (fun hc => ⟨vb, xl_j39 ha hb (fun v1 v2 v3 k1 k2 k3 => h _ _ _ _ _ _ (kt_Nd_join h1 h2 ⟨kt_rfl _, kt_lt_le (kt_nle hc), Or.inl rfl⟩ k1 k2 k3))⟩)⟩
theorem xl_empty {a : Nat} (ha : a < 128) (h : post (f_added, f_alive, f_buffered, f_gathered, f_x0, f_x1, f_y0, f_y1, f_foundMany, f_foundTotal, f_listing, f_listed, f_centreX, f_centreY, f_bestDistance, f_bestPoint, f_behindDistance, f_behindPoint, f_leftOut, a_slotOf, a_used, a_pointOf, a_px, a_py, a_heavy, a_buffer, a_filled, a_leafSlot, a_standsAt, upd a_minX a 64, upd a_maxX a (-1), upd a_minY a 64, upd a_maxY a (-1), upd a_many a 0, upd a_total a 0, a_work, a_spanFrom, a_spanTo, a_stack, a_list)) : wpX_emptyNode post (f_added, f_alive, f_buffered, f_gathered, f_x0, f_x1, f_y0, f_y1, f_foundMany, f_foundTotal, f_listing, f_listed, f_centreX, f_centreY, f_bestDistance, f_bestPoint, f_behindDistance, f_behindPoint, f_leftOut, a_slotOf, a_used, a_pointOf, a_px, a_py, a_heavy, a_buffer, a_filled, a_leafSlot, a_standsAt, a_minX, a_maxX, a_minY, a_maxY, a_many, a_total, a_work, a_spanFrom, a_spanTo, a_stack, a_list) (nI a) := by
  have ca : (nI a).toNatClampNeg = a := nI_clamp (by omega)
  have va : vp_in (nI a) 128 := vp_in_nI (by omega) (by omega)
  unfold wpX_emptyNode
  simp only [ca]
  exact ⟨va, nm_e ⟨va, nm_e ⟨va, nm_e ⟨va, nm_e ⟨va, nm_e ⟨va, nm_e h⟩⟩⟩⟩⟩⟩
theorem xl_b178 {J7 : Int32 → (Nat → Int32) → (Nat → Int32) → (Nat → Int32) → (Nat → Int32) → (Nat → Int32) → (Nat → Int32) → (Nat → Int32) → (Nat → Int32) → (Nat → Int32) → (Nat → Int32) → (Nat → Int32) → (Nat → Int32) → (Nat → Int32) → (Nat → Int32) → (Nat → Int32) → (Nat → Int32) → (Nat → Int32) → (Nat → Int32) → (Nat → Int32) → (Nat → Int32) → (Nat → Int32) → Prop} {a s : Nat} (ha : a < 128) (hs : s < 64) {x2 x3 z0 : Int32} (h : J7 (x3 + 1) a_slotOf a_used a_pointOf a_px a_py a_heavy a_buffer a_filled a_leafSlot a_standsAt a_minX a_maxX a_minY (upd a_maxY a z0) (upd a_many a (a_many a + 1)) (upd a_total a (a_total a + a_heavy s)) a_work a_spanFrom a_spanTo a_stack a_list) : wX_bindLeaf_178 post J7 (nI a) x2 x3 (nI s) z0 (nI a) f_added f_alive f_buffered f_gathered f_x0 f_x1 f_y0 f_y1 f_foundMany f_foundTotal f_listing f_listed f_centreX f_centreY f_bestDistance f_bestPoint f_behindDistance f_behindPoint f_leftOut a_slotOf a_used a_pointOf a_px a_py a_heavy a_buffer a_filled a_leafSlot a_standsAt a_minX a_maxX a_minY a_maxY a_many a_total a_work a_spanFrom a_spanTo a_stack a_list := by
  have ca : (nI a).toNatClampNeg = a := nI_clamp (by omega)
  have cs : (nI s).toNatClampNeg = s := nI_clamp (by omega)
  have va : vp_in (nI a) 128 := vp_in_nI (by omega) (by omega)
  have vs : vp_in (nI s) 64 := vp_in_nI (by omega) (by omega)
  unfold wX_bindLeaf_178
  simp only [ca, cs]
  exact ⟨va, nm_e ⟨va, va, nm_e ⟨va, vs, va, nm_e (nm_e h)⟩⟩⟩
theorem xl_b140 {J7 : Int32 → (Nat → Int32) → (Nat → Int32) → (Nat → Int32) → (Nat → Int32) → (Nat → Int32) → (Nat → Int32) → (Nat → Int32) → (Nat → Int32) → (Nat → Int32) → (Nat → Int32) → (Nat → Int32) → (Nat → Int32) → (Nat → Int32) → (Nat → Int32) → (Nat → Int32) → (Nat → Int32) → (Nat → Int32) → (Nat → Int32) → (Nat → Int32) → (Nat → Int32) → (Nat → Int32) → Prop} {a s : Nat} (ha : a < 128) (hs : s < 64) {x2 x3 z0 : Int32} (h : ∀ v3, kt_mx v3 (a_maxY a) (a_py s) → J7 (x3 + 1) a_slotOf a_used a_pointOf a_px a_py a_heavy a_buffer a_filled a_leafSlot a_standsAt a_minX a_maxX (upd a_minY a z0) (upd a_maxY a v3) (upd a_many a (a_many a + 1)) (upd a_total a (a_total a + a_heavy s)) a_work a_spanFrom a_spanTo a_stack a_list) : wX_bindLeaf_140 post J7 (nI a) x2 x3 (nI s) z0 (nI a) f_added f_alive f_buffered f_gathered f_x0 f_x1 f_y0 f_y1 f_foundMany f_foundTotal f_listing f_listed f_centreX f_centreY f_bestDistance f_bestPoint f_behindDistance f_behindPoint f_leftOut a_slotOf a_used a_pointOf a_px a_py a_heavy a_buffer a_filled a_leafSlot a_standsAt a_minX a_maxX a_minY a_maxY a_many a_total a_work a_spanFrom a_spanTo a_stack a_list := by
  have ca : (nI a).toNatClampNeg = a := nI_clamp (by omega)
  have cs : (nI s).toNatClampNeg = s := nI_clamp (by omega)
  have va : vp_in (nI a) 128 := vp_in_nI (by omega) (by omega)
  have vs : vp_in (nI s) 64 := vp_in_nI (by omega) (by omega)
  unfold wX_bindLeaf_140
  simp only [ca, cs]
  exact ⟨va, nm_e ⟨vs, va, br_c (fun hc => ⟨va, xl_b178 ha hs (h _ ⟨kt_rfl _, hc, Or.inl rfl⟩)⟩) (fun hc => ⟨vs, xl_b178 ha hs (h _ ⟨kt_lt_le (kt_nle hc), kt_rfl _, Or.inr rfl⟩)⟩)⟩⟩
theorem xl_b102 {J7 : Int32 → (Nat → Int32) → (Nat → Int32) → (Nat → Int32) → (Nat → Int32) → (Nat → Int32) → (Nat → Int32) → (Nat → Int32) → (Nat → Int32) → (Nat → Int32) → (Nat → Int32) → (Nat → Int32) → (Nat → Int32) → (Nat → Int32) → (Nat → Int32) → (Nat → Int32) → (Nat → Int32) → (Nat → Int32) → (Nat → Int32) → (Nat → Int32) → (Nat → Int32) → (Nat → Int32) → Prop} {a s : Nat} (ha : a < 128) (hs : s < 64) {x2 x3 z0 : Int32} (h : ∀ v2 v3, kt_mn v2 (a_minY a) (a_py s) → kt_mx v3 (a_maxY a) (a_py s) → J7 (x3 + 1) a_slotOf a_used a_pointOf a_px a_py a_heavy a_buffer a_filled a_leafSlot a_standsAt a_minX (upd a_maxX a z0) (upd a_minY a v2) (upd a_maxY a v3) (upd a_many a (a_many a + 1)) (upd a_total a (a_total a + a_heavy s)) a_work a_spanFrom a_spanTo a_stack a_list) : wX_bindLeaf_102 post J7 (nI a) x2 x3 (nI s) z0 (nI a) f_added f_alive f_buffered f_gathered f_x0 f_x1 f_y0 f_y1 f_foundMany f_foundTotal f_listing f_listed f_centreX f_centreY f_bestDistance f_bestPoint f_behindDistance f_behindPoint f_leftOut a_slotOf a_used a_pointOf a_px a_py a_heavy a_buffer a_filled a_leafSlot a_standsAt a_minX a_maxX a_minY a_maxY a_many a_total a_work a_spanFrom a_spanTo a_stack a_list := by
  have ca : (nI a).toNatClampNeg = a := nI_clamp (by omega)
  have cs : (nI s).toNatClampNeg = s := nI_clamp (by omega)
  have va : vp_in (nI a) 128 := vp_in_nI (by omega) (by omega)
  have vs : vp_in (nI s) 64 := vp_in_nI (by omega) (by omega)
  unfold wX_bindLeaf_102
  simp only [ca, cs]
  exact ⟨va, nm_e ⟨vs, va, br_c (fun hc => ⟨va, xl_b140 ha hs (fun v3 k3 => h _ v3 ⟨kt_rfl _, hc, Or.inl rfl⟩ k3)⟩) (fun hc => ⟨vs, xl_b140 ha hs (fun v3 k3 => h _ v3 ⟨kt_lt_le (kt_nle hc), kt_rfl _, Or.inr rfl⟩ k3)⟩)⟩⟩
theorem xl_b64 {J7 : Int32 → (Nat → Int32) → (Nat → Int32) → (Nat → Int32) → (Nat → Int32) → (Nat → Int32) → (Nat → Int32) → (Nat → Int32) → (Nat → Int32) → (Nat → Int32) → (Nat → Int32) → (Nat → Int32) → (Nat → Int32) → (Nat → Int32) → (Nat → Int32) → (Nat → Int32) → (Nat → Int32) → (Nat → Int32) → (Nat → Int32) → (Nat → Int32) → (Nat → Int32) → (Nat → Int32) → Prop} {a s : Nat} (ha : a < 128) (hs : s < 64) {x2 x3 z0 : Int32} (h : ∀ v1 v2 v3, kt_mx v1 (a_maxX a) (a_px s) → kt_mn v2 (a_minY a) (a_py s) → kt_mx v3 (a_maxY a) (a_py s) → J7 (x3 + 1) a_slotOf a_used a_pointOf a_px a_py a_heavy a_buffer a_filled a_leafSlot a_standsAt (upd a_minX a z0) (upd a_maxX a v1) (upd a_minY a v2) (upd a_maxY a v3) (upd a_many a (a_many a + 1)) (upd a_total a (a_total a + a_heavy s)) a_work a_spanFrom a_spanTo a_stack a_list) : wX_bindLeaf_64 post J7 (nI a) x2 x3 (nI s) z0 (nI a) f_added f_alive f_buffered f_gathered f_x0 f_x1 f_y0 f_y1 f_foundMany f_foundTotal f_listing f_listed f_centreX f_centreY f_bestDistance f_bestPoint f_behindDistance f_behindPoint f_leftOut a_slotOf a_used a_pointOf a_px a_py a_heavy a_buffer a_filled a_leafSlot a_standsAt a_minX a_maxX a_minY a_maxY a_many a_total a_work a_spanFrom a_spanTo a_stack a_list := by
  have ca : (nI a).toNatClampNeg = a := nI_clamp (by omega)
  have cs : (nI s).toNatClampNeg = s := nI_clamp (by omega)
  have va : vp_in (nI a) 128 := vp_in_nI (by omega) (by omega)
  have vs : vp_in (nI s) 64 := vp_in_nI (by omega) (by omega)
  unfold wX_bindLeaf_64
  simp only [ca, cs]
  exact ⟨va, nm_e ⟨vs, va, br_c (fun hc => ⟨va, xl_b102 ha hs (fun v2 v3 k2 k3 => h _ v2 v3 ⟨kt_rfl _, hc, Or.inl rfl⟩ k2 k3)⟩) (fun hc => ⟨vs, xl_b102 ha hs (fun v2 v3 k2 k3 => h _ v2 v3 ⟨kt_lt_le (kt_nle hc), kt_rfl _, Or.inr rfl⟩ k2 k3)⟩)⟩⟩
/-- a leaf's four places hold slots on the board, or none -/
def kt_L4 (leaf px py : Nat → Int32) (q : Nat) : Prop := ∀ k, q ≤ k → k < q + 4 → (leaf k < 0 ∨ ∃ s, s < 64 ∧ leaf k = nI s ∧ (0 ≤ px s ∧ px s ≤ 63 ∧ 0 ≤ py s ∧ py s ≤ 63))
theorem xl_b7 {a q : Nat} (ha : a < 128) (hq : q + 4 ≤ 256) (hL : kt_L4 a_leafSlot a_px a_py q) : ∀ d j, j + d = 4 → ∀ (a_minX a_maxX a_minY a_maxY a_many a_total : Nat → Int32), kt_Nd a_px a_py a_heavy (kt_sg a_leafSlot q j) (a_minX a) (a_maxX a) (a_minY a) (a_maxY a) (a_many a) (a_total a) → (∀ v0 v1 v2 v3 v4 v5, kt_Nd a_px a_py a_heavy (kt_sg a_leafSlot q 4) v0 v1 v2 v3 v4 v5 → post (f_added, f_alive, f_buffered, f_gathered, f_x0, f_x1, f_y0, f_y1, f_foundMany, f_foundTotal, f_listing, f_listed, f_centreX, f_centreY, f_bestDistance, f_bestPoint, f_behindDistance, f_behindPoint, f_leftOut, a_slotOf, a_used, a_pointOf, a_px, a_py, a_heavy, a_buffer, a_filled, a_leafSlot, a_standsAt, upd a_minX a v0, upd a_maxX a v1, upd a_minY a v2, upd a_maxY a v3, upd a_many a v4, upd a_total a v5, a_work, a_spanFrom, a_spanTo, a_stack, a_list)) → ∀ n, d < n → wX_bindLeaf_7 post (nI a) (nI q) f_added f_alive f_buffered f_gathered f_x0 f_x1 f_y0 f_y1 f_foundMany f_foundTotal f_listing f_listed f_centreX f_centreY f_bestDistance f_bestPoint f_behindDistance f_behindPoint f_leftOut n (nI (q + j)) a_slotOf a_used a_pointOf a_px a_py a_heavy a_buffer a_filled a_leafSlot a_standsAt a_minX a_maxX a_minY a_maxY a_many a_total a_work a_spanFrom a_spanTo a_stack a_list := by
  have e4 : nI q + 4 = nI (q + 4) := nI_add q 4
  intro d
  induction d with
  | zero =>
    intro j hj a_minX a_maxX a_minY a_maxY a_many a_total hN h n hn
    obtain ⟨m, rfl⟩ : ∃ m, n = m + 1 := ⟨n - 1, by omega⟩
    have ej : j = 4 := by omega
    subst ej
    have := h _ _ _ _ _ _ hN
    simp only [kt_self] at this
    exact br_t (by rw [e4]; exact kt_rfl _) this
  | succ d ih =>
    intro j hj a_minX a_maxX a_minY a_maxY a_many a_total hN h n hn
    obtain ⟨m, rfl⟩ : ∃ m, n = m + 1 := ⟨n - 1, by omega⟩
    have hc : ¬ nI q + 4 ≤ nI (q + j) := by rw [e4]; exact nI_ge (by omega) (by omega)
    have vi : vp_in (nI (q + j)) 256 := vp_in_nI (by omega) (by omega)
    have ci : (nI (q + j)).toNatClampNeg = q + j := nI_clamp (by omega)
    have es : kt_sg a_leafSlot q (j + 1) = kt_sg a_leafSlot q j ++ kt_sg a_leafSlot (q + j) 1 := kt_sg_app _ _ _ _
    rcases hL (q + j) (by omega) (by omega) with hz | ⟨s, hs, e, b0, b1, b2, b3⟩
    · rw [kt_sg_1n hz, List.append_nil] at es
      refine br_f hc ⟨vi, nm_r (by rw [ci]) (br_t hz (nm_r (nI_1 _) ?_))⟩
      exact ih (j + 1) (by omega) a_minX a_maxX a_minY a_maxY a_many a_total (by rw [es]; exact hN) h m (by omega)
    · rw [kt_sg_1s e (by omega)] at es
      have ca : (nI a).toNatClampNeg = a := nI_clamp (by omega)
      have cs : (nI s).toNatClampNeg = s := nI_clamp (by omega)
      have va : vp_in (nI a) 128 := vp_in_nI (by omega) (by omega)
      have vs : vp_in (nI s) 64 := vp_in_nI (by omega) (by omega)
      have key : ∀ z0, kt_mn z0 (a_minX a) (a_px s) → wX_bindLeaf_64 post (wX_bindLeaf_7 post (nI a) (nI q) f_added f_alive f_buffered f_gathered f_x0 f_x1 f_y0 f_y1 f_foundMany f_foundTotal f_listing f_listed f_centreX f_centreY f_bestDistance f_bestPoint f_behindDistance f_behindPoint f_leftOut m) (nI a) (nI q) (nI (q + j)) (nI s) z0 (nI a) f_added f_alive f_buffered f_gathered f_x0 f_x1 f_y0 f_y1 f_foundMany f_foundTotal f_listing f_listed f_centreX f_centreY f_bestDistance f_bestPoint f_behindDistance f_behindPoint f_leftOut a_slotOf a_used a_pointOf a_px a_py a_heavy a_buffer a_filled a_leafSlot a_standsAt a_minX a_maxX a_minY a_maxY a_many a_total a_work a_spanFrom a_spanTo a_stack a_list := by
        intro z0 k0
        refine xl_b64 ha hs (fun v1 v2 v3 k1 k2 k3 => ?_)
        rw [nI_1]
        refine ih (j + 1) (by omega) _ _ _ _ _ _ ?_ ?_ m (by omega)
        · rw [es]
          simp only [pk_us]
          exact kt_Nd_join hN (kt_Nd_one b0 b1 b2 b3) k0 k1 k2 k3
        · intro w0 w1 w2 w3 w4 w5 hw
          simp only [kt_uu]
          exact h _ _ _ _ _ _ hw
      refine br_f hc ⟨vi, nm_r (e' := nI s) (by rw [ci, e]) (br_f (nI_pos (by omega)) ⟨vs, va, ?_⟩)⟩
      simp only [ca, cs]
      exact br_c (fun hc => ⟨va, key _ ⟨kt_rfl _, hc, Or.inl rfl⟩⟩) (fun hc => ⟨vs, key _ ⟨kt_lt_le (kt_nle hc), kt_rfl _, Or.inr rfl⟩⟩)
theorem xl_bind {a q : Nat} (ha : a < 128) (hq : q + 4 ≤ 256) (hL : kt_L4 a_leafSlot a_px a_py q) (h : ∀ v0 v1 v2 v3 v4 v5, kt_Nd a_px a_py a_heavy (kt_sg a_leafSlot q 4) v0 v1 v2 v3 v4 v5 → post (f_added, f_alive, f_buffered, f_gathered, f_x0, f_x1, f_y0, f_y1, f_foundMany, f_foundTotal, f_listing, f_listed, f_centreX, f_centreY, f_bestDistance, f_bestPoint, f_behindDistance, f_behindPoint, f_leftOut, a_slotOf, a_used, a_pointOf, a_px, a_py, a_heavy, a_buffer, a_filled, a_leafSlot, a_standsAt, upd a_minX a v0, upd a_maxX a v1, upd a_minY a v2, upd a_maxY a v3, upd a_many a v4, upd a_total a v5, a_work, a_spanFrom, a_spanTo, a_stack, a_list)) : wpX_bindLeaf post (f_added, f_alive, f_buffered, f_gathered, f_x0, f_x1, f_y0, f_y1, f_foundMany, f_foundTotal, f_listing, f_listed, f_centreX, f_centreY, f_bestDistance, f_bestPoint, f_behindDistance, f_behindPoint, f_leftOut, a_slotOf, a_used, a_pointOf, a_px, a_py, a_heavy, a_buffer, a_filled, a_leafSlot, a_standsAt, a_minX, a_maxX, a_minY, a_maxY, a_many, a_total, a_work, a_spanFrom, a_spanTo, a_stack, a_list) (nI a) (nI q) := by
  unfold wpX_bindLeaf
  refine xl_empty ha ?_
  refine ⟨5, xl_b7 ha hq hL 4 0 rfl _ _ _ _ _ _ ?_ ?_ 5 (by omega)⟩
  · simp only [pk_us]
    exact kt_Nd_nil _ _ _
  · intro w0 w1 w2 w3 w4 w5 hw
    simp only [kt_uu]
    exact h _ _ _ _ _ _ hw
end KTE
end
section
section KTF
/-! X's search over a rectangle -/
/-- inside the rectangle -/
def kt_ins (px py : Nat → Int32) (x0 x1 y0 y1 : Int32) (s : Nat) : Bool := decide (¬ px s < x0 ∧ ¬ x1 < px s ∧ ¬ py s < y0 ∧ ¬ y1 < py s)
theorem kt_ins_t {px py : Nat → Int32} {x0 x1 y0 y1 : Int32} {s : Nat} : kt_ins px py x0 x1 y0 y1 s = true ↔ (¬ px s < x0 ∧ ¬ x1 < px s ∧ ¬ py s < y0 ∧ ¬ y1 < py s) := by
  unfold kt_ins
  exact decide_eq_true_iff
theorem kt_ins_f {px py : Nat → Int32} {x0 x1 y0 y1 : Int32} {s : Nat} (h : ¬ (¬ px s < x0 ∧ ¬ x1 < px s ∧ ¬ py s < y0 ∧ ¬ y1 < py s)) : ¬ kt_ins px py x0 x1 y0 y1 s = true := fun z => h (kt_ins_t.mp z)
variable {f_added f_alive f_buffered f_gathered f_x0 f_x1 f_y0 f_y1 f_foundMany f_foundTotal f_listing f_listed f_centreX f_centreY f_bestDistance f_bestPoint f_behindDistance f_behindPoint f_leftOut : Int32} {a_slotOf a_used a_pointOf a_px a_py a_heavy a_buffer a_filled a_leafSlot a_standsAt a_minX a_maxX a_minY a_maxY a_many a_total a_work a_spanFrom a_spanTo a_stack a_list : Nat → Int32}
variable {post : SX → Prop} {pI : Int32 → Prop}
theorem xl_inside {s : Nat} (hs : s < 64) (h0 : ¬ kt_ins a_px a_py f_x0 f_x1 f_y0 f_y1 s = true → pI 0) (h1 : kt_ins a_px a_py f_x0 f_x1 f_y0 f_y1 s = true → pI 1) : wpX_inside pI (f_added, f_alive, f_buffered, f_gathered, f_x0, f_x1, f_y0, f_y1, f_foundMany, f_foundTotal, f_listing, f_listed, f_centreX, f_centreY, f_bestDistance, f_bestPoint, f_behindDistance, f_behindPoint, f_leftOut, a_slotOf, a_used, a_pointOf, a_px, a_py, a_heavy, a_buffer, a_filled, a_leafSlot, a_standsAt, a_minX, a_maxX, a_minY, a_maxY, a_many, a_total, a_work, a_spanFrom, a_spanTo, a_stack, a_list) (nI s) := by
  have cs : (nI s).toNatClampNeg = s := nI_clamp (by omega)
  have vs : vp_in (nI s) 64 := vp_in_nI (by omega) (by omega)
  unfold wpX_inside
  simp only [cs]
  exact ⟨vs, br_c (fun a => h0 (kt_ins_f (fun z => z.1 a))) (fun a => ⟨vs, br_c (fun b => h0 (kt_ins_f (fun z => z.2.1 b))) (fun b => ⟨vs, br_c (fun c => h0 (kt_ins_f (fun z => z.2.2.1 c))) (fun c => ⟨vs, br_c (fun d => h0 (kt_ins_f (fun z => z.2.2.2 d))) (fun d => h1 (kt_ins_t.mpr ⟨a, b, c, d⟩))⟩)⟩)⟩)⟩
theorem xl_apart {a : Nat} (ha : a < 128) {l : List Nat} (hN : kt_Nd a_px a_py a_heavy l (a_minX a) (a_maxX a) (a_minY a) (a_maxY a) (a_many a) (a_total a)) (h0 : pI 0) (h1 : (∀ s, s ∈ l → ¬ kt_ins a_px a_py f_x0 f_x1 f_y0 f_y1 s = true) → pI 1) : wpX_apart pI (f_added, f_alive, f_buffered, f_gathered, f_x0, f_x1, f_y0, f_y1, f_foundMany, f_foundTotal, f_listing, f_listed, f_centreX, f_centreY, f_bestDistance, f_bestPoint, f_behindDistance, f_behindPoint, f_leftOut, a_slotOf, a_used, a_pointOf, a_px, a_py, a_heavy, a_buffer, a_filled, a_leafSlot, a_standsAt, a_minX, a_maxX, a_minY, a_maxY, a_many, a_total, a_work, a_spanFrom, a_spanTo, a_stack, a_list) (nI a) := by
  have ca : (nI a).toNatClampNeg = a := nI_clamp (by omega)
  have va : vp_in (nI a) 128 := vp_in_nI (by omega) (by omega)
  have hl := hN.1
  unfold wpX_apart
  simp only [ca]
  exact ⟨va, br_c (fun h => h1 (fun s hs => kt_ins_f (fun z => z.2.1 (Int32.lt_of_lt_of_le h (hl s hs).1)))) (fun _ => ⟨va, br_c (fun h => h1 (fun s hs => kt_ins_f (fun z => z.1 (Int32.lt_of_le_of_lt (hl s hs).2.1 h)))) (fun _ => ⟨va, br_c (fun h => h1 (fun s hs => kt_ins_f (fun z => z.2.2.2 (Int32.lt_of_lt_of_le h (hl s hs).2.2.1)))) (fun _ => ⟨va, br_c (fun _ => h0) (fun h => h1 (fun s hs => kt_ins_f (fun z => z.2.2.1 (Int32.lt_of_le_of_lt (hl s hs).2.2.2 (kt_nle h)))))⟩)⟩)⟩)⟩
theorem xl_whole {a : Nat} (ha : a < 128) {l : List Nat} (hN : kt_Nd a_px a_py a_heavy l (a_minX a) (a_maxX a) (a_minY a) (a_maxY a) (a_many a) (a_total a)) (h0 : pI 0) (h1 : (∀ s, s ∈ l → kt_ins a_px a_py f_x0 f_x1 f_y0 f_y1 s = true) → pI 1) : wpX_whole pI (f_added, f_alive, f_buffered, f_gathered, f_x0, f_x1, f_y0, f_y1, f_foundMany, f_foundTotal, f_listing, f_listed, f_centreX, f_centreY, f_bestDistance, f_bestPoint, f_behindDistance, f_behindPoint, f_leftOut, a_slotOf, a_used, a_pointOf, a_px, a_py, a_heavy, a_buffer, a_filled, a_leafSlot, a_standsAt, a_minX, a_maxX, a_minY, a_maxY, a_many, a_total, a_work, a_spanFrom, a_spanTo, a_stack, a_list) (nI a) := by
  have ca : (nI a).toNatClampNeg = a := nI_clamp (by omega)
  have va : vp_in (nI a) 128 := vp_in_nI (by omega) (by omega)
  have hl := hN.1
  unfold wpX_whole
  simp only [ca]
  exact ⟨va, br_c (fun _ => h0) (fun a => ⟨va, br_c (fun _ => h0) (fun b => ⟨va, br_c (fun _ => h0) (fun c => ⟨va, br_c (fun _ => h0) (fun d => h1 (fun s hs => kt_ins_t.mpr ⟨Int32.not_lt.mpr (kt_tr (kt_nl a) (hl s hs).1), Int32.not_lt.mpr (kt_tr (hl s hs).2.1 (kt_nl b)), Int32.not_lt.mpr (kt_tr (kt_nl c) (hl s hs).2.2.1), Int32.not_lt.mpr (kt_tr (hl s hs).2.2.2 (kt_nl d))⟩))⟩)⟩)⟩)⟩
/-- what was found so far -/
def kt_FS (hv : Nat → Int32) (F : List Nat) (fm ft lg ld : Int32) (ls : Nat → Int32) : Prop := fm = nI F.length ∧ ft = kt_sm hv F ∧ (¬ lg = 0 → (ld = nI F.length ∧ ∀ i s, F[i]? = some s → ls i = nI s))
theorem xl_take {s : Nat} {F : List Nat} (hs : s < 64) (hF : kt_FS a_heavy F f_foundMany f_foundTotal f_listing f_listed a_list) (hl : F.length < 64) (h : ∀ fm ft ld ls, kt_FS a_heavy (F ++ [s]) fm ft f_listing ld ls → post (f_added, f_alive, f_buffered, f_gathered, f_x0, f_x1, f_y0, f_y1, fm, ft, f_listing, ld, f_centreX, f_centreY, f_bestDistance, f_bestPoint, f_behindDistance, f_behindPoint, f_leftOut, a_slotOf, a_used, a_pointOf, a_px, a_py, a_heavy, a_buffer, a_filled, a_leafSlot, a_standsAt, a_minX, a_maxX, a_minY, a_maxY, a_many, a_total, a_work, a_spanFrom, a_spanTo, a_stack, ls)) : wpX_take post (f_added, f_alive, f_buffered, f_gathered, f_x0, f_x1, f_y0, f_y1, f_foundMany, f_foundTotal, f_listing, f_listed, f_centreX, f_centreY, f_bestDistance, f_bestPoint, f_behindDistance, f_behindPoint, f_leftOut, a_slotOf, a_used, a_pointOf, a_px, a_py, a_heavy, a_buffer, a_filled, a_leafSlot, a_standsAt, a_minX, a_maxX, a_minY, a_maxY, a_many, a_total, a_work, a_spanFrom, a_spanTo, a_stack, a_list) (nI s) := by
  have cs : (nI s).toNatClampNeg = s := nI_clamp (by omega)
  have vs : vp_in (nI s) 64 := vp_in_nI (by omega) (by omega)
  obtain ⟨e1, e2, e3⟩ := hF
  have d1 : f_foundMany + 1 = nI (F ++ [s]).length := by rw [e1, nI_1, List.length_append]; rfl
  have d2 : f_foundTotal + a_heavy s = kt_sm a_heavy (F ++ [s]) := by rw [e2, kt_sm_app, kt_sm_1]
  unfold wpX_take
  simp only [cs]
  refine nm_e ⟨vs, nm_e (br_c (fun z => h _ _ _ _ ⟨d1, d2, fun y => absurd z y⟩) (fun z => ?_))⟩
  obtain ⟨e4, e5⟩ := e3 z
  have vl : vp_in f_listed 64 := by rw [e4]; exact vp_in_nI (by omega) (by omega)
  have cl : f_listed.toNatClampNeg = F.length := by rw [e4]; exact nI_clamp (by omega)
  refine ⟨vl, nm_e (nm_e (h _ _ _ _ ⟨d1, d2, fun _ => ⟨?_, ?_⟩⟩))⟩
  · rw [e4, nI_1, List.length_append]; rfl
  · intro i r hr
    rw [cl]
    by_cases hi : i < F.length
    · rw [List.getElem?_append_left hi] at hr
      rw [pk_un (by omega)]
      exact e5 i r hr
    · by_cases hj : i = F.length
      · subst hj
        rw [List.getElem?_concat_length] at hr
        rw [pk_us, Option.some.inj hr]
      · rw [List.getElem?_eq_none (by rw [List.length_append]; simp only [List.length_cons, List.length_nil]; omega)] at hr
        cases hr
theorem xl_t19 {q : Nat} (hq : q + 4 ≤ 256) (hL : ∀ k, q ≤ k → k < q + 4 → (a_leafSlot k < 0 ∨ ∃ s, s < 64 ∧ a_leafSlot k = nI s)) : ∀ d j, j + d = 4 → ∀ (F : List Nat) (fm ft ld : Int32) (ls : Nat → Int32), kt_FS a_heavy F fm ft f_listing ld ls → F.length + ((kt_sg a_leafSlot (q + j) d).filter (kt_ins a_px a_py f_x0 f_x1 f_y0 f_y1)).length ≤ 64 → (∀ fm ft ld ls, kt_FS a_heavy (F ++ (kt_sg a_leafSlot (q + j) d).filter (kt_ins a_px a_py f_x0 f_x1 f_y0 f_y1)) fm ft f_listing ld ls → post (f_added, f_alive, f_buffered, f_gathered, f_x0, f_x1, f_y0, f_y1, fm, ft, f_listing, ld, f_centreX, f_centreY, f_bestDistance, f_bestPoint, f_behindDistance, f_behindPoint, f_leftOut, a_slotOf, a_used, a_pointOf, a_px, a_py, a_heavy, a_buffer, a_filled, a_leafSlot, a_standsAt, a_minX, a_maxX, a_minY, a_maxY, a_many, a_total, a_work, a_spanFrom, a_spanTo, a_stack, ls)) → ∀ n, d < n → wX_takeLeaf_19 post (nI q) n (nI (q + j)) f_added f_alive f_buffered f_gathered f_x0 f_x1 f_y0 f_y1 fm ft f_listing ld f_centreX f_centreY f_bestDistance f_bestPoint f_behindDistance f_behindPoint f_leftOut a_slotOf a_used a_pointOf a_px a_py a_heavy a_buffer a_filled a_leafSlot a_standsAt a_minX a_maxX a_minY a_maxY a_many a_total a_work a_spanFrom a_spanTo a_stack ls := by
  have e4 : nI q + 4 = nI (q + 4) := nI_add q 4
  intro d
  induction d with
  | zero =>
    intro j hj F fm ft ld ls hF hlen h n hn
    obtain ⟨m, rfl⟩ : ∃ m, n = m + 1 := ⟨n - 1, by omega⟩
    have ej : j = 4 := by omega
    subst ej
    refine br_t (by rw [e4]; exact kt_rfl _) (h _ _ _ _ ?_)
    rw [kt_sg_0, List.filter_nil, List.append_nil]
    exact hF
  | succ d ih =>
    intro j hj F fm ft ld ls hF hlen h n hn
    obtain ⟨m, rfl⟩ : ∃ m, n = m + 1 := ⟨n - 1, by omega⟩
    have hc : ¬ nI q + 4 ≤ nI (q + j) := by rw [e4]; exact nI_ge (by omega) (by omega)
    have vi : vp_in (nI (q + j)) 256 := vp_in_nI (by omega) (by omega)
    have ci : (nI (q + j)).toNatClampNeg = q + j := nI_clamp (by omega)
    have es : kt_sg a_leafSlot (q + j) (d + 1) = kt_sg a_leafSlot (q + j) 1 ++ kt_sg a_leafSlot (q + (j + 1)) d := by
      rw [Nat.add_comm d 1]
      exact kt_sg_app _ _ _ _
    rw [es, List.filter_append] at hlen h
    rw [wX_takeLeaf_19]
    simp only [ci]
    rcases hL (q + j) (by omega) (by omega) with hz | ⟨s, hs, e⟩
    · rw [kt_sg_1n hz, List.filter_nil, List.nil_append] at hlen h
      refine br_f hc ⟨vi, br_t hz (nm_r (nI_1 _) ?_)⟩
      exact ih (j + 1) (by omega) F fm ft ld ls hF hlen h m (by omega)
    · rw [kt_sg_1s e (by omega)] at hlen h
      rw [e]
      refine br_f hc ⟨vi, br_f (nI_pos (by omega)) ⟨vi, xl_inside hs (fun hi => ?_) (fun hi => ?_)⟩⟩
      · rw [List.filter_cons_of_neg hi, List.filter_nil, List.nil_append] at hlen h
        exact br_t rfl (nm_r (nI_1 _) (ih (j + 1) (by omega) F fm ft ld ls hF hlen h m (by omega)))
      · rw [List.filter_cons_of_pos hi, List.filter_nil] at hlen h
        refine br_f (by decide) ⟨vi, xl_take hs hF ?_ (fun fm' ft' ld' ls' hF' => ?_)⟩
        · rw [List.length_append, List.length_singleton] at hlen
          omega
        · refine nm_r (nI_1 _) (ih (j + 1) (by omega) (F ++ [s]) fm' ft' ld' ls' hF' ?_ ?_ m (by omega))
          · rw [List.length_append, List.length_singleton] at hlen ⊢
            omega
          · rw [List.append_assoc]
            exact h
/-- leaf n of tree t -/
theorem xl_tleaf {pl : Nat → Prop} {t n : Nat} {F : List Nat} (ht : t < 4) (h1 : kt_lv t ≤ n) (h2 : n < 2 * kt_lv t) (hT : kt_Tr pl t a_leafSlot a_standsAt) (hF : kt_FS a_heavy F f_foundMany f_foundTotal f_listing f_listed a_list) (hlen : F.length + ((kt_sg a_leafSlot (kt_lo t n) (kt_ln t n)).filter (kt_ins a_px a_py f_x0 f_x1 f_y0 f_y1)).length ≤ 64) (h : ∀ fm ft ld ls, kt_FS a_heavy (F ++ (kt_sg a_leafSlot (kt_lo t n) (kt_ln t n)).filter (kt_ins a_px a_py f_x0 f_x1 f_y0 f_y1)) fm ft f_listing ld ls → post (f_added, f_alive, f_buffered, f_gathered, f_x0, f_x1, f_y0, f_y1, fm, ft, f_listing, ld, f_centreX, f_centreY, f_bestDistance, f_bestPoint, f_behindDistance, f_behindPoint, f_leftOut, a_slotOf, a_used, a_pointOf, a_px, a_py, a_heavy, a_buffer, a_filled, a_leafSlot, a_standsAt, a_minX, a_maxX, a_minY, a_maxY, a_many, a_total, a_work, a_spanFrom, a_spanTo, a_stack, ls)) : wpX_takeLeaf post (f_added, f_alive, f_buffered, f_gathered, f_x0, f_x1, f_y0, f_y1, f_foundMany, f_foundTotal, f_listing, f_listed, f_centreX, f_centreY, f_bestDistance, f_bestPoint, f_behindDistance, f_behindPoint, f_leftOut, a_slotOf, a_used, a_pointOf, a_px, a_py, a_heavy, a_buffer, a_filled, a_leafSlot, a_standsAt, a_minX, a_maxX, a_minY, a_maxY, a_many, a_total, a_work, a_spanFrom, a_spanTo, a_stack, a_list) (nI t) (nI n) := by
  have hv := kt_lv16 t ht
  obtain ⟨g1, g2⟩ := kt_leaf ht h1 h2
  have e : nI (kt_ba t) + 4 * (nI n - nI (kt_lv t)) = nI (kt_lo t n) := by
    rw [pk_sub h1, show (4 : Int32) = nI 4 from rfl, pk_mul, nI_add, g2]
  rw [g1] at hlen h
  unfold wpX_takeLeaf
  refine xl_base ht ?_
  refine xl_leaves ht ?_
  refine nm_r e ⟨5, xl_t19 (q := kt_lo t n) (by omega) ?_ 4 0 rfl F _ _ _ _ hF hlen h 5 (by omega)⟩
  intro k k1 k2
  rcases hT k ⟨by omega, by omega⟩ with z | ⟨s, a, b, _⟩
  · exact Or.inl z
  · exact Or.inr ⟨s, a, b⟩
end KTF
end
section
section KTG
/-! the stack of nodes that wait -/
def kt_pd (g : Nat → List Nat) (st : Nat → Int32) : Nat → List Nat
  | 0 => []
  | w + 1 => kt_pd g st w ++ g (st w).toNatClampNeg
def kt_pz (z : Nat → Nat) (st : Nat → Int32) : Nat → Nat
  | 0 => 0
  | w + 1 => kt_pz z st w + z (st w).toNatClampNeg
def kt_sk (t : Nat) (st : Nat → Int32) (w : Nat) : Prop := ∀ i, i < w → ∃ n, st i = nI n ∧ 1 ≤ n ∧ n < 2 * kt_lv t
theorem kt_pd_upd {g : Nat → List Nat} {st : Nat → Int32} {j : Nat} {v : Int32} : ∀ w, w ≤ j → kt_pd g (upd st j v) w = kt_pd g st w := by
  intro w
  induction w with
  | zero => intro _; rfl
  | succ w ih =>
    intro h
    show kt_pd g (upd st j v) w ++ g (upd st j v w).toNatClampNeg = kt_pd g st w ++ g (st w).toNatClampNeg
    rw [ih (by omega), pk_un (by omega)]
theorem kt_pz_upd {z : Nat → Nat} {st : Nat → Int32} {j : Nat} {v : Int32} : ∀ w, w ≤ j → kt_pz z (upd st j v) w = kt_pz z st w := by
  intro w
  induction w with
  | zero => intro _; rfl
  | succ w ih =>
    intro h
    show kt_pz z (upd st j v) w + z (upd st j v w).toNatClampNeg = kt_pz z st w + z (st w).toNatClampNeg
    rw [ih (by omega), pk_un (by omega)]
theorem kt_pz_ge {t : Nat} {st : Nat → Int32} (ht : t < 4) : ∀ w, kt_sk t st w → w ≤ kt_pz (kt_sb t) st w := by
  have hv := kt_lv16 t ht
  intro w
  induction w with
  | zero => intro _; exact Nat.le_refl _
  | succ w ih =>
    intro h
    obtain ⟨n, e, h1, h2⟩ := h w (by omega)
    have := ih (fun i hi => h i (by omega))
    have := (kt_bd ht h1 h2).2.2
    show w + 1 ≤ kt_pz (kt_sb t) st w + kt_sb t (st w).toNatClampNeg
    rw [e, nI_clamp (by omega)]
    omega
theorem kt_pd_s {g : Nat → List Nat} {st : Nat → Int32} {w n : Nat} (e : st w = nI n) (hn : n < 64) : kt_pd g st (w + 1) = kt_pd g st w ++ g n := by
  show kt_pd g st w ++ g (st w).toNatClampNeg = _
  rw [e, nI_clamp (by omega)]
theorem kt_pz_s {z : Nat → Nat} {st : Nat → Int32} {w n : Nat} (e : st w = nI n) (hn : n < 64) : kt_pz z st (w + 1) = kt_pz z st w + z n := by
  show kt_pz z st w + z (st w).toNatClampNeg = _
  rw [e, nI_clamp (by omega)]
/-- two nodes more -/
def kt_p2 (st : Nat → Int32) (w a b : Nat) : Nat → Int32 := upd (upd st w (nI a)) (w + 1) (nI b)
theorem kt_p2_d {g : Nat → List Nat} {st : Nat → Int32} {w a b : Nat} (ha : a < 64) (hb : b < 64) : kt_pd g (kt_p2 st w a b) (w + 2) = kt_pd g st w ++ (g a ++ g b) := by
  have e1 : kt_p2 st w a b (w + 1) = nI b := pk_us
  have e0 : kt_p2 st w a b w = nI a := by
    show upd (upd st w (nI a)) (w + 1) (nI b) w = nI a
    rw [pk_un (by omega), pk_us]
  rw [kt_pd_s e1 hb, kt_pd_s e0 ha, List.append_assoc]
  congr 1
  unfold kt_p2
  rw [kt_pd_upd _ (by omega), kt_pd_upd _ (by omega)]
theorem kt_p2_z {z : Nat → Nat} {st : Nat → Int32} {w a b : Nat} (ha : a < 64) (hb : b < 64) : kt_pz z (kt_p2 st w a b) (w + 2) = kt_pz z st w + (z a + z b) := by
  have e1 : kt_p2 st w a b (w + 1) = nI b := pk_us
  have e0 : kt_p2 st w a b w = nI a := by
    show upd (upd st w (nI a)) (w + 1) (nI b) w = nI a
    rw [pk_un (by omega), pk_us]
  rw [kt_pz_s e1 hb, kt_pz_s e0 ha, Nat.add_assoc]
  congr 1
  unfold kt_p2
  rw [kt_pz_upd _ (by omega), kt_pz_upd _ (by omega)]
theorem kt_p2_k {t : Nat} {st : Nat → Int32} {w a b : Nat} (h : kt_sk t st w) (ha : 1 ≤ a ∧ a < 2 * kt_lv t) (hb : 1 ≤ b ∧ b < 2 * kt_lv t) : kt_sk t (kt_p2 st w a b) (w + 2) := by
  intro i hi
  by_cases h1 : i = w + 1
  · subst h1
    exact ⟨b, pk_us, hb.1, hb.2⟩
  · by_cases h0 : i = w
    · subst h0
      refine ⟨a, ?_, ha.1, ha.2⟩
      show upd (upd st i (nI a)) (i + 1) (nI b) i = nI a
      rw [pk_un (by omega), pk_us]
    · obtain ⟨n, e, q⟩ := h i (by omega)
      refine ⟨n, ?_, q⟩
      show upd (upd st w (nI a)) (w + 1) (nI b) i = nI n
      rw [pk_un (by omega), pk_un (by omega), e]
/-- a node's slots by a test are its halves' -/
theorem kt_half {t n : Nat} (ht : t < 4) (h1 : 1 ≤ n) (h2 : n < kt_lv t) (f : Nat → Int32) : kt_sg f (kt_lo t n) (kt_ln t n) = kt_sg f (kt_lo t (2 * n)) (kt_ln t (2 * n)) ++ kt_sg f (kt_lo t (2 * n + 1)) (kt_ln t (2 * n + 1)) := by
  obtain ⟨e1, e2, e3, _⟩ := kt_inner ht h1 h2
  rw [e1, e2, e3, kt_sg_app]
variable {f_added f_alive f_buffered f_gathered f_x0 f_x1 f_y0 f_y1 f_foundMany f_foundTotal f_listing f_listed f_centreX f_centreY f_bestDistance f_bestPoint f_behindDistance f_behindPoint f_leftOut : Int32} {a_slotOf a_used a_pointOf a_px a_py a_heavy a_buffer a_filled a_leafSlot a_standsAt a_minX a_maxX a_minY a_maxY a_many a_total a_work a_spanFrom a_spanTo a_stack a_list : Nat → Int32}
variable {post : SX → Prop} {pI : Int32 → Prop}
theorem xl_k101 {pl : Nat → Prop} {J11 : Int32 → Int32 → Int32 → Int32 → Int32 → Int32 → Int32 → Int32 → Int32 → Int32 → Int32 → Int32 → Int32 → Int32 → Int32 → Int32 → Int32 → Int32 → Int32 → Int32 → Int32 → (Nat → Int32) → (Nat → Int32) → (Nat → Int32) → (Nat → Int32) → (Nat → Int32) → (Nat → Int32) → (Nat → Int32) → (Nat → Int32) → (Nat → Int32) → (Nat → Int32) → (Nat → Int32) → (Nat → Int32) → (Nat → Int32) → (Nat → Int32) → (Nat → Int32) → (Nat → Int32) → (Nat → Int32) → (Nat → Int32) → (Nat → Int32) → (Nat → Int32) → (Nat → Int32) → Prop} {t w r n : Nat} {F : List Nat} (ht : t < 4) (hw : w + 1 < 64) (h1 : 1 ≤ n) (h2 : n < 2 * kt_lv t) (hT : kt_Tr pl t a_leafSlot a_standsAt) (hF : kt_FS a_heavy F f_foundMany f_foundTotal f_listing f_listed a_list) (hlen : F.length + ((kt_sg a_leafSlot (kt_lo t n) (kt_ln t n)).filter (kt_ins a_px a_py f_x0 f_x1 f_y0 f_y1)).length ≤ 64) (hi : n < kt_lv t → J11 (nI (w + 2)) (nI (r + 1)) f_added f_alive f_buffered f_gathered f_x0 f_x1 f_y0 f_y1 f_foundMany f_foundTotal f_listing f_listed f_centreX f_centreY f_bestDistance f_bestPoint f_behindDistance f_behindPoint f_leftOut a_slotOf a_used a_pointOf a_px a_py a_heavy a_buffer a_filled a_leafSlot a_standsAt a_minX a_maxX a_minY a_maxY a_many a_total a_work a_spanFrom a_spanTo (kt_p2 a_stack w (2 * n) (2 * n + 1)) a_list) (hl : kt_lv t ≤ n → ∀ fm ft ld ls, kt_FS a_heavy (F ++ (kt_sg a_leafSlot (kt_lo t n) (kt_ln t n)).filter (kt_ins a_px a_py f_x0 f_x1 f_y0 f_y1)) fm ft f_listing ld ls → J11 (nI w) (nI (r + 1)) f_added f_alive f_buffered f_gathered f_x0 f_x1 f_y0 f_y1 fm ft f_listing ld f_centreX f_centreY f_bestDistance f_bestPoint f_behindDistance f_behindPoint f_leftOut a_slotOf a_used a_pointOf a_px a_py a_heavy a_buffer a_filled a_leafSlot a_standsAt a_minX a_maxX a_minY a_maxY a_many a_total a_work a_spanFrom a_spanTo a_stack ls) : wX_walk_101 post J11 (nI t) (nI w) (nI r) (nI n) f_added f_alive f_buffered f_gathered f_x0 f_x1 f_y0 f_y1 f_foundMany f_foundTotal f_listing f_listed f_centreX f_centreY f_bestDistance f_bestPoint f_behindDistance f_behindPoint f_leftOut a_slotOf a_used a_pointOf a_px a_py a_heavy a_buffer a_filled a_leafSlot a_standsAt a_minX a_maxX a_minY a_maxY a_many a_total a_work a_spanFrom a_spanTo a_stack a_list := by
  have hv := kt_lv16 t ht
  have c0 : (nI w).toNatClampNeg = w := nI_clamp (by omega)
  have c1 : (nI (w + 1)).toNatClampNeg = w + 1 := nI_clamp (by omega)
  have v0 : vp_in (nI w) 64 := vp_in_nI (by omega) (by omega)
  have v1 : vp_in (nI (w + 1)) 64 := vp_in_nI (by omega) (by omega)
  have e1 : nI w + 1 = nI (w + 1) := nI_1 w
  have e2 : nI w + 2 = nI (w + 2) := nI_add w 2
  have e3 : 2 * nI n = nI (2 * n) := pk_mul 2 n
  have e4 : nI (2 * n) + 1 = nI (2 * n + 1) := nI_1 _
  have e5 : nI r + 1 = nI (r + 1) := nI_1 _
  unfold wX_walk_101
  simp only [e1, e2, e3, e4, e5, c0, c1]
  refine xl_leaves ht ?_
  by_cases hc : n < kt_lv t
  · exact br_t (nI_lt hc (by omega)) ⟨v0, nm_e ⟨v1, nm_e (nm_e (nm_e (hi hc)))⟩⟩
  · refine br_f (nI_nlt (by omega) (by omega)) (xl_tleaf ht (by omega) h2 hT hF hlen (fun fm ft ld ls hF' => ?_))
    exact nm_e (hl (by omega) fm ft ld ls hF')
theorem xl_k11 {pl : Nat → Prop} {t : Nat} (ht : t < 4) (hT : kt_Tr pl t a_leafSlot a_standsAt) (hN : kt_Ns t a_px a_py a_heavy a_leafSlot a_minX a_maxX a_minY a_maxY a_many a_total) {T : List Nat} (hT64 : T.length ≤ 64) (hpost : ∀ (F : List Nat) fm ft ld st ls, kt_FS a_heavy F fm ft f_listing ld ls → F.Perm T → post (f_added, f_alive, f_buffered, f_gathered, f_x0, f_x1, f_y0, f_y1, fm, ft, f_listing, ld, f_centreX, f_centreY, f_bestDistance, f_bestPoint, f_behindDistance, f_behindPoint, f_leftOut, a_slotOf, a_used, a_pointOf, a_px, a_py, a_heavy, a_buffer, a_filled, a_leafSlot, a_standsAt, a_minX, a_maxX, a_minY, a_maxY, a_many, a_total, a_work, a_spanFrom, a_spanTo, st, ls)) : ∀ d r, r + d = 32 → ∀ w (F : List Nat) (fm ft ld : Int32) (st ls : Nat → Int32), kt_sk t st w → r + kt_pz (kt_sb t) st w ≤ 31 → kt_FS a_heavy F fm ft f_listing ld ls → (F ++ kt_pd (fun n => (kt_sg a_leafSlot (kt_lo t n) (kt_ln t n)).filter (kt_ins a_px a_py f_x0 f_x1 f_y0 f_y1)) st w).Perm T → ∀ n, d < n → wX_walk_11 post (nI t) n (nI w) (nI r) f_added f_alive f_buffered f_gathered f_x0 f_x1 f_y0 f_y1 fm ft f_listing ld f_centreX f_centreY f_bestDistance f_bestPoint f_behindDistance f_behindPoint f_leftOut a_slotOf a_used a_pointOf a_px a_py a_heavy a_buffer a_filled a_leafSlot a_standsAt a_minX a_maxX a_minY a_maxY a_many a_total a_work a_spanFrom a_spanTo st ls := by
  have hv := kt_lv16 t ht
  intro d
  induction d with
  | zero => intro r hr w F fm ft ld st ls hk hz; omega
  | succ d ih =>
    intro r hr w F fm ft ld st ls hk hz hF hp n hn
    obtain ⟨m, rfl⟩ : ∃ m, n = m + 1 := ⟨n - 1, by omega⟩
    have hr32 : ¬ 32 ≤ nI r := nI_ge (b := 32) (by omega) (by decide)
    rcases Nat.eq_zero_or_pos w with hw0 | hw0
    · subst hw0
      refine br_f hr32 (br_t (kt_rfl _) (hpost F _ _ _ _ _ hF ?_))
      have : kt_pd (fun n => (kt_sg a_leafSlot (kt_lo t n) (kt_ln t n)).filter (kt_ins a_px a_py f_x0 f_x1 f_y0 f_y1)) st 0 = [] := rfl
      rw [this, List.append_nil] at hp
      exact hp
    · obtain ⟨w, rfl⟩ : ∃ w', w = w' + 1 := ⟨w - 1, by omega⟩
      obtain ⟨k, ek, hk1, hk2⟩ := hk w (by omega)
      have hwz := kt_pz_ge ht (w + 1) hk
      have hk' : kt_sk t st w := fun i hi => hk i (by omega)
      have hb := (kt_bd ht hk1 hk2).2.2
      rw [kt_pz_s ek (by omega)] at hz hwz
      rw [kt_pd_s ek (by omega)] at hp
      have hlen : F.length + ((kt_sg a_leafSlot (kt_lo t k) (kt_ln t k)).filter (kt_ins a_px a_py f_x0 f_x1 f_y0 f_y1)).length ≤ 64 := by
        have := hp.length_eq
        rw [List.length_append, List.length_append] at this
        omega
      have em : nI (w + 1) + (-1) = nI w := pk_m1 w
      have v0 : vp_in (nI w) 64 := vp_in_nI (by omega) (by omega)
      have c0 : (nI w).toNatClampNeg = w := nI_clamp (by omega)
      have ea : nI t * 32 + nI k = nI (t * 32 + k) := by rw [show (32 : Int32) = nI 32 from rfl, pk_mul, nI_add]
      have ca : (nI (t * 32 + k)).toNatClampNeg = t * 32 + k := nI_clamp (by omega)
      have va : vp_in (nI (t * 32 + k)) 128 := vp_in_nI (by omega) (by omega)
      have e5 : nI r + 1 = nI (r + 1) := nI_1 _
      have hNk := hN k hk1 hk2
      have p1 : ((F ++ (kt_sg a_leafSlot (kt_lo t k) (kt_ln t k)).filter (kt_ins a_px a_py f_x0 f_x1 f_y0 f_y1)) ++ kt_pd (fun n => (kt_sg a_leafSlot (kt_lo t n) (kt_ln t n)).filter (kt_ins a_px a_py f_x0 f_x1 f_y0 f_y1)) st w).Perm T := by
        rw [List.append_assoc]
        exact ((List.Perm.refl F).append List.perm_append_comm).trans hp
      have h101 : wX_walk_101 post (wX_walk_11 post (nI t) m) (nI t) (nI w) (nI r) (nI k) f_added f_alive f_buffered f_gathered f_x0 f_x1 f_y0 f_y1 fm ft f_listing ld f_centreX f_centreY f_bestDistance f_bestPoint f_behindDistance f_behindPoint f_leftOut a_slotOf a_used a_pointOf a_px a_py a_heavy a_buffer a_filled a_leafSlot a_standsAt a_minX a_maxX a_minY a_maxY a_many a_total a_work a_spanFrom a_spanTo st ls := by
        refine xl_k101 ht (by omega) hk1 hk2 hT hF hlen (fun hi => ?_) (fun hl fm' ft' ld' ls' hF' => ?_)
        · obtain ⟨_, _, _, g4⟩ := kt_inner ht hk1 hi
          refine ih (r + 1) (by omega) (w + 2) F fm ft ld _ ls (kt_p2_k hk' ⟨by omega, by omega⟩ ⟨by omega, by omega⟩) ?_ hF ?_ m (by omega)
          · rw [kt_p2_z (by omega) (by omega)]
            omega
          · rw [kt_p2_d (by omega) (by omega), ← List.filter_append, ← kt_half ht hk1 hi]
            exact hp
        · exact ih (r + 1) (by omega) w _ fm' ft' ld' st ls' hk' (by omega) hF' p1 m (by omega)
      refine br_f hr32 (br_f (nI_nle (by omega) (by omega)) (nm_r em ⟨v0, nm_r (e' := nI k) (by rw [c0, ek]) (nm_r ea (xl_apart (by omega) hNk ?_ (fun hno => ?_)))⟩))
      · refine br_t rfl (xl_whole (by omega) hNk (br_t rfl h101) (fun hall => br_f (by decide) (br_c (fun hli => ?_) (fun _ => h101))))
        simp only [ca]
        refine ⟨va, nm_e ⟨va, nm_e (nm_r e5 ?_)⟩⟩
        have ef := kt_fl_all hall
        rw [ef] at p1
        refine ih (r + 1) (by omega) w _ _ _ ld st ls hk' (by omega) ⟨?_, ?_, fun y => absurd hli y⟩ p1 m (by omega)
        · rw [hF.1, hNk.2.1, nI_add, List.length_append]
        · rw [hF.2.1, hNk.2.2.1, kt_sm_app]
      · have ef := kt_fl_none hno
        rw [ef, List.append_nil] at p1
        exact br_f (by decide) (nm_r e5 (ih (r + 1) (by omega) w F fm ft ld st ls hk' (by omega) hF p1 m (by omega)))
theorem xl_walk {pl : Nat → Prop} {t : Nat} {F : List Nat} (ht : t < 4) (hT : kt_Tr pl t a_leafSlot a_standsAt) (hN : kt_Ns t a_px a_py a_heavy a_leafSlot a_minX a_maxX a_minY a_maxY a_many a_total) (hlen : (F ++ (kt_sg a_leafSlot (kt_ba t) (8 * 2 ^ t)).filter (kt_ins a_px a_py f_x0 f_x1 f_y0 f_y1)).length ≤ 64) (hF : kt_FS a_heavy F f_foundMany f_foundTotal f_listing f_listed a_list) (hpost : ∀ (F' : List Nat) fm ft ld st ls, kt_FS a_heavy F' fm ft f_listing ld ls → F'.Perm (F ++ (kt_sg a_leafSlot (kt_ba t) (8 * 2 ^ t)).filter (kt_ins a_px a_py f_x0 f_x1 f_y0 f_y1)) → post (f_added, f_alive, f_buffered, f_gathered, f_x0, f_x1, f_y0, f_y1, fm, ft, f_listing, ld, f_centreX, f_centreY, f_bestDistance, f_bestPoint, f_behindDistance, f_behindPoint, f_leftOut, a_slotOf, a_used, a_pointOf, a_px, a_py, a_heavy, a_buffer, a_filled, a_leafSlot, a_standsAt, a_minX, a_maxX, a_minY, a_maxY, a_many, a_total, a_work, a_spanFrom, a_spanTo, st, ls)) : wpX_walk post (f_added, f_alive, f_buffered, f_gathered, f_x0, f_x1, f_y0, f_y1, f_foundMany, f_foundTotal, f_listing, f_listed, f_centreX, f_centreY, f_bestDistance, f_bestPoint, f_behindDistance, f_behindPoint, f_leftOut, a_slotOf, a_used, a_pointOf, a_px, a_py, a_heavy, a_buffer, a_filled, a_leafSlot, a_standsAt, a_minX, a_maxX, a_minY, a_maxY, a_many, a_total, a_work, a_spanFrom, a_spanTo, a_stack, a_list) (nI t) := by
  obtain ⟨r1, r2, r3⟩ := kt_root t ht
  have hv := kt_lv16 t ht
  have e0 : upd a_stack 0 1 0 = nI 1 := pk_us
  refine nm_e ⟨33, xl_k11 ht hT hN hlen hpost 32 0 rfl 1 F _ _ _ _ _ ?_ ?_ hF ?_ 33 (by omega)⟩
  · intro i hi
    have : i = 0 := by omega
    subst this
    exact ⟨1, e0, by omega, by omega⟩
  · rw [kt_pz_s e0 (by omega)]
    show 0 + (0 + kt_sb t 1) ≤ 31
    omega
  · rw [kt_pd_s e0 (by omega)]
    show (F ++ ([] ++ (kt_sg a_leafSlot (kt_lo t 1) (kt_ln t 1)).filter _)).Perm _
    rw [r1, r2, List.nil_append]
theorem kt_ts_len {fil leaf : Nat → Int32} {n : Nat} : ∀ m, n ≤ m → (kt_ts fil leaf n).length ≤ (kt_ts fil leaf m).length := by
  intro m
  induction m with
  | zero => intro h; have : n = 0 := by omega
            subst this; exact Nat.le_refl _
  | succ m ih =>
    intro h
    by_cases e : n = m + 1
    · subst e; exact Nat.le_refl _
    · have := ih (by omega)
      show (kt_ts fil leaf n).length ≤ (kt_ts fil leaf m ++ kt_tl fil leaf m).length
      rw [List.length_append]
      omega
theorem xl_q61 {pl : Nat → Prop} {B : Nat} (hP : kt_Pl pl B a_buffer a_filled a_leafSlot a_standsAt a_px a_py a_heavy a_minX a_maxX a_minY a_maxY a_many a_total) (hpost : ∀ (F : List Nat) fm ft ld st ls, kt_FS a_heavy F fm ft f_listing ld ls → F.Perm ((kt_al a_buffer a_filled a_leafSlot B).filter (kt_ins a_px a_py f_x0 f_x1 f_y0 f_y1)) → post (f_added, f_alive, f_buffered, f_gathered, f_x0, f_x1, f_y0, f_y1, fm, ft, f_listing, ld, f_centreX, f_centreY, f_bestDistance, f_bestPoint, f_behindDistance, f_behindPoint, f_leftOut, a_slotOf, a_used, a_pointOf, a_px, a_py, a_heavy, a_buffer, a_filled, a_leafSlot, a_standsAt, a_minX, a_maxX, a_minY, a_maxY, a_many, a_total, a_work, a_spanFrom, a_spanTo, st, ls)) : ∀ d t, t + d = 4 → ∀ (F : List Nat) (fm ft ld : Int32) (st ls : Nat → Int32), kt_FS a_heavy F fm ft f_listing ld ls → F.Perm ((kt_bl a_buffer B ++ kt_ts a_filled a_leafSlot t).filter (kt_ins a_px a_py f_x0 f_x1 f_y0 f_y1)) → ∀ n, d < n → wX_search_61 post n (nI t) f_added f_alive f_buffered f_gathered f_x0 f_x1 f_y0 f_y1 fm ft f_listing ld f_centreX f_centreY f_bestDistance f_bestPoint f_behindDistance f_behindPoint f_leftOut a_slotOf a_used a_pointOf a_px a_py a_heavy a_buffer a_filled a_leafSlot a_standsAt a_minX a_maxX a_minY a_maxY a_many a_total a_work a_spanFrom a_spanTo st ls := by
  intro d
  induction d with
  | zero =>
    intro t htd F fm ft ld st ls hF hp n hn
    obtain ⟨m, rfl⟩ : ∃ m, n = m + 1 := ⟨n - 1, by omega⟩
    have et : t = 4 := by omega
    subst et
    exact br_t (kt_rfl _) (hpost F _ _ _ _ _ hF hp)
  | succ d ih =>
    intro t htd F fm ft ld st ls hF hp n hn
    obtain ⟨m, rfl⟩ : ∃ m, n = m + 1 := ⟨n - 1, by omega⟩
    have ht : t < 4 := by omega
    have ct : (nI t).toNatClampNeg = t := nI_clamp (by omega)
    have vt : vp_in (nI t) 4 := vp_in_nI (by omega) (by omega)
    have e5 : nI t + 1 = nI (t + 1) := nI_1 _
    have es : kt_bl a_buffer B ++ kt_ts a_filled a_leafSlot (t + 1) = (kt_bl a_buffer B ++ kt_ts a_filled a_leafSlot t) ++ kt_tl a_filled a_leafSlot t := by
      rw [List.append_assoc]; rfl
    rw [wX_search_61]
    simp only [ct, e5]
    refine br_f (nI_ge (b := 4) (by omega) (by decide)) ⟨vt, br_c (fun hf => ?_) (fun hf => ?_)⟩
    · refine nm_e (ih (t + 1) (by omega) F fm ft ld st ls hF ?_ m (by omega))
      rw [es, show kt_tl a_filled a_leafSlot t = [] from if_pos hf, List.append_nil]
      exact hp
    · have el : kt_tl a_filled a_leafSlot t = kt_sg a_leafSlot (kt_ba t) (8 * 2 ^ t) := if_neg hf
      rw [el] at es
      obtain ⟨hT, hN⟩ := hP.2.2.1 t ht hf
      refine xl_walk ht hT hN ?_ hF (fun F' fm' ft' ld' st' ls' hF' hp' => ?_)
      · have h1 := kt_al_64 hP
        have h2 := kt_ts_len (fil := a_filled) (leaf := a_leafSlot) (n := t + 1) 4 (by omega)
        have h3 := hp.length_eq
        have h4 := List.length_filter_le (kt_ins a_px a_py f_x0 f_x1 f_y0 f_y1) (kt_bl a_buffer B ++ kt_ts a_filled a_leafSlot (t + 1))
        rw [es, List.filter_append] at h4
        rw [← es] at h4
        unfold kt_al at h1
        simp only [List.length_append] at *
        omega
      · refine nm_e (ih (t + 1) (by omega) F' fm' ft' ld' st' ls' hF' ?_ m (by omega))
        rw [es, List.filter_append]
        exact hp'.trans (hp.append (List.Perm.refl _))
theorem xl_q22 {pl : Nat → Prop} {B : Nat} (hP : kt_Pl pl B a_buffer a_filled a_leafSlot a_standsAt a_px a_py a_heavy a_minX a_maxX a_minY a_maxY a_many a_total) (hB : f_buffered = nI B) (hpost : ∀ (F : List Nat) fm ft ld st ls, kt_FS a_heavy F fm ft f_listing ld ls → F.Perm ((kt_al a_buffer a_filled a_leafSlot B).filter (kt_ins a_px a_py f_x0 f_x1 f_y0 f_y1)) → post (f_added, f_alive, f_buffered, f_gathered, f_x0, f_x1, f_y0, f_y1, fm, ft, f_listing, ld, f_centreX, f_centreY, f_bestDistance, f_bestPoint, f_behindDistance, f_behindPoint, f_leftOut, a_slotOf, a_used, a_pointOf, a_px, a_py, a_heavy, a_buffer, a_filled, a_leafSlot, a_standsAt, a_minX, a_maxX, a_minY, a_maxY, a_many, a_total, a_work, a_spanFrom, a_spanTo, st, ls)) : ∀ d i, i + d = B → ∀ (F : List Nat) (fm ft ld : Int32) (ls : Nat → Int32), kt_FS a_heavy F fm ft f_listing ld ls → F.Perm ((kt_bl a_buffer i).filter (kt_ins a_px a_py f_x0 f_x1 f_y0 f_y1)) → ∀ n, d < n → wX_search_22 post n (nI i) f_added f_alive f_buffered f_gathered f_x0 f_x1 f_y0 f_y1 fm ft f_listing ld f_centreX f_centreY f_bestDistance f_bestPoint f_behindDistance f_behindPoint f_leftOut a_slotOf a_used a_pointOf a_px a_py a_heavy a_buffer a_filled a_leafSlot a_standsAt a_minX a_maxX a_minY a_maxY a_many a_total a_work a_spanFrom a_spanTo a_stack ls := by
  have hB8 := hP.1
  intro d
  induction d with
  | zero =>
    intro i hid F fm ft ld ls hF hp n hn
    obtain ⟨m, rfl⟩ : ∃ m, n = m + 1 := ⟨n - 1, by omega⟩
    have ei : i = B := by omega
    subst ei
    refine br_t (by rw [hB]; exact kt_rfl _) ⟨5, xl_q61 hP hpost 4 0 rfl F fm ft ld _ ls hF ?_ 5 (by omega)⟩
    show F.Perm ((kt_bl a_buffer i ++ []).filter _)
    rw [List.append_nil]
    exact hp
  | succ d ih =>
    intro i hid F fm ft ld ls hF hp n hn
    obtain ⟨m, rfl⟩ : ∃ m, n = m + 1 := ⟨n - 1, by omega⟩
    have ci : (nI i).toNatClampNeg = i := nI_clamp (by omega)
    have vi : vp_in (nI i) 8 := vp_in_nI (by omega) (by omega)
    have e5 : nI i + 1 = nI (i + 1) := nI_1 _
    obtain ⟨s, hs, es, _⟩ := hP.2.1 i (by omega)
    have eb := kt_bl_s a_buffer i
    rw [es, kt_cl hs] at eb
    rw [wX_search_22]
    simp only [ci, e5, es]
    refine br_f (by rw [hB]; exact nI_ge (by omega) (by omega)) ⟨vi, xl_inside hs (fun hi => ?_) (fun hi => ?_)⟩
    · refine br_t rfl (nm_e (ih (i + 1) (by omega) F fm ft ld ls hF ?_ m (by omega)))
      rw [eb, List.filter_append, List.filter_cons_of_neg hi, List.filter_nil, List.append_nil]
      exact hp
    · refine br_f (by decide) ⟨vi, xl_take hs hF ?_ (fun fm' ft' ld' ls' hF' => ?_)⟩
      · have h1 := hp.length_eq
        have h2 := List.length_filter_le (kt_ins a_px a_py f_x0 f_x1 f_y0 f_y1) (kt_bl a_buffer i)
        have h3 : (kt_bl a_buffer i).length = i := by unfold kt_bl; rw [List.length_map, List.length_range]
        omega
      · refine nm_e (ih (i + 1) (by omega) (F ++ [s]) fm' ft' ld' ls' hF' ?_ m (by omega))
        rw [eb, List.filter_append, List.filter_cons_of_pos hi, List.filter_nil]
        exact hp.append (List.Perm.refl _)
theorem xl_search {pl : Nat → Prop} {B : Nat} {one : Int32} (hP : kt_Pl pl B a_buffer a_filled a_leafSlot a_standsAt a_px a_py a_heavy a_minX a_maxX a_minY a_maxY a_many a_total) (hB : f_buffered = nI B) (h1 : narrow .boolean (.int one) = .int one) (h2 : fits .boolean (.int one) = true) (hpost : ∀ (F : List Nat) fm ft ld st ls, kt_FS a_heavy F fm ft one ld ls → F.Perm ((kt_al a_buffer a_filled a_leafSlot B).filter (kt_ins a_px a_py f_x0 f_x1 f_y0 f_y1)) → post (f_added, f_alive, f_buffered, f_gathered, f_x0, f_x1, f_y0, f_y1, fm, ft, one, ld, f_centreX, f_centreY, f_bestDistance, f_bestPoint, f_behindDistance, f_behindPoint, f_leftOut, a_slotOf, a_used, a_pointOf, a_px, a_py, a_heavy, a_buffer, a_filled, a_leafSlot, a_standsAt, a_minX, a_maxX, a_minY, a_maxY, a_many, a_total, a_work, a_spanFrom, a_spanTo, st, ls)) : wpX_search post (f_added, f_alive, f_buffered, f_gathered, f_x0, f_x1, f_y0, f_y1, f_foundMany, f_foundTotal, f_listing, f_listed, f_centreX, f_centreY, f_bestDistance, f_bestPoint, f_behindDistance, f_behindPoint, f_leftOut, a_slotOf, a_used, a_pointOf, a_px, a_py, a_heavy, a_buffer, a_filled, a_leafSlot, a_standsAt, a_minX, a_maxX, a_minY, a_maxY, a_many, a_total, a_work, a_spanFrom, a_spanTo, a_stack, a_list) one := by
  refine ⟨h1, h2, B + 1, xl_q22 hP hB hpost B 0 (by omega) [] 0 0 0 a_list ⟨rfl, rfl, fun _ => ⟨rfl, fun i s h => ?_⟩⟩ (List.Perm.refl _) (B + 1) (by omega)⟩
  cases h
end KTG
end
section
section KTH
/-! distances -/
theorem kt_sq1 {a b : Int} (h1 : a ≤ b) (h2 : -a ≤ b) : a * a ≤ b * b := by
  rcases Int.le_total 0 a with h | h
  · exact Int.mul_self_le_mul_self h h1
  · have := Int.mul_self_le_mul_self (a := -a) (b := b) (by omega) h2
    rw [Int.neg_mul_neg] at this
    exact this
theorem kt_sq0 (a : Int) : 0 ≤ a * a := by
  rcases Int.le_total 0 a with h | h
  · exact Int.mul_nonneg h h
  · have := Int.mul_nonneg (a := -a) (b := -a) (by omega) (by omega)
    rw [Int.neg_mul_neg] at this
    exact this
theorem kt_sq2 {r d : Int} (h0 : 0 ≤ r) (h : r ≤ d ∨ r ≤ -d) : r * r ≤ d * d := by
  rcases h with h | h
  · exact Int.mul_self_le_mul_self h0 h
  · have := Int.mul_self_le_mul_self h0 h
    rw [Int.neg_mul_neg] at this
    exact this
theorem kt_mulI {a : Int32} (h1 : -70 ≤ a.toInt) (h2 : a.toInt ≤ 70) : (a * a).toInt = a.toInt * a.toInt ∧ 0 ≤ a.toInt * a.toInt ∧ a.toInt * a.toInt ≤ 4900 := by
  have q1 := kt_sq0 a.toInt
  have q2 : a.toInt * a.toInt ≤ 70 * 70 := kt_sq1 (by omega) (by omega)
  refine ⟨?_, q1, by omega⟩
  rw [Int32.toInt_mul]
  exact Int.bmod_eq_of_le (by omega) (by omega)
theorem kt_ssI {a b : Int32} (h1 : -70 ≤ a.toInt) (h2 : a.toInt ≤ 70) (h3 : -70 ≤ b.toInt) (h4 : b.toInt ≤ 70) : (a * a + b * b).toInt = a.toInt * a.toInt + b.toInt * b.toInt := by
  obtain ⟨e1, p1, q1⟩ := kt_mulI h1 h2
  obtain ⟨e2, p2, q2⟩ := kt_mulI h3 h4
  rw [Int32.toInt_add, e1, e2]
  exact Int.bmod_eq_of_le (by omega) (by omega)
theorem kt_subI {a b : Int32} (h1 : -70 ≤ a.toInt) (h2 : a.toInt ≤ 70) (h3 : -70 ≤ b.toInt) (h4 : b.toInt ≤ 70) : (a - b).toInt = a.toInt - b.toInt := by
  rw [Int32.toInt_sub]
  exact Int.bmod_eq_of_le (by omega) (by omega)
def kt_ds (x y a b : Int32) : Int32 := (x - a) * (x - a) + (y - b) * (y - b)
/-- on the board -/
def kt_b63 (x : Int32) : Prop := 0 ≤ x.toInt ∧ x.toInt ≤ 63
theorem kt_b63of {x : Int32} (h0 : 0 ≤ x) (h1 : x ≤ 63) : kt_b63 x := by
  rw [Int32.le_iff_toInt_le] at h0 h1
  exact ⟨h0, h1⟩
theorem kt_okb {x y : Int32} (h : kt_ok x y) : kt_b63 x ∧ kt_b63 y := ⟨kt_b63of (kt_nl h.1) (kt_nl h.2.1), kt_b63of (kt_nl h.2.2.1) (kt_nl h.2.2.2)⟩
theorem kt_dsI {x y a b : Int32} (hx : kt_b63 x) (hy : kt_b63 y) (ha : kt_b63 a) (hb : kt_b63 b) : (kt_ds x y a b).toInt = (x.toInt - a.toInt) * (x.toInt - a.toInt) + (y.toInt - b.toInt) * (y.toInt - b.toInt) := by
  unfold kt_b63 at *
  have e1 : (x - a).toInt = x.toInt - a.toInt := kt_subI (by omega) (by omega) (by omega) (by omega)
  have e2 : (y - b).toInt = y.toInt - b.toInt := kt_subI (by omega) (by omega) (by omega) (by omega)
  unfold kt_ds
  rw [kt_ssI (by omega) (by omega) (by omega) (by omega), e1, e2]
theorem kt_ds0 {x y a b : Int32} (hx : kt_b63 x) (hy : kt_b63 y) (ha : kt_b63 a) (hb : kt_b63 b) : 0 ≤ (kt_ds x y a b).toInt ∧ (kt_ds x y a b).toInt < 1000000 := by
  rw [kt_dsI hx hy ha hb]
  unfold kt_b63 at *
  have q1 := kt_sq0 (x.toInt - a.toInt)
  have q2 := kt_sq0 (y.toInt - b.toInt)
  have q3 : (x.toInt - a.toInt) * (x.toInt - a.toInt) ≤ 70 * 70 := kt_sq1 (by omega) (by omega)
  have q4 : (y.toInt - b.toInt) * (y.toInt - b.toInt) ≤ 70 * 70 := kt_sq1 (by omega) (by omega)
  omega
theorem kt_dsC (x y a b : Int32) : kt_ds x y a b = kt_ds a b x y := by
  have h : ∀ u v : Int32, (u - v) * (u - v) = (v - u) * (v - u) := fun u v => by
    grind
  unfold kt_ds
  rw [h x a, h y b]
variable {f_added f_alive f_buffered f_gathered f_x0 f_x1 f_y0 f_y1 f_foundMany f_foundTotal f_listing f_listed f_centreX f_centreY f_bestDistance f_bestPoint f_behindDistance f_behindPoint f_leftOut : Int32} {a_slotOf a_used a_pointOf a_px a_py a_heavy a_buffer a_filled a_leafSlot a_standsAt a_minX a_maxX a_minY a_maxY a_many a_total a_work a_spanFrom a_spanTo a_stack a_list : Nat → Int32}
variable {post : SX → Prop} {pI : Int32 → Prop}
theorem xl_dist {s : Nat} (hs : s < 64) (h : pI (kt_ds (a_px s) (a_py s) f_centreX f_centreY)) : wpX_distanceOf pI (f_added, f_alive, f_buffered, f_gathered, f_x0, f_x1, f_y0, f_y1, f_foundMany, f_foundTotal, f_listing, f_listed, f_centreX, f_centreY, f_bestDistance, f_bestPoint, f_behindDistance, f_behindPoint, f_leftOut, a_slotOf, a_used, a_pointOf, a_px, a_py, a_heavy, a_buffer, a_filled, a_leafSlot, a_standsAt, a_minX, a_maxX, a_minY, a_maxY, a_many, a_total, a_work, a_spanFrom, a_spanTo, a_stack, a_list) (nI s) := by
  have cs : (nI s).toNatClampNeg = s := nI_clamp (by omega)
  have vs : vp_in (nI s) 64 := vp_in_nI (by omega) (by omega)
  unfold wpX_distanceOf
  simp only [cs]
  exact ⟨vs, nm_e ⟨vs, nm_e h⟩⟩
theorem xl_gap {lo hi v : Int32} (l0 : 0 ≤ lo.toInt ∧ lo.toInt ≤ 64) (h0 : -1 ≤ hi.toInt ∧ hi.toInt ≤ 63) (v0 : kt_b63 v) (h : ∀ r : Int32, (-70 ≤ r.toInt ∧ r.toInt ≤ 70) → (∀ x : Int32, lo ≤ x → x ≤ hi → r.toInt * r.toInt ≤ (x.toInt - v.toInt) * (x.toInt - v.toInt)) → pI r) : wpX_gap pI (f_added, f_alive, f_buffered, f_gathered, f_x0, f_x1, f_y0, f_y1, f_foundMany, f_foundTotal, f_listing, f_listed, f_centreX, f_centreY, f_bestDistance, f_bestPoint, f_behindDistance, f_behindPoint, f_leftOut, a_slotOf, a_used, a_pointOf, a_px, a_py, a_heavy, a_buffer, a_filled, a_leafSlot, a_standsAt, a_minX, a_maxX, a_minY, a_maxY, a_many, a_total, a_work, a_spanFrom, a_spanTo, a_stack, a_list) lo hi v := by
  unfold kt_b63 at v0
  refine br_c (fun a => br_c (fun b => h 0 (by decide) (fun x _ _ => ?_)) (fun b => h _ ?_ (fun x k1 k2 => ?_))) (fun a => h _ ?_ (fun x k1 k2 => ?_))
  · rw [show (0 : Int32).toInt * (0 : Int32).toInt = 0 from by decide]
    exact kt_sq0 _
  · rw [kt_subI (by omega) (by omega) (by omega) (by omega)]
    omega
  · have b' := kt_nle b
    rw [Int32.lt_iff_toInt_lt] at b'
    rw [Int32.le_iff_toInt_le] at k1 k2
    rw [kt_subI (by omega) (by omega) (by omega) (by omega)]
    exact kt_sq2 (by omega) (by omega)
  · rw [kt_subI (by omega) (by omega) (by omega) (by omega)]
    omega
  · have a' := kt_nle a
    rw [Int32.lt_iff_toInt_lt] at a'
    rw [Int32.le_iff_toInt_le] at k1 k2
    rw [kt_subI (by omega) (by omega) (by omega) (by omega)]
    exact kt_sq2 (by omega) (by omega)
theorem xl_far {lo hi v : Int32} (l0 : 0 ≤ lo.toInt ∧ lo.toInt ≤ 64) (h0 : -1 ≤ hi.toInt ∧ hi.toInt ≤ 63) (v0 : kt_b63 v) (h : ∀ r : Int32, (-70 ≤ r.toInt ∧ r.toInt ≤ 70) → (∀ x : Int32, lo ≤ x → x ≤ hi → (x.toInt - v.toInt) * (x.toInt - v.toInt) ≤ r.toInt * r.toInt) → pI r) : wpX_far pI (f_added, f_alive, f_buffered, f_gathered, f_x0, f_x1, f_y0, f_y1, f_foundMany, f_foundTotal, f_listing, f_listed, f_centreX, f_centreY, f_bestDistance, f_bestPoint, f_behindDistance, f_behindPoint, f_leftOut, a_slotOf, a_used, a_pointOf, a_px, a_py, a_heavy, a_buffer, a_filled, a_leafSlot, a_standsAt, a_minX, a_maxX, a_minY, a_maxY, a_many, a_total, a_work, a_spanFrom, a_spanTo, a_stack, a_list) lo hi v := by
  unfold kt_b63 at v0
  have e1 : (v - lo).toInt = v.toInt - lo.toInt := kt_subI (by omega) (by omega) (by omega) (by omega)
  have e2 : (hi - v).toInt = hi.toInt - v.toInt := kt_subI (by omega) (by omega) (by omega) (by omega)
  refine nm_e (nm_e (br_c (fun a => h _ (by omega) (fun x k1 k2 => ?_)) (fun a => h _ (by omega) (fun x k1 k2 => ?_))))
  · rw [Int32.le_iff_toInt_le] at a k1 k2
    exact kt_sq1 (by omega) (by omega)
  · have a' := kt_nle a
    rw [Int32.lt_iff_toInt_lt] at a'
    rw [Int32.le_iff_toInt_le] at k1 k2
    exact kt_sq1 (by omega) (by omega)
theorem kt_mnI {x : Int32} (h : 0 ≤ x ∧ x ≤ 64) : 0 ≤ x.toInt ∧ x.toInt ≤ 64 := by
  rw [Int32.le_iff_toInt_le, Int32.le_iff_toInt_le] at h
  exact h
theorem kt_mxI {x : Int32} (h : -1 ≤ x ∧ x ≤ 63) : -1 ≤ x.toInt ∧ x.toInt ≤ 63 := by
  rw [Int32.le_iff_toInt_le, Int32.le_iff_toInt_le] at h
  exact h
theorem kt_Nd_b {px py hv : Nat → Int32} {l : List Nat} {x0 x1 y0 y1 m w : Int32} (h : kt_Nd px py hv l x0 x1 y0 y1 m w) {s : Nat} (hs : s ∈ l) : kt_b63 (px s) ∧ kt_b63 (py s) := by
  obtain ⟨h1, _, _, b0, b1, b2, b3⟩ := h
  obtain ⟨q0, q1, q2, q3⟩ := h1 s hs
  exact ⟨kt_b63of (kt_tr b0.1 q0) (kt_tr q1 b1.2), kt_b63of (kt_tr b2.1 q2) (kt_tr q3 b3.2)⟩
theorem xl_least {a : Nat} (ha : a < 128) {l : List Nat} (hN : kt_Nd a_px a_py a_heavy l (a_minX a) (a_maxX a) (a_minY a) (a_maxY a) (a_many a) (a_total a)) (hx : kt_b63 f_centreX) (hy : kt_b63 f_centreY) (h : ∀ r : Int32, (∀ s, s ∈ l → r ≤ kt_ds (a_px s) (a_py s) f_centreX f_centreY) → pI r) : wpX_leastDistance pI (f_added, f_alive, f_buffered, f_gathered, f_x0, f_x1, f_y0, f_y1, f_foundMany, f_foundTotal, f_listing, f_listed, f_centreX, f_centreY, f_bestDistance, f_bestPoint, f_behindDistance, f_behindPoint, f_leftOut, a_slotOf, a_used, a_pointOf, a_px, a_py, a_heavy, a_buffer, a_filled, a_leafSlot, a_standsAt, a_minX, a_maxX, a_minY, a_maxY, a_many, a_total, a_work, a_spanFrom, a_spanTo, a_stack, a_list) (nI a) := by
  have ca : (nI a).toNatClampNeg = a := nI_clamp (by omega)
  have va : vp_in (nI a) 128 := vp_in_nI (by omega) (by omega)
  have hb := fun s hs => kt_Nd_b hN (s := s) hs
  obtain ⟨h1, _, _, b0, b1, b2, b3⟩ := hN
  unfold wpX_leastDistance
  simp only [ca]
  refine ⟨va, va, xl_gap (kt_mnI b0) (kt_mxI b1) hx (fun r1 q1 k1 => ⟨va, va, xl_gap (kt_mnI b2) (kt_mxI b3) hy (fun r2 q2 k2 => h _ (fun s hs => ?_))⟩)⟩
  rw [Int32.le_iff_toInt_le, kt_dsI (hb s hs).1 (hb s hs).2 hx hy, kt_ssI q1.1 q1.2 q2.1 q2.2]
  exact Int.add_le_add (k1 _ (h1 s hs).1 (h1 s hs).2.1) (k2 _ (h1 s hs).2.2.1 (h1 s hs).2.2.2)
theorem xl_most {a : Nat} (ha : a < 128) {l : List Nat} (hN : kt_Nd a_px a_py a_heavy l (a_minX a) (a_maxX a) (a_minY a) (a_maxY a) (a_many a) (a_total a)) (hx : kt_b63 f_centreX) (hy : kt_b63 f_centreY) (h : ∀ r : Int32, (∀ s, s ∈ l → kt_ds (a_px s) (a_py s) f_centreX f_centreY ≤ r) → pI r) : wpX_mostDistance pI (f_added, f_alive, f_buffered, f_gathered, f_x0, f_x1, f_y0, f_y1, f_foundMany, f_foundTotal, f_listing, f_listed, f_centreX, f_centreY, f_bestDistance, f_bestPoint, f_behindDistance, f_behindPoint, f_leftOut, a_slotOf, a_used, a_pointOf, a_px, a_py, a_heavy, a_buffer, a_filled, a_leafSlot, a_standsAt, a_minX, a_maxX, a_minY, a_maxY, a_many, a_total, a_work, a_spanFrom, a_spanTo, a_stack, a_list) (nI a) := by
  have ca : (nI a).toNatClampNeg = a := nI_clamp (by omega)
  have va : vp_in (nI a) 128 := vp_in_nI (by omega) (by omega)
  have hb := fun s hs => kt_Nd_b hN (s := s) hs
  obtain ⟨h1, _, _, b0, b1, b2, b3⟩ := hN
  unfold wpX_mostDistance
  simp only [ca]
  refine ⟨va, va, xl_far (kt_mnI b0) (kt_mxI b1) hx (fun r1 q1 k1 => ⟨va, va, xl_far (kt_mnI b2) (kt_mxI b3) hy (fun r2 q2 k2 => h _ (fun s hs => ?_))⟩)⟩
  rw [Int32.le_iff_toInt_le, kt_dsI (hb s hs).1 (hb s hs).2 hx hy, kt_ssI q1.1 q1.2 q2.1 q2.2]
  exact Int.add_le_add (k1 _ (h1 s hs).1 (h1 s hs).2.1) (k2 _ (h1 s hs).2.2.1 (h1 s hs).2.2.2)
end KTH
end
section
section KTI
/-! the nearest: order by distance, then by number -/
def kt_kl (d p d' p' : Int32) : Prop := d < d' ∨ (d = d' ∧ p < p')
theorem kt_kl_irr (d p : Int32) : ¬ kt_kl d p d p := by
  rintro (h | ⟨_, h⟩)
  · exact Int32.lt_irrefl h
  · exact Int32.lt_irrefl h
theorem kt_kl_tr {a b c d e f : Int32} (h : kt_kl a b c d) (h' : kt_kl c d e f) : kt_kl a b e f := by
  rcases h with h | ⟨h, k⟩
  · rcases h' with h' | ⟨h', k'⟩
    · exact Or.inl (Int32.lt_trans h h')
    · subst h'; exact Or.inl h
  · subst h
    rcases h' with h' | ⟨h', k'⟩
    · exact Or.inl h'
    · exact Or.inr ⟨h', Int32.lt_trans k k'⟩
theorem kt_kl_tot {a b c d : Int32} (h : ¬ kt_kl a b c d) (h' : ¬ kt_kl c d a b) : a = c ∧ b = d := by
  have e : a = c := Int32.le_antisymm (kt_nl (fun z => h' (Or.inl z))) (kt_nl (fun z => h (Or.inl z)))
  subst e
  exact ⟨rfl, Int32.le_antisymm (kt_nl (fun z => h' (Or.inr ⟨rfl, z⟩))) (kt_nl (fun z => h (Or.inr ⟨rfl, z⟩)))⟩
/-- from (bd, bp) to (bd', bp'): the same, or a nearer candidate; none of l is nearer than that -/
def kt_St (pl cd : Nat → Prop) (d p : Nat → Int32) (l : List Nat) (bd bp bd' bp' : Int32) : Prop := ((bd' = bd ∧ bp' = bp) ∨ (kt_kl bd' bp' bd bp ∧ ∃ s, s < 64 ∧ pl s ∧ cd s ∧ bd' = d s ∧ bp' = p s)) ∧ ∀ s, s ∈ l → cd s → ¬ kt_kl (d s) (p s) bd' bp'
theorem kt_St_keep {pl cd : Nat → Prop} {d p : Nat → Int32} {l : List Nat} {bd bp : Int32} (h : ∀ s, s ∈ l → cd s → ¬ kt_kl (d s) (p s) bd bp) : kt_St pl cd d p l bd bp bd bp := ⟨Or.inl ⟨rfl, rfl⟩, h⟩
theorem kt_St_sub {pl cd : Nat → Prop} {d p : Nat → Int32} {l l' : List Nat} {bd bp bd' bp' : Int32} (h : kt_St pl cd d p l bd bp bd' bp') (e : ∀ s, s ∈ l' → s ∈ l) : kt_St pl cd d p l' bd bp bd' bp' := ⟨h.1, fun s hs => h.2 s (e s hs)⟩
theorem kt_St_app {pl cd : Nat → Prop} {d p : Nat → Int32} {l l' : List Nat} {a b a' b' a'' b'' : Int32} (h : kt_St pl cd d p l a b a' b') (h' : kt_St pl cd d p l' a' b' a'' b'') : kt_St pl cd d p (l ++ l') a b a'' b'' := by
  obtain ⟨h1, h2⟩ := h
  obtain ⟨k1, k2⟩ := h'
  rcases k1 with ⟨e1, e2⟩ | ⟨k1, k3⟩
  · subst e1 e2
    refine ⟨h1, fun s hs => ?_⟩
    rcases List.mem_append.mp hs with z | z
    · exact h2 s z
    · exact k2 s z
  · refine ⟨Or.inr ⟨?_, k3⟩, fun s hs => ?_⟩
    · rcases h1 with ⟨e1, e2⟩ | ⟨h1, _⟩
      · subst e1 e2; exact k1
      · exact kt_kl_tr k1 h1
    · rcases List.mem_append.mp hs with z | z
      · intro c y
        exact h2 s z c (kt_kl_tr y k1)
      · exact k2 s z
def kt_cd (bD bP lo cx cy : Int32) (px py pn : Nat → Int32) (s : Nat) : Prop := kt_kl bD bP (kt_ds (px s) (py s) cx cy) (pn s) ∧ ¬ pn s = lo
def kt_Sx (pl : Nat → Prop) (bD bP lo cx cy : Int32) (px py pn : Nat → Int32) (l : List Nat) (bd bp bd' bp' : Int32) : Prop := kt_St pl (kt_cd bD bP lo cx cy px py pn) (fun s => kt_ds (px s) (py s) cx cy) pn l bd bp bd' bp'
variable {f_added f_alive f_buffered f_gathered f_x0 f_x1 f_y0 f_y1 f_foundMany f_foundTotal f_listing f_listed f_centreX f_centreY f_bestDistance f_bestPoint f_behindDistance f_behindPoint f_leftOut : Int32} {a_slotOf a_used a_pointOf a_px a_py a_heavy a_buffer a_filled a_leafSlot a_standsAt a_minX a_maxX a_minY a_maxY a_many a_total a_work a_spanFrom a_spanTo a_stack a_list : Nat → Int32}
variable {post : SX → Prop} {pI : Int32 → Prop} {pl : Nat → Prop}
theorem xl_offer {s : Nat} (hs : s < 64) (hp : pl s) (h : ∀ bd bp, kt_Sx pl f_behindDistance f_behindPoint f_leftOut f_centreX f_centreY a_px a_py a_pointOf [s] f_bestDistance f_bestPoint bd bp → post (f_added, f_alive, f_buffered, f_gathered, f_x0, f_x1, f_y0, f_y1, f_foundMany, f_foundTotal, f_listing, f_listed, f_centreX, f_centreY, bd, bp, f_behindDistance, f_behindPoint, f_leftOut, a_slotOf, a_used, a_pointOf, a_px, a_py, a_heavy, a_buffer, a_filled, a_leafSlot, a_standsAt, a_minX, a_maxX, a_minY, a_maxY, a_many, a_total, a_work, a_spanFrom, a_spanTo, a_stack, a_list)) : wpX_offer post (f_added, f_alive, f_buffered, f_gathered, f_x0, f_x1, f_y0, f_y1, f_foundMany, f_foundTotal, f_listing, f_listed, f_centreX, f_centreY, f_bestDistance, f_bestPoint, f_behindDistance, f_behindPoint, f_leftOut, a_slotOf, a_used, a_pointOf, a_px, a_py, a_heavy, a_buffer, a_filled, a_leafSlot, a_standsAt, a_minX, a_maxX, a_minY, a_maxY, a_many, a_total, a_work, a_spanFrom, a_spanTo, a_stack, a_list) (nI s) := by
  have cs : (nI s).toNatClampNeg = s := nI_clamp (by omega)
  have vs : vp_in (nI s) 64 := vp_in_nI (by omega) (by omega)
  have h0 : ¬ (kt_cd f_behindDistance f_behindPoint f_leftOut f_centreX f_centreY a_px a_py a_pointOf s ∧ kt_kl (kt_ds (a_px s) (a_py s) f_centreX f_centreY) (a_pointOf s) f_bestDistance f_bestPoint) → post (f_added, f_alive, f_buffered, f_gathered, f_x0, f_x1, f_y0, f_y1, f_foundMany, f_foundTotal, f_listing, f_listed, f_centreX, f_centreY, f_bestDistance, f_bestPoint, f_behindDistance, f_behindPoint, f_leftOut, a_slotOf, a_used, a_pointOf, a_px, a_py, a_heavy, a_buffer, a_filled, a_leafSlot, a_standsAt, a_minX, a_maxX, a_minY, a_maxY, a_many, a_total, a_work, a_spanFrom, a_spanTo, a_stack, a_list) := by
    intro z
    refine h _ _ (kt_St_keep ?_)
    intro r hr c y
    rw [List.mem_singleton.mp hr] at c y
    exact z ⟨c, y⟩
  have h1 : kt_cd f_behindDistance f_behindPoint f_leftOut f_centreX f_centreY a_px a_py a_pointOf s → kt_kl (kt_ds (a_px s) (a_py s) f_centreX f_centreY) (a_pointOf s) f_bestDistance f_bestPoint → post (f_added, f_alive, f_buffered, f_gathered, f_x0, f_x1, f_y0, f_y1, f_foundMany, f_foundTotal, f_listing, f_listed, f_centreX, f_centreY, kt_ds (a_px s) (a_py s) f_centreX f_centreY, a_pointOf s, f_behindDistance, f_behindPoint, f_leftOut, a_slotOf, a_used, a_pointOf, a_px, a_py, a_heavy, a_buffer, a_filled, a_leafSlot, a_standsAt, a_minX, a_maxX, a_minY, a_maxY, a_many, a_total, a_work, a_spanFrom, a_spanTo, a_stack, a_list) := by
    intro c y
    refine h _ _ ⟨Or.inr ⟨y, s, hs, hp, c, rfl, rfl⟩, ?_⟩
    intro r hr _
    rw [List.mem_singleton.mp hr]
    exact kt_kl_irr _ _
  have o42 : ∀ z0 : Int32, (z0 = 0 ∧ ¬ kt_kl f_behindDistance f_behindPoint (kt_ds (a_px s) (a_py s) f_centreX f_centreY) (a_pointOf s)) ∨ (z0 = 1 ∧ kt_kl f_behindDistance f_behindPoint (kt_ds (a_px s) (a_py s) f_centreX f_centreY) (a_pointOf s)) → wX_offer_42 post (kt_ds (a_px s) (a_py s) f_centreX f_centreY) (a_pointOf s) z0 f_added f_alive f_buffered f_gathered f_x0 f_x1 f_y0 f_y1 f_foundMany f_foundTotal f_listing f_listed f_centreX f_centreY f_bestDistance f_bestPoint f_behindDistance f_behindPoint f_leftOut a_slotOf a_used a_pointOf a_px a_py a_heavy a_buffer a_filled a_leafSlot a_standsAt a_minX a_maxX a_minY a_maxY a_many a_total a_work a_spanFrom a_spanTo a_stack a_list := by
    intro z0 hz
    rcases hz with ⟨rfl, hz⟩ | ⟨rfl, hz⟩
    · have hn : post (f_added, f_alive, f_buffered, f_gathered, f_x0, f_x1, f_y0, f_y1, f_foundMany, f_foundTotal, f_listing, f_listed, f_centreX, f_centreY, f_bestDistance, f_bestPoint, f_behindDistance, f_behindPoint, f_leftOut, a_slotOf, a_used, a_pointOf, a_px, a_py, a_heavy, a_buffer, a_filled, a_leafSlot, a_standsAt, a_minX, a_maxX, a_minY, a_maxY, a_many, a_total, a_work, a_spanFrom, a_spanTo, a_stack, a_list) := h0 (fun z => hz z.1.1)
      exact br_c (fun _ => br_t rfl hn) (fun _ => br_c (fun _ => br_c (fun _ => br_t rfl hn) (fun _ => br_t rfl hn)) (fun _ => br_t rfl hn))
    · have hy : kt_kl (kt_ds (a_px s) (a_py s) f_centreX f_centreY) (a_pointOf s) f_bestDistance f_bestPoint → wX_offer_68 post (kt_ds (a_px s) (a_py s) f_centreX f_centreY) (a_pointOf s) 1 f_added f_alive f_buffered f_gathered f_x0 f_x1 f_y0 f_y1 f_foundMany f_foundTotal f_listing f_listed f_centreX f_centreY f_bestDistance f_bestPoint f_behindDistance f_behindPoint f_leftOut a_slotOf a_used a_pointOf a_px a_py a_heavy a_buffer a_filled a_leafSlot a_standsAt a_minX a_maxX a_minY a_maxY a_many a_total a_work a_spanFrom a_spanTo a_stack a_list := fun y =>
        br_f (by decide) (br_f (by decide) (br_c (fun e => h0 (fun z => z.1.2 e)) (fun e => h1 ⟨hz, e⟩ y)))
      have hn : ¬ kt_kl (kt_ds (a_px s) (a_py s) f_centreX f_centreY) (a_pointOf s) f_bestDistance f_bestPoint → wX_offer_72 post (kt_ds (a_px s) (a_py s) f_centreX f_centreY) (a_pointOf s) 1 f_added f_alive f_buffered f_gathered f_x0 f_x1 f_y0 f_y1 f_foundMany f_foundTotal f_listing f_listed f_centreX f_centreY f_bestDistance f_bestPoint f_behindDistance f_behindPoint f_leftOut a_slotOf a_used a_pointOf a_px a_py a_heavy a_buffer a_filled a_leafSlot a_standsAt a_minX a_maxX a_minY a_maxY a_many a_total a_work a_spanFrom a_spanTo a_stack a_list := fun y =>
        br_f (by decide) (br_t rfl (h0 (fun z => y z.2)))
      exact br_c (fun a => hy (Or.inl a)) (fun a => br_c (fun b => br_c (fun c => hn (by
        rintro (z | ⟨_, z⟩)
        · exact a z
        · exact Int32.not_lt.mpr c z)) (fun c => hy (Or.inr ⟨b, kt_nle c⟩))) (fun b => hn (by
        rintro (z | ⟨z, _⟩)
        · exact a z
        · exact b z)))
  unfold wpX_offer
  refine xl_dist hs ?_
  simp only [cs]
  refine ⟨vs, nm_e (br_c (fun a => o42 1 (Or.inr ⟨rfl, Or.inl a⟩)) (fun a => br_c (fun b => br_c (fun c => o42 0 (Or.inl ⟨rfl, ?_⟩)) (fun c => o42 1 (Or.inr ⟨rfl, Or.inr ⟨b.symm, kt_nle c⟩⟩))) (fun b => o42 0 (Or.inl ⟨rfl, ?_⟩))))⟩
  · rintro (z | ⟨_, z⟩)
    · exact a z
    · exact Int32.not_lt.mpr c z
  · rintro (z | ⟨z, _⟩)
    · exact a z
    · exact b z.symm
theorem xl_o19 {q : Nat} (hq : q + 4 ≤ 256) (hL : ∀ k, q ≤ k → k < q + 4 → (a_leafSlot k < 0 ∨ ∃ s, s < 64 ∧ a_leafSlot k = nI s ∧ pl s)) : ∀ d j, j + d = 4 → ∀ bd bp : Int32, (∀ bd' bp', kt_Sx pl f_behindDistance f_behindPoint f_leftOut f_centreX f_centreY a_px a_py a_pointOf (kt_sg a_leafSlot (q + j) d) bd bp bd' bp' → post (f_added, f_alive, f_buffered, f_gathered, f_x0, f_x1, f_y0, f_y1, f_foundMany, f_foundTotal, f_listing, f_listed, f_centreX, f_centreY, bd', bp', f_behindDistance, f_behindPoint, f_leftOut, a_slotOf, a_used, a_pointOf, a_px, a_py, a_heavy, a_buffer, a_filled, a_leafSlot, a_standsAt, a_minX, a_maxX, a_minY, a_maxY, a_many, a_total, a_work, a_spanFrom, a_spanTo, a_stack, a_list)) → ∀ n, d < n → wX_offerLeaf_19 post (nI q) n (nI (q + j)) f_added f_alive f_buffered f_gathered f_x0 f_x1 f_y0 f_y1 f_foundMany f_foundTotal f_listing f_listed f_centreX f_centreY bd bp f_behindDistance f_behindPoint f_leftOut a_slotOf a_used a_pointOf a_px a_py a_heavy a_buffer a_filled a_leafSlot a_standsAt a_minX a_maxX a_minY a_maxY a_many a_total a_work a_spanFrom a_spanTo a_stack a_list := by
  have e4 : nI q + 4 = nI (q + 4) := nI_add q 4
  intro d
  induction d with
  | zero =>
    intro j hj bd bp h n hn
    obtain ⟨m, rfl⟩ : ∃ m, n = m + 1 := ⟨n - 1, by omega⟩
    have ej : j = 4 := by omega
    subst ej
    exact br_t (by rw [e4]; exact kt_rfl _) (h _ _ (kt_St_keep (fun s hs => (nomatch hs))))
  | succ d ih =>
    intro j hj bd bp h n hn
    obtain ⟨m, rfl⟩ : ∃ m, n = m + 1 := ⟨n - 1, by omega⟩
    have hc : ¬ nI q + 4 ≤ nI (q + j) := by rw [e4]; exact nI_ge (by omega) (by omega)
    have vi : vp_in (nI (q + j)) 256 := vp_in_nI (by omega) (by omega)
    have ci : (nI (q + j)).toNatClampNeg = q + j := nI_clamp (by omega)
    have es : kt_sg a_leafSlot (q + j) (d + 1) = kt_sg a_leafSlot (q + j) 1 ++ kt_sg a_leafSlot (q + (j + 1)) d := by
      rw [Nat.add_comm d 1]
      exact kt_sg_app _ _ _ _
    rw [es] at h
    rw [wX_offerLeaf_19]
    simp only [ci]
    rcases hL (q + j) (by omega) (by omega) with hz | ⟨s, hs, e, hp⟩
    · rw [kt_sg_1n hz, List.nil_append] at h
      exact br_f hc ⟨vi, br_t hz (nm_r (nI_1 _) (ih (j + 1) (by omega) bd bp h m (by omega)))⟩
    · rw [kt_sg_1s e (by omega)] at h
      rw [e]
      refine br_f hc ⟨vi, br_f (nI_pos (by omega)) ⟨vi, xl_offer hs hp (fun bd' bp' hS => ?_)⟩⟩
      exact nm_r (nI_1 _) (ih (j + 1) (by omega) bd' bp' (fun bd'' bp'' hS' => h bd'' bp'' (kt_St_app hS hS')) m (by omega))
theorem xl_oleaf {t n : Nat} (ht : t < 4) (h1 : kt_lv t ≤ n) (h2 : n < 2 * kt_lv t) (hT : kt_Tr pl t a_leafSlot a_standsAt) (h : ∀ bd' bp', kt_Sx pl f_behindDistance f_behindPoint f_leftOut f_centreX f_centreY a_px a_py a_pointOf (kt_sg a_leafSlot (kt_lo t n) (kt_ln t n)) f_bestDistance f_bestPoint bd' bp' → post (f_added, f_alive, f_buffered, f_gathered, f_x0, f_x1, f_y0, f_y1, f_foundMany, f_foundTotal, f_listing, f_listed, f_centreX, f_centreY, bd', bp', f_behindDistance, f_behindPoint, f_leftOut, a_slotOf, a_used, a_pointOf, a_px, a_py, a_heavy, a_buffer, a_filled, a_leafSlot, a_standsAt, a_minX, a_maxX, a_minY, a_maxY, a_many, a_total, a_work, a_spanFrom, a_spanTo, a_stack, a_list)) : wpX_offerLeaf post (f_added, f_alive, f_buffered, f_gathered, f_x0, f_x1, f_y0, f_y1, f_foundMany, f_foundTotal, f_listing, f_listed, f_centreX, f_centreY, f_bestDistance, f_bestPoint, f_behindDistance, f_behindPoint, f_leftOut, a_slotOf, a_used, a_pointOf, a_px, a_py, a_heavy, a_buffer, a_filled, a_leafSlot, a_standsAt, a_minX, a_maxX, a_minY, a_maxY, a_many, a_total, a_work, a_spanFrom, a_spanTo, a_stack, a_list) (nI t) (nI n) := by
  have hv := kt_lv16 t ht
  obtain ⟨g1, g2⟩ := kt_leaf ht h1 h2
  have e : nI (kt_ba t) + 4 * (nI n - nI (kt_lv t)) = nI (kt_lo t n) := by
    rw [pk_sub h1, show (4 : Int32) = nI 4 from rfl, pk_mul, nI_add, g2]
  rw [g1] at h
  unfold wpX_offerLeaf
  refine xl_base ht ?_
  refine xl_leaves ht ?_
  refine nm_r e ⟨5, xl_o19 (q := kt_lo t n) (by omega) ?_ 4 0 rfl _ _ h 5 (by omega)⟩
  intro k k1 k2
  rcases hT k ⟨by omega, by omega⟩ with z | ⟨s, a, b, c, _⟩
  · exact Or.inl z
  · exact Or.inr ⟨s, a, b, c⟩
theorem xl_n81 {J11 : Int32 → Int32 → Int32 → Int32 → Int32 → Int32 → Int32 → Int32 → Int32 → Int32 → Int32 → Int32 → Int32 → Int32 → Int32 → Int32 → Int32 → Int32 → Int32 → Int32 → Int32 → (Nat → Int32) → (Nat → Int32) → (Nat → Int32) → (Nat → Int32) → (Nat → Int32) → (Nat → Int32) → (Nat → Int32) → (Nat → Int32) → (Nat → Int32) → (Nat → Int32) → (Nat → Int32) → (Nat → Int32) → (Nat → Int32) → (Nat → Int32) → (Nat → Int32) → (Nat → Int32) → (Nat → Int32) → (Nat → Int32) → (Nat → Int32) → (Nat → Int32) → (Nat → Int32) → Prop} {x1 x2 x3 x4 : Int32} (h : J11 x2 (x3 + 1) f_added f_alive f_buffered f_gathered f_x0 f_x1 f_y0 f_y1 f_foundMany f_foundTotal f_listing f_listed f_centreX f_centreY f_bestDistance f_bestPoint f_behindDistance f_behindPoint f_leftOut a_slotOf a_used a_pointOf a_px a_py a_heavy a_buffer a_filled a_leafSlot a_standsAt a_minX a_maxX a_minY a_maxY a_many a_total a_work a_spanFrom a_spanTo a_stack a_list) : wX_walkNear_81 post J11 x1 x2 x3 x4 f_added f_alive f_buffered f_gathered f_x0 f_x1 f_y0 f_y1 f_foundMany f_foundTotal f_listing f_listed f_centreX f_centreY f_bestDistance f_bestPoint f_behindDistance f_behindPoint f_leftOut a_slotOf a_used a_pointOf a_px a_py a_heavy a_buffer a_filled a_leafSlot a_standsAt a_minX a_maxX a_minY a_maxY a_many a_total a_work a_spanFrom a_spanTo a_stack a_list :=
  br_t rfl (br_t rfl (nm_e h))
theorem xl_n109 {J11 : Int32 → Int32 → Int32 → Int32 → Int32 → Int32 → Int32 → Int32 → Int32 → Int32 → Int32 → Int32 → Int32 → Int32 → Int32 → Int32 → Int32 → Int32 → Int32 → Int32 → Int32 → (Nat → Int32) → (Nat → Int32) → (Nat → Int32) → (Nat → Int32) → (Nat → Int32) → (Nat → Int32) → (Nat → Int32) → (Nat → Int32) → (Nat → Int32) → (Nat → Int32) → (Nat → Int32) → (Nat → Int32) → (Nat → Int32) → (Nat → Int32) → (Nat → Int32) → (Nat → Int32) → (Nat → Int32) → (Nat → Int32) → (Nat → Int32) → (Nat → Int32) → (Nat → Int32) → Prop} {t w r k : Nat} (ht : t < 4) (hw : w + 1 < 64) (hk1 : 1 ≤ k) (hk2 : k < kt_lv t) (hN : kt_Ns t a_px a_py a_heavy a_leafSlot a_minX a_maxX a_minY a_maxY a_many a_total) (hx : kt_b63 f_centreX) (hy : kt_b63 f_centreY) (h : ∀ a b, (a = 2 * k ∧ b = 2 * k + 1) ∨ (a = 2 * k + 1 ∧ b = 2 * k) → J11 (nI (w + 2)) (nI (r + 1)) f_added f_alive f_buffered f_gathered f_x0 f_x1 f_y0 f_y1 f_foundMany f_foundTotal f_listing f_listed f_centreX f_centreY f_bestDistance f_bestPoint f_behindDistance f_behindPoint f_leftOut a_slotOf a_used a_pointOf a_px a_py a_heavy a_buffer a_filled a_leafSlot a_standsAt a_minX a_maxX a_minY a_maxY a_many a_total a_work a_spanFrom a_spanTo (kt_p2 a_stack w a b) a_list) : wX_walkNear_109 post J11 (nI t) (nI w) (nI r) (nI k) 1 f_added f_alive f_buffered f_gathered f_x0 f_x1 f_y0 f_y1 f_foundMany f_foundTotal f_listing f_listed f_centreX f_centreY f_bestDistance f_bestPoint f_behindDistance f_behindPoint f_leftOut a_slotOf a_used a_pointOf a_px a_py a_heavy a_buffer a_filled a_leafSlot a_standsAt a_minX a_maxX a_minY a_maxY a_many a_total a_work a_spanFrom a_spanTo a_stack a_list := by
  have hv := kt_lv16 t ht
  have c0 : (nI w).toNatClampNeg = w := nI_clamp (by omega)
  have c1 : (nI (w + 1)).toNatClampNeg = w + 1 := nI_clamp (by omega)
  have v0 : vp_in (nI w) 64 := vp_in_nI (by omega) (by omega)
  have v1 : vp_in (nI (w + 1)) 64 := vp_in_nI (by omega) (by omega)
  have e1 : nI w + 1 = nI (w + 1) := nI_1 w
  have e2 : nI w + 2 = nI (w + 2) := nI_add w 2
  have e3 : 2 * nI k = nI (2 * k) := pk_mul 2 k
  have e4 : nI (2 * k) + 1 = nI (2 * k + 1) := nI_1 _
  have e5 : nI r + 1 = nI (r + 1) := nI_1 _
  have ea : nI t * 32 + nI (2 * k) = nI (t * 32 + 2 * k) := by rw [show (32 : Int32) = nI 32 from rfl, pk_mul, nI_add]
  have j173 : ∀ (x8 : Int32) (a b : Nat), (x8 = 0 ∧ a = 2 * k ∧ b = 2 * k + 1) ∨ (x8 = 1 ∧ a = 2 * k + 1 ∧ b = 2 * k) → wX_walkNear_173 post J11 (nI t) (nI w) (nI r) (nI (2 * k)) x8 (nI a) (nI w) f_added f_alive f_buffered f_gathered f_x0 f_x1 f_y0 f_y1 f_foundMany f_foundTotal f_listing f_listed f_centreX f_centreY f_bestDistance f_bestPoint f_behindDistance f_behindPoint f_leftOut a_slotOf a_used a_pointOf a_px a_py a_heavy a_buffer a_filled a_leafSlot a_standsAt a_minX a_maxX a_minY a_maxY a_many a_total a_work a_spanFrom a_spanTo a_stack a_list := by
    intro x8 a b hh
    unfold wX_walkNear_173
    simp only [e1, e2, e4, e5, c0, c1]
    rcases hh with ⟨rfl, rfl, rfl⟩ | ⟨rfl, rfl, rfl⟩
    · exact ⟨v0, nm_e (br_t rfl ⟨v1, nm_e (nm_e (nm_e (h _ _ (Or.inl ⟨rfl, rfl⟩))))⟩)⟩
    · exact ⟨v0, nm_e (br_f (by decide) ⟨v1, nm_e (nm_e (nm_e (h _ _ (Or.inr ⟨rfl, rfl⟩))))⟩)⟩
  have j152 : ∀ z0 : Int32, z0 = 0 ∨ z0 = 1 → wX_walkNear_152 post J11 (nI t) (nI w) (nI r) (nI (2 * k)) z0 f_added f_alive f_buffered f_gathered f_x0 f_x1 f_y0 f_y1 f_foundMany f_foundTotal f_listing f_listed f_centreX f_centreY f_bestDistance f_bestPoint f_behindDistance f_behindPoint f_leftOut a_slotOf a_used a_pointOf a_px a_py a_heavy a_buffer a_filled a_leafSlot a_standsAt a_minX a_maxX a_minY a_maxY a_many a_total a_work a_spanFrom a_spanTo a_stack a_list := by
    intro z0 hz
    rcases hz with rfl | rfl
    · exact br_t rfl (j173 0 _ _ (Or.inl ⟨rfl, rfl, rfl⟩))
    · refine br_f (by decide) ?_
      rw [e4]
      exact j173 1 _ _ (Or.inr ⟨rfl, rfl, rfl⟩)
  refine br_f (by decide) (nm_r e3 ?_)
  rw [ea]
  refine xl_least (by omega) (hN (2 * k) (by omega) (by omega)) hx hy (fun r1 _ => ?_)
  rw [nI_1]
  refine xl_least (by omega) (hN (2 * k + 1) (by omega) (by omega)) hx hy (fun r2 _ => ?_)
  exact br_c (fun _ => j152 0 (Or.inl rfl)) (fun _ => j152 1 (Or.inr rfl))
theorem xl_n11 {t : Nat} (ht : t < 4) (hT : kt_Tr pl t a_leafSlot a_standsAt) (hN : kt_Ns t a_px a_py a_heavy a_leafSlot a_minX a_maxX a_minY a_maxY a_many a_total) (hx : kt_b63 f_centreX) (hy : kt_b63 f_centreY) {T : List Nat} {bd0 bp0 : Int32} (hpost : ∀ bd bp st, kt_Sx pl f_behindDistance f_behindPoint f_leftOut f_centreX f_centreY a_px a_py a_pointOf T bd0 bp0 bd bp → post (f_added, f_alive, f_buffered, f_gathered, f_x0, f_x1, f_y0, f_y1, f_foundMany, f_foundTotal, f_listing, f_listed, f_centreX, f_centreY, bd, bp, f_behindDistance, f_behindPoint, f_leftOut, a_slotOf, a_used, a_pointOf, a_px, a_py, a_heavy, a_buffer, a_filled, a_leafSlot, a_standsAt, a_minX, a_maxX, a_minY, a_maxY, a_many, a_total, a_work, a_spanFrom, a_spanTo, st, a_list)) : ∀ d r, r + d = 32 → ∀ w (D : List Nat) (bd bp : Int32) (st : Nat → Int32), kt_sk t st w → r + kt_pz (kt_sb t) st w ≤ 31 → kt_Sx pl f_behindDistance f_behindPoint f_leftOut f_centreX f_centreY a_px a_py a_pointOf D bd0 bp0 bd bp → (∀ s, s ∈ T → s ∈ D ++ kt_pd (fun n => kt_sg a_leafSlot (kt_lo t n) (kt_ln t n)) st w) → ∀ n, d < n → wX_walkNear_11 post (nI t) n (nI w) (nI r) f_added f_alive f_buffered f_gathered f_x0 f_x1 f_y0 f_y1 f_foundMany f_foundTotal f_listing f_listed f_centreX f_centreY bd bp f_behindDistance f_behindPoint f_leftOut a_slotOf a_used a_pointOf a_px a_py a_heavy a_buffer a_filled a_leafSlot a_standsAt a_minX a_maxX a_minY a_maxY a_many a_total a_work a_spanFrom a_spanTo st a_list := by
  have hv := kt_lv16 t ht
  intro d
  induction d with
  | zero => intro r hr w D bd bp st hk hz; omega
  | succ d ih =>
    intro r hr w D bd bp st hk hz hS hp n hn
    obtain ⟨m, rfl⟩ : ∃ m, n = m + 1 := ⟨n - 1, by omega⟩
    have hr32 : ¬ 32 ≤ nI r := nI_ge (b := 32) (by omega) (by decide)
    rcases Nat.eq_zero_or_pos w with hw0 | hw0
    · subst hw0
      refine br_f hr32 (br_t (kt_rfl _) (hpost _ _ _ (kt_St_sub hS (fun s hs => ?_))))
      have := hp s hs
      rw [show kt_pd (fun n => kt_sg a_leafSlot (kt_lo t n) (kt_ln t n)) st 0 = [] from rfl, List.append_nil] at this
      exact this
    · obtain ⟨w, rfl⟩ : ∃ w', w = w' + 1 := ⟨w - 1, by omega⟩
      obtain ⟨k, ek, hk1, hk2⟩ := hk w (by omega)
      have hwz := kt_pz_ge ht (w + 1) hk
      have hk' : kt_sk t st w := fun i hi => hk i (by omega)
      have hb := (kt_bd ht hk1 hk2).2.2
      rw [kt_pz_s ek (by omega)] at hz hwz
      rw [kt_pd_s ek (by omega)] at hp
      have em : nI (w + 1) + (-1) = nI w := pk_m1 w
      have v0 : vp_in (nI w) 64 := vp_in_nI (by omega) (by omega)
      have c0 : (nI w).toNatClampNeg = w := nI_clamp (by omega)
      have ea : nI t * 32 + nI k = nI (t * 32 + k) := by rw [show (32 : Int32) = nI 32 from rfl, pk_mul, nI_add]
      have ca : (nI (t * 32 + k)).toNatClampNeg = t * 32 + k := nI_clamp (by omega)
      have va : vp_in (nI (t * 32 + k)) 128 := vp_in_nI (by omega) (by omega)
      have e5 : nI r + 1 = nI (r + 1) := nI_1 _
      have hNk := hN k hk1 hk2
      have hp' : ∀ s, s ∈ T → s ∈ (D ++ kt_sg a_leafSlot (kt_lo t k) (kt_ln t k)) ++ kt_pd (fun n => kt_sg a_leafSlot (kt_lo t n) (kt_ln t n)) st w := by
        intro s hs
        have := hp s hs
        simp only [List.mem_append] at this ⊢
        rcases this with z | z | z
        · exact Or.inl (Or.inl z)
        · exact Or.inr z
        · exact Or.inl (Or.inr z)
      have hskip : (∀ s, s ∈ kt_sg a_leafSlot (kt_lo t k) (kt_ln t k) → kt_cd f_behindDistance f_behindPoint f_leftOut f_centreX f_centreY a_px a_py a_pointOf s → ¬ kt_kl (kt_ds (a_px s) (a_py s) f_centreX f_centreY) (a_pointOf s) bd bp) → wX_walkNear_81 post (wX_walkNear_11 post (nI t) m) (nI t) (nI w) (nI r) (nI k) f_added f_alive f_buffered f_gathered f_x0 f_x1 f_y0 f_y1 f_foundMany f_foundTotal f_listing f_listed f_centreX f_centreY bd bp f_behindDistance f_behindPoint f_leftOut a_slotOf a_used a_pointOf a_px a_py a_heavy a_buffer a_filled a_leafSlot a_standsAt a_minX a_maxX a_minY a_maxY a_many a_total a_work a_spanFrom a_spanTo st a_list := by
        intro hno
        refine xl_n81 ?_
        rw [e5]
        exact ih (r + 1) (by omega) w _ bd bp st hk' (by omega) (kt_St_app hS (kt_St_keep hno)) hp' m (by omega)
      have h82 : wX_walkNear_82 post (wX_walkNear_11 post (nI t) m) (nI t) (nI w) (nI r) (nI k) 1 f_added f_alive f_buffered f_gathered f_x0 f_x1 f_y0 f_y1 f_foundMany f_foundTotal f_listing f_listed f_centreX f_centreY bd bp f_behindDistance f_behindPoint f_leftOut a_slotOf a_used a_pointOf a_px a_py a_heavy a_buffer a_filled a_leafSlot a_standsAt a_minX a_maxX a_minY a_maxY a_many a_total a_work a_spanFrom a_spanTo st a_list := by
        refine br_f (by decide) (xl_leaves ht ?_)
        by_cases hc : k < kt_lv t
        · refine br_t (nI_lt hc (by omega)) (xl_n109 ht (by omega) hk1 hc hN hx hy (fun a b hab => ?_))
          obtain ⟨_, _, _, g4⟩ := kt_inner ht hk1 hc
          have eh := kt_half ht hk1 hc a_leafSlot
          have hab' : (1 ≤ a ∧ a < 2 * kt_lv t) ∧ (1 ≤ b ∧ b < 2 * kt_lv t) ∧ kt_sb t a + kt_sb t b = kt_sb t (2 * k) + kt_sb t (2 * k + 1) := by
            rcases hab with ⟨rfl, rfl⟩ | ⟨rfl, rfl⟩
            · omega
            · omega
          refine ih (r + 1) (by omega) (w + 2) D bd bp _ (kt_p2_k hk' hab'.1 hab'.2.1) ?_ hS ?_ m (by omega)
          · rw [kt_p2_z (by omega) (by omega)]
            omega
          · intro s hs
            have := hp s hs
            rw [kt_p2_d (by omega) (by omega)]
            rw [eh] at this
            simp only [List.mem_append] at this ⊢
            rcases hab with ⟨rfl, rfl⟩ | ⟨rfl, rfl⟩
            · exact this
            · rcases this with z | z | z | z
              · exact Or.inl z
              · exact Or.inr (Or.inl z)
              · exact Or.inr (Or.inr (Or.inr z))
              · exact Or.inr (Or.inr (Or.inl z))
        · refine br_f (nI_nlt (by omega) (by omega)) (xl_oleaf ht (by omega) hk2 hT (fun bd' bp' hS' => ?_))
          exact nm_r e5 (ih (r + 1) (by omega) w _ bd' bp' st hk' (by omega) (kt_St_app hS hS') hp' m (by omega))
      refine br_f hr32 (br_f (nI_nle (by omega) (by omega)) (nm_r em ⟨v0, nm_r (e' := nI k) (by rw [c0, ek]) (nm_r ea ⟨va, br_c (fun hm => hskip ?_) (fun _ => xl_least (by omega) hNk hx hy (fun r1 k1 => br_c (fun hb => hskip ?_) (fun _ => xl_most (by omega) hNk hx hy (fun r2 k2 => br_c (fun hb => hskip ?_) (fun _ => h82)))))⟩)⟩))
      · rw [ca, hNk.2.1] at hm
        have hl := kt_sg_len a_leafSlot (kt_lo t k) (kt_ln t k)
        have hb2 := (kt_bd ht hk1 hk2).2.1
        intro s hs
        have hpos := List.length_pos_of_mem hs
        exact absurd hm (nI_nle hpos (by omega))
      · intro s hs _ y
        have hlt := Int32.lt_of_lt_of_le hb (k1 s hs)
        rcases y with y | ⟨y, _⟩
        · exact Int32.lt_irrefl (Int32.lt_trans hlt y)
        · rw [y] at hlt; exact Int32.lt_irrefl hlt
      · intro s hs c
        have hlt := Int32.lt_of_le_of_lt (k2 s hs) hb
        rcases c.1 with y | ⟨y, _⟩
        · exact absurd (Int32.lt_trans hlt y) (Int32.lt_irrefl)
        · rw [y] at hlt; exact absurd hlt (Int32.lt_irrefl)
theorem xl_wnear {t : Nat} (ht : t < 4) (hT : kt_Tr pl t a_leafSlot a_standsAt) (hN : kt_Ns t a_px a_py a_heavy a_leafSlot a_minX a_maxX a_minY a_maxY a_many a_total) (hx : kt_b63 f_centreX) (hy : kt_b63 f_centreY) (hpost : ∀ bd bp st, kt_Sx pl f_behindDistance f_behindPoint f_leftOut f_centreX f_centreY a_px a_py a_pointOf (kt_sg a_leafSlot (kt_ba t) (8 * 2 ^ t)) f_bestDistance f_bestPoint bd bp → post (f_added, f_alive, f_buffered, f_gathered, f_x0, f_x1, f_y0, f_y1, f_foundMany, f_foundTotal, f_listing, f_listed, f_centreX, f_centreY, bd, bp, f_behindDistance, f_behindPoint, f_leftOut, a_slotOf, a_used, a_pointOf, a_px, a_py, a_heavy, a_buffer, a_filled, a_leafSlot, a_standsAt, a_minX, a_maxX, a_minY, a_maxY, a_many, a_total, a_work, a_spanFrom, a_spanTo, st, a_list)) : wpX_walkNear post (f_added, f_alive, f_buffered, f_gathered, f_x0, f_x1, f_y0, f_y1, f_foundMany, f_foundTotal, f_listing, f_listed, f_centreX, f_centreY, f_bestDistance, f_bestPoint, f_behindDistance, f_behindPoint, f_leftOut, a_slotOf, a_used, a_pointOf, a_px, a_py, a_heavy, a_buffer, a_filled, a_leafSlot, a_standsAt, a_minX, a_maxX, a_minY, a_maxY, a_many, a_total, a_work, a_spanFrom, a_spanTo, a_stack, a_list) (nI t) := by
  obtain ⟨r1, r2, r3⟩ := kt_root t ht
  have hv := kt_lv16 t ht
  have e0 : upd a_stack 0 1 0 = nI 1 := pk_us
  refine nm_e ⟨33, xl_n11 ht hT hN hx hy hpost 32 0 rfl 1 [] _ _ _ ?_ ?_ (kt_St_keep (fun s hs => (nomatch hs))) ?_ 33 (by omega)⟩
  · intro i hi
    have : i = 0 := by omega
    subst this
    exact ⟨1, e0, by omega, by omega⟩
  · rw [kt_pz_s e0 (by omega)]
    show 0 + (0 + kt_sb t 1) ≤ 31
    omega
  · intro s hs
    rw [kt_pd_s e0 (by omega)]
    show s ∈ [] ++ ([] ++ kt_sg a_leafSlot (kt_lo t 1) (kt_ln t 1))
    rw [r1, r2, List.nil_append, List.nil_append]
    exact hs
theorem xl_r41 {B : Nat} (hP : kt_Pl pl B a_buffer a_filled a_leafSlot a_standsAt a_px a_py a_heavy a_minX a_maxX a_minY a_maxY a_many a_total) (hx : kt_b63 f_centreX) (hy : kt_b63 f_centreY) (hpost : ∀ bd bp st, kt_Sx pl f_behindDistance f_behindPoint f_leftOut f_centreX f_centreY a_px a_py a_pointOf (kt_al a_buffer a_filled a_leafSlot B) 1000000 200 bd bp → post (f_added, f_alive, f_buffered, f_gathered, f_x0, f_x1, f_y0, f_y1, f_foundMany, f_foundTotal, f_listing, f_listed, f_centreX, f_centreY, bd, bp, f_behindDistance, f_behindPoint, f_leftOut, a_slotOf, a_used, a_pointOf, a_px, a_py, a_heavy, a_buffer, a_filled, a_leafSlot, a_standsAt, a_minX, a_maxX, a_minY, a_maxY, a_many, a_total, a_work, a_spanFrom, a_spanTo, st, a_list)) : ∀ d t, t + d = 4 → ∀ (bd bp : Int32) (st : Nat → Int32), kt_Sx pl f_behindDistance f_behindPoint f_leftOut f_centreX f_centreY a_px a_py a_pointOf (kt_bl a_buffer B ++ kt_ts a_filled a_leafSlot t) 1000000 200 bd bp → ∀ n, d < n → wX_searchNear_41 post n (nI t) f_added f_alive f_buffered f_gathered f_x0 f_x1 f_y0 f_y1 f_foundMany f_foundTotal f_listing f_listed f_centreX f_centreY bd bp f_behindDistance f_behindPoint f_leftOut a_slotOf a_used a_pointOf a_px a_py a_heavy a_buffer a_filled a_leafSlot a_standsAt a_minX a_maxX a_minY a_maxY a_many a_total a_work a_spanFrom a_spanTo st a_list := by
  intro d
  induction d with
  | zero =>
    intro t htd bd bp st hS n hn
    obtain ⟨m, rfl⟩ : ∃ m, n = m + 1 := ⟨n - 1, by omega⟩
    have et : t = 4 := by omega
    subst et
    exact br_t (kt_rfl _) (hpost _ _ _ hS)
  | succ d ih =>
    intro t htd bd bp st hS n hn
    obtain ⟨m, rfl⟩ : ∃ m, n = m + 1 := ⟨n - 1, by omega⟩
    have ht : t < 4 := by omega
    have ct : (nI t).toNatClampNeg = t := nI_clamp (by omega)
    have vt : vp_in (nI t) 4 := vp_in_nI (by omega) (by omega)
    have e5 : nI t + 1 = nI (t + 1) := nI_1 _
    have es : kt_bl a_buffer B ++ kt_ts a_filled a_leafSlot (t + 1) = (kt_bl a_buffer B ++ kt_ts a_filled a_leafSlot t) ++ kt_tl a_filled a_leafSlot t := by
      rw [List.append_assoc]; rfl
    rw [wX_searchNear_41]
    simp only [ct, e5]
    refine br_f (nI_ge (b := 4) (by omega) (by decide)) ⟨vt, br_c (fun hf => ?_) (fun hf => ?_)⟩
    · refine nm_e (ih (t + 1) (by omega) bd bp st ?_ m (by omega))
      rw [es, show kt_tl a_filled a_leafSlot t = [] from if_pos hf, List.append_nil]
      exact hS
    · have el : kt_tl a_filled a_leafSlot t = kt_sg a_leafSlot (kt_ba t) (8 * 2 ^ t) := if_neg hf
      rw [el] at es
      obtain ⟨hT, hN⟩ := hP.2.2.1 t ht hf
      refine xl_wnear ht hT hN hx hy (fun bd' bp' st' hS' => ?_)
      refine nm_e (ih (t + 1) (by omega) bd' bp' st' ?_ m (by omega))
      rw [es]
      exact kt_St_app hS hS'
theorem xl_r15 {B : Nat} (hP : kt_Pl pl B a_buffer a_filled a_leafSlot a_standsAt a_px a_py a_heavy a_minX a_maxX a_minY a_maxY a_many a_total) (hB : f_buffered = nI B) (hx : kt_b63 f_centreX) (hy : kt_b63 f_centreY) (hpost : ∀ bd bp st, kt_Sx pl f_behindDistance f_behindPoint f_leftOut f_centreX f_centreY a_px a_py a_pointOf (kt_al a_buffer a_filled a_leafSlot B) 1000000 200 bd bp → post (f_added, f_alive, f_buffered, f_gathered, f_x0, f_x1, f_y0, f_y1, f_foundMany, f_foundTotal, f_listing, f_listed, f_centreX, f_centreY, bd, bp, f_behindDistance, f_behindPoint, f_leftOut, a_slotOf, a_used, a_pointOf, a_px, a_py, a_heavy, a_buffer, a_filled, a_leafSlot, a_standsAt, a_minX, a_maxX, a_minY, a_maxY, a_many, a_total, a_work, a_spanFrom, a_spanTo, st, a_list)) : ∀ d i, i + d = B → ∀ (bd bp : Int32), kt_Sx pl f_behindDistance f_behindPoint f_leftOut f_centreX f_centreY a_px a_py a_pointOf (kt_bl a_buffer i) 1000000 200 bd bp → ∀ n, d < n → wX_searchNear_15 post n (nI i) f_added f_alive f_buffered f_gathered f_x0 f_x1 f_y0 f_y1 f_foundMany f_foundTotal f_listing f_listed f_centreX f_centreY bd bp f_behindDistance f_behindPoint f_leftOut a_slotOf a_used a_pointOf a_px a_py a_heavy a_buffer a_filled a_leafSlot a_standsAt a_minX a_maxX a_minY a_maxY a_many a_total a_work a_spanFrom a_spanTo a_stack a_list := by
  have hB8 := hP.1
  intro d
  induction d with
  | zero =>
    intro i hid bd bp hS n hn
    obtain ⟨m, rfl⟩ : ∃ m, n = m + 1 := ⟨n - 1, by omega⟩
    have ei : i = B := by omega
    subst ei
    refine br_t (by rw [hB]; exact kt_rfl _) ⟨5, xl_r41 hP hx hy hpost 4 0 rfl bd bp _ ?_ 5 (by omega)⟩
    show kt_Sx pl f_behindDistance f_behindPoint f_leftOut f_centreX f_centreY a_px a_py a_pointOf (kt_bl a_buffer i ++ []) 1000000 200 bd bp
    rw [List.append_nil]
    exact hS
  | succ d ih =>
    intro i hid bd bp hS n hn
    obtain ⟨m, rfl⟩ : ∃ m, n = m + 1 := ⟨n - 1, by omega⟩
    have ci : (nI i).toNatClampNeg = i := nI_clamp (by omega)
    have vi : vp_in (nI i) 8 := vp_in_nI (by omega) (by omega)
    have e5 : nI i + 1 = nI (i + 1) := nI_1 _
    obtain ⟨s, hs, es, hp, _⟩ := hP.2.1 i (by omega)
    have eb := kt_bl_s a_buffer i
    rw [es, kt_cl hs] at eb
    rw [wX_searchNear_15]
    simp only [ci, e5, es]
    refine br_f (by rw [hB]; exact nI_ge (by omega) (by omega)) ⟨vi, xl_offer hs hp (fun bd' bp' hS' => ?_)⟩
    refine nm_e (ih (i + 1) (by omega) bd' bp' ?_ m (by omega))
    rw [eb]
    exact kt_St_app hS hS'
theorem xl_snear {B : Nat} (hP : kt_Pl pl B a_buffer a_filled a_leafSlot a_standsAt a_px a_py a_heavy a_minX a_maxX a_minY a_maxY a_many a_total) (hB : f_buffered = nI B) (hx : kt_b63 f_centreX) (hy : kt_b63 f_centreY) (hpost : ∀ bd bp st, kt_Sx pl f_behindDistance f_behindPoint f_leftOut f_centreX f_centreY a_px a_py a_pointOf (kt_al a_buffer a_filled a_leafSlot B) 1000000 200 bd bp → post (f_added, f_alive, f_buffered, f_gathered, f_x0, f_x1, f_y0, f_y1, f_foundMany, f_foundTotal, f_listing, f_listed, f_centreX, f_centreY, bd, bp, f_behindDistance, f_behindPoint, f_leftOut, a_slotOf, a_used, a_pointOf, a_px, a_py, a_heavy, a_buffer, a_filled, a_leafSlot, a_standsAt, a_minX, a_maxX, a_minY, a_maxY, a_many, a_total, a_work, a_spanFrom, a_spanTo, st, a_list)) : wpX_searchNear post (f_added, f_alive, f_buffered, f_gathered, f_x0, f_x1, f_y0, f_y1, f_foundMany, f_foundTotal, f_listing, f_listed, f_centreX, f_centreY, f_bestDistance, f_bestPoint, f_behindDistance, f_behindPoint, f_leftOut, a_slotOf, a_used, a_pointOf, a_px, a_py, a_heavy, a_buffer, a_filled, a_leafSlot, a_standsAt, a_minX, a_maxX, a_minY, a_maxY, a_many, a_total, a_work, a_spanFrom, a_spanTo, a_stack, a_list) :=
  ⟨B + 1, xl_r15 hP hB hx hy hpost B 0 (by omega) 1000000 200 (kt_St_keep (fun s hs => (nomatch hs))) (B + 1) (by omega)⟩
end KTI
end
section
section KTJ
/-! how many within a distance -/
def kt_wi (px py : Nat → Int32) (cx cy D : Int32) (s : Nat) : Bool := decide (¬ D < kt_ds (px s) (py s) cx cy)
theorem kt_wi_t {px py : Nat → Int32} {cx cy D : Int32} {s : Nat} (h : ¬ D < kt_ds (px s) (py s) cx cy) : kt_wi px py cx cy D s = true := decide_eq_true h
theorem kt_wi_f {px py : Nat → Int32} {cx cy D : Int32} {s : Nat} (h : D < kt_ds (px s) (py s) cx cy) : ¬ kt_wi px py cx cy D s = true := fun z => (of_decide_eq_true z) h
variable {f_added f_alive f_buffered f_gathered f_x0 f_x1 f_y0 f_y1 f_foundMany f_foundTotal f_listing f_listed f_centreX f_centreY f_bestDistance f_bestPoint f_behindDistance f_behindPoint f_leftOut : Int32} {a_slotOf a_used a_pointOf a_px a_py a_heavy a_buffer a_filled a_leafSlot a_standsAt a_minX a_maxX a_minY a_maxY a_many a_total a_work a_spanFrom a_spanTo a_stack a_list : Nat → Int32}
variable {post : Int32 → SX → Prop} {pI : Int32 → Prop} {pl : Nat → Prop}
theorem xl_v24 {q : Nat} {D : Int32} (hq : q + 4 ≤ 256) (hL : ∀ k, q ≤ k → k < q + 4 → (a_leafSlot k < 0 ∨ ∃ s, s < 64 ∧ a_leafSlot k = nI s)) : ∀ d j, j + d = 4 → ∀ c : Nat, pI (nI (c + ((kt_sg a_leafSlot (q + j) d).filter (kt_wi a_px a_py f_centreX f_centreY D)).length)) → ∀ n, d < n → wX_withinLeaf_24 pI D (nI q) f_added f_alive f_buffered f_gathered f_x0 f_x1 f_y0 f_y1 f_foundMany f_foundTotal f_listing f_listed f_centreX f_centreY f_bestDistance f_bestPoint f_behindDistance f_behindPoint f_leftOut a_slotOf a_used a_pointOf a_px a_py a_heavy a_buffer a_filled a_leafSlot a_standsAt a_minX a_maxX a_minY a_maxY a_many a_total a_work a_spanFrom a_spanTo a_stack a_list n (nI c) (nI (q + j)) := by
  have e4 : nI q + 4 = nI (q + 4) := nI_add q 4
  intro d
  induction d with
  | zero =>
    intro j hj c h n hn
    obtain ⟨m, rfl⟩ : ∃ m, n = m + 1 := ⟨n - 1, by omega⟩
    have ej : j = 4 := by omega
    subst ej
    exact br_t (by rw [e4]; exact kt_rfl _) h
  | succ d ih =>
    intro j hj c h n hn
    obtain ⟨m, rfl⟩ : ∃ m, n = m + 1 := ⟨n - 1, by omega⟩
    have hc : ¬ nI q + 4 ≤ nI (q + j) := by rw [e4]; exact nI_ge (by omega) (by omega)
    have vi : vp_in (nI (q + j)) 256 := vp_in_nI (by omega) (by omega)
    have ci : (nI (q + j)).toNatClampNeg = q + j := nI_clamp (by omega)
    have es : kt_sg a_leafSlot (q + j) (d + 1) = kt_sg a_leafSlot (q + j) 1 ++ kt_sg a_leafSlot (q + (j + 1)) d := by
      rw [Nat.add_comm d 1]
      exact kt_sg_app _ _ _ _
    rw [es, List.filter_append, List.length_append] at h
    rw [wX_withinLeaf_24]
    simp only [ci]
    rcases hL (q + j) (by omega) (by omega) with hz | ⟨s, hs, e⟩
    · rw [kt_sg_1n hz, List.filter_nil, List.length_nil, Nat.zero_add] at h
      exact br_f hc ⟨vi, br_t hz (nm_r (nI_1 _) (ih (j + 1) (by omega) c h m (by omega)))⟩
    · rw [kt_sg_1s e (by omega)] at h
      rw [e]
      refine br_f hc ⟨vi, br_f (nI_pos (by omega)) ⟨vi, xl_dist hs (br_c (fun hi => ?_) (fun hi => ?_))⟩⟩
      · rw [List.filter_cons_of_neg (kt_wi_f hi), List.filter_nil, List.length_nil, Nat.zero_add] at h
        exact nm_r (nI_1 _) (ih (j + 1) (by omega) c h m (by omega))
      · rw [List.filter_cons_of_pos (kt_wi_t hi), List.filter_nil, List.length_singleton, ← Nat.add_assoc] at h
        exact nm_r (nI_1 _) (nm_r (nI_1 _) (ih (j + 1) (by omega) (c + 1) h m (by omega)))
theorem xl_vleaf {t n : Nat} {D : Int32} (ht : t < 4) (h1 : kt_lv t ≤ n) (h2 : n < 2 * kt_lv t) (hT : kt_Tr pl t a_leafSlot a_standsAt) (h : pI (nI ((kt_sg a_leafSlot (kt_lo t n) (kt_ln t n)).filter (kt_wi a_px a_py f_centreX f_centreY D)).length)) : wpX_withinLeaf pI (f_added, f_alive, f_buffered, f_gathered, f_x0, f_x1, f_y0, f_y1, f_foundMany, f_foundTotal, f_listing, f_listed, f_centreX, f_centreY, f_bestDistance, f_bestPoint, f_behindDistance, f_behindPoint, f_leftOut, a_slotOf, a_used, a_pointOf, a_px, a_py, a_heavy, a_buffer, a_filled, a_leafSlot, a_standsAt, a_minX, a_maxX, a_minY, a_maxY, a_many, a_total, a_work, a_spanFrom, a_spanTo, a_stack, a_list) (nI t) (nI n) D := by
  have hv := kt_lv16 t ht
  obtain ⟨g1, g2⟩ := kt_leaf ht h1 h2
  have e : nI (kt_ba t) + 4 * (nI n - nI (kt_lv t)) = nI (kt_lo t n) := by
    rw [pk_sub h1, show (4 : Int32) = nI 4 from rfl, pk_mul, nI_add, g2]
  rw [g1] at h
  unfold wpX_withinLeaf
  refine xl_base ht ?_
  refine xl_leaves ht ?_
  refine nm_r e ⟨5, xl_v24 (q := kt_lo t n) (by omega) ?_ 4 0 rfl 0 (by rw [Nat.zero_add]; exact h) 5 (by omega)⟩
  intro k k1 k2
  rcases hT k ⟨by omega, by omega⟩ with z | ⟨s, a, b, c, _⟩
  · exact Or.inl z
  · exact Or.inr ⟨s, a, b⟩
theorem xl_v15 {t N : Nat} {D : Int32} (ht : t < 4) (hT : kt_Tr pl t a_leafSlot a_standsAt) (hN : kt_Ns t a_px a_py a_heavy a_leafSlot a_minX a_maxX a_minY a_maxY a_many a_total) (hx : kt_b63 f_centreX) (hy : kt_b63 f_centreY) (hpost : ∀ st, post (nI N) (f_added, f_alive, f_buffered, f_gathered, f_x0, f_x1, f_y0, f_y1, f_foundMany, f_foundTotal, f_listing, f_listed, f_centreX, f_centreY, f_bestDistance, f_bestPoint, f_behindDistance, f_behindPoint, f_leftOut, a_slotOf, a_used, a_pointOf, a_px, a_py, a_heavy, a_buffer, a_filled, a_leafSlot, a_standsAt, a_minX, a_maxX, a_minY, a_maxY, a_many, a_total, a_work, a_spanFrom, a_spanTo, st, a_list)) : ∀ d r, r + d = 32 → ∀ (w c : Nat) (st : Nat → Int32), kt_sk t st w → r + kt_pz (kt_sb t) st w ≤ 31 → c + (kt_pd (fun n => (kt_sg a_leafSlot (kt_lo t n) (kt_ln t n)).filter (kt_wi a_px a_py f_centreX f_centreY D)) st w).length = N → ∀ n, d < n → wX_withinTree_15 post (nI t) D f_added f_alive f_buffered f_gathered f_x0 f_x1 f_y0 f_y1 f_foundMany f_foundTotal f_listing f_listed f_centreX f_centreY f_bestDistance f_bestPoint f_behindDistance f_behindPoint f_leftOut n (nI c) (nI w) (nI r) a_slotOf a_used a_pointOf a_px a_py a_heavy a_buffer a_filled a_leafSlot a_standsAt a_minX a_maxX a_minY a_maxY a_many a_total a_work a_spanFrom a_spanTo st a_list := by
  have hv := kt_lv16 t ht
  intro d
  induction d with
  | zero => intro r hr w c st hk hz; omega
  | succ d ih =>
    intro r hr w c st hk hz hp n hn
    obtain ⟨m, rfl⟩ : ∃ m, n = m + 1 := ⟨n - 1, by omega⟩
    have hr32 : ¬ 32 ≤ nI r := nI_ge (b := 32) (by omega) (by decide)
    rcases Nat.eq_zero_or_pos w with hw0 | hw0
    · subst hw0
      have e0 : c = N := hp
      subst e0
      exact br_f hr32 (br_t (kt_rfl _) (hpost _))
    · obtain ⟨w, rfl⟩ : ∃ w', w = w' + 1 := ⟨w - 1, by omega⟩
      obtain ⟨k, ek, hk1, hk2⟩ := hk w (by omega)
      have hwz := kt_pz_ge ht (w + 1) hk
      have hk' : kt_sk t st w := fun i hi => hk i (by omega)
      have hb := (kt_bd ht hk1 hk2).2.2
      rw [kt_pz_s ek (by omega)] at hz hwz
      rw [kt_pd_s ek (by omega), List.length_append] at hp
      have em : nI (w + 1) + (-1) = nI w := pk_m1 w
      have v0 : vp_in (nI w) 64 := vp_in_nI (by omega) (by omega)
      have v1 : vp_in (nI (w + 1)) 64 := vp_in_nI (by omega) (by omega)
      have c0 : (nI w).toNatClampNeg = w := nI_clamp (by omega)
      have c1 : (nI (w + 1)).toNatClampNeg = w + 1 := nI_clamp (by omega)
      have ea : nI t * 32 + nI k = nI (t * 32 + k) := by rw [show (32 : Int32) = nI 32 from rfl, pk_mul, nI_add]
      have ca : (nI (t * 32 + k)).toNatClampNeg = t * 32 + k := nI_clamp (by omega)
      have va : vp_in (nI (t * 32 + k)) 128 := vp_in_nI (by omega) (by omega)
      have e1 : nI w + 1 = nI (w + 1) := nI_1 w
      have e2 : nI w + 2 = nI (w + 2) := nI_add w 2
      have e3 : 2 * nI k = nI (2 * k) := pk_mul 2 k
      have e4 : nI (2 * k) + 1 = nI (2 * k + 1) := nI_1 _
      have e5 : nI r + 1 = nI (r + 1) := nI_1 _
      have hNk := hN k hk1 hk2
      have hskip : ((kt_sg a_leafSlot (kt_lo t k) (kt_ln t k)).filter (kt_wi a_px a_py f_centreX f_centreY D)).length = 0 → wX_withinTree_15 post (nI t) D f_added f_alive f_buffered f_gathered f_x0 f_x1 f_y0 f_y1 f_foundMany f_foundTotal f_listing f_listed f_centreX f_centreY f_bestDistance f_bestPoint f_behindDistance f_behindPoint f_leftOut m (nI c) (nI w) (nI (r + 1)) a_slotOf a_used a_pointOf a_px a_py a_heavy a_buffer a_filled a_leafSlot a_standsAt a_minX a_maxX a_minY a_maxY a_many a_total a_work a_spanFrom a_spanTo st a_list := by
        intro hno
        refine ih (r + 1) (by omega) w c st hk' (by omega) ?_ m (by omega)
        omega
      refine br_f hr32 (br_f (nI_nle (by omega) (by omega)) (nm_r em ⟨v0, nm_r (e' := nI k) (by rw [c0, ek]) (nm_r ea ⟨va, br_c (fun hm => nm_r e5 (hskip ?_)) (fun _ => xl_least (by omega) hNk hx hy (fun r1 k1 => br_c (fun hb => nm_r e5 (hskip ?_)) (fun _ => xl_most (by omega) hNk hx hy (fun r2 k2 => br_c (fun hb => xl_leaves ht ?_) (fun hb => ⟨va, nm_e (nm_r e5 ?_)⟩)))))⟩)⟩))
      · rw [ca, hNk.2.1] at hm
        have hl := kt_sg_len a_leafSlot (kt_lo t k) (kt_ln t k)
        have hb2 := (kt_bd ht hk1 hk2).2.1
        have hle := List.length_filter_le (kt_wi a_px a_py f_centreX f_centreY D) (kt_sg a_leafSlot (kt_lo t k) (kt_ln t k))
        rcases Nat.eq_zero_or_pos (kt_sg a_leafSlot (kt_lo t k) (kt_ln t k)).length with z | z
        · omega
        · exact absurd hm (nI_nle z (by omega))
      · rw [kt_fl_none (fun s hs => kt_wi_f (Int32.lt_of_lt_of_le hb (k1 s hs)))]
        rfl
      · by_cases hc : k < kt_lv t
        · refine br_t (nI_lt hc (by omega)) ?_
          simp only [e1, e2, e3, e4, c0, c1]
          refine ⟨v0, nm_e ⟨v1, nm_e (nm_e (nm_r e5 ?_))⟩⟩
          obtain ⟨_, _, _, g4⟩ := kt_inner ht hk1 hc
          refine ih (r + 1) (by omega) (w + 2) c (kt_p2 st w (2 * k) (2 * k + 1)) (kt_p2_k hk' ⟨by omega, by omega⟩ ⟨by omega, by omega⟩) ?_ ?_ m (by omega)
          · rw [kt_p2_z (by omega) (by omega)]
            omega
          · rw [kt_p2_d (by omega) (by omega), ← List.filter_append, ← kt_half ht hk1 hc, List.length_append]
            exact hp
        · refine br_f (nI_nlt (by omega) (by omega)) (xl_vleaf ht (by omega) hk2 hT (nm_r (nI_add _ _) (nm_r e5 ?_)))
          refine ih (r + 1) (by omega) w _ st hk' (by omega) ?_ m (by omega)
          omega
      · rw [ca, hNk.2.1, nI_add]
        refine ih (r + 1) (by omega) w _ st hk' (by omega) ?_ m (by omega)
        rw [kt_fl_all (fun s hs => kt_wi_t (Int32.not_lt.mpr (kt_tr (k2 s hs) (kt_nl hb))))] at hp
        omega
theorem xl_vtree {t : Nat} {D : Int32} (ht : t < 4) (hT : kt_Tr pl t a_leafSlot a_standsAt) (hN : kt_Ns t a_px a_py a_heavy a_leafSlot a_minX a_maxX a_minY a_maxY a_many a_total) (hx : kt_b63 f_centreX) (hy : kt_b63 f_centreY) (hpost : ∀ st, post (nI ((kt_sg a_leafSlot (kt_ba t) (8 * 2 ^ t)).filter (kt_wi a_px a_py f_centreX f_centreY D)).length) (f_added, f_alive, f_buffered, f_gathered, f_x0, f_x1, f_y0, f_y1, f_foundMany, f_foundTotal, f_listing, f_listed, f_centreX, f_centreY, f_bestDistance, f_bestPoint, f_behindDistance, f_behindPoint, f_leftOut, a_slotOf, a_used, a_pointOf, a_px, a_py, a_heavy, a_buffer, a_filled, a_leafSlot, a_standsAt, a_minX, a_maxX, a_minY, a_maxY, a_many, a_total, a_work, a_spanFrom, a_spanTo, st, a_list)) : wpX_withinTree post (f_added, f_alive, f_buffered, f_gathered, f_x0, f_x1, f_y0, f_y1, f_foundMany, f_foundTotal, f_listing, f_listed, f_centreX, f_centreY, f_bestDistance, f_bestPoint, f_behindDistance, f_behindPoint, f_leftOut, a_slotOf, a_used, a_pointOf, a_px, a_py, a_heavy, a_buffer, a_filled, a_leafSlot, a_standsAt, a_minX, a_maxX, a_minY, a_maxY, a_many, a_total, a_work, a_spanFrom, a_spanTo, a_stack, a_list) (nI t) D := by
  obtain ⟨r1, r2, r3⟩ := kt_root t ht
  have hv := kt_lv16 t ht
  have e0 : upd a_stack 0 1 0 = nI 1 := pk_us
  refine nm_e ⟨33, xl_v15 ht hT hN hx hy hpost 32 0 rfl 1 0 _ ?_ ?_ ?_ 33 (by omega)⟩
  · intro i hi
    have : i = 0 := by omega
    subst this
    exact ⟨1, e0, by omega, by omega⟩
  · rw [kt_pz_s e0 (by omega)]
    show 0 + (0 + kt_sb t 1) ≤ 31
    omega
  · rw [kt_pd_s e0 (by omega)]
    show 0 + ([] ++ (kt_sg a_leafSlot (kt_lo t 1) (kt_ln t 1)).filter _).length = _
    rw [r1, r2, List.nil_append, Nat.zero_add]
theorem xl_v59 {B : Nat} {D : Int32} (hP : kt_Pl pl B a_buffer a_filled a_leafSlot a_standsAt a_px a_py a_heavy a_minX a_maxX a_minY a_maxY a_many a_total) (hx : kt_b63 f_centreX) (hy : kt_b63 f_centreY) (hpost : ∀ st, post (nI ((kt_al a_buffer a_filled a_leafSlot B).filter (kt_wi a_px a_py f_centreX f_centreY D)).length) (f_added, f_alive, f_buffered, f_gathered, f_x0, f_x1, f_y0, f_y1, f_foundMany, f_foundTotal, f_listing, f_listed, f_centreX, f_centreY, f_bestDistance, f_bestPoint, f_behindDistance, f_behindPoint, f_leftOut, a_slotOf, a_used, a_pointOf, a_px, a_py, a_heavy, a_buffer, a_filled, a_leafSlot, a_standsAt, a_minX, a_maxX, a_minY, a_maxY, a_many, a_total, a_work, a_spanFrom, a_spanTo, st, a_list)) : ∀ d t, t + d = 4 → ∀ (st : Nat → Int32), ∀ n, d < n → wX_within_59 post D n (nI ((kt_bl a_buffer B ++ kt_ts a_filled a_leafSlot t).filter (kt_wi a_px a_py f_centreX f_centreY D)).length) (nI t) f_added f_alive f_buffered f_gathered f_x0 f_x1 f_y0 f_y1 f_foundMany f_foundTotal f_listing f_listed f_centreX f_centreY f_bestDistance f_bestPoint f_behindDistance f_behindPoint f_leftOut a_slotOf a_used a_pointOf a_px a_py a_heavy a_buffer a_filled a_leafSlot a_standsAt a_minX a_maxX a_minY a_maxY a_many a_total a_work a_spanFrom a_spanTo st a_list := by
  intro d
  induction d with
  | zero =>
    intro t htd st n hn
    obtain ⟨m, rfl⟩ : ∃ m, n = m + 1 := ⟨n - 1, by omega⟩
    have et : t = 4 := by omega
    subst et
    exact br_t (kt_rfl _) (hpost _)
  | succ d ih =>
    intro t htd st n hn
    obtain ⟨m, rfl⟩ : ∃ m, n = m + 1 := ⟨n - 1, by omega⟩
    have ht : t < 4 := by omega
    have ct : (nI t).toNatClampNeg = t := nI_clamp (by omega)
    have vt : vp_in (nI t) 4 := vp_in_nI (by omega) (by omega)
    have e5 : nI t + 1 = nI (t + 1) := nI_1 _
    have es : kt_bl a_buffer B ++ kt_ts a_filled a_leafSlot (t + 1) = (kt_bl a_buffer B ++ kt_ts a_filled a_leafSlot t) ++ kt_tl a_filled a_leafSlot t := by
      rw [List.append_assoc]; rfl
    have hi := ih (t + 1) (by omega)
    rw [es] at hi
    rw [wX_within_59]
    simp only [ct, e5]
    refine br_f (nI_ge (b := 4) (by omega) (by decide)) ⟨vt, br_c (fun hf => ?_) (fun hf => ?_)⟩
    · rw [show kt_tl a_filled a_leafSlot t = [] from if_pos hf, List.append_nil] at hi
      exact nm_e (hi st m (by omega))
    · have el : kt_tl a_filled a_leafSlot t = kt_sg a_leafSlot (kt_ba t) (8 * 2 ^ t) := if_neg hf
      rw [el, List.filter_append, List.length_append] at hi
      obtain ⟨hT, hN⟩ := hP.2.2.1 t ht hf
      refine xl_vtree ht hT hN hx hy (fun st' => ?_)
      exact nm_r (nI_add _ _) (nm_e (hi st' m (by omega)))
theorem xl_v23 {B : Nat} {D : Int32} (hP : kt_Pl pl B a_buffer a_filled a_leafSlot a_standsAt a_px a_py a_heavy a_minX a_maxX a_minY a_maxY a_many a_total) (hB : f_buffered = nI B) (hx : kt_b63 f_centreX) (hy : kt_b63 f_centreY) (hpost : ∀ st, post (nI ((kt_al a_buffer a_filled a_leafSlot B).filter (kt_wi a_px a_py f_centreX f_centreY D)).length) (f_added, f_alive, f_buffered, f_gathered, f_x0, f_x1, f_y0, f_y1, f_foundMany, f_foundTotal, f_listing, f_listed, f_centreX, f_centreY, f_bestDistance, f_bestPoint, f_behindDistance, f_behindPoint, f_leftOut, a_slotOf, a_used, a_pointOf, a_px, a_py, a_heavy, a_buffer, a_filled, a_leafSlot, a_standsAt, a_minX, a_maxX, a_minY, a_maxY, a_many, a_total, a_work, a_spanFrom, a_spanTo, st, a_list)) : ∀ d i, i + d = B → ∀ n, d < n → wX_within_23 post D f_added f_alive f_buffered f_gathered f_x0 f_x1 f_y0 f_y1 f_foundMany f_foundTotal f_listing f_listed f_centreX f_centreY f_bestDistance f_bestPoint f_behindDistance f_behindPoint f_leftOut a_slotOf a_used a_pointOf a_px a_py a_heavy a_buffer a_filled a_leafSlot a_standsAt a_minX a_maxX a_minY a_maxY a_many a_total a_work a_spanFrom a_spanTo a_stack a_list n (nI ((kt_bl a_buffer i).filter (kt_wi a_px a_py f_centreX f_centreY D)).length) (nI i) := by
  have hB8 := hP.1
  intro d
  induction d with
  | zero =>
    intro i hid n hn
    obtain ⟨m, rfl⟩ : ∃ m, n = m + 1 := ⟨n - 1, by omega⟩
    have ei : i = B := by omega
    subst ei
    have := xl_v59 hP hx hy hpost 4 0 rfl a_stack 5 (by omega)
    rw [show kt_ts a_filled a_leafSlot 0 = [] from rfl, List.append_nil] at this
    exact br_t (by rw [hB]; exact kt_rfl _) ⟨5, this⟩
  | succ d ih =>
    intro i hid n hn
    obtain ⟨m, rfl⟩ : ∃ m, n = m + 1 := ⟨n - 1, by omega⟩
    have ci : (nI i).toNatClampNeg = i := nI_clamp (by omega)
    have vi : vp_in (nI i) 8 := vp_in_nI (by omega) (by omega)
    have e5 : nI i + 1 = nI (i + 1) := nI_1 _
    obtain ⟨s, hs, es, hp, _⟩ := hP.2.1 i (by omega)
    have eb := kt_bl_s a_buffer i
    rw [es, kt_cl hs] at eb
    have hi := ih (i + 1) (by omega) m (by omega)
    rw [eb, List.filter_append, List.length_append] at hi
    rw [wX_within_23]
    simp only [ci, e5, es]
    refine br_f (by rw [hB]; exact nI_ge (by omega) (by omega)) ⟨vi, xl_dist hs (br_c (fun hb => ?_) (fun hb => ?_))⟩
    · rw [List.filter_cons_of_neg (kt_wi_f hb), List.filter_nil, List.length_nil, Nat.add_zero] at hi
      exact nm_e hi
    · rw [List.filter_cons_of_pos (kt_wi_t hb), List.filter_nil, List.length_singleton] at hi
      exact nm_r (nI_1 _) (nm_e hi)
theorem xl_within {B : Nat} {a b D : Int32} (hP : kt_Pl pl B a_buffer a_filled a_leafSlot a_standsAt a_px a_py a_heavy a_minX a_maxX a_minY a_maxY a_many a_total) (hB : f_buffered = nI B) (h1 : ¬ kt_ok a b → post (-1) (f_added, f_alive, f_buffered, f_gathered, f_x0, f_x1, f_y0, f_y1, f_foundMany, f_foundTotal, f_listing, f_listed, f_centreX, f_centreY, f_bestDistance, f_bestPoint, f_behindDistance, f_behindPoint, f_leftOut, a_slotOf, a_used, a_pointOf, a_px, a_py, a_heavy, a_buffer, a_filled, a_leafSlot, a_standsAt, a_minX, a_maxX, a_minY, a_maxY, a_many, a_total, a_work, a_spanFrom, a_spanTo, a_stack, a_list)) (h2 : kt_ok a b → ∀ st, post (nI ((kt_al a_buffer a_filled a_leafSlot B).filter (kt_wi a_px a_py a b D)).length) (f_added, f_alive, f_buffered, f_gathered, f_x0, f_x1, f_y0, f_y1, f_foundMany, f_foundTotal, f_listing, f_listed, a, b, f_bestDistance, f_bestPoint, -1, -1, -1, a_slotOf, a_used, a_pointOf, a_px, a_py, a_heavy, a_buffer, a_filled, a_leafSlot, a_standsAt, a_minX, a_maxX, a_minY, a_maxY, a_many, a_total, a_work, a_spanFrom, a_spanTo, st, a_list)) : wpX_within post (f_added, f_alive, f_buffered, f_gathered, f_x0, f_x1, f_y0, f_y1, f_foundMany, f_foundTotal, f_listing, f_listed, f_centreX, f_centreY, f_bestDistance, f_bestPoint, f_behindDistance, f_behindPoint, f_leftOut, a_slotOf, a_used, a_pointOf, a_px, a_py, a_heavy, a_buffer, a_filled, a_leafSlot, a_standsAt, a_minX, a_maxX, a_minY, a_maxY, a_many, a_total, a_work, a_spanFrom, a_spanTo, a_stack, a_list) a b D := by
  unfold wpX_within
  refine xl_bad (fun ho => br_t rfl ?_) (fun ho => br_f (by decide) (h1 ho))
  obtain ⟨hx, hy⟩ := kt_okb ho
  exact ⟨B + 1, xl_v23 hP hB hx hy (h2 ho) B 0 (by omega) (B + 1) (by omega)⟩
end KTJ
end
section
section KTK
/-! write: what was gathered becomes a tree -/
def kt_WK (S : Nat → Prop) (g : Nat) (w : Nat → Int32) : Prop := (∀ i, i < g → ∃ s, s < 64 ∧ w i = nI s ∧ S s) ∧ (∀ s, S s → ∃ i, i < g ∧ w i = nI s) ∧ (∀ i j, i < g → j < g → w i = w j → i = j)
theorem kt_WK_in {S : Nat → Prop} {g : Nat} {w : Nat → Int32} (h : kt_WK S g w) : ∀ i, i < g → vp_in (w i) 64 := by
  intro i hi
  obtain ⟨s, hs, e, _⟩ := h.1 i hi
  rw [e]
  exact vp_in_nI hs (by omega)
theorem kt_WK_iff {S S' : Nat → Prop} {g : Nat} {w : Nat → Int32} (h : kt_WK S g w) (e : ∀ s, S' s ↔ S s) : kt_WK S' g w := by
  refine ⟨fun i hi => ?_, fun s hs => h.2.1 s ((e s).mp hs), h.2.2⟩
  obtain ⟨s, a, b, c⟩ := h.1 i hi
  exact ⟨s, a, b, (e s).mpr c⟩
theorem kt_WK_add {S : Nat → Prop} {g s : Nat} {w : Nat → Int32} (h : kt_WK S g w) (hs : s < 64) (hn : ¬ S s) : kt_WK (fun z => S z ∨ z = s) (g + 1) (upd w g (nI s)) := by
  have e0 : ∀ i, i < g → upd w g (nI s) i = w i := fun i hi => pk_un (by omega)
  have e1 : upd w g (nI s) g = nI s := pk_us
  have ne : ∀ i, i < g → ¬ w i = nI s := by
    intro i hi e
    obtain ⟨z, a, b, c⟩ := h.1 i hi
    rw [e] at b
    have := kt_ij b (by omega) (by omega)
    subst this
    exact hn c
  refine ⟨fun i hi => ?_, fun z hz => ?_, fun i j hi hj e => ?_⟩
  · by_cases hg : i = g
    · subst hg; exact ⟨s, hs, e1, Or.inr rfl⟩
    · obtain ⟨z, a, b, c⟩ := h.1 i (by omega)
      exact ⟨z, a, (e0 i (by omega)).trans b, Or.inl c⟩
  · rcases hz with hz | hz
    · obtain ⟨i, a, b⟩ := h.2.1 z hz
      exact ⟨i, by omega, (e0 i a).trans b⟩
    · subst hz; exact ⟨g, by omega, e1⟩
  · by_cases hi' : i = g
    · by_cases hj' : j = g
      · omega
      · subst hi'
        rw [e1, e0 j (by omega)] at e
        exact absurd e.symm (ne j (by omega))
    · by_cases hj' : j = g
      · subst hj'
        rw [e1, e0 i (by omega)] at e
        exact absurd e (ne i (by omega))
      · rw [e0 i (by omega), e0 j (by omega)] at e
        exact h.2.2 i j (by omega) (by omega) e
theorem kt_WK_64 {S : Nat → Prop} {g : Nat} {w : Nat → Int32} (h : kt_WK S g w) : g ≤ 64 := by
  have h1 : ((List.range g).map (fun i => (w i).toNatClampNeg)).Nodup := by
    refine kt_nd_map List.nodup_range ?_
    intro i j hi hj e
    rw [List.mem_range] at hi hj
    obtain ⟨s, a, b, _⟩ := h.1 i hi
    obtain ⟨s', a', b', _⟩ := h.1 j hj
    rw [b, b', kt_cl a, kt_cl a'] at e
    subst e
    exact h.2.2 i j hi hj (b.trans b'.symm)
  have h2 := kt_lt_len (N := 64) h1 (fun s hs => by
    obtain ⟨i, hi, e⟩ := List.mem_map.mp hs
    rw [List.mem_range] at hi
    obtain ⟨s', a, b, _⟩ := h.1 i hi
    rw [b, kt_cl a] at e
    omega)
  rw [List.length_map, List.length_range] at h2
  exact h2
def kt_tp (k i : Nat) : Nat := if i = k then k + 1 else if i = k + 1 then k else i
theorem kt_tp_tp (k i : Nat) : kt_tp k (kt_tp k i) = i := by
  unfold kt_tp
  by_cases h1 : i = k
  · rw [if_pos h1, if_neg (by omega), if_pos rfl, h1]
  · by_cases h2 : i = k + 1
    · rw [if_neg h1, if_pos h2, if_pos rfl, h2]
    · rw [if_neg h1, if_neg h2, if_neg h1, if_neg h2]
theorem kt_tp_lt {k i g : Nat} (hk : k + 1 < g) (hi : i < g) : kt_tp k i < g := by
  unfold kt_tp
  by_cases h1 : i = k
  · rw [if_pos h1]; omega
  · by_cases h2 : i = k + 1
    · rw [if_neg h1, if_pos h2]; omega
    · rw [if_neg h1, if_neg h2]; omega
theorem kt_sw_tp (w : Nat → Int32) (k i : Nat) : kt_sw w k i = w (kt_tp k i) := by
  unfold kt_sw kt_tp
  by_cases h1 : i = k
  · rw [if_pos h1, h1, pk_us]
  · rw [pk_un h1, if_neg h1]
    by_cases h2 : i = k + 1
    · rw [if_pos h2, h2, pk_us]
    · rw [pk_un h2, if_neg h2]
theorem kt_WK_sw {S : Nat → Prop} {g : Nat} : ∀ w k, kt_WK S g w → k + 1 < g → kt_WK S g (kt_sw w k) := by
  intro w k h hk
  refine ⟨fun i hi => ?_, fun s hs => ?_, fun i j hi hj e => ?_⟩
  · rw [kt_sw_tp]
    exact h.1 _ (kt_tp_lt hk hi)
  · obtain ⟨i, hi, e⟩ := h.2.1 s hs
    refine ⟨kt_tp k i, kt_tp_lt hk hi, ?_⟩
    rw [kt_sw_tp, kt_tp_tp]
    exact e
  · rw [kt_sw_tp, kt_sw_tp] at e
    have := h.2.2 _ _ (kt_tp_lt hk hi) (kt_tp_lt hk hj) e
    rw [← kt_tp_tp k i, this, kt_tp_tp]
/-- places below q of tree t are written, with the first I of what was gathered -/
def kt_W2 (t : Nat) (S : Nat → Prop) (w L0 A0 L A : Nat → Int32) (q I : Nat) : Prop :=
  (∀ k, kt_ba t ≤ k → k < q → (L k < 0 ∨ ∃ i, i < I ∧ L k = w i ∧ A (w i).toNatClampNeg = nI k)) ∧ (∀ i, i < I → ∃ k, kt_ba t ≤ k ∧ k < q ∧ L k = w i) ∧ (∀ k, k < kt_ba t ∨ kt_ba t + 8 * 2 ^ t ≤ k → L k = L0 k) ∧ (∀ s, s < 64 → ¬ S s → A s = A0 s)
theorem kt_W2_0 {t : Nat} {S : Nat → Prop} {w L0 A0 : Nat → Int32} : kt_W2 t S w L0 A0 L0 A0 (kt_ba t) 0 :=
  ⟨fun k h1 h2 => by omega, fun i hi => by omega, fun k _ => rfl, fun s _ _ => rfl⟩
theorem kt_W2_n {t : Nat} {S : Nat → Prop} {w L0 A0 L A : Nat → Int32} {q I : Nat} (h : kt_W2 t S w L0 A0 L A q I) (h1 : kt_ba t ≤ q) (h2 : q < kt_ba t + 8 * 2 ^ t) : kt_W2 t S w L0 A0 (upd L q (-4)) A (q + 1) I := by
  refine ⟨fun k k1 k2 => ?_, fun i hi => ?_, fun k hk => ?_, h.2.2.2⟩
  · by_cases e : k = q
    · subst e; rw [pk_us]; exact Or.inl (by decide)
    · rw [pk_un e]; exact h.1 k k1 (by omega)
  · obtain ⟨k, a, b, c⟩ := h.2.1 i hi
    exact ⟨k, a, by omega, by rw [pk_un (by omega)]; exact c⟩
  · rw [pk_un (by omega)]; exact h.2.2.1 k hk
theorem kt_W2_s {t g : Nat} {S : Nat → Prop} {w L0 A0 L A : Nat → Int32} {q I : Nat} (h : kt_W2 t S w L0 A0 L A q I) (hW : kt_WK S g w) (hI : I < g) (h1 : kt_ba t ≤ q) (h2 : q < kt_ba t + 8 * 2 ^ t) : kt_W2 t S w L0 A0 (upd L q (w I)) (upd A (w I).toNatClampNeg (nI q)) (q + 1) (I + 1) := by
  obtain ⟨s, hs, es, hS⟩ := hW.1 I hI
  have ec : (w I).toNatClampNeg = s := by rw [es, kt_cl hs]
  rw [ec]
  have ne : ∀ i, i < I → ¬ (w i).toNatClampNeg = s := by
    intro i hi e
    obtain ⟨z, a, b, c⟩ := hW.1 i (by omega)
    rw [b, kt_cl a] at e
    subst e
    have := hW.2.2 i I (by omega) hI (b.trans es.symm)
    omega
  refine ⟨fun k k1 k2 => ?_, fun i hi => ?_, fun k hk => ?_, fun z hz hn => ?_⟩
  · by_cases e : k = q
    · subst e
      rw [pk_us]
      exact Or.inr ⟨I, by omega, rfl, by rw [ec, pk_us]⟩
    · rw [pk_un e]
      rcases h.1 k k1 (by omega) with z | ⟨i, a, b, c⟩
      · exact Or.inl z
      · exact Or.inr ⟨i, by omega, b, by rw [pk_un (ne i a)]; exact c⟩
  · by_cases e : i = I
    · subst e
      exact ⟨q, h1, by omega, pk_us⟩
    · obtain ⟨k, a, b, c⟩ := h.2.1 i (by omega)
      exact ⟨k, a, by omega, by rw [pk_un (by omega)]; exact c⟩
  · rw [pk_un (by omega)]; exact h.2.2.1 k hk
  · have : z ≠ s := fun e => by subst e; exact hn hS
    rw [pk_un this]
    exact h.2.2.2 z hz hn
variable {f_added f_alive f_buffered f_gathered f_x0 f_x1 f_y0 f_y1 f_foundMany f_foundTotal f_listing f_listed f_centreX f_centreY f_bestDistance f_bestPoint f_behindDistance f_behindPoint f_leftOut : Int32} {a_slotOf a_used a_pointOf a_px a_py a_heavy a_buffer a_filled a_leafSlot a_standsAt a_minX a_maxX a_minY a_maxY a_many a_total a_work a_spanFrom a_spanTo a_stack a_list : Nat → Int32}
variable {post : SX → Prop}
theorem xl_wl61 {J12 : Int32 → (Nat → Int32) → (Nat → Int32) → (Nat → Int32) → (Nat → Int32) → (Nat → Int32) → (Nat → Int32) → (Nat → Int32) → (Nat → Int32) → (Nat → Int32) → (Nat → Int32) → (Nat → Int32) → (Nat → Int32) → (Nat → Int32) → (Nat → Int32) → (Nat → Int32) → (Nat → Int32) → (Nat → Int32) → (Nat → Int32) → (Nat → Int32) → (Nat → Int32) → (Nat → Int32) → Prop} {t n k i : Nat} {x1 z0 : Int32} (hn : n < 64) (hk : kt_lo t n + k < 256) (hi : i < 128) {g : Nat} (hf : a_spanTo n = nI g) (hg : g < 2 ^ 30) (hw : i < g → vp_in (a_work i) 64) (h0 : g ≤ i → J12 (nI (k + 1)) a_slotOf a_used a_pointOf a_px a_py a_heavy a_buffer a_filled (upd a_leafSlot (kt_lo t n + k) z0) a_standsAt a_minX a_maxX a_minY a_maxY a_many a_total a_work a_spanFrom a_spanTo a_stack a_list) (h1 : i < g → J12 (nI (k + 1)) a_slotOf a_used a_pointOf a_px a_py a_heavy a_buffer a_filled (upd a_leafSlot (kt_lo t n + k) z0) (upd a_standsAt (a_work i).toNatClampNeg (nI (kt_lo t n + k))) a_minX a_maxX a_minY a_maxY a_many a_total a_work a_spanFrom a_spanTo a_stack a_list) : wX_writeLeaf_61 post J12 x1 (nI n) (nI (kt_lo t n)) (nI k) (nI i) z0 (nI (kt_lo t n + k)) f_added f_alive f_buffered f_gathered f_x0 f_x1 f_y0 f_y1 f_foundMany f_foundTotal f_listing f_listed f_centreX f_centreY f_bestDistance f_bestPoint f_behindDistance f_behindPoint f_leftOut a_slotOf a_used a_pointOf a_px a_py a_heavy a_buffer a_filled a_leafSlot a_standsAt a_minX a_maxX a_minY a_maxY a_many a_total a_work a_spanFrom a_spanTo a_stack a_list := by
  have cq : (nI (kt_lo t n + k)).toNatClampNeg = kt_lo t n + k := nI_clamp (by omega)
  have cn : (nI n).toNatClampNeg = n := nI_clamp (by omega)
  have ci : (nI i).toNatClampNeg = i := nI_clamp (by omega)
  have vq : vp_in (nI (kt_lo t n + k)) 256 := vp_in_nI (by omega) (by omega)
  have vn : vp_in (nI n) 64 := vp_in_nI (by omega) (by omega)
  have vi : vp_in (nI i) 128 := vp_in_nI (by omega) (by omega)
  have e1 : nI k + 1 = nI (k + 1) := nI_1 _
  have e2 : nI (kt_lo t n) + nI k = nI (kt_lo t n + k) := nI_add _ _
  unfold wX_writeLeaf_61
  simp only [cq, cn, ci, e1, e2, hf]
  refine ⟨vq, nm_e ⟨vn, ?_⟩⟩
  by_cases hc : g ≤ i
  · exact br_t (nI_le hc (by omega)) (nm_e (h0 hc))
  · exact br_f (nI_ge (by omega) (by omega)) ⟨vi, hw (by omega), nm_e (nm_e (h1 (by omega)))⟩
theorem xl_wl12 {t n g : Nat} {S : Nat → Prop} {L0 A0 L1 : Nat → Int32} (ht : t < 4) (hn1 : kt_lv t ≤ n) (hn2 : n < 2 * kt_lv t) (hW : kt_WK S g a_work) (hg : g ≤ 8 * 2 ^ t) (hsf : a_spanFrom n = nI (kt_sf g n)) (hst : a_spanTo n = nI (kt_st g n)) (hB : ∀ s, s < 64 → S s → (0 ≤ a_px s ∧ a_px s ≤ 63 ∧ 0 ≤ a_py s ∧ a_py s ≤ 63)) (h : ∀ L A v0 v1 v2 v3 v4 v5, kt_W2 t S a_work L0 A0 L A (kt_lo t n + 4) (kt_st g n) → (∀ k, k < kt_lo t n ∨ kt_lo t n + 4 ≤ k → L k = L1 k) → kt_Nd a_px a_py a_heavy (kt_sg L (kt_lo t n) 4) v0 v1 v2 v3 v4 v5 → post (f_added, f_alive, f_buffered, f_gathered, f_x0, f_x1, f_y0, f_y1, f_foundMany, f_foundTotal, f_listing, f_listed, f_centreX, f_centreY, f_bestDistance, f_bestPoint, f_behindDistance, f_behindPoint, f_leftOut, a_slotOf, a_used, a_pointOf, a_px, a_py, a_heavy, a_buffer, a_filled, L, A, upd a_minX (t * 32 + n) v0, upd a_maxX (t * 32 + n) v1, upd a_minY (t * 32 + n) v2, upd a_maxY (t * 32 + n) v3, upd a_many (t * 32 + n) v4, upd a_total (t * 32 + n) v5, a_work, a_spanFrom, a_spanTo, a_stack, a_list)) : ∀ d k, k + d = 4 → ∀ L A : Nat → Int32, kt_W2 t S a_work L0 A0 L A (kt_lo t n + k) (min (kt_sf g n + k) (kt_st g n)) → (∀ j, j < kt_lo t n ∨ kt_lo t n + 4 ≤ j → L j = L1 j) → ∀ m, d < m → wX_writeLeaf_12 post (nI t) (nI n) (nI (kt_lo t n)) f_added f_alive f_buffered f_gathered f_x0 f_x1 f_y0 f_y1 f_foundMany f_foundTotal f_listing f_listed f_centreX f_centreY f_bestDistance f_bestPoint f_behindDistance f_behindPoint f_leftOut m (nI k) a_slotOf a_used a_pointOf a_px a_py a_heavy a_buffer a_filled L A a_minX a_maxX a_minY a_maxY a_many a_total a_work a_spanFrom a_spanTo a_stack a_list := by
  have hv := kt_lv16 t ht
  obtain ⟨g1, g2⟩ := kt_leaf ht hn1 hn2
  obtain ⟨q1, _, _, _⟩ := kt_spL ht hg hn1 hn2
  have q2 := kt_spb g n
  intro d
  induction d with
  | zero =>
    intro k hk L A h2 hL m hm
    obtain ⟨m, rfl⟩ : ∃ m', m = m' + 1 := ⟨m - 1, by omega⟩
    have ek : k = 4 := by omega
    subst ek
    have e1 : min (kt_sf g n + 4) (kt_st g n) = kt_st g n := Nat.min_eq_right (by omega)
    rw [e1] at h2
    have ea : nI t * 32 + nI n = nI (t * 32 + n) := by rw [show (32 : Int32) = nI 32 from rfl, pk_mul, nI_add]
    refine br_t (kt_rfl _) ?_
    rw [ea]
    refine xl_bind (by omega) (by omega) ?_ (fun v0 v1 v2 v3 v4 v5 hN => h L A v0 v1 v2 v3 v4 v5 h2 hL hN)
    intro j j1 j2
    rcases h2.1 j (by omega) j2 with z | ⟨i, a, b, _⟩
    · exact Or.inl z
    · obtain ⟨s, hs, es, hS⟩ := hW.1 i (by omega)
      exact Or.inr ⟨s, hs, b.trans es, hB s hs hS⟩
  | succ d ih =>
    intro k hk L A h2 hL m hm
    obtain ⟨m, rfl⟩ : ∃ m', m = m' + 1 := ⟨m - 1, by omega⟩
    have cn : (nI n).toNatClampNeg = n := nI_clamp (by omega)
    have vn : vp_in (nI n) 64 := vp_in_nI (by omega) (by omega)
    have ei : nI (kt_sf g n) + nI k = nI (kt_sf g n + k) := nI_add _ _
    have eq : nI (kt_lo t n) + nI k = nI (kt_lo t n + k) := nI_add _ _
    have ci : (nI (kt_sf g n + k)).toNatClampNeg = kt_sf g n + k := nI_clamp (by omega)
    have vi : vp_in (nI (kt_sf g n + k)) 128 := vp_in_nI (by omega) (by omega)
    rw [wX_writeLeaf_12]
    simp only [cn, hsf, hst, ei, eq]
    refine br_f (nI_ge (b := 4) (by omega) (by decide)) ⟨vn, nm_e ⟨vn, ?_⟩⟩
    by_cases hc : kt_st g n ≤ kt_sf g n + k
    · refine br_t (nI_le hc (by omega)) (xl_wl61 (by omega) (by omega) (by omega) hst (by omega) (fun z => by omega) (fun _ => ?_) (fun z => by omega))
      refine ih (k + 1) (by omega) _ A ?_ ?_ m (by omega)
      · have e1 : min (kt_sf g n + (k + 1)) (kt_st g n) = min (kt_sf g n + k) (kt_st g n) := by omega
        rw [e1]
        exact kt_W2_n h2 (by omega) (by omega)
      · intro j hj
        rw [pk_un (by omega)]
        exact hL j hj
    · have hin := kt_WK_in hW (kt_sf g n + k) (by omega)
      simp only [ci]
      refine br_f (nI_ge (by omega) (by omega)) ⟨vi, xl_wl61 (by omega) (by omega) (by omega) hst (by omega) (fun _ => hin) (fun z => by omega) (fun _ => ?_)⟩
      refine ih (k + 1) (by omega) _ _ ?_ ?_ m (by omega)
      · have e1 : min (kt_sf g n + k) (kt_st g n) = kt_sf g n + k := by omega
        have e2 : min (kt_sf g n + (k + 1)) (kt_st g n) = kt_sf g n + k + 1 := by omega
        rw [e1] at h2
        rw [e2]
        exact kt_W2_s h2 hW (by omega) (by omega) (by omega)
      · intro j hj
        rw [pk_un (by omega)]
        exact hL j hj
theorem xl_wleaf {t n g : Nat} {S : Nat → Prop} {L0 A0 : Nat → Int32} (ht : t < 4) (hn1 : kt_lv t ≤ n) (hn2 : n < 2 * kt_lv t) (hW : kt_WK S g a_work) (hg : g ≤ 8 * 2 ^ t) (hsf : a_spanFrom n = nI (kt_sf g n)) (hst : a_spanTo n = nI (kt_st g n)) (hB : ∀ s, s < 64 → S s → (0 ≤ a_px s ∧ a_px s ≤ 63 ∧ 0 ≤ a_py s ∧ a_py s ≤ 63)) (h2 : kt_W2 t S a_work L0 A0 a_leafSlot a_standsAt (kt_lo t n) (kt_sf g n)) (h : ∀ L A v0 v1 v2 v3 v4 v5, kt_W2 t S a_work L0 A0 L A (kt_lo t n + 4) (kt_st g n) → (∀ k, k < kt_lo t n ∨ kt_lo t n + 4 ≤ k → L k = a_leafSlot k) → kt_Nd a_px a_py a_heavy (kt_sg L (kt_lo t n) 4) v0 v1 v2 v3 v4 v5 → post (f_added, f_alive, f_buffered, f_gathered, f_x0, f_x1, f_y0, f_y1, f_foundMany, f_foundTotal, f_listing, f_listed, f_centreX, f_centreY, f_bestDistance, f_bestPoint, f_behindDistance, f_behindPoint, f_leftOut, a_slotOf, a_used, a_pointOf, a_px, a_py, a_heavy, a_buffer, a_filled, L, A, upd a_minX (t * 32 + n) v0, upd a_maxX (t * 32 + n) v1, upd a_minY (t * 32 + n) v2, upd a_maxY (t * 32 + n) v3, upd a_many (t * 32 + n) v4, upd a_total (t * 32 + n) v5, a_work, a_spanFrom, a_spanTo, a_stack, a_list)) : wpX_writeLeaf post (f_added, f_alive, f_buffered, f_gathered, f_x0, f_x1, f_y0, f_y1, f_foundMany, f_foundTotal, f_listing, f_listed, f_centreX, f_centreY, f_bestDistance, f_bestPoint, f_behindDistance, f_behindPoint, f_leftOut, a_slotOf, a_used, a_pointOf, a_px, a_py, a_heavy, a_buffer, a_filled, a_leafSlot, a_standsAt, a_minX, a_maxX, a_minY, a_maxY, a_many, a_total, a_work, a_spanFrom, a_spanTo, a_stack, a_list) (nI t) (nI n) (4 * nI n - 4 * nI (kt_lv t)) := by
  have hv := kt_lv16 t ht
  obtain ⟨g1, g2⟩ := kt_leaf ht hn1 hn2
  have q2 := kt_spb g n
  have e : nI (kt_ba t) + (4 * nI n - 4 * nI (kt_lv t)) = nI (kt_lo t n) := by
    rw [show (4 : Int32) = nI 4 from rfl, pk_mul, pk_mul, pk_sub (by omega), nI_add, g2]
    exact congrArg nI (by omega)
  unfold wpX_writeLeaf
  refine xl_base ht ?_
  refine nm_r e ⟨5, xl_wl12 ht hn1 hn2 hW hg hsf hst hB h 4 0 rfl _ _ ?_ (fun j _ => rfl) 5 (by omega)⟩
  have e1 : min (kt_sf g n + 0) (kt_st g n) = kt_sf g n := by omega
  rw [e1]
  exact h2
end KTK
end
section
section KTL
/-! write: leaves, then nodes -/
def kt_F6 (t : Nat) (x0 x1 x2 x3 x4 x5 m0 m1 m2 m3 m4 m5 : Nat → Int32) : Prop := ∀ j, j < t * 32 ∨ t * 32 + 32 ≤ j → (x0 j = m0 j ∧ x1 j = m1 j ∧ x2 j = m2 j ∧ x3 j = m3 j ∧ x4 j = m4 j ∧ x5 j = m5 j)
theorem kt_F6_r {t : Nat} {x0 x1 x2 x3 x4 x5 : Nat → Int32} : kt_F6 t x0 x1 x2 x3 x4 x5 x0 x1 x2 x3 x4 x5 := fun _ _ => ⟨rfl, rfl, rfl, rfl, rfl, rfl⟩
theorem kt_F6_u {t n : Nat} {x0 x1 x2 x3 x4 x5 m0 m1 m2 m3 m4 m5 : Nat → Int32} {v0 v1 v2 v3 v4 v5 : Int32} (hn : n < 32) (h : kt_F6 t x0 x1 x2 x3 x4 x5 m0 m1 m2 m3 m4 m5) : kt_F6 t (upd x0 (t * 32 + n) v0) (upd x1 (t * 32 + n) v1) (upd x2 (t * 32 + n) v2) (upd x3 (t * 32 + n) v3) (upd x4 (t * 32 + n) v4) (upd x5 (t * 32 + n) v5) m0 m1 m2 m3 m4 m5 := by
  intro j hj
  have e : j ≠ t * 32 + n := by omega
  rw [pk_un e, pk_un e, pk_un e, pk_un e, pk_un e, pk_un e]
  exact h j hj
theorem kt_No_u {t n m : Nat} {px py hv leaf x0 x1 x2 x3 x4 x5 : Nat → Int32} {v0 v1 v2 v3 v4 v5 : Int32} (hm : m ≠ n) (h : kt_No t px py hv leaf x0 x1 x2 x3 x4 x5 m) : kt_No t px py hv leaf (upd x0 (t * 32 + n) v0) (upd x1 (t * 32 + n) v1) (upd x2 (t * 32 + n) v2) (upd x3 (t * 32 + n) v3) (upd x4 (t * 32 + n) v4) (upd x5 (t * 32 + n) v5) m := by
  have e : t * 32 + m ≠ t * 32 + n := by omega
  unfold kt_No
  rw [pk_un e, pk_un e, pk_un e, pk_un e, pk_un e, pk_un e]
  exact h
theorem kt_No_s {t n : Nat} {px py hv leaf x0 x1 x2 x3 x4 x5 : Nat → Int32} {v0 v1 v2 v3 v4 v5 : Int32} (h : kt_Nd px py hv (kt_sg leaf (kt_lo t n) (kt_ln t n)) v0 v1 v2 v3 v4 v5) : kt_No t px py hv leaf (upd x0 (t * 32 + n) v0) (upd x1 (t * 32 + n) v1) (upd x2 (t * 32 + n) v2) (upd x3 (t * 32 + n) v3) (upd x4 (t * 32 + n) v4) (upd x5 (t * 32 + n) v5) n := by
  unfold kt_No
  rw [pk_us, pk_us, pk_us, pk_us, pk_us, pk_us]
  exact h
theorem kt_No_c {t n : Nat} {px py hv leaf leaf' x0 x1 x2 x3 x4 x5 : Nat → Int32} (h : kt_No t px py hv leaf x0 x1 x2 x3 x4 x5 n) (e : ∀ k, kt_lo t n ≤ k → k < kt_lo t n + kt_ln t n → leaf' k = leaf k) : kt_No t px py hv leaf' x0 x1 x2 x3 x4 x5 n := by
  unfold kt_No
  rw [kt_sg_congr e]
  exact h
theorem kt_vb0 : vp_nar .boolean 0 = 0 := by decide
theorem kt_vb1 : vp_nar .boolean 1 = 1 := by decide
variable {f_added f_alive f_buffered f_gathered f_x0 f_x1 f_y0 f_y1 f_foundMany f_foundTotal f_listing f_listed f_centreX f_centreY f_bestDistance f_bestPoint f_behindDistance f_behindPoint f_leftOut : Int32} {a_slotOf a_used a_pointOf a_px a_py a_heavy a_buffer a_filled a_leafSlot a_standsAt a_minX a_maxX a_minY a_maxY a_many a_total a_work a_spanFrom a_spanTo a_stack a_list : Nat → Int32}
variable {post : SX → Prop}
theorem xl_w157 {t g : Nat} {m0 m1 m2 m3 m4 m5 : Nat → Int32} (ht : t < 4) (hga : f_gathered = nI g) (hg0 : 0 < g) (hg : g < 2 ^ 31) (h : ∀ a_minX a_maxX a_minY a_maxY a_many a_total, kt_Ns t a_px a_py a_heavy a_leafSlot a_minX a_maxX a_minY a_maxY a_many a_total → kt_F6 t a_minX a_maxX a_minY a_maxY a_many a_total m0 m1 m2 m3 m4 m5 → post (f_added, f_alive, f_buffered, f_gathered, f_x0, f_x1, f_y0, f_y1, f_foundMany, f_foundTotal, f_listing, f_listed, f_centreX, f_centreY, f_bestDistance, f_bestPoint, f_behindDistance, f_behindPoint, f_leftOut, a_slotOf, a_used, a_pointOf, a_px, a_py, a_heavy, a_buffer, upd a_filled t 1, a_leafSlot, a_standsAt, a_minX, a_maxX, a_minY, a_maxY, a_many, a_total, a_work, a_spanFrom, a_spanTo, a_stack, a_list)) : ∀ n, n < kt_lv t → ∀ a_minX a_maxX a_minY a_maxY a_many a_total, (∀ m, n < m → m < 2 * kt_lv t → kt_No t a_px a_py a_heavy a_leafSlot a_minX a_maxX a_minY a_maxY a_many a_total m) → kt_F6 t a_minX a_maxX a_minY a_maxY a_many a_total m0 m1 m2 m3 m4 m5 → ∀ f, n < f → wX_write_157 post (nI t) f (nI n) f_added f_alive f_buffered f_gathered f_x0 f_x1 f_y0 f_y1 f_foundMany f_foundTotal f_listing f_listed f_centreX f_centreY f_bestDistance f_bestPoint f_behindDistance f_behindPoint f_leftOut a_slotOf a_used a_pointOf a_px a_py a_heavy a_buffer a_filled a_leafSlot a_standsAt a_minX a_maxX a_minY a_maxY a_many a_total a_work a_spanFrom a_spanTo a_stack a_list := by
  have hv := kt_lv16 t ht
  have ct : (nI t).toNatClampNeg = t := nI_clamp (by omega)
  have vt : vp_in (nI t) 4 := vp_in_nI (by omega) (by omega)
  intro n
  induction n with
  | zero =>
    intro hn a_minX a_maxX a_minY a_maxY a_many a_total hN hF f hf
    obtain ⟨m, rfl⟩ : ∃ m, f = m + 1 := ⟨f - 1, by omega⟩
    refine br_t (kt_rfl _) (br_f (by rw [hga]; exact nI_nle hg0 hg) ⟨vt, nm_r (e' := upd a_filled t 1) (by rw [ct, kt_vb1]) (h a_minX a_maxX a_minY a_maxY a_many a_total (fun m h1 h2 => hN m (by omega) h2) hF)⟩)
  | succ n ih =>
    intro hn a_minX a_maxX a_minY a_maxY a_many a_total hN hF f hf
    obtain ⟨m, rfl⟩ : ∃ m, f = m + 1 := ⟨f - 1, by omega⟩
    have ea : nI t * 32 + nI (n + 1) = nI (t * 32 + (n + 1)) := by rw [show (32 : Int32) = nI 32 from rfl, pk_mul, nI_add]
    have eb : nI t * 32 + 2 * nI (n + 1) = nI (t * 32 + 2 * (n + 1)) := by rw [show (32 : Int32) = nI 32 from rfl, show (2 : Int32) = nI 2 from rfl, pk_mul, pk_mul, nI_add]
    have em : nI (n + 1) + (-1) = nI n := pk_m1 n
    refine br_f (nI_nle (by omega) (by omega)) ?_
    rw [ea, eb]
    refine xl_join (by omega) (by omega) (hN (2 * (n + 1)) (by omega) (by omega)) (hN (2 * (n + 1) + 1) (by omega) (by omega)) (fun v0 v1 v2 v3 v4 v5 hd => nm_r em ?_)
    rw [← kt_half ht (by omega) hn] at hd
    refine ih (by omega) _ _ _ _ _ _ (fun j h1 h2 => ?_) (kt_F6_u (by omega) hF) m (by omega)
    by_cases e : j = n + 1
    · subst e
      exact kt_No_s hd
    · exact kt_No_u e (hN j (by omega) h2)
theorem xl_w127 {t g : Nat} {S : Nat → Prop} {L0 A0 m0 m1 m2 m3 m4 m5 : Nat → Int32} (ht : t < 4) (hW : kt_WK S g a_work) (hg : g ≤ 8 * 2 ^ t) (hga : f_gathered = nI g) (hg0 : 0 < g) (hsp : ∀ m, 1 ≤ m → m < 2 * kt_lv t → a_spanFrom m = nI (kt_sf g m) ∧ a_spanTo m = nI (kt_st g m)) (hB : ∀ s, s < 64 → S s → (0 ≤ a_px s ∧ a_px s ≤ 63 ∧ 0 ≤ a_py s ∧ a_py s ≤ 63)) (h : ∀ a_leafSlot a_standsAt a_minX a_maxX a_minY a_maxY a_many a_total, kt_W2 t S a_work L0 A0 a_leafSlot a_standsAt (kt_ba t + 8 * 2 ^ t) g → kt_Ns t a_px a_py a_heavy a_leafSlot a_minX a_maxX a_minY a_maxY a_many a_total → kt_F6 t a_minX a_maxX a_minY a_maxY a_many a_total m0 m1 m2 m3 m4 m5 → post (f_added, f_alive, f_buffered, f_gathered, f_x0, f_x1, f_y0, f_y1, f_foundMany, f_foundTotal, f_listing, f_listed, f_centreX, f_centreY, f_bestDistance, f_bestPoint, f_behindDistance, f_behindPoint, f_leftOut, a_slotOf, a_used, a_pointOf, a_px, a_py, a_heavy, a_buffer, upd a_filled t 1, a_leafSlot, a_standsAt, a_minX, a_maxX, a_minY, a_maxY, a_many, a_total, a_work, a_spanFrom, a_spanTo, a_stack, a_list)) : ∀ d n, n + d = 2 * kt_lv t → kt_lv t ≤ n → ∀ I, (n < 2 * kt_lv t → I = kt_sf g n) → (n = 2 * kt_lv t → I = g) → ∀ a_leafSlot a_standsAt a_minX a_maxX a_minY a_maxY a_many a_total, kt_W2 t S a_work L0 A0 a_leafSlot a_standsAt (kt_ba t + 4 * (n - kt_lv t)) I → (∀ m, kt_lv t ≤ m → m < n → kt_No t a_px a_py a_heavy a_leafSlot a_minX a_maxX a_minY a_maxY a_many a_total m) → kt_F6 t a_minX a_maxX a_minY a_maxY a_many a_total m0 m1 m2 m3 m4 m5 → ∀ f, d < f → wX_write_127 post (nI t) (nI (kt_lv t)) f (nI n) f_added f_alive f_buffered f_gathered f_x0 f_x1 f_y0 f_y1 f_foundMany f_foundTotal f_listing f_listed f_centreX f_centreY f_bestDistance f_bestPoint f_behindDistance f_behindPoint f_leftOut a_slotOf a_used a_pointOf a_px a_py a_heavy a_buffer a_filled a_leafSlot a_standsAt a_minX a_maxX a_minY a_maxY a_many a_total a_work a_spanFrom a_spanTo a_stack a_list := by
  have hv := kt_lv16 t ht
  have e2 : 2 * nI (kt_lv t) = nI (2 * kt_lv t) := pk_mul 2 _
  intro d
  induction d with
  | zero =>
    intro n hn h1 I hI1 hI2 a_leafSlot a_standsAt a_minX a_maxX a_minY a_maxY a_many a_total h2 hN hF f hf
    obtain ⟨m, rfl⟩ : ∃ m, f = m + 1 := ⟨f - 1, by omega⟩
    have en : n = 2 * kt_lv t := by omega
    have eI := hI2 en
    subst eI
    have eq : kt_ba t + 4 * (n - kt_lv t) = kt_ba t + 8 * 2 ^ t := by omega
    rw [eq] at h2
    have e1 : nI (kt_lv t) - 1 = nI (kt_lv t - 1) := pk_sub (b := 1) (by omega)
    refine br_t (by rw [e2, en]; exact kt_rfl _) (nm_r e1 ⟨kt_lv t, xl_w157 ht hga hg0 (by omega) (fun _ _ _ _ _ _ k1 k2 => h _ _ _ _ _ _ _ _ h2 k1 k2) (kt_lv t - 1) (by omega) _ _ _ _ _ _ (fun j j1 j2 => hN j (by omega) (by omega)) hF (kt_lv t) (by omega)⟩)
  | succ d ih =>
    intro n hn h1 I hI1 hI2 a_leafSlot a_standsAt a_minX a_maxX a_minY a_maxY a_many a_total h2 hN hF f hf
    obtain ⟨m, rfl⟩ : ∃ m, f = m + 1 := ⟨f - 1, by omega⟩
    have eI := hI1 (by omega)
    subst eI
    obtain ⟨g1, g2⟩ := kt_leaf ht h1 (by omega)
    obtain ⟨s1, s2⟩ := hsp n (by omega) (by omega)
    obtain ⟨_, l2, l3, _⟩ := kt_spL ht hg h1 (by omega)
    rw [← g2] at h2
    refine br_f (by rw [e2]; exact nI_ge (by omega) (by omega)) (xl_wleaf ht h1 (by omega) hW hg s1 s2 hB h2 (fun L A v0 v1 v2 v3 v4 v5 k1 k2 k3 => nm_r (nI_1 n) ?_))
    have eq : kt_ba t + 4 * (n + 1 - kt_lv t) = kt_lo t n + 4 := by omega
    refine ih (n + 1) (by omega) (by omega) (kt_st g n) (fun z => l2 z) (fun z => l3 z) L A _ _ _ _ _ _ (by rw [eq]; exact k1) (fun j j1 j2 => ?_) (kt_F6_u (by omega) hF) m (by omega)
    by_cases e : j = n
    · subst e
      refine kt_No_s ?_
      rw [g1]
      exact k3
    · obtain ⟨g1', g2'⟩ := kt_leaf ht j1 (by omega)
      refine kt_No_u e (kt_No_c (hN j j1 (by omega)) (fun k k1 k3 => k2 k ?_))
      omega
theorem kt_half2 {a b : Nat} (h : a + b < 2 ^ 31) : (nI a + nI b) >>> ((1 : Int32) &&& 31) = nI ((a + b) / 2) := by
  rw [nI_add, pk_shrN h _ 1 (by decide)]
theorem xl_w25 {t g : Nat} {S : Nat → Prop} (ht : t < 4) (hg : g ≤ 8 * 2 ^ t) (h : ∀ a_work a_spanFrom a_spanTo, kt_WK S g a_work → (∀ m, 1 ≤ m → m < 2 * kt_lv t → a_spanFrom m = nI (kt_sf g m) ∧ a_spanTo m = nI (kt_st g m)) → ∃ f, wX_write_127 post (nI t) (nI (kt_lv t)) f (nI (kt_lv t)) f_added f_alive f_buffered f_gathered f_x0 f_x1 f_y0 f_y1 f_foundMany f_foundTotal f_listing f_listed f_centreX f_centreY f_bestDistance f_bestPoint f_behindDistance f_behindPoint f_leftOut a_slotOf a_used a_pointOf a_px a_py a_heavy a_buffer a_filled a_leafSlot a_standsAt a_minX a_maxX a_minY a_maxY a_many a_total a_work a_spanFrom a_spanTo a_stack a_list) : ∀ d n, n + d = kt_lv t → 1 ≤ n → ∀ a_work a_spanFrom a_spanTo, kt_WK S g a_work → (∀ m, 1 ≤ m → m < 2 * n → a_spanFrom m = nI (kt_sf g m) ∧ a_spanTo m = nI (kt_st g m)) → ∀ f, d < f → wX_write_25 post (nI t) (nI (kt_lv t)) f (nI n) f_added f_alive f_buffered f_gathered f_x0 f_x1 f_y0 f_y1 f_foundMany f_foundTotal f_listing f_listed f_centreX f_centreY f_bestDistance f_bestPoint f_behindDistance f_behindPoint f_leftOut a_slotOf a_used a_pointOf a_px a_py a_heavy a_buffer a_filled a_leafSlot a_standsAt a_minX a_maxX a_minY a_maxY a_many a_total a_work a_spanFrom a_spanTo a_stack a_list := by
  have hv := kt_lv16 t ht
  intro d
  induction d with
  | zero =>
    intro n hn h1 a_work a_spanFrom a_spanTo hW hs f hf
    obtain ⟨m, rfl⟩ : ∃ m, f = m + 1 := ⟨f - 1, by omega⟩
    have en : n = kt_lv t := by omega
    subst en
    exact br_t (kt_rfl _) (h _ _ _ hW hs)
  | succ d ih =>
    intro n hn h1 a_work a_spanFrom a_spanTo hW hs f hf
    obtain ⟨m, rfl⟩ : ∃ m, f = m + 1 := ⟨f - 1, by omega⟩
    obtain ⟨s1, s2⟩ := hs n h1 (by omega)
    have hb := kt_spb g n
    obtain ⟨p1, p2, p3, p4⟩ := kt_spE g h1 (n := n) (by omega)
    have cn : (nI n).toNatClampNeg = n := nI_clamp (by omega)
    have vn : vp_in (nI n) 64 := vp_in_nI (by omega) (by omega)
    have e2 : 2 * nI n = nI (2 * n) := pk_mul 2 n
    have e3 : nI (2 * n) + 1 = nI (2 * n + 1) := nI_1 _
    have c2 : (nI (2 * n)).toNatClampNeg = 2 * n := nI_clamp (by omega)
    have c3 : (nI (2 * n + 1)).toNatClampNeg = 2 * n + 1 := nI_clamp (by omega)
    have v2 : vp_in (nI (2 * n)) 64 := vp_in_nI (by omega) (by omega)
    have v3 : vp_in (nI (2 * n + 1)) 64 := vp_in_nI (by omega) (by omega)
    refine br_f (nI_ge (by omega) (by omega)) ⟨vn, nm_r (e' := nI (kt_sf g n)) (by rw [cn, s1]) ⟨vn, nm_r (e' := nI (kt_st g n)) (by rw [cn, s2]) ?_⟩⟩
    refine xl_wide (g := g) (by omega) (by omega) (by omega) (kt_WK_in hW) (fun r => ?_)
    refine xl_sort (Q := kt_WK S g) (g := g) (by omega) (fun w hw => kt_WK_in hw) (fun w k hw hk => kt_WK_sw w k hw hk) (by omega) (by omega) hW (fun w hw => ?_)
    refine nm_r (kt_half2 (by omega)) ?_
    simp only [e2, e3, c2, c3]
    refine ⟨v2, nm_e ⟨v2, nm_e ⟨v3, nm_e ⟨v3, nm_e (nm_r (nI_1 n) ?_)⟩⟩⟩⟩
    refine ih (n + 1) (by omega) (by omega) w _ _ hw (fun j j1 j2 => ?_) m (by omega)
    by_cases ej : j = 2 * n + 1
    · subst ej
      rw [pk_us, pk_us, p3, p4]
      exact ⟨rfl, rfl⟩
    · rw [pk_un ej, pk_un ej]
      by_cases ej2 : j = 2 * n
      · subst ej2
        rw [pk_us, pk_us, p1, p2]
        exact ⟨rfl, rfl⟩
      · rw [pk_un ej2, pk_un ej2]
        exact hs j j1 (by omega)
theorem xl_write {t g : Nat} {S : Nat → Prop} (ht : t < 4) (hW : kt_WK S g a_work) (hg : g ≤ 8 * 2 ^ t) (hga : f_gathered = nI g) (hg0 : 0 < g) (hB : ∀ s, s < 64 → S s → (0 ≤ a_px s ∧ a_px s ≤ 63 ∧ 0 ≤ a_py s ∧ a_py s ≤ 63)) (h : ∀ w sF sT L A x0 x1 x2 x3 x4 x5, kt_WK S g w → kt_W2 t S w a_leafSlot a_standsAt L A (kt_ba t + 8 * 2 ^ t) g → kt_Ns t a_px a_py a_heavy L x0 x1 x2 x3 x4 x5 → kt_F6 t x0 x1 x2 x3 x4 x5 a_minX a_maxX a_minY a_maxY a_many a_total → post (f_added, f_alive, f_buffered, f_gathered, f_x0, f_x1, f_y0, f_y1, f_foundMany, f_foundTotal, f_listing, f_listed, f_centreX, f_centreY, f_bestDistance, f_bestPoint, f_behindDistance, f_behindPoint, f_leftOut, a_slotOf, a_used, a_pointOf, a_px, a_py, a_heavy, a_buffer, upd a_filled t 1, L, A, x0, x1, x2, x3, x4, x5, w, sF, sT, a_stack, a_list)) : wpX_write post (f_added, f_alive, f_buffered, f_gathered, f_x0, f_x1, f_y0, f_y1, f_foundMany, f_foundTotal, f_listing, f_listed, f_centreX, f_centreY, f_bestDistance, f_bestPoint, f_behindDistance, f_behindPoint, f_leftOut, a_slotOf, a_used, a_pointOf, a_px, a_py, a_heavy, a_buffer, a_filled, a_leafSlot, a_standsAt, a_minX, a_maxX, a_minY, a_maxY, a_many, a_total, a_work, a_spanFrom, a_spanTo, a_stack, a_list) (nI t) := by
  have hv := kt_lv16 t ht
  unfold wpX_write
  refine xl_leaves ht ?_
  refine nm_e (nm_e ⟨kt_lv t, xl_w25 (S := S) (g := g) ht hg (fun w sF sT k1 k2 => ?_) (kt_lv t - 1) 1 (by omega) (by omega) _ _ _ hW (fun j j1 j2 => ?_) (kt_lv t) (by omega)⟩)
  · refine ⟨kt_lv t + 1, xl_w127 (L0 := a_leafSlot) (A0 := a_standsAt) (m0 := a_minX) (m1 := a_maxX) (m2 := a_minY) (m3 := a_maxY) (m4 := a_many) (m5 := a_total) ht k1 hg hga hg0 k2 hB (fun _ _ _ _ _ _ _ _ q1 q2 q3 => h _ _ _ _ _ _ _ _ _ _ _ k1 q1 q2 q3) (kt_lv t) (kt_lv t) (by omega) (by omega) 0 (fun z => ?_) (fun z => by omega) _ _ _ _ _ _ _ _ ?_ (fun j j1 j2 => by omega) kt_F6_r (kt_lv t + 1) (by omega)⟩
    · exact ((kt_spL ht hg (Nat.le_refl _) z).2.2.2 rfl).symm
    · rw [Nat.sub_self, Nat.mul_zero, Nat.add_zero]
      exact kt_W2_0
  · have : j = 1 := by omega
    subst this
    rw [pk_us, pk_us, hga, (kt_sp1 g).1, (kt_sp1 g).2]
    exact ⟨rfl, rfl⟩
end KTL
end
section
section KTM
/-! gather, flush, enter -/
variable {f_added f_alive f_buffered f_gathered f_x0 f_x1 f_y0 f_y1 f_foundMany f_foundTotal f_listing f_listed f_centreX f_centreY f_bestDistance f_bestPoint f_behindDistance f_behindPoint f_leftOut : Int32} {a_slotOf a_used a_pointOf a_px a_py a_heavy a_buffer a_filled a_leafSlot a_standsAt a_minX a_maxX a_minY a_maxY a_many a_total a_work a_spanFrom a_spanTo a_stack a_list : Nat → Int32}
variable {post : SX → Prop} {pl : Nat → Prop}
theorem xl_g8 {t g0 : Nat} {S : Nat → Prop} (ht : t < 4) (hf : ¬ a_filled t = 0) (hT : kt_Tr pl t a_leafSlot a_standsAt) (hS : ∀ s, S s → (a_standsAt s).toInt < (kt_ba t : Int)) (h : ∀ w g, kt_WK (fun s => S s ∨ (s < 64 ∧ ∃ k, kt_in t k ∧ a_leafSlot k = nI s)) g w → g0 ≤ g → g ≤ g0 + 8 * 2 ^ t → post (f_added, f_alive, f_buffered, nI g, f_x0, f_x1, f_y0, f_y1, f_foundMany, f_foundTotal, f_listing, f_listed, f_centreX, f_centreY, f_bestDistance, f_bestPoint, f_behindDistance, f_behindPoint, f_leftOut, a_slotOf, a_used, a_pointOf, a_px, a_py, a_heavy, a_buffer, upd a_filled t 0, a_leafSlot, a_standsAt, a_minX, a_maxX, a_minY, a_maxY, a_many, a_total, w, a_spanFrom, a_spanTo, a_stack, a_list)) : ∀ d k, k + d = kt_ba t + 8 * 2 ^ t → kt_ba t ≤ k → ∀ g w, kt_WK (fun s => S s ∨ (s < 64 ∧ ∃ j, kt_ba t ≤ j ∧ j < k ∧ a_leafSlot j = nI s)) g w → g0 ≤ g → g + kt_ba t ≤ g0 + k → ∀ n, d < n → wX_gatherTree_8 post (nI t) (nI (kt_ba t)) f_added f_alive f_buffered f_x0 f_x1 f_y0 f_y1 f_foundMany f_foundTotal f_listing f_listed f_centreX f_centreY f_bestDistance f_bestPoint f_behindDistance f_behindPoint f_leftOut n (nI k) (nI g) a_slotOf a_used a_pointOf a_px a_py a_heavy a_buffer a_filled a_leafSlot a_standsAt a_minX a_maxX a_minY a_maxY a_many a_total w a_spanFrom a_spanTo a_stack a_list := by
  have hv := kt_lv16 t ht
  have ct : (nI t).toNatClampNeg = t := nI_clamp (by omega)
  have vt : vp_in (nI t) 4 := vp_in_nI (by omega) (by omega)
  have e8 : nI (kt_ba t) + ((8 : Int32) <<< (nI t &&& 31)) = nI (kt_ba t + 8 * 2 ^ t) := by rw [kt_shl8 t ht, nI_add]
  intro d
  induction d with
  | zero =>
    intro k hk hb g w hW hg hg2 n hn
    obtain ⟨m, rfl⟩ : ∃ m, n = m + 1 := ⟨n - 1, by omega⟩
    have ek : k = kt_ba t + 8 * 2 ^ t := by omega
    subst ek
    refine br_t (by rw [e8]; exact kt_rfl _) ⟨vt, nm_r (e' := upd a_filled t 0) (by rw [ct, kt_vb0]) (h w g (kt_WK_iff hW (fun s => ?_)) hg (by omega))⟩
    constructor
    · rintro (z | ⟨h0, k, ⟨h1, h2⟩, h3⟩)
      · exact Or.inl z
      · exact Or.inr ⟨h0, k, h1, h2, h3⟩
    · rintro (z | ⟨h0, k, h1, h2, h3⟩)
      · exact Or.inl z
      · exact Or.inr ⟨h0, k, ⟨h1, h2⟩, h3⟩
  | succ d ih =>
    intro k hk hb g w hW hg hg2 n hn
    obtain ⟨m, rfl⟩ : ∃ m, n = m + 1 := ⟨n - 1, by omega⟩
    have h64 := kt_WK_64 hW
    have ck : (nI k).toNatClampNeg = k := nI_clamp (by omega)
    have vk : vp_in (nI k) 256 := vp_in_nI (by omega) (by omega)
    have cg : (nI g).toNatClampNeg = g := nI_clamp (by omega)
    have vg : vp_in (nI g) 128 := vp_in_nI (by omega) (by omega)
    have e1 : nI k + 1 = nI (k + 1) := nI_1 _
    have e2 : nI g + 1 = nI (g + 1) := nI_1 _
    have hin : kt_in t k := ⟨hb, by omega⟩
    rw [wX_gatherTree_8]
    simp only [e8, ct, ck, cg, e1, e2]
    refine br_f (nI_ge (by omega) (by omega)) ⟨vt, br_f hf ⟨vk, ?_⟩⟩
    rcases hT k hin with hz | ⟨s, hs, es, hp, hst⟩
    · refine br_t hz (nm_e (ih (k + 1) (by omega) (by omega) g w (kt_WK_iff hW (fun s => ?_)) hg (by omega) m (by omega)))
      constructor
      · rintro (z | ⟨h0, j, h1, h2, h3⟩)
        · exact Or.inl z
        · refine Or.inr ⟨h0, j, h1, ?_, h3⟩
          by_cases ej : j = k
          · subst ej
            rw [h3] at hz
            exact absurd hz (nI_pos (by omega))
          · omega
      · rintro (z | ⟨h0, j, h1, h2, h3⟩)
        · exact Or.inl z
        · exact Or.inr ⟨h0, j, h1, by omega, h3⟩
    · have hns : ¬ (S s ∨ (s < 64 ∧ ∃ j, kt_ba t ≤ j ∧ j < k ∧ a_leafSlot j = nI s)) := by
        rintro (z | ⟨_, j, h1, h2, h3⟩)
        · have := hS s z
          rw [hst, nI_toInt (by omega)] at this
          omega
        · rcases hT j ⟨h1, by omega⟩ with y | ⟨s', a, b, c, d'⟩
          · rw [h3] at y; exact nI_pos (by omega) y
          · rw [h3] at b
            have e := kt_ij b (by omega) (by omega)
            subst e
            have := kt_ij (d'.symm.trans hst) (by omega) (by omega)
            omega
      rw [es]
      refine br_f (nI_pos (by omega)) ⟨vk, vg, nm_e (nm_e (nm_e (ih (k + 1) (by omega) (by omega) (g + 1) _ (kt_WK_iff (kt_WK_add hW hs hns) (fun z => ?_)) (by omega) (by omega) m (by omega))))⟩
      constructor
      · rintro (y | ⟨h0, j, h1, h2, h3⟩)
        · exact Or.inl (Or.inl y)
        · by_cases ej : j = k
          · subst ej
            rw [es] at h3
            exact Or.inr (kt_ij h3 (by omega) (by omega)).symm
          · exact Or.inl (Or.inr ⟨h0, j, h1, by omega, h3⟩)
      · rintro ((y | ⟨h0, j, h1, h2, h3⟩) | y)
        · exact Or.inl y
        · exact Or.inr ⟨h0, j, h1, by omega, h3⟩
        · subst y
          exact Or.inr ⟨hs, k, hb, by omega, es⟩
theorem xl_gather {t g : Nat} {S : Nat → Prop} (ht : t < 4) (hf : ¬ a_filled t = 0) (hT : kt_Tr pl t a_leafSlot a_standsAt) (hS : ∀ s, S s → (a_standsAt s).toInt < (kt_ba t : Int)) (hga : f_gathered = nI g) (hW : kt_WK S g a_work) (h : ∀ w g', kt_WK (fun s => S s ∨ (s < 64 ∧ ∃ k, kt_in t k ∧ a_leafSlot k = nI s)) g' w → g ≤ g' → g' ≤ g + 8 * 2 ^ t → post (f_added, f_alive, f_buffered, nI g', f_x0, f_x1, f_y0, f_y1, f_foundMany, f_foundTotal, f_listing, f_listed, f_centreX, f_centreY, f_bestDistance, f_bestPoint, f_behindDistance, f_behindPoint, f_leftOut, a_slotOf, a_used, a_pointOf, a_px, a_py, a_heavy, a_buffer, upd a_filled t 0, a_leafSlot, a_standsAt, a_minX, a_maxX, a_minY, a_maxY, a_many, a_total, w, a_spanFrom, a_spanTo, a_stack, a_list)) : wpX_gatherTree post (f_added, f_alive, f_buffered, f_gathered, f_x0, f_x1, f_y0, f_y1, f_foundMany, f_foundTotal, f_listing, f_listed, f_centreX, f_centreY, f_bestDistance, f_bestPoint, f_behindDistance, f_behindPoint, f_leftOut, a_slotOf, a_used, a_pointOf, a_px, a_py, a_heavy, a_buffer, a_filled, a_leafSlot, a_standsAt, a_minX, a_maxX, a_minY, a_maxY, a_many, a_total, a_work, a_spanFrom, a_spanTo, a_stack, a_list) (nI t) := by
  subst hga
  unfold wpX_gatherTree
  refine xl_base ht ?_
  refine ⟨8 * 2 ^ t + 1, xl_g8 ht hf hT hS h (8 * 2 ^ t) (kt_ba t) rfl (Nat.le_refl _) g a_work (kt_WK_iff hW (fun s => ?_)) (Nat.le_refl _) (Nat.le_refl _) _ (Nat.lt_succ_self _)⟩
  constructor
  · rintro (z | ⟨_, j, h1, h2, _⟩)
    · exact z
    · omega
  · exact Or.inl
/-- the tree that was written, with those above it, holds all that stood somewhere -/
theorem kt_Pl_flush {τ g : Nat} {S : Nat → Prop} {buf fil leaf sta px py hv m0 m1 m2 m3 m4 m5 w L A x0 x1 x2 x3 x4 x5 : Nat → Int32} (hτ : τ < 4) (hTN : ∀ t, t < 4 → ¬ fil t = 0 → (kt_Tr pl t leaf sta ∧ kt_Ns t px py hv leaf m0 m1 m2 m3 m4 m5)) (hBd : kt_Bd pl px py) (hS1 : ∀ s, S s → s < 64 ∧ pl s) (hS2 : ∀ s, S s → ∀ t k, τ < t → t < 4 → kt_in t k → ¬ sta s = nI k) (hS3 : ∀ s, s < 64 → pl s → S s ∨ ∃ t k, τ < t ∧ t < 4 ∧ ¬ fil t = 0 ∧ kt_in t k ∧ leaf k = nI s) (hlow : ∀ t, t < τ → fil t = 0) (hW : kt_WK S g w) (h2 : kt_W2 τ S w leaf sta L A (kt_ba τ + 8 * 2 ^ τ) g) (hN : kt_Ns τ px py hv L x0 x1 x2 x3 x4 x5) (hF : kt_F6 τ x0 x1 x2 x3 x4 x5 m0 m1 m2 m3 m4 m5) : kt_Pl pl 0 buf (upd fil τ 1) L A px py hv x0 x1 x2 x3 x4 x5 := by
  have hlv := kt_lv16
  refine ⟨by omega, fun i hi => by omega, fun t ht hf => ?_, fun s hs hp => Or.inr ?_, hBd⟩
  · by_cases e : t = τ
    · subst e
      refine ⟨fun k hk => ?_, hN⟩
      rcases h2.1 k hk.1 hk.2 with z | ⟨i, a, b, c⟩
      · exact Or.inl z
      · obtain ⟨s, s1, s2, s3⟩ := hW.1 i a
        rw [s2, kt_cl s1] at c
        exact Or.inr ⟨s, s1, b.trans s2, (hS1 s s3).2, c⟩
    · rw [pk_un e] at hf
      have hgt : τ < t := by
        rcases Nat.lt_or_ge t τ with z | z
        · exact absurd (hlow t z) hf
        · omega
      obtain ⟨hT, hNt⟩ := hTN t ht hf
      have hL : ∀ k, kt_in t k → L k = leaf k := by
        intro k hk
        refine h2.2.2.1 k ?_
        rcases Nat.lt_or_ge k (kt_ba τ) with z | z
        · exact Or.inl z
        · rcases Nat.lt_or_ge k (kt_ba τ + 8 * 2 ^ τ) with y | y
          · exact absurd (kt_in_eq hτ ht ⟨z, y⟩ hk) (by omega)
          · exact Or.inr y
      refine ⟨fun k hk => ?_, fun n n1 n2 => ?_⟩
      · rw [hL k hk]
        rcases hT k hk with z | ⟨s, s1, s2, s3, s4⟩
        · exact Or.inl z
        · refine Or.inr ⟨s, s1, s2, s3, ?_⟩
          rw [h2.2.2.2 s s1 (fun z => hS2 s z t k hgt ht hk s4)]
          exact s4
      · have hb := kt_bd ht n1 n2
        have := hNt n n1 n2
        have hv := hlv t ht
        obtain ⟨f0, f1, f2, f3, f4, f5⟩ := hF (t * 32 + n) (by omega)
        unfold kt_No at this ⊢
        rw [f0, f1, f2, f3, f4, f5, kt_sg_congr (g := leaf) (fun k k1 k2 => hL k ⟨by omega, by omega⟩)]
        exact this
  · rcases hS3 s hs hp with z | ⟨t, k, h1, h3, h4, h5, h6⟩
    · obtain ⟨i, i1, i2⟩ := hW.2.1 s z
      obtain ⟨k, k1, k2, k3⟩ := h2.2.1 i i1
      refine ⟨τ, k, hτ, ?_, ⟨k1, k2⟩, k3.trans i2⟩
      rw [pk_us]
      decide
    · refine ⟨t, k, h3, ?_, h5, ?_⟩
      · rw [pk_un (by omega)]
        exact h4
      · rw [h2.2.2.1 k ?_]
        · exact h6
        · rcases Nat.lt_or_ge k (kt_ba τ) with z | z
          · exact Or.inl z
          · rcases Nat.lt_or_ge k (kt_ba τ + 8 * 2 ^ τ) with y | y
            · exact absurd (kt_in_eq hτ h3 ⟨z, y⟩ h5) (by omega)
            · exact Or.inr y
theorem xl_f97 {τ g : Nat} {S : Nat → Prop} (hτ : τ < 4) (hTN : ∀ t, t < 4 → ¬ a_filled t = 0 → (kt_Tr pl t a_leafSlot a_standsAt ∧ kt_Ns t a_px a_py a_heavy a_leafSlot a_minX a_maxX a_minY a_maxY a_many a_total)) (hBd : kt_Bd pl a_px a_py) (hS1 : ∀ s, S s → s < 64 ∧ pl s) (hS2 : ∀ s, S s → ∀ t k, τ < t → t < 4 → kt_in t k → ¬ a_standsAt s = nI k) (hS3 : ∀ s, s < 64 → pl s → S s ∨ ∃ t k, τ < t ∧ t < 4 ∧ ¬ a_filled t = 0 ∧ kt_in t k ∧ a_leafSlot k = nI s) (hlow : ∀ t, t < τ → a_filled t = 0) (hW : kt_WK S g a_work) (hg : g ≤ 8 * 2 ^ τ) (hg0 : 0 < g) (hga : f_gathered = nI g) (h : ∀ w sF sT fil L A x0 x1 x2 x3 x4 x5, kt_Pl pl 0 a_buffer fil L A a_px a_py a_heavy x0 x1 x2 x3 x4 x5 → post (f_added, f_alive, f_buffered, f_gathered, f_x0, f_x1, f_y0, f_y1, f_foundMany, f_foundTotal, f_listing, f_listed, f_centreX, f_centreY, f_bestDistance, f_bestPoint, f_behindDistance, f_behindPoint, f_leftOut, a_slotOf, a_used, a_pointOf, a_px, a_py, a_heavy, a_buffer, fil, L, A, x0, x1, x2, x3, x4, x5, w, sF, sT, a_stack, a_list)) : wX_flush_97 post (nI τ) f_added f_alive f_buffered f_gathered f_x0 f_x1 f_y0 f_y1 f_foundMany f_foundTotal f_listing f_listed f_centreX f_centreY f_bestDistance f_bestPoint f_behindDistance f_behindPoint f_leftOut a_slotOf a_used a_pointOf a_px a_py a_heavy a_buffer a_filled a_leafSlot a_standsAt a_minX a_maxX a_minY a_maxY a_many a_total a_work a_spanFrom a_spanTo a_stack a_list :=
  xl_write hτ hW hg hga hg0 (fun s s1 s2 => hBd s s1 (hS1 s s2).2) (fun w sF sT L A x0 x1 x2 x3 x4 x5 k1 k2 k3 k4 => h w sF sT _ L A x0 x1 x2 x3 x4 x5 (kt_Pl_flush hτ hTN hBd hS1 hS2 hS3 hlow k1 k2 k3 k4))
/-- half-way through flush: trees below τ are gathered -/
def kt_Gt (pl : Nat → Prop) (τ g : Nat) (S : Nat → Prop) (fil leaf sta px py hv m0 m1 m2 m3 m4 m5 w : Nat → Int32) : Prop :=
  kt_WK S g w ∧ (∀ s, S s → s < 64 ∧ pl s ∧ (sta s).toInt < (kt_ba τ : Int)) ∧ (∀ s, s < 64 → pl s → S s ∨ ∃ t k, τ ≤ t ∧ t < 4 ∧ ¬ fil t = 0 ∧ kt_in t k ∧ leaf k = nI s) ∧ (∀ t, t < τ → fil t = 0) ∧ (g ≤ 8 * 2 ^ τ ∧ 0 < g) ∧ (∀ t, t < 4 → ¬ fil t = 0 → (kt_Tr pl t leaf sta ∧ kt_Ns t px py hv leaf m0 m1 m2 m3 m4 m5)) ∧ kt_Bd pl px py
theorem kt_ba_s {τ : Nat} : kt_ba (τ + 1) = kt_ba τ + 8 * 2 ^ τ := by
  have := Nat.two_pow_pos τ
  unfold kt_ba
  rw [Nat.pow_succ]
  omega
/-- a filled tree gathered -/
theorem kt_Gt_s {τ g g' : Nat} {S : Nat → Prop} {fil leaf sta px py hv m0 m1 m2 m3 m4 m5 w w' : Nat → Int32} (hτ : τ < 4) (hG : kt_Gt pl τ g S fil leaf sta px py hv m0 m1 m2 m3 m4 m5 w) (hf : ¬ fil τ = 0) (hW : kt_WK (fun s => S s ∨ (s < 64 ∧ ∃ k, kt_in τ k ∧ leaf k = nI s)) g' w') (h1 : g ≤ g') (h2 : g' ≤ g + 8 * 2 ^ τ) : kt_Gt pl (τ + 1) g' (fun s => S s ∨ (s < 64 ∧ ∃ k, kt_in τ k ∧ leaf k = nI s)) (upd fil τ 0) leaf sta px py hv m0 m1 m2 m3 m4 m5 w' := by
  obtain ⟨a1, a2, a3, a4, a5, a6, a7⟩ := hG
  have eb := kt_ba_s (τ := τ)
  have hv := kt_lv16 τ hτ
  refine ⟨hW, ?_, ?_, ?_, ⟨?_, by omega⟩, ?_, a7⟩
  · rintro s (z | ⟨h0, k, k1, k2⟩)
    · obtain ⟨b1, b2, b3⟩ := a2 s z
      exact ⟨b1, b2, by omega⟩
    · rcases (a6 τ hτ hf).1 k k1 with y | ⟨s', s1, s2, s3, s4⟩
      · rw [k2] at y; exact absurd y (nI_pos (by omega))
      · rw [k2] at s2
        have e := kt_ij s2 (by omega) (by omega)
        subst e
        refine ⟨h0, s3, ?_⟩
        have := kt_in_120 hτ k1
        rw [s4, nI_toInt (by omega), eb]
        have := k1.2
        omega
  · intro s hs hp
    rcases a3 s hs hp with z | ⟨t, k, h3, h4, h5, h6, h7⟩
    · exact Or.inl (Or.inl z)
    · by_cases e : t = τ
      · subst e
        exact Or.inl (Or.inr ⟨hs, k, h6, h7⟩)
      · exact Or.inr ⟨t, k, by omega, h4, by rw [pk_un e]; exact h5, h6, h7⟩
  · intro t ht
    by_cases e : t = τ
    · subst e; exact pk_us
    · rw [pk_un e]; exact a4 t (by omega)
  · rw [Nat.pow_succ]; omega
  · intro t ht hf'
    by_cases e : t = τ
    · subst e; rw [pk_us] at hf'; exact absurd rfl hf'
    · rw [pk_un e] at hf'; exact a6 t ht hf'
theorem xl_f83 {τ g : Nat} {S : Nat → Prop} (hτ : τ < 4) (h3 : a_filled τ = 0 ∨ τ = 3) (hga : f_gathered = nI g) (hG : kt_Gt pl τ g S a_filled a_leafSlot a_standsAt a_px a_py a_heavy a_minX a_maxX a_minY a_maxY a_many a_total a_work) (h : ∀ gth w sF sT fil L A x0 x1 x2 x3 x4 x5, kt_Pl pl 0 a_buffer fil L A a_px a_py a_heavy x0 x1 x2 x3 x4 x5 → post (f_added, f_alive, f_buffered, gth, f_x0, f_x1, f_y0, f_y1, f_foundMany, f_foundTotal, f_listing, f_listed, f_centreX, f_centreY, f_bestDistance, f_bestPoint, f_behindDistance, f_behindPoint, f_leftOut, a_slotOf, a_used, a_pointOf, a_px, a_py, a_heavy, a_buffer, fil, L, A, x0, x1, x2, x3, x4, x5, w, sF, sT, a_stack, a_list)) : wX_flush_83 post (nI τ) f_added f_alive f_buffered f_gathered f_x0 f_x1 f_y0 f_y1 f_foundMany f_foundTotal f_listing f_listed f_centreX f_centreY f_bestDistance f_bestPoint f_behindDistance f_behindPoint f_leftOut a_slotOf a_used a_pointOf a_px a_py a_heavy a_buffer a_filled a_leafSlot a_standsAt a_minX a_maxX a_minY a_maxY a_many a_total a_work a_spanFrom a_spanTo a_stack a_list := by
  have ct : (nI τ).toNatClampNeg = τ := nI_clamp (by omega)
  have vt : vp_in (nI τ) 4 := vp_in_nI (by omega) (by omega)
  have hG' := hG
  obtain ⟨a1, a2, a3, a4, a5, a6, a7⟩ := hG'
  unfold wX_flush_83
  simp only [ct]
  refine ⟨vt, br_c (fun hf => ?_) (fun hf => ?_)⟩
  · refine xl_f97 hτ a6 a7 (fun s hs => ⟨(a2 s hs).1, (a2 s hs).2.1⟩) (fun s hs t k h1 h2 hk e => ?_) (fun s hs hp => ?_) a4 a1 a5.1 a5.2 hga (fun w sF sT fil L A x0 x1 x2 x3 x4 x5 k => h _ w sF sT fil L A x0 x1 x2 x3 x4 x5 k)
    · have := (a2 s hs).2.2
      have q := kt_in_120 h2 hk
      rw [e, nI_toInt (by omega)] at this
      have := (kt_in_le h2 hτ hk).mpr (by omega)
      omega
    · rcases a3 s hs hp with z | ⟨t, k, q1, q2, q3, q4, q5⟩
      · exact Or.inl z
      · refine Or.inr ⟨t, k, ?_, q2, q3, q4, q5⟩
        by_cases e : t = τ
        · subst e; exact absurd hf q3
        · omega
  · have e3 : τ = 3 := h3.resolve_left hf
    refine xl_gather hτ hf (a6 τ hτ hf).1 (fun s hs => (a2 s hs).2.2) hga a1 (fun w g' hW h1 h2 => ?_)
    obtain ⟨b1, b2, b3, b4, b5, b6, b7⟩ := kt_Gt_s hτ hG hf hW h1 h2
    have h64 := kt_WK_64 hW
    subst e3
    refine xl_f97 hτ b6 b7 (fun s hs => ⟨(b2 s hs).1, (b2 s hs).2.1⟩) (fun s hs t k h1 h2 => by omega) (fun s hs hp => ?_) (fun t ht => b4 t (by omega)) hW h64 b5.2 rfl (fun w sF sT fil L A x0 x1 x2 x3 x4 x5 k => h _ w sF sT fil L A x0 x1 x2 x3 x4 x5 k)
    rcases b3 s hs hp with z | ⟨t, k, q1, q2, _⟩
    · exact Or.inl z
    · omega
theorem xl_f55 (h : ∀ gth w sF sT fil L A x0 x1 x2 x3 x4 x5, kt_Pl pl 0 a_buffer fil L A a_px a_py a_heavy x0 x1 x2 x3 x4 x5 → post (f_added, f_alive, f_buffered, gth, f_x0, f_x1, f_y0, f_y1, f_foundMany, f_foundTotal, f_listing, f_listed, f_centreX, f_centreY, f_bestDistance, f_bestPoint, f_behindDistance, f_behindPoint, f_leftOut, a_slotOf, a_used, a_pointOf, a_px, a_py, a_heavy, a_buffer, fil, L, A, x0, x1, x2, x3, x4, x5, w, sF, sT, a_stack, a_list)) : ∀ d τ, τ + d = 3 → ∀ g S (a_filled a_work : Nat → Int32), kt_Gt pl τ g S a_filled a_leafSlot a_standsAt a_px a_py a_heavy a_minX a_maxX a_minY a_maxY a_many a_total a_work → ∀ n, d < n → wX_flush_55 post n (nI τ) (nI τ) f_added f_alive f_buffered (nI g) f_x0 f_x1 f_y0 f_y1 f_foundMany f_foundTotal f_listing f_listed f_centreX f_centreY f_bestDistance f_bestPoint f_behindDistance f_behindPoint f_leftOut a_slotOf a_used a_pointOf a_px a_py a_heavy a_buffer a_filled a_leafSlot a_standsAt a_minX a_maxX a_minY a_maxY a_many a_total a_work a_spanFrom a_spanTo a_stack a_list := by
  intro d
  induction d with
  | zero =>
    intro τ hτ g S a_filled a_work hG n hn
    obtain ⟨m, rfl⟩ : ∃ m, n = m + 1 := ⟨n - 1, by omega⟩
    have e : τ = 3 := by omega
    subst e
    exact br_t (kt_rfl _) (xl_f83 (by omega) (Or.inr rfl) rfl hG h)
  | succ d ih =>
    intro τ hτ g S a_filled a_work hG n hn
    obtain ⟨m, rfl⟩ : ∃ m, n = m + 1 := ⟨n - 1, by omega⟩
    have ct : (nI τ).toNatClampNeg = τ := nI_clamp (by omega)
    have vt : vp_in (nI τ) 4 := vp_in_nI (by omega) (by omega)
    have e1 : nI τ + 1 = nI (τ + 1) := nI_1 _
    have hG' := hG
    obtain ⟨a1, a2, a3, a4, a5, a6, a7⟩ := hG'
    rw [wX_flush_55]
    simp only [ct, e1]
    refine br_f (nI_ge (b := 3) (by omega) (by decide)) ⟨vt, br_c (fun hf => ?_) (fun hf => ?_)⟩
    · exact xl_f83 (by omega) (Or.inl hf) rfl hG h
    · refine xl_gather (by omega) hf (a6 τ (by omega) hf).1 (fun s hs => (a2 s hs).2.2) rfl a1 (fun w g' hW h1 h2 => nm_e (nm_e ?_))
      exact ih (τ + 1) (by omega) g' _ _ w (kt_Gt_s (by omega) hG hf hW h1 h2) m (by omega)
theorem xl_f7 {B : Nat} (hP : kt_Pl pl B a_buffer a_filled a_leafSlot a_standsAt a_px a_py a_heavy a_minX a_maxX a_minY a_maxY a_many a_total) (hB : f_buffered = nI B) (hB0 : 0 < B) (h : ∀ gth w sF sT fil L A x0 x1 x2 x3 x4 x5, kt_Pl pl 0 a_buffer fil L A a_px a_py a_heavy x0 x1 x2 x3 x4 x5 → post (f_added, f_alive, 0, gth, f_x0, f_x1, f_y0, f_y1, f_foundMany, f_foundTotal, f_listing, f_listed, f_centreX, f_centreY, f_bestDistance, f_bestPoint, f_behindDistance, f_behindPoint, f_leftOut, a_slotOf, a_used, a_pointOf, a_px, a_py, a_heavy, a_buffer, fil, L, A, x0, x1, x2, x3, x4, x5, w, sF, sT, a_stack, a_list)) : ∀ d i, i + d = B → ∀ w, kt_WK (fun s => s < 64 ∧ ∃ j, j < i ∧ a_buffer j = nI s) i w → ∀ n, d < n → wX_flush_7 post f_added f_alive f_buffered f_x0 f_x1 f_y0 f_y1 f_foundMany f_foundTotal f_listing f_listed f_centreX f_centreY f_bestDistance f_bestPoint f_behindDistance f_behindPoint f_leftOut n (nI i) (nI i) a_slotOf a_used a_pointOf a_px a_py a_heavy a_buffer a_filled a_leafSlot a_standsAt a_minX a_maxX a_minY a_maxY a_many a_total w a_spanFrom a_spanTo a_stack a_list := by
  have hP' := hP
  obtain ⟨p1, p2, p3, p4, p5⟩ := hP'
  intro d
  induction d with
  | zero =>
    intro i hi w hW n hn
    obtain ⟨m, rfl⟩ : ∃ m, n = m + 1 := ⟨n - 1, by omega⟩
    have ei : i = B := by omega
    subst ei
    refine br_t (by rw [hB]; exact kt_rfl _) ⟨4, xl_f55 h 3 0 rfl i _ a_filled w ⟨hW, ?_, ?_, fun t ht => by omega, ⟨p1, hB0⟩, p3, p5⟩ 4 (by omega)⟩
    · rintro s ⟨h0, j, j1, j2⟩
      obtain ⟨s', s1, s2, s3, s4⟩ := p2 j j1
      rw [j2] at s2
      have e := kt_ij s2 (by omega) (by omega)
      subst e
      refine ⟨h0, s3, ?_⟩
      rw [s4, kt_neg (by omega)]
      omega
    · intro s hs hp
      rcases p4 s hs hp with ⟨j, j1, j2⟩ | ⟨t, k, q1, q2, q3, q4⟩
      · exact Or.inl ⟨hs, j, j1, j2⟩
      · exact Or.inr ⟨t, k, by omega, q1, q2, q3, q4⟩
  | succ d ih =>
    intro i hi w hW n hn
    obtain ⟨m, rfl⟩ : ∃ m, n = m + 1 := ⟨n - 1, by omega⟩
    have ci : (nI i).toNatClampNeg = i := nI_clamp (by omega)
    have vi : vp_in (nI i) 8 := vp_in_nI (by omega) (by omega)
    have vg : vp_in (nI i) 128 := vp_in_nI (by omega) (by omega)
    have e1 : nI i + 1 = nI (i + 1) := nI_1 _
    obtain ⟨s, s1, s2, s3, s4⟩ := p2 i (by omega)
    rw [wX_flush_7]
    simp only [ci, e1, s2]
    refine br_f (by rw [hB]; exact nI_ge (by omega) (by omega)) ⟨vi, vg, nm_e (nm_e (nm_e (ih (i + 1) (by omega) _ (kt_WK_iff (kt_WK_add hW s1 ?_) (fun z => ?_)) m (by omega))))⟩
    · rintro ⟨_, j, j1, j2⟩
      obtain ⟨s', q1, q2, q3, q4⟩ := p2 j (by omega)
      rw [j2] at q2
      have e := kt_ij q2 (by omega) (by omega)
      subst e
      have := kt_neginj (by omega) (by omega) (s4.symm.trans q4)
      omega
    · constructor
      · rintro ⟨h0, j, j1, j2⟩
        by_cases ej : j = i
        · subst ej
          rw [s2] at j2
          exact Or.inr (kt_ij j2 (by omega) (by omega)).symm
        · exact Or.inl ⟨h0, j, by omega, j2⟩
      · rintro (⟨h0, j, j1, j2⟩ | y)
        · exact ⟨h0, j, by omega, j2⟩
        · subst y
          exact ⟨s1, i, by omega, s2⟩
theorem xl_flush {B : Nat} (hP : kt_Pl pl B a_buffer a_filled a_leafSlot a_standsAt a_px a_py a_heavy a_minX a_maxX a_minY a_maxY a_many a_total) (hB : f_buffered = nI B) (hB0 : 0 < B) (h : ∀ gth w sF sT fil L A x0 x1 x2 x3 x4 x5, kt_Pl pl 0 a_buffer fil L A a_px a_py a_heavy x0 x1 x2 x3 x4 x5 → post (f_added, f_alive, 0, gth, f_x0, f_x1, f_y0, f_y1, f_foundMany, f_foundTotal, f_listing, f_listed, f_centreX, f_centreY, f_bestDistance, f_bestPoint, f_behindDistance, f_behindPoint, f_leftOut, a_slotOf, a_used, a_pointOf, a_px, a_py, a_heavy, a_buffer, fil, L, A, x0, x1, x2, x3, x4, x5, w, sF, sT, a_stack, a_list)) : wpX_flush post (f_added, f_alive, f_buffered, f_gathered, f_x0, f_x1, f_y0, f_y1, f_foundMany, f_foundTotal, f_listing, f_listed, f_centreX, f_centreY, f_bestDistance, f_bestPoint, f_behindDistance, f_behindPoint, f_leftOut, a_slotOf, a_used, a_pointOf, a_px, a_py, a_heavy, a_buffer, a_filled, a_leafSlot, a_standsAt, a_minX, a_maxX, a_minY, a_maxY, a_many, a_total, a_work, a_spanFrom, a_spanTo, a_stack, a_list) := by
  refine ⟨B + 1, xl_f7 hP hB hB0 h B 0 (by omega) a_work ⟨fun i hi => by omega, ?_, fun i j hi => by omega⟩ (B + 1) (by omega)⟩
  rintro s ⟨_, j, j1, _⟩
  omega
theorem kt_Pl_enter {B s : Nat} {buf fil leaf sta px py hv m0 m1 m2 m3 m4 m5 : Nat → Int32} (hP : kt_Pl pl B buf fil leaf sta px py hv m0 m1 m2 m3 m4 m5) (hB : B < 8) (hs : s < 64) (hn : ¬ pl s) (hb : 0 ≤ px s ∧ px s ≤ 63 ∧ 0 ≤ py s ∧ py s ≤ 63) : kt_Pl (fun z => pl z ∨ z = s) (B + 1) (upd buf B (nI s)) fil leaf (upd sta s ((-1) - nI B)) px py hv m0 m1 m2 m3 m4 m5 := by
  obtain ⟨p1, p2, p3, p4, p5⟩ := hP
  refine ⟨by omega, fun i hi => ?_, fun t ht hf => ⟨fun k hk => ?_, (p3 t ht hf).2⟩, fun z hz hp => ?_, fun z hz hp => ?_⟩
  · by_cases e : i = B
    · subst e
      exact ⟨s, hs, pk_us, Or.inr rfl, pk_us⟩
    · obtain ⟨z, z1, z2, z3, z4⟩ := p2 i (by omega)
      refine ⟨z, z1, by rw [pk_un e]; exact z2, Or.inl z3, ?_⟩
      rw [pk_un (fun e => by subst e; exact hn z3)]
      exact z4
  · rcases (p3 t ht hf).1 k hk with y | ⟨z, z1, z2, z3, z4⟩
    · exact Or.inl y
    · refine Or.inr ⟨z, z1, z2, Or.inl z3, ?_⟩
      rw [pk_un (fun e => by subst e; exact hn z3)]
      exact z4
  · rcases hp with hp | hp
    · rcases p4 z hz hp with ⟨i, i1, i2⟩ | y
      · exact Or.inl ⟨i, by omega, by rw [pk_un (by omega)]; exact i2⟩
      · exact Or.inr y
    · subst hp
      exact Or.inl ⟨B, by omega, pk_us⟩
  · rcases hp with hp | hp
    · exact p5 z hz hp
    · subst hp; exact hb
theorem xl_enter {B s : Nat} (hP : kt_Pl pl B a_buffer a_filled a_leafSlot a_standsAt a_px a_py a_heavy a_minX a_maxX a_minY a_maxY a_many a_total) (hB : f_buffered = nI B) (hs : s < 64) (hn : ¬ pl s) (hb : 0 ≤ a_px s ∧ a_px s ≤ 63 ∧ 0 ≤ a_py s ∧ a_py s ≤ 63) (h : ∀ B' gth w sF sT buf fil L A x0 x1 x2 x3 x4 x5, kt_Pl (fun z => pl z ∨ z = s) B' buf fil L A a_px a_py a_heavy x0 x1 x2 x3 x4 x5 → post (f_added, f_alive, nI B', gth, f_x0, f_x1, f_y0, f_y1, f_foundMany, f_foundTotal, f_listing, f_listed, f_centreX, f_centreY, f_bestDistance, f_bestPoint, f_behindDistance, f_behindPoint, f_leftOut, a_slotOf, a_used, a_pointOf, a_px, a_py, a_heavy, buf, fil, L, A, x0, x1, x2, x3, x4, x5, w, sF, sT, a_stack, a_list)) : wpX_enter post (f_added, f_alive, f_buffered, f_gathered, f_x0, f_x1, f_y0, f_y1, f_foundMany, f_foundTotal, f_listing, f_listed, f_centreX, f_centreY, f_bestDistance, f_bestPoint, f_behindDistance, f_behindPoint, f_leftOut, a_slotOf, a_used, a_pointOf, a_px, a_py, a_heavy, a_buffer, a_filled, a_leafSlot, a_standsAt, a_minX, a_maxX, a_minY, a_maxY, a_many, a_total, a_work, a_spanFrom, a_spanTo, a_stack, a_list) (nI s) := by
  have cs : (nI s).toNatClampNeg = s := nI_clamp (by omega)
  have vs : vp_in (nI s) 64 := vp_in_nI (by omega) (by omega)
  have hB8 := hP.1
  unfold wpX_enter
  by_cases h8 : B = 8
  · refine br_t (by rw [hB, h8]; rfl) (xl_flush hP hB (by omega) (fun gth w sF sT fil L A x0 x1 x2 x3 x4 x5 hP' => ?_))
    show wX_enter_13 post (nI s) _ _ _ _ _ _ _ _ _ _ _ _ _ _ _ _ _ _ _ _ _ _ _ _ _ _ _ _ _ _ _ _ _ _ _ _ _ _ _ _
    unfold wX_enter_13
    simp only [cs]
    exact ⟨vp_in_nI (n := 0) (by omega) (by omega), nm_r (e' := upd a_buffer 0 (nI s)) rfl ⟨vs, nm_e (nm_r (e' := nI (0 + 1)) rfl (h 1 _ _ _ _ _ _ _ _ _ _ _ _ _ _ (kt_Pl_enter hP' (by omega) hs hn hb)))⟩⟩
  · have cB : (nI B).toNatClampNeg = B := nI_clamp (by omega)
    have vB : vp_in (nI B) 8 := vp_in_nI (by omega) (by omega)
    subst hB
    refine br_f (fun z => h8 (kt_ij (b := 8) z (by omega) (by omega))) ?_
    show wX_enter_13 post (nI s) _ _ _ _ _ _ _ _ _ _ _ _ _ _ _ _ _ _ _ _ _ _ _ _ _ _ _ _ _ _ _ _ _ _ _ _ _ _ _ _
    unfold wX_enter_13
    simp only [cs, cB]
    exact ⟨vB, nm_e ⟨vs, nm_e (nm_r (nI_1 B) (h _ _ _ _ _ _ _ _ _ _ _ _ _ _ _ (kt_Pl_enter hP (by omega) hs hn hb)))⟩⟩
end KTM
end
section
section KTN
/-! leave -/
variable {f_added f_alive f_buffered f_gathered f_x0 f_x1 f_y0 f_y1 f_foundMany f_foundTotal f_listing f_listed f_centreX f_centreY f_bestDistance f_bestPoint f_behindDistance f_behindPoint f_leftOut : Int32} {a_slotOf a_used a_pointOf a_px a_py a_heavy a_buffer a_filled a_leafSlot a_standsAt a_minX a_maxX a_minY a_maxY a_many a_total a_work a_spanFrom a_spanTo a_stack a_list : Nat → Int32}
variable {post : SX → Prop} {pl : Nat → Prop}
theorem kt_shr1 {a : Nat} (h : a < 2 ^ 31) : nI a >>> ((1 : Int32) &&& 31) = nI (a / 2) := pk_shrN h _ 1 (by decide)
theorem kt_shr2 {a : Nat} (h : a < 2 ^ 31) : nI a >>> ((2 : Int32) &&& 31) = nI (a / 4) := pk_shrN h _ 2 (by decide)
theorem xl_l141 {t k l : Nat} {m0 m1 m2 m3 m4 m5 : Nat → Int32} (ht : t < 4) (hk : kt_in t k) (hl : l = kt_lv t + (k - kt_ba t) / 4) (h : ∀ a_minX a_maxX a_minY a_maxY a_many a_total, kt_Ns t a_px a_py a_heavy a_leafSlot a_minX a_maxX a_minY a_maxY a_many a_total → kt_F6 t a_minX a_maxX a_minY a_maxY a_many a_total m0 m1 m2 m3 m4 m5 → post (f_added, f_alive, f_buffered, f_gathered, f_x0, f_x1, f_y0, f_y1, f_foundMany, f_foundTotal, f_listing, f_listed, f_centreX, f_centreY, f_bestDistance, f_bestPoint, f_behindDistance, f_behindPoint, f_leftOut, a_slotOf, a_used, a_pointOf, a_px, a_py, a_heavy, a_buffer, a_filled, a_leafSlot, a_standsAt, a_minX, a_maxX, a_minY, a_maxY, a_many, a_total, a_work, a_spanFrom, a_spanTo, a_stack, a_list)) : ∀ d c, c + d = 8 → ∀ a_minX a_maxX a_minY a_maxY a_many a_total, (∀ n, 1 ≤ n → n < 2 * kt_lv t → (¬ (kt_lo t n ≤ k ∧ k < kt_lo t n + kt_ln t n) ∨ l / 2 ^ (c + 1) < n) → kt_No t a_px a_py a_heavy a_leafSlot a_minX a_maxX a_minY a_maxY a_many a_total n) → kt_F6 t a_minX a_maxX a_minY a_maxY a_many a_total m0 m1 m2 m3 m4 m5 → ∀ f, d < f → wX_leave_141 post (nI t) f (nI (l / 2 ^ (c + 1))) (nI c) f_added f_alive f_buffered f_gathered f_x0 f_x1 f_y0 f_y1 f_foundMany f_foundTotal f_listing f_listed f_centreX f_centreY f_bestDistance f_bestPoint f_behindDistance f_behindPoint f_leftOut a_slotOf a_used a_pointOf a_px a_py a_heavy a_buffer a_filled a_leafSlot a_standsAt a_minX a_maxX a_minY a_maxY a_many a_total a_work a_spanFrom a_spanTo a_stack a_list := by
  have hv := kt_lv16 t ht
  have hk' := hk
  unfold kt_in at hk'
  have hl2 : l < 2 * kt_lv t := by omega
  intro d
  induction d with
  | zero =>
    intro c hc a_minX a_maxX a_minY a_maxY a_many a_total hN hF f hf
    obtain ⟨m, rfl⟩ : ∃ m, f = m + 1 := ⟨f - 1, by omega⟩
    have ec : c = 8 := by omega
    subst ec
    have e0 : l / 2 ^ (8 + 1) = 0 := Nat.div_eq_of_lt (by omega)
    rw [e0] at hN
    exact br_t (kt_rfl _) (h _ _ _ _ _ _ (fun n h1 h2 => hN n h1 h2 (Or.inr (by omega))) hF)
  | succ d ih =>
    intro c hc a_minX a_maxX a_minY a_maxY a_many a_total hN hF f hf
    obtain ⟨m, rfl⟩ : ∃ m, f = m + 1 := ⟨f - 1, by omega⟩
    have e2 : l / 2 ^ (c + 1) / 2 = l / 2 ^ (c + 1 + 1) := by rw [Nat.div_div_eq_div_mul, ← Nat.pow_succ]
    have hle : l / 2 ^ (c + 1) ≤ l / 2 := by
      refine Nat.div_le_div_left ?_ (by omega)
      exact Nat.le_trans (by omega) (Nat.pow_le_pow_right (by omega) (show 1 ≤ c + 1 by omega))
    have hi := ih (c + 1) (by omega)
    rw [← e2] at hi
    have hpow : ∃ a, l / 2 ^ (c + 1) = l / 2 ^ a := ⟨_, rfl⟩
    generalize l / 2 ^ (c + 1) = x at *
    by_cases hx : x = 0
    · subst hx
      exact br_f (nI_ge (b := 8) (by omega) (by decide)) (br_t (kt_rfl _) (h _ _ _ _ _ _ (fun n h1 h2 => hN n h1 h2 (Or.inr (by omega))) hF))
    · have ea : nI t * 32 + nI x = nI (t * 32 + x) := by rw [show (32 : Int32) = nI 32 from rfl, pk_mul, nI_add]
      have eb : nI t * 32 + 2 * nI x = nI (t * 32 + 2 * x) := by rw [show (32 : Int32) = nI 32 from rfl, show (2 : Int32) = nI 2 from rfl, pk_mul, pk_mul, nI_add]
      refine br_f (nI_ge (b := 8) (by omega) (by decide)) (br_f (nI_nle (by omega) (by omega)) ?_)
      rw [ea, eb]
      refine xl_join (by omega) (by omega) (hN (2 * x) (by omega) (by omega) (Or.inr (by omega))) (hN (2 * x + 1) (by omega) (by omega) (Or.inr (by omega))) (fun v0 v1 v2 v3 v4 v5 hd => nm_r (kt_shr1 (by omega)) (nm_r (nI_1 c) ?_))
      rw [← kt_half ht (by omega) (by omega)] at hd
      refine hi _ _ _ _ _ _ (fun n h1 h2 h3 => ?_) (kt_F6_u (by omega) hF) m (by omega)
      by_cases e : n = x
      · subst e
        exact kt_No_s hd
      · refine kt_No_u e (hN n h1 h2 ?_)
        by_cases hin : kt_lo t n ≤ k ∧ k < kt_lo t n + kt_ln t n
        · refine Or.inr ?_
          have h4 : x / 2 < n := h3.resolve_left (fun z => z hin)
          rcases Nat.lt_or_ge x n with z | z
          · exact z
          · exfalso
            have en := kt_anc ht hk h1 h2 hin.1 hin.2
            rw [← hl] at en
            obtain ⟨a, ha⟩ := hpow
            refine kt_anc2 (l := l) (a := a) (b := kt_hg t n) ?_ ?_
            · rw [← ha, ← en]; exact h4
            · rw [← ha, ← en]; omega
        · exact Or.inl hin
theorem xl_l61 {t k : Nat} (ht : t < 4) (hk : kt_in t k) (h : wpX_bindLeaf (fun u => match u with | (f_added, f_alive, f_buffered, f_gathered, f_x0, f_x1, f_y0, f_y1, f_foundMany, f_foundTotal, f_listing, f_listed, f_centreX, f_centreY, f_bestDistance, f_bestPoint, f_behindDistance, f_behindPoint, f_leftOut, a_slotOf, a_used, a_pointOf, a_px, a_py, a_heavy, a_buffer, a_filled, a_leafSlot, a_standsAt, a_minX, a_maxX, a_minY, a_maxY, a_many, a_total, a_work, a_spanFrom, a_spanTo, a_stack, a_list) => ∃ f, wX_leave_141 post (nI t) f (nI ((kt_lv t + (k - kt_ba t) / 4) / 2)) 0 f_added f_alive f_buffered f_gathered f_x0 f_x1 f_y0 f_y1 f_foundMany f_foundTotal f_listing f_listed f_centreX f_centreY f_bestDistance f_bestPoint f_behindDistance f_behindPoint f_leftOut a_slotOf a_used a_pointOf a_px a_py a_heavy a_buffer a_filled a_leafSlot a_standsAt a_minX a_maxX a_minY a_maxY a_many a_total a_work a_spanFrom a_spanTo a_stack a_list) (f_added, f_alive, f_buffered, f_gathered, f_x0, f_x1, f_y0, f_y1, f_foundMany, f_foundTotal, f_listing, f_listed, f_centreX, f_centreY, f_bestDistance, f_bestPoint, f_behindDistance, f_behindPoint, f_leftOut, a_slotOf, a_used, a_pointOf, a_px, a_py, a_heavy, a_buffer, a_filled, a_leafSlot, a_standsAt, a_minX, a_maxX, a_minY, a_maxY, a_many, a_total, a_work, a_spanFrom, a_spanTo, a_stack, a_list) (nI (t * 32 + (kt_lv t + (k - kt_ba t) / 4))) (nI (kt_ba t + 4 * ((k - kt_ba t) / 4)))) : ∀ d j, j + d = 4 → 1 ≤ j → ∀ f, d < f → wX_leave_61 post (nI k) f_added f_alive f_buffered f_gathered f_x0 f_x1 f_y0 f_y1 f_foundMany f_foundTotal f_listing f_listed f_centreX f_centreY f_bestDistance f_bestPoint f_behindDistance f_behindPoint f_leftOut a_slotOf a_used a_pointOf a_px a_py a_heavy a_buffer a_filled a_leafSlot a_standsAt a_minX a_maxX a_minY a_maxY a_many a_total a_work a_spanFrom a_spanTo a_stack a_list f (nI (min t (j - 1))) (nI j) := by
  have hv := kt_lv16 t ht
  have hk' := hk
  unfold kt_in at hk'
  intro d
  induction d with
  | zero =>
    intro j hj h1 f hf
    obtain ⟨m, rfl⟩ : ∃ m, f = m + 1 := ⟨f - 1, by omega⟩
    have ej : j = 4 := by omega
    subst ej
    have em : min t (4 - 1) = t := by omega
    rw [em]
    have e1 : (nI k - nI (kt_ba t)) >>> ((2 : Int32) &&& 31) = nI ((k - kt_ba t) / 4) := by rw [pk_sub hk'.1, kt_shr2 (by omega)]
    have e2 : nI (kt_lv t) + nI ((k - kt_ba t) / 4) = nI (kt_lv t + (k - kt_ba t) / 4) := nI_add _ _
    have e3 : nI t * 32 + nI (kt_lv t + (k - kt_ba t) / 4) = nI (t * 32 + (kt_lv t + (k - kt_ba t) / 4)) := by rw [show (32 : Int32) = nI 32 from rfl, pk_mul, nI_add]
    have e4 : nI (kt_ba t) + 4 * nI ((k - kt_ba t) / 4) = nI (kt_ba t + 4 * ((k - kt_ba t) / 4)) := by rw [show (4 : Int32) = nI 4 from rfl, pk_mul, nI_add]
    have e5 : nI (kt_lv t + (k - kt_ba t) / 4) >>> ((1 : Int32) &&& 31) = nI ((kt_lv t + (k - kt_ba t) / 4) / 2) := kt_shr1 (by omega)
    refine br_t (kt_rfl _) ?_
    refine xl_base ht ?_
    refine nm_r e1 ?_
    refine xl_leaves ht ?_
    refine nm_r e2 ?_
    refine xl_base ht ?_
    rw [e3, e4]
    simp only [e5, forall_eq]
    exact h
  | succ d ih =>
    intro j hj h1 f hf
    obtain ⟨m, rfl⟩ : ∃ m, f = m + 1 := ⟨f - 1, by omega⟩
    refine br_f (nI_ge (b := 4) (by omega) (by decide)) (xl_base (by omega) ?_)
    have hi := ih (j + 1) (by omega) (by omega) m (by omega)
    have hb := kt_in_le ht (j := j) (by omega) hk
    by_cases hc : k < kt_ba j
    · have em : min t (j + 1 - 1) = min t (j - 1) := by omega
      rw [em] at hi
      have hv2 := kt_lv16 j (by omega)
      exact br_t (nI_lt hc (by omega)) (nm_r (nI_1 j) hi)
    · have em : min t (j + 1 - 1) = j := by omega
      rw [em] at hi
      exact br_f (nI_nlt (by omega) (by omega)) (nm_r (nI_1 j) hi)
theorem xl_l61s {t k : Nat} (ht : t < 4) (hk : kt_in t k) (h : wpX_bindLeaf (fun u => match u with | (f_added, f_alive, f_buffered, f_gathered, f_x0, f_x1, f_y0, f_y1, f_foundMany, f_foundTotal, f_listing, f_listed, f_centreX, f_centreY, f_bestDistance, f_bestPoint, f_behindDistance, f_behindPoint, f_leftOut, a_slotOf, a_used, a_pointOf, a_px, a_py, a_heavy, a_buffer, a_filled, a_leafSlot, a_standsAt, a_minX, a_maxX, a_minY, a_maxY, a_many, a_total, a_work, a_spanFrom, a_spanTo, a_stack, a_list) => ∃ f, wX_leave_141 post (nI t) f (nI ((kt_lv t + (k - kt_ba t) / 4) / 2)) 0 f_added f_alive f_buffered f_gathered f_x0 f_x1 f_y0 f_y1 f_foundMany f_foundTotal f_listing f_listed f_centreX f_centreY f_bestDistance f_bestPoint f_behindDistance f_behindPoint f_leftOut a_slotOf a_used a_pointOf a_px a_py a_heavy a_buffer a_filled a_leafSlot a_standsAt a_minX a_maxX a_minY a_maxY a_many a_total a_work a_spanFrom a_spanTo a_stack a_list) (f_added, f_alive, f_buffered, f_gathered, f_x0, f_x1, f_y0, f_y1, f_foundMany, f_foundTotal, f_listing, f_listed, f_centreX, f_centreY, f_bestDistance, f_bestPoint, f_behindDistance, f_behindPoint, f_leftOut, a_slotOf, a_used, a_pointOf, a_px, a_py, a_heavy, a_buffer, a_filled, a_leafSlot, a_standsAt, a_minX, a_maxX, a_minY, a_maxY, a_many, a_total, a_work, a_spanFrom, a_spanTo, a_stack, a_list) (nI (t * 32 + (kt_lv t + (k - kt_ba t) / 4))) (nI (kt_ba t + 4 * ((k - kt_ba t) / 4)))) : wX_leave_61 post (nI k) f_added f_alive f_buffered f_gathered f_x0 f_x1 f_y0 f_y1 f_foundMany f_foundTotal f_listing f_listed f_centreX f_centreY f_bestDistance f_bestPoint f_behindDistance f_behindPoint f_leftOut a_slotOf a_used a_pointOf a_px a_py a_heavy a_buffer a_filled a_leafSlot a_standsAt a_minX a_maxX a_minY a_maxY a_many a_total a_work a_spanFrom a_spanTo a_stack a_list 4 0 1 := by
  have key := xl_l61 ht hk h 3 1 rfl (by omega) 4 (by omega)
  rw [show min t (1 - 1) = 0 by omega] at key
  exact key
theorem kt_Pl_tree {B t k s : Nat} {buf fil leaf sta px py hv m0 m1 m2 m3 m4 m5 x0 x1 x2 x3 x4 x5 : Nat → Int32} (hP : kt_Pl pl B buf fil leaf sta px py hv m0 m1 m2 m3 m4 m5) (hs : s < 64) (hp : pl s) (ht : t < 4) (hf : ¬ fil t = 0) (hk : kt_in t k) (hsk : sta s = nI k) (hN : kt_Ns t px py hv (upd leaf k (-4)) x0 x1 x2 x3 x4 x5) (hF : kt_F6 t x0 x1 x2 x3 x4 x5 m0 m1 m2 m3 m4 m5) : kt_Pl (fun z => pl z ∧ z ≠ s) B buf fil (upd leaf k (-4)) sta px py hv x0 x1 x2 x3 x4 x5 := by
  have hlv := kt_lv16
  obtain ⟨p1, p2, p3, p4, p5⟩ := hP
  have h120 := kt_in_120 ht hk
  refine ⟨p1, fun i hi => ?_, fun t' ht' hf' => ⟨fun j hj => ?_, ?_⟩, fun z hz hpz => ?_, fun z hz hpz => p5 z hz hpz.1⟩
  · obtain ⟨z, z1, z2, z3, z4⟩ := p2 i hi
    refine ⟨z, z1, z2, ⟨z3, fun e => ?_⟩, z4⟩
    subst e
    exact kt_negne (by omega) (by omega) (z4.symm.trans hsk)
  · by_cases e : j = k
    · subst e; rw [pk_us]; exact Or.inl (by decide)
    · rw [pk_un e]
      rcases (p3 t' ht' hf').1 j hj with y | ⟨z, z1, z2, z3, z4⟩
      · exact Or.inl y
      · refine Or.inr ⟨z, z1, z2, ⟨z3, fun e2 => ?_⟩, z4⟩
        subst e2
        have := kt_in_120 ht' hj
        exact e (kt_ij (z4.symm.trans hsk) (by omega) (by omega))
  · by_cases e : t' = t
    · subst e; exact hN
    · intro n n1 n2
      have hb := kt_bd ht' n1 n2
      have hv := hlv t' ht'
      have := (p3 t' ht' hf').2 n n1 n2
      obtain ⟨f0, f1, f2, f3, f4, f5⟩ := hF (t' * 32 + n) (by omega)
      unfold kt_No at this ⊢
      rw [f0, f1, f2, f3, f4, f5, kt_sg_congr (g := leaf) (fun j j1 j2 => pk_un (fun e2 => e (kt_in_eq ht' ht (k := j) ⟨by omega, by omega⟩ (by rw [e2]; exact hk))))]
      exact this
  · rcases p4 z hz hpz.1 with y | ⟨t', j, q1, q2, q3, q4⟩
    · exact Or.inl y
    · refine Or.inr ⟨t', j, q1, q2, q3, ?_⟩
      rw [pk_un (fun e => ?_)]
      · exact q4
      · subst e
        rcases (p3 t' q1 q2).1 j q3 with y | ⟨z', z1, z2, z3, z4⟩
        · rw [q4] at y; exact nI_pos (by omega) y
        · rw [q4] at z2
          have e3 := kt_ij z2 (by omega) (by omega)
          subst e3
          rcases p4 s hs hp with ⟨i, i1, i2⟩ | ⟨t2, j2, r1, r2, r3, r4⟩
          · obtain ⟨w, w1, w2, w3, w4⟩ := p2 i i1
            rw [i2] at w2
            have e5 := kt_ij w2 (by omega) (by omega)
            subst e5
            exact kt_negne (by omega) (by omega) (w4.symm.trans hsk)
          · rcases (p3 t2 r1 r2).1 j2 r3 with y | ⟨w, w1, w2, w3, w4⟩
            · rw [r4] at y; exact nI_pos (by omega) y
            · rw [r4] at w2
              have e5 := kt_ij w2 (by omega) (by omega)
              subst e5
              have q120 := kt_in_120 r1 r3
              have e6 := kt_ij (w4.symm.trans hsk) (by omega) (by omega)
              subst e6
              rw [q4] at r4
              exact hpz.2 (kt_ij r4 (by omega) (by omega))
theorem kt_Pl_buf {B i s s' : Nat} {buf fil leaf sta px py hv m0 m1 m2 m3 m4 m5 : Nat → Int32} (hP : kt_Pl pl (B + 1) buf fil leaf sta px py hv m0 m1 m2 m3 m4 m5) (hs : s < 64) (hi : i < B + 1) (hbi : buf i = nI s) (hs' : s' < 64) (hb' : buf B = nI s') : kt_Pl (fun z => pl z ∧ z ≠ s) B (upd buf i (nI s')) fil leaf (upd sta s' ((-1) - nI i)) px py hv m0 m1 m2 m3 m4 m5 := by
  obtain ⟨p1, p2, p3, p4, p5⟩ := hP
  have hat : ∀ j z, j < B + 1 → z < 64 → buf j = nI z → pl z ∧ sta z = (-1) - nI j := by
    intro j z hj hz e
    obtain ⟨w, w1, w2, w3, w4⟩ := p2 j hj
    rw [e] at w2
    have e5 := kt_ij w2 (by omega) (by omega)
    subst e5
    exact ⟨w3, w4⟩
  obtain ⟨a1, a2⟩ := hat i s hi hs hbi
  obtain ⟨b1, b2⟩ := hat B s' (by omega) hs' hb'
  have one : ∀ j j' z, j < B + 1 → j' < B + 1 → z < 64 → buf j = nI z → buf j' = nI z → j = j' := by
    intro j j' z h1 h2 h3 h4 h5
    exact kt_neginj (by omega) (by omega) ((hat j z h1 h3 h4).2.symm.trans (hat j' z h2 h3 h5).2)
  have tr : ∀ t, t < 4 → ¬ fil t = 0 → ∀ k, kt_in t k → ∀ z, z < 64 → leaf k = nI z → sta z = nI k ∧ pl z := by
    intro t ht hf k hk z hz e
    rcases (p3 t ht hf).1 k hk with y | ⟨w, w1, w2, w3, w4⟩
    · rw [e] at y; exact absurd y (nI_pos (by omega))
    · rw [e] at w2
      have e5 := kt_ij w2 (by omega) (by omega)
      subst e5
      exact ⟨w4, w3⟩
  refine ⟨by omega, fun j hj => ?_, fun t ht hf => ⟨fun k hk => ?_, (p3 t ht hf).2⟩, fun z hz hpz => ?_, fun z hz hpz => p5 z hz hpz.1⟩
  · by_cases e : j = i
    · subst e
      refine ⟨s', hs', pk_us, ⟨b1, fun e => ?_⟩, pk_us⟩
      subst e
      have := one j B s' (by omega) (by omega) hs hbi hb'
      omega
    · obtain ⟨z, z1, z2, z3, z4⟩ := p2 j (by omega)
      refine ⟨z, z1, by rw [pk_un e]; exact z2, ⟨z3, fun e2 => ?_⟩, ?_⟩
      · subst e2
        exact e (one j i z (by omega) hi hs z2 hbi)
      · rw [pk_un (fun e2 => ?_)]
        · exact z4
        · subst e2
          have := one j B z (by omega) (by omega) hs' z2 hb'
          omega
  · rcases (p3 t ht hf).1 k hk with y | ⟨z, z1, z2, z3, z4⟩
    · exact Or.inl y
    · have h120 := kt_in_120 ht hk
      refine Or.inr ⟨z, z1, z2, ⟨z3, fun e => ?_⟩, ?_⟩
      · subst e
        exact kt_negne (by omega) (by omega) (a2.symm.trans z4)
      · rw [pk_un (fun e => ?_)]
        · exact z4
        · subst e
          exact kt_negne (by omega) (by omega) (b2.symm.trans z4)
  · rcases p4 z hz hpz.1 with ⟨j, j1, j2⟩ | y
    · refine Or.inl ?_
      have hji : j ≠ i := fun e => by
        subst e
        rw [hbi] at j2
        exact hpz.2 (kt_ij j2 (by omega) (by omega)).symm
      by_cases e : j = B
      · subst e
        rw [hb'] at j2
        have e3 := kt_ij j2 (by omega) (by omega)
        subst e3
        exact ⟨i, by omega, pk_us⟩
      · exact ⟨j, by omega, by rw [pk_un hji]; exact j2⟩
    · exact Or.inr y
theorem xl_leave {B s : Nat} (hP : kt_Pl pl B a_buffer a_filled a_leafSlot a_standsAt a_px a_py a_heavy a_minX a_maxX a_minY a_maxY a_many a_total) (hB : f_buffered = nI B) (hs : s < 64) (hp : pl s) (h : ∀ B' buf L A x0 x1 x2 x3 x4 x5, kt_Pl (fun z => pl z ∧ z ≠ s) B' buf a_filled L A a_px a_py a_heavy x0 x1 x2 x3 x4 x5 → post (f_added, f_alive, nI B', f_gathered, f_x0, f_x1, f_y0, f_y1, f_foundMany, f_foundTotal, f_listing, f_listed, f_centreX, f_centreY, f_bestDistance, f_bestPoint, f_behindDistance, f_behindPoint, f_leftOut, a_slotOf, a_used, a_pointOf, a_px, a_py, a_heavy, buf, a_filled, L, A, x0, x1, x2, x3, x4, x5, a_work, a_spanFrom, a_spanTo, a_stack, a_list)) : wpX_leave post (f_added, f_alive, f_buffered, f_gathered, f_x0, f_x1, f_y0, f_y1, f_foundMany, f_foundTotal, f_listing, f_listed, f_centreX, f_centreY, f_bestDistance, f_bestPoint, f_behindDistance, f_behindPoint, f_leftOut, a_slotOf, a_used, a_pointOf, a_px, a_py, a_heavy, a_buffer, a_filled, a_leafSlot, a_standsAt, a_minX, a_maxX, a_minY, a_maxY, a_many, a_total, a_work, a_spanFrom, a_spanTo, a_stack, a_list) (nI s) := by
  have cs : (nI s).toNatClampNeg = s := nI_clamp (by omega)
  have vs : vp_in (nI s) 64 := vp_in_nI (by omega) (by omega)
  have hP' := hP
  obtain ⟨p1, p2, p3, p4, p5⟩ := hP'
  subst hB
  unfold wpX_leave
  simp only [cs]
  rcases p4 s hs hp with ⟨i, i1, i2⟩ | ⟨t, k, t1, t2, t3, t4⟩
  · obtain ⟨z, z1, z2, z3, z4⟩ := p2 i i1
    rw [i2] at z2
    have e := kt_ij z2 (by omega) (by omega)
    subst e
    obtain ⟨B, rfl⟩ : ∃ b, B = b + 1 := ⟨B - 1, by omega⟩
    obtain ⟨s', s1, s2, s3, s4⟩ := p2 B (by omega)
    have n1 : ¬ 0 ≤ (-1 : Int32) - nI i := by
      rw [kt_i, kt_neg (by omega)]
      omega
    have cB : (nI B).toNatClampNeg = B := nI_clamp (by omega)
    have vB : vp_in (nI B) 8 := vp_in_nI (by omega) (by omega)
    have ci : (nI i).toNatClampNeg = i := nI_clamp (by omega)
    have vi : vp_in (nI i) 8 := vp_in_nI (by omega) (by omega)
    have c' : (nI s').toNatClampNeg = s' := nI_clamp (by omega)
    have v' : vp_in (nI s') 64 := vp_in_nI (by omega) (by omega)
    refine ⟨vs, nm_r z4 (br_f n1 (nm_r (nI_pred B) ⟨vB, nm_r (e' := nI s') (by rw [cB, s2]) ?_⟩))⟩
    simp only [kt_nn, ci, c']
    exact ⟨vi, nm_e ⟨v', nm_e (h B _ _ _ _ _ _ _ _ _ (kt_Pl_buf hP hs i1 i2 s1 s2))⟩⟩
  · rcases (p3 t t1 t2).1 k t3 with y | ⟨w, w1, w2, w3, w4⟩
    · rw [t4] at y; exact absurd y (nI_pos (by omega))
    · rw [t4] at w2
      have e5 := kt_ij w2 (by omega) (by omega)
      subst e5
      have h120 := kt_in_120 t1 t3
      have ck : (nI k).toNatClampNeg = k := nI_clamp (by omega)
      have vk : vp_in (nI k) 256 := vp_in_nI (by omega) (by omega)
      have hv := kt_lv16 t t1
      have t3' := t3
      unfold kt_in at t3'
      have hl1 : kt_lv t ≤ kt_lv t + (k - kt_ba t) / 4 := by omega
      have hl2 : kt_lv t + (k - kt_ba t) / 4 < 2 * kt_lv t := by omega
      obtain ⟨g1, g2⟩ := kt_leaf t1 hl1 hl2
      have elo : kt_lo t (kt_lv t + (k - kt_ba t) / 4) = kt_ba t + 4 * ((k - kt_ba t) / 4) := by rw [g2]; omega
      refine ⟨vs, nm_r w4 (br_t (nI_pos' (by omega)) ⟨vk, nm_r (e' := upd a_leafSlot k (-4)) (by rw [ck]) ⟨4, ?_⟩⟩)⟩
      refine xl_l61s t1 t3 ?_
      · refine xl_bind (by omega) (by omega) ?_ (fun v0 v1 v2 v3 v4 v5 hd => ?_)
        · intro j j1 j2
          by_cases e : j = k
          · subst e; rw [pk_us]; exact Or.inl (by decide)
          · rw [pk_un e]
            rcases (p3 t t1 t2).1 j ⟨by omega, by omega⟩ with y | ⟨z, z1, z2, z3, z4⟩
            · exact Or.inl y
            · exact Or.inr ⟨z, z1, z2, p5 z z1 z3⟩
        · have hd' : kt_Nd a_px a_py a_heavy (kt_sg (upd a_leafSlot k (-4)) (kt_lo t (kt_lv t + (k - kt_ba t) / 4)) (kt_ln t (kt_lv t + (k - kt_ba t) / 4))) v0 v1 v2 v3 v4 v5 := by
            rw [elo, g1]
            exact hd
          refine ⟨9, xl_l141 (post := post) (k := k) (l := kt_lv t + (k - kt_ba t) / 4) (m0 := a_minX) (m1 := a_maxX) (m2 := a_minY) (m3 := a_maxY) (m4 := a_many) (m5 := a_total) t1 t3 rfl (fun x0 x1 x2 x3 x4 x5 q1 q2 => h B _ _ _ x0 x1 x2 x3 x4 x5 (kt_Pl_tree hP hs hp t1 t2 t3 w4 q1 q2)) 8 0 rfl _ _ _ _ _ _ (fun n n1 n2 n3 => ?_) (kt_F6_u (n := kt_lv t + (k - kt_ba t) / 4) (by omega) kt_F6_r) 9 (by omega)⟩
          · by_cases e : n = kt_lv t + (k - kt_ba t) / 4
            · subst e
              exact kt_No_s hd'
            · refine kt_No_u e (kt_No_c ((p3 t t1 t2).2 n n1 n2) (fun j j1 j2 => pk_un (fun ej => ?_)))
              subst ej
              rcases n3 with y | y
              · exact y ⟨j1, j2⟩
              · have en := kt_anc t1 t3 n1 n2 j1 j2
                rcases Nat.eq_zero_or_pos (kt_hg t n) with z | z
                · rw [z, Nat.pow_zero, Nat.div_one] at en
                  exact e en
                · have : (kt_lv t + (j - kt_ba t) / 4) / 2 ^ kt_hg t n ≤ (kt_lv t + (j - kt_ba t) / 4) / 2 ^ (0 + 1) := Nat.div_le_div_left (Nat.pow_le_pow_right (by omega) (by omega)) (by omega)
                  omega
end KTN
end
section
section KTO
/-! points and slots -/
/-- the points that are there -/
def kt_pp (A : Nat) (th : Nat → Int32) : List Nat := (List.range A).filter (fun p => decide (¬ th p = 0))
theorem kt_pp_mem {A : Nat} {th : Nat → Int32} {p : Nat} : p ∈ kt_pp A th ↔ p < A ∧ ¬ th p = 0 := by
  unfold kt_pp
  rw [List.mem_filter, List.mem_range, decide_eq_true_iff]
theorem kt_pp_nd {A : Nat} {th : Nat → Int32} : (kt_pp A th).Nodup := List.Nodup.sublist List.filter_sublist List.nodup_range
def kt_Bk (A L : Nat) (fa fl fz : Int32) (slo use poi px py hv xs ys ws th : Nat → Int32) : Prop :=
  (fa = nI A ∧ A ≤ 200) ∧ (fl = nI L ∧ fz = nI L ∧ L ≤ 40 ∧ L = (kt_pp A th).length) ∧ (∀ p, p < A → th p = 0 → slo p < 0) ∧ (∀ p, p < A → ¬ th p = 0 → ∃ s, s < 64 ∧ slo p = nI s ∧ ¬ use s = 0 ∧ poi s = nI p) ∧ (∀ s, s < 64 → ¬ use s = 0 → ∃ p, p < A ∧ poi s = nI p ∧ ¬ th p = 0 ∧ slo p = nI s ∧ px s = xs p ∧ py s = ys p ∧ hv s = ws p) ∧ (∀ p, p < A → (0 ≤ xs p ∧ xs p ≤ 63 ∧ 0 ≤ ys p ∧ ys p ≤ 63))
variable {A L B : Nat} {fa fl fz : Int32} {slo use poi px py hv xs ys ws th buf fil leaf sta m0 m1 m2 m3 m4 m5 : Nat → Int32}
def kt_P (poi : Nat → Int32) (s : Nat) : Nat := (poi s).toNatClampNeg
theorem kt_Bk_s (hK : kt_Bk A L fa fl fz slo use poi px py hv xs ys ws th) {s : Nat} (hs : s < 64) (hu : ¬ use s = 0) : kt_P poi s < A ∧ poi s = nI (kt_P poi s) ∧ ¬ th (kt_P poi s) = 0 ∧ slo (kt_P poi s) = nI s ∧ px s = xs (kt_P poi s) ∧ py s = ys (kt_P poi s) ∧ hv s = ws (kt_P poi s) := by
  obtain ⟨p, h1, h2, h3⟩ := hK.2.2.2.2.1 s hs hu
  have hA := hK.1.2
  have e : kt_P poi s = p := by unfold kt_P; rw [h2]; exact nI_clamp (by omega)
  rw [e]
  exact ⟨h1, h2, h3⟩
theorem kt_Bk_p (hK : kt_Bk A L fa fl fz slo use poi px py hv xs ys ws th) {p : Nat} (hp : p < A) (ht : ¬ th p = 0) : ∃ s, s < 64 ∧ slo p = nI s ∧ ¬ use s = 0 ∧ poi s = nI p ∧ kt_P poi s = p ∧ px s = xs p ∧ py s = ys p ∧ hv s = ws p := by
  obtain ⟨s, h1, h2, h3, h4⟩ := hK.2.2.2.1 p hp ht
  have hA := hK.1.2
  have e : kt_P poi s = p := by unfold kt_P; rw [h4]; exact nI_clamp (by omega)
  have := kt_Bk_s hK h1 h3
  rw [e] at this
  exact ⟨s, h1, h2, h3, h4, e, this.2.2.2.2⟩
theorem kt_br_inj (hK : kt_Bk A L fa fl fz slo use poi px py hv xs ys ws th) {a b : Nat} (ha : a < 64 ∧ ¬ use a = 0) (hb : b < 64 ∧ ¬ use b = 0) (e : kt_P poi a = kt_P poi b) : a = b := by
  have h1 := (kt_Bk_s hK ha.1 ha.2).2.2.2.1
  have h2 := (kt_Bk_s hK hb.1 hb.2).2.2.2.1
  rw [e, h2] at h1
  exact (kt_ij h1 (by omega) (by omega)).symm
theorem kt_br (hK : kt_Bk A L fa fl fz slo use poi px py hv xs ys ws th) (hP : kt_Pl (fun s => ¬ use s = 0) B buf fil leaf sta px py hv m0 m1 m2 m3 m4 m5) : ((kt_al buf fil leaf B).map (kt_P poi)).Perm (kt_pp A th) := by
  have hn : ((kt_al buf fil leaf B).map (kt_P poi)).Nodup := kt_nd_map (kt_al_nd hP) (fun a b ha hb e => kt_br_inj hK ((kt_al_mem hP).mp ha) ((kt_al_mem hP).mp hb) e)
  refine (List.perm_ext_iff_of_nodup hn kt_pp_nd).mpr (fun p => ?_)
  rw [List.mem_map, kt_pp_mem]
  constructor
  · rintro ⟨s, hs, rfl⟩
    have := (kt_al_mem hP).mp hs
    have := kt_Bk_s hK this.1 this.2
    exact ⟨this.1, this.2.2.1⟩
  · rintro ⟨h1, h2⟩
    obtain ⟨s, s1, s2, s3, s4, s5, _⟩ := kt_Bk_p hK h1 h2
    exact ⟨s, (kt_al_mem hP).mpr ⟨s1, s3⟩, s5⟩
theorem kt_br_len (hK : kt_Bk A L fa fl fz slo use poi px py hv xs ys ws th) (hP : kt_Pl (fun s => ¬ use s = 0) B buf fil leaf sta px py hv m0 m1 m2 m3 m4 m5) : (kt_al buf fil leaf B).length = L := by
  have := (kt_br hK hP).length_eq
  rw [List.length_map] at this
  rw [this, hK.2.1.2.2.2]
/-- a test of slots and one of points that agree pick the same -/
theorem kt_br_f (hK : kt_Bk A L fa fl fz slo use poi px py hv xs ys ws th) (hP : kt_Pl (fun s => ¬ use s = 0) B buf fil leaf sta px py hv m0 m1 m2 m3 m4 m5) {f g : Nat → Bool} (e : ∀ s, s < 64 → ¬ use s = 0 → f s = g (kt_P poi s)) : (((kt_al buf fil leaf B).filter f).map (kt_P poi)).Perm ((kt_pp A th).filter g) := by
  have h1 : (kt_al buf fil leaf B).filter f = (kt_al buf fil leaf B).filter (g ∘ kt_P poi) := kt_fl_eq (fun s hs => e s ((kt_al_mem hP).mp hs).1 ((kt_al_mem hP).mp hs).2)
  rw [h1, ← List.filter_map]
  exact (kt_br hK hP).filter g
theorem kt_br_c (hK : kt_Bk A L fa fl fz slo use poi px py hv xs ys ws th) (hP : kt_Pl (fun s => ¬ use s = 0) B buf fil leaf sta px py hv m0 m1 m2 m3 m4 m5) {f g : Nat → Bool} (e : ∀ s, s < 64 → ¬ use s = 0 → f s = g (kt_P poi s)) : ((kt_al buf fil leaf B).filter f).length = ((kt_pp A th).filter g).length := by
  have := (kt_br_f hK hP e).length_eq
  rw [List.length_map] at this
  exact this
theorem kt_br_s (hK : kt_Bk A L fa fl fz slo use poi px py hv xs ys ws th) (hP : kt_Pl (fun s => ¬ use s = 0) B buf fil leaf sta px py hv m0 m1 m2 m3 m4 m5) {f g : Nat → Bool} (e : ∀ s, s < 64 → ¬ use s = 0 → f s = g (kt_P poi s)) : kt_sm hv ((kt_al buf fil leaf B).filter f) = kt_sm ws ((kt_pp A th).filter g) := by
  rw [← kt_sm_perm ws (kt_br_f hK hP e), kt_sm_map]
  refine kt_sm_congr (fun s hs => ?_)
  have := (kt_al_mem hP).mp (List.mem_filter.mp hs).1
  exact (kt_Bk_s hK this.1 this.2).2.2.2.2.2.2
theorem kt_br_ins (hK : kt_Bk A L fa fl fz slo use poi px py hv xs ys ws th) (x0 x1 y0 y1 : Int32) : ∀ s, s < 64 → ¬ use s = 0 → kt_ins px py x0 x1 y0 y1 s = kt_ins xs ys x0 x1 y0 y1 (kt_P poi s) := by
  intro s hs hu
  obtain ⟨_, _, _, _, e1, e2, _⟩ := kt_Bk_s hK hs hu
  unfold kt_ins
  rw [e1, e2]
/-- the free slot -/
theorem kt_free (hK : kt_Bk A L fa fl fz slo use poi px py hv xs ys ws th) (hP : kt_Pl (fun s => ¬ use s = 0) B buf fil leaf sta px py hv m0 m1 m2 m3 m4 m5) : ∃ s, s < 64 ∧ use s = 0 := by
  refine Classical.byContradiction (fun hno => ?_)
  have h1 : ∀ s, s < 64 → ¬ use s = 0 := fun s hs z => hno ⟨s, hs, z⟩
  have h2 := List.Nodup.length_le_of_subset (List.nodup_range (n := 64)) (l₂ := kt_al buf fil leaf B) (fun s hs => (kt_al_mem hP).mpr ⟨List.mem_range.mp hs, h1 s (List.mem_range.mp hs)⟩)
  rw [List.length_range, kt_br_len hK hP] at h2
  have := hK.2.1.2.2.1
  omega
end KTO
end
section
section KTQ
/-! Y's methods: places, points, sides, counts -/
variable {f_added : Int32} {f_size : Int32} {a_xs a_ys a_weights a_there : Nat → Int32}
variable {pI : Int32 → Prop}
theorem yl_place {x y : Int32} (h1 : kt_ok x y → pI 1) (h0 : ¬ kt_ok x y → pI 0) : wpY_isPlace pI (f_added, f_size, a_xs, a_ys, a_weights, a_there) x y :=
  br_c (fun a => h0 (fun z => z.1 a)) (fun a => br_c (fun b => h0 (fun z => z.2.1 b)) (fun b => br_c (fun c => h0 (fun z => z.2.2.1 c)) (fun c => br_c (fun d => h0 (fun z => z.2.2.2 d)) (fun d => h1 ⟨a, b, c, d⟩))))
/-- point p of A is there -/
def kt_ip (A : Nat) (th : Nat → Int32) (x : Int32) : Prop := ∃ p, p < A ∧ x = nI p ∧ ¬ th p = 0
theorem yl_point {A : Nat} {x : Int32} (hA : f_added = nI A) (hA2 : A ≤ 200) (h1 : ∀ p, p < A → x = nI p → ¬ a_there p = 0 → pI 1) (h0 : ¬ kt_ip A a_there x → pI 0) : wpY_isPoint pI (f_added, f_size, a_xs, a_ys, a_weights, a_there) x := by
  subst hA
  refine br_c (fun a => h0 ?_) (fun a => br_c (fun b => h0 ?_) (fun b => ?_))
  · rintro ⟨p, p1, rfl, _⟩
    exact nI_pos (by omega) a
  · rintro ⟨p, p1, rfl, _⟩
    exact nI_ge p1 (by omega) b
  · obtain ⟨p, hp, rfl⟩ := nI_of a
    have hp' : p < A := by
      have := mt (fun z : A ≤ p => nI_le z hp) b
      omega
    have cp : (nI p).toNatClampNeg = p := nI_clamp hp
    rw [cp]
    refine ⟨vp_in_nI (by omega) (by omega), br_c (fun c => h0 ?_) (fun c => h1 p hp' rfl c)⟩
    rintro ⟨q, q1, e, q2⟩
    have := kt_ij e (by omega) (by omega)
    subst this
    exact q2 c
/-- a side -/
def kt_sd (c : Int32) : Prop := ¬ c < 0 ∧ ¬ 4095 < c ∧ ¬ c / 64 < c - c / 64 * 64
theorem yl_side {c : Int32} (h1 : kt_sd c → pI 1) (h0 : ¬ kt_sd c → pI 0) : wpY_isSide pI (f_added, f_size, a_xs, a_ys, a_weights, a_there) c :=
  br_c (fun a => h0 (fun z => z.1 a)) (fun a => br_c (fun b => h0 (fun z => z.2.1 b)) (fun b => ⟨by decide, by decide, br_c (fun d => h0 (fun z => z.2.2 d)) (fun d => h1 ⟨a, b, d⟩)⟩))
theorem kt_span {c : Int32} (h0 : ¬ c < 0) (h1 : ¬ 4095 < c) : c &&& 63 = c - c / 64 * 64 ∧ c >>> ((6 : Int32) &&& 31) = c / 64 := by
  obtain ⟨j, hj, rfl⟩ := nI_of h0
  rw [pk_andN (by omega) (m := 63) 6 (by decide), pk_shrN hj _ 6 (by decide), show (64 : Int32) = nI 64 from rfl, pk_rem hj (by omega) (by omega), pk_div hj (by omega) (by omega)]
  exact ⟨rfl, rfl⟩
/-- there, and inside -/
def kt_ly (xs ys th : Nat → Int32) (c l : Int32) (p : Nat) : Bool := kt_ins xs ys (c - c / 64 * 64) (c / 64) (l - l / 64 * 64) (l / 64) p && decide (¬ th p = 0)
theorem kt_ly_f {xs ys th : Nat → Int32} {c l : Int32} {p : Nat} (h : ¬ (¬ th p = 0 ∧ kt_ins xs ys (c - c / 64 * 64) (c / 64) (l - l / 64 * 64) (l / 64) p = true)) : ¬ kt_ly xs ys th c l p = true := by
  unfold kt_ly
  rw [Bool.and_eq_true, decide_eq_true_iff]
  exact fun z => h ⟨z.2, z.1⟩
theorem kt_ly_t {xs ys th : Nat → Int32} {c l : Int32} {p : Nat} (h1 : ¬ th p = 0) (h2 : kt_ins xs ys (c - c / 64 * 64) (c / 64) (l - l / 64 * 64) (l / 64) p = true) : kt_ly xs ys th c l p = true := by
  unfold kt_ly
  rw [Bool.and_eq_true, decide_eq_true_iff]
  exact ⟨h2, h1⟩
theorem kt_ly_pp {A : Nat} {xs ys th : Nat → Int32} {c l : Int32} : (List.range A).filter (kt_ly xs ys th c l) = (kt_pp A th).filter (kt_ins xs ys (c - c / 64 * 64) (c / 64) (l - l / 64 * 64) (l / 64)) := by
  unfold kt_pp
  rw [List.filter_filter]
  rfl
theorem yl_lies {p : Nat} {c l : Int32} (hp : p < 200) (h0 : ¬ kt_ly a_xs a_ys a_there c l p = true → pI 0) (h1 : kt_ly a_xs a_ys a_there c l p = true → pI 1) : wpY_lies pI (f_added, f_size, a_xs, a_ys, a_weights, a_there) (nI p) c l := by
  have cp : (nI p).toNatClampNeg = p := nI_clamp (by omega)
  have vp : vp_in (nI p) 200 := vp_in_nI (by omega) (by omega)
  have d : ¬ (64 : Int32) = 0 := by decide
  unfold wpY_lies
  simp only [cp]
  exact ⟨vp, br_c (fun a => h0 (kt_ly_f (fun z => z.1 a))) (fun a => ⟨vp, d, br_c (fun b => h0 (kt_ly_f (fun z => (kt_ins_t.mp z.2).1 b))) (fun b => ⟨vp, d, br_c (fun e => h0 (kt_ly_f (fun z => (kt_ins_t.mp z.2).2.1 e))) (fun e => ⟨vp, d, br_c (fun f => h0 (kt_ly_f (fun z => (kt_ins_t.mp z.2).2.2.1 f))) (fun f => ⟨vp, d, br_c (fun g => h0 (kt_ly_f (fun z => (kt_ins_t.mp z.2).2.2.2 g))) (fun g => h1 (kt_ly_t a (kt_ins_t.mpr ⟨b, e, f, g⟩)))⟩)⟩)⟩)⟩)⟩
theorem yl_c23 {A : Nat} {c l : Int32} (hA : f_added = nI A) (hA2 : A ≤ 200) : ∀ d i, i + d = A → ∀ k : Nat, pI (nI (k + ((List.range' i d).filter (kt_ly a_xs a_ys a_there c l)).length)) → ∀ n, d < n → wY_count_23 pI c l f_added f_size a_xs a_ys a_weights a_there n (nI k) (nI i) := by
  subst hA
  intro d
  induction d with
  | zero =>
    intro i hi k h n hn
    obtain ⟨m, rfl⟩ : ∃ m, n = m + 1 := ⟨n - 1, by omega⟩
    have ei : i = A := by omega
    subst ei
    exact br_t (kt_rfl _) h
  | succ d ih =>
    intro i hi k h n hn
    obtain ⟨m, rfl⟩ : ∃ m, n = m + 1 := ⟨n - 1, by omega⟩
    rw [List.range'_succ] at h
    refine br_f (nI_ge (by omega) (by omega)) (yl_lies (by omega) (fun z => ?_) (fun z => ?_))
    · rw [List.filter_cons_of_neg z] at h
      exact br_t rfl (nm_r (nI_1 i) (ih (i + 1) (by omega) k h m (by omega)))
    · rw [List.filter_cons_of_pos z, List.length_cons, ← Nat.add_assoc, Nat.add_right_comm] at h
      exact br_f (by decide) (nm_r (nI_1 k) (nm_r (nI_1 i) (ih (i + 1) (by omega) (k + 1) h m (by omega))))
theorem yl_count {A : Nat} {c l : Int32} (hA : f_added = nI A) (hA2 : A ≤ 200) (h0 : ¬ (kt_sd c ∧ kt_sd l) → pI (-1)) (h1 : kt_sd c → kt_sd l → pI (nI ((kt_pp A a_there).filter (kt_ins a_xs a_ys (c - c / 64 * 64) (c / 64) (l - l / 64 * 64) (l / 64))).length)) : wpY_count pI (f_added, f_size, a_xs, a_ys, a_weights, a_there) c l := by
  unfold wpY_count
  refine yl_side (fun a => br_f (by decide) ?_) (fun a => br_t rfl (h0 (fun z => a z.1)))
  refine yl_side (fun b => br_f (by decide) ?_) (fun b => br_t rfl (h0 (fun z => b z.2)))
  have := h1 a b
  rw [← kt_ly_pp, List.range_eq_range'] at this
  exact ⟨A + 1, yl_c23 hA hA2 A 0 (by omega) 0 (by rw [Nat.zero_add]; exact this) (A + 1) (by omega)⟩
theorem yl_w23 {A : Nat} {c l : Int32} (hA : f_added = nI A) (hA2 : A ≤ 200) : ∀ d i, i + d = A → ∀ k : Int32, pI (k + kt_sm a_weights ((List.range' i d).filter (kt_ly a_xs a_ys a_there c l))) → ∀ n, d < n → wY_weight_23 pI c l f_added f_size a_xs a_ys a_weights a_there n k (nI i) := by
  subst hA
  intro d
  induction d with
  | zero =>
    intro i hi k h n hn
    obtain ⟨m, rfl⟩ : ∃ m, n = m + 1 := ⟨n - 1, by omega⟩
    have ei : i = A := by omega
    subst ei
    have e0 : k + kt_sm a_weights ((List.range' i 0).filter (kt_ly a_xs a_ys a_there c l)) = k := Int32.add_zero k
    rw [e0] at h
    exact br_t (kt_rfl _) h
  | succ d ih =>
    intro i hi k h n hn
    obtain ⟨m, rfl⟩ : ∃ m, n = m + 1 := ⟨n - 1, by omega⟩
    rw [List.range'_succ] at h
    have ci : (nI i).toNatClampNeg = i := nI_clamp (by omega)
    have vi : vp_in (nI i) 200 := vp_in_nI (by omega) (by omega)
    refine br_f (nI_ge (by omega) (by omega)) (yl_lies (by omega) (fun z => ?_) (fun z => ?_))
    · rw [List.filter_cons_of_neg z] at h
      exact br_t rfl (nm_r (nI_1 i) (ih (i + 1) (by omega) k h m (by omega)))
    · rw [List.filter_cons_of_pos z] at h
      refine br_f (by decide) ⟨vi, nm_r (e' := k + a_weights i) (by rw [ci]) (nm_r (nI_1 i) (ih (i + 1) (by omega) _ ?_ m (by omega)))⟩
      rw [Int32.add_assoc]
      exact h
theorem yl_weight {A : Nat} {c l : Int32} (hA : f_added = nI A) (hA2 : A ≤ 200) (h0 : ¬ (kt_sd c ∧ kt_sd l) → pI (-1)) (h1 : kt_sd c → kt_sd l → pI (kt_sm a_weights ((kt_pp A a_there).filter (kt_ins a_xs a_ys (c - c / 64 * 64) (c / 64) (l - l / 64 * 64) (l / 64))))) : wpY_weight pI (f_added, f_size, a_xs, a_ys, a_weights, a_there) c l := by
  unfold wpY_weight
  refine yl_side (fun a => br_f (by decide) ?_) (fun a => br_t rfl (h0 (fun z => a z.1)))
  refine yl_side (fun b => br_f (by decide) ?_) (fun b => br_t rfl (h0 (fun z => b z.2)))
  have := h1 a b
  rw [← kt_ly_pp, List.range_eq_range'] at this
  exact ⟨A + 1, yl_w23 hA hA2 A 0 (by omega) 0 (by rw [Int32.zero_add]; exact this) (A + 1) (by omega)⟩
end KTQ
section KTR
variable {f_added f_alive f_buffered f_gathered f_x0 f_x1 f_y0 f_y1 f_foundMany f_foundTotal f_listing f_listed f_centreX f_centreY f_bestDistance f_bestPoint f_behindDistance f_behindPoint f_leftOut : Int32} {a_slotOf a_used a_pointOf a_px a_py a_heavy a_buffer a_filled a_leafSlot a_standsAt a_minX a_maxX a_minY a_maxY a_many a_total a_work a_spanFrom a_spanTo a_stack a_list : Nat → Int32}
variable {pI : Int32 → Prop} {post : Int32 → SX → Prop} {pl : Nat → Prop}
theorem xl_bsp {c : Int32} (h0 : kt_sd c → pI 0) (h1 : ¬ kt_sd c → pI 1) : wpX_badSpan pI (f_added, f_alive, f_buffered, f_gathered, f_x0, f_x1, f_y0, f_y1, f_foundMany, f_foundTotal, f_listing, f_listed, f_centreX, f_centreY, f_bestDistance, f_bestPoint, f_behindDistance, f_behindPoint, f_leftOut, a_slotOf, a_used, a_pointOf, a_px, a_py, a_heavy, a_buffer, a_filled, a_leafSlot, a_standsAt, a_minX, a_maxX, a_minY, a_maxY, a_many, a_total, a_work, a_spanFrom, a_spanTo, a_stack, a_list) c := by
  refine br_c (fun a => h1 (fun z => z.1 a)) (fun a => br_c (fun b => h1 (fun z => z.2.1 b)) (fun b => ?_))
  rw [(kt_span a b).1, (kt_span a b).2]
  exact br_c (fun d => h0 ⟨a, b, Int32.not_lt.mpr d⟩) (fun d => h1 (fun z => z.2.2 (kt_nle d)))
theorem xl_rect {po : SX → Prop} {c l : Int32} (hc : kt_sd c) (hl : kt_sd l) (h : po (f_added, f_alive, f_buffered, f_gathered, c - c / 64 * 64, c / 64, l - l / 64 * 64, l / 64, f_foundMany, f_foundTotal, f_listing, f_listed, f_centreX, f_centreY, f_bestDistance, f_bestPoint, f_behindDistance, f_behindPoint, f_leftOut, a_slotOf, a_used, a_pointOf, a_px, a_py, a_heavy, a_buffer, a_filled, a_leafSlot, a_standsAt, a_minX, a_maxX, a_minY, a_maxY, a_many, a_total, a_work, a_spanFrom, a_spanTo, a_stack, a_list)) : wpX_setRectangle po (f_added, f_alive, f_buffered, f_gathered, f_x0, f_x1, f_y0, f_y1, f_foundMany, f_foundTotal, f_listing, f_listed, f_centreX, f_centreY, f_bestDistance, f_bestPoint, f_behindDistance, f_behindPoint, f_leftOut, a_slotOf, a_used, a_pointOf, a_px, a_py, a_heavy, a_buffer, a_filled, a_leafSlot, a_standsAt, a_minX, a_maxX, a_minY, a_maxY, a_many, a_total, a_work, a_spanFrom, a_spanTo, a_stack, a_list) c l :=
  nm_r (kt_span hc.1 hc.2.1).1 (nm_r (kt_span hc.1 hc.2.1).2 (nm_r (kt_span hl.1 hl.2.1).1 (nm_r (kt_span hl.1 hl.2.1).2 h)))
theorem kt_nb0 : narrow .boolean (.int 0) = .int 0 := rfl
theorem kt_nb1 : narrow .boolean (.int 1) = .int 1 := rfl
theorem kt_fb0 : fits .boolean (.int 0) = true := by decide
theorem kt_fb1 : fits .boolean (.int 1) = true := by decide
theorem xl_count {B : Nat} {c l : Int32} (hP : kt_Pl pl B a_buffer a_filled a_leafSlot a_standsAt a_px a_py a_heavy a_minX a_maxX a_minY a_maxY a_many a_total) (hB : f_buffered = nI B) (h0 : ¬ (kt_sd c ∧ kt_sd l) → post (-1) (f_added, f_alive, f_buffered, f_gathered, f_x0, f_x1, f_y0, f_y1, f_foundMany, f_foundTotal, f_listing, f_listed, f_centreX, f_centreY, f_bestDistance, f_bestPoint, f_behindDistance, f_behindPoint, f_leftOut, a_slotOf, a_used, a_pointOf, a_px, a_py, a_heavy, a_buffer, a_filled, a_leafSlot, a_standsAt, a_minX, a_maxX, a_minY, a_maxY, a_many, a_total, a_work, a_spanFrom, a_spanTo, a_stack, a_list)) (h1 : kt_sd c → kt_sd l → ∀ fm ft ld st ls, post (nI ((kt_al a_buffer a_filled a_leafSlot B).filter (kt_ins a_px a_py (c - c / 64 * 64) (c / 64) (l - l / 64 * 64) (l / 64))).length) (f_added, f_alive, f_buffered, f_gathered, c - c / 64 * 64, c / 64, l - l / 64 * 64, l / 64, fm, ft, 0, ld, f_centreX, f_centreY, f_bestDistance, f_bestPoint, f_behindDistance, f_behindPoint, f_leftOut, a_slotOf, a_used, a_pointOf, a_px, a_py, a_heavy, a_buffer, a_filled, a_leafSlot, a_standsAt, a_minX, a_maxX, a_minY, a_maxY, a_many, a_total, a_work, a_spanFrom, a_spanTo, st, ls)) : wpX_count post (f_added, f_alive, f_buffered, f_gathered, f_x0, f_x1, f_y0, f_y1, f_foundMany, f_foundTotal, f_listing, f_listed, f_centreX, f_centreY, f_bestDistance, f_bestPoint, f_behindDistance, f_behindPoint, f_leftOut, a_slotOf, a_used, a_pointOf, a_px, a_py, a_heavy, a_buffer, a_filled, a_leafSlot, a_standsAt, a_minX, a_maxX, a_minY, a_maxY, a_many, a_total, a_work, a_spanFrom, a_spanTo, a_stack, a_list) c l := by
  unfold wpX_count
  refine xl_bsp (fun a => br_t rfl ?_) (fun a => br_f (by decide) (h0 (fun z => a z.1)))
  refine xl_bsp (fun b => br_t rfl ?_) (fun b => br_f (by decide) (h0 (fun z => b z.2)))
  refine xl_rect a b ?_
  refine xl_search hP hB kt_nb0 kt_fb0 (fun F fm ft ld st ls hF hp => ?_)
  have := h1 a b fm ft ld st ls
  rw [← hp.length_eq, ← hF.1] at this
  exact this
theorem xl_weight {B : Nat} {c l : Int32} (hP : kt_Pl pl B a_buffer a_filled a_leafSlot a_standsAt a_px a_py a_heavy a_minX a_maxX a_minY a_maxY a_many a_total) (hB : f_buffered = nI B) (h0 : ¬ (kt_sd c ∧ kt_sd l) → post (-1) (f_added, f_alive, f_buffered, f_gathered, f_x0, f_x1, f_y0, f_y1, f_foundMany, f_foundTotal, f_listing, f_listed, f_centreX, f_centreY, f_bestDistance, f_bestPoint, f_behindDistance, f_behindPoint, f_leftOut, a_slotOf, a_used, a_pointOf, a_px, a_py, a_heavy, a_buffer, a_filled, a_leafSlot, a_standsAt, a_minX, a_maxX, a_minY, a_maxY, a_many, a_total, a_work, a_spanFrom, a_spanTo, a_stack, a_list)) (h1 : kt_sd c → kt_sd l → ∀ fm ft ld st ls, post (kt_sm a_heavy ((kt_al a_buffer a_filled a_leafSlot B).filter (kt_ins a_px a_py (c - c / 64 * 64) (c / 64) (l - l / 64 * 64) (l / 64)))) (f_added, f_alive, f_buffered, f_gathered, c - c / 64 * 64, c / 64, l - l / 64 * 64, l / 64, fm, ft, 0, ld, f_centreX, f_centreY, f_bestDistance, f_bestPoint, f_behindDistance, f_behindPoint, f_leftOut, a_slotOf, a_used, a_pointOf, a_px, a_py, a_heavy, a_buffer, a_filled, a_leafSlot, a_standsAt, a_minX, a_maxX, a_minY, a_maxY, a_many, a_total, a_work, a_spanFrom, a_spanTo, st, ls)) : wpX_weight post (f_added, f_alive, f_buffered, f_gathered, f_x0, f_x1, f_y0, f_y1, f_foundMany, f_foundTotal, f_listing, f_listed, f_centreX, f_centreY, f_bestDistance, f_bestPoint, f_behindDistance, f_behindPoint, f_leftOut, a_slotOf, a_used, a_pointOf, a_px, a_py, a_heavy, a_buffer, a_filled, a_leafSlot, a_standsAt, a_minX, a_maxX, a_minY, a_maxY, a_many, a_total, a_work, a_spanFrom, a_spanTo, a_stack, a_list) c l := by
  unfold wpX_weight
  refine xl_bsp (fun a => br_t rfl ?_) (fun a => br_f (by decide) (h0 (fun z => a z.1)))
  refine xl_bsp (fun b => br_t rfl ?_) (fun b => br_f (by decide) (h0 (fun z => b z.2)))
  refine xl_rect a b ?_
  refine xl_search hP hB kt_nb0 kt_fb0 (fun F fm ft ld st ls hF hp => ?_)
  have := h1 a b fm ft ld st ls
  rw [← kt_sm_perm a_heavy hp, ← hF.2.1] at this
  exact this
end KTR
end
section
section KTS
/-! heaviest, next -/
def kt_hv (l : List Nat) (ws : Nat → Int32) (r : Int32) : Prop := (l = [] ∧ r = -4) ∨ ∃ b, b ∈ l ∧ b < 200 ∧ r = nI b ∧ ∀ q, q ∈ l → (ws q < ws b ∨ (ws q = ws b ∧ b ≤ q))
theorem kt_hv_u {l l' : List Nat} {ws : Nat → Int32} {r r' : Int32} (e : ∀ q, q ∈ l ↔ q ∈ l') (h : kt_hv l ws r) (h' : kt_hv l' ws r') : r' = r := by
  rcases h with ⟨h1, h2⟩ | ⟨b, b1, b0, b2, b3⟩
  · rcases h' with ⟨k1, k2⟩ | ⟨c, c1, c0, c2, c3⟩
    · rw [h2, k2]
    · have := (e c).mpr c1
      rw [h1] at this
      cases this
  · rcases h' with ⟨k1, k2⟩ | ⟨c, c1, c0, c2, c3⟩
    · have := (e b).mp b1
      rw [k1] at this
      cases this
    · have d1 := b3 c ((e c).mpr c1)
      have d2 := c3 b ((e b).mp b1)
      rw [b2, c2]
      rcases d1 with d1 | ⟨d1, d3⟩
      · rcases d2 with d2 | ⟨d2, d4⟩
        · exact absurd (Int32.lt_trans d1 d2) Int32.lt_irrefl
        · rw [d2] at d1; exact absurd d1 Int32.lt_irrefl
      · rcases d2 with d2 | ⟨d2, d4⟩
        · rw [d1] at d2; exact absurd d2 Int32.lt_irrefl
        · rw [show c = b by omega]
def kt_nx (l : List Nat) (fr r : Int32) : Prop := ((∀ q, q ∈ l → nI q < fr) ∧ r = -4) ∨ ∃ b, b ∈ l ∧ b < 200 ∧ r = nI b ∧ ¬ nI b < fr ∧ ∀ q, q ∈ l → ¬ nI q < fr → b ≤ q
theorem kt_nx_u {l l' : List Nat} {fr r r' : Int32} (e : ∀ q, q ∈ l ↔ q ∈ l') (h : kt_nx l fr r) (h' : kt_nx l' fr r') : r' = r := by
  rcases h with ⟨h1, h2⟩ | ⟨b, b1, b0, b2, b3, b4⟩
  · rcases h' with ⟨k1, k2⟩ | ⟨c, c1, c0, c2, c3, c4⟩
    · rw [h2, k2]
    · exact absurd (h1 c ((e c).mpr c1)) c3
  · rcases h' with ⟨k1, k2⟩ | ⟨c, c1, c0, c2, c3, c4⟩
    · exact absurd (k1 b ((e b).mp b1)) b3
    · have d1 := b4 c ((e c).mpr c1) c3
      have d2 := c4 b ((e b).mp b1) b3
      rw [b2, c2, show c = b by omega]
theorem kt_m4 {b : Nat} (h : b < 200) : ¬ nI b < 0 := nI_pos (by omega)
section
variable {f_added : Int32} {f_size : Int32} {a_xs a_ys a_weights a_there : Nat → Int32}
variable {pI : Int32 → Prop}
theorem yl_h24 {A : Nat} {c l : Int32} (hA : f_added = nI A) (hA2 : A ≤ 200) (h : ∀ r, kt_hv ((List.range A).filter (kt_ly a_xs a_ys a_there c l)) a_weights r → pI r) : ∀ d i, i + d = A → ∀ r : Int32, kt_hv ((List.range i).filter (kt_ly a_xs a_ys a_there c l)) a_weights r → ∀ n, d < n → wY_heaviest_24 pI c l f_added f_size a_xs a_ys a_weights a_there n r (nI i) := by
  subst hA
  intro d
  induction d with
  | zero =>
    intro i hi r hr n hn
    obtain ⟨m, rfl⟩ : ∃ m, n = m + 1 := ⟨n - 1, by omega⟩
    have ei : i = A := by omega
    subst ei
    exact br_t (kt_rfl _) (h r hr)
  | succ d ih =>
    intro i hi r hr n hn
    obtain ⟨m, rfl⟩ : ∃ m, n = m + 1 := ⟨n - 1, by omega⟩
    have ci : (nI i).toNatClampNeg = i := nI_clamp (by omega)
    have vi : vp_in (nI i) 200 := vp_in_nI (by omega) (by omega)
    have hi' := ih (i + 1) (by omega)
    rw [List.range_succ, List.filter_append] at hi'
    refine br_f (nI_ge (by omega) (by omega)) (yl_lies (by omega) (fun z => ?_) (fun z => ?_))
    · rw [List.filter_cons_of_neg z, List.filter_nil, List.append_nil] at hi'
      exact br_t rfl (nm_r (nI_1 i) (hi' r hr m (by omega)))
    · rw [List.filter_cons_of_pos z, List.filter_nil] at hi'
      refine br_f (by decide) ?_
      rcases hr with ⟨h1, h2⟩ | ⟨b, b1, b0, b2, b3⟩
      · rw [h1, List.nil_append] at hi'
        subst h2
        refine br_t (by decide) (nm_r (nI_1 i) (hi' (nI i) (Or.inr ⟨i, List.mem_singleton.mpr rfl, by omega, rfl, fun q hq => ?_⟩) m (by omega)))
        rw [List.mem_singleton.mp hq]
        exact Or.inr ⟨rfl, Nat.le_refl _⟩
      · subst b2
        have cb : (nI b).toNatClampNeg = b := nI_clamp (by omega)
        have vb : vp_in (nI b) 200 := vp_in_nI b0 (by omega)
        have hbi : b < i := List.mem_range.mp (List.mem_filter.mp b1).1
        refine br_f (kt_m4 b0) ⟨vi, vb, br_c (fun k => nm_r (nI_1 i) (hi' (nI b) (Or.inr ⟨b, List.mem_append_left _ b1, b0, rfl, fun q hq => ?_⟩) m (by omega))) (fun k => nm_r (nI_1 i) (hi' (nI i) (Or.inr ⟨i, List.mem_append_right _ (List.mem_singleton.mpr rfl), by omega, rfl, fun q hq => ?_⟩) m (by omega)))⟩
        · rw [ci, cb] at k
          rcases List.mem_append.mp hq with y | y
          · exact b3 q y
          · rw [List.mem_singleton.mp y]
            by_cases e : a_weights i = a_weights b
            · exact Or.inr ⟨e, by omega⟩
            · exact Or.inl (Int32.lt_of_le_of_ne k e)
        · rw [ci, cb] at k
          rcases List.mem_append.mp hq with y | y
          · refine Or.inl ?_
            rcases b3 q y with w | ⟨w, _⟩
            · exact Int32.lt_trans w (kt_nle k)
            · rw [w]; exact kt_nle k
          · rw [List.mem_singleton.mp y]
            exact Or.inr ⟨rfl, Nat.le_refl _⟩
theorem yl_heaviest {A : Nat} {c l : Int32} (hA : f_added = nI A) (hA2 : A ≤ 200) (h0 : ¬ (kt_sd c ∧ kt_sd l) → pI (-1)) (h1 : kt_sd c → kt_sd l → ∀ r, kt_hv ((kt_pp A a_there).filter (kt_ins a_xs a_ys (c - c / 64 * 64) (c / 64) (l - l / 64 * 64) (l / 64))) a_weights r → pI r) : wpY_heaviest pI (f_added, f_size, a_xs, a_ys, a_weights, a_there) c l := by
  unfold wpY_heaviest
  refine yl_side (fun a => br_f (by decide) ?_) (fun a => br_t rfl (h0 (fun z => a z.1)))
  refine yl_side (fun b => br_f (by decide) ?_) (fun b => br_t rfl (h0 (fun z => b z.2)))
  have := h1 a b
  rw [← kt_ly_pp] at this
  exact ⟨A + 1, yl_h24 hA hA2 this A 0 (by omega) (-4) (Or.inl ⟨rfl, rfl⟩) (A + 1) (by omega)⟩
theorem yl_n21 {A : Nat} {c l fr : Int32} (hA : f_added = nI A) (hA2 : A ≤ 200) (h : ∀ r, kt_nx ((List.range A).filter (kt_ly a_xs a_ys a_there c l)) fr r → pI r) : ∀ d i, i + d = A → (∀ q, q < i → kt_ly a_xs a_ys a_there c l q = true → nI q < fr) → ∀ n, d < n → wY_next_21 pI c l fr f_added f_size a_xs a_ys a_weights a_there n (nI i) := by
  subst hA
  intro d
  induction d with
  | zero =>
    intro i hi hq n hn
    obtain ⟨m, rfl⟩ : ∃ m, n = m + 1 := ⟨n - 1, by omega⟩
    have ei : i = A := by omega
    subst ei
    refine br_t (kt_rfl _) (h (-4) (Or.inl ⟨fun q hl => ?_, rfl⟩))
    obtain ⟨q1, q2⟩ := List.mem_filter.mp hl
    exact hq q (List.mem_range.mp q1) q2
  | succ d ih =>
    intro i hi hq n hn
    obtain ⟨m, rfl⟩ : ∃ m, n = m + 1 := ⟨n - 1, by omega⟩
    refine br_f (nI_ge (by omega) (by omega)) (br_c (fun k => nm_r (nI_1 i) (ih (i + 1) (by omega) (fun q q1 q2 => ?_) m (by omega))) (fun k => yl_lies (by omega) (fun z => br_t rfl (nm_r (nI_1 i) (ih (i + 1) (by omega) (fun q q1 q2 => ?_) m (by omega)))) (fun z => br_f (by decide) (h (nI i) (Or.inr ⟨i, List.mem_filter.mpr ⟨List.mem_range.mpr (by omega), z⟩, by omega, rfl, k, fun q hl hf => ?_⟩)))))
    · by_cases e : q = i
      · subst e; exact k
      · exact hq q (by omega) q2
    · by_cases e : q = i
      · subst e; exact absurd q2 z
      · exact hq q (by omega) q2
    · obtain ⟨q1, q2⟩ := List.mem_filter.mp hl
      rcases Nat.lt_or_ge q i with y | y
      · exact absurd (hq q y q2) hf
      · exact y
theorem yl_next {A : Nat} {c l fr : Int32} (hA : f_added = nI A) (hA2 : A ≤ 200) (h0 : ¬ (kt_sd c ∧ kt_sd l) → pI (-1)) (h1 : kt_sd c → kt_sd l → ∀ r, kt_nx ((kt_pp A a_there).filter (kt_ins a_xs a_ys (c - c / 64 * 64) (c / 64) (l - l / 64 * 64) (l / 64))) fr r → pI r) : wpY_next pI (f_added, f_size, a_xs, a_ys, a_weights, a_there) c l fr := by
  unfold wpY_next
  refine yl_side (fun a => br_f (by decide) ?_) (fun a => br_t rfl (h0 (fun z => a z.1)))
  refine yl_side (fun b => br_f (by decide) ?_) (fun b => br_t rfl (h0 (fun z => b z.2)))
  have := h1 a b
  rw [← kt_ly_pp] at this
  exact ⟨A + 1, yl_n21 hA hA2 this A 0 (by omega) (fun q hq => by omega) (A + 1) (by omega)⟩
end
section
variable {f_added f_alive f_buffered f_gathered f_x0 f_x1 f_y0 f_y1 f_foundMany f_foundTotal f_listing f_listed f_centreX f_centreY f_bestDistance f_bestPoint f_behindDistance f_behindPoint f_leftOut : Int32} {a_slotOf a_used a_pointOf a_px a_py a_heavy a_buffer a_filled a_leafSlot a_standsAt a_minX a_maxX a_minY a_maxY a_many a_total a_work a_spanFrom a_spanTo a_stack a_list : Nat → Int32}
variable {post : Int32 → SX → Prop} {pl : Nat → Prop}
/-- X's best slot so far -/
def kt_hx (l : List Nat) (hv poi : Nat → Int32) (r : Int32) : Prop := (l = [] ∧ r = -1) ∨ ∃ b, b ∈ l ∧ b < 64 ∧ r = nI b ∧ ∀ q, q ∈ l → (hv q < hv b ∨ (hv q = hv b ∧ poi b ≤ poi q))
theorem kt_take_s {F : List Nat} {i s : Nat} (h : F[i]? = some s) : F.take (i + 1) = F.take i ++ [s] := by
  rw [List.take_add_one, h]
  rfl
theorem xl_h34 {F : List Nat} {ws : Nat → Int32} (hF : ∀ s, s ∈ F → s < 64 ∧ a_pointOf s = nI (kt_P a_pointOf s) ∧ kt_P a_pointOf s < 200 ∧ a_heavy s = ws (kt_P a_pointOf s)) (hl : F.length ≤ 64) (hld : f_listed = nI F.length) (hls : ∀ i s, F[i]? = some s → a_list i = nI s) (h : ∀ r, kt_hv (F.map (kt_P a_pointOf)) ws r → post r (f_added, f_alive, f_buffered, f_gathered, f_x0, f_x1, f_y0, f_y1, f_foundMany, f_foundTotal, f_listing, f_listed, f_centreX, f_centreY, f_bestDistance, f_bestPoint, f_behindDistance, f_behindPoint, f_leftOut, a_slotOf, a_used, a_pointOf, a_px, a_py, a_heavy, a_buffer, a_filled, a_leafSlot, a_standsAt, a_minX, a_maxX, a_minY, a_maxY, a_many, a_total, a_work, a_spanFrom, a_spanTo, a_stack, a_list)) : ∀ d i, i + d = F.length → ∀ r, kt_hx (F.take i) a_heavy a_pointOf r → ∀ n, d < n → wX_heaviest_34 post f_added f_alive f_buffered f_gathered f_x0 f_x1 f_y0 f_y1 f_foundMany f_foundTotal f_listing f_listed f_centreX f_centreY f_bestDistance f_bestPoint f_behindDistance f_behindPoint f_leftOut a_slotOf a_used a_pointOf a_px a_py a_heavy a_buffer a_filled a_leafSlot a_standsAt a_minX a_maxX a_minY a_maxY a_many a_total a_work a_spanFrom a_spanTo a_stack a_list n r (nI i) := by
  subst hld
  intro d
  induction d with
  | zero =>
    intro i hi r hr n hn
    obtain ⟨m, rfl⟩ : ∃ m, n = m + 1 := ⟨n - 1, by omega⟩
    have ei : i = F.length := by omega
    subst ei
    rw [List.take_length] at hr
    refine br_t (kt_rfl _) ?_
    rcases hr with ⟨h1, h2⟩ | ⟨b, b1, b0, b2, b3⟩
    · subst h2
      refine br_f (by decide) (h _ (Or.inl ⟨?_, rfl⟩))
      rw [h1]
      rfl
    · subst b2
      have cb : (nI b).toNatClampNeg = b := nI_clamp (by omega)
      have vb : vp_in (nI b) 64 := vp_in_nI b0 (by omega)
      obtain ⟨_, f1, f2, f3⟩ := hF b b1
      refine br_t (nI_pos' (by omega)) ⟨vb, ?_⟩
      rw [cb, f1]
      refine h _ (Or.inr ⟨kt_P a_pointOf b, List.mem_map.mpr ⟨b, b1, rfl⟩, f2, rfl, fun q hq => ?_⟩)
      obtain ⟨z, z1, rfl⟩ := List.mem_map.mp hq
      obtain ⟨_, g1, g2, g3⟩ := hF z z1
      rw [← f3, ← g3]
      rcases b3 z z1 with y | ⟨y, w⟩
      · exact Or.inl y
      · rw [f1, g1] at w
        exact Or.inr ⟨y, (nI_leI (by omega) (by omega)).mp w⟩
  | succ d ih =>
    intro i hi r hr n hn
    obtain ⟨m, rfl⟩ : ∃ m, n = m + 1 := ⟨n - 1, by omega⟩
    have ci : (nI i).toNatClampNeg = i := nI_clamp (by omega)
    have vi : vp_in (nI i) 64 := vp_in_nI (by omega) (by omega)
    obtain ⟨s, hs⟩ : ∃ s, F[i]? = some s := ⟨F[i]'(by omega), List.getElem?_eq_getElem (by omega)⟩
    have hsF : s ∈ F := List.mem_of_getElem? hs
    obtain ⟨s1, s2, s3, s4⟩ := hF s hsF
    have cs : (nI s).toNatClampNeg = s := nI_clamp (by omega)
    have vs : vp_in (nI s) 64 := vp_in_nI (by omega) (by omega)
    have hi' := ih (i + 1) (by omega)
    rw [kt_take_s hs] at hi'
    refine br_f (nI_ge (by omega) (by omega)) ⟨vi, nm_r (e' := nI s) (by rw [ci]; exact hls i s hs) ?_⟩
    have hnew : kt_hx (F.take i ++ [s]) a_heavy a_pointOf (nI s) → wX_heaviest_72 post (wX_heaviest_34 post f_added f_alive f_buffered f_gathered f_x0 f_x1 f_y0 f_y1 f_foundMany f_foundTotal f_listing (nI F.length) f_centreX f_centreY f_bestDistance f_bestPoint f_behindDistance f_behindPoint f_leftOut a_slotOf a_used a_pointOf a_px a_py a_heavy a_buffer a_filled a_leafSlot a_standsAt a_minX a_maxX a_minY a_maxY a_many a_total a_work a_spanFrom a_spanTo a_stack a_list m) r (nI i) (nI s) f_added f_alive f_buffered f_gathered f_x0 f_x1 f_y0 f_y1 f_foundMany f_foundTotal f_listing (nI F.length) f_centreX f_centreY f_bestDistance f_bestPoint f_behindDistance f_behindPoint f_leftOut a_slotOf a_used a_pointOf a_px a_py a_heavy a_buffer a_filled a_leafSlot a_standsAt a_minX a_maxX a_minY a_maxY a_many a_total a_work a_spanFrom a_spanTo a_stack a_list := fun k =>
      br_f (by decide) (nm_r (nI_1 i) (hi' (nI s) k m (by omega)))
    rcases hr with ⟨h1, h2⟩ | ⟨b, b1, b0, b2, b3⟩
    · refine br_t (by rw [h2]; decide) (hnew (Or.inr ⟨s, List.mem_append_right _ (List.mem_singleton.mpr rfl), s1, rfl, fun q hq => ?_⟩))
      rw [h1, List.nil_append] at hq
      rw [List.mem_singleton.mp hq]
      exact Or.inr ⟨rfl, kt_rfl _⟩
    · subst b2
      have cb : (nI b).toNatClampNeg = b := nI_clamp (by omega)
      have vb : vp_in (nI b) 64 := vp_in_nI b0 (by omega)
      refine br_f (nI_pos (by omega)) ⟨vs, vb, ?_⟩
      rw [cs, cb]
      refine br_c (fun k => ?_) (fun k => hnew (Or.inr ⟨s, List.mem_append_right _ (List.mem_singleton.mpr rfl), s1, rfl, fun q hq => ?_⟩))
      · refine br_t rfl ⟨vs, vb, ?_⟩
        rw [cs, cb]
        refine br_c (fun e => ⟨vs, vb, ?_⟩) (fun e => nm_r (nI_1 i) (hi' (nI b) (Or.inr ⟨b, List.mem_append_left _ b1, b0, rfl, fun q hq => ?_⟩) m (by omega)))
        · refine br_c (fun g => nm_r (nI_1 i) (hi' (nI b) (Or.inr ⟨b, List.mem_append_left _ b1, b0, rfl, fun q hq => ?_⟩) m (by omega))) (fun g => nm_r (nI_1 i) (hi' (nI s) (Or.inr ⟨s, List.mem_append_right _ (List.mem_singleton.mpr rfl), s1, rfl, fun q hq => ?_⟩) m (by omega)))
          · rcases List.mem_append.mp hq with y | y
            · exact b3 q y
            · rw [List.mem_singleton.mp y]; exact Or.inr ⟨e, g⟩
          · rcases List.mem_append.mp hq with y | y
            · rcases b3 q y with w | ⟨w, w2⟩
              · exact Or.inl (by rw [e]; exact w)
              · exact Or.inr ⟨w.trans e.symm, kt_tr (kt_lt_le (kt_nle g)) w2⟩
            · rw [List.mem_singleton.mp y]; exact Or.inr ⟨rfl, kt_rfl _⟩
        · rcases List.mem_append.mp hq with y | y
          · exact b3 q y
          · rw [List.mem_singleton.mp y]; exact Or.inl (Int32.lt_of_le_of_ne k e)
      · rcases List.mem_append.mp hq with y | y
        · refine Or.inl ?_
          rcases b3 q y with w | ⟨w, _⟩
          · exact Int32.lt_trans w (kt_nle k)
          · rw [w]; exact kt_nle k
        · rw [List.mem_singleton.mp y]; exact Or.inr ⟨rfl, kt_rfl _⟩
theorem xl_heaviest {B : Nat} {c l : Int32} {ws : Nat → Int32} (hP : kt_Pl pl B a_buffer a_filled a_leafSlot a_standsAt a_px a_py a_heavy a_minX a_maxX a_minY a_maxY a_many a_total) (hB : f_buffered = nI B) (hT : ∀ s, s < 64 → pl s → a_pointOf s = nI (kt_P a_pointOf s) ∧ kt_P a_pointOf s < 200 ∧ a_heavy s = ws (kt_P a_pointOf s)) (h0 : ¬ (kt_sd c ∧ kt_sd l) → post (-1) (f_added, f_alive, f_buffered, f_gathered, f_x0, f_x1, f_y0, f_y1, f_foundMany, f_foundTotal, f_listing, f_listed, f_centreX, f_centreY, f_bestDistance, f_bestPoint, f_behindDistance, f_behindPoint, f_leftOut, a_slotOf, a_used, a_pointOf, a_px, a_py, a_heavy, a_buffer, a_filled, a_leafSlot, a_standsAt, a_minX, a_maxX, a_minY, a_maxY, a_many, a_total, a_work, a_spanFrom, a_spanTo, a_stack, a_list)) (h1 : kt_sd c → kt_sd l → ∀ r fm ft ld st ls, kt_hv (((kt_al a_buffer a_filled a_leafSlot B).filter (kt_ins a_px a_py (c - c / 64 * 64) (c / 64) (l - l / 64 * 64) (l / 64))).map (kt_P a_pointOf)) ws r → post r (f_added, f_alive, f_buffered, f_gathered, c - c / 64 * 64, c / 64, l - l / 64 * 64, l / 64, fm, ft, 1, ld, f_centreX, f_centreY, f_bestDistance, f_bestPoint, f_behindDistance, f_behindPoint, f_leftOut, a_slotOf, a_used, a_pointOf, a_px, a_py, a_heavy, a_buffer, a_filled, a_leafSlot, a_standsAt, a_minX, a_maxX, a_minY, a_maxY, a_many, a_total, a_work, a_spanFrom, a_spanTo, st, ls)) : wpX_heaviest post (f_added, f_alive, f_buffered, f_gathered, f_x0, f_x1, f_y0, f_y1, f_foundMany, f_foundTotal, f_listing, f_listed, f_centreX, f_centreY, f_bestDistance, f_bestPoint, f_behindDistance, f_behindPoint, f_leftOut, a_slotOf, a_used, a_pointOf, a_px, a_py, a_heavy, a_buffer, a_filled, a_leafSlot, a_standsAt, a_minX, a_maxX, a_minY, a_maxY, a_many, a_total, a_work, a_spanFrom, a_spanTo, a_stack, a_list) c l := by
  unfold wpX_heaviest
  refine xl_bsp (fun a => br_t rfl ?_) (fun a => br_f (by decide) (h0 (fun z => a z.1)))
  refine xl_bsp (fun b => br_t rfl ?_) (fun b => br_f (by decide) (h0 (fun z => b z.2)))
  refine xl_rect a b ?_
  refine xl_search hP hB kt_nb1 kt_fb1 (fun F fm ft ld st ls hF hp => ?_)
  obtain ⟨_, _, hF3⟩ := hF
  obtain ⟨e1, e2⟩ := hF3 (by decide)
  have hlen : F.length ≤ 64 := by
    have h1 := hp.length_eq
    have h2 := List.length_filter_le (kt_ins a_px a_py (c - c / 64 * 64) (c / 64) (l - l / 64 * 64) (l / 64)) (kt_al a_buffer a_filled a_leafSlot B)
    have h3 := kt_al_64 hP
    omega
  refine ⟨F.length + 1, xl_h34 (ws := ws) (fun s hs => ?_) hlen e1 e2 (fun r hr => h1 a b r fm ft ld st ls ?_) F.length 0 (by omega) (-1) (Or.inl ⟨rfl, rfl⟩) (F.length + 1) (by omega)⟩
  · obtain ⟨m1, m2⟩ := (kt_al_mem hP).mp (List.mem_filter.mp (hp.mem_iff.mp hs)).1
    exact ⟨m1, hT s m1 m2⟩
  · rcases hr with ⟨k1, k2⟩ | ⟨x, x1, x0, x2, x3⟩
    · refine Or.inl ⟨?_, k2⟩
      have k3 := List.map_eq_nil_iff.mp k1
      rw [k3] at hp
      rw [List.nil_perm.mp hp]
      rfl
    · exact Or.inr ⟨x, (hp.map _).mem_iff.mp x1, x0, x2, fun q hq => x3 q ((hp.map _).mem_iff.mpr hq)⟩
theorem xl_n36 {F : List Nat} {fr : Int32} (hF : ∀ s, s ∈ F → s < 64 ∧ a_pointOf s = nI (kt_P a_pointOf s) ∧ kt_P a_pointOf s < 200) (hl : F.length ≤ 64) (hld : f_listed = nI F.length) (hls : ∀ i s, F[i]? = some s → a_list i = nI s) (h : ∀ r, kt_nx (F.map (kt_P a_pointOf)) fr r → post r (f_added, f_alive, f_buffered, f_gathered, f_x0, f_x1, f_y0, f_y1, f_foundMany, f_foundTotal, f_listing, f_listed, f_centreX, f_centreY, f_bestDistance, f_bestPoint, f_behindDistance, f_behindPoint, f_leftOut, a_slotOf, a_used, a_pointOf, a_px, a_py, a_heavy, a_buffer, a_filled, a_leafSlot, a_standsAt, a_minX, a_maxX, a_minY, a_maxY, a_many, a_total, a_work, a_spanFrom, a_spanTo, a_stack, a_list)) : ∀ d i, i + d = F.length → ∀ r, kt_nx ((F.take i).map (kt_P a_pointOf)) fr r → ∀ n, d < n → wX_next_36 post fr f_added f_alive f_buffered f_gathered f_x0 f_x1 f_y0 f_y1 f_foundMany f_foundTotal f_listing f_listed f_centreX f_centreY f_bestDistance f_bestPoint f_behindDistance f_behindPoint f_leftOut a_slotOf a_used a_pointOf a_px a_py a_heavy a_buffer a_filled a_leafSlot a_standsAt a_minX a_maxX a_minY a_maxY a_many a_total a_work a_spanFrom a_spanTo a_stack a_list n r (nI i) := by
  subst hld
  intro d
  induction d with
  | zero =>
    intro i hi r hr n hn
    obtain ⟨m, rfl⟩ : ∃ m, n = m + 1 := ⟨n - 1, by omega⟩
    have ei : i = F.length := by omega
    subst ei
    rw [List.take_length] at hr
    exact br_t (kt_rfl _) (h r hr)
  | succ d ih =>
    intro i hi r hr n hn
    obtain ⟨m, rfl⟩ : ∃ m, n = m + 1 := ⟨n - 1, by omega⟩
    have ci : (nI i).toNatClampNeg = i := nI_clamp (by omega)
    have vi : vp_in (nI i) 64 := vp_in_nI (by omega) (by omega)
    obtain ⟨s, hs⟩ : ∃ s, F[i]? = some s := ⟨F[i]'(by omega), List.getElem?_eq_getElem (by omega)⟩
    have hsF : s ∈ F := List.mem_of_getElem? hs
    obtain ⟨s1, s2, s3⟩ := hF s hsF
    have cs : (nI s).toNatClampNeg = s := nI_clamp (by omega)
    have vs : vp_in (nI s) 64 := vp_in_nI (by omega) (by omega)
    have hi' := ih (i + 1) (by omega)
    rw [kt_take_s hs, List.map_append] at hi'
    have el : a_list (nI i).toNatClampNeg = nI s := by rw [ci]; exact hls i s hs
    refine br_f (nI_ge (by omega) (by omega)) ⟨vi, ?_⟩
    rw [el]
    refine ⟨vs, nm_r (e' := nI (kt_P a_pointOf s)) (by rw [cs]; exact s2) ?_⟩
    have hmem : kt_P a_pointOf s ∈ (F.take i).map (kt_P a_pointOf) ++ List.map (kt_P a_pointOf) [s] := List.mem_append_right _ (List.mem_singleton.mpr rfl)
    have hsplit : ∀ q, q ∈ (F.take i).map (kt_P a_pointOf) ++ List.map (kt_P a_pointOf) [s] → q ∈ (F.take i).map (kt_P a_pointOf) ∨ q = kt_P a_pointOf s := fun q hq => by
      rcases List.mem_append.mp hq with y | y
      · exact Or.inl y
      · exact Or.inr (List.mem_singleton.mp y)
    refine br_c (fun k => nm_r (nI_1 i) (hi' r ?_ m (by omega))) (fun k => ?_)
    · rcases hr with ⟨h1, h2⟩ | ⟨b, b1, b0, b2, b3, b4⟩
      · refine Or.inl ⟨fun q hq => ?_, h2⟩
        rcases hsplit q hq with y | y
        · exact h1 q y
        · rw [y]; exact k
      · refine Or.inr ⟨b, List.mem_append_left _ b1, b0, b2, b3, fun q hq hf => ?_⟩
        rcases hsplit q hq with y | y
        · exact b4 q y hf
        · rw [y] at hf; exact absurd k hf
    · rcases hr with ⟨h1, h2⟩ | ⟨b, b1, b0, b2, b3, b4⟩
      · refine br_t (by rw [h2]; decide) (nm_r (nI_1 i) (hi' _ (Or.inr ⟨kt_P a_pointOf s, hmem, s3, rfl, k, fun q hq hf => ?_⟩) m (by omega)))
        rcases hsplit q hq with y | y
        · exact absurd (h1 q y) hf
        · rw [y]; exact Nat.le_refl _
      · subst b2
        refine br_f (kt_m4 b0) (br_c (fun g => nm_r (nI_1 i) (hi' _ (Or.inr ⟨b, List.mem_append_left _ b1, b0, rfl, b3, fun q hq hf => ?_⟩) m (by omega))) (fun g => nm_r (nI_1 i) (hi' _ (Or.inr ⟨kt_P a_pointOf s, hmem, s3, rfl, k, fun q hq hf => ?_⟩) m (by omega))))
        · rcases hsplit q hq with y | y
          · exact b4 q y hf
          · rw [y]; exact (nI_leI (by omega) (by omega)).mp g
        · rcases hsplit q hq with y | y
          · have q1 := b4 q y hf
            have q2 := mt (nI_leI (a := b) (b := kt_P a_pointOf s) (by omega) (by omega)).mpr g
            omega
          · rw [y]; exact Nat.le_refl _
theorem xl_next {B : Nat} {c l fr : Int32} (hP : kt_Pl pl B a_buffer a_filled a_leafSlot a_standsAt a_px a_py a_heavy a_minX a_maxX a_minY a_maxY a_many a_total) (hB : f_buffered = nI B) (hT : ∀ s, s < 64 → pl s → a_pointOf s = nI (kt_P a_pointOf s) ∧ kt_P a_pointOf s < 200) (h0 : ¬ (kt_sd c ∧ kt_sd l) → post (-1) (f_added, f_alive, f_buffered, f_gathered, f_x0, f_x1, f_y0, f_y1, f_foundMany, f_foundTotal, f_listing, f_listed, f_centreX, f_centreY, f_bestDistance, f_bestPoint, f_behindDistance, f_behindPoint, f_leftOut, a_slotOf, a_used, a_pointOf, a_px, a_py, a_heavy, a_buffer, a_filled, a_leafSlot, a_standsAt, a_minX, a_maxX, a_minY, a_maxY, a_many, a_total, a_work, a_spanFrom, a_spanTo, a_stack, a_list)) (h1 : kt_sd c → kt_sd l → ∀ r fm ft ld st ls, kt_nx (((kt_al a_buffer a_filled a_leafSlot B).filter (kt_ins a_px a_py (c - c / 64 * 64) (c / 64) (l - l / 64 * 64) (l / 64))).map (kt_P a_pointOf)) fr r → post r (f_added, f_alive, f_buffered, f_gathered, c - c / 64 * 64, c / 64, l - l / 64 * 64, l / 64, fm, ft, 1, ld, f_centreX, f_centreY, f_bestDistance, f_bestPoint, f_behindDistance, f_behindPoint, f_leftOut, a_slotOf, a_used, a_pointOf, a_px, a_py, a_heavy, a_buffer, a_filled, a_leafSlot, a_standsAt, a_minX, a_maxX, a_minY, a_maxY, a_many, a_total, a_work, a_spanFrom, a_spanTo, st, ls)) : wpX_next post (f_added, f_alive, f_buffered, f_gathered, f_x0, f_x1, f_y0, f_y1, f_foundMany, f_foundTotal, f_listing, f_listed, f_centreX, f_centreY, f_bestDistance, f_bestPoint, f_behindDistance, f_behindPoint, f_leftOut, a_slotOf, a_used, a_pointOf, a_px, a_py, a_heavy, a_buffer, a_filled, a_leafSlot, a_standsAt, a_minX, a_maxX, a_minY, a_maxY, a_many, a_total, a_work, a_spanFrom, a_spanTo, a_stack, a_list) c l fr := by
  unfold wpX_next
  refine xl_bsp (fun a => br_t rfl ?_) (fun a => br_f (by decide) (h0 (fun z => a z.1)))
  refine xl_bsp (fun b => br_t rfl ?_) (fun b => br_f (by decide) (h0 (fun z => b z.2)))
  refine xl_rect a b ?_
  refine xl_search hP hB kt_nb1 kt_fb1 (fun F fm ft ld st ls hF hp => ?_)
  obtain ⟨_, _, hF3⟩ := hF
  obtain ⟨e1, e2⟩ := hF3 (by decide)
  have hlen : F.length ≤ 64 := by
    have h1 := hp.length_eq
    have h2 := List.length_filter_le (kt_ins a_px a_py (c - c / 64 * 64) (c / 64) (l - l / 64 * 64) (l / 64)) (kt_al a_buffer a_filled a_leafSlot B)
    have h3 := kt_al_64 hP
    omega
  refine ⟨F.length + 1, xl_n36 (fun s hs => ?_) hlen e1 e2 (fun r hr => h1 a b r fm ft ld st ls ?_) F.length 0 (by omega) (-4) (Or.inl ⟨fun q hq => (nomatch hq), rfl⟩) (F.length + 1) (by omega)⟩
  · obtain ⟨m1, m2⟩ := (kt_al_mem hP).mp (List.mem_filter.mp (hp.mem_iff.mp hs)).1
    exact ⟨m1, hT s m1 m2⟩
  · rcases hr with ⟨k1, k2⟩ | ⟨x, x1, x0, x2, x3, x4⟩
    · exact Or.inl ⟨fun q hq => k1 q ((hp.map _).mem_iff.mpr hq), k2⟩
    · exact Or.inr ⟨x, (hp.map _).mem_iff.mp x1, x0, x2, x3, fun q hq => x4 q ((hp.map _).mem_iff.mpr hq)⟩
end
end KTS
end
section
section KTT
/-! the k-th nearest -/
def kt_kb (d p d' p' : Int32) : Bool := decide (d < d') || (decide (d = d') && decide (p < p'))
theorem kt_kb_t {d p d' p' : Int32} : kt_kb d p d' p' = true ↔ kt_kl d p d' p' := by
  unfold kt_kb kt_kl
  rw [Bool.or_eq_true, Bool.and_eq_true, decide_eq_true_iff, decide_eq_true_iff, decide_eq_true_iff]
theorem kt_cp_one {f : Nat → Bool} {s : Nat} : ∀ {T : List Nat}, T.Nodup → s ∈ T → ¬ f s = true → T.countP (fun z => f z || decide (z = s)) = T.countP f + 1 := by
  intro T
  induction T with
  | nil => intro _ h; cases h
  | cons a T ih =>
    intro hn hs hf
    obtain ⟨h1, h2⟩ := List.nodup_cons.mp hn
    rw [List.countP_cons, List.countP_cons]
    by_cases e : s = a
    · subst e
      have e1 : T.countP (fun z => f z || decide (z = s)) = T.countP f := by
        refine kt_cp_eq (fun z hz => ?_)
        have : z ≠ s := fun e => h1 (e ▸ hz)
        rw [decide_eq_false this, Bool.or_false]
      rw [e1, if_neg hf, decide_eq_true rfl, Bool.or_true, if_pos rfl]
    · have hs' : s ∈ T := (List.mem_cons.mp hs).resolve_left e
      rw [ih h2 hs' hf, decide_eq_false (fun z => e z.symm), Bool.or_false]
      omega
def kt_bf (T : List Nat) (d p : Nat → Int32) (s : Nat) : Nat := T.countP (fun z => kt_kb (d z) (p z) (d s) (p s))
def kt_NI (T : List Nat) (d p : Nat → Int32) (bD bP bn : Int32) (i : Nat) : Prop := (i = 0 ∧ bD = -1 ∧ bP = -1) ∨ (0 < i ∧ ∃ s, s ∈ T ∧ bD = d s ∧ bP = p s ∧ bn = p s ∧ kt_bf T d p s = i - 1)
theorem kt_NI_s {pl : Nat → Prop} {T : List Nat} {d p : Nat → Int32} {bD bP bn bd bp : Int32} {i : Nat} (hT : ∀ s, s ∈ T ↔ s < 64 ∧ pl s) (hn : T.Nodup) (hj : ∀ a b, a ∈ T → b ∈ T → p a = p b → a = b) (hr : ∀ s, s ∈ T → (-1 < d s ∧ d s < 1000000 ∧ ¬ p s = -1)) (hi : i < T.length) (h : kt_NI T d p bD bP bn i) (hS : kt_St pl (fun s => kt_kl bD bP (d s) (p s) ∧ ¬ p s = -1) d p T 1000000 200 bd bp) : ∃ s, s ∈ T ∧ bd = d s ∧ bp = p s ∧ kt_bf T d p s = i := by
  have hc : T.countP (fun z => !kt_kb bD bP (d z) (p z)) = i := by
    rcases h with ⟨rfl, rfl, rfl⟩ | ⟨h0, s, h1, rfl, rfl, _, h2⟩
    · refine List.countP_eq_zero.mpr (fun z hz => ?_)
      rw [kt_kb_t.mpr (Or.inl (hr z hz).1)]
      decide
    · have e1 : T.countP (fun z => !kt_kb (d s) (p s) (d z) (p z)) = T.countP (fun z => kt_kb (d z) (p z) (d s) (p s) || decide (z = s)) := by
        refine kt_cp_eq (fun z hz => ?_)
        rw [Bool.or_eq_true, decide_eq_true_iff, kt_kb_t, Bool.not_eq_true', ← Bool.not_eq_true, kt_kb_t]
        constructor
        · intro a
          by_cases b : kt_kl (d z) (p z) (d s) (p s)
          · exact Or.inl b
          · exact Or.inr (hj z s hz h1 (kt_kl_tot b a).2)
        · rintro (a | a)
          · exact fun b => kt_kl_irr _ _ (kt_kl_tr a b)
          · subst a; exact kt_kl_irr _ _
      have e2 := kt_cp_one (f := fun z => kt_kb (d z) (p z) (d s) (p s)) hn h1 (fun z => kt_kl_irr _ _ (kt_kb_t.mp z))
      unfold kt_bf at h2
      rw [e1, e2, h2]
      omega
  have hex : ∃ z, z ∈ T ∧ kt_kl bD bP (d z) (p z) := by
    refine Classical.byContradiction (fun hno => ?_)
    have : T.countP (fun z => !kt_kb bD bP (d z) (p z)) = T.length := by
      refine List.countP_eq_length.mpr (fun z hz => ?_)
      rw [Bool.not_eq_true', ← Bool.not_eq_true, kt_kb_t]
      exact fun y => hno ⟨z, hz, y⟩
    omega
  obtain ⟨z0, hz0, hk0⟩ := hex
  obtain ⟨S1, S2⟩ := hS
  rcases S1 with ⟨e1, e2⟩ | ⟨_, s, s1, s2, s3, s4, s5⟩
  · subst e1 e2
    exact absurd (Or.inl (hr z0 hz0).2.1) (S2 z0 hz0 ⟨hk0, (hr z0 hz0).2.2⟩)
  · refine ⟨s, (hT s).mpr ⟨s1, s2⟩, s4, s5, ?_⟩
    subst s4 s5
    rw [← hc]
    unfold kt_bf
    refine kt_cp_eq (fun z hz => ?_)
    rw [kt_kb_t, Bool.not_eq_true', ← Bool.not_eq_true, kt_kb_t]
    constructor
    · intro a b
      exact S2 z hz ⟨b, (hr z hz).2.2⟩ a
    · intro a
      by_cases b : kt_kl (d z) (p z) bD bP
      · exact kt_kl_tr b s3.1
      · obtain ⟨e1, e2⟩ := kt_kl_tot b a
        rw [e1, e2]
        exact s3.1
/-- fewer come before an earlier one -/
theorem kt_bf_lt {T : List Nat} {d p : Nat → Int32} {a b : Nat} (ha : a ∈ T) (h : kt_kl (d a) (p a) (d b) (p b)) : kt_bf T d p a < kt_bf T d p b := by
  unfold kt_bf
  exact kt_cp_lt (fun z hz y => kt_kb_t.mpr (kt_kl_tr (kt_kb_t.mp y) h)) ha (kt_kb_t.mpr h) (fun y => kt_kl_irr _ _ (kt_kb_t.mp y))
theorem kt_bf_inj {T : List Nat} {d p : Nat → Int32} {a b : Nat} (ha : a ∈ T) (hb : b ∈ T) (h : kt_bf T d p a = kt_bf T d p b) : p a = p b := by
  by_cases h1 : kt_kl (d a) (p a) (d b) (p b)
  · have := kt_bf_lt ha h1; omega
  · by_cases h2 : kt_kl (d b) (p b) (d a) (p a)
    · have := kt_bf_lt hb h2; omega
    · exact (kt_kl_tot h1 h2).2
theorem kt_bf_len {T : List Nat} {d p : Nat → Int32} {a : Nat} (ha : a ∈ T) : kt_bf T d p a < T.length := by
  unfold kt_bf
  rw [show T.length = T.countP (fun _ => true) from (List.countP_eq_length.mpr (fun _ _ => rfl)).symm]
  exact kt_cp_lt (fun z hz y => rfl) ha rfl (fun y => kt_kl_irr _ _ (kt_kb_t.mp y))
section
variable {f_added f_alive f_buffered f_gathered f_x0 f_x1 f_y0 f_y1 f_foundMany f_foundTotal f_listing f_listed f_centreX f_centreY f_bestDistance f_bestPoint f_behindDistance f_behindPoint f_leftOut : Int32} {a_slotOf a_used a_pointOf a_px a_py a_heavy a_buffer a_filled a_leafSlot a_standsAt a_minX a_maxX a_minY a_maxY a_many a_total a_work a_spanFrom a_spanTo a_stack a_list : Nat → Int32}
variable {post : Int32 → SX → Prop} {pl : Nat → Prop}
theorem xl_e35 {B K : Nat} (hP : kt_Pl pl B a_buffer a_filled a_leafSlot a_standsAt a_px a_py a_heavy a_minX a_maxX a_minY a_maxY a_many a_total) (hB : f_buffered = nI B) (hx : kt_b63 f_centreX) (hy : kt_b63 f_centreY) (hlo : f_leftOut = -1) (hj : ∀ a b, a < 64 → pl a → b < 64 → pl b → a_pointOf a = a_pointOf b → a = b) (hq : ∀ s, s < 64 → pl s → ¬ a_pointOf s = -1) (hK : K < (kt_al a_buffer a_filled a_leafSlot B).length) (h : ∀ s bd bD bP st, s < 64 → pl s → kt_bf (kt_al a_buffer a_filled a_leafSlot B) (fun s => kt_ds (a_px s) (a_py s) f_centreX f_centreY) a_pointOf s = K → post (a_pointOf s) (f_added, f_alive, f_buffered, f_gathered, f_x0, f_x1, f_y0, f_y1, f_foundMany, f_foundTotal, f_listing, f_listed, f_centreX, f_centreY, bd, a_pointOf s, bD, bP, f_leftOut, a_slotOf, a_used, a_pointOf, a_px, a_py, a_heavy, a_buffer, a_filled, a_leafSlot, a_standsAt, a_minX, a_maxX, a_minY, a_maxY, a_many, a_total, a_work, a_spanFrom, a_spanTo, st, a_list)) : ∀ d i, i + d = K + 1 → ∀ (bd bp bD bP : Int32) (st : Nat → Int32), kt_NI (kt_al a_buffer a_filled a_leafSlot B) (fun s => kt_ds (a_px s) (a_py s) f_centreX f_centreY) a_pointOf bD bP bp i → ∀ n, d < n → wX_near_35 post (nI K) n (nI i) f_added f_alive f_buffered f_gathered f_x0 f_x1 f_y0 f_y1 f_foundMany f_foundTotal f_listing f_listed f_centreX f_centreY bd bp bD bP f_leftOut a_slotOf a_used a_pointOf a_px a_py a_heavy a_buffer a_filled a_leafSlot a_standsAt a_minX a_maxX a_minY a_maxY a_many a_total a_work a_spanFrom a_spanTo st a_list := by
  have h64 := kt_al_64 hP
  have hr : ∀ s, s ∈ kt_al a_buffer a_filled a_leafSlot B → (-1 < kt_ds (a_px s) (a_py s) f_centreX f_centreY ∧ kt_ds (a_px s) (a_py s) f_centreX f_centreY < 1000000 ∧ ¬ a_pointOf s = -1) := by
    intro s hs
    obtain ⟨s1, s2⟩ := (kt_al_mem hP).mp hs
    obtain ⟨b0, b1, b2, b3⟩ := hP.2.2.2.2 s s1 s2
    have := kt_ds0 (kt_b63of b0 b1) (kt_b63of b2 b3) hx hy
    refine ⟨?_, ?_, hq s s1 s2⟩
    · rw [Int32.lt_iff_toInt_lt, show (-1 : Int32).toInt = -1 from by decide]; omega
    · rw [Int32.lt_iff_toInt_lt, show (1000000 : Int32).toInt = 1000000 from by decide]; omega
  intro d
  induction d with
  | zero =>
    intro i hi bd bp bD bP st hN n hn
    obtain ⟨m, rfl⟩ : ∃ m, n = m + 1 := ⟨n - 1, by omega⟩
    have ei : i = K + 1 := by omega
    subst ei
    rcases hN with ⟨z, _⟩ | ⟨_, s, s1, s2, s3, s4, s5⟩
    · omega
    · subst s4
      obtain ⟨q1, q2⟩ := (kt_al_mem hP).mp s1
      exact br_t (nI_lt (by omega) (by omega)) (h s bd bD bP st q1 q2 (by rw [s5]; omega))
  | succ d ih =>
    intro i hi bd bp bD bP st hN n hn
    obtain ⟨m, rfl⟩ : ∃ m, n = m + 1 := ⟨n - 1, by omega⟩
    refine br_f (nI_nlt (by omega) (by omega)) (xl_snear hP hB hx hy (fun bd' bp' st' hS => nm_r (nI_1 i) ?_))
    subst hlo
    obtain ⟨s, s1, s2, s3, s4⟩ := kt_NI_s (fun s => kt_al_mem hP) (kt_al_nd hP) (fun a b ha hb e => hj a b ((kt_al_mem hP).mp ha).1 ((kt_al_mem hP).mp ha).2 ((kt_al_mem hP).mp hb).1 ((kt_al_mem hP).mp hb).2 e) hr (by omega) hN hS
    exact ih (i + 1) (by omega) bd' bp' bd' bp' st' (Or.inr ⟨by omega, s, s1, s2, s3, s3, by rw [s4]; omega⟩) m (by omega)
theorem xl_near {B : Nat} {a b k : Int32} (hP : kt_Pl pl B a_buffer a_filled a_leafSlot a_standsAt a_px a_py a_heavy a_minX a_maxX a_minY a_maxY a_many a_total) (hB : f_buffered = nI B) (hal : f_alive = nI (kt_al a_buffer a_filled a_leafSlot B).length) (hj : ∀ a b, a < 64 → pl a → b < 64 → pl b → a_pointOf a = a_pointOf b → a = b) (hq : ∀ s, s < 64 → pl s → ¬ a_pointOf s = -1) (h1 : ¬ kt_ok a b → post (-1) (f_added, f_alive, f_buffered, f_gathered, f_x0, f_x1, f_y0, f_y1, f_foundMany, f_foundTotal, f_listing, f_listed, f_centreX, f_centreY, f_bestDistance, f_bestPoint, f_behindDistance, f_behindPoint, f_leftOut, a_slotOf, a_used, a_pointOf, a_px, a_py, a_heavy, a_buffer, a_filled, a_leafSlot, a_standsAt, a_minX, a_maxX, a_minY, a_maxY, a_many, a_total, a_work, a_spanFrom, a_spanTo, a_stack, a_list)) (h2 : kt_ok a b → (∀ K, K < (kt_al a_buffer a_filled a_leafSlot B).length → ¬ nI K = k) → post (-4) (f_added, f_alive, f_buffered, f_gathered, f_x0, f_x1, f_y0, f_y1, f_foundMany, f_foundTotal, f_listing, f_listed, f_centreX, f_centreY, f_bestDistance, f_bestPoint, f_behindDistance, f_behindPoint, f_leftOut, a_slotOf, a_used, a_pointOf, a_px, a_py, a_heavy, a_buffer, a_filled, a_leafSlot, a_standsAt, a_minX, a_maxX, a_minY, a_maxY, a_many, a_total, a_work, a_spanFrom, a_spanTo, a_stack, a_list)) (h3 : kt_ok a b → ∀ s K bd bD bP st, k = nI K → K < (kt_al a_buffer a_filled a_leafSlot B).length → s < 64 → pl s → kt_bf (kt_al a_buffer a_filled a_leafSlot B) (fun s => kt_ds (a_px s) (a_py s) a b) a_pointOf s = K → post (a_pointOf s) (f_added, f_alive, f_buffered, f_gathered, f_x0, f_x1, f_y0, f_y1, f_foundMany, f_foundTotal, f_listing, f_listed, a, b, bd, a_pointOf s, bD, bP, -1, a_slotOf, a_used, a_pointOf, a_px, a_py, a_heavy, a_buffer, a_filled, a_leafSlot, a_standsAt, a_minX, a_maxX, a_minY, a_maxY, a_many, a_total, a_work, a_spanFrom, a_spanTo, st, a_list)) : wpX_near post (f_added, f_alive, f_buffered, f_gathered, f_x0, f_x1, f_y0, f_y1, f_foundMany, f_foundTotal, f_listing, f_listed, f_centreX, f_centreY, f_bestDistance, f_bestPoint, f_behindDistance, f_behindPoint, f_leftOut, a_slotOf, a_used, a_pointOf, a_px, a_py, a_heavy, a_buffer, a_filled, a_leafSlot, a_standsAt, a_minX, a_maxX, a_minY, a_maxY, a_many, a_total, a_work, a_spanFrom, a_spanTo, a_stack, a_list) a b k := by
  have h64 := kt_al_64 hP
  unfold wpX_near
  refine xl_bad (fun ho => br_t rfl ?_) (fun ho => br_f (by decide) (h1 ho))
  obtain ⟨hx, hy⟩ := kt_okb ho
  refine br_c (fun z => h2 ho (fun K hK e => ?_)) (fun z => br_c (fun y => ?_) (fun y => h2 ho (fun K hK e => ?_)))
  · subst e; exact nI_pos (by omega) z
  · obtain ⟨K, hK, rfl⟩ := nI_of z
    rw [hal] at y
    have hK' := (nI_ltI hK (by omega)).mp y
    exact ⟨K + 2, xl_e35 hP hB hx hy rfl hj hq hK' (fun s bd bD bP st s1 s2 s3 => h3 ho s K bd bD bP st rfl hK' s1 s2 s3) (K + 1) 0 (by omega) _ _ _ _ _ (Or.inl ⟨rfl, rfl, rfl⟩) (K + 2) (by omega)⟩
  · subst e
    rw [hal] at y
    exact y (nI_lt hK (by omega))
end
section
variable {f_added : Int32} {f_size : Int32} {a_xs a_ys a_weights a_there : Nat → Int32}
variable {pI : Int32 → Prop}
def kt_fy (xs ys th : Nat → Int32) (a b own : Int32) (p q : Nat) : Bool := kt_kb (kt_ds (xs q) (ys q) a b) (nI q) own (nI p) && decide (¬ th q = 0)
theorem yl_dist {p : Nat} {a b : Int32} (hp : p < 200) (h : pI (kt_ds (a_xs p) (a_ys p) a b)) : wpY_distance pI (f_added, f_size, a_xs, a_ys, a_weights, a_there) (nI p) a b := by
  have cp : (nI p).toNatClampNeg = p := nI_clamp (by omega)
  have vp : vp_in (nI p) 200 := vp_in_nI (by omega) (by omega)
  unfold wpY_distance
  simp only [cp]
  exact ⟨vp, vp, vp, vp, h⟩
theorem yl_b15 {A p : Nat} {a b own : Int32} (hA : f_added = nI A) (hA2 : A ≤ 200) (hp : p < 200) : ∀ d i, i + d = A → ∀ k : Nat, pI (nI (k + ((List.range' i d).filter (kt_fy a_xs a_ys a_there a b own p)).length)) → ∀ n, d < n → wY_before_15 pI (nI p) a b own f_added f_size a_xs a_ys a_weights a_there n (nI k) (nI i) := by
  subst hA
  intro d
  induction d with
  | zero =>
    intro i hi k h n hn
    obtain ⟨m, rfl⟩ : ∃ m, n = m + 1 := ⟨n - 1, by omega⟩
    have ei : i = A := by omega
    subst ei
    exact br_t (kt_rfl _) h
  | succ d ih =>
    intro i hi k h n hn
    obtain ⟨m, rfl⟩ : ∃ m, n = m + 1 := ⟨n - 1, by omega⟩
    rw [List.range'_succ] at h
    have ci : (nI i).toNatClampNeg = i := nI_clamp (by omega)
    have vi : vp_in (nI i) 200 := vp_in_nI (by omega) (by omega)
    have hno : ¬ kt_fy a_xs a_ys a_there a b own p i = true → wY_before_15 pI (nI p) a b own (nI A) f_size a_xs a_ys a_weights a_there m (nI k) (nI (i + 1)) := by
      intro z
      rw [List.filter_cons_of_neg z] at h
      exact ih (i + 1) (by omega) k h m (by omega)
    have hyes : kt_kl (kt_ds (a_xs i) (a_ys i) a b) (nI i) own (nI p) → ¬ a_there i = 0 → wY_before_15 pI (nI p) a b own (nI A) f_size a_xs a_ys a_weights a_there m (nI (k + 1)) (nI (i + 1)) := by
      intro y1 y2
      have z : kt_fy a_xs a_ys a_there a b own p i = true := by
        show (kt_kb (kt_ds (a_xs i) (a_ys i) a b) (nI i) own (nI p) && decide (¬ a_there i = 0)) = true
        rw [kt_kb_t.mpr y1, decide_eq_true y2]
        rfl
      rw [List.filter_cons_of_pos z, List.length_cons, ← Nat.add_assoc, Nat.add_right_comm] at h
      exact ih (i + 1) (by omega) (k + 1) h m (by omega)
    have hno1 : ¬ (kt_kl (kt_ds (a_xs i) (a_ys i) a b) (nI i) own (nI p) ∧ ¬ a_there i = 0) → wY_before_15 pI (nI p) a b own (nI A) f_size a_xs a_ys a_weights a_there m (nI k) (nI (i + 1)) := by
      intro y
      refine hno (fun z => y ?_)
      have z' : (kt_kb (kt_ds (a_xs i) (a_ys i) a b) (nI i) own (nI p) && decide (¬ a_there i = 0)) = true := z
      rw [Bool.and_eq_true, kt_kb_t, decide_eq_true_iff] at z'
      exact z'
    refine br_f (nI_ge (by omega) (by omega)) (yl_dist (by omega) ⟨vi, ?_⟩)
    rw [ci]
    refine br_c (fun t => nm_r (nI_1 i) (hno1 (fun z => z.2 t))) (fun t => br_c (fun u => nm_r (nI_1 k) (nm_r (nI_1 i) (hyes (Or.inl u) t))) (fun u => br_c (fun e => br_c (fun g => nm_r (nI_1 i) (hno1 ?_)) (fun g => nm_r (nI_1 k) (nm_r (nI_1 i) (hyes (Or.inr ⟨e, kt_nle g⟩) t)))) (fun e => nm_r (nI_1 i) (hno1 ?_))))
    · rintro ⟨z | ⟨_, z⟩, _⟩
      · exact u z
      · exact Int32.not_lt.mpr g z
    · rintro ⟨z | ⟨z, _⟩, _⟩
      · exact u z
      · exact e z
theorem yl_before {A p : Nat} {a b : Int32} (hA : f_added = nI A) (hA2 : A ≤ 200) (hp : p < 200) (h : pI (nI (kt_bf (kt_pp A a_there) (fun q => kt_ds (a_xs q) (a_ys q) a b) nI p))) : wpY_before pI (f_added, f_size, a_xs, a_ys, a_weights, a_there) (nI p) a b := by
  unfold wpY_before
  refine yl_dist hp ?_
  refine ⟨A + 1, yl_b15 hA hA2 hp A 0 (by omega) 0 ?_ (A + 1) (by omega)⟩
  unfold kt_bf kt_pp at h
  rw [List.countP_eq_length_filter, List.filter_filter, List.range_eq_range'] at h
  rw [Nat.zero_add]
  exact h
theorem yl_n14 {A : Nat} {a b k : Int32} (hA : f_added = nI A) (hA2 : A ≤ 200) (h0 : (∀ p, p ∈ kt_pp A a_there → ¬ nI (kt_bf (kt_pp A a_there) (fun q => kt_ds (a_xs q) (a_ys q) a b) nI p) = k) → pI (-4)) (h1 : ∀ p, p ∈ kt_pp A a_there → nI (kt_bf (kt_pp A a_there) (fun q => kt_ds (a_xs q) (a_ys q) a b) nI p) = k → pI (nI p)) : ∀ d i, i + d = A → (∀ p, p < i → p ∈ kt_pp A a_there → ¬ nI (kt_bf (kt_pp A a_there) (fun q => kt_ds (a_xs q) (a_ys q) a b) nI p) = k) → ∀ n, d < n → wY_near_14 pI a b k f_added f_size a_xs a_ys a_weights a_there n (nI i) := by
  subst hA
  intro d
  induction d with
  | zero =>
    intro i hi hq n hn
    obtain ⟨m, rfl⟩ : ∃ m, n = m + 1 := ⟨n - 1, by omega⟩
    have ei : i = A := by omega
    subst ei
    exact br_t (kt_rfl _) (h0 (fun p hp => hq p (kt_pp_mem.mp hp).1 hp))
  | succ d ih =>
    intro i hi hq n hn
    obtain ⟨m, rfl⟩ : ∃ m, n = m + 1 := ⟨n - 1, by omega⟩
    have ci : (nI i).toNatClampNeg = i := nI_clamp (by omega)
    have vi : vp_in (nI i) 200 := vp_in_nI (by omega) (by omega)
    have hgo : (i ∈ kt_pp A a_there → ¬ nI (kt_bf (kt_pp A a_there) (fun q => kt_ds (a_xs q) (a_ys q) a b) nI i) = k) → wY_near_14 pI a b k (nI A) f_size a_xs a_ys a_weights a_there m (nI (i + 1)) := by
      intro z
      refine ih (i + 1) (by omega) (fun p p1 p2 => ?_) m (by omega)
      by_cases e : p = i
      · subst e; exact z p2
      · exact hq p (by omega) p2
    refine br_f (nI_ge (by omega) (by omega)) ⟨vi, ?_⟩
    rw [ci]
    refine br_c (fun t => nm_r (nI_1 i) (hgo (fun z => absurd t (kt_pp_mem.mp z).2))) (fun t => yl_before rfl hA2 (by omega) (br_c (fun e => h1 i (kt_pp_mem.mpr ⟨by omega, t⟩) e) (fun e => nm_r (nI_1 i) (hgo (fun _ => e)))))
theorem yl_near {A : Nat} {a b k : Int32} (hA : f_added = nI A) (hA2 : A ≤ 200) (hb : ¬ kt_ok a b → pI (-1)) (h0 : kt_ok a b → (∀ p, p ∈ kt_pp A a_there → ¬ nI (kt_bf (kt_pp A a_there) (fun q => kt_ds (a_xs q) (a_ys q) a b) nI p) = k) → pI (-4)) (h1 : kt_ok a b → ∀ p, p ∈ kt_pp A a_there → nI (kt_bf (kt_pp A a_there) (fun q => kt_ds (a_xs q) (a_ys q) a b) nI p) = k → pI (nI p)) : wpY_near pI (f_added, f_size, a_xs, a_ys, a_weights, a_there) a b k := by
  unfold wpY_near
  exact yl_place (fun ho => br_f (by decide) ⟨A + 1, yl_n14 hA hA2 (h0 ho) (h1 ho) A 0 (by omega) (fun p hp => by omega) (A + 1) (by omega)⟩) (fun ho => br_t rfl (hb ho))
end
end KTT
end
section
section KTU
/-! within (Y), front -/
def kt_bt (T : List Nat) (px py : Nat → Int32) (s : Nat) : Bool := T.any (fun z => decide (¬ (px z = px s ∧ py z = py s) ∧ ¬ px z < px s ∧ ¬ py z < py s))
theorem kt_bt_t {T : List Nat} {px py : Nat → Int32} {s : Nat} : kt_bt T px py s = true ↔ ∃ z, z ∈ T ∧ ¬ (px z = px s ∧ py z = py s) ∧ ¬ px z < px s ∧ ¬ py z < py s := by
  unfold kt_bt
  rw [List.any_eq_true]
  constructor
  · rintro ⟨z, h1, h2⟩; exact ⟨z, h1, of_decide_eq_true h2⟩
  · rintro ⟨z, h1, h2⟩; exact ⟨z, h1, decide_eq_true h2⟩
section
variable {f_added : Int32} {f_size : Int32} {a_xs a_ys a_weights a_there : Nat → Int32}
variable {pI : Int32 → Prop}
def kt_wy (xs ys th : Nat → Int32) (a b D : Int32) (p : Nat) : Bool := kt_wi xs ys a b D p && decide (¬ th p = 0)
theorem yl_w17 {A : Nat} {a b D : Int32} (hA : f_added = nI A) (hA2 : A ≤ 200) : ∀ d i, i + d = A → ∀ k : Nat, pI (nI (k + ((List.range' i d).filter (kt_wy a_xs a_ys a_there a b D)).length)) → ∀ n, d < n → wY_within_17 pI a b D f_added f_size a_xs a_ys a_weights a_there n (nI k) (nI i) := by
  subst hA
  intro d
  induction d with
  | zero =>
    intro i hi k h n hn
    obtain ⟨m, rfl⟩ : ∃ m, n = m + 1 := ⟨n - 1, by omega⟩
    have ei : i = A := by omega
    subst ei
    exact br_t (kt_rfl _) h
  | succ d ih =>
    intro i hi k h n hn
    obtain ⟨m, rfl⟩ : ∃ m, n = m + 1 := ⟨n - 1, by omega⟩
    rw [List.range'_succ] at h
    have ci : (nI i).toNatClampNeg = i := nI_clamp (by omega)
    have vi : vp_in (nI i) 200 := vp_in_nI (by omega) (by omega)
    have hno : ¬ kt_wy a_xs a_ys a_there a b D i = true → wY_within_17 pI a b D (nI A) f_size a_xs a_ys a_weights a_there m (nI k) (nI (i + 1)) := by
      intro z
      rw [List.filter_cons_of_neg z] at h
      exact ih (i + 1) (by omega) k h m (by omega)
    refine br_f (nI_ge (by omega) (by omega)) ⟨vi, ?_⟩
    rw [ci]
    refine br_c (fun t => nm_r (nI_1 i) (hno (fun z => ?_))) (fun t => yl_dist (by omega) (br_c (fun g => nm_r (nI_1 i) (hno (fun z => ?_))) (fun g => nm_r (nI_1 k) (nm_r (nI_1 i) ?_))))
    · unfold kt_wy at z
      rw [Bool.and_eq_true, decide_eq_true_iff] at z
      exact z.2 t
    · unfold kt_wy at z
      rw [Bool.and_eq_true] at z
      exact kt_wi_f g z.1
    · have z : kt_wy a_xs a_ys a_there a b D i = true := by
        unfold kt_wy
        rw [kt_wi_t g, decide_eq_true t]
        rfl
      rw [List.filter_cons_of_pos z, List.length_cons, ← Nat.add_assoc, Nat.add_right_comm] at h
      exact ih (i + 1) (by omega) (k + 1) h m (by omega)
theorem yl_within {A : Nat} {a b D : Int32} (hA : f_added = nI A) (hA2 : A ≤ 200) (h0 : ¬ kt_ok a b → pI (-1)) (h1 : kt_ok a b → pI (nI ((kt_pp A a_there).filter (kt_wi a_xs a_ys a b D)).length)) : wpY_within pI (f_added, f_size, a_xs, a_ys, a_weights, a_there) a b D := by
  unfold wpY_within
  refine yl_place (fun ho => br_f (by decide) ⟨A + 1, yl_w17 hA hA2 A 0 (by omega) 0 ?_ (A + 1) (by omega)⟩) (fun ho => br_t rfl (h0 ho))
  have := h1 ho
  unfold kt_pp at this
  rw [List.filter_filter, List.range_eq_range'] at this
  rw [Nat.zero_add]
  exact this
theorem yl_ib2 {A p : Nat} (hA : f_added = nI A) (hA2 : A ≤ 200) (hp : p < 200) (h0 : ¬ kt_bt (kt_pp A a_there) a_xs a_ys p = true → pI 0) (h1 : kt_bt (kt_pp A a_there) a_xs a_ys p = true → pI 1) : ∀ d i, i + d = A → (∀ q, q < i → ¬ a_there q = 0 → ¬ (¬ (a_xs q = a_xs p ∧ a_ys q = a_ys p) ∧ ¬ a_xs q < a_xs p ∧ ¬ a_ys q < a_ys p)) → ∀ n, d < n → wY_isBeaten_2 pI (nI p) f_added f_size a_xs a_ys a_weights a_there n (nI i) := by
  subst hA
  intro d
  induction d with
  | zero =>
    intro i hi hq n hn
    obtain ⟨m, rfl⟩ : ∃ m, n = m + 1 := ⟨n - 1, by omega⟩
    have ei : i = A := by omega
    subst ei
    refine br_t (kt_rfl _) (h0 (fun z => ?_))
    obtain ⟨q, q1, q2⟩ := kt_bt_t.mp z
    obtain ⟨q3, q4⟩ := kt_pp_mem.mp q1
    exact hq q q3 q4 q2
  | succ d ih =>
    intro i hi hq n hn
    obtain ⟨m, rfl⟩ : ∃ m, n = m + 1 := ⟨n - 1, by omega⟩
    have ci : (nI i).toNatClampNeg = i := nI_clamp (by omega)
    have vi : vp_in (nI i) 200 := vp_in_nI (by omega) (by omega)
    have cp : (nI p).toNatClampNeg = p := nI_clamp (by omega)
    have vp : vp_in (nI p) 200 := vp_in_nI (by omega) (by omega)
    have hgo : (¬ a_there i = 0 → ¬ (¬ (a_xs i = a_xs p ∧ a_ys i = a_ys p) ∧ ¬ a_xs i < a_xs p ∧ ¬ a_ys i < a_ys p)) → wY_isBeaten_2 pI (nI p) (nI A) f_size a_xs a_ys a_weights a_there m (nI (i + 1)) := by
      intro z
      refine ih (i + 1) (by omega) (fun q q1 q2 => ?_) m (by omega)
      by_cases e : q = i
      · subst e; exact z q2
      · exact hq q (by omega) q2
    have j45 : ∀ z0 : Int32, (z0 = 0 ∧ (a_xs i = a_xs p ∧ a_ys i = a_ys p)) ∨ (z0 = 1 ∧ ¬ (a_xs i = a_xs p ∧ a_ys i = a_ys p)) → wY_isBeaten_45 pI (wY_isBeaten_2 pI (nI p) (nI A) f_size a_xs a_ys a_weights a_there m) (nI p) (nI i) z0 (nI A) f_size a_xs a_ys a_weights a_there := by
      intro z0 hz
      unfold wY_isBeaten_45
      simp only [ci, cp]
      refine ⟨vi, br_c (fun t => nm_r (nI_1 i) (hgo (fun z => absurd t z))) (fun t => ?_)⟩
      rcases hz with ⟨rfl, hz⟩ | ⟨rfl, hz⟩
      · exact br_t rfl (nm_r (nI_1 i) (hgo (fun _ z => z.1 hz)))
      · refine br_f (by decide) ⟨vi, vp, br_c (fun g => nm_r (nI_1 i) (hgo (fun _ z => z.2.1 g))) (fun g => ⟨vi, vp, br_c (fun k => nm_r (nI_1 i) (hgo (fun _ z => z.2.2 k))) (fun k => h1 (kt_bt_t.mpr ⟨i, kt_pp_mem.mpr ⟨by omega, t⟩, hz, g, k⟩))⟩)⟩
    rw [wY_isBeaten_2]
    simp only [ci, cp]
    refine br_f (nI_ge (by omega) (by omega)) ⟨vi, vp, br_c (fun e => ⟨vi, vp, br_c (fun g => j45 0 (Or.inl ⟨rfl, e, g⟩)) (fun g => j45 1 (Or.inr ⟨rfl, fun z => g z.2⟩))⟩) (fun e => j45 1 (Or.inr ⟨rfl, fun z => e z.1⟩))⟩
theorem yl_ib {A p : Nat} (hA : f_added = nI A) (hA2 : A ≤ 200) (hp : p < 200) (h0 : ¬ kt_bt (kt_pp A a_there) a_xs a_ys p = true → pI 0) (h1 : kt_bt (kt_pp A a_there) a_xs a_ys p = true → pI 1) : wpY_isBeaten pI (f_added, f_size, a_xs, a_ys, a_weights, a_there) (nI p) :=
  ⟨A + 1, yl_ib2 hA hA2 hp h0 h1 A 0 (by omega) (fun q hq => by omega) (A + 1) (by omega)⟩
def kt_fr (T : List Nat) (px py th : Nat → Int32) (p : Nat) : Bool := !kt_bt T px py p && decide (¬ th p = 0)
theorem yl_f4 {A : Nat} (hA : f_added = nI A) (hA2 : A ≤ 200) : ∀ d i, i + d = A → ∀ k : Nat, pI (nI (k + ((List.range' i d).filter (kt_fr (kt_pp A a_there) a_xs a_ys a_there)).length)) → ∀ n, d < n → wY_front_4 pI f_added f_size a_xs a_ys a_weights a_there n (nI k) (nI i) := by
  subst hA
  intro d
  induction d with
  | zero =>
    intro i hi k h n hn
    obtain ⟨m, rfl⟩ : ∃ m, n = m + 1 := ⟨n - 1, by omega⟩
    have ei : i = A := by omega
    subst ei
    exact br_t (kt_rfl _) h
  | succ d ih =>
    intro i hi k h n hn
    obtain ⟨m, rfl⟩ : ∃ m, n = m + 1 := ⟨n - 1, by omega⟩
    rw [List.range'_succ] at h
    have ci : (nI i).toNatClampNeg = i := nI_clamp (by omega)
    have vi : vp_in (nI i) 200 := vp_in_nI (by omega) (by omega)
    have hno : ¬ kt_fr (kt_pp A a_there) a_xs a_ys a_there i = true → wY_front_4 pI (nI A) f_size a_xs a_ys a_weights a_there m (nI k) (nI (i + 1)) := by
      intro z
      rw [List.filter_cons_of_neg z] at h
      exact ih (i + 1) (by omega) k h m (by omega)
    refine br_f (nI_ge (by omega) (by omega)) ⟨vi, ?_⟩
    rw [ci]
    refine br_c (fun t => nm_r (nI_1 i) (hno (fun z => ?_))) (fun t => yl_ib rfl hA2 (by omega) (fun g => br_t rfl (nm_r (nI_1 k) (nm_r (nI_1 i) ?_))) (fun g => br_f (by decide) (nm_r (nI_1 i) (hno (fun z => ?_)))))
    · unfold kt_fr at z
      rw [Bool.and_eq_true, decide_eq_true_iff] at z
      exact z.2 t
    · have z : kt_fr (kt_pp A a_there) a_xs a_ys a_there i = true := by
        unfold kt_fr
        rw [Bool.not_eq_true] at g
        rw [g, decide_eq_true t]
        rfl
      rw [List.filter_cons_of_pos z, List.length_cons, ← Nat.add_assoc, Nat.add_right_comm] at h
      exact ih (i + 1) (by omega) (k + 1) h m (by omega)
    · unfold kt_fr at z
      rw [g] at z
      cases z
theorem yl_front {A : Nat} (hA : f_added = nI A) (hA2 : A ≤ 200) (h : pI (nI ((kt_pp A a_there).filter (fun p => !kt_bt (kt_pp A a_there) a_xs a_ys p)).length)) : wpY_front pI (f_added, f_size, a_xs, a_ys, a_weights, a_there) := by
  refine ⟨A + 1, yl_f4 hA hA2 A 0 (by omega) 0 ?_ (A + 1) (by omega)⟩
  have e : (kt_pp A a_there).filter (fun p => !kt_bt (kt_pp A a_there) a_xs a_ys p) = (List.range A).filter (kt_fr (kt_pp A a_there) a_xs a_ys a_there) := by
    conv => lhs; arg 2; unfold kt_pp
    rw [List.filter_filter]
    rfl
  rw [e, List.range_eq_range'] at h
  rw [Nat.zero_add]
  exact h
end
section
variable {f_added f_alive f_buffered f_gathered f_x0 f_x1 f_y0 f_y1 f_foundMany f_foundTotal f_listing f_listed f_centreX f_centreY f_bestDistance f_bestPoint f_behindDistance f_behindPoint f_leftOut : Int32} {a_slotOf a_used a_pointOf a_px a_py a_heavy a_buffer a_filled a_leafSlot a_standsAt a_minX a_maxX a_minY a_maxY a_many a_total a_work a_spanFrom a_spanTo a_stack a_list : Nat → Int32}
variable {post : Int32 → SX → Prop} {pl : Nat → Prop}
theorem xl_beaten {B s : Nat} (hP : kt_Pl pl B a_buffer a_filled a_leafSlot a_standsAt a_px a_py a_heavy a_minX a_maxX a_minY a_maxY a_many a_total) (hB : f_buffered = nI B) (hs : s < 64) (h0 : ¬ kt_bt (kt_al a_buffer a_filled a_leafSlot B) a_px a_py s = true → ∀ x0 x1 y0 y1 fm ft lg ld st ls, post 0 (f_added, f_alive, f_buffered, f_gathered, x0, x1, y0, y1, fm, ft, lg, ld, f_centreX, f_centreY, f_bestDistance, f_bestPoint, f_behindDistance, f_behindPoint, f_leftOut, a_slotOf, a_used, a_pointOf, a_px, a_py, a_heavy, a_buffer, a_filled, a_leafSlot, a_standsAt, a_minX, a_maxX, a_minY, a_maxY, a_many, a_total, a_work, a_spanFrom, a_spanTo, st, ls)) (h1 : kt_bt (kt_al a_buffer a_filled a_leafSlot B) a_px a_py s = true → ∀ x0 x1 y0 y1 fm ft lg ld st ls, post 1 (f_added, f_alive, f_buffered, f_gathered, x0, x1, y0, y1, fm, ft, lg, ld, f_centreX, f_centreY, f_bestDistance, f_bestPoint, f_behindDistance, f_behindPoint, f_leftOut, a_slotOf, a_used, a_pointOf, a_px, a_py, a_heavy, a_buffer, a_filled, a_leafSlot, a_standsAt, a_minX, a_maxX, a_minY, a_maxY, a_many, a_total, a_work, a_spanFrom, a_spanTo, st, ls)) : wpX_beaten post (f_added, f_alive, f_buffered, f_gathered, f_x0, f_x1, f_y0, f_y1, f_foundMany, f_foundTotal, f_listing, f_listed, f_centreX, f_centreY, f_bestDistance, f_bestPoint, f_behindDistance, f_behindPoint, f_leftOut, a_slotOf, a_used, a_pointOf, a_px, a_py, a_heavy, a_buffer, a_filled, a_leafSlot, a_standsAt, a_minX, a_maxX, a_minY, a_maxY, a_many, a_total, a_work, a_spanFrom, a_spanTo, a_stack, a_list) (nI s) := by
  have cs : (nI s).toNatClampNeg = s := nI_clamp (by omega)
  have vs : vp_in (nI s) 64 := vp_in_nI (by omega) (by omega)
  have h64 := kt_al_64 hP
  refine ⟨vs, nm_r (e' := a_px s) (by rw [cs]) ⟨vs, nm_r (e' := a_py s) (by rw [cs]) ?_⟩⟩
  refine xl_search hP hB kt_nb0 kt_fb0 (fun F fm ft ld st ls hF hp => ?_)
  refine xl_search hP hB kt_nb0 kt_fb0 (fun F' fm' ft' ld' st' ls' hF' hp' => ?_)
  have q1 := hp.length_eq
  have q2 := hp'.length_eq
  rw [← List.countP_eq_length_filter] at q1 q2
  have l1 := List.countP_le_length (p := kt_ins a_px a_py (a_px s) 63 (a_py s) 63) (l := kt_al a_buffer a_filled a_leafSlot B)
  have l2 := List.countP_le_length (p := kt_ins a_px a_py (a_px s) (a_px s) (a_py s) (a_py s)) (l := kt_al a_buffer a_filled a_leafSlot B)
  have heq : ∀ z, z ∈ kt_al a_buffer a_filled a_leafSlot B → (kt_ins a_px a_py (a_px s) (a_px s) (a_py s) (a_py s) z = true ↔ (a_px z = a_px s ∧ a_py z = a_py s)) := by
    intro z _
    rw [kt_ins_t]
    constructor
    · rintro ⟨a, b, c, d⟩
      exact ⟨Int32.le_antisymm (kt_nl b) (kt_nl a), Int32.le_antisymm (kt_nl d) (kt_nl c)⟩
    · rintro ⟨a, b⟩
      rw [a, b]
      exact ⟨Int32.lt_irrefl, Int32.lt_irrefl, Int32.lt_irrefl, Int32.lt_irrefl⟩
  have hge : ∀ z, z ∈ kt_al a_buffer a_filled a_leafSlot B → (kt_ins a_px a_py (a_px s) 63 (a_py s) 63 z = true ↔ (¬ a_px z < a_px s ∧ ¬ a_py z < a_py s)) := by
    intro z hz
    obtain ⟨z1, z2⟩ := (kt_al_mem hP).mp hz
    obtain ⟨b0, b1, b2, b3⟩ := hP.2.2.2.2 z z1 z2
    rw [kt_ins_t]
    constructor
    · rintro ⟨a, b, c, d⟩; exact ⟨a, c⟩
    · rintro ⟨a, b⟩; exact ⟨a, Int32.not_lt.mpr b1, b, Int32.not_lt.mpr b3⟩
  have hsub : ∀ z, z ∈ kt_al a_buffer a_filled a_leafSlot B → kt_ins a_px a_py (a_px s) (a_px s) (a_py s) (a_py s) z = true → kt_ins a_px a_py (a_px s) 63 (a_py s) 63 z = true := by
    intro z hz y
    obtain ⟨a, b⟩ := (heq z hz).mp y
    refine (hge z hz).mpr ?_
    rw [a, b]
    exact ⟨Int32.lt_irrefl, Int32.lt_irrefl⟩
  have e1 : fm = nI F.length := hF.1
  have e2 : fm' = nI F'.length := hF'.1
  by_cases hb : kt_bt (kt_al a_buffer a_filled a_leafSlot B) a_px a_py s = true
  · obtain ⟨z, z1, z2, z3, z4⟩ := kt_bt_t.mp hb
    have hlt := kt_cp_lt hsub z1 ((hge z z1).mpr ⟨z3, z4⟩) (fun y => z2 ((heq z z1).mp y))
    exact br_f (by rw [e1, e2]; exact nI_ge (by omega) (by omega)) (h1 hb _ _ _ _ _ _ _ _ _ _)
  · have hle : (kt_al a_buffer a_filled a_leafSlot B).countP (kt_ins a_px a_py (a_px s) 63 (a_py s) 63) ≤ (kt_al a_buffer a_filled a_leafSlot B).countP (kt_ins a_px a_py (a_px s) (a_px s) (a_py s) (a_py s)) := by
      refine List.countP_mono_left (fun z hz y => (heq z hz).mpr (Classical.byContradiction (fun w => hb (kt_bt_t.mpr ⟨z, hz, w, (hge z hz).mp y⟩))))
    exact br_t (by rw [e1, e2]; exact nI_le (by omega) (by omega)) (h0 hb _ _ _ _ _ _ _ _ _ _)
theorem xl_fr4 {B : Nat} (hP : kt_Pl pl B a_buffer a_filled a_leafSlot a_standsAt a_px a_py a_heavy a_minX a_maxX a_minY a_maxY a_many a_total) (hB : f_buffered = nI B) : ∀ d i, i + d = 64 → ∀ k : Nat, (∀ x0 x1 y0 y1 fm ft lg ld st ls, post (nI (k + ((List.range' i d).filter (kt_fr (kt_al a_buffer a_filled a_leafSlot B) a_px a_py a_used)).length)) (f_added, f_alive, f_buffered, f_gathered, x0, x1, y0, y1, fm, ft, lg, ld, f_centreX, f_centreY, f_bestDistance, f_bestPoint, f_behindDistance, f_behindPoint, f_leftOut, a_slotOf, a_used, a_pointOf, a_px, a_py, a_heavy, a_buffer, a_filled, a_leafSlot, a_standsAt, a_minX, a_maxX, a_minY, a_maxY, a_many, a_total, a_work, a_spanFrom, a_spanTo, st, ls)) → ∀ (f_x0 f_x1 f_y0 f_y1 f_foundMany f_foundTotal f_listing f_listed : Int32) (a_stack a_list : Nat → Int32) n, d < n → wX_front_4 post n (nI k) (nI i) f_added f_alive f_buffered f_gathered f_x0 f_x1 f_y0 f_y1 f_foundMany f_foundTotal f_listing f_listed f_centreX f_centreY f_bestDistance f_bestPoint f_behindDistance f_behindPoint f_leftOut a_slotOf a_used a_pointOf a_px a_py a_heavy a_buffer a_filled a_leafSlot a_standsAt a_minX a_maxX a_minY a_maxY a_many a_total a_work a_spanFrom a_spanTo a_stack a_list := by
  intro d
  induction d with
  | zero =>
    intro i hi k h f_x0 f_x1 f_y0 f_y1 f_foundMany f_foundTotal f_listing f_listed a_stack a_list n hn
    obtain ⟨m, rfl⟩ : ∃ m, n = m + 1 := ⟨n - 1, by omega⟩
    have ei : i = 64 := by omega
    subst ei
    exact br_t (kt_rfl _) (h _ _ _ _ _ _ _ _ _ _)
  | succ d ih =>
    intro i hi k h f_x0 f_x1 f_y0 f_y1 f_foundMany f_foundTotal f_listing f_listed a_stack a_list n hn
    obtain ⟨m, rfl⟩ : ∃ m, n = m + 1 := ⟨n - 1, by omega⟩
    rw [List.range'_succ] at h
    have ci : (nI i).toNatClampNeg = i := nI_clamp (by omega)
    have vi : vp_in (nI i) 64 := vp_in_nI (by omega) (by omega)
    refine br_f (nI_ge (b := 64) (by omega) (by decide)) ⟨vi, ?_⟩
    rw [ci]
    refine br_c (fun t => nm_r (nI_1 i) ?_) (fun t => xl_beaten hP hB (by omega) (fun g x0 x1 y0 y1 fm ft lg ld st ls => br_t rfl (nm_r (nI_1 k) (nm_r (nI_1 i) ?_))) (fun g x0 x1 y0 y1 fm ft lg ld st ls => br_f (by decide) (nm_r (nI_1 i) ?_)))
    · have z : ¬ kt_fr (kt_al a_buffer a_filled a_leafSlot B) a_px a_py a_used i = true := fun z => by
        unfold kt_fr at z
        rw [Bool.and_eq_true, decide_eq_true_iff] at z
        exact z.2 t
      rw [List.filter_cons_of_neg z] at h
      exact ih (i + 1) (by omega) k h _ _ _ _ _ _ _ _ _ _ m (by omega)
    · have z : kt_fr (kt_al a_buffer a_filled a_leafSlot B) a_px a_py a_used i = true := by
        unfold kt_fr
        rw [Bool.not_eq_true] at g
        rw [g, decide_eq_true t]
        rfl
      rw [List.filter_cons_of_pos z, List.length_cons, ← Nat.add_assoc, Nat.add_right_comm] at h
      exact ih (i + 1) (by omega) (k + 1) h _ _ _ _ _ _ _ _ _ _ m (by omega)
    · have z : ¬ kt_fr (kt_al a_buffer a_filled a_leafSlot B) a_px a_py a_used i = true := fun z => by
        unfold kt_fr at z
        rw [g] at z
        cases z
      rw [List.filter_cons_of_neg z] at h
      exact ih (i + 1) (by omega) k h _ _ _ _ _ _ _ _ _ _ m (by omega)
theorem xl_front {B : Nat} (hP : kt_Pl (fun s => ¬ a_used s = 0) B a_buffer a_filled a_leafSlot a_standsAt a_px a_py a_heavy a_minX a_maxX a_minY a_maxY a_many a_total) (hB : f_buffered = nI B) (h : ∀ x0 x1 y0 y1 fm ft lg ld st ls, post (nI ((kt_al a_buffer a_filled a_leafSlot B).filter (fun s => !kt_bt (kt_al a_buffer a_filled a_leafSlot B) a_px a_py s)).length) (f_added, f_alive, f_buffered, f_gathered, x0, x1, y0, y1, fm, ft, lg, ld, f_centreX, f_centreY, f_bestDistance, f_bestPoint, f_behindDistance, f_behindPoint, f_leftOut, a_slotOf, a_used, a_pointOf, a_px, a_py, a_heavy, a_buffer, a_filled, a_leafSlot, a_standsAt, a_minX, a_maxX, a_minY, a_maxY, a_many, a_total, a_work, a_spanFrom, a_spanTo, st, ls)) : wpX_front post (f_added, f_alive, f_buffered, f_gathered, f_x0, f_x1, f_y0, f_y1, f_foundMany, f_foundTotal, f_listing, f_listed, f_centreX, f_centreY, f_bestDistance, f_bestPoint, f_behindDistance, f_behindPoint, f_leftOut, a_slotOf, a_used, a_pointOf, a_px, a_py, a_heavy, a_buffer, a_filled, a_leafSlot, a_standsAt, a_minX, a_maxX, a_minY, a_maxY, a_many, a_total, a_work, a_spanFrom, a_spanTo, a_stack, a_list) := by
  refine ⟨65, xl_fr4 hP hB 64 0 rfl 0 ?_ _ _ _ _ _ _ _ _ _ _ 65 (by omega)⟩
  have hp : ((List.range 64).filter (fun s => decide (¬ a_used s = 0))).Perm (kt_al a_buffer a_filled a_leafSlot B) := by
    refine (List.perm_ext_iff_of_nodup (List.Nodup.sublist List.filter_sublist List.nodup_range) (kt_al_nd hP)).mpr (fun s => ?_)
    rw [List.mem_filter, List.mem_range, decide_eq_true_iff, kt_al_mem hP]
  have e := (hp.filter (fun s => !kt_bt (kt_al a_buffer a_filled a_leafSlot B) a_px a_py s)).length_eq
  rw [List.filter_filter, List.range_eq_range'] at e
  rw [← e] at h
  rw [Nat.zero_add]
  exact h
end
end KTU
end
section
section KTV
/-! closest -/
def kt_cl2 (l : List Nat) (xs ys : Nat → Int32) (r : Int32) : Prop := ((∀ p q, p ∈ l → q ∈ l → p = q) ∧ r = -4) ∨ ∃ p q, p ∈ l ∧ q ∈ l ∧ p ≠ q ∧ r = kt_ds (xs p) (ys p) (xs q) (ys q) ∧ ∀ p' q', p' ∈ l → q' ∈ l → p' ≠ q' → r ≤ kt_ds (xs p') (ys p') (xs q') (ys q')
theorem kt_cl2_u {l : List Nat} {xs ys : Nat → Int32} {r r' : Int32} (h : kt_cl2 l xs ys r) (h' : kt_cl2 l xs ys r') : r' = r := by
  rcases h with ⟨h1, h2⟩ | ⟨p, q, a1, a2, a3, a4, a5⟩
  · rcases h' with ⟨k1, k2⟩ | ⟨p', q', b1, b2, b3, b4, b5⟩
    · rw [h2, k2]
    · exact absurd (h1 p' q' b1 b2) b3
  · rcases h' with ⟨k1, k2⟩ | ⟨p', q', b1, b2, b3, b4, b5⟩
    · exact absurd (k1 p q a1 a2) a3
    · have d1 := a5 p' q' b1 b2 b3
      have d2 := b5 p q a1 a2 a3
      rw [← b4] at d1
      rw [← a4] at d2
      exact Int32.le_antisymm d2 d1
section
variable {f_added : Int32} {f_size : Int32} {a_xs a_ys a_weights a_there : Nat → Int32}
variable {pI : Int32 → Prop}
def kt_pr (th : Nat → Int32) (i j p q : Nat) : Prop := q < p ∧ (p < i ∨ (p = i ∧ q < j)) ∧ ¬ th p = 0 ∧ ¬ th q = 0
def kt_cy (th xs ys : Nat → Int32) (i j : Nat) (x : Int32) : Prop := ((∀ p q, ¬ kt_pr th i j p q) ∧ x = -4) ∨ ((∃ p q, kt_pr th i j p q ∧ x = kt_ds (xs p) (ys p) (xs q) (ys q)) ∧ ∀ p q, kt_pr th i j p q → x ≤ kt_ds (xs p) (ys p) (xs q) (ys q))
theorem kt_cy_iff {th xs ys : Nat → Int32} {i j i' j' : Nat} {x : Int32} (h : kt_cy th xs ys i j x) (e : ∀ p q, kt_pr th i' j' p q ↔ kt_pr th i j p q) : kt_cy th xs ys i' j' x := by
  rcases h with ⟨h1, h2⟩ | ⟨⟨p, q, h1, h2⟩, h3⟩
  · exact Or.inl ⟨fun p q z => h1 p q ((e p q).mp z), h2⟩
  · exact Or.inr ⟨⟨p, q, (e p q).mpr h1, h2⟩, fun p q z => h3 p q ((e p q).mp z)⟩
theorem kt_pr_s {th : Nat → Int32} {i j p q : Nat} (hj : j < i) (h1 : ¬ th i = 0) (h2 : ¬ th j = 0) : kt_pr th i (j + 1) p q ↔ kt_pr th i j p q ∨ (p = i ∧ q = j) := by
  unfold kt_pr
  constructor
  · rintro ⟨a, b, c, d⟩
    by_cases e : p = i ∧ q = j
    · exact Or.inr e
    · exact Or.inl ⟨a, by omega, c, d⟩
  · rintro (⟨a, b, c, d⟩ | ⟨rfl, rfl⟩)
    · exact ⟨a, by omega, c, d⟩
    · exact ⟨hj, by omega, h1, h2⟩
theorem kt_pr_n {th : Nat → Int32} {i j p q : Nat} (h : th i = 0 ∨ th j = 0) : kt_pr th i (j + 1) p q ↔ kt_pr th i j p q := by
  unfold kt_pr
  constructor
  · rintro ⟨a, b, c, d⟩
    refine ⟨a, ?_, c, d⟩
    by_cases e : p = i ∧ q = j
    · obtain ⟨rfl, rfl⟩ := e
      rcases h with h | h
      · exact absurd h c
      · exact absurd h d
    · omega
  · rintro ⟨a, b, c, d⟩
    exact ⟨a, by omega, c, d⟩
theorem yl_cl15 {A i : Nat} {J5 : Int32 → Int32 → Prop} (hA2 : A ≤ 200) (hi : i < A) (hb : ∀ p, p < A → (0 ≤ a_xs p ∧ a_xs p ≤ 63 ∧ 0 ≤ a_ys p ∧ a_ys p ≤ 63)) (hJ : ∀ x, kt_cy a_there a_xs a_ys (i + 1) 0 x → J5 x (nI (i + 1))) : ∀ d j, j + d = i → ∀ x : Int32, kt_cy a_there a_xs a_ys i j x → ∀ n, d < n → wY_closest_15 pI J5 (nI i) f_added f_size a_xs a_ys a_weights a_there n x (nI j) := by
  intro d
  induction d with
  | zero =>
    intro j hj x hx n hn
    obtain ⟨m, rfl⟩ : ∃ m, n = m + 1 := ⟨n - 1, by omega⟩
    have ei : j = i := by omega
    subst ei
    refine br_t (kt_rfl _) (nm_r (nI_1 j) (hJ x (kt_cy_iff hx (fun p q => ?_))))
    unfold kt_pr
    constructor
    · rintro ⟨a, b, c, d⟩; exact ⟨a, by omega, c, d⟩
    · rintro ⟨a, b, c, d⟩; exact ⟨a, by omega, c, d⟩
  | succ d ih =>
    intro j hj x hx n hn
    obtain ⟨m, rfl⟩ : ∃ m, n = m + 1 := ⟨n - 1, by omega⟩
    have ci : (nI i).toNatClampNeg = i := nI_clamp (by omega)
    have vi : vp_in (nI i) 200 := vp_in_nI (by omega) (by omega)
    have cj : (nI j).toNatClampNeg = j := nI_clamp (by omega)
    have vj : vp_in (nI j) 200 := vp_in_nI (by omega) (by omega)
    have e1 : nI j + 1 = nI (j + 1) := nI_1 _
    rw [wY_closest_15]
    simp only [ci, cj, e1]
    have hi' := ih (j + 1) (by omega)
    refine br_f (nI_ge (by omega) (by omega)) ⟨vj, vj, yl_dist (by omega) ⟨vi, br_c (fun t => nm_e (hi' x (kt_cy_iff hx (fun p q => kt_pr_n (Or.inl t))) m (by omega))) (fun t => ⟨vj, br_c (fun s => nm_e (hi' x (kt_cy_iff hx (fun p q => kt_pr_n (Or.inr s))) m (by omega))) (fun s => ?_)⟩)⟩⟩
    have hps := fun p q => kt_pr_s (th := a_there) (i := i) (j := j) (p := p) (q := q) (by omega) t s
    rcases hx with ⟨h1, h2⟩ | ⟨⟨p, q, h1, h2⟩, h3⟩
    · refine br_t (by rw [h2]; decide) (nm_e (hi' _ (Or.inr ⟨⟨i, j, (hps i j).mpr (Or.inr ⟨rfl, rfl⟩), rfl⟩, fun p q z => ?_⟩) m (by omega)))
      rcases (hps p q).mp z with y | ⟨rfl, rfl⟩
      · exact absurd y (h1 p q)
      · exact kt_rfl _
    · have hx0 : ¬ x < 0 := by
        unfold kt_pr at h1
        obtain ⟨b0, b1, b2, b3⟩ := hb p (by omega)
        obtain ⟨c0, c1, c2, c3⟩ := hb q (by omega)
        have := kt_ds0 (kt_b63of b0 b1) (kt_b63of b2 b3) (kt_b63of c0 c1) (kt_b63of c2 c3)
        rw [h2, Int32.lt_iff_toInt_lt, show (0 : Int32).toInt = 0 from by decide]
        omega
      refine br_f hx0 (br_c (fun g => nm_e (hi' x (Or.inr ⟨⟨p, q, (hps p q).mpr (Or.inl h1), h2⟩, fun p' q' z => ?_⟩) m (by omega))) (fun g => nm_e (hi' _ (Or.inr ⟨⟨i, j, (hps i j).mpr (Or.inr ⟨rfl, rfl⟩), rfl⟩, fun p' q' z => ?_⟩) m (by omega))))
      · rcases (hps p' q').mp z with y | ⟨rfl, rfl⟩
        · exact h3 p' q' y
        · exact g
      · rcases (hps p' q').mp z with y | ⟨rfl, rfl⟩
        · exact kt_tr (kt_lt_le (kt_nle g)) (h3 p' q' y)
        · exact kt_rfl _
theorem yl_cl5 {A : Nat} (hA : f_added = nI A) (hA2 : A ≤ 200) (hb : ∀ p, p < A → (0 ≤ a_xs p ∧ a_xs p ≤ 63 ∧ 0 ≤ a_ys p ∧ a_ys p ≤ 63)) (h : ∀ x, kt_cy a_there a_xs a_ys A 0 x → pI x) : ∀ d i, i + d = A → ∀ x : Int32, kt_cy a_there a_xs a_ys i 0 x → ∀ n, d < n → wY_closest_5 pI f_added f_size a_xs a_ys a_weights a_there n x (nI i) := by
  subst hA
  intro d
  induction d with
  | zero =>
    intro i hi x hx n hn
    obtain ⟨m, rfl⟩ : ∃ m, n = m + 1 := ⟨n - 1, by omega⟩
    have ei : i = A := by omega
    subst ei
    exact br_t (kt_rfl _) (h x hx)
  | succ d ih =>
    intro i hi x hx n hn
    obtain ⟨m, rfl⟩ : ∃ m, n = m + 1 := ⟨n - 1, by omega⟩
    exact br_f (nI_ge (by omega) (by omega)) ⟨i + 1, yl_cl15 hA2 (by omega) hb (fun x' hx' => ih (i + 1) (by omega) x' hx' m (by omega)) i 0 (by omega) x hx (i + 1) (by omega)⟩
theorem yl_closest {A : Nat} (hA : f_added = nI A) (hA2 : A ≤ 200) (hb : ∀ p, p < A → (0 ≤ a_xs p ∧ a_xs p ≤ 63 ∧ 0 ≤ a_ys p ∧ a_ys p ≤ 63)) (h : ∀ r, kt_cl2 (kt_pp A a_there) a_xs a_ys r → pI r) : wpY_closest pI (f_added, f_size, a_xs, a_ys, a_weights, a_there) := by
  refine ⟨A + 1, yl_cl5 hA hA2 hb (fun x hx => h x ?_) A 0 (by omega) (-4) (Or.inl ⟨fun p q z => ?_, rfl⟩) (A + 1) (by omega)⟩
  · have hpr : ∀ p q, kt_pr a_there A 0 p q ↔ (q < p ∧ p ∈ kt_pp A a_there ∧ q ∈ kt_pp A a_there) := by
      intro p q
      rw [kt_pp_mem, kt_pp_mem]
      unfold kt_pr
      constructor
      · rintro ⟨a, b, c, d⟩; exact ⟨a, ⟨by omega, c⟩, by omega, d⟩
      · rintro ⟨a, ⟨b, c⟩, b', d⟩; exact ⟨a, by omega, c, d⟩
    rcases hx with ⟨h1, h2⟩ | ⟨⟨p, q, h1, h2⟩, h3⟩
    · refine Or.inl ⟨fun p q p1 q1 => ?_, h2⟩
      rcases Nat.lt_trichotomy p q with z | z | z
      · exact absurd ((hpr q p).mpr ⟨z, q1, p1⟩) (h1 q p)
      · exact z
      · exact absurd ((hpr p q).mpr ⟨z, p1, q1⟩) (h1 p q)
    · obtain ⟨a, b, c⟩ := (hpr p q).mp h1
      refine Or.inr ⟨p, q, b, c, by omega, h2, fun p' q' b' c' n' => ?_⟩
      rcases Nat.lt_or_ge q' p' with z | z
      · exact h3 p' q' ((hpr p' q').mpr ⟨z, b', c'⟩)
      · rw [kt_dsC]
        exact h3 q' p' ((hpr q' p').mpr ⟨by omega, c', b'⟩)
  · unfold kt_pr at z
    omega
end
section
variable {f_added f_alive f_buffered f_gathered f_x0 f_x1 f_y0 f_y1 f_foundMany f_foundTotal f_listing f_listed f_centreX f_centreY f_bestDistance f_bestPoint f_behindDistance f_behindPoint f_leftOut : Int32} {a_slotOf a_used a_pointOf a_px a_py a_heavy a_buffer a_filled a_leafSlot a_standsAt a_minX a_maxX a_minY a_maxY a_many a_total a_work a_spanFrom a_spanTo a_stack a_list : Nat → Int32}
variable {post : Int32 → SX → Prop}
theorem xl_cl16 {B : Nat} (hP : kt_Pl (fun s => ¬ a_used s = 0) B a_buffer a_filled a_leafSlot a_standsAt a_px a_py a_heavy a_minX a_maxX a_minY a_maxY a_many a_total) (hB : f_buffered = nI B) (hj : ∀ a b, a < 64 → ¬ a_used a = 0 → b < 64 → ¬ a_used b = 0 → a_pointOf a = a_pointOf b → a = b) (h : ∀ (x : Int32) cx cy bd bp bD bP lo st, (x = 1000000 ∨ ∃ s z, s ∈ kt_al a_buffer a_filled a_leafSlot B ∧ z ∈ kt_al a_buffer a_filled a_leafSlot B ∧ z ≠ s ∧ x = kt_ds (a_px z) (a_py z) (a_px s) (a_py s)) → (∀ s z, s ∈ kt_al a_buffer a_filled a_leafSlot B → z ∈ kt_al a_buffer a_filled a_leafSlot B → z ≠ s → x ≤ kt_ds (a_px z) (a_py z) (a_px s) (a_py s)) → post x (f_added, f_alive, f_buffered, f_gathered, f_x0, f_x1, f_y0, f_y1, f_foundMany, f_foundTotal, f_listing, f_listed, cx, cy, bd, bp, bD, bP, lo, a_slotOf, a_used, a_pointOf, a_px, a_py, a_heavy, a_buffer, a_filled, a_leafSlot, a_standsAt, a_minX, a_maxX, a_minY, a_maxY, a_many, a_total, a_work, a_spanFrom, a_spanTo, st, a_list)) : ∀ d i, i + d = 64 → ∀ x : Int32, (x = 1000000 ∨ ∃ s z, s ∈ kt_al a_buffer a_filled a_leafSlot B ∧ z ∈ kt_al a_buffer a_filled a_leafSlot B ∧ z ≠ s ∧ x = kt_ds (a_px z) (a_py z) (a_px s) (a_py s)) → (∀ s z, s < i → s ∈ kt_al a_buffer a_filled a_leafSlot B → z ∈ kt_al a_buffer a_filled a_leafSlot B → z ≠ s → x ≤ kt_ds (a_px z) (a_py z) (a_px s) (a_py s)) → ∀ (f_centreX f_centreY f_bestDistance f_bestPoint f_behindDistance f_behindPoint f_leftOut : Int32) (a_stack : Nat → Int32) n, d < n → wX_closest_16 post n x (nI i) f_added f_alive f_buffered f_gathered f_x0 f_x1 f_y0 f_y1 f_foundMany f_foundTotal f_listing f_listed f_centreX f_centreY f_bestDistance f_bestPoint f_behindDistance f_behindPoint f_leftOut a_slotOf a_used a_pointOf a_px a_py a_heavy a_buffer a_filled a_leafSlot a_standsAt a_minX a_maxX a_minY a_maxY a_many a_total a_work a_spanFrom a_spanTo a_stack a_list := by
  intro d
  induction d with
  | zero =>
    intro i hi x hx1 hx2 f_centreX f_centreY f_bestDistance f_bestPoint f_behindDistance f_behindPoint f_leftOut a_stack n hn
    obtain ⟨m, rfl⟩ : ∃ m, n = m + 1 := ⟨n - 1, by omega⟩
    have ei : i = 64 := by omega
    subst ei
    exact br_t (kt_rfl _) (h _ _ _ _ _ _ _ _ _ hx1 (fun s z h1 h2 => hx2 s z ((kt_al_mem hP).mp h1).1 h1 h2))
  | succ d ih =>
    intro i hi x hx1 hx2 f_centreX f_centreY f_bestDistance f_bestPoint f_behindDistance f_behindPoint f_leftOut a_stack n hn
    obtain ⟨m, rfl⟩ : ∃ m, n = m + 1 := ⟨n - 1, by omega⟩
    have ci : (nI i).toNatClampNeg = i := nI_clamp (by omega)
    have vi : vp_in (nI i) 64 := vp_in_nI (by omega) (by omega)
    have e1 : nI i + 1 = nI (i + 1) := nI_1 _
    have hi' := ih (i + 1) (by omega)
    rw [wX_closest_16]
    simp only [ci, e1]
    refine br_f (nI_ge (b := 64) (by omega) (by decide)) ⟨vi, br_c (fun t => nm_e (hi' x hx1 (fun s z h1 h2 h3 h4 => ?_) _ _ _ _ _ _ _ _ m (by omega))) (fun t => ⟨vi, vi, ?_⟩)⟩
    · by_cases e : s = i
      · subst e; exact absurd t ((kt_al_mem hP).mp h2).2
      · exact hx2 s z (by omega) h2 h3 h4
    · obtain ⟨b0, b1, b2, b3⟩ := hP.2.2.2.2 i (by omega) t
      refine ⟨vi, nm_e ?_⟩
      refine xl_snear hP hB (kt_b63of b0 b1) (kt_b63of b2 b3) (fun bd bp st hS => ?_)
      obtain ⟨S1, S2⟩ := hS
      have hbd : ∀ z, z ∈ kt_al a_buffer a_filled a_leafSlot B → z ≠ i → bd ≤ kt_ds (a_px z) (a_py z) (a_px i) (a_py i) := by
        intro z hz hne
        obtain ⟨z1, z2⟩ := (kt_al_mem hP).mp hz
        obtain ⟨c0, c1, c2, c3⟩ := hP.2.2.2.2 z z1 z2
        have hd := kt_ds0 (kt_b63of c0 c1) (kt_b63of c2 c3) (kt_b63of b0 b1) (kt_b63of b2 b3)
        have := S2 z hz ⟨Or.inl ?_, fun e => hne (hj z i z1 z2 (by omega) t e)⟩
        · exact kt_nl (fun y => this (Or.inl y))
        · show (-1 : Int32) < kt_ds (a_px z) (a_py z) (a_px i) (a_py i)
          rw [Int32.lt_iff_toInt_lt, show (-1 : Int32).toInt = -1 from by decide]; omega
      have hbd2 : bd = 1000000 ∨ ∃ s z, s ∈ kt_al a_buffer a_filled a_leafSlot B ∧ z ∈ kt_al a_buffer a_filled a_leafSlot B ∧ z ≠ s ∧ bd = kt_ds (a_px z) (a_py z) (a_px s) (a_py s) := by
        rcases S1 with ⟨e, _⟩ | ⟨_, z, z1, z2, z3, z4, _⟩
        · exact Or.inl e
        · refine Or.inr ⟨i, z, (kt_al_mem hP).mpr ⟨by omega, t⟩, (kt_al_mem hP).mpr ⟨z1, z2⟩, fun e => ?_, z4⟩
          subst e
          exact z3.2 rfl
      refine br_c (fun g => nm_e (hi' x hx1 (fun s z h1 h2 h3 h4 => ?_) _ _ _ _ _ _ _ _ m (by omega))) (fun g => nm_e (hi' bd hbd2 (fun s z h1 h2 h3 h4 => ?_) _ _ _ _ _ _ _ _ m (by omega)))
      · by_cases e : s = i
        · subst e; exact kt_tr g (hbd z h3 h4)
        · exact hx2 s z (by omega) h2 h3 h4
      · by_cases e : s = i
        · subst e; exact hbd z h3 h4
        · exact kt_tr (kt_lt_le (kt_nle g)) (hx2 s z (by omega) h2 h3 h4)
theorem xl_closest {B : Nat} (hP : kt_Pl (fun s => ¬ a_used s = 0) B a_buffer a_filled a_leafSlot a_standsAt a_px a_py a_heavy a_minX a_maxX a_minY a_maxY a_many a_total) (hB : f_buffered = nI B) (hal : f_alive = nI (kt_al a_buffer a_filled a_leafSlot B).length) (hj : ∀ a b, a < 64 → ¬ a_used a = 0 → b < 64 → ¬ a_used b = 0 → a_pointOf a = a_pointOf b → a = b) (h : ∀ (r : Int32) cx cy bd bp bD bP lo st, kt_cl2 (kt_al a_buffer a_filled a_leafSlot B) a_px a_py r → post r (f_added, f_alive, f_buffered, f_gathered, f_x0, f_x1, f_y0, f_y1, f_foundMany, f_foundTotal, f_listing, f_listed, cx, cy, bd, bp, bD, bP, lo, a_slotOf, a_used, a_pointOf, a_px, a_py, a_heavy, a_buffer, a_filled, a_leafSlot, a_standsAt, a_minX, a_maxX, a_minY, a_maxY, a_many, a_total, a_work, a_spanFrom, a_spanTo, st, a_list)) : wpX_closest post (f_added, f_alive, f_buffered, f_gathered, f_x0, f_x1, f_y0, f_y1, f_foundMany, f_foundTotal, f_listing, f_listed, f_centreX, f_centreY, f_bestDistance, f_bestPoint, f_behindDistance, f_behindPoint, f_leftOut, a_slotOf, a_used, a_pointOf, a_px, a_py, a_heavy, a_buffer, a_filled, a_leafSlot, a_standsAt, a_minX, a_maxX, a_minY, a_maxY, a_many, a_total, a_work, a_spanFrom, a_spanTo, a_stack, a_list) := by
  have h64 := kt_al_64 hP
  have hnd := kt_al_nd hP
  subst hal
  by_cases h2 : 2 ≤ (kt_al a_buffer a_filled a_leafSlot B).length
  · refine br_t (nI_le (a := 2) h2 (by omega)) ⟨65, xl_cl16 hP hB hj (fun x cx cy bd bp bD bP lo st hx1 hx2 => h x cx cy bd bp bD bP lo st (Or.inr ?_)) 64 0 rfl 1000000 (Or.inl rfl) (fun s z hs => by omega) _ _ _ _ _ _ _ _ 65 (by omega)⟩
    rcases hx1 with e | ⟨s, z, s1, s2, s3, s4⟩
    · exfalso
      obtain ⟨a, b, ha, hb, hne⟩ : ∃ a b, a ∈ kt_al a_buffer a_filled a_leafSlot B ∧ b ∈ kt_al a_buffer a_filled a_leafSlot B ∧ b ≠ a := by
        revert h2 hnd
        generalize kt_al a_buffer a_filled a_leafSlot B = T
        intro hnd h2
        match T, hnd, h2 with
        | a :: b :: T, hnd, _ => exact ⟨a, b, List.mem_cons_self, List.mem_cons_of_mem _ List.mem_cons_self, fun e => (List.nodup_cons.mp hnd).1 (e ▸ List.mem_cons_self)⟩
      have := hx2 a b ha hb hne
      obtain ⟨a1, a2⟩ := (kt_al_mem hP).mp ha
      obtain ⟨b1, b2⟩ := (kt_al_mem hP).mp hb
      obtain ⟨c0, c1, c2, c3⟩ := hP.2.2.2.2 a a1 a2
      obtain ⟨d0, d1, d2, d3⟩ := hP.2.2.2.2 b b1 b2
      have hd := kt_ds0 (kt_b63of d0 d1) (kt_b63of d2 d3) (kt_b63of c0 c1) (kt_b63of c2 c3)
      rw [e, Int32.le_iff_toInt_le, show (1000000 : Int32).toInt = 1000000 from by decide] at this
      omega
    · exact ⟨z, s, s2, s1, s3, s4, fun p' q' p1 q1 n1 => hx2 q' p' q1 p1 n1⟩
  · refine br_f (nI_ge (b := 2) (by omega) (by decide)) (h _ _ _ _ _ _ _ _ _ (Or.inl ⟨fun p q hp hq => ?_, rfl⟩))
    revert h2 hp hq
    generalize kt_al a_buffer a_filled a_leafSlot B = T
    intro h2 hp hq
    match T, h2, hp, hq with
    | [a], _, hp, hq => rw [List.mem_singleton.mp hp, List.mem_singleton.mp hq]
    | a :: b :: T, h2, _, _ => exact absurd (by simp only [List.length_cons]; omega) h2
end
end KTV
end
section
section KTW
/-! add, remove, move -/
theorem kt_pp_len (A : Nat) (th : Nat → Int32) : (kt_pp A th).length = (List.range A).countP (fun p => decide (¬ th p = 0)) := List.countP_eq_length_filter.symm
section
variable {A L : Nat} {fa fl fz : Int32} {slo use poi px py hv xs ys ws th : Nat → Int32}
theorem kt_Bk_add {s : Nat} {x y w : Int32} (hK : kt_Bk A L fa fl fz slo use poi px py hv xs ys ws th) (hs : s < 64) (hu : use s = 0) (hA : A < 200) (hL : L < 40) (hxy : kt_ok x y) : kt_Bk (A + 1) (L + 1) (nI (A + 1)) (nI (L + 1)) (nI (L + 1)) (upd slo A (nI s)) (upd use s 1) (upd poi s (nI A)) (upd px s x) (upd py s y) (upd hv s w) (upd xs A x) (upd ys A y) (upd ws A w) (upd th A 1) := by
  obtain ⟨k1, k2, k3, k4, k5, k6⟩ := hK
  refine ⟨⟨rfl, by omega⟩, ⟨rfl, rfl, by omega, ?_⟩, fun p hp ht => ?_, fun p hp ht => ?_, fun z hz hz2 => ?_, fun p hp => ?_⟩
  · rw [kt_pp_len, List.range_succ, List.countP_append, k2.2.2.2, kt_pp_len]
    congr 1
    · refine kt_cp_eq (fun p hp => ?_)
      have := List.mem_range.mp hp
      rw [pk_un (by omega)]
    · rw [List.countP_cons_of_pos]
      · rfl
      · rw [pk_us]; decide
  · by_cases e : p = A
    · subst e; rw [pk_us] at ht; exact absurd ht (by decide)
    · rw [pk_un e] at ht ⊢
      exact k3 p (by omega) ht
  · by_cases e : p = A
    · subst e
      refine ⟨s, hs, pk_us, ?_, pk_us⟩
      rw [pk_us]; decide
    · rw [pk_un e] at ht
      obtain ⟨z, z1, z2, z3, z4⟩ := k4 p (by omega) ht
      have hne : z ≠ s := fun e => by subst e; exact z3 hu
      exact ⟨z, z1, by rw [pk_un e]; exact z2, by rw [pk_un hne]; exact z3, by rw [pk_un hne]; exact z4⟩
  · by_cases e : z = s
    · subst e
      refine ⟨A, by omega, pk_us, ?_, pk_us, ?_⟩
      · rw [pk_us]; decide
      · rw [pk_us, pk_us, pk_us, pk_us, pk_us, pk_us]
        exact ⟨rfl, rfl, rfl⟩
    · rw [pk_un e] at hz2
      obtain ⟨p, p1, p2, p3, p4, p5⟩ := k5 z hz hz2
      have hne : p ≠ A := by omega
      refine ⟨p, by omega, by rw [pk_un e]; exact p2, by rw [pk_un hne]; exact p3, by rw [pk_un hne]; exact p4, ?_⟩
      rw [pk_un e, pk_un e, pk_un e, pk_un hne, pk_un hne, pk_un hne]
      exact p5
  · by_cases e : p = A
    · subst e
      rw [pk_us, pk_us]
      exact ⟨kt_nl hxy.1, kt_nl hxy.2.1, kt_nl hxy.2.2.1, kt_nl hxy.2.2.2⟩
    · rw [pk_un e, pk_un e]
      exact k6 p (by omega)
theorem kt_Bk_rem {p s : Nat} (hK : kt_Bk A L fa fl fz slo use poi px py hv xs ys ws th) (hp : p < A) (ht : ¬ th p = 0) (hs : s < 64) (hsl : slo p = nI s) (hpo : poi s = nI p) : ∃ L', L = L' + 1 ∧ kt_Bk A L' fa (nI L') (nI L') (upd slo p (-4)) (upd use s 0) poi px py hv xs ys ws (upd th p 0) := by
  obtain ⟨k1, k2, k3, k4, k5, k6⟩ := hK
  have hlen : (kt_pp A th).length = (kt_pp A (upd th p 0)).length + 1 := by
    rw [kt_pp_len, kt_pp_len, ← kt_cp_one (s := p) List.nodup_range (List.mem_range.mpr hp)]
    · refine kt_cp_eq (fun q _ => ?_)
      rw [Bool.or_eq_true, decide_eq_true_iff, decide_eq_true_iff, decide_eq_true_iff]
      by_cases e : q = p
      · subst e; exact ⟨fun _ => Or.inr rfl, fun _ => ht⟩
      · rw [pk_un e]
        exact ⟨Or.inl, fun z => z.resolve_right e⟩
    · rw [pk_us]; decide
  rw [← k2.2.2.2] at hlen
  refine ⟨(kt_pp A (upd th p 0)).length, hlen, k1, ⟨rfl, rfl, by omega, rfl⟩, fun q hq hq2 => ?_, fun q hq hq2 => ?_, fun z hz hz2 => ?_, k6⟩
  · by_cases e : q = p
    · subst e; rw [pk_us]; decide
    · rw [pk_un e] at hq2 ⊢
      exact k3 q hq hq2
  · by_cases e : q = p
    · subst e; rw [pk_us] at hq2; exact absurd rfl hq2
    · rw [pk_un e] at hq2
      obtain ⟨z, z1, z2, z3, z4⟩ := k4 q hq hq2
      have hne : z ≠ s := fun e2 => by
        subst e2
        rw [hpo] at z4
        exact e (kt_ij z4 (by omega) (by omega)).symm
      exact ⟨z, z1, by rw [pk_un e]; exact z2, by rw [pk_un hne]; exact z3, z4⟩
  · by_cases e : z = s
    · subst e; rw [pk_us] at hz2; exact absurd rfl hz2
    · rw [pk_un e] at hz2
      obtain ⟨q, q1, q2, q3, q4, q5⟩ := k5 z hz hz2
      have hne : q ≠ p := fun e2 => by
        subst e2
        rw [hsl] at q4
        exact e (kt_ij q4 (by omega) (by omega)).symm
      exact ⟨q, q1, q2, by rw [pk_un hne]; exact q3, by rw [pk_un hne]; exact q4, q5⟩
theorem kt_Bk_mov {p s : Nat} {x y : Int32} (hK : kt_Bk A L fa fl fz slo use poi px py hv xs ys ws th) (hp : p < A) (hs : s < 64) (hsl : slo p = nI s) (hpo : poi s = nI p) (hxy : kt_ok x y) : kt_Bk A L fa fl fz slo use poi (upd px s x) (upd py s y) hv (upd xs p x) (upd ys p y) ws th := by
  obtain ⟨k1, k2, k3, k4, k5, k6⟩ := hK
  refine ⟨k1, k2, k3, k4, fun z hz hz2 => ?_, fun q hq => ?_⟩
  · obtain ⟨q, q1, q2, q3, q4, q5, q6, q7⟩ := k5 z hz hz2
    refine ⟨q, q1, q2, q3, q4, ?_⟩
    by_cases e : z = s
    · subst e
      rw [hpo] at q2
      have e2 := kt_ij q2 (by omega) (by omega)
      subst e2
      rw [pk_us, pk_us, pk_us, pk_us]
      exact ⟨rfl, rfl, q7⟩
    · have hne : q ≠ p := fun e2 => by
        subst e2
        rw [hsl] at q4
        exact e (kt_ij q4 (by omega) (by omega)).symm
      rw [pk_un e, pk_un e, pk_un hne, pk_un hne]
      exact ⟨q5, q6, q7⟩
  · by_cases e : q = p
    · subst e
      rw [pk_us, pk_us]
      exact ⟨kt_nl hxy.1, kt_nl hxy.2.1, kt_nl hxy.2.2.1, kt_nl hxy.2.2.2⟩
    · rw [pk_un e, pk_un e]
      exact k6 q hq
end
section
variable {f_added f_alive f_buffered f_gathered f_x0 f_x1 f_y0 f_y1 f_foundMany f_foundTotal f_listing f_listed f_centreX f_centreY f_bestDistance f_bestPoint f_behindDistance f_behindPoint f_leftOut : Int32} {a_slotOf a_used a_pointOf a_px a_py a_heavy a_buffer a_filled a_leafSlot a_standsAt a_minX a_maxX a_minY a_maxY a_many a_total a_work a_spanFrom a_spanTo a_stack a_list : Nat → Int32}
variable {post : Int32 → SX → Prop} {pI : Int32 → Prop}
theorem xl_a50 {x y w : Int32} (hfree : ∃ s, s < 64 ∧ a_used s = 0) (h : ∀ s, s < 64 → a_used s = 0 → ∀ n, wX_add_50 post x y w f_added f_alive f_buffered f_gathered f_x0 f_x1 f_y0 f_y1 f_foundMany f_foundTotal f_listing f_listed f_centreX f_centreY f_bestDistance f_bestPoint f_behindDistance f_behindPoint f_leftOut a_slotOf a_used a_pointOf a_px a_py a_heavy a_buffer a_filled a_leafSlot a_standsAt a_minX a_maxX a_minY a_maxY a_many a_total a_work a_spanFrom a_spanTo a_stack a_list (n + 1) (nI s) (-1)) : ∀ j, j ≤ 64 → ∀ x4 : Int32, (∃ s, j ≤ s ∧ s < 64 ∧ a_used s = 0 ∧ x4 = nI s) ∨ (x4 = 0 ∧ ∀ s, j ≤ s → s < 64 → ¬ a_used s = 0) → ∀ n, j < n → wX_add_50 post x y w f_added f_alive f_buffered f_gathered f_x0 f_x1 f_y0 f_y1 f_foundMany f_foundTotal f_listing f_listed f_centreX f_centreY f_bestDistance f_bestPoint f_behindDistance f_behindPoint f_leftOut a_slotOf a_used a_pointOf a_px a_py a_heavy a_buffer a_filled a_leafSlot a_standsAt a_minX a_maxX a_minY a_maxY a_many a_total a_work a_spanFrom a_spanTo a_stack a_list n x4 (nI j + (-1)) := by
  intro j
  induction j with
  | zero =>
    intro hj x4 hx n hn
    obtain ⟨m, rfl⟩ : ∃ m, n = m + 1 := ⟨n - 1, by omega⟩
    rcases hx with ⟨s, _, s1, s2, rfl⟩ | ⟨_, hx⟩
    · exact h s s1 s2 m
    · obtain ⟨s, s1, s2⟩ := hfree
      exact absurd s2 (hx s (by omega) s1)
  | succ j ih =>
    intro hj x4 hx n hn
    obtain ⟨m, rfl⟩ : ∃ m, n = m + 1 := ⟨n - 1, by omega⟩
    have cj : (nI j).toNatClampNeg = j := nI_clamp (by omega)
    have vj : vp_in (nI j) 64 := vp_in_nI (by omega) (by omega)
    rw [pk_m1 j]
    refine br_f (nI_pos (by omega)) ⟨vj, ?_⟩
    rw [cj]
    refine br_c (fun t => nm_e (ih (by omega) (nI j) (Or.inl ⟨j, Nat.le_refl _, by omega, t, rfl⟩) m (by omega))) (fun t => nm_e (ih (by omega) x4 ?_ m (by omega)))
    rcases hx with ⟨s, s0, s1, s2, s3⟩ | ⟨hx0, hx⟩
    · exact Or.inl ⟨s, by omega, s1, s2, s3⟩
    · refine Or.inr ⟨hx0, fun s s0 s1 => ?_⟩
      by_cases e : s = j
      · subst e; exact t
      · exact hx s (by omega) s1
theorem xl_add {A L B : Nat} {f_size : Int32} {a_xs a_ys a_weights a_there : Nat → Int32} {x y w : Int32} (hB : f_buffered = nI B) (hK : kt_Bk A L f_added f_alive f_size a_slotOf a_used a_pointOf a_px a_py a_heavy a_xs a_ys a_weights a_there) (hP : kt_Pl (fun s => ¬ a_used s = 0) B a_buffer a_filled a_leafSlot a_standsAt a_px a_py a_heavy a_minX a_maxX a_minY a_maxY a_many a_total) (h1 : ¬ (kt_ok x y ∧ ¬ w < 0 ∧ w ≤ 99) → post (-1) (f_added, f_alive, f_buffered, f_gathered, f_x0, f_x1, f_y0, f_y1, f_foundMany, f_foundTotal, f_listing, f_listed, f_centreX, f_centreY, f_bestDistance, f_bestPoint, f_behindDistance, f_behindPoint, f_leftOut, a_slotOf, a_used, a_pointOf, a_px, a_py, a_heavy, a_buffer, a_filled, a_leafSlot, a_standsAt, a_minX, a_maxX, a_minY, a_maxY, a_many, a_total, a_work, a_spanFrom, a_spanTo, a_stack, a_list)) (h2 : kt_ok x y → ¬ w < 0 → w ≤ 99 → f_alive = 40 ∨ f_added = 200 → post (-2) (f_added, f_alive, f_buffered, f_gathered, f_x0, f_x1, f_y0, f_y1, f_foundMany, f_foundTotal, f_listing, f_listed, f_centreX, f_centreY, f_bestDistance, f_bestPoint, f_behindDistance, f_behindPoint, f_leftOut, a_slotOf, a_used, a_pointOf, a_px, a_py, a_heavy, a_buffer, a_filled, a_leafSlot, a_standsAt, a_minX, a_maxX, a_minY, a_maxY, a_many, a_total, a_work, a_spanFrom, a_spanTo, a_stack, a_list)) (h3 : kt_ok x y → ¬ w < 0 → w ≤ 99 → ¬ f_alive = 40 → ¬ f_added = 200 → A < 200 → ∀ s B' gth wk sF sT buf fil Lf As x0 x1 x2 x3 x4 x5, kt_Bk (A + 1) (L + 1) (nI (A + 1)) (nI (L + 1)) (nI (L + 1)) (upd a_slotOf A (nI s)) (upd a_used s 1) (upd a_pointOf s (nI A)) (upd a_px s x) (upd a_py s y) (upd a_heavy s w) (upd a_xs A x) (upd a_ys A y) (upd a_weights A w) (upd a_there A 1) → kt_Pl (fun z => ¬ upd a_used s 1 z = 0) B' buf fil Lf As (upd a_px s x) (upd a_py s y) (upd a_heavy s w) x0 x1 x2 x3 x4 x5 → post (nI A) (nI (A + 1), nI (L + 1), nI B', gth, f_x0, f_x1, f_y0, f_y1, f_foundMany, f_foundTotal, f_listing, f_listed, f_centreX, f_centreY, f_bestDistance, f_bestPoint, f_behindDistance, f_behindPoint, f_leftOut, upd a_slotOf A (nI s), upd a_used s 1, upd a_pointOf s (nI A), upd a_px s x, upd a_py s y, upd a_heavy s w, buf, fil, Lf, As, x0, x1, x2, x3, x4, x5, wk, sF, sT, a_stack, a_list)) : wpX_add post (f_added, f_alive, f_buffered, f_gathered, f_x0, f_x1, f_y0, f_y1, f_foundMany, f_foundTotal, f_listing, f_listed, f_centreX, f_centreY, f_bestDistance, f_bestPoint, f_behindDistance, f_behindPoint, f_leftOut, a_slotOf, a_used, a_pointOf, a_px, a_py, a_heavy, a_buffer, a_filled, a_leafSlot, a_standsAt, a_minX, a_maxX, a_minY, a_maxY, a_many, a_total, a_work, a_spanFrom, a_spanTo, a_stack, a_list) x y w := by
  have eA := hK.1.1
  have hA2 := hK.1.2
  have eL := hK.2.1.1
  have hL2 := hK.2.1.2.2.1
  subst eA
  subst eL
  unfold wpX_add
  refine xl_bad (fun ho => br_t rfl (br_c (fun a => h1 (fun z => z.2.1 a)) (fun a => br_c (fun b => br_c (fun c => h2 ho a b (Or.inl c)) (fun c => br_c (fun d => h2 ho a b (Or.inr d)) (fun d => ?_))) (fun b => h1 (fun z => b z.2.2))))) (fun ho => br_f (by decide) (h1 (fun z => ho z.1)))
  have hA : A < 200 := by
    rcases Nat.lt_or_ge A 200 with z | z
    · exact z
    · have : A = 200 := by omega
      subst this
      exact absurd rfl d
  have hL : L < 40 := by
    rcases Nat.lt_or_ge L 40 with z | z
    · exact z
    · have : L = 40 := by omega
      subst this
      exact absurd rfl c
  refine ⟨65, xl_a50 (kt_free hK hP) (fun s hs hu n => ?_) 64 (Nat.le_refl _) 0 (Or.inr ⟨rfl, fun s s0 s1 => by omega⟩) 65 (by omega)⟩
  have cs : (nI s).toNatClampNeg = s := nI_clamp (by omega)
  have vs : vp_in (nI s) 64 := vp_in_nI (by omega) (by omega)
  have cA : (nI A).toNatClampNeg = A := nI_clamp (by omega)
  have vA : vp_in (nI A) 200 := vp_in_nI hA (by omega)
  refine br_t (by decide) ?_
  simp only [cs, cA, kt_vb1]
  refine ⟨vs, nm_e ⟨vs, nm_e ⟨vs, nm_e ⟨vs, nm_e ⟨vs, nm_e ⟨vA, nm_e (nm_r (nI_1 A) (nm_r (nI_1 L) ?_))⟩⟩⟩⟩⟩⟩
  have hP' : kt_Pl (fun s => ¬ a_used s = 0) B a_buffer a_filled a_leafSlot a_standsAt (upd a_px s x) (upd a_py s y) (upd a_heavy s w) a_minX a_maxX a_minY a_maxY a_many a_total := by
    refine kt_Pl_frame hP (fun z hz hz2 => ?_)
    have hne : z ≠ s := fun e => by subst e; exact hz2 hu
    rw [pk_un hne, pk_un hne, pk_un hne]
    exact ⟨rfl, rfl, rfl⟩
  refine xl_enter hP' hB hs (fun z => z hu) ?_ (fun B' gth wk sF sT buf fil Lf As x0 x1 x2 x3 x4 x5 hQ => ?_)
  · rw [pk_us, pk_us]
    exact ⟨kt_nl ho.1, kt_nl ho.2.1, kt_nl ho.2.2.1, kt_nl ho.2.2.2⟩
  · have e1 : nI (A + 1) - 1 = nI A := nI_pred A
    show post (nI (A + 1) - 1) _
    rw [e1]
    refine h3 ho a b c d hA s B' gth wk sF sT buf fil Lf As x0 x1 x2 x3 x4 x5 (kt_Bk_add hK hs hu hA hL ho) (kt_Pl_iff hQ (fun z hz => ?_))
    · by_cases e : z = s
      · subst e
        rw [pk_us]
        exact ⟨fun _ => Or.inr rfl, fun _ => by decide⟩
      · rw [pk_un e]
        exact ⟨Or.inl, fun q => q.resolve_right e⟩
end
end KTW
end
section
section KTX
/-! remove, move, where; Y's add, remove, move, where -/
section
variable {f_added f_alive f_buffered f_gathered f_x0 f_x1 f_y0 f_y1 f_foundMany f_foundTotal f_listing f_listed f_centreX f_centreY f_bestDistance f_bestPoint f_behindDistance f_behindPoint f_leftOut : Int32} {a_slotOf a_used a_pointOf a_px a_py a_heavy a_buffer a_filled a_leafSlot a_standsAt a_minX a_maxX a_minY a_maxY a_many a_total a_work a_spanFrom a_spanTo a_stack a_list : Nat → Int32}
variable {post : Int32 → SX → Prop} {pI : Int32 → Prop}
variable {A L B : Nat} {f_size : Int32} {a_xs a_ys a_weights a_there : Nat → Int32}
theorem xl_nop {x : Int32} (hK : kt_Bk A L f_added f_alive f_size a_slotOf a_used a_pointOf a_px a_py a_heavy a_xs a_ys a_weights a_there) (h1 : ∀ p, p < A → x = nI p → ¬ a_there p = 0 → pI 0) (h0 : ¬ kt_ip A a_there x → pI 1) : wpX_noPoint pI (f_added, f_alive, f_buffered, f_gathered, f_x0, f_x1, f_y0, f_y1, f_foundMany, f_foundTotal, f_listing, f_listed, f_centreX, f_centreY, f_bestDistance, f_bestPoint, f_behindDistance, f_behindPoint, f_leftOut, a_slotOf, a_used, a_pointOf, a_px, a_py, a_heavy, a_buffer, a_filled, a_leafSlot, a_standsAt, a_minX, a_maxX, a_minY, a_maxY, a_many, a_total, a_work, a_spanFrom, a_spanTo, a_stack, a_list) x := by
  have eA := hK.1.1
  have hA2 := hK.1.2
  subst eA
  refine br_c (fun a => h0 ?_) (fun a => br_c (fun b => h0 ?_) (fun b => ?_))
  · rintro ⟨p, p1, rfl, _⟩
    exact nI_pos (by omega) a
  · rintro ⟨p, p1, rfl, _⟩
    exact nI_ge p1 (by omega) b
  · obtain ⟨p, hp, rfl⟩ := nI_of a
    have hp' : p < A := by
      have := mt (fun z : A ≤ p => nI_le z hp) b
      omega
    have cp : (nI p).toNatClampNeg = p := nI_clamp hp
    rw [cp]
    refine ⟨vp_in_nI (by omega) (by omega), br_c (fun c => h1 p hp' rfl (fun z => ?_)) (fun c => h0 ?_)⟩
    · exact absurd (hK.2.2.1 p hp' z) (Int32.not_lt.mpr c)
    · rintro ⟨q, q1, e, q2⟩
      have := kt_ij e (by omega) (by omega)
      subst this
      obtain ⟨s, s1, s2, _⟩ := hK.2.2.2.1 p hp' q2
      rw [s2] at c
      exact c (nI_pos' (by omega))
theorem xl_remove {x : Int32} (hB : f_buffered = nI B) (hK : kt_Bk A L f_added f_alive f_size a_slotOf a_used a_pointOf a_px a_py a_heavy a_xs a_ys a_weights a_there) (hP : kt_Pl (fun s => ¬ a_used s = 0) B a_buffer a_filled a_leafSlot a_standsAt a_px a_py a_heavy a_minX a_maxX a_minY a_maxY a_many a_total) (h0 : ¬ kt_ip A a_there x → post (-4) (f_added, f_alive, f_buffered, f_gathered, f_x0, f_x1, f_y0, f_y1, f_foundMany, f_foundTotal, f_listing, f_listed, f_centreX, f_centreY, f_bestDistance, f_bestPoint, f_behindDistance, f_behindPoint, f_leftOut, a_slotOf, a_used, a_pointOf, a_px, a_py, a_heavy, a_buffer, a_filled, a_leafSlot, a_standsAt, a_minX, a_maxX, a_minY, a_maxY, a_many, a_total, a_work, a_spanFrom, a_spanTo, a_stack, a_list)) (h1 : ∀ p s L' B' buf Lf As x0 x1 x2 x3 x4 x5, p < A → x = nI p → ¬ a_there p = 0 → f_size = nI (L' + 1) → kt_Bk A L' f_added (nI L') (nI L') (upd a_slotOf p (-4)) (upd a_used s 0) a_pointOf a_px a_py a_heavy a_xs a_ys a_weights (upd a_there p 0) → kt_Pl (fun z => ¬ upd a_used s 0 z = 0) B' buf a_filled Lf As a_px a_py a_heavy x0 x1 x2 x3 x4 x5 → post (a_weights p) (f_added, nI L', nI B', f_gathered, f_x0, f_x1, f_y0, f_y1, f_foundMany, f_foundTotal, f_listing, f_listed, f_centreX, f_centreY, f_bestDistance, f_bestPoint, f_behindDistance, f_behindPoint, f_leftOut, upd a_slotOf p (-4), upd a_used s 0, a_pointOf, a_px, a_py, a_heavy, buf, a_filled, Lf, As, x0, x1, x2, x3, x4, x5, a_work, a_spanFrom, a_spanTo, a_stack, a_list)) : wpX_remove post (f_added, f_alive, f_buffered, f_gathered, f_x0, f_x1, f_y0, f_y1, f_foundMany, f_foundTotal, f_listing, f_listed, f_centreX, f_centreY, f_bestDistance, f_bestPoint, f_behindDistance, f_behindPoint, f_leftOut, a_slotOf, a_used, a_pointOf, a_px, a_py, a_heavy, a_buffer, a_filled, a_leafSlot, a_standsAt, a_minX, a_maxX, a_minY, a_maxY, a_many, a_total, a_work, a_spanFrom, a_spanTo, a_stack, a_list) x := by
  have hA2 := hK.1.2
  unfold wpX_remove
  refine xl_nop hK (fun p hp ex ht => br_t rfl ?_) (fun z => br_f (by decide) (h0 z))
  subst ex
  obtain ⟨s, s1, s2, s3, s4, s5, s6, s7, s8⟩ := kt_Bk_p hK hp ht
  obtain ⟨L', eL, hK'⟩ := kt_Bk_rem hK hp ht s1 s2 s4
  have cp : (nI p).toNatClampNeg = p := nI_clamp (by omega)
  have vp : vp_in (nI p) 200 := vp_in_nI (by omega) (by omega)
  have cs : (nI s).toNatClampNeg = s := nI_clamp (by omega)
  have vs : vp_in (nI s) 64 := vp_in_nI (by omega) (by omega)
  have el : f_alive = nI (L' + 1) := by rw [hK.2.1.1, eL]
  have ez : f_size = nI (L' + 1) := by rw [hK.2.1.2.1, eL]
  subst el
  refine ⟨vp, nm_r (e' := nI s) (by rw [cp, s2]) ?_⟩
  refine xl_leave hP hB s1 s3 (fun B' buf Lf As x0 x1 x2 x3 x4 x5 hQ => ?_)
  have := h1 p s L' B' buf Lf As x0 x1 x2 x3 x4 x5 hp rfl ht ez hK' (kt_Pl_iff hQ (fun z hz => ?_))
  · refine ⟨vs, nm_r (e' := upd a_used s 0) (by rw [cs, kt_vb0]) ⟨vp, nm_r (e' := upd a_slotOf p (-4)) (by rw [cp]) (nm_r (nI_pred L') ⟨vs, ?_⟩)⟩⟩
    rw [cs, s8]
    exact this
  · by_cases e : z = s
    · subst e
      rw [pk_us]
      exact ⟨fun q => absurd rfl q, fun q => absurd rfl q.2⟩
    · rw [pk_un e]
      exact ⟨fun q => ⟨q, e⟩, fun q => q.1⟩
theorem xl_move {x a b : Int32} (hB : f_buffered = nI B) (hK : kt_Bk A L f_added f_alive f_size a_slotOf a_used a_pointOf a_px a_py a_heavy a_xs a_ys a_weights a_there) (hP : kt_Pl (fun s => ¬ a_used s = 0) B a_buffer a_filled a_leafSlot a_standsAt a_px a_py a_heavy a_minX a_maxX a_minY a_maxY a_many a_total) (h0 : ¬ kt_ip A a_there x → post (-4) (f_added, f_alive, f_buffered, f_gathered, f_x0, f_x1, f_y0, f_y1, f_foundMany, f_foundTotal, f_listing, f_listed, f_centreX, f_centreY, f_bestDistance, f_bestPoint, f_behindDistance, f_behindPoint, f_leftOut, a_slotOf, a_used, a_pointOf, a_px, a_py, a_heavy, a_buffer, a_filled, a_leafSlot, a_standsAt, a_minX, a_maxX, a_minY, a_maxY, a_many, a_total, a_work, a_spanFrom, a_spanTo, a_stack, a_list)) (h2 : kt_ip A a_there x → ¬ kt_ok a b → post (-1) (f_added, f_alive, f_buffered, f_gathered, f_x0, f_x1, f_y0, f_y1, f_foundMany, f_foundTotal, f_listing, f_listed, f_centreX, f_centreY, f_bestDistance, f_bestPoint, f_behindDistance, f_behindPoint, f_leftOut, a_slotOf, a_used, a_pointOf, a_px, a_py, a_heavy, a_buffer, a_filled, a_leafSlot, a_standsAt, a_minX, a_maxX, a_minY, a_maxY, a_many, a_total, a_work, a_spanFrom, a_spanTo, a_stack, a_list)) (h1 : ∀ p s B' gth wk sF sT buf fil Lf As x0 x1 x2 x3 x4 x5, p < A → x = nI p → ¬ a_there p = 0 → kt_ok a b → kt_Bk A L f_added f_alive f_size a_slotOf a_used a_pointOf (upd a_px s a) (upd a_py s b) a_heavy (upd a_xs p a) (upd a_ys p b) a_weights a_there → kt_Pl (fun z => ¬ a_used z = 0) B' buf fil Lf As (upd a_px s a) (upd a_py s b) a_heavy x0 x1 x2 x3 x4 x5 → post (64 * a_ys p + a_xs p) (f_added, f_alive, nI B', gth, f_x0, f_x1, f_y0, f_y1, f_foundMany, f_foundTotal, f_listing, f_listed, f_centreX, f_centreY, f_bestDistance, f_bestPoint, f_behindDistance, f_behindPoint, f_leftOut, a_slotOf, a_used, a_pointOf, upd a_px s a, upd a_py s b, a_heavy, buf, fil, Lf, As, x0, x1, x2, x3, x4, x5, wk, sF, sT, a_stack, a_list)) : wpX_move post (f_added, f_alive, f_buffered, f_gathered, f_x0, f_x1, f_y0, f_y1, f_foundMany, f_foundTotal, f_listing, f_listed, f_centreX, f_centreY, f_bestDistance, f_bestPoint, f_behindDistance, f_behindPoint, f_leftOut, a_slotOf, a_used, a_pointOf, a_px, a_py, a_heavy, a_buffer, a_filled, a_leafSlot, a_standsAt, a_minX, a_maxX, a_minY, a_maxY, a_many, a_total, a_work, a_spanFrom, a_spanTo, a_stack, a_list) x a b := by
  have hA2 := hK.1.2
  unfold wpX_move
  refine xl_nop hK (fun p hp ex ht => br_t rfl ?_) (fun z => br_f (by decide) (h0 z))
  refine xl_bad (fun ho => br_t rfl ?_) (fun ho => br_f (by decide) (h2 ⟨p, hp, ex, ht⟩ ho))
  subst ex
  obtain ⟨s, s1, s2, s3, s4, s5, s6, s7, s8⟩ := kt_Bk_p hK hp ht
  have cp : (nI p).toNatClampNeg = p := nI_clamp (by omega)
  have vp : vp_in (nI p) 200 := vp_in_nI (by omega) (by omega)
  have cs : (nI s).toNatClampNeg = s := nI_clamp (by omega)
  have vs : vp_in (nI s) 64 := vp_in_nI (by omega) (by omega)
  refine ⟨vp, nm_r (e' := nI s) (by rw [cp, s2]) ⟨vs, vs, nm_r (e' := 64 * a_ys p + a_xs p) (by rw [cs, s6, s7]) ?_⟩⟩
  refine xl_leave hP hB s1 s3 (fun B1 buf1 L1 A1 y0 y1 y2 y3 y4 y5 hQ => ?_)
  refine ⟨vs, nm_r (e' := upd a_px s a) (by rw [cs]) ⟨vs, nm_r (e' := upd a_py s b) (by rw [cs]) ?_⟩⟩
  have hQ' : kt_Pl (fun z => ¬ a_used z = 0 ∧ z ≠ s) B1 buf1 a_filled L1 A1 (upd a_px s a) (upd a_py s b) a_heavy y0 y1 y2 y3 y4 y5 := by
    refine kt_Pl_frame hQ (fun z hz hz2 => ?_)
    rw [pk_un hz2.2, pk_un hz2.2]
    exact ⟨rfl, rfl, rfl⟩
  refine xl_enter hQ' rfl s1 (fun z => z.2 rfl) ?_ (fun B' gth wk sF sT buf fil Lf As x0 x1 x2 x3 x4 x5 hR => ?_)
  · rw [pk_us, pk_us]
    exact ⟨kt_nl ho.1, kt_nl ho.2.1, kt_nl ho.2.2.1, kt_nl ho.2.2.2⟩
  · refine h1 p s B' gth wk sF sT buf fil Lf As x0 x1 x2 x3 x4 x5 hp rfl ht ho (kt_Bk_mov hK hp s1 s2 s4 ho) (kt_Pl_iff hR (fun z hz => ?_))
    by_cases e : z = s
    · subst e
      exact ⟨fun _ => Or.inr rfl, fun _ => s3⟩
    · exact ⟨fun q => Or.inl ⟨q, e⟩, fun q => (q.resolve_right e).1⟩
theorem xl_where {x : Int32} (hK : kt_Bk A L f_added f_alive f_size a_slotOf a_used a_pointOf a_px a_py a_heavy a_xs a_ys a_weights a_there) (h0 : ¬ kt_ip A a_there x → pI (-4)) (h1 : ∀ p, p < A → x = nI p → ¬ a_there p = 0 → pI (64 * a_ys p + a_xs p)) : wpX_where pI (f_added, f_alive, f_buffered, f_gathered, f_x0, f_x1, f_y0, f_y1, f_foundMany, f_foundTotal, f_listing, f_listed, f_centreX, f_centreY, f_bestDistance, f_bestPoint, f_behindDistance, f_behindPoint, f_leftOut, a_slotOf, a_used, a_pointOf, a_px, a_py, a_heavy, a_buffer, a_filled, a_leafSlot, a_standsAt, a_minX, a_maxX, a_minY, a_maxY, a_many, a_total, a_work, a_spanFrom, a_spanTo, a_stack, a_list) x := by
  have hA2 := hK.1.2
  unfold wpX_where
  refine xl_nop hK (fun p hp ex ht => br_t rfl ?_) (fun z => br_f (by decide) (h0 z))
  subst ex
  obtain ⟨s, s1, s2, s3, s4, s5, s6, s7, s8⟩ := kt_Bk_p hK hp ht
  have cp : (nI p).toNatClampNeg = p := nI_clamp (by omega)
  have vp : vp_in (nI p) 200 := vp_in_nI (by omega) (by omega)
  have cs : (nI s).toNatClampNeg = s := nI_clamp (by omega)
  have vs : vp_in (nI s) 64 := vp_in_nI (by omega) (by omega)
  simp only [cp, s2, cs, s6, s7]
  exact ⟨vp, vs, vp, vs, h1 p hp rfl ht⟩
end
section
variable {f_added : Int32} {f_size : Int32} {a_xs a_ys a_weights a_there : Nat → Int32}
variable {pI : Int32 → Prop} {post : Int32 → SY → Prop}
theorem yl_add {A : Nat} {x y w : Int32} (hA : f_added = nI A) (hA2 : A ≤ 200) (h1 : ¬ (kt_ok x y ∧ ¬ w < 0 ∧ w ≤ 99) → post (-1) (f_added, f_size, a_xs, a_ys, a_weights, a_there)) (h2 : kt_ok x y → ¬ w < 0 → w ≤ 99 → f_size = 40 ∨ f_added = 200 → post (-2) (f_added, f_size, a_xs, a_ys, a_weights, a_there)) (h3 : kt_ok x y → ¬ w < 0 → w ≤ 99 → ¬ f_size = 40 → ¬ f_added = 200 → A < 200 → post (nI A) (nI (A + 1), f_size + 1, upd a_xs A x, upd a_ys A y, upd a_weights A w, upd a_there A 1)) : wpY_add post (f_added, f_size, a_xs, a_ys, a_weights, a_there) x y w := by
  subst hA
  have cA : (nI A).toNatClampNeg = A := nI_clamp (by omega)
  unfold wpY_add
  refine yl_place (fun ho => br_f (by decide) (br_c (fun a => h1 (fun z => z.2.1 a)) (fun a => br_c (fun b => br_c (fun c => h2 ho a b (Or.inl c)) (fun c => br_c (fun d => h2 ho a b (Or.inr d)) (fun d => ?_))) (fun b => h1 (fun z => b z.2.2))))) (fun ho => br_t rfl (h1 (fun z => ho z.1)))
  have hA : A < 200 := by
    rcases Nat.lt_or_ge A 200 with z | z
    · exact z
    · have : A = 200 := by omega
      subst this
      exact absurd rfl d
  have vA : vp_in (nI A) 200 := vp_in_nI hA (by omega)
  simp only [cA, kt_vb1]
  refine ⟨vA, nm_e ⟨vA, nm_e ⟨vA, nm_e ⟨vA, nm_e (nm_r (nI_1 A) (nm_e ?_))⟩⟩⟩⟩
  rw [nI_pred A]
  exact h3 ho a b c d hA
theorem yl_remove {A : Nat} {x : Int32} (hA : f_added = nI A) (hA2 : A ≤ 200) (h0 : ¬ kt_ip A a_there x → post (-4) (f_added, f_size, a_xs, a_ys, a_weights, a_there)) (h1 : ∀ p, p < A → x = nI p → ¬ a_there p = 0 → post (a_weights p) (f_added, f_size - 1, a_xs, a_ys, a_weights, upd a_there p 0)) : wpY_remove post (f_added, f_size, a_xs, a_ys, a_weights, a_there) x := by
  unfold wpY_remove
  refine yl_point hA hA2 (fun p hp ex ht => br_f (by decide) ?_) (fun z => br_t rfl (h0 z))
  subst ex
  have cp : (nI p).toNatClampNeg = p := nI_clamp (by omega)
  have vp : vp_in (nI p) 200 := vp_in_nI (by omega) (by omega)
  simp only [cp, kt_vb0]
  exact ⟨vp, nm_e (nm_e ⟨vp, h1 p hp rfl ht⟩)⟩
theorem yl_move {A : Nat} {x a b : Int32} (hA : f_added = nI A) (hA2 : A ≤ 200) (h0 : ¬ kt_ip A a_there x → post (-4) (f_added, f_size, a_xs, a_ys, a_weights, a_there)) (h2 : kt_ip A a_there x → ¬ kt_ok a b → post (-1) (f_added, f_size, a_xs, a_ys, a_weights, a_there)) (h1 : ∀ p, p < A → x = nI p → ¬ a_there p = 0 → kt_ok a b → post (64 * a_ys p + a_xs p) (f_added, f_size, upd a_xs p a, upd a_ys p b, a_weights, a_there)) : wpY_move post (f_added, f_size, a_xs, a_ys, a_weights, a_there) x a b := by
  unfold wpY_move
  refine yl_point hA hA2 (fun p hp ex ht => br_f (by decide) ?_) (fun z => br_t rfl (h0 z))
  refine yl_place (fun ho => br_f (by decide) ?_) (fun ho => br_t rfl (h2 ⟨p, hp, ex, ht⟩ ho))
  subst ex
  have cp : (nI p).toNatClampNeg = p := nI_clamp (by omega)
  have vp : vp_in (nI p) 200 := vp_in_nI (by omega) (by omega)
  simp only [cp]
  exact ⟨vp, vp, nm_e ⟨vp, nm_e ⟨vp, nm_e (h1 p hp rfl ht ho)⟩⟩⟩
theorem yl_where {A : Nat} {x : Int32} (hA : f_added = nI A) (hA2 : A ≤ 200) (h0 : ¬ kt_ip A a_there x → pI (-4)) (h1 : ∀ p, p < A → x = nI p → ¬ a_there p = 0 → pI (64 * a_ys p + a_xs p)) : wpY_where pI (f_added, f_size, a_xs, a_ys, a_weights, a_there) x := by
  unfold wpY_where
  refine yl_point hA hA2 (fun p hp ex ht => br_f (by decide) ?_) (fun z => br_t rfl (h0 z))
  subst ex
  have cp : (nI p).toNatClampNeg = p := nI_clamp (by omega)
  have vp : vp_in (nI p) 200 := vp_in_nI (by omega) (by omega)
  simp only [cp]
  exact ⟨vp, vp, h1 p hp rfl ht⟩
end
end KTX
end
section
section KTY
/-! slots and points answer alike -/
variable {A L B : Nat} {fa fl fz : Int32} {slo use poi px py hv xs ys ws th buf fil leaf sta m0 m1 m2 m3 m4 m5 : Nat → Int32}
theorem kt_br_bf (hK : kt_Bk A L fa fl fz slo use poi px py hv xs ys ws th) (hP : kt_Pl (fun s => ¬ use s = 0) B buf fil leaf sta px py hv m0 m1 m2 m3 m4 m5) {a b : Int32} {s : Nat} (hs : s < 64) (hu : ¬ use s = 0) : kt_bf (kt_al buf fil leaf B) (fun s => kt_ds (px s) (py s) a b) poi s = kt_bf (kt_pp A th) (fun q => kt_ds (xs q) (ys q) a b) nI (kt_P poi s) := by
  unfold kt_bf
  rw [List.countP_eq_length_filter, List.countP_eq_length_filter]
  refine kt_br_c hK hP (fun z hz hz2 => ?_)
  obtain ⟨_, e2, _, _, e5, e6, _⟩ := kt_Bk_s hK hs hu
  obtain ⟨_, f2, _, _, f5, f6, _⟩ := kt_Bk_s hK hz hz2
  dsimp only
  rw [← e2, ← f2, e5, e6, f5, f6]
theorem kt_br_wi (hK : kt_Bk A L fa fl fz slo use poi px py hv xs ys ws th) (a b D : Int32) : ∀ s, s < 64 → ¬ use s = 0 → kt_wi px py a b D s = kt_wi xs ys a b D (kt_P poi s) := by
  intro s hs hu
  obtain ⟨_, e2, _, _, e5, e6, _⟩ := kt_Bk_s hK hs hu
  unfold kt_wi
  rw [e5, e6]
theorem kt_br_bt (hK : kt_Bk A L fa fl fz slo use poi px py hv xs ys ws th) (hP : kt_Pl (fun s => ¬ use s = 0) B buf fil leaf sta px py hv m0 m1 m2 m3 m4 m5) : ∀ s, s < 64 → ¬ use s = 0 → (!kt_bt (kt_al buf fil leaf B) px py s) = !kt_bt (kt_pp A th) xs ys (kt_P poi s) := by
  intro s hs hu
  obtain ⟨_, _, _, _, e5, e6, _⟩ := kt_Bk_s hK hs hu
  congr 1
  rw [Bool.eq_iff_iff, kt_bt_t, kt_bt_t]
  constructor
  · rintro ⟨z, z1, z2⟩
    obtain ⟨y1, y2⟩ := (kt_al_mem hP).mp z1
    obtain ⟨f1, _, f3, _, f5, f6, _⟩ := kt_Bk_s hK y1 y2
    refine ⟨kt_P poi z, kt_pp_mem.mpr ⟨f1, f3⟩, ?_⟩
    rw [← e5, ← e6, ← f5, ← f6]
    exact z2
  · rintro ⟨p, p1, p2⟩
    obtain ⟨q1, q2⟩ := kt_pp_mem.mp p1
    obtain ⟨z, z1, _, z3, _, _, z6, z7, _⟩ := kt_Bk_p hK q1 q2
    refine ⟨z, (kt_al_mem hP).mpr ⟨z1, z3⟩, ?_⟩
    rw [e5, e6, z6, z7]
    exact p2
theorem kt_br_cl (hK : kt_Bk A L fa fl fz slo use poi px py hv xs ys ws th) (hP : kt_Pl (fun s => ¬ use s = 0) B buf fil leaf sta px py hv m0 m1 m2 m3 m4 m5) {r : Int32} (h : kt_cl2 (kt_al buf fil leaf B) px py r) : kt_cl2 (kt_pp A th) xs ys r := by
  rcases h with ⟨h1, h2⟩ | ⟨s, z, s1, z1, n1, e1, h1⟩
  · refine Or.inl ⟨fun p q p1 q1 => ?_, h2⟩
    obtain ⟨p2, p3⟩ := kt_pp_mem.mp p1
    obtain ⟨q2, q3⟩ := kt_pp_mem.mp q1
    obtain ⟨s, s1, _, s3, _, s5, _⟩ := kt_Bk_p hK p2 p3
    obtain ⟨z, z1, _, z3, _, z5, _⟩ := kt_Bk_p hK q2 q3
    have := h1 s z ((kt_al_mem hP).mpr ⟨s1, s3⟩) ((kt_al_mem hP).mpr ⟨z1, z3⟩)
    rw [← s5, ← z5, this]
  · obtain ⟨s2, s3⟩ := (kt_al_mem hP).mp s1
    obtain ⟨z2, z3⟩ := (kt_al_mem hP).mp z1
    obtain ⟨a1, _, a3, _, a5, a6, _⟩ := kt_Bk_s hK s2 s3
    obtain ⟨b1, _, b3, _, b5, b6, _⟩ := kt_Bk_s hK z2 z3
    refine Or.inr ⟨kt_P poi s, kt_P poi z, kt_pp_mem.mpr ⟨a1, a3⟩, kt_pp_mem.mpr ⟨b1, b3⟩, fun e => n1 (kt_br_inj hK ⟨s2, s3⟩ ⟨z2, z3⟩ e), ?_, fun p q p1 q1 n2 => ?_⟩
    · rw [e1, a5, a6, b5, b6]
    · obtain ⟨p2, p3⟩ := kt_pp_mem.mp p1
      obtain ⟨q2, q3⟩ := kt_pp_mem.mp q1
      obtain ⟨s', u1, _, u3, _, u5, u6, u7, _⟩ := kt_Bk_p hK p2 p3
      obtain ⟨z', v1, _, v3, _, v5, v6, v7, _⟩ := kt_Bk_p hK q2 q3
      have := h1 s' z' ((kt_al_mem hP).mpr ⟨u1, u3⟩) ((kt_al_mem hP).mpr ⟨v1, v3⟩) (fun e => n2 (by rw [← u5, ← v5, e]))
      rw [u6, u7, v6, v7] at this
      exact this
theorem kt_br_hj (hK : kt_Bk A L fa fl fz slo use poi px py hv xs ys ws th) : ∀ a b, a < 64 → ¬ use a = 0 → b < 64 → ¬ use b = 0 → poi a = poi b → a = b := by
  intro a b a1 a2 b1 b2 e
  refine kt_br_inj hK ⟨a1, a2⟩ ⟨b1, b2⟩ ?_
  unfold kt_P
  rw [e]
theorem kt_br_hq (hK : kt_Bk A L fa fl fz slo use poi px py hv xs ys ws th) : ∀ s, s < 64 → ¬ use s = 0 → ¬ poi s = -1 := by
  intro s s1 s2 e
  obtain ⟨a1, a2, _⟩ := kt_Bk_s hK s1 s2
  have := hK.1.2
  rw [a2] at e
  have h := nI_pos (n := kt_P poi s) (by omega)
  rw [e] at h
  exact h (by decide)
end KTY
end
section
/-- X and Y hold the same points, and X's trees keep what they must -/
def i_Rel (_k : Nat) (u : SX) (v : SY) : Prop := match u, v with
  | (f_added, f_alive, f_buffered, f_gathered, f_x0, f_x1, f_y0, f_y1, f_foundMany, f_foundTotal, f_listing, f_listed, f_centreX, f_centreY, f_bestDistance, f_bestPoint, f_behindDistance, f_behindPoint, f_leftOut, a_slotOf, a_used, a_pointOf, a_px, a_py, a_heavy, a_buffer, a_filled, a_leafSlot, a_standsAt, a_minX, a_maxX, a_minY, a_maxY, a_many, a_total, a_work, a_spanFrom, a_spanTo, a_stack, a_list), (g_added, f_size, a_xs, a_ys, a_weights, a_there) => g_added = f_added ∧ ∃ A L B : Nat, f_buffered = nI B ∧ kt_Bk A L f_added f_alive f_size a_slotOf a_used a_pointOf a_px a_py a_heavy a_xs a_ys a_weights a_there ∧ kt_Pl (fun s => ¬ a_used s = 0) B a_buffer a_filled a_leafSlot a_standsAt a_px a_py a_heavy a_minX a_maxX a_minY a_maxY a_many a_total
theorem i_el {k : Nat} {u : SX} {v : SY} {Q : SX → SY → Prop} (h : ∀ (f_added f_alive f_buffered f_gathered f_x0 f_x1 f_y0 f_y1 f_foundMany f_foundTotal f_listing f_listed f_centreX f_centreY f_bestDistance f_bestPoint f_behindDistance f_behindPoint f_leftOut : Int32) (a_slotOf a_used a_pointOf a_px a_py a_heavy a_buffer a_filled a_leafSlot a_standsAt a_minX a_maxX a_minY a_maxY a_many a_total a_work a_spanFrom a_spanTo a_stack a_list : Nat → Int32) (f_size : Int32) (a_xs a_ys a_weights a_there : Nat → Int32) (A L B : Nat), f_buffered = nI B → kt_Bk A L f_added f_alive f_size a_slotOf a_used a_pointOf a_px a_py a_heavy a_xs a_ys a_weights a_there → kt_Pl (fun s => ¬ a_used s = 0) B a_buffer a_filled a_leafSlot a_standsAt a_px a_py a_heavy a_minX a_maxX a_minY a_maxY a_many a_total → Q (f_added, f_alive, f_buffered, f_gathered, f_x0, f_x1, f_y0, f_y1, f_foundMany, f_foundTotal, f_listing, f_listed, f_centreX, f_centreY, f_bestDistance, f_bestPoint, f_behindDistance, f_behindPoint, f_leftOut, a_slotOf, a_used, a_pointOf, a_px, a_py, a_heavy, a_buffer, a_filled, a_leafSlot, a_standsAt, a_minX, a_maxX, a_minY, a_maxY, a_many, a_total, a_work, a_spanFrom, a_spanTo, a_stack, a_list) (f_added, f_size, a_xs, a_ys, a_weights, a_there)) (I : i_Rel k u v) : Q u v :=
  match u, v, I with
  | (f_added, f_alive, f_buffered, f_gathered, f_x0, f_x1, f_y0, f_y1, f_foundMany, f_foundTotal, f_listing, f_listed, f_centreX, f_centreY, f_bestDistance, f_bestPoint, f_behindDistance, f_behindPoint, f_leftOut, a_slotOf, a_used, a_pointOf, a_px, a_py, a_heavy, a_buffer, a_filled, a_leafSlot, a_standsAt, a_minX, a_maxX, a_minY, a_maxY, a_many, a_total, a_work, a_spanFrom, a_spanTo, a_stack, a_list), (_, f_size, a_xs, a_ys, a_weights, a_there), ⟨rfl, A, L, B, hB, hK, hP⟩ => h f_added f_alive f_buffered f_gathered f_x0 f_x1 f_y0 f_y1 f_foundMany f_foundTotal f_listing f_listed f_centreX f_centreY f_bestDistance f_bestPoint f_behindDistance f_behindPoint f_leftOut a_slotOf a_used a_pointOf a_px a_py a_heavy a_buffer a_filled a_leafSlot a_standsAt a_minX a_maxX a_minY a_maxY a_many a_total a_work a_spanFrom a_spanTo a_stack a_list f_size a_xs a_ys a_weights a_there A L B hB hK hP
theorem i_up {k : Nat} {u : SX} {v : SY} (h : i_Rel k u v) : i_Rel (k + 4) u v := h
theorem i_vc_size {k : Nat} {u : SX} {v : SY} (I : i_Rel k u v) (hk : k + 4 ≤ 2048) : wpX_size (fun r => wpY_size (fun r' => r' = r ∧ i_Rel (k + 4) u v) v) u := by
  refine i_el (Q := fun u v => wpX_size (fun r => wpY_size (fun r' => r' = r ∧ i_Rel (k + 4) u v) v) u) ?_ I
  intro f_added f_alive f_buffered f_gathered f_x0 f_x1 f_y0 f_y1 f_foundMany f_foundTotal f_listing f_listed f_centreX f_centreY f_bestDistance f_bestPoint f_behindDistance f_behindPoint f_leftOut a_slotOf a_used a_pointOf a_px a_py a_heavy a_buffer a_filled a_leafSlot a_standsAt a_minX a_maxX a_minY a_maxY a_many a_total a_work a_spanFrom a_spanTo a_stack a_list f_size a_xs a_ys a_weights a_there A L B hB hK hP
  exact ⟨hK.2.1.2.1.trans hK.2.1.1.symm, rfl, A, L, B, hB, hK, hP⟩
theorem i_vc_where {k : Nat} {u : SX} {v : SY} (I : i_Rel k u v) (hk : k + 4 ≤ 2048) (v1 : Int32) : wpX_where (fun r => wpY_where (fun r' => r' = r ∧ i_Rel (k + 4) u v) v v1) u v1 := by
  refine i_el (Q := fun u v => wpX_where (fun r => wpY_where (fun r' => r' = r ∧ i_Rel (k + 4) u v) v v1) u v1) ?_ I
  intro f_added f_alive f_buffered f_gathered f_x0 f_x1 f_y0 f_y1 f_foundMany f_foundTotal f_listing f_listed f_centreX f_centreY f_bestDistance f_bestPoint f_behindDistance f_behindPoint f_leftOut a_slotOf a_used a_pointOf a_px a_py a_heavy a_buffer a_filled a_leafSlot a_standsAt a_minX a_maxX a_minY a_maxY a_many a_total a_work a_spanFrom a_spanTo a_stack a_list f_size a_xs a_ys a_weights a_there A L B hB hK hP
  refine xl_where hK (fun h => yl_where hK.1.1 hK.1.2 (fun _ => ⟨rfl, rfl, A, L, B, hB, hK, hP⟩) (fun p h1 h2 h3 => absurd ⟨p, h1, h2, h3⟩ h)) (fun p h1 h2 h3 => yl_where hK.1.1 hK.1.2 (fun h => absurd ⟨p, h1, h2, h3⟩ h) (fun q q1 q2 q3 => ⟨?_, rfl, A, L, B, hB, hK, hP⟩))
  have hA := hK.1.2
  have e := kt_ij (h2.symm.trans q2) (by omega) (by omega)
  subst e
  rfl
theorem i_vc_count {k : Nat} {u : SX} {v : SY} (I : i_Rel k u v) (hk : k + 4 ≤ 2048) (v1 : Int32) (v2 : Int32) : wpX_count (fun r u' => wpY_count (fun r' => r' = r ∧ i_Rel (k + 4) u' v) v v1 v2) u v1 v2 := by
  refine i_el (Q := fun u v => wpX_count (fun r u' => wpY_count (fun r' => r' = r ∧ i_Rel (k + 4) u' v) v v1 v2) u v1 v2) ?_ I
  intro f_added f_alive f_buffered f_gathered f_x0 f_x1 f_y0 f_y1 f_foundMany f_foundTotal f_listing f_listed f_centreX f_centreY f_bestDistance f_bestPoint f_behindDistance f_behindPoint f_leftOut a_slotOf a_used a_pointOf a_px a_py a_heavy a_buffer a_filled a_leafSlot a_standsAt a_minX a_maxX a_minY a_maxY a_many a_total a_work a_spanFrom a_spanTo a_stack a_list f_size a_xs a_ys a_weights a_there A L B hB hK hP
  refine xl_count hP hB (fun h => yl_count hK.1.1 hK.1.2 (fun _ => ⟨rfl, rfl, A, L, B, hB, hK, hP⟩) (fun a b => absurd ⟨a, b⟩ h)) (fun a b fm ft ld st ls => yl_count hK.1.1 hK.1.2 (fun h => absurd ⟨a, b⟩ h) (fun _ _ => ⟨?_, rfl, A, L, B, hB, hK, hP⟩))
  rw [kt_br_c hK hP (kt_br_ins hK _ _ _ _)]
theorem i_vc_weight {k : Nat} {u : SX} {v : SY} (I : i_Rel k u v) (hk : k + 4 ≤ 2048) (v1 : Int32) (v2 : Int32) : wpX_weight (fun r u' => wpY_weight (fun r' => r' = r ∧ i_Rel (k + 4) u' v) v v1 v2) u v1 v2 := by
  refine i_el (Q := fun u v => wpX_weight (fun r u' => wpY_weight (fun r' => r' = r ∧ i_Rel (k + 4) u' v) v v1 v2) u v1 v2) ?_ I
  intro f_added f_alive f_buffered f_gathered f_x0 f_x1 f_y0 f_y1 f_foundMany f_foundTotal f_listing f_listed f_centreX f_centreY f_bestDistance f_bestPoint f_behindDistance f_behindPoint f_leftOut a_slotOf a_used a_pointOf a_px a_py a_heavy a_buffer a_filled a_leafSlot a_standsAt a_minX a_maxX a_minY a_maxY a_many a_total a_work a_spanFrom a_spanTo a_stack a_list f_size a_xs a_ys a_weights a_there A L B hB hK hP
  refine xl_weight hP hB (fun h => yl_weight hK.1.1 hK.1.2 (fun _ => ⟨rfl, rfl, A, L, B, hB, hK, hP⟩) (fun a b => absurd ⟨a, b⟩ h)) (fun a b fm ft ld st ls => yl_weight hK.1.1 hK.1.2 (fun h => absurd ⟨a, b⟩ h) (fun _ _ => ⟨?_, rfl, A, L, B, hB, hK, hP⟩))
  rw [kt_br_s hK hP (kt_br_ins hK _ _ _ _)]
theorem i_vc_heaviest {k : Nat} {u : SX} {v : SY} (I : i_Rel k u v) (hk : k + 4 ≤ 2048) (v1 : Int32) (v2 : Int32) : wpX_heaviest (fun r u' => wpY_heaviest (fun r' => r' = r ∧ i_Rel (k + 4) u' v) v v1 v2) u v1 v2 := by
  refine i_el (Q := fun u v => wpX_heaviest (fun r u' => wpY_heaviest (fun r' => r' = r ∧ i_Rel (k + 4) u' v) v v1 v2) u v1 v2) ?_ I
  intro f_added f_alive f_buffered f_gathered f_x0 f_x1 f_y0 f_y1 f_foundMany f_foundTotal f_listing f_listed f_centreX f_centreY f_bestDistance f_bestPoint f_behindDistance f_behindPoint f_leftOut a_slotOf a_used a_pointOf a_px a_py a_heavy a_buffer a_filled a_leafSlot a_standsAt a_minX a_maxX a_minY a_maxY a_many a_total a_work a_spanFrom a_spanTo a_stack a_list f_size a_xs a_ys a_weights a_there A L B hB hK hP
  have hA := hK.1.2
  refine xl_heaviest (ws := a_weights) hP hB (fun s s1 s2 => ?_) (fun h => yl_heaviest hK.1.1 hK.1.2 (fun _ => ⟨rfl, rfl, A, L, B, hB, hK, hP⟩) (fun a b => absurd ⟨a, b⟩ h)) (fun a b r fm ft ld st ls hr => yl_heaviest hK.1.1 hK.1.2 (fun h => absurd ⟨a, b⟩ h) (fun _ _ r' hr' => ⟨?_, rfl, A, L, B, hB, hK, hP⟩))
  · obtain ⟨q1, q2, _, _, _, _, q7⟩ := kt_Bk_s hK s1 s2
    exact ⟨q2, by omega, q7⟩
  · exact kt_hv_u (fun q => (kt_br_f hK hP (kt_br_ins hK _ _ _ _)).mem_iff) hr hr'
theorem i_vc_next {k : Nat} {u : SX} {v : SY} (I : i_Rel k u v) (hk : k + 4 ≤ 2048) (v1 : Int32) (v2 : Int32) (v3 : Int32) : wpX_next (fun r u' => wpY_next (fun r' => r' = r ∧ i_Rel (k + 4) u' v) v v1 v2 v3) u v1 v2 v3 := by
  refine i_el (Q := fun u v => wpX_next (fun r u' => wpY_next (fun r' => r' = r ∧ i_Rel (k + 4) u' v) v v1 v2 v3) u v1 v2 v3) ?_ I
  intro f_added f_alive f_buffered f_gathered f_x0 f_x1 f_y0 f_y1 f_foundMany f_foundTotal f_listing f_listed f_centreX f_centreY f_bestDistance f_bestPoint f_behindDistance f_behindPoint f_leftOut a_slotOf a_used a_pointOf a_px a_py a_heavy a_buffer a_filled a_leafSlot a_standsAt a_minX a_maxX a_minY a_maxY a_many a_total a_work a_spanFrom a_spanTo a_stack a_list f_size a_xs a_ys a_weights a_there A L B hB hK hP
  have hA := hK.1.2
  refine xl_next hP hB (fun s s1 s2 => ?_) (fun h => yl_next hK.1.1 hK.1.2 (fun _ => ⟨rfl, rfl, A, L, B, hB, hK, hP⟩) (fun a b => absurd ⟨a, b⟩ h)) (fun a b r fm ft ld st ls hr => yl_next hK.1.1 hK.1.2 (fun h => absurd ⟨a, b⟩ h) (fun _ _ r' hr' => ⟨?_, rfl, A, L, B, hB, hK, hP⟩))
  · obtain ⟨q1, q2, _, _, _, _, q7⟩ := kt_Bk_s hK s1 s2
    exact ⟨q2, by omega⟩
  · exact kt_nx_u (fun q => (kt_br_f hK hP (kt_br_ins hK _ _ _ _)).mem_iff) hr hr'
theorem i_vc_near {k : Nat} {u : SX} {v : SY} (I : i_Rel k u v) (hk : k + 4 ≤ 2048) (v1 : Int32) (v2 : Int32) (v3 : Int32) : wpX_near (fun r u' => wpY_near (fun r' => r' = r ∧ i_Rel (k + 4) u' v) v v1 v2 v3) u v1 v2 v3 := by
  refine i_el (Q := fun u v => wpX_near (fun r u' => wpY_near (fun r' => r' = r ∧ i_Rel (k + 4) u' v) v v1 v2 v3) u v1 v2 v3) ?_ I
  intro f_added f_alive f_buffered f_gathered f_x0 f_x1 f_y0 f_y1 f_foundMany f_foundTotal f_listing f_listed f_centreX f_centreY f_bestDistance f_bestPoint f_behindDistance f_behindPoint f_leftOut a_slotOf a_used a_pointOf a_px a_py a_heavy a_buffer a_filled a_leafSlot a_standsAt a_minX a_maxX a_minY a_maxY a_many a_total a_work a_spanFrom a_spanTo a_stack a_list f_size a_xs a_ys a_weights a_there A L B hB hK hP
  have hA := hK.1.2
  have hlen := kt_br_len hK hP
  have h40 := hK.2.1.2.2.1
  refine xl_near hP hB (by rw [hlen]; exact hK.2.1.1) (kt_br_hj hK) (kt_br_hq hK) (fun h => ?_) (fun ho hn => ?_) (fun ho s K bd bD bP st e1 hK1 s1 s2 hbf => ?_)
  · exact yl_near hK.1.1 hK.1.2 (fun _ => ⟨rfl, rfl, A, L, B, hB, hK, hP⟩) (fun ho _ => absurd ho h) (fun ho _ _ _ => absurd ho h)
  · refine yl_near hK.1.1 hK.1.2 (fun h => absurd ho h) (fun _ _ => ⟨rfl, rfl, A, L, B, hB, hK, hP⟩) (fun _ p hp e => ?_)
    have := kt_bf_len (d := fun q => kt_ds (a_xs q) (a_ys q) v1 v2) (p := nI) hp
    rw [← hK.2.1.2.2.2, ← hlen] at this
    exact absurd e (hn _ this)
  · have hps := kt_Bk_s hK s1 s2
    rw [kt_br_bf hK hP s1 s2] at hbf
    refine yl_near hK.1.1 hK.1.2 (fun h => absurd ho h) (fun _ hno => ?_) (fun _ p hp e => ⟨?_, rfl, A, L, B, hB, hK, hP⟩)
    · exact absurd (by rw [hbf, e1]) (hno _ (kt_pp_mem.mpr ⟨hps.1, hps.2.2.1⟩))
    · have hl := kt_bf_len (d := fun q => kt_ds (a_xs q) (a_ys q) v1 v2) (p := nI) hp
      rw [← hK.2.1.2.2.2] at hl
      rw [e1] at e
      have e2 := kt_ij e (by omega) (by omega)
      rw [← hbf] at e2
      rw [kt_bf_inj hp (kt_pp_mem.mpr ⟨hps.1, hps.2.2.1⟩) e2]
      exact hps.2.1.symm
theorem i_vc_nearest {k : Nat} {u : SX} {v : SY} (I : i_Rel k u v) (hk : k + 4 ≤ 2048) (v1 : Int32) (v2 : Int32) : wpX_nearest (fun r u' => wpY_nearest (fun r' => r' = r ∧ i_Rel (k + 4) u' v) v v1 v2) u v1 v2 := by
  have := i_vc_near I hk v1 v2 0
  revert this
  refine i_el (Q := fun u v => wpX_near (fun r u' => wpY_near (fun r' => r' = r ∧ i_Rel (k + 4) u' v) v v1 v2 0) u v1 v2 0 → wpX_nearest (fun r u' => wpY_nearest (fun r' => r' = r ∧ i_Rel (k + 4) u' v) v v1 v2) u v1 v2) ?_ I
  intro f_added f_alive f_buffered f_gathered f_x0 f_x1 f_y0 f_y1 f_foundMany f_foundTotal f_listing f_listed f_centreX f_centreY f_bestDistance f_bestPoint f_behindDistance f_behindPoint f_leftOut a_slotOf a_used a_pointOf a_px a_py a_heavy a_buffer a_filled a_leafSlot a_standsAt a_minX a_maxX a_minY a_maxY a_many a_total a_work a_spanFrom a_spanTo a_stack a_list f_size a_xs a_ys a_weights a_there A L B hB hK hP
  exact fun h => h
theorem i_vc_within {k : Nat} {u : SX} {v : SY} (I : i_Rel k u v) (hk : k + 4 ≤ 2048) (v1 : Int32) (v2 : Int32) (v3 : Int32) : wpX_within (fun r u' => wpY_within (fun r' => r' = r ∧ i_Rel (k + 4) u' v) v v1 v2 v3) u v1 v2 v3 := by
  refine i_el (Q := fun u v => wpX_within (fun r u' => wpY_within (fun r' => r' = r ∧ i_Rel (k + 4) u' v) v v1 v2 v3) u v1 v2 v3) ?_ I
  intro f_added f_alive f_buffered f_gathered f_x0 f_x1 f_y0 f_y1 f_foundMany f_foundTotal f_listing f_listed f_centreX f_centreY f_bestDistance f_bestPoint f_behindDistance f_behindPoint f_leftOut a_slotOf a_used a_pointOf a_px a_py a_heavy a_buffer a_filled a_leafSlot a_standsAt a_minX a_maxX a_minY a_maxY a_many a_total a_work a_spanFrom a_spanTo a_stack a_list f_size a_xs a_ys a_weights a_there A L B hB hK hP
  refine xl_within hP hB (fun h => yl_within hK.1.1 hK.1.2 (fun _ => ⟨rfl, rfl, A, L, B, hB, hK, hP⟩) (fun ho => absurd ho h)) (fun ho st => yl_within hK.1.1 hK.1.2 (fun h => absurd ho h) (fun _ => ⟨?_, rfl, A, L, B, hB, hK, hP⟩))
  rw [kt_br_c hK hP (kt_br_wi hK v1 v2 v3)]
theorem i_vc_front {k : Nat} {u : SX} {v : SY} (I : i_Rel k u v) (hk : k + 4 ≤ 2048) : wpX_front (fun r u' => wpY_front (fun r' => r' = r ∧ i_Rel (k + 4) u' v) v) u := by
  refine i_el (Q := fun u v => wpX_front (fun r u' => wpY_front (fun r' => r' = r ∧ i_Rel (k + 4) u' v) v) u) ?_ I
  intro f_added f_alive f_buffered f_gathered f_x0 f_x1 f_y0 f_y1 f_foundMany f_foundTotal f_listing f_listed f_centreX f_centreY f_bestDistance f_bestPoint f_behindDistance f_behindPoint f_leftOut a_slotOf a_used a_pointOf a_px a_py a_heavy a_buffer a_filled a_leafSlot a_standsAt a_minX a_maxX a_minY a_maxY a_many a_total a_work a_spanFrom a_spanTo a_stack a_list f_size a_xs a_ys a_weights a_there A L B hB hK hP
  refine xl_front hP hB (fun x0 x1 y0 y1 fm ft lg ld st ls => yl_front hK.1.1 hK.1.2 ⟨?_, rfl, A, L, B, hB, hK, hP⟩)
  rw [kt_br_c hK hP (f := fun s => !kt_bt (kt_al a_buffer a_filled a_leafSlot B) a_px a_py s) (g := fun p => !kt_bt (kt_pp A a_there) a_xs a_ys p) (kt_br_bt hK hP)]
theorem i_vc_closest {k : Nat} {u : SX} {v : SY} (I : i_Rel k u v) (hk : k + 4 ≤ 2048) : wpX_closest (fun r u' => wpY_closest (fun r' => r' = r ∧ i_Rel (k + 4) u' v) v) u := by
  refine i_el (Q := fun u v => wpX_closest (fun r u' => wpY_closest (fun r' => r' = r ∧ i_Rel (k + 4) u' v) v) u) ?_ I
  intro f_added f_alive f_buffered f_gathered f_x0 f_x1 f_y0 f_y1 f_foundMany f_foundTotal f_listing f_listed f_centreX f_centreY f_bestDistance f_bestPoint f_behindDistance f_behindPoint f_leftOut a_slotOf a_used a_pointOf a_px a_py a_heavy a_buffer a_filled a_leafSlot a_standsAt a_minX a_maxX a_minY a_maxY a_many a_total a_work a_spanFrom a_spanTo a_stack a_list f_size a_xs a_ys a_weights a_there A L B hB hK hP
  refine xl_closest hP hB (by rw [kt_br_len hK hP]; exact hK.2.1.1) (kt_br_hj hK) (fun r cx cy bd bp bD bP lo st hr => yl_closest hK.1.1 hK.1.2 hK.2.2.2.2.2 (fun r' hr' => ⟨?_, rfl, A, L, B, hB, hK, hP⟩))
  exact kt_cl2_u (kt_br_cl hK hP hr) hr'
theorem i_vc_merge {k : Nat} {u : SX} {v : SY} (I : i_Rel k u v) (hk : k + 4 ≤ 2048) : wpX_merge (fun u' => wpY_merge (fun v' => i_Rel (k + 4) u' v') v) u := by
  refine i_el (Q := fun u v => wpX_merge (fun u' => wpY_merge (fun v' => i_Rel (k + 4) u' v') v) u) ?_ I
  intro f_added f_alive f_buffered f_gathered f_x0 f_x1 f_y0 f_y1 f_foundMany f_foundTotal f_listing f_listed f_centreX f_centreY f_bestDistance f_bestPoint f_behindDistance f_behindPoint f_leftOut a_slotOf a_used a_pointOf a_px a_py a_heavy a_buffer a_filled a_leafSlot a_standsAt a_minX a_maxX a_minY a_maxY a_many a_total a_work a_spanFrom a_spanTo a_stack a_list f_size a_xs a_ys a_weights a_there A L B hB hK hP
  have hB8 := hP.1
  rcases Nat.eq_zero_or_pos B with h0 | h0
  · exact br_t (by rw [hB, h0]; exact kt_rfl _) ⟨rfl, A, L, B, hB, hK, hP⟩
  · refine br_f (by rw [hB]; exact nI_nle h0 (by omega)) (xl_flush hP hB h0 (fun gth w sF sT fil Lf As x0 x1 x2 x3 x4 x5 hQ => ?_))
    exact ⟨rfl, A, L, 0, rfl, hK, hQ⟩
theorem i_vc_add {k : Nat} {u : SX} {v : SY} (I : i_Rel k u v) (hk : k + 4 ≤ 2048) (v1 : Int32) (v2 : Int32) (v3 : Int32) : wpX_add (fun r u' => wpY_add (fun r' v' => r' = r ∧ i_Rel (k + 4) u' v') v v1 v2 v3) u v1 v2 v3 := by
  refine i_el (Q := fun u v => wpX_add (fun r u' => wpY_add (fun r' v' => r' = r ∧ i_Rel (k + 4) u' v') v v1 v2 v3) u v1 v2 v3) ?_ I
  intro f_added f_alive f_buffered f_gathered f_x0 f_x1 f_y0 f_y1 f_foundMany f_foundTotal f_listing f_listed f_centreX f_centreY f_bestDistance f_bestPoint f_behindDistance f_behindPoint f_leftOut a_slotOf a_used a_pointOf a_px a_py a_heavy a_buffer a_filled a_leafSlot a_standsAt a_minX a_maxX a_minY a_maxY a_many a_total a_work a_spanFrom a_spanTo a_stack a_list f_size a_xs a_ys a_weights a_there A L B hB hK hP
  have es : f_size = f_alive := hK.2.1.2.1.trans hK.2.1.1.symm
  refine xl_add hB hK hP (fun h => ?_) (fun ho a b h => ?_) (fun ho a b c d hA s B' gth wk sF sT buf fil Lf As x0 x1 x2 x3 x4 x5 hK' hP' => ?_)
  · exact yl_add hK.1.1 hK.1.2 (fun _ => ⟨rfl, rfl, A, L, B, hB, hK, hP⟩) (fun ho a b _ => absurd ⟨ho, a, b⟩ h) (fun ho a b _ _ _ => absurd ⟨ho, a, b⟩ h)
  · refine yl_add hK.1.1 hK.1.2 (fun h' => absurd ⟨ho, a, b⟩ h') (fun _ _ _ _ => ⟨rfl, rfl, A, L, B, hB, hK, hP⟩) (fun _ _ _ n1 n2 _ => ?_)
    rw [es] at n1
    rcases h with h | h
    · exact absurd h n1
    · exact absurd h n2
  · refine yl_add hK.1.1 hK.1.2 (fun h' => absurd ⟨ho, a, b⟩ h') (fun _ _ _ h => ?_) (fun _ _ _ _ _ _ => ?_)
    · rw [es] at h
      rcases h with h | h
      · exact absurd h c
      · exact absurd h d
    · have ez := hK.2.1.2.1
      have e1 : f_size + 1 = nI (L + 1) := by rw [ez, nI_1]
      rw [e1]
      exact ⟨rfl, rfl, A + 1, L + 1, B', rfl, hK', hP'⟩
theorem i_vc_remove {k : Nat} {u : SX} {v : SY} (I : i_Rel k u v) (hk : k + 4 ≤ 2048) (v1 : Int32) : wpX_remove (fun r u' => wpY_remove (fun r' v' => r' = r ∧ i_Rel (k + 4) u' v') v v1) u v1 := by
  refine i_el (Q := fun u v => wpX_remove (fun r u' => wpY_remove (fun r' v' => r' = r ∧ i_Rel (k + 4) u' v') v v1) u v1) ?_ I
  intro f_added f_alive f_buffered f_gathered f_x0 f_x1 f_y0 f_y1 f_foundMany f_foundTotal f_listing f_listed f_centreX f_centreY f_bestDistance f_bestPoint f_behindDistance f_behindPoint f_leftOut a_slotOf a_used a_pointOf a_px a_py a_heavy a_buffer a_filled a_leafSlot a_standsAt a_minX a_maxX a_minY a_maxY a_many a_total a_work a_spanFrom a_spanTo a_stack a_list f_size a_xs a_ys a_weights a_there A L B hB hK hP
  have hA := hK.1.2
  refine xl_remove hB hK hP (fun h => ?_) (fun p s L' B' buf Lf As x0 x1 x2 x3 x4 x5 p1 p2 p3 ez hK' hP' => ?_)
  · exact yl_remove hK.1.1 hK.1.2 (fun _ => ⟨rfl, rfl, A, L, B, hB, hK, hP⟩) (fun p h1 h2 h3 => absurd ⟨p, h1, h2, h3⟩ h)
  · refine yl_remove hK.1.1 hK.1.2 (fun h => absurd ⟨p, p1, p2, p3⟩ h) (fun q q1 q2 q3 => ?_)
    have e := kt_ij (p2.symm.trans q2) (by omega) (by omega)
    subst e
    have e1 : f_size - 1 = nI L' := by rw [ez]; exact nI_pred L'
    rw [e1]
    exact ⟨rfl, rfl, A, L', B', rfl, hK', hP'⟩
theorem i_vc_move {k : Nat} {u : SX} {v : SY} (I : i_Rel k u v) (hk : k + 4 ≤ 2048) (v1 : Int32) (v2 : Int32) (v3 : Int32) : wpX_move (fun r u' => wpY_move (fun r' v' => r' = r ∧ i_Rel (k + 4) u' v') v v1 v2 v3) u v1 v2 v3 := by
  refine i_el (Q := fun u v => wpX_move (fun r u' => wpY_move (fun r' v' => r' = r ∧ i_Rel (k + 4) u' v') v v1 v2 v3) u v1 v2 v3) ?_ I
  intro f_added f_alive f_buffered f_gathered f_x0 f_x1 f_y0 f_y1 f_foundMany f_foundTotal f_listing f_listed f_centreX f_centreY f_bestDistance f_bestPoint f_behindDistance f_behindPoint f_leftOut a_slotOf a_used a_pointOf a_px a_py a_heavy a_buffer a_filled a_leafSlot a_standsAt a_minX a_maxX a_minY a_maxY a_many a_total a_work a_spanFrom a_spanTo a_stack a_list f_size a_xs a_ys a_weights a_there A L B hB hK hP
  have hA := hK.1.2
  refine xl_move hB hK hP (fun h => ?_) (fun hp h => ?_) (fun p s B' gth wk sF sT buf fil Lf As x0 x1 x2 x3 x4 x5 p1 p2 p3 ho hK' hP' => ?_)
  · exact yl_move hK.1.1 hK.1.2 (fun _ => ⟨rfl, rfl, A, L, B, hB, hK, hP⟩) (fun hp _ => absurd hp h) (fun p h1 h2 h3 _ => absurd ⟨p, h1, h2, h3⟩ h)
  · exact yl_move hK.1.1 hK.1.2 (fun h' => absurd hp h') (fun _ _ => ⟨rfl, rfl, A, L, B, hB, hK, hP⟩) (fun _ _ _ _ ho => absurd ho h)
  · refine yl_move hK.1.1 hK.1.2 (fun h => absurd ⟨p, p1, p2, p3⟩ h) (fun _ h => absurd ho h) (fun q q1 q2 q3 _ => ?_)
    have e := kt_ij (p2.symm.trans q2) (by omega) (by omega)
    subst e
    exact ⟨rfl, rfl, A, L, B', rfl, hK', hP'⟩
theorem i_init {po : SX → Prop} (h : ∀ a : Nat → Int32, po (0, 0, 0, 0, 0, 0, 0, 0, 0, 0, 0, 0, 0, 0, 0, 0, 0, 0, 0, a, (fun _ => 0), (fun _ => 0), (fun _ => 0), (fun _ => 0), (fun _ => 0), (fun _ => 0), (fun _ => 0), (fun _ => 0), (fun _ => 0), (fun _ => 0), (fun _ => 0), (fun _ => 0), (fun _ => 0), (fun _ => 0), (fun _ => 0), (fun _ => 0), (fun _ => 0), (fun _ => 0), (fun _ => 0), (fun _ => 0))) : ∀ d i, i + d = 200 → ∀ (a : Nat → Int32) n, d < n → wX_init_182 po 0 0 0 0 0 0 0 0 0 0 0 0 0 0 0 0 0 0 0 n (nI i) a (fun _ => 0) (fun _ => 0) (fun _ => 0) (fun _ => 0) (fun _ => 0) (fun _ => 0) (fun _ => 0) (fun _ => 0) (fun _ => 0) (fun _ => 0) (fun _ => 0) (fun _ => 0) (fun _ => 0) (fun _ => 0) (fun _ => 0) (fun _ => 0) (fun _ => 0) (fun _ => 0) (fun _ => 0) (fun _ => 0) := by
  intro d
  induction d with
  | zero =>
    intro i hi a n hn
    obtain ⟨m, rfl⟩ : ∃ m, n = m + 1 := ⟨n - 1, by omega⟩
    have ei : i = 200 := by omega
    subst ei
    exact br_t (kt_rfl _) (h a)
  | succ d ih =>
    intro i hi a n hn
    obtain ⟨m, rfl⟩ : ∃ m, n = m + 1 := ⟨n - 1, by omega⟩
    exact br_f (nI_ge (b := 200) (by omega) (by decide)) ⟨vp_in_nI (by omega) (by omega), nm_e (nm_r (nI_1 i) (ih (i + 1) (by omega) _ m (by omega)))⟩
theorem i_vc0 : wpX_init (fun u => wpY_init (fun v => i_Rel 0 u v)) := by
  refine ⟨201, i_init (fun a => ?_) 200 0 rfl _ 201 (by omega)⟩
  refine ⟨rfl, 0, 0, 0, rfl, ⟨⟨rfl, by omega⟩, ⟨rfl, rfl, by omega, rfl⟩, fun p hp => by omega, fun p hp => by omega, fun s _ h => absurd rfl h, fun p hp => by omega⟩, ⟨by omega, fun i hi => by omega, fun t _ h => absurd rfl h, fun s _ h => absurd rfl h, fun s _ h => absurd rfl h⟩⟩
end
