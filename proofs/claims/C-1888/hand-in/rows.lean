section
theorem pk_us {f : Nat → Int32} {k : Nat} {x : Int32} : upd f k x k = x := if_pos rfl
theorem pk_un {f : Nat → Int32} {k j : Nat} {x : Int32} (h : j ≠ k) : upd f k x j = f j := if_neg h
theorem pk_sub {a b : Nat} (h : b ≤ a) : nI a - nI b = nI (a - b) := by
  obtain ⟨c, rfl⟩ : ∃ c, a = c + b := ⟨a - b, by omega⟩
  rw [← nI_add, Int32.add_sub_cancel, Nat.add_sub_cancel]
theorem pk_m1 (n : Nat) : nI (n + 1) + (-1) = nI n := by
  rw [← nI_1, Int32.add_assoc, show (1 : Int32) + (-1) = 0 from rfl, Int32.add_zero]
theorem pk_mul (a b : Nat) : nI a * nI b = nI (a * b) := (Int32.ofNat_mul a b).symm
theorem pk_div {a d : Nat} (ha : a < 2 ^ 31) (h0 : 0 < d) (hd : d < 2 ^ 31) : nI a / nI d = nI (a / d) := by
  apply Int32.toInt_inj.mp
  rw [lg_idiv_nonneg (by rw [nI_toInt ha]; omega) (by rw [nI_toInt hd]; omega), nI_toInt ha, nI_toInt hd, nI_toInt (Nat.lt_of_le_of_lt (Nat.div_le_self a d) ha)]
  first | rfl | exact (Int.natCast_ediv _ _).symm
theorem pk_rem {a d : Nat} (ha : a < 2 ^ 31) (h0 : 0 < d) (hd : d < 2 ^ 31) : nI a - nI a / nI d * nI d = nI (a % d) := by
  rw [pk_div ha h0 hd, pk_mul, pk_sub (Nat.div_mul_le_self a d)]
  exact congrArg nI (by have := Nat.div_add_mod' a d; omega)
theorem pk_sub_toInt {a b : Nat} (ha : a < 2 ^ 30) (hb : b < 2 ^ 30) : (nI a - nI b).toInt = (a : Int) - b := by
  rw [Int32.toInt_sub, nI_toInt (by omega), nI_toInt (by omega)]
  exact Int.bmod_eq_of_le (by omega) (by omega)
theorem pk_sneg {a b : Nat} (hb : b < 2 ^ 30) (h : a < b) : nI a - nI b < 0 := by
  rw [Int32.lt_iff_toInt_lt, pk_sub_toInt (by omega) hb, show (0 : Int32).toInt = 0 from by decide]
  omega
theorem pk_ix (x : Int32) {n : Nat} (hn : n < 2 ^ 31) : x < 0 ∨ nI n ≤ x ∨ ∃ j : Nat, j < n ∧ x = nI j := by
  by_cases h : x < 0
  · exact Or.inl h
  · obtain ⟨j, hj, rfl⟩ := nI_of h
    by_cases h2 : j < n
    · exact Or.inr (Or.inr ⟨j, h2, rfl⟩)
    · exact Or.inr (Or.inl (nI_le (by omega) hj))
theorem pk_le {x y : Int32} {A B : Prop} (a b : Nat) (f : a ≤ b → A) (g : b < a → B) (hx : x = nI a := by rfl) (hy : y = nI b := by rfl) (ha : a < 2 ^ 31 := by omega) (hb : b < 2 ^ 31 := by omega) : (x ≤ y → A) ∧ (¬ x ≤ y → B) := by
  subst hx hy
  rw [nI_leI ha hb]
  exact ⟨f, fun z => g (by omega)⟩
theorem pk_lt {x y : Int32} {A B : Prop} (a b : Nat) (f : a < b → A) (g : b ≤ a → B) (hx : x = nI a := by rfl) (hy : y = nI b := by rfl) (ha : a < 2 ^ 31 := by omega) (hb : b < 2 ^ 31 := by omega) : (x < y → A) ∧ (¬ x < y → B) := by
  subst hx hy
  rw [nI_ltI ha hb]
  exact ⟨f, fun z => g (by omega)⟩
theorem pk_eq {x y : Int32} {A B : Prop} (a b : Nat) (f : a = b → A) (g : a ≠ b → B) (hx : x = nI a := by rfl) (hy : y = nI b := by rfl) (ha : a < 2 ^ 31 := by omega) (hb : b < 2 ^ 31 := by omega) : (x = y → A) ∧ (¬ x = y → B) := by
  subst hx hy
  rw [nI_eq ha hb]
  exact ⟨f, g⟩
theorem pk_in {x : Int32} (n N : Nat) (h : n < N) (hx : x = nI n := by rfl) (hN : N < 2 ^ 31 := by omega) : vp_in x N := by
  subst hx
  exact vp_in_nI h hN
theorem pk_cl {x : Int32} (n : Nat) (hx : x = nI n := by rfl) (h : n < 2 ^ 31 := by omega) : x.toNatClampNeg = n := by
  subst hx
  exact nI_clamp h
theorem pk_tn {n : Nat} (h : n < 2 ^ 32) : (nI n).toBitVec.toNat = n := Nat.mod_eq_of_lt h
theorem pk_and (x : Int32) {m : Int32} (k : Nat) (hm : m.toBitVec.toNat = 2 ^ k - 1) : x &&& m = nI (x.toBitVec.toNat % 2 ^ k) := by
  apply Int32.toBitVec_inj.mp
  apply BitVec.eq_of_toNat_eq
  rw [Int32.toBitVec_and, BitVec.toNat_and, hm, Nat.and_two_pow_sub_one_eq_mod]
  show _ = (BitVec.ofNat 32 _).toNat
  rw [BitVec.toNat_ofNat]
  exact (Nat.mod_eq_of_lt (Nat.lt_of_le_of_lt (Nat.mod_le _ _) x.toBitVec.isLt)).symm
theorem pk_andN {n : Nat} (h : n < 2 ^ 32) {m : Int32} (k : Nat) (hm : m.toBitVec.toNat = 2 ^ k - 1) : nI n &&& m = nI (n % 2 ^ k) := by
  rw [pk_and _ k hm, pk_tn h]
theorem pk_andE (x : Int32) {m : Int32} (k : Nat) (hm : m.toBitVec.toNat = 2 ^ k - 1) : ∃ j : Nat, j < 2 ^ k ∧ x &&& m = nI j := ⟨_, Nat.mod_lt _ (Nat.two_pow_pos k), pk_and x k hm⟩
theorem pk_andIn (x : Int32) {m : Int32} (k : Nat) (hm : m.toBitVec.toNat = 2 ^ k - 1) (hk : k ≤ 30) : vp_in (x &&& m) (2 ^ k) := by
  obtain ⟨j, hj, e⟩ := pk_andE x k hm
  rw [e]
  exact vp_in_nI hj (Nat.lt_of_le_of_lt (Nat.pow_le_pow_right (by decide) hk) (by decide))
theorem pk_shl (a s : Int32) (k : Nat) (hs : (s.toBitVec.smod 32).toNat = k) : (a <<< s).toBitVec.toNat = a.toBitVec.toNat * 2 ^ k % 2 ^ 32 := by
  show (a.toBitVec <<< (s.toBitVec.smod 32).toNat).toNat = _
  rw [hs, BitVec.toNat_shiftLeft, Nat.shiftLeft_eq]
theorem pk_shlN {n : Nat} (s : Int32) (k : Nat) (hs : (s.toBitVec.smod 32).toNat = k) (h : n * 2 ^ k < 2 ^ 32) : nI n <<< s = nI (n * 2 ^ k) := by
  apply Int32.toBitVec_inj.mp
  apply BitVec.eq_of_toNat_eq
  have hn : n < 2 ^ 32 := Nat.lt_of_le_of_lt (Nat.le_mul_of_pos_right n (Nat.two_pow_pos k)) h
  rw [pk_shl _ _ k hs, pk_tn hn, pk_tn h, Nat.mod_eq_of_lt h]
theorem pk_shr (a s : Int32) (k : Nat) (hs : (s.toBitVec.smod 32).toNat = k) : (a >>> s).toInt = a.toInt >>> k := by
  show (a.toBitVec.sshiftRight (s.toBitVec.smod 32).toNat).toInt = _
  rw [hs, BitVec.toInt_sshiftRight]
  rfl
theorem pk_shrN {n : Nat} (h : n < 2 ^ 31) (s : Int32) (k : Nat) (hs : (s.toBitVec.smod 32).toNat = k) : nI n >>> s = nI (n / 2 ^ k) := by
  apply Int32.toInt_inj.mp
  have h2 : n / 2 ^ k ≤ n := Nat.div_le_self _ _
  rw [pk_shr _ _ k hs, nI_toInt h, nI_toInt (by omega), Int.shiftRight_eq_div_pow]
  rfl
theorem pk_ushr (x s : Int32) (k : Nat) (hs : ((s.toUInt32 &&& Int32.toUInt32 31).toBitVec % 32).toNat = k) : (x.toUInt32 >>> (s.toUInt32 &&& Int32.toUInt32 31)).toInt32.toBitVec.toNat = x.toBitVec.toNat / 2 ^ k := by
  have e : (x.toUInt32 >>> (s.toUInt32 &&& Int32.toUInt32 31)).toInt32.toBitVec = x.toBitVec >>> k := by
    rw [← hs]
    exact UInt32.toBitVec_shiftRight _ _
  rw [e, BitVec.toNat_ushiftRight, Nat.shiftRight_eq_div_pow]
theorem pk_ushrN {n : Nat} (hn : n < 2 ^ 32) (s : Int32) (k : Nat) (hs : ((s.toUInt32 &&& Int32.toUInt32 31).toBitVec % 32).toNat = k) : ((nI n).toUInt32 >>> (s.toUInt32 &&& Int32.toUInt32 31)).toInt32 = nI (n / 2 ^ k) := by
  apply Int32.toBitVec_inj.mp
  apply BitVec.eq_of_toNat_eq
  rw [pk_ushr _ s k hs, pk_tn hn, pk_tn (Nat.lt_of_le_of_lt (Nat.div_le_self _ _) hn)]
theorem nx_and (a b : Nat) : nI a &&& nI b = nI (a &&& b) := by
  apply Int32.toBitVec_inj.1
  show BitVec.ofNat 32 a &&& BitVec.ofNat 32 b = BitVec.ofNat 32 (a &&& b)
  apply BitVec.eq_of_getLsbD_eq
  intro i hi
  simp [hi]
theorem nx_xor (a b : Nat) : nI a ^^^ nI b = nI (a ^^^ b) := by
  apply Int32.toBitVec_inj.1
  show BitVec.ofNat 32 a ^^^ BitVec.ofNat 32 b = BitVec.ofNat 32 (a ^^^ b)
  apply BitVec.eq_of_getLsbD_eq
  intro i hi
  simp [hi]
theorem nx_cnt : ∀ j : Fin 32, (UInt32.ofNat j.val &&& Int32.toUInt32 31).toNat % 32 = j.val := by decide +kernel
theorem nx_ush {k j : Nat} (hk : k < 65536) (hj : j < 32) : ((nI k).toUInt32 >>> ((nI j).toUInt32 &&& Int32.toUInt32 31)).toInt32 = nI (k >>> j) := by
  have hs : k >>> j ≤ k := by
    rw [Nat.shiftRight_eq_div_pow]
    exact Nat.div_le_self _ _
  have e2 : UInt32.ofNat k >>> (UInt32.ofNat j &&& Int32.toUInt32 31) = UInt32.ofNat (k >>> j) := by
    apply UInt32.toNat_inj.1
    have h1 : (UInt32.ofNat k).toNat = k := Nat.mod_eq_of_lt (by omega)
    have h2 : (UInt32.ofNat (k >>> j)).toNat = k >>> j := Nat.mod_eq_of_lt (by omega)
    rw [UInt32.toNat_shiftRight, nx_cnt ⟨j, hj⟩, h1, h2]
  show (UInt32.ofNat k >>> (UInt32.ofNat j &&& Int32.toUInt32 31)).toInt32 = _
  rw [e2]
  rfl
theorem nx_bit {k j : Nat} (hk : k < 65536) (hj : j < 16) : (((nI k).toUInt32 >>> ((nI j).toUInt32 &&& Int32.toUInt32 31)).toInt32 &&& 1) = 0 ↔ k.testBit j = false := by
  rw [nx_ush hk (by omega)]
  show nI (k >>> j) &&& nI 1 = 0 ↔ _
  rw [nx_and, Nat.and_one_is_mod, ← nI_0, nI_eq (by omega) (by omega), Nat.testBit_eq_decide_div_mod_eq, Nat.shiftRight_eq_div_pow, decide_eq_false_iff_not]
  generalize k / 2 ^ j = z
  omega
theorem nx_mod (k : Nat) : nI k &&& 65535 = nI (k % 65536) := by
  show nI k &&& nI 65535 = _
  rw [nx_and, show (65535 : Nat) = 2 ^ 16 - 1 from rfl, Nat.and_two_pow_sub_one_eq_mod]
theorem nx_m16 {k : Nat} (h : k < 65536) : nI k &&& 65535 = nI k := by rw [nx_mod, Nat.mod_eq_of_lt h]
theorem nx_mask (x : Int32) : ∃ k, k < 65536 ∧ x &&& 65535 = nI k := by
  have e : x = nI x.toBitVec.toNat := by
    apply Int32.toBitVec_inj.1
    show x.toBitVec = BitVec.ofNat 32 x.toBitVec.toNat
    simp
  refine ⟨x.toBitVec.toNat % 65536, Nat.mod_lt _ (by omega), ?_⟩
  rw [← nx_mod, ← e]
end
section
/-! prefixes as numbers: agreement in the first l of 16 bits, one bit, the cut -/
def pr_ag (a b l : Nat) : Prop := a / 2 ^ (16 - l) = b / 2 ^ (16 - l)
def pr_bit (a l : Nat) : Nat := a / 2 ^ (15 - l) % 2
def pr_cut (a l : Nat) : Nat := a / 2 ^ (16 - l) * 2 ^ (16 - l)
theorem pr_ag_refl (a l : Nat) : pr_ag a a l := rfl
theorem pr_ag_symm {a b l : Nat} (h : pr_ag a b l) : pr_ag b a l := Eq.symm h
theorem pr_ag_trans {a b c l : Nat} (h : pr_ag a b l) (g : pr_ag b c l) : pr_ag a c l := Eq.trans h g
theorem pr_ag_mono {a b l m : Nat} (hm : m ≤ 16) (hl : l ≤ m) (h : pr_ag a b m) : pr_ag a b l := by
  unfold pr_ag at *
  have e : 2 ^ (16 - l) = 2 ^ (16 - m) * 2 ^ (m - l) := by
    rw [← Nat.pow_add]
    congr 1
    omega
  rw [e, ← Nat.div_div_eq_div_mul, ← Nat.div_div_eq_div_mul, h]
theorem pr_pw {l : Nat} (hl : l < 16) : 2 ^ (16 - l) = 2 ^ (15 - l) * 2 := by
  rw [← Nat.pow_succ]
  congr 1
  omega
theorem pr_ag_succ {a b l : Nat} (hl : l < 16) : pr_ag a b (l + 1) ↔ pr_ag a b l ∧ pr_bit a l = pr_bit b l := by
  unfold pr_ag pr_bit
  have e2 : 16 - (l + 1) = 15 - l := by omega
  rw [pr_pw hl, e2, ← Nat.div_div_eq_div_mul, ← Nat.div_div_eq_div_mul]
  generalize a / 2 ^ (15 - l) = x
  generalize b / 2 ^ (15 - l) = y
  omega
theorem pr_ag_16 {a b : Nat} (h : pr_ag a b 16) : a = b := by
  unfold pr_ag at h
  simpa using h
theorem pr_ag_0 {a b : Nat} (ha : a < 65536) (hb : b < 65536) : pr_ag a b 0 := by
  unfold pr_ag
  rw [show 2 ^ (16 - 0) = 65536 from rfl, Nat.div_eq_of_lt ha, Nat.div_eq_of_lt hb]
theorem pr_cut_ag (a l : Nat) : pr_ag (pr_cut a l) a l := by
  unfold pr_ag pr_cut
  exact Nat.mul_div_cancel _ (Nat.two_pow_pos _)
theorem pr_cut_le (a l : Nat) : pr_cut a l ≤ a := Nat.div_mul_le_self _ _
theorem pr_cut_idem (a l : Nat) : pr_cut (pr_cut a l) l = pr_cut a l := by
  unfold pr_cut
  rw [Nat.mul_div_cancel _ (Nat.two_pow_pos _)]
theorem pr_cut_iff {a b l : Nat} (hb : pr_cut b l = b) : pr_cut a l = b ↔ pr_ag a b l := by
  constructor
  · intro h
    have := pr_cut_ag a l
    rw [h] at this
    exact pr_ag_symm this
  · intro h
    rw [← hb]
    unfold pr_cut
    rw [show a / 2 ^ (16 - l) = b / 2 ^ (16 - l) from h]
theorem pr_bit_lt (a l : Nat) : pr_bit a l < 2 := Nat.mod_lt _ (by decide)
theorem pr_bit_ag {a b l m : Nat} (hm : m ≤ 16) (hl : l < m) (h : pr_ag a b m) : pr_bit a l = pr_bit b l :=
  ((pr_ag_succ (by omega)).mp (pr_ag_mono hm hl h)).2
theorem pr_int {a s l : Nat} (hs : pr_cut s l = s) : pr_ag a s l ↔ s ≤ a ∧ a < s + 2 ^ (16 - l) := by
  have hw : 0 < 2 ^ (16 - l) := Nat.two_pow_pos _
  unfold pr_ag
  unfold pr_cut at hs
  generalize hq : s / 2 ^ (16 - l) = q at hs ⊢
  generalize 2 ^ (16 - l) = w at hw hs ⊢
  subst hs
  constructor
  · intro h
    have h1 := Nat.div_mul_le_self a w
    have h2 := Nat.lt_mul_div_succ a hw
    rw [h] at h1
    have h3 : a < w * (a / w + 1) := h2
    rw [h, Nat.mul_comm, Nat.add_mul] at h3
    omega
  · intro ⟨h1, h2⟩
    have h3 : q ≤ a / w := (Nat.le_div_iff_mul_le hw).mpr h1
    have h4 : a / w < q + 1 := (Nat.div_lt_iff_lt_mul hw).mpr (by rw [Nat.add_mul]; omega)
    omega
/-- towards either bit behind a prefix there is an address -/
theorem pr_exq {s l b : Nat} (h : s < 65536) (hs : pr_cut s l = s) (hl : l < 16) (hb : b < 2) : ∃ q, q < 65536 ∧ pr_ag q s l ∧ pr_bit q l = b := by
  have hw : 0 < 2 ^ (15 - l) := Nat.two_pow_pos _
  have e := pr_pw hl
  have e3 : 65536 = 2 ^ l * 2 ^ (16 - l) := by
    rw [← Nat.pow_add, show l + (16 - l) = 16 by omega]
  refine ⟨s + b * 2 ^ (15 - l), ?_⟩
  unfold pr_ag pr_bit
  unfold pr_cut at hs
  generalize hk : s / 2 ^ (16 - l) = k at hs ⊢
  rw [e] at hs e3 ⊢
  generalize 2 ^ (15 - l) = w at hw hs e3 ⊢
  have e4 : s = (2 * k) * w := by rw [← hs, ← Nat.mul_assoc, Nat.mul_right_comm, Nat.mul_comm k 2]
  have e5 : s + b * w = (2 * k + b) * w := by rw [e4, Nat.add_mul]
  have h6 : (2 * k + b) * w / w = 2 * k + b := Nat.mul_div_cancel _ hw
  refine ⟨?_, ?_, ?_⟩
  · have h7 : k < 2 ^ l := by
      apply Nat.lt_of_mul_lt_mul_right (a := w * 2)
      omega
    have h8 : (k + 1) * (w * 2) ≤ 2 ^ l * (w * 2) := Nat.mul_le_mul_right _ h7
    rw [← e3, Nat.add_mul, hs] at h8
    have : b * w ≤ 1 * w := Nat.mul_le_mul_right _ (by omega)
    omega
  · rw [e5, ← Nat.div_div_eq_div_mul, h6]
    omega
  · rw [e5, h6]
    omega
/-! the words of the program -/
theorem pr_andm {a l : Nat} (ha : a < 65536) (hl : l ≤ 16) : a &&& ((2 ^ l - 1) * 2 ^ (16 - l)) = pr_cut a l := by
  unfold pr_cut
  apply Nat.eq_of_testBit_eq
  intro i
  rw [Nat.testBit_and, Nat.testBit_mul_two_pow, Nat.testBit_two_pow_sub_one, Nat.testBit_mul_two_pow, Nat.testBit_div_two_pow]
  by_cases h : 16 - l ≤ i
  · rw [show i - (16 - l) + (16 - l) = i by omega]
    by_cases h2 : i < 16
    · simp [h, show i - (16 - l) < l by omega]
    · rw [Nat.testBit_lt_two_pow (x := a) (Nat.lt_of_lt_of_le ha (show 65536 ≤ 2 ^ i from Nat.pow_le_pow_right (n := 2) (by decide) (show 16 ≤ i by omega)))]
      simp
  · simp [h]
theorem pr_mask : ∀ l, l < 17 → ((65535 : Int32) <<< ((16 - nI l) &&& 31)) &&& 65535 = nI ((2 ^ l - 1) * 2 ^ (16 - l)) := by decide +kernel
theorem pr_wcut {a l : Nat} (ha : a < 65536) (hl : l ≤ 16) : (nI a &&& ((65535 : Int32) <<< ((16 - nI l) &&& 31))) &&& 65535 = nI (pr_cut a l) := by
  rw [Int32.and_assoc, pr_mask l (by omega), nx_and, pr_andm ha hl]
theorem pr_wbit {p l : Nat} (hp : p < 65536) (hl : l < 16) : (((nI p).toUInt32 >>> ((15 - nI l).toUInt32 &&& Int32.toUInt32 31)).toInt32) &&& 1 = nI (pr_bit p l) := by
  have e : (15 : Int32) - nI l = nI (15 - l) := pk_sub (a := 15) (by omega)
  have h2 : p >>> (15 - l) ≤ p := by rw [Nat.shiftRight_eq_div_pow]; exact Nat.div_le_self _ _
  rw [e, nx_ush hp (by omega), pk_andN (by omega) 1 (by decide), Nat.shiftRight_eq_div_pow]
  rfl
theorem pr_wsz : ∀ l, l < 17 → (65536 : Int32) >>> (nI l &&& 31) = nI (2 ^ (16 - l)) := by decide +kernel
theorem pr_szle {l : Nat} : 2 ^ (16 - l) ≤ 65536 := Nat.pow_le_pow_right (n := 2) (i := 16 - l) (j := 16) (by decide) (by omega)
theorem pr_szpos {l : Nat} : 0 < 2 ^ (16 - l) := Nat.two_pow_pos _
theorem pr_x2 (n : Nat) : (2 : Int32) * nI n = nI (2 * n) := pk_mul 2 n
/-- the walks of the small functions -/
theorem pr_sizeL {post : Int32 → Prop} : ∀ d l s : Nat, l + d = 16 → post (nI (s * 2 ^ d)) → wY_sizeOf_4 post (d + 1) (nI s) (nI l) := by
  intro d
  induction d with
  | zero =>
    intro l s h hp
    refine br_t (nI_le (a := 16) (by omega) (by omega)) ?_
    simpa using hp
  | succ d ih =>
    intro l s h hp
    refine br_f (nI_ge (b := 16) (by omega) (by decide)) ?_
    refine nm_r (pr_x2 s) (nm_r (nI_1 l) (ih (l + 1) (2 * s) (by omega) ?_))
    rw [show 2 * s * 2 ^ d = s * 2 ^ (d + 1) by rw [Nat.pow_succ, Nat.mul_comm 2 s, Nat.mul_assoc, Nat.mul_comm 2]]
    exact hp
theorem pr_size {post : Int32 → Prop} {l : Nat} (hl : l ≤ 16) (hp : post (nI (2 ^ (16 - l)))) : wpY_sizeOf post (nI l) :=
  ⟨16 - l + 1, pr_sizeL (16 - l) l 1 (by omega) (by rw [Nat.one_mul]; exact hp)⟩
theorem pr_start {post : Int32 → Prop} {x : Int32} {a l : Nat} (hx : x &&& 65535 = nI a) (ha : a < 65536) (hl : l ≤ 16) (hp : post (nI (pr_cut a l))) : wpY_start post x (nI l) := by
  have h1 := @pr_szpos l
  have h2 := @pr_szle l
  refine pr_size hl (br_f (nI_nle h1 (by omega)) ⟨nI_ne0 h1 (by omega), ?_⟩)
  rw [hx, pk_div (by omega) h1 (by omega), pk_mul]
  exact hp
theorem pr_xcut {post : Int32 → Prop} {a l : Nat} (ha : a < 65536) (hl : l ≤ 16) (hp : post (nI (pr_cut a l))) : wpX_cut post (nI a) (nI l) := by
  unfold wpX_cut
  rw [pr_wcut ha hl]
  exact hp
theorem pr_xbit {post : Int32 → Prop} {p l : Nat} (hq : p < 65536) (hl : l < 16) (hp : post (nI (pr_bit p l))) : wpX_bitAt post (nI p) (nI l) := by
  unfold wpX_bitAt
  rw [pr_wbit hq hl]
  exact hp
end
section
/-! the tree as a set of prefixes: U the nodes in use, B and L their prefixes, S A b what hangs below A on the side b (A = 64: the root's place) -/
def pr_cov (B L : Nat → Nat) (n m : Nat) : Prop := L n ≤ L m ∧ pr_ag (B m) (B n) (L n)
def pr_lev (L : Nat → Nat) (A : Nat) : Nat := if A < 64 then L A + 1 else 0
def pr_bx (L : Nat → Nat) (A q : Nat) : Nat := if A < 64 then pr_bit q (L A) else 0
/-- the place below A towards q -/
def pr_at (U : Nat → Bool) (B L : Nat → Nat) (A q : Nat) : Prop := q < 65536 ∧ (A = 64 ∨ (U A = true ∧ L A < 16 ∧ pr_ag q (B A) (L A)))
def pr_base (U : Nat → Bool) (B L : Nat → Nat) : Prop :=
  (∀ n, U n = true → n < 64 ∧ L n ≤ 16 ∧ B n < 65536 ∧ pr_cut (B n) (L n) = B n) ∧
  (∀ n m, U n = true → U m = true → B n = B m → L n = L m → n = m)
def pr_T (U : Nat → Bool) (B L : Nat → Nat) (S : Nat → Nat → Nat) : Prop :=
  pr_base U B L ∧
  (∀ A q, pr_at U B L A q → S A (pr_bx L A q) < 64 → U (S A (pr_bx L A q)) = true ∧ pr_lev L A ≤ L (S A (pr_bx L A q)) ∧ pr_ag (B (S A (pr_bx L A q))) q (pr_lev L A)) ∧
  (∀ A q m, pr_at U B L A q → U m = true → pr_lev L A ≤ L m → pr_ag (B m) q (pr_lev L A) → S A (pr_bx L A q) < 64 ∧ pr_cov B L (S A (pr_bx L A q)) m) ∧
  (∀ n b, U n = true → L n = 16 → b < 2 → ¬ S n b < 64)
section
variable {U : Nat → Bool} {B L : Nat → Nat} {S : Nat → Nat → Nat}
theorem pr_lev_lt {A : Nat} (h : A < 64) : pr_lev L A = L A + 1 := if_pos h
theorem pr_lev_64 : pr_lev L 64 = 0 := rfl
theorem pr_bx_lt {A q : Nat} (h : A < 64) : pr_bx L A q = pr_bit q (L A) := if_pos h
theorem pr_bx_64 {q : Nat} : pr_bx L 64 q = 0 := rfl
theorem pr_bx2 {A q : Nat} : pr_bx L A q < 2 := by
  unfold pr_bx
  split
  · exact pr_bit_lt _ _
  · decide
theorem pr_same (hb : pr_base U B L) {n m : Nat} (hn : U n = true) (hm : U m = true) (hl : L n = L m) (ha : pr_ag (B n) (B m) (L n)) : n = m := by
  have h1 := hb.1 n hn
  have h2 := hb.1 m hm
  refine hb.2 n m hn hm ?_ hl
  have := (pr_cut_iff (a := B n) h2.2.2.2).mpr (hl ▸ ha)
  rw [← this, ← hl]
  exact h1.2.2.2.symm
theorem pr_cov_refl (n : Nat) : pr_cov B L n n := ⟨Nat.le_refl _, pr_ag_refl _ _⟩
theorem pr_cov_trans {a b c : Nat} (hb : L b ≤ 16) (h : pr_cov B L a b) (g : pr_cov B L b c) : pr_cov B L a c :=
  ⟨Nat.le_trans h.1 g.1, pr_ag_trans (pr_ag_mono hb h.1 g.2) h.2⟩
theorem pr_cov_cmp {a b m : Nat} (hb : L b ≤ 16) (h : pr_cov B L a m) (g : pr_cov B L b m) (hl : L a ≤ L b) : pr_cov B L a b :=
  ⟨hl, pr_ag_trans (pr_ag_symm (pr_ag_mono hb hl g.2)) h.2⟩
theorem pr_at_lt (hb : pr_base U B L) {A q : Nat} (h : pr_at U B L A q) : pr_lev L A ≤ 16 ∧ A ≤ 64 := by
  rcases h.2 with e | ⟨h1, h2, _⟩
  · subst e
    exact ⟨Nat.zero_le _, Nat.le_refl _⟩
  · have := (hb.1 A h1).1
    rw [pr_lev_lt this]
    omega
/-- the place below a node towards a deeper node -/
theorem pr_at_node (hb : pr_base U B L) {n m : Nat} (hn : U n = true) (hm : U m = true) (hl : L n < L m) (ha : pr_ag (B m) (B n) (L n)) : pr_at U B L n (B m) :=
  ⟨(hb.1 m hm).2.2.1, Or.inr ⟨hn, by have := (hb.1 m hm).2.1; omega, ha⟩⟩
theorem pr_up (T : pr_T U B L S) {A p A' q : Nat} (ha : pr_at U B L A p) (ha' : pr_at U B L A' q) (hx : S A (pr_bx L A p) < 64) (he : S A' (pr_bx L A' q) = S A (pr_bx L A p)) : A = A' ∧ pr_bx L A p = pr_bx L A' q := by
  obtain ⟨hb, h1, h2, _⟩ := T
  have i1 := h1 A p ha hx
  have i2 := h1 A' q ha' (by rw [he]; exact hx)
  have k1 := h2 A p
  have k2 := h2 A' q
  rw [he] at i2 k2
  generalize S A (pr_bx L A p) = x at hx i1 i2 k1 k2
  have hx16 := (hb.1 x i1.1).2.1
  have c : ∀ A p A' q, pr_at U B L A p → pr_at U B L A' q → (U x = true ∧ pr_lev L A ≤ L x ∧ pr_ag (B x) p (pr_lev L A)) → (U x = true ∧ pr_lev L A' ≤ L x ∧ pr_ag (B x) q (pr_lev L A')) → (∀ m, pr_at U B L A p → U m = true → pr_lev L A ≤ L m → pr_ag (B m) p (pr_lev L A) → x < 64 ∧ pr_cov B L x m) → ¬ pr_lev L A < pr_lev L A' := by
    intro A p A' q ha ha' i1 i2 k1 hlt
    rcases ha'.2 with e | ⟨u, l, g⟩
    · subst e
      rw [pr_lev_64] at hlt
      omega
    · have hA := (hb.1 A' u).1
      rw [pr_lev_lt hA] at hlt i2
      have g1 : pr_ag (B A') (B x) (L A') := pr_ag_trans (pr_ag_symm g) (pr_ag_symm (pr_ag_mono (by omega) (by omega) i2.2.2))
      have g2 : pr_ag (B A') p (pr_lev L A) := pr_ag_trans (pr_ag_mono (by omega) (by omega) g1) i1.2.2
      have := (k1 A' ha u (by omega) g2).2.1
      omega
  have c1 := c A p A' q ha ha' i1 i2 k1
  have c2 := c A' q A p ha' ha i2 i1 k2
  have e : pr_lev L A = pr_lev L A' := by omega
  rcases ha.2 with e1 | ⟨u, l, g⟩
  · subst e1
    rcases ha'.2 with e2 | ⟨u', l', g'⟩
    · subst e2
      exact ⟨rfl, rfl⟩
    · rw [pr_lev_64, pr_lev_lt (hb.1 A' u').1] at e
      omega
  · have hA := (hb.1 A u).1
    rcases ha'.2 with e2 | ⟨u', l', g'⟩
    · subst e2
      rw [pr_lev_64, pr_lev_lt hA] at e
      omega
    · have hA' := (hb.1 A' u').1
      rw [pr_lev_lt hA, pr_lev_lt hA'] at e
      rw [pr_lev_lt hA] at i1
      rw [pr_lev_lt hA'] at i2
      have e3 : L A = L A' := by omega
      have i3 := i2.2.2
      rw [← e3] at i3 g'
      have g3 : pr_ag p q (L A + 1) := pr_ag_trans (pr_ag_symm i1.2.2) i3
      have g4 := (pr_ag_succ l).mp g3
      have : A = A' := pr_same hb u u' e3 (pr_ag_trans (pr_ag_symm g) (pr_ag_trans g4.1 g'))
      subst this
      exact ⟨rfl, by rw [pr_bx_lt hA, pr_bx_lt hA]; exact g4.2⟩
/-- a child, by its side -/
theorem pr_kid (T : pr_T U B L S) {n b : Nat} (hn : U n = true) (hb : b < 2) (hc : S n b < 64) : U (S n b) = true ∧ L n < L (S n b) ∧ pr_ag (B (S n b)) (B n) (L n) ∧ pr_bit (B (S n b)) (L n) = b := by
  obtain ⟨hb0, h1, h2, h3⟩ := T
  have hh := hb0.1 n hn
  have h16 : L n < 16 := by
    rcases Nat.lt_or_ge (L n) 16 with h | h
    · exact h
    · exact absurd hc (h3 n b hn (by omega) hb)
  obtain ⟨q, q1, q2, q3⟩ := pr_exq hh.2.2.1 hh.2.2.2 h16 hb
  have ha : pr_at U B L n q := ⟨q1, Or.inr ⟨hn, h16, q2⟩⟩
  have i := h1 n q ha
  rw [pr_bx_lt hh.1, q3, pr_lev_lt hh.1] at i
  obtain ⟨i1, i2, i3⟩ := i hc
  have i4 := (pr_ag_succ h16).mp i3
  exact ⟨i1, i2, pr_ag_trans i4.1 q2, i4.2.trans q3⟩
/-- the place of a child, by its side -/
theorem pr_kat (T : pr_T U B L S) {n b : Nat} (hn : U n = true) (hb : b < 2) (hc : S n b < 64) : pr_at U B L n (B (S n b)) ∧ pr_bx L n (B (S n b)) = b := by
  obtain ⟨k1, k2, k3, k4⟩ := pr_kid T hn hb hc
  exact ⟨pr_at_node T.1 hn k1 k2 k3, by rw [pr_bx_lt (T.1.1 n hn).1]; exact k4⟩
/-- a deeper node lies below the child on its side -/
theorem pr_below (T : pr_T U B L S) {n m : Nat} (hn : U n = true) (hm : U m = true) (hl : L n < L m) (ha : pr_ag (B m) (B n) (L n)) : S n (pr_bit (B m) (L n)) < 64 ∧ pr_cov B L (S n (pr_bit (B m) (L n))) m := by
  have h := T.2.2.1 n (B m) m (pr_at_node T.1 hn hm hl ha) hm
  rw [pr_lev_lt (T.1.1 n hn).1, pr_bx_lt (T.1.1 n hn).1] at h
  exact h hl (pr_ag_refl _ _)
theorem pr_root (T : pr_T U B L S) {m : Nat} (hm : U m = true) : S 64 0 < 64 ∧ pr_cov B L (S 64 0) m :=
  T.2.2.1 64 (B m) m ⟨(T.1.1 m hm).2.2.1, Or.inl rfl⟩ hm (Nat.zero_le _) (pr_ag_refl _ _)
theorem pr_rootU (T : pr_T U B L S) (h : S 64 0 < 64) : U (S 64 0) = true :=
  (T.2.1 64 0 ⟨by decide, Or.inl rfl⟩ h).1
end
/-- a new node x is put between the place below A towards p and what hangs there -/
theorem pr_in {U U' : Nat → Bool} {B L B' L' : Nat → Nat} {S S' : Nat → Nat → Nat} (T : pr_T U B L S) {A p len x : Nat} (hat : pr_at U B L A p) (hlen : pr_lev L A ≤ len) (h16 : len ≤ 16) (hp : pr_cut p len = p) (hx : x < 64) (hxu : U x = false)
    (hn : S A (pr_bx L A p) < 64 → len < L (S A (pr_bx L A p)) ∧ pr_ag (B (S A (pr_bx L A p))) p len)
    (hU : ∀ m, U' m = true ↔ m = x ∨ U m = true) (hBx : B' x = p) (hLx : L' x = len) (hB : ∀ m, m ≠ x → B' m = B m) (hL : ∀ m, m ≠ x → L' m = L m)
    (hS1 : ∀ A' b, A' ≤ 64 → b < 2 → A' ≠ x → ¬ (A' = A ∧ b = pr_bx L A p) → S' A' b = S A' b)
    (hS2 : S' A (pr_bx L A p) = x)
    (hS3 : ∀ b, b < 2 → S A (pr_bx L A p) < 64 → b = pr_bit (B (S A (pr_bx L A p))) len → S' x b = S A (pr_bx L A p))
    (hS4 : ∀ b, b < 2 → (S A (pr_bx L A p) < 64 → b ≠ pr_bit (B (S A (pr_bx L A p))) len) → ¬ S' x b < 64) : pr_T U' B' L' S' := by
  obtain ⟨hb, h1, h2, h3⟩ := T
  have hne : ∀ m, U m = true → m ≠ x := fun m hm e => by rw [e, hxu] at hm; exact absurd hm (by decide)
  have k1 := h1 A p hat
  have k2 := h2 A p
  generalize hN : S A (pr_bx L A p) = N at hn k1 k2 hS3 hS4
  have hA64 := (pr_at_lt hb hat)
  have hb' : pr_base U' B' L' := by
    constructor
    · intro n hn'
      rcases (hU n).mp hn' with e | u
      · subst e
        rw [hBx, hLx]
        exact ⟨hx, h16, hat.1, hp⟩
      · rw [hB n (hne n u), hL n (hne n u)]
        exact hb.1 n u
    · have key : ∀ m, U m = true → B m = p → L m = len → False := by
        intro m hm e1 e2
        have q := k2 m hat hm (by omega) (by rw [e1]; exact pr_ag_refl _ _)
        have := (hn q.1).1
        have := q.2.1
        omega
      intro n m hn' hm' e1 e2
      rcases (hU n).mp hn' with e | u
      · subst e
        rcases (hU m).mp hm' with e' | u'
        · exact e'.symm
        · rw [hBx, hB m (hne m u')] at e1
          rw [hLx, hL m (hne m u')] at e2
          exact (key m u' e1.symm e2.symm).elim
      · rcases (hU m).mp hm' with e' | u'
        · subst e'
          rw [hBx, hB n (hne n u)] at e1
          rw [hLx, hL n (hne n u)] at e2
          exact (key n u e1 e2).elim
        · rw [hB n (hne n u), hB m (hne m u')] at e1
          rw [hL n (hne n u), hL m (hne m u')] at e2
          exact hb.2 n m u u' e1 e2
  have hlevx : pr_lev L' x = len + 1 := by rw [pr_lev_lt hx, hLx]
  have hbxx : ∀ q, pr_bx L' x q = pr_bit q len := fun q => by rw [pr_bx_lt hx, hLx]
  have hlev : ∀ A', A' ≠ x → pr_lev L' A' = pr_lev L A' := fun A' h => by unfold pr_lev; rw [hL A' h]
  have hbx : ∀ A' q, A' ≠ x → pr_bx L' A' q = pr_bx L A' q := fun A' q h => by unfold pr_bx; rw [hL A' h]
  -- the place of an old node (or the root's)
  have hold : ∀ A' q, A' ≠ x → pr_at U' B' L' A' q → pr_at U B L A' q := by
    intro A' q h ha
    refine ⟨ha.1, ?_⟩
    rcases ha.2 with e | ⟨u, l, g⟩
    · exact Or.inl e
    · rcases (hU A').mp u with e | u'
      · exact absurd e h
      · rw [hL A' h] at l g
        rw [hB A' h] at g
        exact Or.inr ⟨u', l, g⟩
  have hAx : A ≠ x := by
    rcases hat.2 with e | ⟨u, _⟩
    · omega
    · exact hne A u
  -- the same place: q agrees with p up to the level
  have hsame : ∀ q, pr_at U B L A q → pr_bx L A q = pr_bx L A p → pr_ag q p (pr_lev L A) := by
    intro q hq e
    rcases hat.2 with e1 | ⟨u, l, g⟩
    · subst e1
      exact pr_ag_0 hq.1 hat.1
    · have hA := (hb.1 A u).1
      rcases hq.2 with e2 | ⟨_, _, g'⟩
      · omega
      · rw [pr_lev_lt hA]
        rw [pr_bx_lt hA, pr_bx_lt hA] at e
        exact (pr_ag_succ l).mpr ⟨pr_ag_trans g' (pr_ag_symm g), e⟩
  refine ⟨hb', ?_, ?_, ?_⟩
  · intro A' q ha hc
    by_cases hA' : A' = x
    · subst hA'
      rw [hbxx] at hc ⊢
      rw [hlevx]
      by_cases hz : N < 64 ∧ pr_bit q len = pr_bit (B N) len
      · rw [hS3 _ (pr_bit_lt _ _) hz.1 hz.2]
        have := hn hz.1
        have kk := k1 hz.1
        rw [hL N (hne N kk.1), hB N (hne N kk.1)]
        refine ⟨(hU N).mpr (Or.inr kk.1), this.1, ?_⟩
        rcases ha.2 with e | ⟨_, l, g⟩
        · omega
        · rw [hLx] at l g
          rw [hBx] at g
          exact (pr_ag_succ l).mpr ⟨pr_ag_trans this.2 (pr_ag_symm g), hz.2.symm⟩
      · exact absurd hc (hS4 _ (pr_bit_lt _ _) (fun h e => hz ⟨h, e⟩))
    · have ho := hold A' q hA' ha
      rw [hbx A' q hA'] at hc ⊢
      rw [hlev A' hA']
      by_cases hs : A' = A ∧ pr_bx L A' q = pr_bx L A p
      · obtain ⟨e, e2⟩ := hs
        subst e
        rw [e2, hS2, hLx, hBx]
        exact ⟨(hU x).mpr (Or.inl rfl), hlen, pr_ag_symm (hsame q ho e2)⟩
      · rw [hS1 A' _ (pr_at_lt hb ho).2 pr_bx2 hA' hs] at hc ⊢
        have i := h1 A' q ho hc
        rw [hL _ (hne _ i.1), hB _ (hne _ i.1)]
        exact ⟨(hU _).mpr (Or.inr i.1), i.2⟩
  · intro A' q m ha hm hl hg
    have covx : ∀ m, U m = true → N < 64 → pr_cov B L N m → pr_cov B' L' x m := by
      intro m hm hN64 hc
      have := hn hN64
      unfold pr_cov
      rw [hLx, hBx, hL m (hne m hm), hB m (hne m hm)]
      exact ⟨by have := hc.1; omega, pr_ag_trans (pr_ag_mono (hb.1 N (k1 hN64).1).2.1 (by omega) hc.2) this.2⟩
    by_cases hA' : A' = x
    · subst hA'
      rw [hbxx]
      rw [hlevx] at hl hg
      rcases ha.2 with e | ⟨_, l, g⟩
      · omega
      · rw [hLx] at l g
        rw [hBx] at g
        rcases (hU m).mp hm with e | u
        · subst e
          rw [hLx] at hl
          omega
        · have hmx := hne m u
          rw [hL m hmx] at hl
          rw [hB m hmx] at hg
          have gg := (pr_ag_succ l).mp hg
          have gp : pr_ag (B m) p len := pr_ag_trans gg.1 g
          have kk := k2 m hat u (by omega) (pr_ag_mono h16 hlen gp)
          have hh := hn kk.1
          have e : pr_bit q len = pr_bit (B N) len := by
            rw [← gg.2]
            exact pr_bit_ag (hb.1 N (k1 kk.1).1).2.1 hh.1 kk.2.2
          rw [hS3 _ (pr_bit_lt _ _) kk.1 e]
          have hNx := hne N (k1 kk.1).1
          unfold pr_cov
          rw [hL m hmx, hB m hmx, hL N hNx, hB N hNx]
          exact kk
    · have ho := hold A' q hA' ha
      rw [hbx A' q hA']
      rw [hlev A' hA'] at hl hg
      by_cases hs : A' = A ∧ pr_bx L A' q = pr_bx L A p
      · obtain ⟨e, e2⟩ := hs
        subst e
        rw [e2, hS2]
        refine ⟨hx, ?_⟩
        rcases (hU m).mp hm with e | u
        · subst e
          exact pr_cov_refl _
        · have hmx := hne m u
          rw [hL m hmx] at hl
          rw [hB m hmx] at hg
          have kk := k2 m hat u hl (pr_ag_trans hg (hsame q ho e2))
          exact covx m u kk.1 kk.2
      · rw [hS1 A' _ (pr_at_lt hb ho).2 pr_bx2 hA' hs]
        rcases (hU m).mp hm with e | u
        · subst e
          rw [hLx] at hl
          rw [hBx] at hg
          -- A' lies above A, or the level of A is above A'
          rcases Nat.lt_or_ge (pr_lev L A') (pr_lev L A) with hlt | hge
          · rcases hat.2 with e | ⟨u, l, g⟩
            · subst e
              rw [pr_lev_64] at hlt
              omega
            · have hA := (hb.1 A u).1
              rw [pr_lev_lt hA] at hlt hlen
              have kk := h2 A' q A ho u (by omega) (pr_ag_trans (pr_ag_symm (pr_ag_mono (by omega) (by omega) g)) hg)
              refine ⟨kk.1, ?_⟩
              have hc := h1 A' q ho kk.1
              have hcx := hne _ hc.1
              unfold pr_cov
              rw [hLx, hBx, hL _ hcx, hB _ hcx]
              exact ⟨by have := kk.2.1; omega, pr_ag_trans (pr_ag_mono (by omega) kk.2.1 g) kk.2.2⟩
          · exfalso
            rcases ho.2 with e | ⟨u, l, g⟩
            · subst e
              rw [pr_lev_64] at hge
              rcases hat.2 with e1 | ⟨u, _⟩
              · subst e1
                exact hs ⟨rfl, rfl⟩
              · rw [pr_lev_lt (hb.1 A u).1] at hge
                omega
            · have hA' := (hb.1 A' u).1
              rw [pr_lev_lt hA'] at hge hl hg
              have gA : pr_ag (B A') p (L A') := pr_ag_trans (pr_ag_symm g) (pr_ag_symm (pr_ag_mono (by omega) (by omega) hg))
              rcases Nat.lt_or_ge (L A') (pr_lev L A) with hlt2 | hge2
              · -- the same level
                rcases hat.2 with e | ⟨u2, l2, g2⟩
                · subst e
                  rw [pr_lev_64] at hlt2
                  omega
                · have hA := (hb.1 A u2).1
                  rw [pr_lev_lt hA] at hlt2 hge
                  have e3 : L A' = L A := by omega
                  have : A' = A := pr_same hb u u2 e3 (pr_ag_trans gA (e3 ▸ g2))
                  subst this
                  refine hs ⟨rfl, ?_⟩
                  rw [pr_bx_lt hA', pr_bx_lt hA']
                  exact ((pr_ag_succ l).mp (pr_ag_symm hg)).2
              · have kk := k2 A' hat u hge2 (pr_ag_mono (by omega) hge2 gA)
                have := (hn kk.1).1
                have := kk.2.1
                omega
        · have hmx := hne m u
          rw [hL m hmx] at hl
          rw [hB m hmx] at hg
          have kk := h2 A' q m ho u hl hg
          have hc := h1 A' q ho kk.1
          have hcx := hne _ hc.1
          unfold pr_cov
          rw [hL m hmx, hB m hmx, hL _ hcx, hB _ hcx]
          exact kk
  · intro n b hn' e16 hb2
    by_cases hnx : n = x
    · subst hnx
      rw [hLx] at e16
      refine hS4 b hb2 ?_
      intro h64
      have := (hn h64).1
      have := (hb.1 N (k1 h64).1).2.1
      omega
    · rcases (hU n).mp hn' with e | u
      · exact absurd e hnx
      · rw [hL n hnx] at e16
        have hs : ¬ (n = A ∧ b = pr_bx L A p) := by
          intro ⟨e, _⟩
          subst e
          rw [pr_lev_lt (hb.1 n u).1] at hlen
          omega
        rw [hS1 n b (Nat.le_of_lt (hb.1 n u).1) hb2 hnx hs]
        exact h3 n b u e16 hb2
/-- a node x with at most one child is taken out of its place -/
theorem pr_out {U U' : Nat → Bool} {B L : Nat → Nat} {S S' : Nat → Nat → Nat} (T : pr_T U B L S) {A p x rest : Nat} (hat : pr_at U B L A p) (hx : S A (pr_bx L A p) = x) (hx64 : x < 64)
    (hU : ∀ m, U' m = true ↔ U m = true ∧ m ≠ x)
    (hS1 : ∀ A' b, A' ≤ 64 → b < 2 → A' ≠ x → ¬ (A' = A ∧ b = pr_bx L A p) → S' A' b = S A' b)
    (hS2 : S' A (pr_bx L A p) = rest)
    (hr : ∀ b, b < 2 → S x b < 64 → S x b = rest) (hr2 : rest < 64 → ∃ b, b < 2 ∧ S x b = rest) : pr_T U' B L S' := by
  have T0 := T
  obtain ⟨hb, h1, h2, h3⟩ := T
  have k1 := h1 A p hat (by rw [hx]; exact hx64)
  have k2 := h2 A p
  rw [hx] at k1 k2
  have hx16 := (hb.1 x k1.1).2.1
  have hAx : A ≠ x := by
    rcases hat.2 with e | ⟨u, _⟩
    · omega
    · intro e
      subst e
      have := k1.2.1
      rw [pr_lev_lt hx64] at this
      omega
  have hold : ∀ A' q, pr_at U' B L A' q → A' ≠ x ∧ pr_at U B L A' q := by
    intro A' q ha
    rcases ha.2 with e | ⟨u, l, g⟩
    · exact ⟨by omega, ha.1, Or.inl e⟩
    · have := (hU A').mp u
      exact ⟨this.2, ha.1, Or.inr ⟨this.1, l, g⟩⟩
  have hsame : ∀ q, pr_at U B L A q → pr_bx L A q = pr_bx L A p → pr_ag q p (pr_lev L A) := by
    intro q hq e
    rcases hat.2 with e1 | ⟨u, l, g⟩
    · subst e1
      exact pr_ag_0 hq.1 hat.1
    · have hA := (hb.1 A u).1
      rcases hq.2 with e2 | ⟨_, _, g'⟩
      · omega
      · rw [pr_lev_lt hA]
        rw [pr_bx_lt hA, pr_bx_lt hA] at e
        exact (pr_ag_succ l).mpr ⟨pr_ag_trans g' (pr_ag_symm g), e⟩
  refine ⟨⟨fun n hn => hb.1 n ((hU n).mp hn).1, fun n m hn hm => hb.2 n m ((hU n).mp hn).1 ((hU m).mp hm).1⟩, ?_, ?_, ?_⟩
  · intro A' q ha hc
    obtain ⟨hA', ho⟩ := hold A' q ha
    by_cases hs : A' = A ∧ pr_bx L A' q = pr_bx L A p
    · obtain ⟨e, e2⟩ := hs
      subst e
      rw [e2, hS2] at hc ⊢
      obtain ⟨b, b2, eb⟩ := hr2 hc
      have kk := pr_kid T0 (n := x) k1.1 b2 (by rw [eb]; exact hc)
      rw [eb] at kk
      refine ⟨(hU rest).mpr ⟨kk.1, fun e => by have := kk.2.1; rw [e] at this; omega⟩, by have := k1.2.1; omega, ?_⟩
      exact pr_ag_trans (pr_ag_trans (pr_ag_mono hx16 k1.2.1 kk.2.2.1) k1.2.2) (pr_ag_symm (hsame q ho e2))
    · rw [hS1 A' _ (pr_at_lt hb ho).2 pr_bx2 hA' hs] at hc ⊢
      have i := h1 A' q ho hc
      refine ⟨(hU _).mpr ⟨i.1, fun e => ?_⟩, i.2⟩
      have := pr_up T0 hat ho (by rw [hx]; exact hx64) (by rw [hx]; exact e)
      exact hs ⟨this.1.symm, this.2.symm⟩
  · intro A' q m ha hm hl hg
    obtain ⟨hA', ho⟩ := hold A' q ha
    obtain ⟨um, hmx⟩ := (hU m).mp hm
    by_cases hs : A' = A ∧ pr_bx L A' q = pr_bx L A p
    · obtain ⟨e, e2⟩ := hs
      subst e
      rw [e2, hS2]
      have kk := (k2 m hat um hl (pr_ag_trans hg (hsame q ho e2))).2
      have hlt : L x < L m := by
        rcases Nat.lt_or_ge (L x) (L m) with h | h
        · exact h
        · have e3 : L m = L x := by have := kk.1; omega
          exact absurd (pr_same hb um k1.1 e3 (e3 ▸ kk.2)) hmx
      have w := pr_below T0 k1.1 um hlt kk.2
      rw [hr _ (pr_bit_lt _ _) w.1] at w
      exact w
    · rw [hS1 A' _ (pr_at_lt hb ho).2 pr_bx2 hA' hs]
      exact h2 A' q m ho um hl hg
  · intro n b hn e16 hb2
    obtain ⟨un, hnx⟩ := (hU n).mp hn
    have hs : ¬ (n = A ∧ b = pr_bx L A p) := by
      intro ⟨e, _⟩
      subst e
      have := k1.2.1
      rw [pr_lev_lt (hb.1 n un).1] at this
      omega
    rw [hS1 n b (Nat.le_of_lt (hb.1 n un).1) hb2 hnx hs]
    exact h3 n b un e16 hb2
end
section
/-! the component's state by numbers; a reference to a node is a number below 64, else none -/
def pr_rf (k : Nat) : Int32 := if k < 64 then nI k else -1
def pr_uf (U : Nat → Bool) : Nat → Int32 := fun n => if U n = true then 1 else 0
def pr_nf (B : Nat → Nat) : Nat → Int32 := fun n => nI (B n)
def pr_cf (C : Nat → Nat) : Nat → Int32 := fun j => pr_rf (C j)
def pr_us {α : Type} (f : Nat → α) (k : Nat) (x : α) : Nat → α := fun j => if j = k then x else f j
def pr_S (R : Nat) (C : Nat → Nat) : Nat → Nat → Nat := fun A b => if A < 64 then C (2 * A + b) else if b = 0 then R else 64
abbrev pr_st (H R F A G : Nat) (U : Nat → Bool) (B L : Nat → Nat) (P : Nat → Int32) (C : Nat → Nat) (e1 e2 e3 e4 : Nat → Int32) : SX :=
  (nI H, pr_rf R, pr_rf F, pr_rf A, pr_rf G, pr_uf U, pr_nf B, pr_nf L, P, pr_cf C, e1, e2, e3, e4)
theorem pr_rf_lt {k : Nat} (h : k < 64) : pr_rf k = nI k := if_pos h
theorem pr_rf_ge {k : Nat} (h : ¬ k < 64) : pr_rf k = -1 := if_neg h
theorem pr_rf_neg {k : Nat} (h : ¬ k < 64) : pr_rf k < 0 := by rw [pr_rf_ge h]; decide
theorem pr_rf_nneg {k : Nat} (h : ¬ k < 64) : ¬ 0 ≤ pr_rf k := by rw [pr_rf_ge h]; decide
theorem pr_rf_pos {k : Nat} (h : k < 64) : ¬ pr_rf k < 0 := by rw [pr_rf_lt h]; exact nI_pos (by omega)
theorem pr_rf_pos' {k : Nat} (h : k < 64) : 0 ≤ pr_rf k := by rw [pr_rf_lt h]; exact nI_pos' (by omega)
theorem pr_rf_in {k : Nat} (h : k < 64) : vp_in (pr_rf k) 64 := by rw [pr_rf_lt h]; exact vp_in_nI h (by decide)
theorem pr_rf_cl {k : Nat} (h : k < 64) : (pr_rf k).toNatClampNeg = k := by rw [pr_rf_lt h]; exact nI_clamp (by omega)
theorem pr_rf_64 : pr_rf 64 = -1 := rfl
theorem pr_rf_inj {k j : Nat} (hk : k ≤ 64) (hj : j ≤ 64) (h : pr_rf k = pr_rf j) : k = j := by
  by_cases h1 : k < 64
  · by_cases h2 : j < 64
    · rw [pr_rf_lt h1, pr_rf_lt h2] at h
      exact (nI_eq (by omega) (by omega)).mp h
    · have h3 := pr_rf_neg h2
      rw [← h] at h3
      exact absurd h3 (pr_rf_pos h1)
  · by_cases h2 : j < 64
    · have h3 := pr_rf_neg h1
      rw [h] at h3
      exact absurd h3 (pr_rf_pos h2)
    · omega
theorem pr_us_s {α : Type} {f : Nat → α} {k : Nat} {x : α} : pr_us f k x k = x := if_pos rfl
theorem pr_us_n {α : Type} {f : Nat → α} {k j : Nat} {x : α} (h : j ≠ k) : pr_us f k x j = f j := if_neg h
theorem pr_unf {B : Nat → Nat} {k v : Nat} : upd (pr_nf B) k (nI v) = pr_nf (pr_us B k v) := by
  funext j
  unfold upd pr_nf pr_us
  by_cases h : j = k <;> simp [h]
theorem pr_ucf {C : Nat → Nat} {k v : Nat} : upd (pr_cf C) k (pr_rf v) = pr_cf (pr_us C k v) := by
  funext j
  unfold upd pr_cf pr_us
  by_cases h : j = k <;> simp [h]
theorem pr_ucfm {C : Nat → Nat} {k : Nat} : upd (pr_cf C) k (-1) = pr_cf (pr_us C k 64) := pr_ucf (C := C) (k := k) (v := 64)
theorem pr_uuf1 {U : Nat → Bool} {k : Nat} : upd (pr_uf U) k (vp_nar .boolean 1) = pr_uf (pr_us U k true) := by
  funext j
  show (if j = k then (1 : Int32) else pr_uf U j) = _
  unfold pr_uf pr_us
  by_cases h : j = k <;> simp [h]
theorem pr_uuf0 {U : Nat → Bool} {k : Nat} : upd (pr_uf U) k (vp_nar .boolean 0) = pr_uf (pr_us U k false) := by
  funext j
  show (if j = k then (0 : Int32) else pr_uf U j) = _
  unfold pr_uf pr_us
  by_cases h : j = k <;> simp [h]
theorem pr_upd {P : Nat → Int32} {k : Nat} {x : Int32} : upd P k x = pr_us P k x := rfl
theorem pr_uf_t {U : Nat → Bool} {n : Nat} (h : U n = true) : pr_uf U n = 1 := by unfold pr_uf; rw [if_pos h]
theorem pr_uf_f {U : Nat → Bool} {n : Nat} (h : ¬ U n = true) : pr_uf U n = 0 := by unfold pr_uf; rw [if_neg h]
theorem pr_ix {n b : Nat} (hn : n < 64) : (2 : Int32) * pr_rf n + nI b = nI (2 * n + b) := by
  rw [pr_rf_lt hn, pr_x2, nI_add]
theorem pr_ix0 {n : Nat} (hn : n < 64) : (2 : Int32) * pr_rf n = nI (2 * n) := by
  rw [pr_rf_lt hn, pr_x2]
theorem pr_ix1 {n : Nat} (hn : n < 64) : (2 : Int32) * pr_rf n + 1 = nI (2 * n + 1) := pr_ix (b := 1) hn
theorem pr_S_lt {R : Nat} {C : Nat → Nat} {A b : Nat} (h : A < 64) : pr_S R C A b = C (2 * A + b) := if_pos h
theorem pr_S_64 {R : Nat} {C : Nat → Nat} : pr_S R C 64 0 = R := rfl
section
variable {H R F A G : Nat} {U : Nat → Bool} {B L : Nat → Nat} {P : Nat → Int32} {C : Nat → Nat} {e1 e2 e3 e4 : Nat → Int32}
theorem pr_covers {post : Int32 → Prop} {h f g i j : Int32} {u p : Nat → Int32} {c : Nat → Int32} (hb : pr_base U B L) {n a : Nat} (hn : U n = true) (ha : a < 65536) (h1 : pr_ag a (B n) (L n) → post 1) (h0 : ¬ pr_ag a (B n) (L n) → post 0) :
    wpX_covers post (h, f, g, i, j, u, pr_nf B, pr_nf L, p, c, e1, e2, e3, e4) (pr_rf n) (nI a) := by
  obtain ⟨hn64, hl, hB, hc⟩ := hb.1 n hn
  refine ⟨pr_rf_in hn64, ?_⟩
  rw [pr_rf_cl hn64]
  refine pr_xcut (l := L n) ha hl ⟨pr_rf_in hn64, ?_⟩
  have e : nI (pr_cut a (L n)) = pr_nf B n ↔ pr_ag a (B n) (L n) := by
    rw [← pr_cut_iff hc]
    exact nI_eq (by have := pr_cut_le a (L n); omega) (by omega)
  exact ⟨fun z => h1 (e.mp z), fun z => h0 (fun w => z (e.mpr w))⟩
/-- what find has found -/
def pr_FR (U : Nat → Bool) (B L : Nat → Nat) (S : Nat → Nat → Nat) (p len t A G : Nat) : Prop :=
  t ≤ 64 ∧ (t < 64 → U t = true ∧ B t = p ∧ L t = len ∧ S A (pr_bx L A p) = t) ∧
  (¬ t < 64 → (∀ m, U m = true → B m = p → L m = len → False) ∧ (S A (pr_bx L A p) < 64 → len < L (S A (pr_bx L A p)) ∨ ¬ pr_ag p (B (S A (pr_bx L A p))) (L (S A (pr_bx L A p))))) ∧
  pr_at U B L A p ∧ pr_lev L A ≤ len ∧
  (A < 64 → pr_at U B L G p ∧ pr_lev L G ≤ L A ∧ S G (pr_bx L G p) = A)
theorem pr_findL {post : Int32 → SX → Prop} (T : pr_T U B L (pr_S R C)) {p len : Nat} (hl : len ≤ 16) (hcut : pr_cut p len = p)
    (hp : ∀ t A G, pr_FR U B L (pr_S R C) p len t A G → post (pr_rf t) (pr_st H R F A G U B L P C e1 e2 e3 e4)) :
    ∀ (n step A G : Nat), 17 - pr_lev L A < n → step ≤ pr_lev L A → pr_at U B L A p → pr_lev L A ≤ len → (A < 64 → pr_at U B L G p ∧ pr_lev L G ≤ L A ∧ pr_S R C G (pr_bx L G p) = A) →
      wX_find_18 post (nI p) (nI len) (nI H) (pr_rf R) (pr_rf F) (pr_uf U) (pr_nf B) (pr_nf L) P (pr_cf C) e1 e2 e3 e4 n (pr_rf (pr_S R C A (pr_bx L A p))) (nI step) (pr_rf A) (pr_rf G) := by
  intro n
  induction n with
  | zero => intro step A G h; omega
  | succ n ih =>
    intro step A G hf hs ha hlen hG
    obtain ⟨hb, h1, h2, h3⟩ := T
    have k1 := h1 A p ha
    have k2 := h2 A p
    -- no such node, if what hangs here does not cover
    have none : (pr_S R C A (pr_bx L A p) < 64 → len < L (pr_S R C A (pr_bx L A p)) ∨ ¬ pr_ag p (B (pr_S R C A (pr_bx L A p))) (L (pr_S R C A (pr_bx L A p)))) → post (-1) (pr_st H R F A G U B L P C e1 e2 e3 e4) := by
      intro hno
      refine hp 64 A G ⟨Nat.le_refl _, fun z => absurd z (by decide), fun _ => ⟨fun m hm em el => ?_, hno⟩, ha, hlen, hG⟩
      have kk := k2 m ha hm (by omega) (by rw [em]; exact pr_ag_refl _ _)
      rcases hno kk.1 with z | z
      · have := kk.2.1
        omega
      · have := kk.2.2
        rw [em] at this
        exact z this
    have e18 : ¬ (18 : Int32) ≤ nI step := nI_ge (b := 18) (by omega) (by decide)
    refine br_f e18 ?_
    generalize hN : pr_S R C A (pr_bx L A p) = N at k1 k2 none ⊢
    by_cases hN64 : N < 64
    · have kk := k1 hN64
      obtain ⟨_, hL16, hB16, hcutN⟩ := hb.1 N kk.1
      refine br_f (pr_rf_pos hN64) ⟨pr_rf_in hN64, ?_⟩
      rw [pr_rf_cl hN64]
      by_cases hlt : len < L N
      · exact br_t (nI_lt hlt (by omega)) (none (fun _ => Or.inl hlt))
      · refine br_f (nI_nlt (by omega) (by omega)) ?_
        refine pr_covers hb kk.1 ha.1 (fun hag => ?_) (fun hag => ?_)
        · refine br_f (by decide) ⟨pr_rf_in hN64, ?_⟩
          by_cases heq : L N = len
          · refine br_t (congrArg nI heq) ?_
            refine hp N A G ⟨by omega, fun _ => ⟨kk.1, ?_, heq, hN⟩, fun z => absurd hN64 z, ha, hlen, hG⟩
            have := (pr_cut_iff (a := p) hcutN).mpr hag
            rw [← this, heq]
            exact hcut
          · refine br_f (fun z => heq ((nI_eq (by omega) (by omega)).mp z)) ⟨pr_rf_in hN64, ?_⟩
            refine pr_xbit ha.1 (by omega) ?_
            rw [pr_ix hN64]
            have hbl := pr_bit_lt p (L N)
            refine ⟨vp_in_nI (by omega) (by decide), nm_r (e' := pr_rf (pr_S R C N (pr_bx L N p))) ?_ (nm_r (nI_1 step) ?_)⟩
            · rw [nI_clamp (by omega), pr_S_lt hN64, pr_bx_lt hN64]
              rfl
            · have hlv : pr_lev L N = L N + 1 := pr_lev_lt hN64
              exact ih (step + 1) N A (by omega) (by omega) ⟨ha.1, Or.inr ⟨kk.1, by omega, hag⟩⟩ (by omega) (fun _ => ⟨ha, kk.2.1, hN⟩)
        · exact br_t rfl (none (fun _ => Or.inr hag))
    · exact br_t (pr_rf_neg hN64) (none (fun z => absurd z hN64))
theorem pr_find {post : Int32 → SX → Prop} (T : pr_T U B L (pr_S R C)) {p len : Nat} (hl : len ≤ 16) (hcut : pr_cut p len = p) (hp16 : p < 65536)
    (hp : ∀ t A G, pr_FR U B L (pr_S R C) p len t A G → post (pr_rf t) (pr_st H R F A G U B L P C e1 e2 e3 e4)) : wpX_find post (pr_st H R F A G U B L P C e1 e2 e3 e4) (nI p) (nI len) :=
  ⟨18, pr_findL T hl hcut hp 18 0 64 64 (by rw [pr_lev_64]; omega) (Nat.zero_le _) ⟨hp16, Or.inl rfl⟩ (Nat.zero_le _) (fun z => absurd z (by decide))⟩
/-- the longest prefix below a given length among the held ones that covers an address -/
def pr_Lg (h : Nat → Prop) (B L : Nat → Nat) (a below t : Nat) : Prop :=
  (t < 64 ∧ h t ∧ L t < below ∧ pr_ag a (B t) (L t) ∧ ∀ m, h m → L m < below → pr_ag a (B m) (L m) → L m ≤ L t) ∨
  (t = 64 ∧ ∀ m, h m → L m < below → ¬ pr_ag a (B m) (L m))
def pr_hs (U : Nat → Bool) (P : Nat → Int32) (n : Nat) : Prop := U n = true ∧ 0 ≤ P n
theorem pr_Lg_le {h : Nat → Prop} {a w t : Nat} (x : pr_Lg h B L a w t) : t ≤ 64 := by
  rcases x with x | x
  · omega
  · omega
theorem pr_Lg_uniq (hb : pr_base U B L) {a w t s : Nat} (x : pr_Lg (pr_hs U P) B L a w t) (y : pr_Lg (pr_hs U P) B L a w s) : t = s := by
  rcases x with ⟨x1, x2, x3, x4, x5⟩ | ⟨x1, x2⟩
  · rcases y with ⟨y1, y2, y3, y4, y5⟩ | ⟨y1, y2⟩
    · have h1 := x5 s y2 y3 y4
      have h2 := y5 t x2 x3 x4
      have e : L t = L s := by omega
      exact pr_same hb x2.1 y2.1 e (pr_ag_trans (pr_ag_symm x4) (e ▸ y4))
    · exact absurd x4 (y2 t x2 x3)
  · rcases y with ⟨y1, y2, y3, y4, y5⟩ | ⟨y1, y2⟩
    · exact absurd y4 (x2 s y2 y3)
    · omega
/-- one held node more -/
theorem pr_Lg_step (hb : pr_base U B L) {a lo n best : Nat} (hn : U n = true) (hag : pr_ag a (B n) (L n)) (hlo : lo ≤ L n)
    (hall : ∀ m, U m = true → lo ≤ L m → pr_ag a (B m) (L m) → pr_cov B L n m) (hx : pr_Lg (pr_hs U P) B L a lo best) :
    pr_Lg (pr_hs U P) B L a (L n + 1) (if 0 ≤ P n then n else best) := by
  have key : ∀ m, U m = true → L m < L n + 1 → pr_ag a (B m) (L m) → m = n ∨ L m < lo := by
    intro m hm hl hg
    rcases Nat.lt_or_ge (L m) lo with z | z
    · exact Or.inr z
    · have c := hall m hm z hg
      have e : L m = L n := by have := c.1; omega
      exact Or.inl (pr_same hb hm hn e (e ▸ c.2))
  by_cases h : 0 ≤ P n
  · rw [if_pos h]
    exact Or.inl ⟨(hb.1 n hn).1, ⟨hn, h⟩, by omega, hag, fun m _ hl _ => by omega⟩
  · rw [if_neg h]
    have key2 : ∀ m, pr_hs U P m → L m < L n + 1 → pr_ag a (B m) (L m) → L m < lo := by
      intro m hm hl hg
      rcases key m hm.1 hl hg with e | z
      · subst e
        exact absurd hm.2 h
      · exact z
    rcases hx with ⟨x1, x2, x3, x4, x5⟩ | ⟨x1, x2⟩
    · exact Or.inl ⟨x1, x2, by omega, x4, fun m hm hl hg => x5 m hm (key2 m hm hl hg) hg⟩
    · exact Or.inr ⟨x1, fun m hm hl hg => x2 m hm (key2 m hm hl hg) hg⟩
theorem pr_Lg_end {a lo w best : Nat} (hw : lo ≤ w) (hall : ∀ m, U m = true → lo ≤ L m → pr_ag a (B m) (L m) → False) (hx : pr_Lg (pr_hs U P) B L a lo best) : pr_Lg (pr_hs U P) B L a w best := by
  have key2 : ∀ m, pr_hs U P m → pr_ag a (B m) (L m) → L m < lo := by
    intro m hm hg
    rcases Nat.lt_or_ge (L m) lo with z | z
    · exact z
    · exact (hall m hm.1 z hg).elim
  rcases hx with ⟨x1, x2, x3, x4, x5⟩ | ⟨x1, x2⟩
  · exact Or.inl ⟨x1, x2, by omega, x4, fun m hm hl hg => x5 m hm (key2 m hm hg) hg⟩
  · exact Or.inr ⟨x1, fun m hm hl hg => x2 m hm (key2 m hm hg) hg⟩
theorem pr_settL {post : Int32 → Prop} (T : pr_T U B L (pr_S R C)) {a : Nat} (ha : a < 65536)
    (hp : ∀ t, pr_Lg (pr_hs U P) B L a 17 t → post (pr_rf t)) :
    ∀ (n step lo N best : Nat), 17 - lo < n → step ≤ lo → lo ≤ 17 → (N < 64 → U N = true ∧ lo ≤ L N) → (∀ m, U m = true → lo ≤ L m → pr_ag a (B m) (L m) → N < 64 ∧ pr_cov B L N m) → pr_Lg (pr_hs U P) B L a lo best →
      wX_settling_10 post (nI a) (nI H) (pr_rf R) (pr_rf F) (pr_rf A) (pr_rf G) (pr_uf U) (pr_nf B) (pr_nf L) P (pr_cf C) e1 e2 e3 e4 n (pr_rf best) (pr_rf N) (nI step) := by
  intro n
  induction n with
  | zero => intro step lo N best h; omega
  | succ n ih =>
    intro step lo N best hf hs hlo hN hall hx
    have e18 : ¬ (18 : Int32) ≤ nI step := nI_ge (b := 18) (by omega) (by decide)
    refine br_f e18 ?_
    by_cases hN64 : N < 64
    · obtain ⟨uN, hloN⟩ := hN hN64
      have hb := T.1
      obtain ⟨_, hL16, hB16, hcutN⟩ := hb.1 N uN
      refine br_f (pr_rf_pos hN64) ?_
      refine pr_covers hb uN ha (fun hag => ?_) (fun hag => ?_)
      · refine br_f (by decide) ⟨pr_rf_in hN64, ?_⟩
        rw [pr_rf_cl hN64]
        have hx' := pr_Lg_step hb uN hag hloN (fun m hm hl hg => (hall m hm hl hg).2) hx
        -- the join: whatever best is
        have join : ∀ best', pr_Lg (pr_hs U P) B L a (L N + 1) best' → wX_settling_44 post (wX_settling_10 post (nI a) (nI H) (pr_rf R) (pr_rf F) (pr_rf A) (pr_rf G) (pr_uf U) (pr_nf B) (pr_nf L) P (pr_cf C) e1 e2 e3 e4 n) (nI a) (pr_rf N) (nI step) (pr_rf best') (nI H) (pr_rf R) (pr_rf F) (pr_rf A) (pr_rf G) (pr_uf U) (pr_nf B) (pr_nf L) P (pr_cf C) e1 e2 e3 e4 := by
          intro best' hx'
          refine ⟨pr_rf_in hN64, ?_⟩
          rw [pr_rf_cl hN64]
          by_cases h16 : L N = 16
          · refine br_t (congrArg nI h16) (nm_r (nI_1 step) ?_)
            refine ih (step + 1) (L N + 1) 64 best' (by omega) (by omega) (by omega) (fun z => absurd z (by decide)) ?_ hx'
            intro m hm hl hg
            have := (hb.1 m hm).2.1
            omega
          · refine br_f (fun z => h16 ((nI_eq (b := 16) (by omega) (by decide)).mp z)) ⟨pr_rf_in hN64, ?_⟩
            refine pr_xbit ha (by omega) ?_
            rw [pr_ix hN64]
            have hbl := pr_bit_lt a (L N)
            have hat : pr_at U B L N a := ⟨ha, Or.inr ⟨uN, by omega, hag⟩⟩
            refine ⟨vp_in_nI (by omega) (by decide), nm_r (e' := pr_rf (pr_S R C N (pr_bx L N a))) ?_ (nm_r (nI_1 step) ?_)⟩
            · rw [nI_clamp (by omega), pr_S_lt hN64, pr_bx_lt hN64]
              rfl
            · have hlv : pr_lev L N = L N + 1 := pr_lev_lt hN64
              refine ih (step + 1) (L N + 1) _ best' (by omega) (by omega) (by omega) ?_ ?_ hx'
              · intro z
                have := T.2.1 N a hat z
                rw [hlv] at this
                exact ⟨this.1, this.2.1⟩
              · intro m hm hl hg
                have := T.2.2.1 N a m hat hm
                rw [hlv] at this
                exact this hl (pr_ag_symm (pr_ag_mono (hb.1 m hm).2.1 hl hg))
        by_cases hpn : P N < 0
        · refine br_t hpn (join best ?_)
          rw [if_neg (Int32.not_le.mpr hpn)] at hx'
          exact hx'
        · refine br_f hpn (join N ?_)
          rw [if_pos (Int32.not_lt.mp hpn)] at hx'
          exact hx'
      · refine br_t rfl (hp best (pr_Lg_end hlo (fun m hm hl hg => ?_) hx))
        have c := (hall m hm hl hg).2
        exact hag (pr_ag_trans (pr_ag_mono (hb.1 m hm).2.1 c.1 hg) c.2)
    · exact br_t (pr_rf_neg hN64) (hp best (pr_Lg_end hlo (fun m hm hl hg => hN64 (hall m hm hl hg).1) hx))
theorem pr_sett {post : Int32 → Prop} (T : pr_T U B L (pr_S R C)) {a : Nat} (ha : a < 65536)
    (hp : ∀ t, pr_Lg (pr_hs U P) B L a 17 t → post (pr_rf t)) : wpX_settling post (pr_st H R F A G U B L P C e1 e2 e3 e4) (nI a) := by
  refine ⟨18, pr_settL T ha hp 18 0 0 R 64 (by omega) (Nat.zero_le _) (by omega) ?_ ?_ (Or.inr ⟨rfl, fun m _ hl => by omega⟩)⟩
  · intro z
    exact ⟨pr_rootU T z, Nat.zero_le _⟩
  · intro m hm _ _
    exact pr_root T hm
end
end
section
/-! the reference's list over the same nodes: entry e is the node nd e -/
def pr_Y (h : Nat → Prop) (B L : Nat → Nat) (P : Nat → Int32) (H : Nat) (nd : Nat → Nat) (sA lA pA : Nat → Int32) : Prop :=
  H ≤ 32 ∧ (∀ e, e < H → h (nd e) ∧ sA e = nI (B (nd e)) ∧ lA e = nI (L (nd e)) ∧ pA e = P (nd e)) ∧
  (∀ e f, e < H → f < H → nd e = nd f → e = f) ∧ (∀ n, h n → ∃ e, e < H ∧ nd e = n)
/-- an entry's number, or -1, against its node, or 64 -/
def pr_yr (H : Nat) (nd : Nat → Nat) (t : Nat) (r : Int32) : Prop := (t = 64 ∧ r = -1) ∨ (t < 64 ∧ ∃ e, e < H ∧ nd e = t ∧ r = nI e)
def pr_pv (P : Nat → Int32) (t : Nat) : Int32 := if t < 64 then P t else -1
def pr_lv (L : Nat → Nat) (t : Nat) : Int32 := if t < 64 then nI (L t) else -1
section
variable {B L : Nat → Nat} {h h' : Nat → Prop}
theorem pr_Lg_cg {a w t : Nat} (e : ∀ m, h m ↔ h' m) (x : pr_Lg h B L a w t) : pr_Lg h' B L a w t := by
  rcases x with ⟨x1, x2, x3, x4, x5⟩ | ⟨x1, x2⟩
  · exact Or.inl ⟨x1, (e t).mp x2, x3, x4, fun m hm => x5 m ((e m).mpr hm)⟩
  · exact Or.inr ⟨x1, fun m hm => x2 m ((e m).mpr hm)⟩
theorem pr_Lg_a1 {a w t n : Nat} (e : ∀ m, h' m ↔ h m ∨ m = n) (x : pr_Lg h B L a w t) (hn : ¬ (L n < w ∧ pr_ag a (B n) (L n))) : pr_Lg h' B L a w t := by
  rcases x with ⟨x1, x2, x3, x4, x5⟩ | ⟨x1, x2⟩
  · refine Or.inl ⟨x1, (e t).mpr (Or.inl x2), x3, x4, fun m hm hl hg => ?_⟩
    rcases (e m).mp hm with z | z
    · exact x5 m z hl hg
    · subst z
      exact absurd ⟨hl, hg⟩ hn
  · refine Or.inr ⟨x1, fun m hm hl hg => ?_⟩
    rcases (e m).mp hm with z | z
    · exact x2 m z hl hg
    · subst z
      exact hn ⟨hl, hg⟩
theorem pr_Lg_a2 {a w t n : Nat} (e : ∀ m, h' m ↔ h m ∨ m = n) (hn64 : n < 64) (x : pr_Lg h B L a w t) (h1 : L n < w) (h2 : pr_ag a (B n) (L n)) (ht : t < 64 → L t < L n) : pr_Lg h' B L a w n := by
  refine Or.inl ⟨hn64, (e n).mpr (Or.inr rfl), h1, h2, fun m hm hl hg => ?_⟩
  rcases (e m).mp hm with z | z
  · rcases x with ⟨x1, x2, x3, x4, x5⟩ | ⟨x1, x2⟩
    · have := x5 m z hl hg
      have := ht x1
      omega
    · exact absurd hg (x2 m z hl)
  · subst z
    exact Nat.le_refl _
theorem pr_Lg_a3 {a w t n : Nat} (e : ∀ m, h' m ↔ h m ∨ m = n) (x : pr_Lg h B L a w t) (ht : t < 64) (hl : L n ≤ L t) : pr_Lg h' B L a w t := by
  rcases x with ⟨x1, x2, x3, x4, x5⟩ | ⟨x1, x2⟩
  · refine Or.inl ⟨x1, (e t).mpr (Or.inl x2), x3, x4, fun m hm hl' hg => ?_⟩
    rcases (e m).mp hm with z | z
    · exact x5 m z hl' hg
    · subst z
      exact hl
  · omega
theorem pr_Lg_exk (hh : ∀ m, h m → m < 64) (a w : Nat) : ∀ k, ∃ t, pr_Lg (fun m => h m ∧ m < k) B L a w t := by
  intro k
  induction k with
  | zero => exact ⟨64, Or.inr ⟨rfl, fun m hm => by have := hm.2; omega⟩⟩
  | succ k ih =>
    obtain ⟨t, ht⟩ := ih
    by_cases hk : h k
    · have e : ∀ m, (h m ∧ m < k + 1) ↔ (h m ∧ m < k) ∨ m = k := by
        intro m
        constructor
        · intro z
          by_cases hm : m = k
          · exact Or.inr hm
          · exact Or.inl ⟨z.1, by have := z.2; omega⟩
        · intro z
          rcases z with z | z
          · exact ⟨z.1, by have := z.2; omega⟩
          · subst z
            exact ⟨hk, by omega⟩
      by_cases c : L k < w ∧ pr_ag a (B k) (L k)
      · by_cases d : t < 64 ∧ L k ≤ L t
        · exact ⟨t, pr_Lg_a3 e ht d.1 d.2⟩
        · exact ⟨k, pr_Lg_a2 e (hh k hk) ht c.1 c.2 (fun z => Nat.lt_of_not_le (fun y => d ⟨z, y⟩))⟩
      · exact ⟨t, pr_Lg_a1 e ht c⟩
    · refine ⟨t, pr_Lg_cg (fun m => ?_) ht⟩
      constructor
      · intro z
        exact ⟨z.1, by have := z.2; omega⟩
      · intro z
        refine ⟨z.1, ?_⟩
        have : m ≠ k := fun y => hk (y ▸ z.1)
        have := z.2
        omega
theorem pr_Lg_ex (hh : ∀ m, h m → m < 64) (a w : Nat) : ∃ t, pr_Lg h B L a w t := by
  obtain ⟨t, ht⟩ := pr_Lg_exk (B := B) (L := L) hh a w 64
  exact ⟨t, pr_Lg_cg (fun m => ⟨fun z => z.1, fun z => ⟨z, hh m z⟩⟩) ht⟩
end
section
variable {U : Nat → Bool} {B L : Nat → Nat} {P : Nat → Int32} {H : Nat} {nd : Nat → Nat} {sA lA pA : Nat → Int32}
theorem pr_ynode (hb : pr_base U B L) (y : pr_Y (pr_hs U P) B L P H nd sA lA pA) {e : Nat} (he : e < H) : nd e < 64 ∧ L (nd e) ≤ 16 ∧ B (nd e) < 65536 ∧ pr_cut (B (nd e)) (L (nd e)) = B (nd e) ∧ e < 32 :=
  ⟨(hb.1 _ (y.2.1 e he).1.1).1, (hb.1 _ (y.2.1 e he).1.1).2.1, (hb.1 _ (y.2.1 e he).1.1).2.2.1, (hb.1 _ (y.2.1 e he).1.1).2.2.2, by have := y.1; omega⟩
theorem pr_yfindL {post : Int32 → Prop} (hb : pr_base U B L) (y : pr_Y (pr_hs U P) B L P H nd sA lA pA) {x : Int32} {a len : Nat} (hx : x &&& 65535 = nI a) (ha : a < 65536) (hl : len ≤ 16)
    (h1 : ∀ e, e < H → B (nd e) = pr_cut a len → L (nd e) = len → post (nI e)) (h0 : (∀ e, e < H → B (nd e) = pr_cut a len → L (nd e) = len → False) → post (-1)) :
    ∀ d e : Nat, e + d = H → (∀ f, f < e → B (nd f) = pr_cut a len → L (nd f) = len → False) → wY_find_2 post x (nI len) (nI H) sA lA pA (d + 1) (nI e) := by
  have hH := y.1
  intro d
  induction d with
  | zero =>
    intro e he hno
    exact br_t (nI_le (by omega) (by omega)) (h0 (fun f hf => hno f (by omega)))
  | succ d ih =>
    intro e he hno
    have he' : e < H := by omega
    obtain ⟨q1, q2, q3, q4, q5⟩ := pr_ynode hb y he'
    obtain ⟨s0, s1, s2, s3⟩ := y.2.1 e he'
    refine br_f (nI_ge he' (by omega)) ⟨vp_in_nI q5 (by decide), ?_⟩
    rw [nI_clamp (by omega), s1, s2]
    have next : ¬ (B (nd e) = pr_cut a len ∧ L (nd e) = len) → wY_find_2 post x (nI len) (nI H) sA lA pA (d + 1) (nI (e + 1)) := by
      intro z
      refine ih (e + 1) (by omega) (fun f hf b1 b2 => ?_)
      by_cases hfe : f = e
      · subst hfe
        exact z ⟨b1, b2⟩
      · exact hno f (by omega) b1 b2
    by_cases hlen : L (nd e) = len
    · refine br_t (congrArg nI hlen) ⟨vp_in_nI q5 (by decide), ?_⟩
      refine pr_start hx ha hl ?_
      by_cases hB : B (nd e) = pr_cut a len
      · exact br_t (congrArg nI hB) (h1 e he' hB hlen)
      · refine br_f (fun z => hB ((nI_eq (by omega) (by have := pr_cut_le a len; omega)).mp z)) (nm_r (nI_1 e) (next (fun z => hB z.1)))
    · exact br_f (fun z => hlen ((nI_eq (by omega) (by omega)).mp z)) (nm_r (nI_1 e) (next (fun z => hlen z.2)))
theorem pr_yfind {post : Int32 → Prop} (hb : pr_base U B L) (y : pr_Y (pr_hs U P) B L P H nd sA lA pA) {x : Int32} {a len : Nat} (hx : x &&& 65535 = nI a) (ha : a < 65536) (hl : len ≤ 16)
    (h1 : ∀ e, e < H → B (nd e) = pr_cut a len → L (nd e) = len → post (nI e)) (h0 : (∀ e, e < H → B (nd e) = pr_cut a len → L (nd e) = len → False) → post (-1)) :
    wpY_find post (nI H, sA, lA, pA) x (nI len) :=
  ⟨H + 1, pr_yfindL hb y hx ha hl h1 h0 H 0 (by omega) (fun f hf => by omega)⟩
theorem pr_ycov {post : Int32 → Prop} (hb : pr_base U B L) (y : pr_Y (pr_hs U P) B L P H nd sA lA pA) {e a : Nat} (he : e < H) (ha : a < 65536) (h1 : pr_ag a (B (nd e)) (L (nd e)) → post 1) (h0 : ¬ pr_ag a (B (nd e)) (L (nd e)) → post 0) :
    wpY_covers post (nI H, sA, lA, pA) (nI e) (nI a) := by
  obtain ⟨q1, q2, q3, q4, q5⟩ := pr_ynode hb y he
  obtain ⟨s0, s1, s2, s3⟩ := y.2.1 e he
  have hi : vp_in (nI e) 32 := vp_in_nI q5 (by decide)
  refine ⟨hi, ?_⟩
  rw [nI_clamp (by omega), s1, s2]
  have hz := @pr_szle (L (nd e))
  have hI := pr_int (a := a) q4
  by_cases c : a < B (nd e)
  · exact br_t (nI_lt c (by omega)) (h0 (fun z => by have := (hI.mp z).1; omega))
  · refine br_f (nI_nlt (by omega) (by omega)) ⟨hi, hi, pr_size q2 ?_⟩
    rw [nI_add]
    by_cases c2 : B (nd e) + 2 ^ (16 - L (nd e)) ≤ a
    · exact br_t (nI_le c2 (by omega)) (h0 (fun z => by have := (hI.mp z).2; omega))
    · exact br_f (nI_ge (by omega) (by omega)) (h1 (hI.mpr ⟨by omega, by omega⟩))
theorem pr_ylongL {post : Int32 → Prop} (hb : pr_base U B L) (y : pr_Y (pr_hs U P) B L P H nd sA lA pA) {a w : Nat} (ha : a < 65536) (hw : w ≤ 17)
    (hp : ∀ t r, pr_Lg (pr_hs U P) B L a w t → pr_yr H nd t r → post r) :
    ∀ d e t : Nat, ∀ r : Int32, e + d = H → pr_Lg (fun m => ∃ f, f < e ∧ nd f = m) B L a w t → pr_yr H nd t r → wY_longest_5 post (nI a) (nI w) (nI H) sA lA pA (d + 1) r (nI e) := by
  have hH := y.1
  intro d
  induction d with
  | zero =>
    intro e t r he hx hr
    refine br_t (nI_le (by omega) (by omega)) (hp t r (pr_Lg_cg (fun m => ?_) hx) hr)
    constructor
    · intro ⟨f, hf, ef⟩
      rw [← ef]
      exact (y.2.1 f (by omega)).1
    · intro hm
      obtain ⟨f, hf, ef⟩ := y.2.2.2 m hm
      exact ⟨f, by omega, ef⟩
  | succ d ih =>
    intro e t r he hx hr
    have he' : e < H := by omega
    obtain ⟨q1, q2, q3, q4, q5⟩ := pr_ynode hb y he'
    obtain ⟨s0, s1, s2, s3⟩ := y.2.1 e he'
    have hi : vp_in (nI e) 32 := vp_in_nI q5 (by decide)
    have eq : ∀ m, (∃ f, f < e + 1 ∧ nd f = m) ↔ (∃ f, f < e ∧ nd f = m) ∨ m = nd e := by
      intro m
      constructor
      · intro ⟨f, hf, ef⟩
        by_cases hfe : f = e
        · subst hfe
          exact Or.inr ef.symm
        · exact Or.inl ⟨f, by omega, ef⟩
      · intro z
        rcases z with ⟨f, hf, ef⟩ | z
        · exact ⟨f, by omega, ef⟩
        · exact ⟨e, by omega, z.symm⟩
    have keep := fun (z : pr_Lg (fun m => ∃ f, f < e + 1 ∧ nd f = m) B L a w t) => ih (e + 1) t r (by omega) z hr
    have take := fun (z : pr_Lg (fun m => ∃ f, f < e + 1 ∧ nd f = m) B L a w (nd e)) => ih (e + 1) (nd e) (nI e) (by omega) z (Or.inr ⟨q1, e, he', rfl, rfl⟩)
    refine br_f (nI_ge he' (by omega)) ?_
    refine pr_ycov hb y he' ha (fun hag => ?_) (fun hag => ?_)
    · refine br_f (by decide) ⟨hi, ?_⟩
      rw [nI_clamp (by omega), s2]
      by_cases c : w ≤ L (nd e)
      · exact br_t (nI_le c (by omega)) (nm_r (nI_1 e) (keep (pr_Lg_a1 eq hx (fun z => by have := z.1; omega))))
      · refine br_f (nI_ge (by omega) (by omega)) ?_
        rcases hr with ⟨t1, t2⟩ | ⟨t1, f, hf, ef, t2⟩
        · subst t2
          exact br_t (by decide) (nm_r (nI_1 e) (take (pr_Lg_a2 eq q1 hx (by omega) hag (fun z => by omega))))
        · subst t2
          obtain ⟨u1, u2, u3, u4, u5⟩ := pr_ynode hb y hf
          obtain ⟨v0, v1, v2, v3⟩ := y.2.1 f hf
          refine br_f (nI_pos (by omega)) ⟨hi, vp_in_nI u5 (by decide), ?_⟩
          rw [nI_clamp (by omega), v2, ef]
          rw [ef] at u2
          by_cases c2 : L (nd e) ≤ L t
          · exact br_t (nI_le c2 (by omega)) (nm_r (nI_1 e) (keep (pr_Lg_a3 eq hx t1 c2)))
          · exact br_f (nI_ge (by omega) (by omega)) (nm_r (nI_1 e) (take (pr_Lg_a2 eq q1 hx (by omega) hag (fun z => by omega))))
    · exact br_t rfl (nm_r (nI_1 e) (keep (pr_Lg_a1 eq hx (fun z => hag z.2))))
theorem pr_ylong {post : Int32 → Prop} (hb : pr_base U B L) (y : pr_Y (pr_hs U P) B L P H nd sA lA pA) {a w : Nat} (ha : a < 65536) (hw : w ≤ 17)
    (hp : ∀ t r, pr_Lg (pr_hs U P) B L a w t → pr_yr H nd t r → post r) : wpY_longest post (nI H, sA, lA, pA) (nI a) (nI w) :=
  ⟨H + 1, pr_ylongL hb y ha hw hp H 0 64 (-1) (by omega) (Or.inr ⟨rfl, fun m hm => by obtain ⟨f, hf, _⟩ := hm; omega⟩) (Or.inl ⟨rfl, rfl⟩)⟩
theorem pr_yowner {post : Int32 → Prop} (hb : pr_base U B L) (y : pr_Y (pr_hs U P) B L P H nd sA lA pA) {x : Int32} {a : Nat} (hx : x &&& 65535 = nI a) (ha : a < 65536)
    (hp : ∀ t, pr_Lg (pr_hs U P) B L a 17 t → post (pr_pv P t)) : wpY_owner post (nI H, sA, lA, pA) x := by
  unfold wpY_owner
  dsimp only
  rw [hx]
  refine pr_ylong hb y ha (w := 17) (by omega) (fun t r ht hr => ?_)
  have := hp t ht
  rcases hr with ⟨t1, t2⟩ | ⟨t1, f, hf, ef, t2⟩
  · subst t1
    subst t2
    exact br_f (by decide) this
  · subst t2
    obtain ⟨u1, u2, u3, u4, u5⟩ := pr_ynode hb y hf
    obtain ⟨v0, v1, v2, v3⟩ := y.2.1 f hf
    refine br_t (nI_pos' (by omega)) ⟨vp_in_nI u5 (by decide), ?_⟩
    rw [nI_clamp (by omega), v3, ef]
    unfold pr_pv at this
    rw [if_pos t1] at this
    exact this
theorem pr_ylength {post : Int32 → Prop} (hb : pr_base U B L) (y : pr_Y (pr_hs U P) B L P H nd sA lA pA) {x : Int32} {a : Nat} (hx : x &&& 65535 = nI a) (ha : a < 65536)
    (hp : ∀ t, pr_Lg (pr_hs U P) B L a 17 t → post (pr_lv L t)) : wpY_length post (nI H, sA, lA, pA) x := by
  unfold wpY_length
  dsimp only
  rw [hx]
  refine pr_ylong hb y ha (w := 17) (by omega) (fun t r ht hr => ?_)
  have := hp t ht
  rcases hr with ⟨t1, t2⟩ | ⟨t1, f, hf, ef, t2⟩
  · subst t1
    subst t2
    exact br_f (by decide) this
  · subst t2
    obtain ⟨u1, u2, u3, u4, u5⟩ := pr_ynode hb y hf
    obtain ⟨v0, v1, v2, v3⟩ := y.2.1 f hf
    refine br_t (nI_pos' (by omega)) ⟨vp_in_nI u5 (by decide), ?_⟩
    rw [nI_clamp (by omega), v2, ef]
    unfold pr_lv at this
    rw [if_pos t1] at this
    exact this
end
section
variable {H R F A G : Nat} {U : Nat → Bool} {B L : Nat → Nat} {P : Nat → Int32} {C : Nat → Nat} {e1 e2 e3 e4 : Nat → Int32}
theorem pr_xowner {post : Int32 → Prop} (T : pr_T U B L (pr_S R C)) {x : Int32} {a : Nat} (hx : x &&& 65535 = nI a) (ha : a < 65536)
    (hp : ∀ t, pr_Lg (pr_hs U P) B L a 17 t → post (pr_pv P t)) : wpX_owner post (pr_st H R F A G U B L P C e1 e2 e3 e4) x := by
  unfold wpX_owner
  dsimp only
  rw [hx]
  refine pr_sett T ha (fun t ht => ?_)
  have := hp t ht
  by_cases h : t < 64
  · refine br_t (pr_rf_pos' h) ⟨pr_rf_in h, ?_⟩
    rw [pr_rf_cl h]
    unfold pr_pv at this
    rw [if_pos h] at this
    exact this
  · refine br_f (pr_rf_nneg h) ?_
    unfold pr_pv at this
    rw [if_neg h] at this
    exact this
theorem pr_xlength {post : Int32 → Prop} (T : pr_T U B L (pr_S R C)) {x : Int32} {a : Nat} (hx : x &&& 65535 = nI a) (ha : a < 65536)
    (hp : ∀ t, pr_Lg (pr_hs U P) B L a 17 t → post (pr_lv L t)) : wpX_length post (pr_st H R F A G U B L P C e1 e2 e3 e4) x := by
  unfold wpX_length
  dsimp only
  rw [hx]
  refine pr_sett T ha (fun t ht => ?_)
  have := hp t ht
  by_cases h : t < 64
  · refine br_t (pr_rf_pos' h) ⟨pr_rf_in h, ?_⟩
    rw [pr_rf_cl h]
    unfold pr_lv at this
    rw [if_pos h] at this
    exact this
  · refine br_f (pr_rf_nneg h) ?_
    unfold pr_lv at this
    rw [if_neg h] at this
    exact this
end
end
section
/-! places under stores; newNode, lead, release; the free list -/
def pr_lR (A R y : Nat) : Nat := if A < 64 then R else y
def pr_lC (A : Nat) (C : Nat → Nat) (b y : Nat) : Nat → Nat := if A < 64 then pr_us C (2 * A + b) y else C
theorem pr_S_us {R : Nat} {C : Nat → Nat} {n c y A b : Nat} (hn : n < 64) (hc : c < 2) (hb : b < 2) : pr_S R (pr_us C (2 * n + c) y) A b = if A = n ∧ b = c then y else pr_S R C A b := by
  unfold pr_S pr_us
  by_cases h : A < 64
  · rw [if_pos h, if_pos h]
    by_cases e : A = n ∧ b = c
    · rw [if_pos e, if_pos (by omega)]
    · rw [if_neg e, if_neg (by omega)]
  · rw [if_neg h, if_neg h, if_neg (show ¬ (A = n ∧ b = c) by omega)]
theorem pr_S_lead {R : Nat} {C : Nat → Nat} {n c y A b : Nat} (hn : n ≤ 64) (hc : c < 2) (hc0 : n = 64 → c = 0) (hA : A ≤ 64) (hb : b < 2) : pr_S (pr_lR n R y) (pr_lC n C c y) A b = if A = n ∧ b = c then y else pr_S R C A b := by
  unfold pr_lR pr_lC
  by_cases h : n < 64
  · rw [if_pos h, if_pos h]
    exact pr_S_us h hc hb
  · rw [if_neg h, if_neg h]
    have e : n = 64 := by omega
    have e2 := hc0 e
    subst e
    subst e2
    unfold pr_S
    by_cases h2 : A < 64
    · rw [if_pos h2, if_pos h2, if_neg (by omega)]
    · have e3 : A = 64 := by omega
      subst e3
      rw [if_neg h2, if_neg h2]
      by_cases h3 : b = 0
      · rw [if_pos h3, if_pos ⟨rfl, h3⟩]
      · rw [if_neg h3, if_neg h3, if_neg (fun z => h3 z.2)]
theorem pr_lC_o {A : Nat} {C : Nat → Nat} {b y j : Nat} (h : A < 64 → j ≠ 2 * A + b) : pr_lC A C b y j = C j := by
  unfold pr_lC
  by_cases hA : A < 64
  · rw [if_pos hA, pr_us_n (h hA)]
  · rw [if_neg hA]
section
variable {H R F A G : Nat} {U : Nat → Bool} {B L : Nat → Nat} {P : Nat → Int32} {C : Nat → Nat} {e1 e2 e3 e4 : Nat → Int32}
theorem pr_new {post : Int32 → SX → Prop} {p len : Nat} {x : Int32} (hF : F < 64)
    (hp : post (pr_rf F) (pr_st H R (C (2 * F)) A G (pr_us U F true) (pr_us B F p) (pr_us L F len) (pr_us P F x) (pr_us (pr_us C (2 * F + 0) 64) (2 * F + 1) 64) e1 e2 e3 e4)) :
    wpX_newNode post (pr_st H R F A G U B L P C e1 e2 e3 e4) (nI p) (nI len) x := by
  have i0 : vp_in (2 * pr_rf F) 128 := by rw [pr_ix0 hF]; exact vp_in_nI (by omega) (by decide)
  have i1 : vp_in (2 * pr_rf F + 1) 128 := by rw [pr_ix1 hF]; exact vp_in_nI (by omega) (by decide)
  have c0 : (2 * pr_rf F).toNatClampNeg = 2 * F := by rw [pr_ix0 hF]; exact nI_clamp (by omega)
  have c1 : (2 * pr_rf F + 1).toNatClampNeg = 2 * F + 1 := by rw [pr_ix1 hF]; exact nI_clamp (by omega)
  have j := pr_rf_in hF
  have cj := pr_rf_cl hF
  refine ⟨i0, nm_r (e' := pr_rf (C (2 * F))) (by rw [c0]; rfl) ⟨j, nm_r (e' := pr_uf (pr_us U F true)) (by rw [cj, pr_uuf1]) ⟨j, nm_r (e' := pr_nf (pr_us B F p)) (by rw [cj, pr_unf]) ⟨j, nm_r (e' := pr_nf (pr_us L F len)) (by rw [cj, pr_unf]) ⟨j, nm_r (e' := pr_us P F x) (by rw [cj, pr_upd]) ⟨i0, nm_r (e' := pr_cf (pr_us C (2 * F + 0) 64)) (by rw [c0, pr_ucfm]; rfl) ⟨i1, nm_r (e' := pr_cf (pr_us (pr_us C (2 * F + 0) 64) (2 * F + 1) 64)) (by rw [c1, pr_ucfm]) hp⟩⟩⟩⟩⟩⟩⟩
theorem pr_lead {post : SX → Prop} {N p y : Nat} (hp16 : p < 65536) (hl : N < 64 → L N < 16)
    (hp : post (pr_st H (pr_lR N R y) F A G U B L P (pr_lC N C (pr_bx L N p) y) e1 e2 e3 e4)) :
    wpX_lead post (pr_st H R F A G U B L P C e1 e2 e3 e4) (pr_rf N) (nI p) (pr_rf y) := by
  by_cases h : N < 64
  · have eR : pr_lR N R y = R := if_pos h
    have eC : pr_lC N C (pr_bx L N p) y = pr_us C (2 * N + pr_bit p (L N)) y := by
      unfold pr_lC
      rw [if_pos h, pr_bx_lt h]
    rw [eR, eC] at hp
    refine br_t (pr_rf_pos' h) ⟨pr_rf_in h, ?_⟩
    rw [pr_rf_cl h]
    refine pr_xbit hp16 (hl h) ?_
    have hb := pr_bit_lt p (L N)
    rw [pr_ix h]
    refine ⟨vp_in_nI (by omega) (by decide), nm_r (e' := pr_cf (pr_us C (2 * N + pr_bit p (L N)) y)) (by rw [nI_clamp (by omega), pr_ucf]) hp⟩
  · have eR : pr_lR N R y = y := if_neg h
    have eC : pr_lC N C (pr_bx L N p) y = C := if_neg h
    rw [eR, eC] at hp
    exact br_f (pr_rf_nneg h) hp
theorem pr_rel {post : SX → Prop} {N : Nat} (h : N < 64)
    (hp : post (pr_st H R N A G (pr_us U N false) B L P (pr_us C (2 * N + 0) F) e1 e2 e3 e4)) :
    wpX_release post (pr_st H R F A G U B L P C e1 e2 e3 e4) (pr_rf N) := by
  refine ⟨pr_rf_in h, nm_r (e' := pr_uf (pr_us U N false)) (by rw [pr_rf_cl h, pr_uuf0]) ⟨by rw [pr_ix0 h]; exact vp_in_nI (by omega) (by decide), nm_r (e' := pr_cf (pr_us C (2 * N + 0) F)) ?_ hp⟩⟩
  rw [pr_ix0 h, nI_clamp (by omega), pr_ucf]
  rfl
end
/-! the free list -/
def pr_free (C : Nat → Nat) : Nat → List Nat → Prop
  | F, [] => ¬ F < 64
  | F, x :: xs => F = x ∧ x < 64 ∧ pr_free C (C (2 * x)) xs
def pr_FL (U : Nat → Bool) (C : Nat → Nat) (F : Nat) (fl : List Nat) : Prop := pr_free C F fl ∧ fl.Nodup ∧ ∀ n, n ∈ fl ↔ n < 64 ∧ U n = false
theorem pr_free_cg {C C' : Nat → Nat} : ∀ (fl : List Nat) (F : Nat), (∀ n, n ∈ fl → C' (2 * n) = C (2 * n)) → pr_free C F fl → pr_free C' F fl := by
  intro fl
  induction fl with
  | nil => intro F _ h; exact h
  | cons x xs ih =>
    intro F he h
    refine ⟨h.1, h.2.1, ?_⟩
    rw [he x (List.mem_cons_self ..)]
    exact ih _ (fun n hn => he n (List.mem_cons_of_mem _ hn)) h.2.2
theorem pr_pop {U U' : Nat → Bool} {C C' : Nat → Nat} {F x : Nat} {xs : List Nat} (h : pr_FL U C F (x :: xs)) (hU : ∀ n, U' n = false ↔ U n = false ∧ n ≠ x) (hC : ∀ n, n < 64 → U n = false → n ≠ x → C' (2 * n) = C (2 * n)) :
    F = x ∧ x < 64 ∧ U x = false ∧ pr_FL U' C' (C (2 * x)) xs := by
  obtain ⟨h1, h2, h3⟩ := h
  have hx := (h3 x).mp (List.mem_cons_self ..)
  have hnd := List.nodup_cons.mp h2
  refine ⟨h1.1, h1.2.1, hx.2, pr_free_cg xs _ (fun n hn => ?_) h1.2.2, hnd.2, fun n => ?_⟩
  · have := (h3 n).mp (List.mem_cons_of_mem _ hn)
    exact hC n this.1 this.2 (fun e => hnd.1 (e ▸ hn))
  · constructor
    · intro hn
      have := (h3 n).mp (List.mem_cons_of_mem _ hn)
      exact ⟨this.1, (hU n).mpr ⟨this.2, fun e => hnd.1 (e ▸ hn)⟩⟩
    · intro hn
      have hz := (hU n).mp hn.2
      rcases List.mem_cons.mp ((h3 n).mpr ⟨hn.1, hz.1⟩) with e | e
      · exact absurd e hz.2
      · exact e
theorem pr_push {U U' : Nat → Bool} {C C' : Nat → Nat} {F x : Nat} {fl : List Nat} (h : pr_FL U C F fl) (hx : x < 64) (hxu : U x = true) (hU : ∀ n, U' n = false ↔ U n = false ∨ n = x) (hC : ∀ n, n < 64 → U n = false → C' (2 * n) = C (2 * n)) (hCx : C' (2 * x) = F) :
    pr_FL U' C' x (x :: fl) := by
  obtain ⟨h1, h2, h3⟩ := h
  refine ⟨⟨rfl, hx, ?_⟩, List.nodup_cons.mpr ⟨fun z => ?_, h2⟩, fun n => ?_⟩
  · rw [hCx]
    exact pr_free_cg fl F (fun n hn => hC n ((h3 n).mp hn).1 ((h3 n).mp hn).2) h1
  · have := ((h3 x).mp z).2
    rw [hxu] at this
    exact absurd this (by decide)
  · constructor
    · intro hn
      rcases List.mem_cons.mp hn with e | e
      · subst e
        exact ⟨hx, (hU n).mpr (Or.inr rfl)⟩
      · have := (h3 n).mp e
        exact ⟨this.1, (hU n).mpr (Or.inl this.2)⟩
    · intro hn
      rcases (hU n).mp hn.2 with e | e
      · exact List.mem_cons_of_mem _ ((h3 n).mpr ⟨hn.1, e⟩)
      · subst e
        exact List.mem_cons_self ..
theorem pr_FLcg {U : Nat → Bool} {C C' : Nat → Nat} {F : Nat} {fl : List Nat} (h : pr_FL U C F fl) (hC : ∀ n, n < 64 → U n = false → C' (2 * n) = C (2 * n)) : pr_FL U C' F fl :=
  ⟨pr_free_cg fl F (fun n hn => hC n ((h.2.2 n).mp hn).1 ((h.2.2 n).mp hn).2) h.1, h.2⟩
/-! counting -/
theorem pr_cnt {U : Nat → Bool} {B L : Nat → Nat} {S : Nat → Nat → Nat} {P : Nat → Int32} (T : pr_T U B L S) (hf : ∀ n b, U n = true → b < 2 → P n < 0 → S n b < 64) {H : Nat} {nd : Nat → Nat} {sA lA pA : Nat → Int32} (y : pr_Y (pr_hs U P) B L P H nd sA lA pA) {C : Nat → Nat} {F : Nat} {fl : List Nat} (h : pr_FL U C F fl) : 64 ≤ fl.length + 2 * H := by
  let ul := (List.range 64).filter (fun n => U n)
  let fk := (List.range 64).filter (fun n => U n && decide (P n < 0))
  let hl := (List.range H).map nd
  have rn : ∀ (p : Nat → Bool), ((List.range 64).filter p).Nodup := fun p => List.nodup_range.sublist (List.filter_sublist)
  have c1 : fl.length + ul.length = 64 := by
    have e : fl.Perm ((List.range 64).filter (fun n => ¬ U n)) := by
      refine (List.perm_ext_iff_of_nodup h.2.1 (rn _)).mpr (fun n => ?_)
      rw [h.2.2 n, List.mem_filter, List.mem_range]
      simp
    have := List.length_eq_countP_add_countP (fun n => U n) (l := List.range 64)
    rw [List.countP_eq_length_filter, List.countP_eq_length_filter, ← e.length_eq, List.length_range] at this
    show fl.length + ((List.range 64).filter (fun n => U n)).length = 64
    omega
  have c2 : ul.length ≤ fk.length + H := by
    have hs : ul.Nodup := rn _
    have : ul.length ≤ (fk ++ hl).length := by
      refine List.Nodup.length_le_of_subset hs (fun n hn => ?_)
      have hn' := List.mem_filter.mp hn
      refine List.mem_append.mpr ?_
      by_cases hp : P n < 0
      · exact Or.inl (List.mem_filter.mpr ⟨hn'.1, by simp [hp, hn'.2]⟩)
      · obtain ⟨e, he, ee⟩ := y.2.2.2 n ⟨hn'.2, Int32.not_lt.mp hp⟩
        exact Or.inr (List.mem_map.mpr ⟨e, List.mem_range.mpr he, ee⟩)
    rw [List.length_append] at this
    have e : hl.length = H := by
      show ((List.range H).map nd).length = H
      rw [List.length_map, List.length_range]
    omega
  have fkm : ∀ n, n ∈ fk → U n = true ∧ P n < 0 := by
    intro n hn
    have := (List.mem_filter.mp hn).2
    simpa using this
  have c3 : 2 * fk.length ≤ ul.length := by
    have e : (fk.flatMap (fun n => [S n 0, S n 1])).length = 2 * fk.length := by
      generalize fk = l
      induction l with
      | nil => rfl
      | cons x xs ih =>
        rw [List.flatMap_cons, List.length_append, ih, List.length_cons]
        simp only [List.length_cons, List.length_nil]
        omega
    rw [← e]
    have uniq : ∀ n m b c, U n = true → P n < 0 → U m = true → P m < 0 → b < 2 → c < 2 → S n b = S m c → n = m ∧ b = c := by
      intro n m b c hn hpn hm hpm hb hc he
      have g1 := hf n b hn hb hpn
      have g2 := hf m c hm hc hpm
      have k1 := pr_kat T hn hb g1
      have k2 := pr_kat T hm hc g2
      have := pr_up T k1.1 k2.1 (by rw [k1.2]; exact g1) (by rw [k1.2, k2.2]; exact he.symm)
      rw [k1.2, k2.2] at this
      exact this
    refine List.Nodup.length_le_of_subset ?_ ?_
    · have fkn : fk.Nodup := rn _
      refine List.pairwise_flatMap.mpr ⟨fun n hn => ?_, ?_⟩
      · obtain ⟨u, hp⟩ := fkm n hn
        refine List.nodup_cons.mpr ⟨fun z => ?_, by simp⟩
        have e1 := List.mem_singleton.mp z
        have := (uniq n n 0 1 u hp u hp (by decide) (by decide) e1).2
        omega
      · refine List.Pairwise.imp_of_mem ?_ fkn
        intro n m hn hm hne x hx y hy e
        obtain ⟨u, hp⟩ := fkm n hn
        obtain ⟨u', hp'⟩ := fkm m hm
        subst e
        have g : ∀ k, x ∈ [S k 0, S k 1] → ∃ b, b < 2 ∧ S k b = x := by
          intro k hk
          rcases List.mem_cons.mp hk with z | z
          · exact ⟨0, by decide, z.symm⟩
          · exact ⟨1, by decide, (List.mem_singleton.mp z).symm⟩
        obtain ⟨b, hb, eb⟩ := g n hx
        obtain ⟨c, hc, ec⟩ := g m hy
        exact hne (uniq n m b c u hp u' hp' hb hc (eb.trans ec.symm)).1
    · intro x hx
      obtain ⟨n, hn, hx'⟩ := List.mem_flatMap.mp hx
      obtain ⟨u, hp⟩ := fkm n hn
      have g : ∃ b, b < 2 ∧ S n b = x := by
        rcases List.mem_cons.mp hx' with z | z
        · exact ⟨0, by decide, z.symm⟩
        · exact ⟨1, by decide, (List.mem_singleton.mp z).symm⟩
      obtain ⟨b, hb, eb⟩ := g
      have k := pr_kid T u hb (hf n b u hb hp)
      rw [eb] at k
      exact List.mem_filter.mpr ⟨List.mem_range.mpr (T.1.1 x k.1).1, k.1⟩
  omega
end
section
/-! a new entry -/
def pr_X (R F : Nat) (U : Nat → Bool) (B L : Nat → Nat) (P : Nat → Int32) (C : Nat → Nat) : Prop :=
  pr_T U B L (pr_S R C) ∧ (∃ fl, pr_FL U C F fl) ∧ (∀ n, U n = true → P n = -1 ∨ ∃ p, p ≤ 7 ∧ P n = nI p) ∧ (∀ n b, U n = true → b < 2 → P n < 0 → pr_S R C n b < 64)
def pr_Add (U U' : Nat → Bool) (B L B' L' : Nat → Nat) (P P' : Nat → Int32) (x p len : Nat) (pe : Int32) : Prop :=
  ¬ pr_hs U P x ∧ (∀ m, pr_hs U' P' m ↔ pr_hs U P m ∨ m = x) ∧ B' x = p ∧ L' x = len ∧ P' x = pe ∧ (∀ m, pr_hs U P m → B' m = B m ∧ L' m = L m ∧ P' m = P m)
theorem pr_commonL {post : Int32 → Prop} {p q lim : Nat} (hp : p < 65536) (hq : q < 65536) (hl : lim ≤ 16)
    (h : ∀ s, s ≤ lim → pr_ag p q s → (s < lim → pr_bit p s ≠ pr_bit q s) → post (nI s)) : ∀ d s : Nat, s + d = lim → pr_ag p q s → wX_common_2 post (nI p) (nI q) (nI lim) (d + 1) (nI s) := by
  intro d
  induction d with
  | zero =>
    intro s hs hg
    exact br_t (nI_le (by omega) (by omega)) (h s (by omega) hg (fun z => by omega))
  | succ d ih =>
    intro s hs hg
    refine br_f (nI_ge (by omega) (by omega)) (pr_xbit hp (by omega) (pr_xbit hq (by omega) ?_))
    have b1 := pr_bit_lt p s
    have b2 := pr_bit_lt q s
    by_cases c : pr_bit p s = pr_bit q s
    · exact br_t (congrArg nI c) (nm_r (nI_1 s) (ih (s + 1) (by omega) ((pr_ag_succ (by omega)).mpr ⟨hg, c⟩)))
    · exact br_f (fun z => c ((nI_eq (by omega) (by omega)).mp z)) (h s (by omega) hg (fun _ => c))
theorem pr_common {post : Int32 → Prop} {p q lim : Nat} (hp : p < 65536) (hq : q < 65536) (hl : lim ≤ 16)
    (h : ∀ s, s ≤ lim → pr_ag p q s → (s < lim → pr_bit p s ≠ pr_bit q s) → post (nI s)) : wpX_common post (nI p) (nI q) (nI lim) :=
  ⟨lim + 1, pr_commonL hp hq hl h lim 0 (by omega) (pr_ag_0 hp hq)⟩
section
variable {R F A : Nat} {U : Nat → Bool} {B L : Nat → Nat} {P : Nat → Int32} {C : Nat → Nat}
theorem pr_ins1 {R' : Nat} {C' : Nat → Nat} {p len x : Nat} {pe : Int32} {xs : List Nat} (X : pr_X R F U B L P C) (hfl : pr_FL U C F (x :: xs)) (hl : len ≤ 16) (hcut : pr_cut p len = p) (hat : pr_at U B L A p) (hlev : pr_lev L A ≤ len)
    (hN : pr_S R C A (pr_bx L A p) < 64 → len < L (pr_S R C A (pr_bx L A p)) ∧ pr_ag (B (pr_S R C A (pr_bx L A p))) p len) (hpe : ∃ q, q ≤ 7 ∧ pe = nI q)
    (hS : ∀ A' b, A' ≤ 64 → b < 2 → pr_S R' C' A' b = if A' = A ∧ b = pr_bx L A p then x else if A' = x then (if pr_S R C A (pr_bx L A p) < 64 ∧ b = pr_bit (B (pr_S R C A (pr_bx L A p))) len then pr_S R C A (pr_bx L A p) else 64) else pr_S R C A' b)
    (hC : ∀ n, n < 64 → U n = false → n ≠ x → C' (2 * n) = C (2 * n)) :
    pr_X R' (C (2 * x)) (pr_us U x true) (pr_us B x p) (pr_us L x len) (pr_us P x pe) C' ∧ pr_Add U (pr_us U x true) B L (pr_us B x p) (pr_us L x len) P (pr_us P x pe) x p len pe := by
  obtain ⟨T, _, hP, hf⟩ := X
  obtain ⟨hF, hx, hxu, hfl'⟩ := pr_pop (U' := pr_us U x true) (C' := C') hfl (fun n => by
    by_cases e : n = x
    · subst e
      rw [pr_us_s]
      simp
    · rw [pr_us_n e]
      simp [e]) hC
  have hne : ∀ m, U m = true → m ≠ x := fun m hm e => by rw [e, hxu] at hm; exact absurd hm (by decide)
  have hU : ∀ m, pr_us U x true m = true ↔ m = x ∨ U m = true := by
    intro m
    by_cases e : m = x
    · subst e
      rw [pr_us_s]
      simp
    · rw [pr_us_n e]
      simp [e]
  obtain ⟨q, hq, epe⟩ := hpe
  have hpos : 0 ≤ pe := by rw [epe]; exact nI_pos' (by omega)
  have hAx : A ≠ x := by
    rcases hat.2 with e | ⟨u, _⟩
    · omega
    · exact hne A u
  refine ⟨⟨?_, ⟨xs, hfl'⟩, ?_, ?_⟩, ?_⟩
  · refine pr_in T hat hlev hl hcut hx hxu hN hU pr_us_s pr_us_s (fun m hm => pr_us_n hm) (fun m hm => pr_us_n hm) ?_ ?_ ?_ ?_
    · intro A' b hA hb hA' hs
      rw [hS A' b hA hb, if_neg hs, if_neg hA']
    · rw [hS A _ (pr_at_lt T.1 hat).2 pr_bx2, if_pos ⟨rfl, rfl⟩]
    · intro b hb h64 e
      rw [hS x b (by omega) hb, if_neg (fun z => hAx z.1.symm), if_pos rfl, if_pos ⟨h64, e⟩]
    · intro b hb h
      rw [hS x b (by omega) hb, if_neg (fun z => hAx z.1.symm), if_pos rfl, if_neg (fun z => h z.1 z.2)]
      decide
  · intro n hn
    by_cases e : n = x
    · subst e
      rw [pr_us_s]
      exact Or.inr ⟨q, hq, epe⟩
    · rw [pr_us_n e] at hn ⊢
      exact hP n hn
  · intro n b hn hb hpn
    by_cases e : n = x
    · subst e
      rw [pr_us_s] at hpn
      exact absurd hpos (Int32.not_le.mpr hpn)
    · rw [pr_us_n e] at hn hpn
      rw [hS n b (Nat.le_of_lt (T.1.1 n hn).1) hb]
      by_cases c : n = A ∧ b = pr_bx L A p
      · rw [if_pos c]
        exact hx
      · rw [if_neg c, if_neg e]
        exact hf n b hn hb hpn
  · refine ⟨fun z => hne x z.1 rfl, fun m => ?_, pr_us_s, pr_us_s, pr_us_s, fun m hm => ⟨pr_us_n (hne m hm.1), pr_us_n (hne m hm.1), pr_us_n (hne m hm.1)⟩⟩
    unfold pr_hs
    by_cases e : m = x
    · subst e
      rw [pr_us_s, pr_us_s]
      simp [hpos]
    · rw [pr_us_n e, pr_us_n e]
      simp [e]
theorem pr_ins3 {R' : Nat} {C' : Nat → Nat} {p len sh x z N : Nat} {pe : Int32} {xs : List Nat} (X : pr_X R F U B L P C) (hfl : pr_FL U C F (x :: z :: xs)) (hl : len ≤ 16) (hcut : pr_cut p len = p) (hat : pr_at U B L A p) (hlev : pr_lev L A ≤ sh)
    (eN : pr_S R C A (pr_bx L A p) = N) (hN : N < 64) (hs1 : sh < len) (hs2 : sh < L N) (hag : pr_ag p (B N) sh) (hbit : pr_bit p sh ≠ pr_bit (B N) sh) (hpe : ∃ q, q ≤ 7 ∧ pe = nI q)
    (hS : ∀ A' b, A' ≤ 64 → b < 2 → pr_S R' C' A' b = if A' = A ∧ b = pr_bx L A p then z else if A' = z then (if b = pr_bit (B N) sh then N else x) else if A' = x then 64 else pr_S R C A' b)
    (hC : ∀ n, n < 64 → U n = false → n ≠ x → n ≠ z → C' (2 * n) = C (2 * n)) :
    pr_X R' (C (2 * z)) (pr_us (pr_us U x true) z true) (pr_us (pr_us B x p) z (pr_cut p sh)) (pr_us (pr_us L x len) z sh) (pr_us (pr_us P x pe) z (-1)) C' ∧ pr_Add U (pr_us (pr_us U x true) z true) B L (pr_us (pr_us B x p) z (pr_cut p sh)) (pr_us (pr_us L x len) z sh) P (pr_us (pr_us P x pe) z (-1)) x p len pe := by
  obtain ⟨T, _, hP, hf⟩ := X
  have us1 : ∀ (V : Nat → Bool) (k n : Nat), pr_us V k true n = false ↔ V n = false ∧ n ≠ k := by
    intro V k n
    by_cases e : n = k
    · subst e
      rw [pr_us_s]
      simp
    · rw [pr_us_n e]
      simp [e]
  have us2 : ∀ (V : Nat → Bool) (k n : Nat), pr_us V k true n = true ↔ n = k ∨ V n = true := by
    intro V k n
    by_cases e : n = k
    · subst e
      rw [pr_us_s]
      simp
    · rw [pr_us_n e]
      simp [e]
  obtain ⟨hF, hx, hxu, hfl1⟩ := pr_pop (U' := pr_us U x true) (C' := C) hfl (us1 U x) (fun _ _ _ _ => rfl)
  obtain ⟨hF2, hz, hzu, hfl2⟩ := pr_pop (U' := pr_us (pr_us U x true) z true) (C' := C') hfl1 (us1 _ z) (fun n h1 h2 h3 => hC n h1 ((us1 U x n).mp h2).1 ((us1 U x n).mp h2).2 h3)
  have hzx : z ≠ x := ((us1 U x z).mp hzu).2
  have hzu0 : U z = false := ((us1 U x z).mp hzu).1
  have hne : ∀ m, U m = true → m ≠ x := fun m hm e => by rw [e, hxu] at hm; exact absurd hm (by decide)
  have hnez : ∀ m, U m = true → m ≠ z := fun m hm e => by rw [e, hzu0] at hm; exact absurd hm (by decide)
  obtain ⟨q, hq, epe⟩ := hpe
  have hpos : 0 ≤ pe := by rw [epe]; exact nI_pos' (by omega)
  have hAx : A ≠ x := by
    rcases hat.2 with e | ⟨u, _⟩
    · omega
    · exact hne A u
  have hAz : A ≠ z := by
    rcases hat.2 with e | ⟨u, _⟩
    · omega
    · exact hnez A u
  have hA64 := (pr_at_lt T.1 hat).2
  have k1 := T.2.1 A p hat (by rw [eN]; exact hN)
  rw [eN] at k1
  have hsh : sh < 16 := by omega
  have hcs : pr_ag (pr_cut p sh) p sh := pr_cut_ag p sh
  -- the fork's place
  have hat1 : pr_at U B L A (pr_cut p sh) := by
    refine ⟨by have := pr_cut_le p sh; have := hat.1; omega, ?_⟩
    rcases hat.2 with e | ⟨u, l, g⟩
    · exact Or.inl e
    · rw [pr_lev_lt (T.1.1 A u).1] at hlev
      exact Or.inr ⟨u, l, pr_ag_trans (pr_ag_mono (by omega) (by omega) hcs) g⟩
  have hbx1 : pr_bx L A (pr_cut p sh) = pr_bx L A p := by
    rcases hat.2 with e | ⟨u, l, g⟩
    · subst e
      rfl
    · have hA := (T.1.1 A u).1
      rw [pr_lev_lt hA] at hlev
      rw [pr_bx_lt hA, pr_bx_lt hA]
      exact pr_bit_ag (by omega) hlev hcs
  let Sm : Nat → Nat → Nat := fun A' b => if A' = z then (if b = pr_bit (B N) sh then N else 64) else if A' = A ∧ b = pr_bx L A p then z else pr_S R C A' b
  have hUN : U N = true := k1.1
  have hNz := hnez N hUN
  have hNx := hne N hUN
  have T1 : pr_T (pr_us U z true) (pr_us B z (pr_cut p sh)) (pr_us L z sh) Sm := by
    refine pr_in T hat1 hlev (by omega) (pr_cut_idem p sh) hz hzu0 ?_ (us2 U z) pr_us_s pr_us_s (fun m hm => pr_us_n hm) (fun m hm => pr_us_n hm) ?_ ?_ ?_ ?_
    · rw [hbx1, eN]
      intro _
      exact ⟨hs2, pr_ag_trans (pr_ag_symm hag) (pr_ag_symm hcs)⟩
    · intro A' b hA hb hA' hs
      rw [hbx1] at hs
      show (if A' = z then _ else _) = _
      rw [if_neg hA', if_neg hs]
    · rw [hbx1]
      show (if A = z then _ else _) = _
      rw [if_neg hAz, if_pos ⟨rfl, rfl⟩]
    · intro b hb
      rw [hbx1, eN]
      intro _ e
      show (if z = z then _ else _) = _
      rw [if_pos rfl, if_pos e]
    · intro b hb
      rw [hbx1, eN]
      intro h
      show ¬ (if z = z then _ else _) < 64
      rw [if_pos rfl, if_neg (h hN)]
      decide
  have hx1 : pr_us U z true x = false := (us1 U z x).mpr ⟨hxu, fun e => hzx e.symm⟩
  have hlz : pr_us L z sh z = sh := pr_us_s
  have hat2 : pr_at (pr_us U z true) (pr_us B z (pr_cut p sh)) (pr_us L z sh) z p := by
    refine ⟨hat.1, Or.inr ⟨pr_us_s, ?_, ?_⟩⟩
    · rw [hlz]
      exact hsh
    · rw [hlz, pr_us_s]
      exact pr_ag_symm hcs
  have hbxz : pr_bx (pr_us L z sh) z p = pr_bit p sh := by rw [pr_bx_lt hz, hlz]
  have hSmz : Sm z (pr_bit p sh) = 64 := by
    show (if z = z then _ else _) = _
    rw [if_pos rfl, if_neg hbit]
  have hcomm : ∀ {α : Type} (f : Nat → α) (u v : α) (m : Nat), pr_us (pr_us f x u) z v m = pr_us (pr_us f z v) x u m := by
    intro α f u v m
    unfold pr_us
    by_cases e : m = x
    · subst e
      rw [if_neg (fun y => hzx y.symm), if_pos rfl, if_pos rfl]
    · rw [if_neg e, if_neg e]
  have T2 : pr_T (pr_us (pr_us U x true) z true) (pr_us (pr_us B x p) z (pr_cut p sh)) (pr_us (pr_us L x len) z sh) (pr_S R' C') := by
    refine pr_in T1 hat2 (len := len) ?_ hl hcut hx hx1 ?_ ?_ ?_ ?_ ?_ ?_ ?_ ?_ ?_ ?_
    · rw [pr_lev_lt hz, hlz]
      exact hs1
    · rw [hbxz, hSmz]
      intro h
      omega
    · intro m
      rw [hcomm]
      exact us2 _ x m
    · rw [hcomm, pr_us_s]
    · rw [hcomm, pr_us_s]
    · intro m hm
      rw [hcomm, pr_us_n hm]
    · intro m hm
      rw [hcomm, pr_us_n hm]
    · intro A' b hA hb hA' hs
      rw [hbxz] at hs
      rw [hS A' b hA hb]
      show _ = (if A' = z then _ else _)
      by_cases c1 : A' = z
      · subst c1
        rw [if_neg (fun y => hAz y.1.symm), if_pos rfl, if_pos rfl]
        have hb3 := pr_bit_lt p sh
        have hb4 := pr_bit_lt (B N) sh
        have hb5 : b ≠ pr_bit p sh := fun y => hs ⟨rfl, y⟩
        have hb6 : b = pr_bit (B N) sh := by omega
        rw [if_pos hb6, if_pos hb6]
      · by_cases c2 : A' = A ∧ b = pr_bx L A p
        · rw [if_pos c2, if_neg c1, if_pos c2]
        · rw [if_neg c2, if_neg c1, if_neg hA', if_neg c1, if_neg c2]
    · rw [hbxz, hS z _ (by omega) (pr_bit_lt _ _), if_neg (fun y => hAz y.1.symm), if_pos rfl, if_neg hbit]
    · intro b hb
      rw [hbxz, hSmz]
      intro h
      omega
    · intro b hb _
      rw [hS x b (by omega) hb, if_neg (fun y => hAx y.1.symm), if_neg (fun y => hzx y.symm), if_pos rfl]
      decide
  refine ⟨⟨T2, ⟨xs, hfl2⟩, ?_, ?_⟩, ?_⟩
  · intro n hn
    by_cases e : n = z
    · subst e
      rw [pr_us_s]
      exact Or.inl rfl
    · rw [pr_us_n e] at hn ⊢
      by_cases e2 : n = x
      · subst e2
        rw [pr_us_s]
        exact Or.inr ⟨q, hq, epe⟩
      · rw [pr_us_n e2] at hn ⊢
        exact hP n hn
  · intro n b hn hb hpn
    by_cases e : n = z
    · subst e
      rw [hS n b (by omega) hb, if_neg (fun y => hAz y.1.symm), if_pos rfl]
      by_cases c : b = pr_bit (B N) sh
      · rw [if_pos c]
        exact hN
      · rw [if_neg c]
        exact hx
    · rw [pr_us_n e] at hn hpn
      by_cases e2 : n = x
      · subst e2
        rw [pr_us_s] at hpn
        exact absurd hpos (Int32.not_le.mpr hpn)
      · rw [pr_us_n e2] at hn hpn
        rw [hS n b (Nat.le_of_lt (T.1.1 n hn).1) hb]
        by_cases c : n = A ∧ b = pr_bx L A p
        · rw [if_pos c]
          exact hz
        · rw [if_neg c, if_neg e, if_neg e2]
          exact hf n b hn hb hpn
  · have hxz : x ≠ z := fun e => hzx e.symm
    refine ⟨fun y => hne x y.1 rfl, fun m => ?_, by rw [pr_us_n hxz, pr_us_s], by rw [pr_us_n hxz, pr_us_s], by rw [pr_us_n hxz, pr_us_s], fun m hm => ⟨?_, ?_, ?_⟩⟩
    · unfold pr_hs
      by_cases e : m = z
      · subst e
        rw [pr_us_s, pr_us_s]
        constructor
        · intro y
          exact absurd y.2 (by decide)
        · intro y
          rcases y with y | y
          · exact absurd rfl (hnez m y.1)
          · exact absurd y hzx
      · rw [pr_us_n e, pr_us_n e]
        by_cases e2 : m = x
        · subst e2
          rw [pr_us_s, pr_us_s]
          simp [hpos]
        · rw [pr_us_n e2, pr_us_n e2]
          simp [e2]
    · rw [pr_us_n (hnez m hm.1), pr_us_n (hne m hm.1)]
    · rw [pr_us_n (hnez m hm.1), pr_us_n (hne m hm.1)]
    · rw [pr_us_n (hnez m hm.1), pr_us_n (hne m hm.1)]
end
end
section
/-! the walk of insert -/
theorem pr_bx_us {L : Nat → Nat} {A k v p : Nat} (h : A ≠ k) : pr_bx (pr_us L k v) A p = pr_bx L A p := by
  unfold pr_bx
  rw [pr_us_n h]
theorem pr_S_new {R : Nat} {C : Nat → Nat} {F A b : Nat} (hF : F < 64) (hb : b < 2) : pr_S R (pr_us (pr_us C (2 * F + 0) 64) (2 * F + 1) 64) A b = if A = F then 64 else pr_S R C A b := by
  rw [pr_S_us hF (by decide) hb, pr_S_us hF (by decide) hb]
  by_cases c : A = F
  · rw [if_pos c]
    by_cases d : b = 1
    · rw [if_pos ⟨c, d⟩]
    · rw [if_neg (fun y => d y.2), if_pos ⟨c, by omega⟩]
  · rw [if_neg c, if_neg (fun y => c y.1), if_neg (fun y => c y.1)]
theorem pr_us_o {C : Nat → Nat} {n c y j : Nat} (h : j ≠ 2 * n + c) : pr_us C (2 * n + c) y j = C j := pr_us_n h
section
variable {H R F A G : Nat} {U : Nat → Bool} {B L : Nat → Nat} {P : Nat → Int32} {C : Nat → Nat} {e1 e2 e3 e4 : Nat → Int32}
theorem pr_ins87 {post : SX → Prop} (X : pr_X R F U B L P C) {p len lim x z : Nat} {pe : Int32} {xs : List Nat} (hfl : pr_FL U C F (x :: z :: xs)) (hl : len ≤ 16) (hcut : pr_cut p len = p) (hat : pr_at U B L A p) (hlev : pr_lev L A ≤ len) (hpe : ∃ q, q ≤ 7 ∧ pe = nI q) {N : Nat} (eN : pr_S R C A (pr_bx L A p) = N) (hN : N < 64)
    (hno : len < L N ∨ ¬ pr_ag p (B N) (L N)) (hlim1 : lim ≤ len) (hlim2 : lim ≤ L N) (hlim3 : lim = len ∨ lim = L N)
    (hp : ∀ R' F' U' B' L' P' C' x, pr_X R' F' U' B' L' P' C' → pr_Add U U' B L B' L' P P' x p len pe → post (pr_st H R' F' A G U' B' L' P' C' e1 e2 e3 e4)) :
    wX_insert_87 post (nI p) (nI len) (pr_rf A) (pr_rf N) (pr_rf x) (nI lim) (nI H) (pr_rf R) (pr_rf z) (pr_rf A) (pr_rf G) (pr_uf (pr_us U x true)) (pr_nf (pr_us B x p)) (pr_nf (pr_us L x len)) (pr_us P x pe) (pr_cf (pr_us (pr_us C (2 * x + 0) 64) (2 * x + 1) 64)) e1 e2 e3 e4 := by
  have X0 := X
  obtain ⟨T, _, hP, hf⟩ := X
  have hx : x < 64 ∧ U x = false := (hfl.2.2 x).mp (List.mem_cons_self ..)
  have hz : z < 64 ∧ U z = false := (hfl.2.2 z).mp (List.mem_cons_of_mem _ (List.mem_cons_self ..))
  have hzx : z ≠ x := fun e => (List.nodup_cons.mp hfl.2.1).1 (e ▸ List.mem_cons_self ..)
  have hne : ∀ m, U m = true → m ≠ x := fun m hm e => by rw [e, hx.2] at hm; exact absurd hm (by decide)
  have hnez : ∀ m, U m = true → m ≠ z := fun m hm e => by rw [e, hz.2] at hm; exact absurd hm (by decide)
  have hA64 := (pr_at_lt T.1 hat).2
  have hAx : A ≠ x := by
    rcases hat.2 with e | ⟨u, _⟩
    · omega
    · exact hne A u
  have hAz : A ≠ z := by
    rcases hat.2 with e | ⟨u, _⟩
    · omega
    · exact hnez A u
  have k1 := T.2.1 A p hat (by rw [eN]; exact hN)
  rw [eN] at k1
  have hNx := hne N k1.1
  have hNz := hnez N k1.1
  obtain ⟨_, hN16, hNB, hNc⟩ := T.1.1 N k1.1
  have hlA : A < 64 → L A < 16 := by
    intro h
    rcases hat.2 with e | ⟨_, l, _⟩
    · omega
    · exact l
  have hbx0 : A = 64 → pr_bx L A p = 0 := by
    intro e
    subst e
    rfl
  have hat' := hat.1
  refine ⟨pr_rf_in hN, ?_⟩
  rw [pr_rf_cl hN]
  have eBN : pr_nf (pr_us B x p) N = nI (B N) := by
    unfold pr_nf
    rw [pr_us_n hNx]
  rw [eBN]
  refine pr_common hat' hNB (by omega) (fun s hs hag hdif => ?_)
  by_cases hc : s = len
  · subst hc
    have hlt : s < L N := by
      rcases hno with h | h
      · exact h
      · rcases Nat.lt_or_ge s (L N) with h2 | h2
        · exact h2
        · have : L N = s := by omega
          rw [this] at h
          exact absurd hag h
    refine br_t rfl ⟨pr_rf_in hN, ?_⟩
    refine pr_xbit hNB (by omega) ?_
    have hb := pr_bit_lt (B N) s
    rw [pr_ix hx.1]
    refine ⟨vp_in_nI (by omega) (by decide), nm_r (e' := pr_cf (pr_us (pr_us (pr_us C (2 * x + 0) 64) (2 * x + 1) 64) (2 * x + pr_bit (B N) s) N)) (by rw [nI_clamp (by omega), pr_ucf]) ?_⟩
    refine pr_lead hat' (fun h => by rw [pr_us_n hAx]; exact hlA h) ?_
    rw [pr_bx_us hAx]
    have hz2 : C (2 * x) = z := hfl.1.2.2.1
    rw [← hz2]
    have W := pr_ins1 (R' := pr_lR A R x) (C' := pr_lC A (pr_us (pr_us (pr_us C (2 * x + 0) 64) (2 * x + 1) 64) (2 * x + pr_bit (B N) s) N) (pr_bx L A p) x) (pe := pe) X0 hfl hl hcut hat hlev (by rw [eN]; exact fun _ => ⟨hlt, pr_ag_symm hag⟩) hpe ?_ ?_
    · exact hp _ _ _ _ _ _ _ x W.1 W.2
    · intro A' b hA' hb2
      rw [pr_S_lead hA64 pr_bx2 hbx0 hA' hb2, pr_S_us hx.1 hb hb2, pr_S_new hx.1 hb2, eN]
      by_cases c1 : A' = A ∧ b = pr_bx L A p
      · rw [if_pos c1, if_pos c1]
      · rw [if_neg c1, if_neg c1]
        by_cases c2 : A' = x
        · rw [if_pos c2, if_pos c2]
          by_cases c3 : b = pr_bit (B N) s
          · rw [if_pos ⟨c2, c3⟩, if_pos ⟨hN, c3⟩]
          · rw [if_neg (fun y => c3 y.2), if_neg (fun y => c3 y.2)]
        · rw [if_neg c2, if_neg c2, if_neg (fun y => c2 y.1)]
    · intro n hn hun hnx
      have hnA : n ≠ A := by
        intro e
        subst e
        rcases hat.2 with e | ⟨u, _⟩
        · omega
        · rw [hun] at u
          exact absurd u (by decide)
      have hb3 := @pr_bx2 L A p
      rw [pr_lC_o (by intro _; omega), pr_us_n (by omega), pr_us_n (by omega), pr_us_n (by omega)]
  · have hsl : s < lim := by
      rcases Nat.lt_or_ge s lim with h | h
      · exact h
      · exfalso
        have e : s = lim := by omega
        have e2 : lim = L N := by
          rcases hlim3 with h3 | h3
          · omega
          · exact h3
        rw [e, e2] at hag
        rcases hno with h3 | h3
        · omega
        · exact h3 hag
    have hdif := hdif hsl
    have hlevs : pr_lev L A ≤ s := by
      rcases Nat.lt_or_ge s (pr_lev L A) with h | h
      · exact absurd (pr_bit_ag (by have := k1.2.1; omega) h (pr_ag_symm k1.2.2)) hdif
      · exact h
    refine br_f (fun y => hc ((nI_eq (by omega) (by omega)).mp y)) ?_
    refine pr_xcut hat' (by omega) ?_
    refine pr_new hz.1 ?_
    have hb := pr_bit_lt p s
    have hb' := pr_bit_lt (B N) s
    refine pr_xbit hat' (by omega) ?_
    rw [pr_ix hz.1]
    refine ⟨vp_in_nI (by omega) (by decide), nm_r (e' := pr_cf (pr_us (pr_us (pr_us (pr_us (pr_us C (2 * x + 0) 64) (2 * x + 1) 64) (2 * z + 0) 64) (2 * z + 1) 64) (2 * z + pr_bit p s) x)) (by rw [nI_clamp (by omega), pr_ucf]) ⟨pr_rf_in hN, ?_⟩⟩
    have eBN2 : pr_nf (pr_us (pr_us B x p) z (pr_cut p s)) N = nI (B N) := by
      unfold pr_nf
      rw [pr_us_n hNz, pr_us_n hNx]
    rw [eBN2]
    refine pr_xbit hNB (by omega) ?_
    rw [pr_ix hz.1]
    refine ⟨vp_in_nI (by omega) (by decide), nm_r (e' := pr_cf (pr_us (pr_us (pr_us (pr_us (pr_us (pr_us C (2 * x + 0) 64) (2 * x + 1) 64) (2 * z + 0) 64) (2 * z + 1) 64) (2 * z + pr_bit p s) x) (2 * z + pr_bit (B N) s) N)) (by rw [nI_clamp (by omega), pr_ucf]) ?_⟩
    refine pr_lead hat' (fun h => by rw [pr_us_n hAz, pr_us_n hAx]; exact hlA h) ?_
    rw [pr_bx_us hAz, pr_bx_us hAx]
    have eF : pr_us (pr_us C (2 * x + 0) 64) (2 * x + 1) 64 (2 * z) = C (2 * z) := by
      rw [pr_us_n (by omega), pr_us_n (by omega)]
    rw [eF]
    have W := pr_ins3 (R' := pr_lR A R z) (C' := pr_lC A (pr_us (pr_us (pr_us (pr_us (pr_us (pr_us C (2 * x + 0) 64) (2 * x + 1) 64) (2 * z + 0) 64) (2 * z + 1) 64) (2 * z + pr_bit p s) x) (2 * z + pr_bit (B N) s) N) (pr_bx L A p) z) (pe := pe) X0 hfl hl hcut hat hlevs eN hN (by omega) (by omega) hag hdif hpe ?_ ?_
    · exact hp _ _ _ _ _ _ _ x W.1 W.2
    · intro A' b hA' hb2
      rw [pr_S_lead hA64 pr_bx2 hbx0 hA' hb2, pr_S_us hz.1 hb' hb2, pr_S_us hz.1 hb hb2, pr_S_new hz.1 hb2, pr_S_new hx.1 hb2]
      by_cases c1 : A' = A ∧ b = pr_bx L A p
      · rw [if_pos c1, if_pos c1]
      · rw [if_neg c1, if_neg c1]
        by_cases c2 : A' = z
        · rw [if_pos c2, if_pos c2]
          by_cases c3 : b = pr_bit (B N) s
          · rw [if_pos ⟨c2, c3⟩, if_pos c3]
          · rw [if_neg (fun y => c3 y.2), if_neg c3, if_pos ⟨c2, by omega⟩]
        · rw [if_neg c2, if_neg c2, if_neg (fun y => c2 y.1), if_neg (fun y => c2 y.1)]
    · intro n hn hun hnx hnz
      have hnA : n ≠ A := by
        intro e
        subst e
        rcases hat.2 with e | ⟨u, _⟩
        · omega
        · rw [hun] at u
          exact absurd u (by decide)
      have hb3 := @pr_bx2 L A p
      rw [pr_lC_o (by intro _; omega), pr_us_n (by omega), pr_us_n (by omega), pr_us_n (by omega), pr_us_n (by omega), pr_us_n (by omega), pr_us_n (by omega)]
theorem pr_ins39 {post : SX → Prop} (X : pr_X R F U B L P C) {p len x z : Nat} {pe : Int32} {xs : List Nat} (hfl : pr_FL U C F (x :: z :: xs)) (hl : len ≤ 16) (hcut : pr_cut p len = p) (hat : pr_at U B L A p) (hlev : pr_lev L A ≤ len) (hpe : ∃ q, q ≤ 7 ∧ pe = nI q)
    (hno : pr_S R C A (pr_bx L A p) < 64 → len < L (pr_S R C A (pr_bx L A p)) ∨ ¬ pr_ag p (B (pr_S R C A (pr_bx L A p))) (L (pr_S R C A (pr_bx L A p))))
    (hp : ∀ R' F' U' B' L' P' C' x, pr_X R' F' U' B' L' P' C' → pr_Add U U' B L B' L' P P' x p len pe → post (pr_st H R' F' A G U' B' L' P' C' e1 e2 e3 e4)) :
    wX_insert_39 post (nI p) (nI len) pe (pr_rf A) (pr_rf (pr_S R C A (pr_bx L A p))) (nI H) (pr_rf R) (pr_rf F) (pr_rf A) (pr_rf G) (pr_uf U) (pr_nf B) (pr_nf L) P (pr_cf C) e1 e2 e3 e4 := by
  have X0 := X
  obtain ⟨T, _, hP, hf⟩ := X
  have hFx : F = x := hfl.1.1
  subst hFx
  have hx : F < 64 ∧ U F = false := (hfl.2.2 F).mp (List.mem_cons_self ..)
  have hz2 : C (2 * F) = z := hfl.1.2.2.1
  have hne : ∀ m, U m = true → m ≠ F := fun m hm e => by rw [e, hx.2] at hm; exact absurd hm (by decide)
  have hA64 := (pr_at_lt T.1 hat).2
  have hAx : A ≠ F := by
    rcases hat.2 with e | ⟨u, _⟩
    · omega
    · exact hne A u
  have hlA : A < 64 → L A < 16 := by
    intro h
    rcases hat.2 with e | ⟨_, l, _⟩
    · omega
    · exact l
  have hbx0 : A = 64 → pr_bx L A p = 0 := by
    intro e
    subst e
    rfl
  have k0 := T.2.1 A p hat
  refine pr_new hx.1 ?_
  rw [hz2]
  generalize eN : pr_S R C A (pr_bx L A p) = N at hno k0 ⊢
  by_cases hN : N < 64
  · have k1 := k0 hN
    have hNx := hne N k1.1
    have hN16 := (T.1.1 N k1.1).2.1
    refine br_t (pr_rf_pos' hN) ⟨pr_rf_in hN, ?_⟩
    rw [pr_rf_cl hN]
    have eL : pr_nf (pr_us L F len) N = nI (L N) := by
      unfold pr_nf
      rw [pr_us_n hNx]
    rw [eL]
    by_cases c : L N ≤ len
    · exact br_t (nI_le c (by omega)) ⟨pr_rf_in hN, pr_ins87 X0 hfl hl hcut hat hlev hpe eN hN (hno hN) c (Nat.le_refl _) (Or.inr rfl) hp⟩
    · exact br_f (nI_ge (by omega) (by omega)) (pr_ins87 X0 hfl hl hcut hat hlev hpe eN hN (hno hN) (Nat.le_refl _) (by omega) (Or.inl rfl) hp)
  · refine br_f (pr_rf_nneg hN) ?_
    refine pr_lead hat.1 (fun h => by rw [pr_us_n hAx]; exact hlA h) ?_
    rw [pr_bx_us hAx, ← hz2]
    have W := pr_ins1 (R' := pr_lR A R F) (C' := pr_lC A (pr_us (pr_us C (2 * F + 0) 64) (2 * F + 1) 64) (pr_bx L A p) F) (pe := pe) X0 hfl hl hcut hat hlev (by rw [eN]; exact fun y => absurd y hN) hpe ?_ ?_
    · exact hp _ _ _ _ _ _ _ F W.1 W.2
    · intro A' b hA' hb2
      rw [pr_S_lead hA64 pr_bx2 hbx0 hA' hb2, pr_S_new hx.1 hb2, eN]
      rw [if_neg (show ¬ (N < 64 ∧ b = pr_bit (B N) len) from fun y => hN y.1)]
    · intro n hn hun hnx
      have hnA : n ≠ A := by
        intro e
        subst e
        rcases hat.2 with e | ⟨u, _⟩
        · omega
        · rw [hun] at u
          exact absurd u (by decide)
      have hb3 := @pr_bx2 L A p
      rw [pr_lC_o (by intro _; omega), pr_us_n (by omega), pr_us_n (by omega)]
theorem pr_insert {post : SX → Prop} (X : pr_X R F U B L P C) {p len x z : Nat} {pe : Int32} {xs : List Nat} (hfl : pr_FL U C F (x :: z :: xs)) (hl : len ≤ 16) (hcut : pr_cut p len = p) (fr : pr_FR U B L (pr_S R C) p len 64 A G) (hpe : ∃ q, q ≤ 7 ∧ pe = nI q)
    (hp : ∀ R' F' U' B' L' P' C' x, pr_X R' F' U' B' L' P' C' → pr_Add U U' B L B' L' P P' x p len pe → post (pr_st H R' F' A G U' B' L' P' C' e1 e2 e3 e4)) :
    wpX_insert post (pr_st H R F A G U B L P C e1 e2 e3 e4) (nI p) (nI len) pe := by
  obtain ⟨_, _, f3, hat, hlev, _⟩ := fr
  have hno := (f3 (by decide)).2
  have W := pr_ins39 (H := H) (G := G) (e1 := e1) (e2 := e2) (e3 := e3) (e4 := e4) X hfl hl hcut hat hlev hpe hno hp
  by_cases h : A < 64
  · refine br_t (pr_rf_pos' h) ⟨pr_rf_in h, ?_⟩
    rw [pr_rf_cl h]
    have hlA : L A < 16 := by
      rcases hat.2 with e | ⟨_, l, _⟩
      · omega
      · exact l
    refine pr_xbit hat.1 hlA ?_
    have hb := pr_bit_lt p (L A)
    rw [pr_ix h]
    refine ⟨vp_in_nI (by omega) (by decide), ?_⟩
    rw [nI_clamp (by omega)]
    rw [pr_S_lt h, pr_bx_lt h] at W
    exact W
  · have e : A = 64 := by
      rcases hat.2 with e | ⟨u, _⟩
      · exact e
      · exact absurd (X.1.1.1 A u).1 h
    subst e
    exact br_f (pr_rf_nneg h) W
end
end
section
/-! an entry is taken out -/
def pr_Sub (U U' : Nat → Bool) (P P' : Nat → Int32) (t : Nat) : Prop :=
  (∀ m, pr_hs U' P' m ↔ pr_hs U P m ∧ m ≠ t) ∧ (∀ m, pr_hs U' P' m → P' m = P m)
theorem pr_usf (V : Nat → Bool) (k n : Nat) : pr_us V k false n = false ↔ V n = false ∨ n = k := by
  by_cases e : n = k
  · subst e
    rw [pr_us_s]
    simp
  · rw [pr_us_n e]
    simp [e]
theorem pr_ust (V : Nat → Bool) (k n : Nat) : pr_us V k false n = true ↔ V n = true ∧ n ≠ k := by
  by_cases e : n = k
  · subst e
    rw [pr_us_s]
    simp
  · rw [pr_us_n e]
    simp [e]
theorem pr_at_ne {U : Nat → Bool} {B L : Nat → Nat} {A p n : Nat} (hat : pr_at U B L A p) (hn : n < 64) (hun : U n = false) : n ≠ A := by
  intro e
  subst e
  rcases hat.2 with e | ⟨u, _⟩
  · omega
  · rw [hun] at u
    exact absurd u (by decide)
theorem pr_at_16 {U : Nat → Bool} {B L : Nat → Nat} {A p : Nat} (hat : pr_at U B L A p) (h : A < 64) : U A = true ∧ L A < 16 ∧ pr_ag p (B A) (L A) := by
  rcases hat.2 with e | e
  · omega
  · exact e
theorem pr_at_bx {L : Nat → Nat} {A p : Nat} (e : A = 64) : pr_bx L A p = 0 := by
  subst e
  rfl
section
variable {H R F A G : Nat} {U : Nat → Bool} {B L : Nat → Nat} {P : Nat → Int32} {C : Nat → Nat} {e1 e2 e3 e4 : Nat → Int32}
/-- a node out of its place: tree and free list -/
theorem pr_drop1 {p x rest : Nat} {fl : List Nat} (T : pr_T U B L (pr_S R C)) (hfl : pr_FL U C F fl) (hat : pr_at U B L A p) (hx : pr_S R C A (pr_bx L A p) = x) (hx64 : x < 64)
    (hr : ∀ b, b < 2 → pr_S R C x b < 64 → pr_S R C x b = rest) (hr2 : rest < 64 → ∃ b, b < 2 ∧ pr_S R C x b = rest) :
    pr_T (pr_us U x false) B L (pr_S (pr_lR A R rest) (pr_us (pr_lC A C (pr_bx L A p) rest) (2 * x + 0) F)) ∧
    pr_FL (pr_us U x false) (pr_us (pr_lC A C (pr_bx L A p) rest) (2 * x + 0) F) x (x :: fl) ∧ A ≠ x ∧ U x = true ∧ pr_lev L A ≤ L x ∧
    (∀ A' b, A' ≤ 64 → b < 2 → A' ≠ x → pr_S (pr_lR A R rest) (pr_us (pr_lC A C (pr_bx L A p) rest) (2 * x + 0) F) A' b = if A' = A ∧ b = pr_bx L A p then rest else pr_S R C A' b) := by
  have hA64 := (pr_at_lt T.1 hat).2
  have k1 := T.2.1 A p hat (by rw [hx]; exact hx64)
  rw [hx] at k1
  have hAx : A ≠ x := by
    intro e
    subst e
    have := k1.2.1
    rw [pr_lev_lt hx64] at this
    omega
  have hS : ∀ A' b, A' ≤ 64 → b < 2 → A' ≠ x → pr_S (pr_lR A R rest) (pr_us (pr_lC A C (pr_bx L A p) rest) (2 * x + 0) F) A' b = if A' = A ∧ b = pr_bx L A p then rest else pr_S R C A' b := by
    intro A' b hA' hb hne
    rw [pr_S_us hx64 (by decide) hb, if_neg (fun y => hne y.1), pr_S_lead hA64 pr_bx2 pr_at_bx hA' hb]
  refine ⟨?_, ?_, hAx, k1.1, k1.2.1, hS⟩
  · refine pr_out T hat hx hx64 (pr_ust U x) ?_ ?_ hr hr2
    · intro A' b hA' hb hne hs
      rw [hS A' b hA' hb hne, if_neg hs]
    · rw [hS A _ hA64 pr_bx2 hAx, if_pos ⟨rfl, rfl⟩]
  · refine pr_push hfl hx64 k1.1 (pr_usf U x) ?_ ?_
    · intro n hn hun
      have h1 : n ≠ x := fun e => by rw [e, k1.1] at hun; exact absurd hun (by decide)
      have h2 := pr_at_ne hat hn hun
      have hb3 := @pr_bx2 L A p
      rw [pr_us_n (by omega), pr_lC_o (by intro _; omega)]
    · exact pr_us_s
theorem pr_to55 {post : SX → Prop} (X : pr_X R F U B L P C) {t rest : Nat} (ht : t < 64) (hh : pr_hs U P t) (fr : pr_FR U B L (pr_S R C) (B t) (L t) t A G)
    (hr : ∀ b, b < 2 → pr_S R C t b < 64 → pr_S R C t b = rest) (hr2 : rest < 64 → ∃ b, b < 2 ∧ pr_S R C t b = rest)
    (hp : ∀ R' F' U' P' C', pr_X R' F' U' B L P' C' → pr_Sub U U' P P' t → post (pr_st H R' F' A G U' B L P' C' e1 e2 e3 e4)) :
    wX_takeOut_55 post (pr_rf t) (pr_rf rest) (nI H) (pr_rf R) (pr_rf F) (pr_rf A) (pr_rf G) (pr_uf U) (pr_nf B) (pr_nf L) (pr_us P t (-1)) (pr_cf C) e1 e2 e3 e4 := by
  obtain ⟨T, ⟨fl, hfl⟩, hP, hf⟩ := X
  obtain ⟨_, f2, _, hat, _, f6⟩ := fr
  have hx := (f2 ht).2.2.2
  obtain ⟨T1, hfl1, hAx, ut, hlA, hS1⟩ := pr_drop1 T hfl hat hx ht hr hr2
  have hA64 := (pr_at_lt T.1 hat).2
  have hP1 : ∀ n, pr_us U t false n = true → pr_us P t (-1) n = -1 ∨ ∃ p, p ≤ 7 ∧ pr_us P t (-1) n = nI p := by
    intro n hn
    have h := (pr_ust U t n).mp hn
    rw [pr_us_n h.2]
    exact hP n h.1
  have hsub : pr_Sub U (pr_us U t false) P (pr_us P t (-1)) t := by
    constructor
    · intro m
      unfold pr_hs
      rw [pr_ust]
      by_cases e : m = t
      · subst e
        simp
      · rw [pr_us_n e]
        simp [e]
    · intro m hm
      exact pr_us_n ((pr_ust U t m).mp hm.1).2
  -- the first end
  have end1 : (rest < 64 ∨ ¬ A < 64 ∨ 0 ≤ P A) → post (pr_st H (pr_lR A R rest) t A G (pr_us U t false) B L (pr_us P t (-1)) (pr_us (pr_lC A C (pr_bx L A (B t)) rest) (2 * t + 0) F) e1 e2 e3 e4) := by
    intro hc
    refine hp _ _ _ _ _ ⟨T1, ⟨_, hfl1⟩, hP1, ?_⟩ hsub
    intro n b hn hb hpn
    have h := (pr_ust U t n).mp hn
    have hn64 := (T.1.1 n h.1).1
    rw [pr_us_n h.2] at hpn
    rw [hS1 n b (by omega) hb h.2]
    by_cases c : n = A ∧ b = pr_bx L A (B t)
    · rw [if_pos c]
      rcases hc with hc | hc | hc
      · exact hc
      · rw [← c.1] at hc
        exact absurd hn64 hc
      · rw [← c.1] at hc
        exact absurd hc (Int32.not_le.mpr hpn)
    · rw [if_neg c]
      exact hf n b h.1 hb hpn
  refine ⟨pr_rf_in ht, ?_⟩
  rw [pr_rf_cl ht]
  refine pr_lead (p := B t) hat.1 (fun h => (pr_at_16 hat h).2.1) ?_
  refine pr_rel ht ?_
  by_cases c1 : rest < 64
  · exact br_t (pr_rf_pos' c1) (end1 (Or.inl c1))
  · refine br_f (pr_rf_nneg c1) ?_
    by_cases c2 : A < 64
    · refine br_f (pr_rf_pos c2) ⟨pr_rf_in c2, ?_⟩
      rw [pr_rf_cl c2, pr_us_n hAx]
      by_cases c3 : 0 ≤ P A
      · exact br_t c3 (end1 (Or.inr (Or.inr c3)))
      · refine br_f c3 ?_
        have hpA : P A < 0 := Int32.not_le.mp c3
        obtain ⟨uA, lA, gA⟩ := pr_at_16 hat c2
        obtain ⟨hG, hGl, hGS⟩ := f6 c2
        have hG64 := (pr_at_lt T.1 hG).2
        rw [pr_lev_lt c2] at hlA
        -- the place of A
        have hGA : G < 64 → L G < L A := by
          intro h
          rw [pr_lev_lt h] at hGl
          omega
        have hGt : G ≠ t := by
          intro e
          subst e
          have := hGA ht
          omega
        have hGnA : G ≠ A := by
          intro e
          subst e
          have := hGA c2
          omega
        have hGat : pr_at (pr_us U t false) B L G (B A) := by
          refine ⟨(T.1.1 A uA).2.2.1, ?_⟩
          rcases hG.2 with e | ⟨u, l, g⟩
          · exact Or.inl e
          · have h64 := (T.1.1 G u).1
            exact Or.inr ⟨(pr_ust U t G).mpr ⟨u, hGt⟩, l, pr_ag_trans (pr_ag_symm (pr_ag_mono (by omega) (Nat.le_of_lt (hGA h64)) gA)) g⟩
        have hGbx : pr_bx L G (B A) = pr_bx L G (B t) := by
          rcases hG.2 with e | ⟨u, l, g⟩
          · subst e
            rfl
          · have h64 := (T.1.1 G u).1
            rw [pr_bx_lt h64, pr_bx_lt h64]
            exact (pr_bit_ag (by omega) (hGA h64) gA).symm
        have hGS1 : pr_S (pr_lR A R rest) (pr_us (pr_lC A C (pr_bx L A (B t)) rest) (2 * t + 0) F) G (pr_bx L G (B A)) = A := by
          rw [hS1 G _ hG64 pr_bx2 hGt, if_neg (fun y => hGnA y.1), hGbx]
          exact hGS
        have hb0 := @pr_bx2 L A (B t)
        have kid : ∀ b, b < 2 → pr_S (pr_lR A R rest) (pr_us (pr_lC A C (pr_bx L A (B t)) rest) (2 * t + 0) F) A b = if b = pr_bx L A (B t) then rest else pr_S R C A b := by
          intro b hb
          rw [hS1 A b hA64 hb hAx]
          by_cases c : b = pr_bx L A (B t)
          · rw [if_pos ⟨rfl, c⟩, if_pos c]
          · rw [if_neg (fun y => c y.2), if_neg c]
        -- the second end
        have end2 : ∀ b, b < 2 → b ≠ pr_bx L A (B t) → wX_takeOut_138 post (pr_rf (pr_S R C A b)) (nI H) (pr_rf (pr_lR A R rest)) (pr_rf t) (pr_rf A) (pr_rf G) (pr_uf (pr_us U t false)) (pr_nf B) (pr_nf L) (pr_us P t (-1)) (pr_cf (pr_us (pr_lC A C (pr_bx L A (B t)) rest) (2 * t + 0) F)) e1 e2 e3 e4 := by
          intro b hb hne
          have ho := hf A b uA hb hpA
          refine ⟨pr_rf_in c2, ?_⟩
          rw [pr_rf_cl c2]
          refine pr_lead (p := B A) (T.1.1 A uA).2.2.1 (fun h => (pr_at_16 hG h).2.1) ?_
          refine pr_rel c2 ?_
          obtain ⟨T2, hfl2, hGA2, uA2, hlG, hS2⟩ := pr_drop1 (rest := pr_S R C A b) T1 hfl1 hGat hGS1 c2 (by
            intro b' hb' h64
            rw [kid b' hb'] at h64 ⊢
            by_cases c : b' = pr_bx L A (B t)
            · rw [if_pos c] at h64
              exact absurd h64 c1
            · rw [if_neg c]
              have : b' = b := by omega
              rw [this]) (by
            intro _
            refine ⟨b, hb, ?_⟩
            rw [kid b hb, if_neg hne])
          refine hp _ _ _ _ _ ⟨T2, ⟨_, hfl2⟩, ?_, ?_⟩ ?_
          · intro n hn
            exact hP1 n ((pr_ust _ A n).mp hn).1
          · intro n b' hn hb' hpn
            have h := (pr_ust _ A n).mp hn
            have h1 := (pr_ust U t n).mp h.1
            have hn64 := (T.1.1 n h1.1).1
            rw [pr_us_n h1.2] at hpn
            rw [hS2 n b' (by omega) hb' h.2]
            by_cases c : n = G ∧ b' = pr_bx L G (B A)
            · rw [if_pos c]
              exact ho
            · rw [if_neg c, hS1 n b' (by omega) hb' h1.2, if_neg (fun y => h.2 y.1)]
              exact hf n b' h1.1 hb' hpn
          · constructor
            · intro m
              rw [← hsub.1 m]
              unfold pr_hs
              rw [pr_ust _ A m]
              constructor
              · intro y
                exact ⟨y.1.1, y.2⟩
              · intro y
                refine ⟨⟨y.1, ?_⟩, y.2⟩
                intro e
                subst e
                have := y.2
                rw [pr_us_n hAx] at this
                exact c3 this
            · intro m hm
              exact hsub.2 m ⟨((pr_ust _ A m).mp hm.1).1, hm.2⟩
        have i0 : vp_in (2 * pr_rf A) 128 := by rw [pr_ix0 c2]; exact vp_in_nI (by omega) (by decide)
        have i1 : vp_in (2 * pr_rf A + 1) 128 := by rw [pr_ix1 c2]; exact vp_in_nI (by omega) (by decide)
        have cl0 : (2 * pr_rf A).toNatClampNeg = 2 * A := by rw [pr_ix0 c2]; exact nI_clamp (by omega)
        have cl1 : (2 * pr_rf A + 1).toNatClampNeg = 2 * A + 1 := by rw [pr_ix1 c2]; exact nI_clamp (by omega)
        have kd : ∀ b, b < 2 → pr_us (pr_lC A C (pr_bx L A (B t)) rest) (2 * t + 0) F (2 * A + b) = if b = pr_bx L A (B t) then rest else pr_S R C A b := by
          intro b hb
          rw [← kid b hb, pr_S_lt c2]
        refine ⟨i0, nm_r (e' := pr_rf (if 0 = pr_bx L A (B t) then rest else pr_S R C A 0)) (by rw [cl0, ← kd 0 (by decide)]; rfl) ?_⟩
        by_cases c4 : 0 = pr_bx L A (B t)
        · rw [if_pos c4]
          refine br_t (pr_rf_neg c1) ⟨i1, ?_⟩
          rw [cl1]
          have hne : 1 ≠ pr_bx L A (B t) := by omega
          have e := kd 1 (by decide)
          rw [if_neg hne] at e
          have W := end2 1 (by decide) hne
          rw [← e] at W
          exact W
        · rw [if_neg c4]
          exact br_f (pr_rf_pos (hf A 0 uA (by decide) hpA)) (end2 0 (by decide) c4)
    · exact br_t (pr_rf_neg c2) (end1 (Or.inr (Or.inl c2)))
theorem pr_takeOut {post : SX → Prop} (X : pr_X R F U B L P C) {t : Nat} (ht : t < 64) (hh : pr_hs U P t) (fr : pr_FR U B L (pr_S R C) (B t) (L t) t A G)
    (hp : ∀ R' F' U' P' C', pr_X R' F' U' B L P' C' → pr_Sub U U' P P' t → post (pr_st H R' F' A G U' B L P' C' e1 e2 e3 e4)) :
    wpX_takeOut post (pr_st (H + 1) R F A G U B L P C e1 e2 e3 e4) (pr_rf t) := by
  have i0 : vp_in (2 * pr_rf t) 128 := by rw [pr_ix0 ht]; exact vp_in_nI (by omega) (by decide)
  have i1 : vp_in (2 * pr_rf t + 1) 128 := by rw [pr_ix1 ht]; exact vp_in_nI (by omega) (by decide)
  have cl0 : (2 * pr_rf t).toNatClampNeg = 2 * t := by rw [pr_ix0 ht]; exact nI_clamp (by omega)
  have cl1 : (2 * pr_rf t + 1).toNatClampNeg = 2 * t + 1 := by rw [pr_ix1 ht]; exact nI_clamp (by omega)
  have s0 : pr_S R C t 0 = C (2 * t) := pr_S_lt ht
  have s1 : pr_S R C t 1 = C (2 * t + 1) := pr_S_lt ht
  refine nm_r (e' := nI H) (nI_pred H) ⟨pr_rf_in ht, nm_r (e' := pr_us P t (-1)) (by rw [pr_rf_cl ht, pr_upd]) ⟨i0, nm_r (e' := pr_rf (C (2 * t))) (by rw [cl0]; rfl) ⟨i1, nm_r (e' := pr_rf (C (2 * t + 1))) (by rw [cl1]; rfl) ?_⟩⟩⟩
  have two : ∀ b, b < 2 → b = 0 ∨ b = 1 := fun b hb => by omega
  by_cases ca : C (2 * t) < 64
  · refine br_f (pr_rf_pos ca) ?_
    by_cases cb : C (2 * t + 1) < 64
    · refine br_f (pr_rf_pos cb) ?_
      obtain ⟨T, hfl, hP, hf⟩ := X
      refine hp R F U (pr_us P t (-1)) C ⟨T, hfl, ?_, ?_⟩ ?_
      · intro n hn
        by_cases e : n = t
        · subst e
          rw [pr_us_s]
          exact Or.inl rfl
        · rw [pr_us_n e]
          exact hP n hn
      · intro n b hn hb hpn
        by_cases e : n = t
        · subst e
          rcases two b hb with e | e
          · rw [e, s0]
            exact ca
          · rw [e, s1]
            exact cb
        · rw [pr_us_n e] at hpn
          exact hf n b hn hb hpn
      · constructor
        · intro m
          unfold pr_hs
          by_cases e : m = t
          · subst e
            rw [pr_us_s]
            constructor
            · intro y
              exact absurd y.2 (by decide)
            · intro y
              exact absurd rfl y.2
          · rw [pr_us_n e]
            simp [e]
        · intro m hm
          by_cases e : m = t
          · subst e
            have := hm.2
            rw [pr_us_s] at this
            exact absurd this (by decide)
          · exact pr_us_n e
    · refine br_t (pr_rf_neg cb) (br_f (pr_rf_pos ca) ?_)
      refine pr_to55 X ht hh fr ?_ ?_ hp
      · intro b hb h
        rcases two b hb with e | e
        · rw [e, s0]
        · rw [e, s1] at h
          exact absurd h cb
      · intro _
        exact ⟨0, by decide, s0⟩
  · refine br_t (pr_rf_neg ca) (br_t (pr_rf_neg ca) ?_)
    refine pr_to55 X ht hh fr ?_ ?_ hp
    · intro b hb h
      rcases two b hb with e | e
      · rw [e, s0] at h
        exact absurd h ca
      · rw [e, s1]
    · intro _
      exact ⟨1, by decide, s1⟩
end
end
section
/-! allow, deny on either side -/
theorem pr_len {x : Int32} (h0 : ¬ x < 0) (h1 : ¬ 16 < x) : ∃ l, l ≤ 16 ∧ x = nI l :=
  nI_of2 (M := 16) (n := 16) (by decide) h0 (Int32.not_lt.mp h1)
theorem pr_peer {x : Int32} (h0 : ¬ x < 0) (h1 : x ≤ 7) : ∃ l, l ≤ 7 ∧ x = nI l :=
  nI_of2 (M := 7) (n := 7) (by decide) h0 h1
section
variable {h h' : Nat → Prop} {B L B' L' : Nat → Nat} {P P' : Nat → Int32} {H : Nat} {nd : Nat → Nat} {sA lA pA : Nat → Int32}
theorem pr_Ycg (y : pr_Y h B L P H nd sA lA pA) (e : ∀ m, h m ↔ h' m) (eP : ∀ m, h m → P' m = P m) : pr_Y h' B L P' H nd sA lA pA := by
  obtain ⟨y1, y2, y3, y4⟩ := y
  refine ⟨y1, fun f hf => ?_, y3, fun n hn => y4 n ((e n).mpr hn)⟩
  obtain ⟨a, b, c, d⟩ := y2 f hf
  exact ⟨(e _).mp a, b, c, by rw [d, eP _ a]⟩
theorem pr_Yadd {x p len : Nat} {pe : Int32} (y : pr_Y h B L P H nd sA lA pA) (hH : H < 32) (hx : ¬ h x) (e : ∀ m, h' m ↔ h m ∨ m = x) (e1 : B' x = p) (e2 : L' x = len) (e3 : P' x = pe) (ek : ∀ m, h m → B' m = B m ∧ L' m = L m ∧ P' m = P m) :
    pr_Y h' B' L' P' (H + 1) (pr_us nd H x) (upd sA H (nI p)) (upd lA H (nI len)) (upd pA H pe) := by
  obtain ⟨y1, y2, y3, y4⟩ := y
  refine ⟨by omega, fun f hf => ?_, fun f g hf hg hfg => ?_, fun n hn => ?_⟩
  · by_cases c : f = H
    · subst c
      rw [pr_us_s, pk_us, pk_us, pk_us, e1, e2, e3]
      exact ⟨(e x).mpr (Or.inr rfl), rfl, rfl, rfl⟩
    · rw [pr_us_n c, pk_un c, pk_un c, pk_un c]
      obtain ⟨a1, a2, a3, a4⟩ := y2 f (by omega)
      obtain ⟨k1, k2, k3⟩ := ek _ a1
      rw [k1, k2, k3]
      exact ⟨(e _).mpr (Or.inl a1), a2, a3, a4⟩
  · by_cases c : f = H
    · by_cases d : g = H
      · omega
      · subst c
        rw [pr_us_s, pr_us_n d] at hfg
        have := (y2 g (by omega)).1
        rw [← hfg] at this
        exact absurd this hx
    · by_cases d : g = H
      · subst d
        rw [pr_us_s, pr_us_n c] at hfg
        have := (y2 f (by omega)).1
        rw [hfg] at this
        exact absurd this hx
      · rw [pr_us_n c, pr_us_n d] at hfg
        exact y3 f g (by omega) (by omega) hfg
  · rcases (e n).mp hn with z | z
    · obtain ⟨f, hf, ef⟩ := y4 n z
      exact ⟨f, by omega, by rw [pr_us_n (by omega)]; exact ef⟩
    · exact ⟨H, by omega, by rw [pr_us_s]; exact z.symm⟩
theorem pr_Ydrop {e : Nat} (y : pr_Y h B L P (H + 1) nd sA lA pA) (he : e < H + 1) (eh : ∀ m, h' m ↔ h m ∧ m ≠ nd e) (eP : ∀ m, h' m → P' m = P m) :
    pr_Y h' B L P' H (pr_us nd e (nd H)) (upd sA e (sA H)) (upd lA e (lA H)) (upd pA e (pA H)) := by
  obtain ⟨y1, y2, y3, y4⟩ := y
  refine ⟨by omega, fun f hf => ?_, fun f g hf hg hfg => ?_, fun n hn => ?_⟩
  · by_cases c : f = e
    · subst c
      rw [pr_us_s, pk_us, pk_us, pk_us]
      obtain ⟨a1, a2, a3, a4⟩ := y2 H (by omega)
      have k : h' (nd H) := (eh _).mpr ⟨a1, fun z => by have := y3 H f (by omega) (by omega) z; omega⟩
      exact ⟨k, a2, a3, by rw [eP _ k]; exact a4⟩
    · rw [pr_us_n c, pk_un c, pk_un c, pk_un c]
      obtain ⟨a1, a2, a3, a4⟩ := y2 f (by omega)
      have k : h' (nd f) := (eh _).mpr ⟨a1, fun z => c (y3 f e (by omega) he z)⟩
      exact ⟨k, a2, a3, by rw [eP _ k]; exact a4⟩
  · by_cases c : f = e
    · by_cases d : g = e
      · omega
      · subst c
        rw [pr_us_s, pr_us_n d] at hfg
        have := y3 H g (by omega) (by omega) hfg
        omega
    · by_cases d : g = e
      · subst d
        rw [pr_us_s, pr_us_n c] at hfg
        have := y3 f H (by omega) (by omega) hfg
        omega
      · rw [pr_us_n c, pr_us_n d] at hfg
        exact y3 f g (by omega) (by omega) hfg
  · obtain ⟨z1, z2⟩ := (eh n).mp hn
    obtain ⟨f, hf, ef⟩ := y4 n z1
    have hfe : f ≠ e := fun w => z2 (by rw [← w]; exact ef.symm)
    by_cases c : f = H
    · subst c
      exact ⟨e, by omega, by rw [pr_us_s]; exact ef⟩
    · exact ⟨f, by omega, by rw [pr_us_n hfe]; exact ef⟩
end
section
variable {U : Nat → Bool} {B L : Nat → Nat} {P : Nat → Int32} {H : Nat} {nd : Nat → Nat} {sA lA pA : Nat → Int32}
theorem pr_ybad {post : Int32 → SY → Prop} {v : SY} {v1 v2 v3 : Int32} (hb : v2 < 0 ∨ 16 < v2 ∨ v3 < 0 ∨ ¬ v3 ≤ 7) (hp : post (-1) v) : wpY_allow post v v1 v2 v3 := by
  obtain ⟨f, s, l, p⟩ := v
  by_cases c1 : v2 < 0
  · exact br_t c1 (br_f (by decide) hp)
  · by_cases c2 : v2 ≤ 16
    · refine br_f c1 (br_t c2 (br_t rfl ?_))
      by_cases c3 : v3 < 0
      · exact br_t c3 hp
      · refine br_f c3 (br_f ?_ hp)
        rcases hb with z | z | z | z
        · exact absurd z c1
        · exact absurd z (Int32.not_lt.mpr c2)
        · exact absurd z c3
        · exact z
    · exact br_f c1 (br_f c2 (br_f (by decide) hp))
theorem pr_yallow {post : Int32 → SY → Prop} (hb : pr_base U B L) (y : pr_Y (pr_hs U P) B L P H nd sA lA pA) {x pe : Int32} {a len q : Nat} (hx : x &&& 65535 = nI a) (ha : a < 65536) (hl : len ≤ 16) (hq : q ≤ 7) (epe : pe = nI q)
    (h1 : ∀ e, e < H → B (nd e) = pr_cut a len → L (nd e) = len → post (nI H) (nI H, sA, lA, upd pA e pe))
    (h0 : (∀ e, e < H → B (nd e) = pr_cut a len → L (nd e) = len → False) → (H = 32 → post (-1) (nI H, sA, lA, pA)) ∧ (H < 32 → post (nI (H + 1)) (nI (H + 1), upd sA H (nI (pr_cut a len)), upd lA H (nI len), upd pA H pe))) :
    wpY_allow post (nI H, sA, lA, pA) x (nI len) pe := by
  have hH := y.1
  refine br_f (nI_pos (by omega)) (br_t (nI_le (b := 16) hl (by decide)) (br_t rfl ?_))
  subst epe
  refine br_f (nI_pos (by omega)) (br_t (nI_le (b := 7) hq (by decide)) ?_)
  refine pr_yfind hb y hx ha hl (fun e he eB eL => ?_) (fun hno => ?_)
  · refine br_t (nI_pos' (by omega)) (br_t (nI_pos' (by omega)) ?_)
    refine ⟨vp_in_nI (by omega) (by decide), nm_r (e' := upd pA e (nI q)) (by rw [nI_clamp (by omega)]) (h1 e he eB eL)⟩
  · refine br_f (by decide) ?_
    by_cases c : H = 32
    · exact br_t (congrArg nI c) ((h0 hno).1 c)
    · refine br_f (fun z => c ((nI_eq (b := 32) (by omega) (by decide)).mp z)) (br_f (by decide) ?_)
      refine pr_start hx ha hl ?_
      have hi : vp_in (nI H) 32 := vp_in_nI (by omega) (by decide)
      have cl : (nI H).toNatClampNeg = H := nI_clamp (by omega)
      refine ⟨hi, nm_r (e' := upd sA H (nI (pr_cut a len))) (by rw [cl]) ⟨hi, nm_r (e' := upd lA H (nI len)) (by rw [cl]) (nm_r (nI_1 H) ⟨hi, nm_r (e' := upd pA H (nI q)) (by rw [cl]) ?_⟩)⟩⟩
      exact (h0 hno).2 (by omega)
theorem pr_ydrop {post : SY → Prop} {e : Nat} (hH : H + 1 ≤ 32) (he : e < H + 1) (hp : post (nI H, upd sA e (sA H), upd lA e (lA H), upd pA e (pA H))) : wpY_drop post (nI (H + 1), sA, lA, pA) (nI e) := by
  have i : vp_in (nI H) 32 := vp_in_nI (by omega) (by decide)
  have j : vp_in (nI e) 32 := vp_in_nI (by omega) (by decide)
  have ci : (nI H).toNatClampNeg = H := nI_clamp (by omega)
  have cj : (nI e).toNatClampNeg = e := nI_clamp (by omega)
  refine nm_r (e' := nI H) (nI_pred H) ⟨i, j, nm_r (e' := upd sA e (sA H)) (by rw [ci, cj]) ⟨i, j, nm_r (e' := upd lA e (lA H)) (by rw [ci, cj]) ⟨i, j, nm_r (e' := upd pA e (pA H)) (by rw [ci, cj]) hp⟩⟩⟩
theorem pr_ydeny {post : Int32 → SY → Prop} (hb : pr_base U B L) (y : pr_Y (pr_hs U P) B L P H nd sA lA pA) {x : Int32} {a len : Nat} (hx : x &&& 65535 = nI a) (ha : a < 65536) (hl : len ≤ 16)
    (h1 : ∀ e K, H = K + 1 → e < K + 1 → B (nd e) = pr_cut a len → L (nd e) = len → post (nI K) (nI K, upd sA e (sA K), upd lA e (lA K), upd pA e (pA K)))
    (h0 : (∀ e, e < H → B (nd e) = pr_cut a len → L (nd e) = len → False) → post (-1) (nI H, sA, lA, pA)) :
    wpY_deny post (nI H, sA, lA, pA) x (nI len) := by
  have hH := y.1
  refine br_f (nI_pos (by omega)) (br_t (nI_le (b := 16) hl (by decide)) (br_t rfl ?_))
  refine pr_yfind hb y hx ha hl (fun e he eB eL => ?_) (fun hno => br_f (by decide) (h0 hno))
  obtain ⟨K, eK⟩ : ∃ K, H = K + 1 := ⟨H - 1, by omega⟩
  refine br_t (nI_pos' (by omega)) ?_
  have W := h1 e K eK (by omega) eB eL
  subst eK
  exact pr_ydrop hH he W
theorem pr_ydenybad {post : Int32 → SY → Prop} {v : SY} {v1 v2 : Int32} (hb : v2 < 0 ∨ ¬ v2 ≤ 16) (hp : post (-1) v) : wpY_deny post v v1 v2 := by
  obtain ⟨f, s, l, p⟩ := v
  by_cases c1 : v2 < 0
  · exact br_t c1 (br_f (by decide) (br_f (by decide) hp))
  · refine br_f c1 (br_f ?_ (br_f (by decide) (br_f (by decide) hp)))
    rcases hb with z | z
    · exact absurd z c1
    · exact z
end
def pr_Rel (u : SX) (v : SY) : Prop := ∃ (H R F A G : Nat) (U : Nat → Bool) (B L : Nat → Nat) (P : Nat → Int32) (C : Nat → Nat) (e1 e2 e3 e4 : Nat → Int32) (nd : Nat → Nat) (sA lA pA : Nat → Int32),
  u = pr_st H R F A G U B L P C e1 e2 e3 e4 ∧ v = (nI H, sA, lA, pA) ∧ pr_X R F U B L P C ∧ pr_Y (pr_hs U P) B L P H nd sA lA pA
section
variable {H R F A G : Nat} {U : Nat → Bool} {B L : Nat → Nat} {P : Nat → Int32} {C : Nat → Nat} {e1 e2 e3 e4 : Nat → Int32} {nd : Nat → Nat} {sA lA pA : Nat → Int32}
theorem pr_mk (X : pr_X R F U B L P C) (y : pr_Y (pr_hs U P) B L P H nd sA lA pA) : pr_Rel (pr_st H R F A G U B L P C e1 e2 e3 e4) (nI H, sA, lA, pA) :=
  ⟨H, R, F, A, G, U, B, L, P, C, e1, e2, e3, e4, nd, sA, lA, pA, rfl, rfl, X, y⟩
/-- a used node gets a peer -/
theorem pr_Xset (X : pr_X R F U B L P C) {t : Nat} {pe : Int32} (hpe : ∃ q, q ≤ 7 ∧ pe = nI q) : pr_X R F U B L (pr_us P t pe) C := by
  obtain ⟨T, hfl, hP, hf⟩ := X
  refine ⟨T, hfl, fun n hn => ?_, fun n b hn hb hpn => ?_⟩
  · by_cases e : n = t
    · subst e
      rw [pr_us_s]
      exact Or.inr hpe
    · rw [pr_us_n e]
      exact hP n hn
  · by_cases e : n = t
    · subst e
      rw [pr_us_s] at hpn
      obtain ⟨q, hq, eq⟩ := hpe
      rw [eq] at hpn
      exact absurd hpn (nI_pos (by omega))
    · rw [pr_us_n e] at hpn
      exact hf n b hn hb hpn
theorem pr_vallow (X : pr_X R F U B L P C) (y : pr_Y (pr_hs U P) B L P H nd sA lA pA) (v1 v2 v3 : Int32) :
    wpX_allow (fun r u' => wpY_allow (fun r' v' => r' = r ∧ pr_Rel u' v') (nI H, sA, lA, pA) v1 v2 v3) (pr_st H R F A G U B L P C e1 e2 e3 e4) v1 v2 v3 := by
  have keep : ∀ A' G', pr_Rel (pr_st H R F A' G' U B L P C e1 e2 e3 e4) (nI H, sA, lA, pA) := fun A' G' => pr_mk X y
  by_cases c1 : v2 < 0
  · exact br_t c1 (pr_ybad (Or.inl c1) ⟨rfl, keep A G⟩)
  refine br_f c1 ?_
  by_cases c2 : 16 < v2
  · exact br_t c2 (pr_ybad (Or.inr (Or.inl c2)) ⟨rfl, keep A G⟩)
  refine br_f c2 ?_
  by_cases c3 : v3 < 0
  · exact br_t c3 (pr_ybad (Or.inr (Or.inr (Or.inl c3))) ⟨rfl, keep A G⟩)
  refine br_f c3 ?_
  by_cases c4 : v3 ≤ 7
  · refine br_t c4 ?_
    obtain ⟨len, hl, rfl⟩ := pr_len c1 c2
    obtain ⟨q, hq, rfl⟩ := pr_peer c3 c4
    obtain ⟨a, ha, ea⟩ := nx_mask v1
    have hH := y.1
    have hb := X.1.1
    have hpos : (0 : Int32) ≤ nI q := nI_pos' (by omega)
    rw [ea]
    refine pr_xcut ha hl ?_
    have hc16 : pr_cut a len < 65536 := by have := pr_cut_le a len; omega
    refine pr_find X.1 hl (pr_cut_idem a len) hc16 (fun t A' G' fr => ?_)
    -- Y finds what X finds
    have uniq : t < 64 → ∀ e, e < H → B (nd e) = pr_cut a len → L (nd e) = len → nd e = t := by
      intro ht e he eB eL
      obtain ⟨u, b1, l1, _⟩ := fr.2.1 ht
      exact hb.2 _ _ (y.2.1 e he).1.1 u (by rw [eB, b1]) (by rw [eL, l1])
    have add : ∀ (U' : Nat → Bool) (B' L' : Nat → Nat) (P' : Nat → Int32) (x R' F' : Nat) (C' : Nat → Nat), H < 32 → (∀ e, e < H → B (nd e) = pr_cut a len → L (nd e) = len → False) → pr_X R' F' U' B' L' P' C' → pr_Add U U' B L B' L' P P' x (pr_cut a len) len (nI q) → wpY_allow (fun r' v' => r' = nI (H + 1) ∧ pr_Rel (pr_st (H + 1) R' F' A' G' U' B' L' P' C' e1 e2 e3 e4) v') (nI H, sA, lA, pA) v1 (nI len) (nI q) := by
      intro U' B' L' P' x R' F' C' hlt hno X' ad
      obtain ⟨d1, d2, d3, d4, d5, d6⟩ := ad
      refine pr_yallow hb y ea ha hl hq rfl (fun e he eB eL => (hno e he eB eL).elim) (fun _ => ⟨fun z => by omega, fun _ => ⟨rfl, pr_mk X' (pr_Yadd y hlt d1 d2 d3 d4 d5 d6)⟩⟩)
    by_cases ht : t < 64
    · obtain ⟨u, b1, l1, _⟩ := fr.2.1 ht
      refine br_f (pr_rf_pos ht) ⟨pr_rf_in ht, ?_⟩
      rw [pr_rf_cl ht]
      by_cases c5 : P t < 0
      · refine br_t c5 ?_
        have hno : ∀ e, e < H → B (nd e) = pr_cut a len → L (nd e) = len → False := by
          intro e he eB eL
          have h1 := uniq ht e he eB eL
          have h2 := (y.2.1 e he).1.2
          rw [h1] at h2
          exact absurd h2 (Int32.not_le.mpr c5)
        by_cases c6 : H < 32
        · refine br_t (nI_lt (b := 32) c6 (by decide)) (nm_r (nI_1 H) (br_f (pr_rf_pos ht) ⟨pr_rf_in ht, nm_r (e' := pr_us P t (nI q)) (by rw [pr_rf_cl ht, pr_upd]) ?_⟩))
          refine add U B L (pr_us P t (nI q)) t R F C c6 hno (pr_Xset X ⟨q, hq, rfl⟩) ⟨fun z => absurd z.2 (Int32.not_le.mpr c5), fun m => ?_, b1, l1, pr_us_s, fun m hm => ⟨rfl, rfl, pr_us_n (fun e => ?_)⟩⟩
          · unfold pr_hs
            by_cases e : m = t
            · subst e
              rw [pr_us_s]
              simp [u, hpos]
            · rw [pr_us_n e]
              simp [e]
          · subst e
            exact absurd hm.2 (Int32.not_le.mpr c5)
        · refine br_f (nI_nlt (b := 32) (by omega) (by omega)) ?_
          exact pr_yallow hb y ea ha hl hq rfl (fun e he eB eL => (hno e he eB eL).elim) (fun _ => ⟨fun _ => ⟨rfl, keep A' G'⟩, fun z => absurd z c6⟩)
      · refine br_f c5 ⟨pr_rf_in ht, nm_r (e' := pr_us P t (nI q)) pr_upd ?_⟩
        have c5' := Int32.not_lt.mp c5
        have hse : ∀ m, pr_hs U P m ↔ pr_hs U (pr_us P t (nI q)) m := by
          intro m
          unfold pr_hs
          by_cases e : m = t
          · subst e
            rw [pr_us_s]
            simp [c5', hpos]
          · rw [pr_us_n e]
        refine pr_yallow hb y ea ha hl hq rfl (fun e he eB eL => ⟨rfl, pr_mk (nd := nd) (pr_Xset X ⟨q, hq, rfl⟩) ?_⟩) (fun hno => ?_)
        · have h1 := uniq ht e he eB eL
          obtain ⟨y1, y2, y3, y4⟩ := y
          refine ⟨y1, fun f hf => ?_, y3, fun n hn => y4 n ((hse n).mpr hn)⟩
          obtain ⟨a1, a2, a3, a4⟩ := y2 f hf
          refine ⟨(hse _).mp a1, a2, a3, ?_⟩
          by_cases c : f = e
          · subst c
            rw [pk_us, h1, pr_us_s]
          · rw [pk_un c, pr_us_n (fun z => c (y3 f e hf he (by rw [z, h1])))]
            exact a4
        · obtain ⟨e, he, ee⟩ := y.2.2.2 t ⟨u, c5'⟩
          exact (hno e he (by rw [ee]; exact b1) (by rw [ee]; exact l1)).elim
    · refine br_t (pr_rf_neg ht) ?_
      have e64 : t = 64 := by have := fr.1; omega
      subst e64
      have hno : ∀ e, e < H → B (nd e) = pr_cut a len → L (nd e) = len → False := fun e he eB eL => (fr.2.2.1 ht).1 _ (y.2.1 e he).1.1 eB eL
      by_cases c6 : H < 32
      · refine br_t (nI_lt (b := 32) c6 (by decide)) (nm_r (nI_1 H) (br_t (pr_rf_neg ht) ?_))
        obtain ⟨fl, hfl⟩ := X.2.1
        have hcnt := pr_cnt X.1 X.2.2.2 y hfl
        match fl, hfl, hcnt with
        | [], _, hcnt =>
          rw [List.length_nil] at hcnt
          omega
        | [x], _, hcnt =>
          rw [List.length_singleton] at hcnt
          omega
        | x :: z :: xs, hfl, _ =>
          refine pr_insert X hfl hl (pr_cut_idem a len) fr ⟨q, hq, rfl⟩ (fun R' F' U' B' L' P' C' x X' ad => ?_)
          exact add U' B' L' P' x R' F' C' c6 hno X' ad
      · refine br_f (nI_nlt (b := 32) (by omega) (by omega)) ?_
        exact pr_yallow hb y ea ha hl hq rfl (fun e he eB eL => (hno e he eB eL).elim) (fun _ => ⟨fun _ => ⟨rfl, keep A' G'⟩, fun z => absurd z c6⟩)
  · exact br_f c4 (pr_ybad (Or.inr (Or.inr (Or.inr c4))) ⟨rfl, keep A G⟩)
theorem pr_vdeny (X : pr_X R F U B L P C) (y : pr_Y (pr_hs U P) B L P H nd sA lA pA) (v1 v2 : Int32) :
    wpX_deny (fun r u' => wpY_deny (fun r' v' => r' = r ∧ pr_Rel u' v') (nI H, sA, lA, pA) v1 v2) (pr_st H R F A G U B L P C e1 e2 e3 e4) v1 v2 := by
  have keep : ∀ A' G', pr_Rel (pr_st H R F A' G' U B L P C e1 e2 e3 e4) (nI H, sA, lA, pA) := fun A' G' => pr_mk X y
  by_cases c1 : v2 < 0
  · exact br_t c1 (pr_ydenybad (Or.inl c1) ⟨rfl, keep A G⟩)
  refine br_f c1 ?_
  by_cases c2 : v2 ≤ 16
  · refine br_t c2 ?_
    obtain ⟨len, hl, rfl⟩ := pr_len c1 (Int32.not_lt.mpr c2)
    obtain ⟨a, ha, ea⟩ := nx_mask v1
    have hH := y.1
    have hb := X.1.1
    rw [ea]
    refine pr_xcut ha hl ?_
    have hc16 : pr_cut a len < 65536 := by have := pr_cut_le a len; omega
    refine pr_find X.1 hl (pr_cut_idem a len) hc16 (fun t A' G' fr => ?_)
    by_cases ht : t < 64
    · obtain ⟨u, b1, l1, _⟩ := fr.2.1 ht
      have uniq : ∀ e, e < H → B (nd e) = pr_cut a len → L (nd e) = len → nd e = t := by
        intro e he eB eL
        exact hb.2 _ _ (y.2.1 e he).1.1 u (by rw [eB, b1]) (by rw [eL, l1])
      refine br_f (pr_rf_pos ht) ⟨pr_rf_in ht, ?_⟩
      rw [pr_rf_cl ht]
      by_cases c5 : 0 ≤ P t
      · refine br_t c5 ?_
        obtain ⟨e0, he0, ee0⟩ := y.2.2.2 t ⟨u, c5⟩
        obtain ⟨K, eK⟩ : ∃ K, H = K + 1 := ⟨H - 1, by omega⟩
        subst eK
        rw [← b1, ← l1] at fr
        refine pr_takeOut X ht ⟨u, c5⟩ fr (fun R' F' U' P' C' X' sb => ?_)
        refine pr_ydeny hb y ea ha hl (fun e K' eK he eB eL => ?_) (fun hno => ?_)
        · have : K' = K := by omega
          subst this
          refine ⟨rfl, pr_mk X' (pr_Ydrop y he (fun m => ?_) sb.2)⟩
          rw [uniq e he eB eL]
          exact sb.1 m
        · exact (hno e0 he0 (by rw [ee0]; exact b1) (by rw [ee0]; exact l1)).elim
      · refine br_f c5 (pr_ydeny hb y ea ha hl (fun e K eK he eB eL => ?_) (fun _ => ⟨rfl, keep A' G'⟩))
        have h1 := uniq e (by omega) eB eL
        have h2 := (y.2.1 e (by omega)).1.2
        rw [h1] at h2
        exact absurd h2 c5
    · refine br_t (pr_rf_neg ht) ?_
      exact pr_ydeny hb y ea ha hl (fun e K eK he eB eL => ((fr.2.2.1 ht).1 _ (y.2.1 e (by omega)).1.1 eB eL).elim) (fun _ => ⟨rfl, keep A' G'⟩)
  · exact br_f c2 (pr_ydenybad (Or.inr c2) ⟨rfl, keep A G⟩)
end
end
section
/-! forget, entries -/
def pr_En (h : Nat → Prop) (H : Nat) : Prop := ∃ l : List Nat, l.Nodup ∧ (∀ m, m ∈ l ↔ h m) ∧ l.length = H
theorem pr_En_Y {h : Nat → Prop} {B L : Nat → Nat} {P : Nat → Int32} {H : Nat} {nd : Nat → Nat} {sA lA pA : Nat → Int32} (y : pr_Y h B L P H nd sA lA pA) : ((List.range H).map nd).Nodup ∧ (∀ m, m ∈ (List.range H).map nd ↔ h m) ∧ ((List.range H).map nd).length = H := by
  refine ⟨?_, fun m => ?_, by rw [List.length_map, List.length_range]⟩
  · refine List.pairwise_map.mpr (List.Pairwise.imp_of_mem ?_ (List.nodup_range (n := H)))
    intro a b ha hb hne e
    exact hne (y.2.2.1 a b (List.mem_range.mp ha) (List.mem_range.mp hb) e)
  · constructor
    · intro hm
      obtain ⟨e, he, ee⟩ := List.mem_map.mp hm
      rw [← ee]
      exact (y.2.1 e (List.mem_range.mp he)).1
    · intro hm
      obtain ⟨e, he, ee⟩ := y.2.2.2 m hm
      exact List.mem_map.mpr ⟨e, List.mem_range.mpr he, ee⟩
theorem pr_En_uniq {h : Nat → Prop} {H K : Nat} (x : pr_En h H) (y : pr_En h K) : H = K := by
  obtain ⟨l, l1, l2, l3⟩ := x
  obtain ⟨m, m1, m2, m3⟩ := y
  rw [← l3, ← m3]
  exact ((List.perm_ext_iff_of_nodup l1 m1).mpr (fun a => (l2 a).trans (m2 a).symm)).length_eq
theorem pr_En_rm {h h' : Nat → Prop} {H t : Nat} (x : pr_En h (H + 1)) (ht : h t) (e : ∀ m, h' m ↔ h m ∧ m ≠ t) : pr_En h' H := by
  obtain ⟨l, l1, l2, l3⟩ := x
  refine ⟨l.erase t, l1.erase t, fun m => ?_, ?_⟩
  · rw [l1.mem_erase_iff, e m, l2 m]
    exact And.comm
  · rw [List.length_erase_of_mem ((l2 t).mpr ht)]
    omega
theorem pr_En_pos {h : Nat → Prop} {H t : Nat} (x : pr_En h H) (ht : h t) : ∃ K, H = K + 1 := by
  obtain ⟨l, l1, l2, l3⟩ := x
  have := List.length_pos_of_mem ((l2 t).mpr ht)
  exact ⟨H - 1, by omega⟩
theorem pr_uf0 {U : Nat → Bool} {n : Nat} {X Y : Prop} (h0 : ¬ U n = true → X) (h1 : U n = true → Y) : (pr_uf U n = 0 → X) ∧ (¬ pr_uf U n = 0 → Y) := by
  by_cases c : U n = true
  · exact br_f (by rw [pr_uf_t c]; decide) (h1 c)
  · exact br_t (pr_uf_f c) (h0 c)
section
variable {B L : Nat → Nat} {e1 e2 e3 e4 : Nat → Int32} {U0 : Nat → Bool} {P0 : Nat → Int32} {H0 q : Nat}
theorem pr_xforL {post : Int32 → SX → Prop} (hq : q ≤ 7)
    (hp : ∀ g H R F A G U P C, pr_X R F U B L P C → (∀ m, pr_hs U P m ↔ pr_hs U0 P0 m ∧ ¬ (m < 64 ∧ P0 m = nI q)) → (∀ m, pr_hs U P m → P m = P0 m) → pr_En (pr_hs U P) H → g + H = H0 → post (nI g) (pr_st H R F A G U B L P C e1 e2 e3 e4)) :
    ∀ d i g H R F A G : Nat, ∀ (U : Nat → Bool) (P : Nat → Int32) (C : Nat → Nat), i + d = 64 → pr_X R F U B L P C → (∀ m, pr_hs U P m ↔ pr_hs U0 P0 m ∧ ¬ (m < i ∧ P0 m = nI q)) → (∀ m, pr_hs U P m → P m = P0 m) → pr_En (pr_hs U P) H → g + H = H0 →
      wX_forget_16 post (nI q) (d + 1) (nI g) (nI i) (nI H) (pr_rf R) (pr_rf F) (pr_rf A) (pr_rf G) (pr_uf U) (pr_nf B) (pr_nf L) P (pr_cf C) e1 e2 e3 e4 := by
  intro d
  induction d with
  | zero =>
    intro i g H R F A G U P C hi X h1 h2 h3 h4
    have e : i = 64 := by omega
    subst e
    exact br_t (nI_le (a := 64) (Nat.le_refl _) (by decide)) (hp g H R F A G U P C X h1 h2 h3 h4)
  | succ d ih =>
    intro i g H R F A G U P C hi X h1 h2 h3 h4
    have hi64 : i < 64 := by omega
    have hin : vp_in (nI i) 64 := vp_in_nI hi64 (by decide)
    have hqp : (0 : Int32) ≤ nI q := nI_pos' (by omega)
    refine br_f (nI_ge (b := 64) hi64 (by decide)) ⟨hin, ?_⟩
    rw [nI_clamp (by omega)]
    have skip : (pr_hs U P i → P i ≠ nI q) → ∀ m, pr_hs U P m ↔ pr_hs U0 P0 m ∧ ¬ (m < i + 1 ∧ P0 m = nI q) := by
      intro hs m
      rw [h1 m]
      constructor
      · intro z
        refine ⟨z.1, fun w => z.2 ⟨?_, w.2⟩⟩
        by_cases e : m = i
        · subst e
          have hm := (h1 m).mpr z
          have := hs hm
          rw [h2 m hm] at this
          exact absurd w.2 this
        · omega
      · intro z
        exact ⟨z.1, fun w => z.2 ⟨by omega, w.2⟩⟩
    refine pr_uf0 (fun c => ?_) (fun c => ⟨hin, ?_⟩)
    · exact nm_r (nI_1 i) (ih (i + 1) g H R F A G U P C (by omega) X (skip (fun z => absurd z.1 c)) h2 h3 h4)
    · by_cases c2 : P i = nI q
      · refine br_t c2 ⟨hin, hin, ?_⟩
        have hh : pr_hs U P i := ⟨c, by rw [c2]; exact hqp⟩
        obtain ⟨_, l16, b16, bc⟩ := X.1.1.1 i c
        refine pr_find (p := B i) (len := L i) X.1 l16 bc b16 (fun t A' G' fr => ?_)
        have et : t = i := by
          by_cases ht : t < 64
          · obtain ⟨u, b1, l1, _⟩ := fr.2.1 ht
            exact X.1.1.2 t i u c b1 l1
          · exact ((fr.2.2.1 ht).1 i c rfl rfl).elim
        subst et
        obtain ⟨K, eK⟩ := pr_En_pos h3 hh
        subst eK
        refine pr_takeOut X hi64 hh fr (fun R' F' U' P' C' X' sb => ?_)
        refine nm_r (nI_1 g) (nm_r (nI_1 t) (ih (t + 1) (g + 1) K R' F' A' G' U' P' C' (by omega) X' ?_ ?_ (pr_En_rm h3 hh sb.1) (by omega)))
        · intro m
          rw [sb.1 m, h1 m]
          constructor
          · intro z
            exact ⟨z.1.1, fun w => z.1.2 ⟨by have := z.2; omega, w.2⟩⟩
          · intro z
            refine ⟨⟨z.1, fun w => z.2 ⟨by omega, w.2⟩⟩, fun e => z.2 ⟨by omega, ?_⟩⟩
            subst e
            rw [← h2 m hh]
            exact c2
        · intro m hm
          rw [sb.2 m hm]
          exact h2 m ((sb.1 m).mp hm).1
      · exact br_f c2 (nm_r (nI_1 i) (ih (i + 1) g H R F A G U P C (by omega) X (skip (fun _ => c2)) h2 h3 h4))
theorem pr_yforL {post : Int32 → SY → Prop} {h0 : Nat → Prop}
    (hp : ∀ (h : Nat → Prop) (H : Nat) (nd : Nat → Nat) (sA lA pA : Nat → Int32), pr_Y h B L P0 H nd sA lA pA → (∀ m, h m ↔ h0 m ∧ P0 m ≠ nI q) → post (nI H0 - nI H) (nI H, sA, lA, pA)) :
    ∀ (k : Nat) (h : Nat → Prop) (H : Nat) (nd : Nat → Nat) (sA lA pA : Nat → Int32), k ≤ H → pr_Y h B L P0 H nd sA lA pA → (∀ m, h m → h0 m) → (∀ m, h0 m → P0 m ≠ nI q → h m) → (∀ f, k ≤ f → f < H → P0 (nd f) ≠ nI q) →
      wY_forget_24 post (nI q) (nI H0) (k + 1) (nI k - 1) (nI H) sA lA pA := by
  intro k
  induction k with
  | zero =>
    intro h H nd sA lA pA hk y h1 h2 h3
    refine br_t (by decide) (hp h H nd sA lA pA y (fun m => ⟨fun hm => ⟨h1 m hm, ?_⟩, fun hm => h2 m hm.1 hm.2⟩))
    obtain ⟨f, hf, ef⟩ := y.2.2.2 m hm
    rw [← ef]
    exact h3 f (Nat.zero_le _) hf
  | succ k ih =>
    intro h H nd sA lA pA hk y h1 h2 h3
    have hH := y.1
    rw [nI_pred]
    have e1 : nI k + (-1) = nI k - 1 := by rw [Int32.sub_eq_add_neg]
    refine br_f (nI_pos (by omega)) ⟨vp_in_nI (by omega) (by decide), ?_⟩
    rw [nI_clamp (by omega)]
    obtain ⟨a1, a2, a3, a4⟩ := y.2.1 k (by omega)
    rw [a4]
    by_cases c : P0 (nd k) = nI q
    · refine br_t c ?_
      obtain ⟨K, eK⟩ : ∃ K, H = K + 1 := ⟨H - 1, by omega⟩
      subst eK
      refine pr_ydrop hH (by omega) (nm_r e1 ?_)
      refine ih (fun m => h m ∧ m ≠ nd k) K _ _ _ _ (by omega) (pr_Ydrop y (by omega) (fun m => Iff.rfl) (fun m _ => rfl)) (fun m hm => h1 m hm.1) (fun m hm hne => ⟨h2 m hm hne, fun e => hne (by rw [e]; exact c)⟩) (fun f hf1 hf2 => ?_)
      by_cases e : f = k
      · subst e
        rw [pr_us_s]
        exact h3 K (by omega) (by omega)
      · rw [pr_us_n e]
        exact h3 f (by omega) (by omega)
    · refine br_f c (nm_r e1 (ih h H nd sA lA pA (by omega) y h1 h2 (fun f hf1 hf2 => ?_)))
      by_cases e : f = k
      · subst e
        exact c
      · exact h3 f (by omega) hf2
end
section
variable {H R F A G : Nat} {U : Nat → Bool} {B L : Nat → Nat} {P : Nat → Int32} {C : Nat → Nat} {e1 e2 e3 e4 : Nat → Int32} {nd : Nat → Nat} {sA lA pA : Nat → Int32}
theorem pr_vforget (X : pr_X R F U B L P C) (y : pr_Y (pr_hs U P) B L P H nd sA lA pA) (v1 : Int32) :
    wpX_forget (fun r u' => wpY_forget (fun r' v' => r' = r ∧ pr_Rel u' v') (nI H, sA, lA, pA) v1) (pr_st H R F A G U B L P C e1 e2 e3 e4) v1 := by
  have keep : ∀ A' G', pr_Rel (pr_st H R F A' G' U B L P C e1 e2 e3 e4) (nI H, sA, lA, pA) := fun A' G' => pr_mk X y
  by_cases c3 : v1 < 0
  · exact br_t c3 (br_t c3 ⟨rfl, keep A G⟩)
  refine br_f c3 ?_
  by_cases c4 : v1 ≤ 7
  · refine br_t c4 ?_
    obtain ⟨q, hq, rfl⟩ := pr_peer c3 c4
    refine ⟨65, pr_xforL (U0 := U) (P0 := P) (H0 := H) hq ?_ 64 0 0 H R F A G U P C rfl X (fun m => ⟨fun z => ⟨z, fun w => by omega⟩, fun z => z.1⟩) (fun m _ => rfl) ⟨_, pr_En_Y y⟩ (by omega)⟩
    intro g H' R' F' A' G' U' P' C' X' h1 h2 h3 h4
    refine br_f c3 (br_t c4 (nm_e ⟨H + 1, ?_⟩))
    refine pr_yforL (h0 := pr_hs U P) (P0 := P) ?_ H (pr_hs U P) H nd sA lA pA (Nat.le_refl _) y (fun m z => z) (fun m z _ => z) (fun f hf1 hf2 => by omega)
    intro h K nd' sA' lA' pA' y' hh
    have heq : ∀ m, h m ↔ pr_hs U' P' m := by
      intro m
      rw [hh m, h1 m]
      constructor
      · intro z
        exact ⟨z.1, fun w => z.2 w.2⟩
      · intro z
        exact ⟨z.1, fun w => z.2 ⟨(X.1.1.1 m z.1.1).1, w⟩⟩
    have y2 := pr_Ycg y' heq (fun m hm => h2 m ((heq m).mp hm))
    have eK : H' = K := pr_En_uniq h3 ⟨_, pr_En_Y y2⟩
    subst eK
    refine ⟨?_, pr_mk X' y2⟩
    rw [pk_sub (by omega)]
    exact congrArg nI (by omega)
  · exact br_f c4 (br_f c3 (br_f c4 ⟨rfl, keep A G⟩))
end
end
section
/-! next: the least address from a given one on with a given owner -/
def pr_bf (b : Nat) : Int32 := if b < 65536 then nI b else -1
def pr_Nx (own : Nat → Int32) (first : Nat) (v : Int32) (b : Nat) : Prop :=
  b ≤ 65536 ∧ (∀ q, first ≤ q → q < b → own q ≠ v) ∧ (b < 65536 → first ≤ b ∧ own b = v)
theorem pr_Nx_uniq {own : Nat → Int32} {first : Nat} {v : Int32} {b c : Nat} (x : pr_Nx own first v b) (y : pr_Nx own first v c) : b = c := by
  obtain ⟨x1, x2, x3⟩ := x
  obtain ⟨y1, y2, y3⟩ := y
  rcases Nat.lt_trichotomy b c with h | h | h
  · obtain ⟨z1, z2⟩ := x3 (by omega)
    exact absurd z2 (y2 b z1 h)
  · exact h
  · obtain ⟨z1, z2⟩ := y3 (by omega)
    exact absurd z2 (x2 c z1 h)
section
variable {H R F A G : Nat} {U : Nat → Bool} {B L : Nat → Nat} {P : Nat → Int32} {C : Nat → Nat} {e1 e2 e3 e4 : Nat → Int32} {nd : Nat → Nat} {sA lA pA : Nat → Int32}
/-- between two addresses no held prefix begins or has ended -/
theorem pr_const (hb : pr_base U B L) {tf : Nat → Nat} (htf : ∀ a, pr_Lg (pr_hs U P) B L a 17 (tf a)) {a b : Nat} (hab : a ≤ b) (hn : ∀ n, pr_hs U P n → ¬ (a < B n ∧ B n ≤ b) ∧ ¬ (a < B n + 2 ^ (16 - L n) ∧ B n + 2 ^ (16 - L n) ≤ b)) : tf a = tf b := by
  have key : ∀ m, pr_hs U P m → (pr_ag a (B m) (L m) ↔ pr_ag b (B m) (L m)) := by
    intro m hm
    have hc := (hb.1 m hm.1).2.2.2
    rw [pr_int hc, pr_int hc]
    have := hn m hm
    omega
  refine pr_Lg_uniq hb ?_ (htf b)
  rcases htf a with ⟨x1, x2, x3, x4, x5⟩ | ⟨x1, x2⟩
  · exact Or.inl ⟨x1, x2, x3, (key _ x2).mp x4, fun m hm hl hg => x5 m hm hl ((key m hm).mpr hg)⟩
  · exact Or.inr ⟨x1, fun m hm hl hg => x2 m hm hl ((key m hm).mpr hg)⟩
/-- the edges -/
def pr_ed (U : Nat → Bool) (B L : Nat → Nat) (n x : Nat) : Prop := U n = true ∧ (x = B n ∨ x = B n + 2 ^ (16 - L n))
theorem pr_edgeL {post : Int32 → Prop} (hb : pr_base U B L) {a : Nat} (ha : a < 65536)
    (hp : ∀ e, a < e → e ≤ 65536 → (e = 65536 ∨ ∃ m, pr_ed U B L m e) → (∀ m x, pr_ed U B L m x → a < x → e ≤ x) → post (nI e)) :
    ∀ d n e : Nat, n + d = 64 → a < e → e ≤ 65536 → (e = 65536 ∨ ∃ m, pr_ed U B L m e) → (∀ m x, m < n → pr_ed U B L m x → a < x → e ≤ x) →
      wX_nextEdge_5 post (nI a) (nI H) (pr_rf R) (pr_rf F) (pr_rf A) (pr_rf G) (pr_uf U) (pr_nf B) (pr_nf L) P (pr_cf C) e1 e2 e3 e4 (d + 1) (nI e) (nI n) := by
  intro d
  induction d with
  | zero =>
    intro n e hn h1 h2 h3 h4
    exact br_t (nI_le (a := 64) (by omega) (by omega)) (hp e h1 h2 h3 (fun m x hm => h4 m x (by have := (hb.1 m hm.1).1; omega) hm))
  | succ d ih =>
    intro n e hn h1 h2 h3 h4
    have hi64 : n < 64 := by omega
    have hin : vp_in (nI n) 64 := vp_in_nI hi64 (by decide)
    refine br_f (nI_ge (b := 64) hi64 (by decide)) ⟨hin, ?_⟩
    rw [nI_clamp (by omega)]
    refine pr_uf0 (fun c => ?_) (fun c => ⟨hin, hin, ?_⟩)
    · refine nm_r (nI_1 n) (ih (n + 1) e (by omega) h1 h2 h3 (fun m x hm hx => ?_))
      by_cases z : m = n
      · subst z
        exact absurd hx.1 c
      · exact h4 m x (by omega) hx
    · obtain ⟨_, l16, b16, bc⟩ := hb.1 n c
      have hz := @pr_szle (L n)
      refine nm_r (e' := nI (B n + 2 ^ (16 - L n))) ?_ ?_
      · show nI (B n) + (65536 : Int32) >>> (nI (L n) &&& 31) = _
        rw [pr_wsz _ (by omega), nI_add]
      · refine ⟨hin, ?_⟩
        -- the second half
        have half : ∀ z, a < z → z ≤ e → (z = 65536 ∨ ∃ m, pr_ed U B L m z) → (a < B n → z ≤ B n) → wX_nextEdge_68 post (wX_nextEdge_5 post (nI a) (nI H) (pr_rf R) (pr_rf F) (pr_rf A) (pr_rf G) (pr_uf U) (pr_nf B) (pr_nf L) P (pr_cf C) e1 e2 e3 e4 (d + 1)) (nI a) (nI n) (nI (B n + 2 ^ (16 - L n))) (nI z) (nI H) (pr_rf R) (pr_rf F) (pr_rf A) (pr_rf G) (pr_uf U) (pr_nf B) (pr_nf L) P (pr_cf C) e1 e2 e3 e4 := by
          intro z z1 z2 z3 z4
          have go : ∀ w, a < w → w ≤ z → (w = 65536 ∨ ∃ m, pr_ed U B L m w) → (a < B n + 2 ^ (16 - L n) → w ≤ B n + 2 ^ (16 - L n)) → wX_nextEdge_5 post (nI a) (nI H) (pr_rf R) (pr_rf F) (pr_rf A) (pr_rf G) (pr_uf U) (pr_nf B) (pr_nf L) P (pr_cf C) e1 e2 e3 e4 (d + 1) (nI w) (nI (n + 1)) := by
            intro w w1 w2 w3 w4
            refine ih (n + 1) w (by omega) w1 (by omega) w3 (fun m x hm hx hax => ?_)
            by_cases zz : m = n
            · subst zz
              rcases hx.2 with e | e
              · subst e
                have := z4 hax
                omega
              · subst e
                exact w4 hax
            · have := h4 m x (by omega) hx hax
              omega
          by_cases c1 : B n + 2 ^ (16 - L n) ≤ a
          · exact br_t (nI_le c1 (by omega)) (nm_r (nI_1 n) (go z z1 (Nat.le_refl _) z3 (fun _ => by omega)))
          · refine br_f (nI_ge (by omega) (by omega)) ?_
            by_cases c2 : z ≤ B n + 2 ^ (16 - L n)
            · exact br_t (nI_le c2 (by omega)) (nm_r (nI_1 n) (go z z1 (Nat.le_refl _) z3 (fun _ => c2)))
            · exact br_f (nI_ge (by omega) (by omega)) (nm_r (nI_1 n) (go _ (by omega) (by omega) (Or.inr ⟨n, c, Or.inr rfl⟩) (fun _ => Nat.le_refl _)))
        show ((nI (B n) ≤ nI a → _) ∧ (¬ nI (B n) ≤ nI a → _))
        by_cases c1 : B n ≤ a
        · exact br_t (nI_le c1 (by omega)) (half e h1 (Nat.le_refl _) h3 (fun _ => by omega))
        · refine br_f (nI_ge (by omega) (by omega)) ⟨hin, ?_⟩
          show ((nI e ≤ nI (B n) → _) ∧ (¬ nI e ≤ nI (B n) → _))
          by_cases c2 : e ≤ B n
          · exact br_t (nI_le c2 (by omega)) (half e h1 (Nat.le_refl _) h3 (fun _ => c2))
          · exact br_f (nI_ge (by omega) (by omega)) ⟨hin, half (B n) (by omega) (by omega) (Or.inr ⟨n, c, Or.inl rfl⟩) (fun _ => Nat.le_refl _)⟩
theorem pr_edge {post : Int32 → Prop} (hb : pr_base U B L) {a : Nat} (ha : a < 65536)
    (hp : ∀ e, a < e → e ≤ 65536 → (e = 65536 ∨ ∃ m, pr_ed U B L m e) → (∀ m x, pr_ed U B L m x → a < x → e ≤ x) → post (nI e)) :
    wpX_nextEdge post (pr_st H R F A G U B L P C e1 e2 e3 e4) (nI a) :=
  ⟨65, pr_edgeL hb ha hp 64 0 65536 rfl ha (Nat.le_refl _) (Or.inl rfl) (fun m x hm => by omega)⟩
/-! the count of edges ahead -/
theorem pr_flt {p q : Nat → Bool} : ∀ l : List Nat, (∀ x, p x = true → q x = true) → (∃ a, a ∈ l ∧ q a = true ∧ p a = false) → (l.filter p).length < (l.filter q).length := by
  intro l
  induction l with
  | nil =>
    intro _ h
    obtain ⟨a, h1, _⟩ := h
    exact absurd h1 (List.not_mem_nil)
  | cons x xs ih =>
    intro h1 h2
    have hle : ∀ l : List Nat, (l.filter p).length ≤ (l.filter q).length := by
      intro l
      induction l with
      | nil => exact Nat.le_refl _
      | cons y ys ihy =>
        rw [List.filter_cons, List.filter_cons]
        by_cases c : p y = true
        · rw [if_pos c, if_pos (h1 y c), List.length_cons, List.length_cons]
          omega
        · rw [if_neg c]
          by_cases c2 : q y = true
          · rw [if_pos c2, List.length_cons]
            omega
          · rw [if_neg c2]
            exact ihy
    obtain ⟨a, ha, qa, pa⟩ := h2
    rw [List.filter_cons, List.filter_cons]
    rcases List.mem_cons.mp ha with e | e
    · subst e
      rw [if_neg (by rw [pa]; decide), if_pos qa, List.length_cons]
      have := hle xs
      omega
    · have := ih h1 ⟨a, e, qa, pa⟩
      by_cases c : p x = true
      · rw [if_pos c, if_pos (h1 x c), List.length_cons, List.length_cons]
        omega
      · rw [if_neg c]
        by_cases c2 : q x = true
        · rw [if_pos c2, List.length_cons]
          omega
        · rw [if_neg c2]
          exact this
def pr_eds (B L : Nat → Nat) : List Nat := (List.range 64).map B ++ (List.range 64).map (fun n => B n + 2 ^ (16 - L n))
def pr_ahead (B L : Nat → Nat) (a : Nat) : Nat := ((pr_eds B L).filter (fun x => decide (a < x))).length
theorem pr_ahead_le (a : Nat) : pr_ahead B L a ≤ 128 := by
  unfold pr_ahead
  refine Nat.le_trans (List.length_filter_le _ _) ?_
  unfold pr_eds
  rw [List.length_append, List.length_map, List.length_map, List.length_range]
  exact Nat.le_refl _
theorem pr_ahead_lt (hb : pr_base U B L) {a e m : Nat} (hae : a < e) (he : pr_ed U B L m e) : pr_ahead B L e < pr_ahead B L a := by
  unfold pr_ahead
  refine pr_flt _ (fun x hx => ?_) ⟨e, ?_, ?_, ?_⟩
  · have := of_decide_eq_true hx
    exact decide_eq_true (by omega)
  · have hm := (hb.1 m he.1).1
    unfold pr_eds
    refine List.mem_append.mpr ?_
    rcases he.2 with z | z
    · exact Or.inl (List.mem_map.mpr ⟨m, List.mem_range.mpr hm, z.symm⟩)
    · exact Or.inr (List.mem_map.mpr ⟨m, List.mem_range.mpr hm, z.symm⟩)
  · exact decide_eq_true hae
  · exact decide_eq_false (Nat.lt_irrefl _)
theorem pr_xnextL {post : Int32 → Prop} (T : pr_T U B L (pr_S R C)) {tf : Nat → Nat} (htf : ∀ a, pr_Lg (pr_hs U P) B L a 17 (tf a)) {v : Int32} {first : Nat}
    (hp : ∀ b, pr_Nx (fun a => pr_pv P (tf a)) first v b → post (pr_bf b)) :
    ∀ n step a : Nat, 130 ≤ n + step → step ≤ 129 → a < 2 ^ 31 → first ≤ a → (a < 65536 → step + pr_ahead B L a ≤ 128) → (∀ q, first ≤ q → q < a → q < 65536 → pr_pv P (tf q) ≠ v) →
      wX_next_27 post v (nI H) (pr_rf R) (pr_rf F) (pr_rf A) (pr_rf G) (pr_uf U) (pr_nf B) (pr_nf L) P (pr_cf C) e1 e2 e3 e4 n (nI a) (nI step) := by
  intro n
  induction n with
  | zero => intro step a h1 h2; omega
  | succ n ih =>
    intro step a h1 h2 h31 hfa h3 h4
    refine br_f (nI_ge (b := 130) (by omega) (by decide)) ?_
    by_cases c : 65536 ≤ a
    · exact br_t (nI_le (a := 65536) c h31) (hp 65536 ⟨Nat.le_refl _, fun q hq1 hq2 => h4 q hq1 (by omega) hq2, fun z => by omega⟩)
    · refine br_f (nI_ge (b := 65536) (by omega) (by decide)) ?_
      refine pr_xowner T (nx_m16 (by omega)) (by omega) (fun t ht => ?_)
      have et := pr_Lg_uniq T.1 ht (htf a)
      subst et
      by_cases c2 : pr_pv P (tf a) = v
      · refine br_t c2 ?_
        have := hp a ⟨by omega, fun q hq1 hq2 => h4 q hq1 hq2 (by omega), fun _ => ⟨hfa, c2⟩⟩
        unfold pr_bf at this
        rw [if_pos (by omega)] at this
        exact this
      · refine br_f c2 (pr_edge T.1 (by omega) (fun e g1 g2 g3 g4 => nm_r (nI_1 step) ?_))
        have hs := h3 (by omega)
        refine ih (step + 1) e (by omega) (by omega) (by omega) (by omega) ?_ ?_
        · intro z
          rcases g3 with g | ⟨m, g⟩
          · omega
          · have := pr_ahead_lt T.1 g1 g
            omega
        · intro q hq1 hq2 hq3
          by_cases z : q < a
          · exact h4 q hq1 z hq3
          · have : tf a = tf q := pr_const T.1 htf (by omega) (fun m hm => ⟨fun w => ?_, fun w => ?_⟩)
            · rw [← this]
              exact c2
            · have := g4 m (B m) ⟨hm.1, Or.inl rfl⟩ w.1
              omega
            · have := g4 m (B m + 2 ^ (16 - L m)) ⟨hm.1, Or.inr rfl⟩ w.1
              omega
theorem pr_ynL {post : Int32 → Prop} (hb : pr_base U B L) (y : pr_Y (pr_hs U P) B L P H nd sA lA pA) {tf : Nat → Nat} (htf : ∀ a, pr_Lg (pr_hs U P) B L a 17 (tf a)) {v : Int32} {first : Nat} (hfi : first < 65536)
    (hp : ∀ b, b ≤ 65536 → (b < 65536 → first < b ∧ pr_pv P (tf b) = v) → (∀ m, pr_hs U P m → ∀ x, (x = B m ∨ x = B m + 2 ^ (16 - L m)) → first < x → x < 65536 → pr_pv P (tf x) = v → b ≤ x) → post (pr_bf b)) :
    ∀ d e b : Nat, e + d = H → b ≤ 65536 → (b < 65536 → first < b ∧ pr_pv P (tf b) = v) → (∀ f, f < e → ∀ x, (x = B (nd f) ∨ x = B (nd f) + 2 ^ (16 - L (nd f))) → first < x → x < 65536 → pr_pv P (tf x) = v → b ≤ x) →
      wY_next_49 post v (nI first) (nI H) sA lA pA (d + 1) (pr_bf b) (nI e) := by
  have hH := y.1
  intro d
  induction d with
  | zero =>
    intro e b he h1 h2 h3
    refine br_t (nI_le (by omega) (by omega)) (hp b h1 h2 (fun m hm => ?_))
    obtain ⟨f, hf, ef⟩ := y.2.2.2 m hm
    rw [← ef]
    exact h3 f (by omega)
  | succ d ih =>
    intro e b he h1 h2 h3
    have he' : e < H := by omega
    obtain ⟨q1, q2, q3, q4, q5⟩ := pr_ynode hb y he'
    obtain ⟨s0, s1, s2, s3⟩ := y.2.1 e he'
    have hi : vp_in (nI e) 32 := vp_in_nI q5 (by decide)
    have hz := @pr_szle (L (nd e))
    have yown : ∀ (po : Int32 → Prop) (x : Nat), x < 65536 → po (pr_pv P (tf x)) → wpY_owner po (nI H, sA, lA, pA) (nI x) := by
      intro po x hx hpo
      refine pr_yowner hb y (nx_m16 hx) hx (fun t ht => ?_)
      rw [pr_Lg_uniq hb ht (htf x)]
      exact hpo
    have bneg : ∀ b, ¬ b < 65536 → pr_bf b < 0 := by
      intro b hb
      unfold pr_bf
      rw [if_neg hb]
      decide
    have bpos : ∀ b, b < 65536 → pr_bf b = nI b := fun b hb => if_pos hb
    refine br_f (nI_ge he' (by omega)) ⟨hi, nm_r (e' := nI (B (nd e))) (by rw [nI_clamp (by omega), s1]) ⟨hi, ?_⟩⟩
    rw [nI_clamp (by omega), s2]
    refine pr_size q2 (nm_r (nI_add _ _) ?_)
    -- the second half: the end
    have half : ∀ b', b' ≤ b → (b' < 65536 → first < b' ∧ pr_pv P (tf b') = v) → (first < B (nd e) → pr_pv P (tf (B (nd e))) = v → b' ≤ B (nd e)) → wY_next_114 post (wY_next_49 post v (nI first) (nI H) sA lA pA (d + 1)) v (nI first) (pr_bf b') (nI e) (nI (B (nd e) + 2 ^ (16 - L (nd e)))) (nI H) sA lA pA := by
      intro b' hb1 hb2 hb3
      have go : ∀ w, w ≤ b' → (w < 65536 → first < w ∧ pr_pv P (tf w) = v) → (first < B (nd e) + 2 ^ (16 - L (nd e)) → B (nd e) + 2 ^ (16 - L (nd e)) < 65536 → pr_pv P (tf (B (nd e) + 2 ^ (16 - L (nd e)))) = v → w ≤ B (nd e) + 2 ^ (16 - L (nd e))) → wY_next_49 post v (nI first) (nI H) sA lA pA (d + 1) (pr_bf w) (nI (e + 1)) := by
        intro w w1 w2 w3
        refine ih (e + 1) w (by omega) (by omega) w2 (fun f hf x hx x1 x2 x3 => ?_)
        by_cases z : f = e
        · subst z
          rcases hx with hx | hx
          · subst hx
            have := hb3 x1 x3
            omega
          · subst hx
            exact w3 x1 x2 x3
        · have := h3 f (by omega) x hx x1 x2 x3
          omega
      generalize hE : B (nd e) + 2 ^ (16 - L (nd e)) = E at go ⊢
      by_cases c1 : E ≤ first
      · exact br_t (nI_le c1 (by omega)) (nm_r (nI_1 e) (go b' (Nat.le_refl _) hb2 (fun z => by omega)))
      · refine br_f (nI_ge (by omega) (by omega)) ?_
        by_cases c2 : 65536 ≤ E
        · exact br_t (nI_le (a := 65536) c2 (by omega)) (nm_r (nI_1 e) (go b' (Nat.le_refl _) hb2 (fun _ z => by omega)))
        · refine br_f (nI_ge (b := 65536) (by omega) (by decide)) (yown _ E (by omega) ?_)
          by_cases c3 : pr_pv P (tf E) = v
          · refine br_t c3 ?_
            have take := go E
            rw [bpos E (by omega)] at take
            by_cases c4 : b' < 65536
            · refine br_f (by rw [bpos b' c4]; exact nI_pos (by omega)) ?_
              by_cases c5 : b' ≤ E
              · exact br_t (by rw [bpos b' c4]; exact nI_le c5 (by omega)) (nm_r (nI_1 e) (go b' (Nat.le_refl _) hb2 (fun _ _ _ => c5)))
              · exact br_f (by rw [bpos b' c4]; exact nI_ge (by omega) (by omega)) (nm_r (nI_1 e) (take (by omega) (fun _ => ⟨by omega, c3⟩) (fun _ _ _ => Nat.le_refl _)))
            · exact br_t (bneg b' c4) (nm_r (nI_1 e) (take (by omega) (fun _ => ⟨by omega, c3⟩) (fun _ _ _ => Nat.le_refl _)))
          · exact br_f c3 (nm_r (nI_1 e) (go b' (Nat.le_refl _) hb2 (fun _ _ z => absurd z c3)))
    by_cases c1 : B (nd e) ≤ first
    · exact br_t (nI_le c1 (by omega)) (half b (Nat.le_refl _) h2 (fun z => by omega))
    · refine br_f (nI_ge (by omega) (by omega)) (yown _ _ q3 ?_)
      by_cases c3 : pr_pv P (tf (B (nd e))) = v
      · refine br_t c3 ?_
        have take := half (B (nd e))
        rw [bpos _ q3] at take
        by_cases c4 : b < 65536
        · refine br_f (by rw [bpos b c4]; exact nI_pos (by omega)) ?_
          by_cases c5 : b ≤ B (nd e)
          · exact br_t (by rw [bpos b c4]; exact nI_le c5 (by omega)) (half b (Nat.le_refl _) h2 (fun _ _ => c5))
          · exact br_f (by rw [bpos b c4]; exact nI_ge (by omega) (by omega)) (take (by omega) (fun _ => ⟨by omega, c3⟩) (fun _ _ => Nat.le_refl _))
        · exact br_t (bneg b c4) (take (by omega) (fun _ => ⟨by omega, c3⟩) (fun _ _ => Nat.le_refl _))
      · exact br_f c3 (half b (Nat.le_refl _) h2 (fun _ z => absurd z c3))
/-- the least edge with the owner is the least address with it -/
theorem pr_least (hb : pr_base U B L) {tf : Nat → Nat} (htf : ∀ a, pr_Lg (pr_hs U P) B L a 17 (tf a)) {v : Int32} {first b : Nat} (hf : pr_pv P (tf first) ≠ v) (h1 : b ≤ 65536) (h2 : b < 65536 → first < b ∧ pr_pv P (tf b) = v)
    (h3 : ∀ m, pr_hs U P m → ∀ x, (x = B m ∨ x = B m + 2 ^ (16 - L m)) → first < x → x < 65536 → pr_pv P (tf x) = v → b ≤ x) : pr_Nx (fun a => pr_pv P (tf a)) first v b := by
  refine ⟨h1, ?_, fun z => ⟨Nat.le_of_lt (h2 z).1, (h2 z).2⟩⟩
  have key : ∀ k, first + k < b → pr_pv P (tf (first + k)) ≠ v := by
    intro k
    induction k with
    | zero => intro _; exact hf
    | succ k ih =>
      intro hk e
      have hne := ih (by omega)
      have : tf (first + k) = tf (first + (k + 1)) := by
        refine pr_const hb htf (by omega) (fun m hm => ⟨fun w => ?_, fun w => ?_⟩)
        · have w1 : B m = first + (k + 1) := by omega
          have := h3 m hm (first + (k + 1)) (Or.inl w1.symm) (by omega) (by omega) e
          omega
        · have w1 : B m + 2 ^ (16 - L m) = first + (k + 1) := by omega
          have := h3 m hm (first + (k + 1)) (Or.inr w1.symm) (by omega) (by omega) e
          omega
      rw [this] at hne
      exact hne e
  intro q hq1 hq2
  have := key (q - first) (by omega)
  rw [show first + (q - first) = q by omega] at this
  exact this
theorem pr_vnext (X : pr_X R F U B L P C) (y : pr_Y (pr_hs U P) B L P H nd sA lA pA) (v1 v2 : Int32) {Q : Prop} (hQ : Q) :
    wpX_next (fun r => wpY_next (fun r' => r' = r ∧ Q) (nI H, sA, lA, pA) v1 v2) (pr_st H R F A G U B L P C e1 e2 e3 e4) v1 v2 := by
  have hb := X.1.1
  obtain ⟨tf, htf⟩ : ∃ tf : Nat → Nat, ∀ a, pr_Lg (pr_hs U P) B L a 17 (tf a) :=
    ⟨fun a => Classical.choose (pr_Lg_ex (B := B) (L := L) (fun m (hm : pr_hs U P m) => (hb.1 m hm.1).1) a 17), fun a => Classical.choose_spec (pr_Lg_ex (B := B) (L := L) (fun m (hm : pr_hs U P m) => (hb.1 m hm.1).1) a 17)⟩
  by_cases c1 : v1 < -1
  · exact br_t c1 (br_t c1 ⟨rfl, hQ⟩)
  refine br_f c1 ?_
  by_cases c2 : v1 ≤ 7
  · refine br_t c2 ?_
    have ystep : ∀ (first : Nat) (b : Nat), first < 2 ^ 31 → pr_Nx (fun a => pr_pv P (tf a)) first v1 b → wY_next_23 (fun r' => r' = pr_bf b ∧ Q) v1 (nI first) (nI H) sA lA pA := by
      intro first b hf hN
      by_cases c : first ≤ 65535
      · refine br_t (nI_le (b := 65535) c (by decide)) (pr_yowner hb y (nx_m16 (by omega)) (by omega) (fun t ht => ?_))
        rw [pr_Lg_uniq hb ht (htf first)]
        by_cases c3 : pr_pv P (tf first) = v1
        · refine br_t c3 ⟨?_, hQ⟩
          have : first = b := pr_Nx_uniq ⟨by omega, fun q q1 q2 => by omega, fun _ => ⟨Nat.le_refl _, c3⟩⟩ hN
          subst this
          exact (if_pos (by omega)).symm
        · refine br_f c3 ⟨H + 1, pr_ynL hb y htf (by omega) (fun b' h1 h2 h3 => ⟨?_, hQ⟩) H 0 65536 (by omega) (Nat.le_refl _) (fun z => by omega) (fun f hf => by omega)⟩
          exact congrArg pr_bf (pr_Nx_uniq (pr_least hb htf c3 h1 h2 h3) hN)
      · refine br_f (nI_ge (b := first) (a := 65535) (by omega) hf) ⟨?_, hQ⟩
        have : 65536 = b := pr_Nx_uniq ⟨Nat.le_refl _, fun q q1 q2 => by omega, fun z => by omega⟩ hN
        subst this
        rfl
    by_cases c3 : 0 ≤ v2
    · refine br_t c3 ?_
      obtain ⟨first, hf, rfl⟩ := nI_of (Int32.not_lt.mpr c3)
      refine ⟨130, pr_xnextL X.1 htf (first := first) ?_ 130 0 first (by omega) (by omega) hf (Nat.le_refl _) (fun _ => by have := @pr_ahead_le B L first; omega) (fun q q1 q2 => by omega)⟩
      intro b hN
      exact br_f c1 (br_t c2 (br_t c3 (ystep first b hf hN)))
    · refine br_f c3 ?_
      refine ⟨130, pr_xnextL X.1 htf (first := 0) ?_ 130 0 0 (by omega) (by omega) (by omega) (Nat.le_refl _) (fun _ => by have := @pr_ahead_le B L 0; omega) (fun q q1 q2 => by omega)⟩
      intro b hN
      exact br_f c1 (br_t c2 (br_f c3 (ystep 0 b (by omega) hN)))
  · exact br_f c2 (br_f c1 (br_f c2 ⟨rfl, hQ⟩))
end
end
section
/-! sums over lists of nodes; entries -/
def pr_ls (g : Nat → Int32) : List Nat → Int32
  | [] => 0
  | x :: xs => g x + pr_ls g xs
theorem pr_ls_app (g : Nat → Int32) : ∀ l m : List Nat, pr_ls g (l ++ m) = pr_ls g l + pr_ls g m := by
  intro l m
  induction l with
  | nil =>
    show pr_ls g m = 0 + pr_ls g m
    rw [Int32.zero_add]
  | cons x xs ih =>
    show g x + pr_ls g (xs ++ m) = g x + pr_ls g xs + pr_ls g m
    rw [ih, Int32.add_assoc]
theorem pr_ls_perm (g : Nat → Int32) {l m : List Nat} (h : l.Perm m) : pr_ls g l = pr_ls g m := by
  induction h with
  | nil => rfl
  | cons x _ ih =>
    show g x + _ = g x + _
    rw [ih]
  | swap x y l =>
    show g y + (g x + pr_ls g l) = g x + (g y + pr_ls g l)
    rw [← Int32.add_assoc, ← Int32.add_assoc, Int32.add_comm (g y)]
  | trans _ _ ih1 ih2 => rw [ih1, ih2]
theorem pr_ls_cg {f g : Nat → Int32} : ∀ l : List Nat, (∀ x, x ∈ l → f x = g x) → pr_ls f l = pr_ls g l := by
  intro l
  induction l with
  | nil => intro _; rfl
  | cons x xs ih =>
    intro h
    show f x + pr_ls f xs = g x + pr_ls g xs
    rw [h x (List.mem_cons_self ..), ih (fun z hz => h z (List.mem_cons_of_mem _ hz))]
theorem pr_ls_0 {f : Nat → Int32} : ∀ l : List Nat, (∀ x, x ∈ l → f x = 0) → pr_ls f l = 0 := by
  intro l
  induction l with
  | nil => intro _; rfl
  | cons x xs ih =>
    intro h
    show f x + pr_ls f xs = 0
    rw [h x (List.mem_cons_self ..), ih (fun z hz => h z (List.mem_cons_of_mem _ hz))]
    rfl
theorem pr_ls_fil {g : Nat → Int32} {p : Nat → Bool} : ∀ l : List Nat, (∀ x, x ∈ l → p x = false → g x = 0) → pr_ls g (l.filter p) = pr_ls g l := by
  intro l
  induction l with
  | nil => intro _; rfl
  | cons x xs ih =>
    intro h
    have ih' := ih (fun z hz => h z (List.mem_cons_of_mem _ hz))
    rw [List.filter_cons]
    by_cases c : p x = true
    · rw [if_pos c]
      show g x + _ = g x + _
      rw [ih']
    · rw [if_neg c, ih']
      show _ = g x + _
      rw [h x (List.mem_cons_self ..) (by simpa using c), Int32.zero_add]
theorem pr_ls_sub (f g : Nat → Int32) : ∀ l : List Nat, pr_ls (fun x => f x - g x) l = pr_ls f l - pr_ls g l := by
  intro l
  induction l with
  | nil =>
    show (0 : Int32) = 0 - 0
    decide
  | cons x xs ih =>
    show f x - g x + pr_ls _ xs = f x + pr_ls f xs - (g x + pr_ls g xs)
    rw [ih]
    grind
theorem pr_ls_add (f g : Nat → Int32) : ∀ l : List Nat, pr_ls (fun x => f x + g x) l = pr_ls f l + pr_ls g l := by
  intro l
  induction l with
  | nil => rfl
  | cons x xs ih =>
    show f x + g x + pr_ls _ xs = f x + pr_ls f xs + (g x + pr_ls g xs)
    rw [ih]
    grind
theorem pr_ls_swap (f : Nat → Nat → Int32) (m : List Nat) : ∀ l : List Nat, pr_ls (fun x => pr_ls (fun y => f x y) m) l = pr_ls (fun y => pr_ls (fun x => f x y) l) m := by
  intro l
  induction l with
  | nil => exact (pr_ls_0 m (fun _ _ => rfl)).symm
  | cons x xs ih =>
    show pr_ls (fun y => f x y) m + _ = pr_ls (fun y => f x y + pr_ls (fun x => f x y) xs) m
    rw [pr_ls_add, ih]
theorem pr_ls_one {g : Nat → Int32} {t : Nat} : ∀ l : List Nat, l.Nodup → pr_ls (fun x => if x = t then g x else 0) l = if t ∈ l then g t else 0 := by
  intro l
  induction l with
  | nil => intro _; rfl
  | cons x xs ih =>
    intro h
    obtain ⟨h1, h2⟩ := List.nodup_cons.mp h
    show (if x = t then g x else 0) + pr_ls _ xs = _
    rw [ih h2]
    by_cases c : x = t
    · subst c
      rw [if_pos rfl, if_neg h1, if_pos (List.mem_cons_self ..), Int32.add_zero]
    · rw [if_neg c, Int32.zero_add]
      by_cases d : t ∈ xs
      · rw [if_pos d, if_pos (List.mem_cons_of_mem _ d)]
      · rw [if_neg d, if_neg (fun z => by
          rcases List.mem_cons.mp z with e | e
          · exact c e.symm
          · exact d e)]
theorem pr_ls_r (g : Nat → Int32) (k : Nat) : pr_ls g (List.range (k + 1)) = pr_ls g (List.range k) + g k := by
  rw [List.range_succ, pr_ls_app]
  show _ + (g k + 0) = _
  rw [Int32.add_zero]
theorem pr_ls_rm (g : Nat → Int32) (nd : Nat → Nat) (k : Nat) : pr_ls g ((List.range (k + 1)).map nd) = pr_ls g ((List.range k).map nd) + g (nd k) := by
  rw [List.range_succ, List.map_append, pr_ls_app]
  show _ + (g (nd k) + 0) = _
  rw [Int32.add_zero]
section
variable {H R F A G : Nat} {U : Nat → Bool} {B L : Nat → Nat} {P : Nat → Int32} {C : Nat → Nat} {e1 e2 e3 e4 : Nat → Int32} {nd : Nat → Nat} {sA lA pA : Nat → Int32}
theorem pr_lsH {g : Nat → Int32} (hb : pr_base U B L) (y : pr_Y (pr_hs U P) B L P H nd sA lA pA) (hg : ∀ n, ¬ pr_hs U P n → g n = 0) : pr_ls g (List.range 64) = pr_ls g ((List.range H).map nd) := by
  obtain ⟨y1, y2, y3⟩ := pr_En_Y y
  rw [← pr_ls_fil (p := fun n => U n && decide (0 ≤ P n)) (List.range 64) (fun n _ hn => hg n (fun z => by
    unfold pr_hs at z
    simp [z.1, z.2] at hn))]
  refine pr_ls_perm g ((List.perm_ext_iff_of_nodup (List.nodup_range.sublist List.filter_sublist) y1).mpr (fun n => ?_))
  rw [y2 n, List.mem_filter, List.mem_range]
  unfold pr_hs
  constructor
  · intro z
    simpa using z.2
  · intro z
    exact ⟨(hb.1 n z.1).1, by simpa using z⟩
theorem pr_xentL {post : Int32 → Prop} {q : Nat} (hp : post (pr_ls (fun n => if U n = true ∧ P n = nI q then 1 else 0) (List.range 64))) :
    ∀ d i : Nat, i + d = 64 → wX_entries_16 post (nI q) (nI H) (pr_rf R) (pr_rf F) (pr_rf A) (pr_rf G) (pr_uf U) (pr_nf B) (pr_nf L) P (pr_cf C) e1 e2 e3 e4 (d + 1) (pr_ls (fun n => if U n = true ∧ P n = nI q then 1 else 0) (List.range i)) (nI i) := by
  intro d
  induction d with
  | zero =>
    intro i hi
    have e : i = 64 := by omega
    subst e
    exact br_t (nI_le (a := 64) (Nat.le_refl _) (by decide)) hp
  | succ d ih =>
    intro i hi
    have hin : vp_in (nI i) 64 := vp_in_nI (by omega) (by decide)
    refine br_f (nI_ge (b := 64) (by omega) (by decide)) ⟨hin, ?_⟩
    rw [nI_clamp (by omega)]
    have e := pr_ls_r (fun n => if U n = true ∧ P n = nI q then (1 : Int32) else 0) i
    have W := ih (i + 1) (by omega)
    refine pr_uf0 (fun c => ?_) (fun c => ⟨hin, ?_⟩)
    · refine nm_r ?_ (nm_r (nI_1 i) W)
      rw [e]
      rw [if_neg (fun z => c z.1)]
    · by_cases c2 : P i = nI q
      · refine br_t c2 (nm_r ?_ (nm_r (nI_1 i) W))
        rw [e]
        rw [if_pos ⟨c, c2⟩]
      · refine br_f c2 (nm_r ?_ (nm_r (nI_1 i) W))
        rw [e]
        rw [if_neg (fun z => c2 z.2)]
theorem pr_yentL {post : Int32 → Prop} {q : Nat} (y : pr_Y (pr_hs U P) B L P H nd sA lA pA) (hp : post (pr_ls (fun n => if P n = nI q then 1 else 0) ((List.range H).map nd))) :
    ∀ d i : Nat, i + d = H → wY_entries_16 post (nI q) (nI H) sA lA pA (d + 1) (pr_ls (fun n => if P n = nI q then 1 else 0) ((List.range i).map nd)) (nI i) := by
  have hH := y.1
  intro d
  induction d with
  | zero =>
    intro i hi
    have e : i = H := by omega
    subst e
    exact br_t (nI_le (Nat.le_refl _) (by omega)) hp
  | succ d ih =>
    intro i hi
    refine br_f (nI_ge (by omega) (by omega)) ⟨vp_in_nI (by omega) (by decide), ?_⟩
    rw [nI_clamp (by omega), (y.2.1 i (by omega)).2.2.2]
    have e := pr_ls_rm (fun n => if P n = nI q then (1 : Int32) else 0) nd i
    have W := ih (i + 1) (by omega)
    by_cases c2 : P (nd i) = nI q
    · refine br_t c2 (nm_r ?_ (nm_r (nI_1 i) W))
      rw [e]
      rw [if_pos c2]
    · refine br_f c2 (nm_r (nI_1 i) ?_)
      rw [e] at W
      rw [if_neg c2, Int32.add_zero] at W
      exact W
theorem pr_ventries (X : pr_X R F U B L P C) (y : pr_Y (pr_hs U P) B L P H nd sA lA pA) (v1 : Int32) {Q : Prop} (hQ : Q) :
    wpX_entries (fun r => wpY_entries (fun r' => r' = r ∧ Q) (nI H, sA, lA, pA) v1) (pr_st H R F A G U B L P C e1 e2 e3 e4) v1 := by
  by_cases c3 : v1 < 0
  · exact br_t c3 (br_t c3 ⟨rfl, hQ⟩)
  refine br_f c3 ?_
  by_cases c4 : v1 ≤ 7
  · refine br_t c4 ?_
    obtain ⟨q, hq, rfl⟩ := pr_peer c3 c4
    refine ⟨65, pr_xentL ?_ 64 0 rfl⟩
    refine br_f c3 (br_t c4 ⟨H + 1, pr_yentL y ⟨?_, hQ⟩ H 0 (by omega)⟩)
    have hqp : (0 : Int32) ≤ nI q := nI_pos' (by omega)
    rw [pr_lsH X.1.1 y (fun n hn => if_neg (fun z => hn ⟨z.1, by rw [z.2]; exact hqp⟩))]
    refine pr_ls_cg _ (fun n hn => ?_)
    obtain ⟨u, _⟩ := ((pr_En_Y y).2.1 n).mp hn
    by_cases c : P n = nI q
    · rw [if_pos c, if_pos ⟨u, c⟩]
    · rw [if_neg c, if_neg (fun z => c z.2)]
  · exact br_f c4 (br_f c3 (br_f c4 ⟨rfl, hQ⟩))
end
end
section
/-! going over the tree: visited nodes V, the stack K, the visited held nodes W -/
def pr_SI1 (U : Nat → Bool) (B L up : Nat → Nat) (V K : List Nat) (ha : Nat → Int32) : Prop :=
  (V ++ K).Nodup ∧ (∀ n, n ∈ V ∨ n ∈ K → U n = true) ∧ (∀ m, U m = true → m ∈ V ∨ ∃ k, k ∈ K ∧ pr_cov B L k m) ∧
  (∀ k m, k ∈ K → m ∈ V → ¬ pr_cov B L k m) ∧ (∀ k j, k ∈ K → j ∈ K → k ≠ j → ¬ pr_cov B L k j) ∧ (∀ n, n ∈ V ∨ n ∈ K → ha n = pr_rf (up n))
def pr_sz (L : Nat → Nat) (n : Nat) : Int32 := nI (2 ^ (16 - L n))
def pr_pu (P : Nat → Int32) (up : Nat → Nat) (n : Nat) : Int32 := if up n < 64 then P (up n) else nI 8
def pr_gs (L : Nat → Nat) (P : Nat → Int32) (up : Nat → Nat) (p n : Nat) : Int32 := (if P n = nI p then pr_sz L n else 0) - (if pr_pu P up n = nI p then pr_sz L n else 0)
def pr_gt (L up : Nat → Nat) (m n : Nat) : Int32 := if up n = m then pr_sz L n else 0
def pr_SI2 (h : Nat → Prop) (L : Nat → Nat) (P : Nat → Int32) (up : Nat → Nat) (W : List Nat) (V : Nat → Prop) (s se : Nat → Int32) : Prop :=
  W.Nodup ∧ (∀ n, n ∈ W ↔ V n ∧ h n) ∧ (∀ p, p < 9 → s p = pr_ls (pr_gs L P up p) W + (if p = 8 then 65536 else 0)) ∧ (∀ m, m ∈ W → se m = pr_sz L m - pr_ls (pr_gt L up m) W)
section
variable {U : Nat → Bool} {B L : Nat → Nat} {S : Nat → Nat → Nat} {P : Nat → Int32} {up : Nat → Nat}
theorem pr_Lg_ag {h : Nat → Prop} {a b w t : Nat} (hw : w ≤ 16) (hg : pr_ag a b w) (x : pr_Lg h B L a w t) : pr_Lg h B L b w t := by
  have key : ∀ m, L m < w → (pr_ag a (B m) (L m) ↔ pr_ag b (B m) (L m)) := by
    intro m hm
    have := pr_ag_mono hw (Nat.le_of_lt hm) hg
    exact ⟨fun z => pr_ag_trans (pr_ag_symm this) z, fun z => pr_ag_trans this z⟩
  rcases x with ⟨x1, x2, x3, x4, x5⟩ | ⟨x1, x2⟩
  · exact Or.inl ⟨x1, x2, x3, (key t x3).mp x4, fun m hm hl hg => x5 m hm hl ((key m hl).mpr hg)⟩
  · exact Or.inr ⟨x1, fun m hm hl hg => x2 m hm hl ((key m hl).mpr hg)⟩
theorem pr_Lg_end2 {a lo w best : Nat} (hw : lo ≤ w) (hall : ∀ m, U m = true → lo ≤ L m → L m < w → pr_ag a (B m) (L m) → False) (hx : pr_Lg (pr_hs U P) B L a lo best) : pr_Lg (pr_hs U P) B L a w best := by
  have key2 : ∀ m, pr_hs U P m → L m < w → pr_ag a (B m) (L m) → L m < lo := by
    intro m hm hlw hg
    rcases Nat.lt_or_ge (L m) lo with z | z
    · exact z
    · exact (hall m hm.1 z hlw hg).elim
  rcases hx with ⟨x1, x2, x3, x4, x5⟩ | ⟨x1, x2⟩
  · exact Or.inl ⟨x1, x2, by omega, x4, fun m hm hl hg => x5 m hm (key2 m hm hl hg) hg⟩
  · exact Or.inr ⟨x1, fun m hm hl hg => x2 m hm (key2 m hm hl hg) hg⟩
/-- the held node above a child -/
theorem pr_upk (T : pr_T U B L S) (hup : ∀ n, pr_Lg (pr_hs U P) B L (B n) (L n) (up n)) {k b : Nat} (hk : U k = true) (hb2 : b < 2) (hc : S k b < 64) : up (S k b) = if 0 ≤ P k then k else up k := by
  obtain ⟨k1, k2, k3, k4⟩ := pr_kid T hk hb2 hc
  have hb := T.1
  have hc16 := (hb.1 _ k1).2.1
  refine pr_Lg_uniq hb (hup (S k b)) ?_
  refine pr_Lg_end2 (lo := L k + 1) k2 ?_ (pr_Lg_step (lo := L k) hb hk k3 (Nat.le_refl _) ?_ (pr_Lg_ag (by omega) (pr_ag_symm k3) (hup k)))
  · intro m hm l1 l2 hg
    have g1 : pr_ag (B m) (B k) (L k) := pr_ag_trans (pr_ag_symm (pr_ag_mono (hb.1 m hm).2.1 (by omega) hg)) k3
    have w := pr_below T hk hm l1 g1
    have e : pr_bit (B m) (L k) = b := by
      rw [← k4]
      exact (pr_bit_ag (hb.1 m hm).2.1 l1 hg).symm
    rw [e] at w
    have := w.2.1
    omega
  · intro m hm l1 hg
    exact ⟨l1, pr_ag_trans (pr_ag_symm (pr_ag_mono (hb.1 m hm).2.1 l1 hg)) k3⟩
theorem pr_uproot (T : pr_T U B L S) (hup : ∀ n, pr_Lg (pr_hs U P) B L (B n) (L n) (up n)) (h : S 64 0 < 64) : up (S 64 0) = 64 := by
  refine pr_Lg_uniq T.1 (hup _) (Or.inr ⟨rfl, fun m hm hl hg => ?_⟩)
  have := (pr_root T hm.1).2.1
  omega
theorem pr_up_cov (hup : ∀ n, pr_Lg (pr_hs U P) B L (B n) (L n) (up n)) {n k : Nat} (hk : k < 64) (e : up n = k) : L k < L n ∧ pr_hs U P k ∧ pr_cov B L k n := by
  have := hup n
  rw [e] at this
  rcases this with ⟨x1, x2, x3, x4, x5⟩ | ⟨x1, x2⟩
  · exact ⟨x3, x2, Nat.le_of_lt x3, x4⟩
  · omega
theorem pr_SI1_step (T : pr_T U B L S) (hup : ∀ n, pr_Lg (pr_hs U P) B L (B n) (L n) (up n)) {V K kids : List Nat} {k : Nat} {ha ha' : Nat → Int32} (I : pr_SI1 U B L up V (K ++ [k]) ha)
    (hk1 : ∀ c, c ∈ kids ↔ c < 64 ∧ ∃ b, b < 2 ∧ S k b = c) (hk2 : kids.Nodup) (hha : ∀ n, ha' n = if n ∈ kids then pr_rf (if 0 ≤ P k then k else up k) else ha n) :
    pr_SI1 U B L up (V ++ [k]) (K ++ kids) ha' := by
  obtain ⟨i1, i2, i3, i4, i5, i6⟩ := I
  have hb := T.1
  have kin : k ∈ K ++ [k] := List.mem_append.mpr (Or.inr (List.mem_singleton.mpr rfl))
  have uk : U k = true := i2 k (Or.inr kin)
  have inK : ∀ n, n ∈ K → n ∈ K ++ [k] := fun n hn => List.mem_append.mpr (Or.inl hn)
  obtain ⟨nV, nKk, dVK⟩ := List.nodup_append.mp i1
  obtain ⟨nK, _, dK⟩ := List.nodup_append.mp nKk
  have kV : k ∉ V := fun z => dVK k z k kin rfl
  have kK : ∀ n, n ∈ K → n ≠ k := fun n hn => dK n hn k (List.mem_singleton.mpr rfl)
  have kid : ∀ c, c ∈ kids → ∃ b, b < 2 ∧ S k b = c ∧ U c = true ∧ L k < L c ∧ pr_ag (B c) (B k) (L k) ∧ pr_bit (B c) (L k) = b := by
    intro c hc
    obtain ⟨h64, b, hb2, e⟩ := (hk1 c).mp hc
    have := pr_kid T uk hb2 (by rw [e]; exact h64)
    rw [e] at this
    exact ⟨b, hb2, e, this⟩
  have cV : ∀ c, c ∈ kids → c ∉ V := by
    intro c hc hv
    obtain ⟨b, _, _, _, c2, c3, _⟩ := kid c hc
    exact i4 k c kin hv ⟨Nat.le_of_lt c2, c3⟩
  have cK : ∀ c, c ∈ kids → c ∉ K := by
    intro c hc hv
    obtain ⟨b, _, _, _, c2, c3, _⟩ := kid c hc
    exact i5 k c kin (inK c hv) (fun e => kK c hv e.symm) ⟨Nat.le_of_lt c2, c3⟩
  have ck : ∀ c, c ∈ kids → c ≠ k := by
    intro c hc e
    obtain ⟨b, _, _, _, c2, _⟩ := kid c hc
    rw [e] at c2
    omega
  have mV : ∀ n, n ∈ V ++ [k] → n ∈ V ∨ n = k := by
    intro n hn
    rcases List.mem_append.mp hn with z | z
    · exact Or.inl z
    · exact Or.inr (List.mem_singleton.mp z)
  refine ⟨?_, ?_, ?_, ?_, ?_, ?_⟩
  · refine List.nodup_append.mpr ⟨List.nodup_append.mpr ⟨nV, by simp, fun a ha b hb e => ?_⟩, List.nodup_append.mpr ⟨nK, hk2, fun a ha b hb e => ?_⟩, fun a ha b hb e => ?_⟩
    · rw [List.mem_singleton.mp hb] at e
      rw [e] at ha
      exact kV ha
    · subst e
      exact cK a hb ha
    · subst e
      rcases mV a ha with z | z
      · rcases List.mem_append.mp hb with w | w
        · exact dVK a z a (inK a w) rfl
        · exact cV a w z
      · rcases List.mem_append.mp hb with w | w
        · exact kK a w z
        · exact ck a w z
  · intro n hn
    rcases hn with hn | hn
    · rcases mV n hn with z | z
      · exact i2 n (Or.inl z)
      · rw [z]
        exact uk
    · rcases List.mem_append.mp hn with z | z
      · exact i2 n (Or.inr (inK n z))
      · obtain ⟨b, _, _, u, _⟩ := kid n z
        exact u
  · intro m hm
    rcases i3 m hm with z | ⟨j, hj, hc⟩
    · exact Or.inl (List.mem_append.mpr (Or.inl z))
    · rcases List.mem_append.mp hj with w | w
      · exact Or.inr ⟨j, List.mem_append.mpr (Or.inl w), hc⟩
      · rw [List.mem_singleton.mp w] at hc
        rcases Nat.lt_or_ge (L k) (L m) with g | g
        · have q := pr_below T uk hm g hc.2
          exact Or.inr ⟨_, List.mem_append.mpr (Or.inr ((hk1 _).mpr ⟨q.1, _, pr_bit_lt _ _, rfl⟩)), q.2⟩
        · have e : L m = L k := by have := hc.1; omega
          have e2 := pr_same hb hm uk e (e ▸ hc.2)
          exact Or.inl (List.mem_append.mpr (Or.inr (List.mem_singleton.mpr e2)))
  · intro j m hj hm hc
    rcases List.mem_append.mp hj with z | z
    · rcases mV m hm with w | w
      · exact i4 j m (inK j z) w hc
      · subst w
        exact i5 j m (inK j z) kin (kK j z) hc
    · obtain ⟨b, _, _, u, c2, c3, _⟩ := kid j z
      rcases mV m hm with w | w
      · exact i4 k m kin w (pr_cov_trans (hb.1 j u).2.1 ⟨Nat.le_of_lt c2, c3⟩ hc)
      · subst w
        have := hc.1
        omega
  · intro j i hj hi hne hc
    rcases List.mem_append.mp hj with z | z
    · rcases List.mem_append.mp hi with w | w
      · exact i5 j i (inK j z) (inK i w) hne hc
      · obtain ⟨b, _, _, u, c2, c3, _⟩ := kid i w
        have ck : pr_cov B L k i := ⟨Nat.le_of_lt c2, c3⟩
        rcases Nat.le_total (L j) (L k) with g | g
        · exact i5 j k (inK j z) kin (kK j z) (pr_cov_cmp (hb.1 k uk).2.1 hc ck g)
        · exact i5 k j kin (inK j z) (fun e => kK j z e.symm) (pr_cov_cmp (hb.1 j (i2 j (Or.inr (inK j z)))).2.1 ck hc g)
    · obtain ⟨b, _, eb, u, c2, c3, c4⟩ := kid j z
      rcases List.mem_append.mp hi with w | w
      · exact i5 k i kin (inK i w) (fun e => kK i w e.symm) (pr_cov_trans (hb.1 j u).2.1 ⟨Nat.le_of_lt c2, c3⟩ hc)
      · obtain ⟨b', _, eb', u', d2, d3, d4⟩ := kid i w
        have e : pr_bit (B i) (L k) = pr_bit (B j) (L k) := pr_bit_ag (hb.1 j u).2.1 c2 hc.2
        rw [c4, d4] at e
        exact hne (by rw [← eb, ← eb', e])
  · intro n hn
    rw [hha n]
    by_cases c : n ∈ kids
    · rw [if_pos c]
      obtain ⟨h64, b, hb2, e⟩ := (hk1 n).mp c
      rw [← e, pr_upk T hup uk hb2 (by rw [e]; exact h64)]
    · rw [if_neg c]
      rcases hn with hn | hn
      · rcases mV n hn with z | z
        · exact i6 n (Or.inl z)
        · subst z
          exact i6 n (Or.inr kin)
      · rcases List.mem_append.mp hn with z | z
        · exact i6 n (Or.inr (inK n z))
        · exact absurd z c
/-- the sums when a held node is visited -/
theorem pr_SI2_step (hup : ∀ n, pr_Lg (pr_hs U P) B L (B n) (L n) (up n)) {W : List Nat} {V : Nat → Prop} {k q q' : Nat} {s se s' se' : Nat → Int32} (I : pr_SI2 (pr_hs U P) L P up W V s se)
    (hk : pr_hs U P k) (hk64 : k < 64) (hkV : ¬ V k) (hno : ∀ m, V m → ¬ pr_cov B L k m) (eq : P k = nI q) (hq : q ≤ 7) (eq' : pr_pu P up k = nI q') (hq' : q' ≤ 8)
    (hs : ∀ p, p < 9 → s' p = s p + (if p = q then pr_sz L k else 0) - (if p = q' then pr_sz L k else 0))
    (hse : se' k = pr_sz L k) (hse2 : ∀ m, m ∈ W → m ≠ k → se' m = se m - (if m = up k then pr_sz L k else 0)) :
    pr_SI2 (pr_hs U P) L P up (k :: W) (fun n => V n ∨ n = k) s' se' := by
  obtain ⟨i1, i2, i3, i4⟩ := I
  refine ⟨List.nodup_cons.mpr ⟨fun z => hkV ((i2 k).mp z).1, i1⟩, fun n => ?_, fun p hp => ?_, fun m hm => ?_⟩
  · rw [List.mem_cons, i2 n]
    constructor
    · intro z
      rcases z with z | z
      · rw [z]
        exact ⟨Or.inr rfl, hk⟩
      · exact ⟨Or.inl z.1, z.2⟩
    · intro z
      rcases z.1 with w | w
      · exact Or.inr ⟨w, z.2⟩
      · exact Or.inl w
  · rw [hs p hp, i3 p hp]
    show _ = (pr_gs L P up p k + pr_ls _ W) + _
    unfold pr_gs
    rw [eq, eq']
    have a1 : (nI q = nI p) ↔ p = q := by
      rw [nI_eq (by omega) (by omega)]
      exact ⟨fun z => z.symm, fun z => z.symm⟩
    have a2 : (nI q' = nI p) ↔ p = q' := by
      rw [nI_eq (by omega) (by omega)]
      exact ⟨fun z => z.symm, fun z => z.symm⟩
    simp only [a1, a2]
    grind
  · show _ = pr_sz L m - (pr_gt L up m k + pr_ls _ W)
    have upne : up k ≠ k := by
      intro e
      have := (pr_up_cov hup hk64 e).1
      omega
    by_cases c : m = k
    · subst c
      rw [hse]
      unfold pr_gt
      rw [if_neg upne, pr_ls_0 W (fun n hn => if_neg (fun e => hno n ((i2 n).mp hn).1 (pr_up_cov hup hk64 e).2.2))]
      grind
    · rcases List.mem_cons.mp hm with z | z
      · exact absurd z c
      · rw [hse2 m z c, i4 m z]
        unfold pr_gt
        by_cases d : m = up k
        · rw [if_pos d, if_pos d.symm]
          grind
        · rw [if_neg d, if_neg (fun e => d e.symm)]
          grind
theorem pr_SI2_skip {W : List Nat} {V : Nat → Prop} {k : Nat} {s se : Nat → Int32} (I : pr_SI2 (pr_hs U P) L P up W V s se) (hk : ¬ pr_hs U P k) : pr_SI2 (pr_hs U P) L P up W (fun n => V n ∨ n = k) s se := by
  refine ⟨I.1, fun n => ?_, I.2.2⟩
  rw [I.2.1 n]
  constructor
  · intro z
    exact ⟨Or.inl z.1, z.2⟩
  · intro z
    rcases z.1 with w | w
    · exact ⟨w, z.2⟩
    · rw [w] at z
      exact absurd z.2 hk
end
end
section
/-! the walks of visit and settleAll -/
def pr_stk (sk : Nat → Int32) (K : List Nat) : Prop := ∀ i x, K[i]? = some x → sk i = pr_rf x
theorem pr_stk_pop {sk : Nat → Int32} {K : List Nat} {k : Nat} (h : pr_stk sk (K ++ [k])) : pr_stk sk K ∧ sk K.length = pr_rf k := by
  constructor
  · intro i x hx
    obtain ⟨hi, _⟩ := List.getElem?_eq_some_iff.mp hx
    exact h i x (by rw [List.getElem?_append_left hi]; exact hx)
  · exact h _ _ (by simp)
theorem pr_stk_push {sk : Nat → Int32} {K : List Nat} {c : Nat} (h : pr_stk sk K) : pr_stk (upd sk K.length (pr_rf c)) (K ++ [c]) := by
  intro i x hx
  by_cases e : i = K.length
  · subst e
    rw [pk_us]
    simp at hx
    rw [hx]
  · rw [pk_un e]
    refine h i x ?_
    obtain ⟨hi, _⟩ := List.getElem?_eq_some_iff.mp hx
    rw [List.length_append, List.length_singleton] at hi
    rw [List.getElem?_append_left (by omega)] at hx
    exact hx
def pr_kid1 (c : Nat) : List Nat := if c < 64 then [c] else []
def pr_kids (S : Nat → Nat → Nat) (k : Nat) : List Nat := pr_kid1 (S k 0) ++ pr_kid1 (S k 1)
theorem pr_kid1_m {c n : Nat} : n ∈ pr_kid1 c ↔ n < 64 ∧ c = n := by
  unfold pr_kid1
  by_cases h : c < 64
  · rw [if_pos h, List.mem_singleton]
    constructor
    · intro z
      exact ⟨by omega, z.symm⟩
    · intro z
      exact z.2.symm
  · rw [if_neg h]
    constructor
    · intro z
      exact absurd z (List.not_mem_nil)
    · intro z
      omega
theorem pr_kids_m {S : Nat → Nat → Nat} {k c : Nat} : c ∈ pr_kids S k ↔ c < 64 ∧ ∃ b, b < 2 ∧ S k b = c := by
  unfold pr_kids
  rw [List.mem_append, pr_kid1_m, pr_kid1_m]
  constructor
  · intro z
    rcases z with z | z
    · exact ⟨z.1, 0, by decide, z.2⟩
    · exact ⟨z.1, 1, by decide, z.2⟩
  · intro ⟨h, b, hb, e⟩
    have : b = 0 ∨ b = 1 := by omega
    rcases this with z | z
    · subst z
      exact Or.inl ⟨h, e⟩
    · subst z
      exact Or.inr ⟨h, e⟩
theorem pr_kid1_n {c : Nat} : (pr_kid1 c).Nodup := by
  unfold pr_kid1
  by_cases h : c < 64
  · rw [if_pos h]
    simp
  · rw [if_neg h]
    simp
theorem pr_kids_n {U : Nat → Bool} {B L : Nat → Nat} {S : Nat → Nat → Nat} (T : pr_T U B L S) {k : Nat} (hk : U k = true) : (pr_kids S k).Nodup := by
  refine List.nodup_append.mpr ⟨pr_kid1_n, pr_kid1_n, fun a ha b hb e => ?_⟩
  subst e
  obtain ⟨h1, e1⟩ := pr_kid1_m.mp ha
  obtain ⟨h2, e2⟩ := pr_kid1_m.mp hb
  have k1 := (pr_kid T hk (b := 0) (by decide) (by rw [e1]; exact h1)).2.2.2
  have k2 := (pr_kid T hk (b := 1) (by decide) (by rw [e2]; exact h2)).2.2.2
  rw [e1] at k1
  rw [e2, k1] at k2
  omega
theorem pr_SI2_cg {h : Nat → Prop} {L : Nat → Nat} {P : Nat → Int32} {up : Nat → Nat} {W : List Nat} {V V' : Nat → Prop} {s se : Nat → Int32} (e : ∀ n, V n ↔ V' n) (I : pr_SI2 h L P up W V s se) : pr_SI2 h L P up W V' s se :=
  ⟨I.1, fun n => by rw [I.2.1 n, e n], I.2.2⟩
section
variable {H R F A G : Nat} {U : Nat → Bool} {B L : Nat → Nat} {P : Nat → Int32} {C : Nat → Nat} {s se : Nat → Int32} {up : Nat → Nat}
theorem pr_v99s {post : Int32 → SX → Prop} {k b n : Nat} {x3 : Int32} {K : List Nat} {ha sk : Nat → Int32} (hk : k < 64) (hb : b < 2) (hlen : C (2 * k + b) < 64 → K.length < 64) (hs : pr_stk sk K)
    (hp : ∀ ha1 sk1, (∀ m, ha1 m = if m ∈ pr_kid1 (C (2 * k + b)) then x3 else ha m) → pr_stk sk1 (K ++ pr_kid1 (C (2 * k + b))) → wX_visit_99 post (pr_rf k) x3 (nI H) (pr_rf R) (pr_rf F) (pr_rf A) (pr_rf G) n (nI (K ++ pr_kid1 (C (2 * k + b))).length) (nI (b + 1)) (pr_uf U) (pr_nf B) (pr_nf L) P (pr_cf C) s se ha1 sk1) :
    wX_visit_99 post (pr_rf k) x3 (nI H) (pr_rf R) (pr_rf F) (pr_rf A) (pr_rf G) (n + 1) (nI K.length) (nI b) (pr_uf U) (pr_nf B) (pr_nf L) P (pr_cf C) s se ha sk := by
  refine br_f (nI_ge (b := 2) hb (by decide)) ?_
  rw [pr_ix hk]
  refine ⟨vp_in_nI (by omega) (by decide), nm_r (e' := pr_rf (C (2 * k + b))) (by rw [nI_clamp (by omega)]; rfl) ?_⟩
  generalize C (2 * k + b) = c at hlen hp ⊢
  unfold pr_kid1 at hp
  by_cases hc : c < 64
  · rw [if_pos hc] at hp
    have hl := hlen hc
    refine br_f (pr_rf_pos hc) ⟨pr_rf_in hc, nm_e ⟨vp_in_nI hl (by decide), nm_r (e' := upd sk K.length (pr_rf c)) (by rw [nI_clamp (by omega)]) (nm_r (nI_1 _) (nm_r (nI_1 b) ?_))⟩⟩
    rw [pr_rf_cl hc]
    have W := hp (upd ha c x3) (upd sk K.length (pr_rf c)) (fun m => ?_) (pr_stk_push hs)
    · rw [List.length_append, List.length_singleton] at W
      exact W
    · by_cases e : m = c
      · subst e
        rw [pk_us, if_pos (List.mem_singleton.mpr rfl)]
      · rw [pk_un e, if_neg (fun z => e (List.mem_singleton.mp z))]
  · rw [if_neg hc] at hp
    refine br_t (pr_rf_neg hc) (nm_r (nI_1 b) ?_)
    have W := hp ha sk (fun m => (if_neg (List.not_mem_nil)).symm) (by rw [List.append_nil]; exact hs)
    rw [List.append_nil] at W
    exact W
theorem pr_v99 {post : Int32 → SX → Prop} {k : Nat} {x3 : Int32} {K : List Nat} {ha sk : Nat → Int32} (hk : k < 64) (hlen : (K ++ pr_kids (pr_S R C) k).length ≤ 64) (hs : pr_stk sk K)
    (hp : ∀ ha1 sk1, (∀ m, ha1 m = if m ∈ pr_kids (pr_S R C) k then x3 else ha m) → pr_stk sk1 (K ++ pr_kids (pr_S R C) k) → post (nI (K ++ pr_kids (pr_S R C) k).length) (pr_st H R F A G U B L P C s se ha1 sk1)) :
    wX_visit_99 post (pr_rf k) x3 (nI H) (pr_rf R) (pr_rf F) (pr_rf A) (pr_rf G) 3 (nI K.length) 0 (pr_uf U) (pr_nf B) (pr_nf L) P (pr_cf C) s se ha sk := by
  have e : pr_kids (pr_S R C) k = pr_kid1 (C (2 * k + 0)) ++ pr_kid1 (C (2 * k + 1)) := by
    unfold pr_kids
    rw [pr_S_lt hk, pr_S_lt hk]
  rw [e] at hlen hp
  rw [List.length_append, List.length_append] at hlen
  have one : ∀ c, c < 64 → (pr_kid1 c).length = 1 := by
    intro c hc
    unfold pr_kid1
    rw [if_pos hc]
    rfl
  refine pr_v99s (b := 0) hk (by decide) (fun z => by rw [one _ z] at hlen; omega) hs (fun ha1 sk1 h1 h2 => ?_)
  refine pr_v99s (b := 1) hk (by decide) (fun z => by rw [one _ z] at hlen; rw [List.length_append]; omega) h2 (fun ha2 sk2 h3 h4 => ?_)
  refine br_t (nI_le (a := 2) (Nat.le_refl _) (by decide)) ?_
  rw [List.append_assoc] at h4 ⊢
  refine hp ha2 sk2 (fun m => ?_) h4
  rw [h3 m, h1 m]
  by_cases c1 : m ∈ pr_kid1 (C (2 * k + 1))
  · rw [if_pos c1, if_pos (List.mem_append.mpr (Or.inr c1))]
  · rw [if_neg c1]
    by_cases c0 : m ∈ pr_kid1 (C (2 * k + 0))
    · rw [if_pos c0, if_pos (List.mem_append.mpr (Or.inl c0))]
    · rw [if_neg c0, if_neg (fun z => by
        rcases List.mem_append.mp z with w | w
        · exact c0 w
        · exact c1 w)]
theorem pr_v70 {post : Int32 → SX → Prop} {k q' : Nat} {K : List Nat} {x4 : Int32} {ha sk : Nat → Int32} (hk : k < 64) (hq' : q' ≤ 8) (hlen : (K ++ pr_kids (pr_S R C) k).length ≤ 64) (hs : pr_stk sk K)
    (hp : ∀ ha1 sk1, (∀ m, ha1 m = if m ∈ pr_kids (pr_S R C) k then pr_rf k else ha m) → pr_stk sk1 (K ++ pr_kids (pr_S R C) k) → post (nI (K ++ pr_kids (pr_S R C) k).length) (pr_st H R F A G U B L P C (upd s q' (s q' - x4)) (if up k < 64 then upd se (up k) (se (up k) - x4) else se) ha1 sk1)) :
    wX_visit_70 post (pr_rf k) (nI K.length) (pr_rf (up k)) x4 (nI q') (nI H) (pr_rf R) (pr_rf F) (pr_rf A) (pr_rf G) (pr_uf U) (pr_nf B) (pr_nf L) P (pr_cf C) s se ha sk := by
  have hi : vp_in (nI q') 9 := vp_in_nI (by omega) (by decide)
  refine ⟨hi, hi, nm_r (e' := upd s q' (s q' - x4)) (by rw [nI_clamp (by omega)]) ?_⟩
  by_cases c : up k < 64
  · rw [if_pos c] at hp
    exact br_f (pr_rf_pos c) ⟨pr_rf_in c, pr_rf_in c, nm_r (e' := upd se (up k) (se (up k) - x4)) (by rw [pr_rf_cl c]) ⟨3, pr_v99 hk hlen hs hp⟩⟩
  · rw [if_neg c] at hp
    exact br_t (pr_rf_neg c) ⟨3, pr_v99 hk hlen hs hp⟩
theorem pr_SI1_len (hb : pr_base U B L) {V K : List Nat} {ha : Nat → Int32} (I : pr_SI1 U B L up V K ha) : V.length + K.length ≤ 64 := by
  have := List.Nodup.length_le_of_subset I.1 (l₂ := List.range 64) (fun n hn => List.mem_range.mpr (hb.1 n (I.2.1 n (List.mem_append.mp hn))).1)
  rw [List.length_append, List.length_range] at this
  exact this
theorem pr_visit {post : Int32 → SX → Prop} (X : pr_X R F U B L P C) (hup : ∀ n, pr_Lg (pr_hs U P) B L (B n) (L n) (up n)) {V K W : List Nat} {k : Nat} {ha sk : Nat → Int32}
    (I : pr_SI1 U B L up V (K ++ [k]) ha) (J : pr_SI2 (pr_hs U P) L P up W (fun n => n ∈ V) s se) (hs : pr_stk sk K)
    (hp : ∀ W' s' se' ha' sk', pr_SI1 U B L up (V ++ [k]) (K ++ pr_kids (pr_S R C) k) ha' → pr_SI2 (pr_hs U P) L P up W' (fun n => n ∈ V ++ [k]) s' se' → pr_stk sk' (K ++ pr_kids (pr_S R C) k) → post (nI (K ++ pr_kids (pr_S R C) k).length) (pr_st H R F A G U B L P C s' se' ha' sk')) :
    wpX_visit post (pr_st H R F A G U B L P C s se ha sk) (pr_rf k) (nI K.length) := by
  have T := X.1
  have kin : k ∈ K ++ [k] := List.mem_append.mpr (Or.inr (List.mem_singleton.mpr rfl))
  have uk : U k = true := I.2.1 k (Or.inr kin)
  obtain ⟨hk, l16, b16, bc⟩ := T.1.1 k uk
  have eha : ha k = pr_rf (up k) := I.2.2.2.2.2 k (Or.inr kin)
  have up64 : up k ≤ 64 := pr_Lg_le (hup k)
  have stp : ∀ ha', (∀ n, ha' n = if n ∈ pr_kids (pr_S R C) k then pr_rf (if 0 ≤ P k then k else up k) else ha n) → pr_SI1 U B L up (V ++ [k]) (K ++ pr_kids (pr_S R C) k) ha' := fun ha' h => pr_SI1_step T hup I (fun c => pr_kids_m) (pr_kids_n T uk) h
  have hlen : (K ++ pr_kids (pr_S R C) k).length ≤ 64 := by
    have := pr_SI1_len T.1 (stp _ (fun n => rfl))
    omega
  have mV : ∀ n, (n ∈ V ∨ n = k) ↔ n ∈ V ++ [k] := by
    intro n
    rw [List.mem_append, List.mem_singleton]
  have kV : k ∉ V := by
    intro z
    exact I.2.2.2.1 k k kin z (pr_cov_refl _)
  refine ⟨pr_rf_in hk, nm_r (e' := pr_rf (up k)) (by rw [pr_rf_cl hk]; exact eha) ⟨pr_rf_in hk, ?_⟩⟩
  rw [pr_rf_cl hk]
  by_cases c : P k < 0
  · refine br_t c ⟨3, pr_v99 hk hlen hs (fun ha1 sk1 h1 h2 => ?_)⟩
    refine hp W s se ha1 sk1 (stp ha1 ?_) (pr_SI2_cg mV (pr_SI2_skip J (fun z => absurd z.2 (Int32.not_le.mpr c)))) h2
    rw [if_neg (Int32.not_le.mpr c)]
    exact h1
  · have c' := Int32.not_lt.mp c
    have hh : pr_hs U P k := ⟨uk, c'⟩
    obtain ⟨q, hq, eq⟩ : ∃ q, q ≤ 7 ∧ P k = nI q := by
      rcases X.2.2.1 k uk with z | z
      · rw [z] at c'
        exact absurd c' (by decide)
      · exact z
    obtain ⟨q', hq', eq'⟩ : ∃ q', q' ≤ 8 ∧ pr_pu P up k = nI q' := by
      unfold pr_pu
      by_cases d : up k < 64
      · rw [if_pos d]
        have hhu := (pr_up_cov hup d rfl).2.1
        rcases X.2.2.1 _ hhu.1 with z | ⟨w, w1, w2⟩
        · have := hhu.2
          rw [z] at this
          exact absurd this (by decide)
        · exact ⟨w, by omega, w2⟩
      · rw [if_neg d]
        exact ⟨8, Nat.le_refl _, rfl⟩
    have upne : up k ≠ k := by
      intro e
      have := (pr_up_cov hup hk e).1
      omega
    refine br_f c ⟨pr_rf_in hk, nm_r (e' := pr_sz L k) (pr_wsz (L k) (by omega)) ⟨pr_rf_in hk, nm_e ⟨pr_rf_in hk, ?_⟩⟩⟩
    rw [eq]
    have hi : vp_in (nI q) 9 := vp_in_nI (by omega) (by decide)
    refine ⟨hi, hi, nm_r (e' := upd s q (s q + pr_sz L k)) (by rw [nI_clamp (by omega)]) ?_⟩
    -- both branches go to the same join
    have join : wX_visit_70 post (pr_rf k) (nI K.length) (pr_rf (up k)) (pr_sz L k) (nI q') (nI H) (pr_rf R) (pr_rf F) (pr_rf A) (pr_rf G) (pr_uf U) (pr_nf B) (pr_nf L) P (pr_cf C) (upd s q (s q + pr_sz L k)) (upd se k (pr_sz L k)) ha sk := by
      refine pr_v70 hk hq' hlen hs (fun ha1 sk1 h1 h2 => ?_)
      refine hp (k :: W) _ _ ha1 sk1 (stp ha1 ?_) (pr_SI2_cg mV (pr_SI2_step hup J hh hk kV (fun m hm => I.2.2.2.1 k m kin hm) eq hq eq' hq' ?_ ?_ ?_)) h2
      · rw [if_pos c']
        exact h1
      · intro p hp9
        by_cases d1 : p = q'
        · subst d1
          rw [pk_us, if_pos rfl]
          by_cases d2 : p = q
          · subst d2
            rw [pk_us, if_pos rfl]
          · rw [pk_un d2, if_neg d2, Int32.add_zero]
        · rw [pk_un d1, if_neg d1, Int32.sub_zero]
          by_cases d2 : p = q
          · subst d2
            rw [pk_us, if_pos rfl]
          · rw [pk_un d2, if_neg d2, Int32.add_zero]
      · by_cases d : up k < 64
        · rw [if_pos d, pk_un (fun z => upne z.symm), pk_us]
        · rw [if_neg d, pk_us]
      · intro m hm hne
        by_cases d : up k < 64
        · rw [if_pos d]
          by_cases d2 : m = up k
          · rw [if_pos d2, d2, pk_us, pk_un upne]
          · rw [if_neg d2, pk_un d2, pk_un hne, Int32.sub_zero]
        · have hm64 := (T.1.1 m ((J.2.1 m).mp hm).2.1).1
          rw [if_neg d, pk_un hne, if_neg (by omega), Int32.sub_zero]
    by_cases d : up k < 64
    · unfold pr_pu at eq'
      rw [if_pos d] at eq'
      refine br_t (pr_rf_pos' d) ⟨pr_rf_in d, ?_⟩
      rw [pr_rf_cl d, eq']
      exact join
    · unfold pr_pu at eq'
      rw [if_neg d] at eq'
      rw [← eq'] at join
      exact br_f (pr_rf_nneg d) join
/-- what settleAll has reckoned -/
def pr_Fin (U : Nat → Bool) (L : Nat → Nat) (P : Nat → Int32) (up : Nat → Nat) (s se ha : Nat → Int32) : Prop :=
  ∃ W, pr_SI2 (pr_hs U P) L P up W (fun n => U n = true) s se ∧ ∀ n, U n = true → ha n = pr_rf (up n)
end
end
section
/-! settleAll, owned, useless -/
section
variable {H R F A G : Nat} {U : Nat → Bool} {B L : Nat → Nat} {P : Nat → Int32} {C : Nat → Nat} {up : Nat → Nat}
theorem pr_s63 {post : SX → Prop} (X : pr_X R F U B L P C) (hup : ∀ n, pr_Lg (pr_hs U P) B L (B n) (L n) (up n))
    (hp : ∀ s se ha sk, pr_Fin U L P up s se ha → post (pr_st H R F A G U B L P C s se ha sk)) :
    ∀ (n : Nat) (V K W : List Nat) (s se ha sk : Nat → Int32), 64 - V.length < n → pr_SI1 U B L up V K ha → pr_SI2 (pr_hs U P) L P up W (fun m => m ∈ V) s se → pr_stk sk K →
      wX_settleAll_63 post n (nI K.length) (nI V.length) (nI H) (pr_rf R) (pr_rf F) (pr_rf A) (pr_rf G) (pr_uf U) (pr_nf B) (pr_nf L) P (pr_cf C) s se ha sk := by
  intro n
  induction n with
  | zero => intro V K W s se ha sk h; omega
  | succ n ih =>
    intro V K W s se ha sk hn I J hs
    have hlen := pr_SI1_len X.1.1 I
    have fin : K = [] → post (pr_st H R F A G U B L P C s se ha sk) := by
      intro e
      subst e
      have eV : ∀ m, m ∈ V ↔ U m = true := by
        intro m
        constructor
        · intro z
          exact I.2.1 m (Or.inl z)
        · intro z
          rcases I.2.2.1 m z with w | ⟨k, hk, _⟩
          · exact w
          · exact absurd hk (List.not_mem_nil)
      exact hp s se ha sk ⟨W, pr_SI2_cg eV J, fun m hm => I.2.2.2.2.2 m (Or.inl ((eV m).mpr hm))⟩
    by_cases c : 64 ≤ V.length
    · exact br_t (nI_le (a := 64) c (by omega)) (fin (List.eq_nil_of_length_eq_zero (by omega)))
    · refine br_f (nI_ge (b := 64) (by omega) (by decide)) ?_
      rcases List.eq_nil_or_concat K with e | ⟨K', k, e⟩
      · have e0 := fin e
        subst e
        exact br_t (by decide) e0
      · rw [List.concat_eq_append] at e
        subst e
        have el : (K' ++ [k]).length = K'.length + 1 := by rw [List.length_append, List.length_singleton]
        rw [el] at hlen ⊢
        obtain ⟨p1, p2⟩ := pr_stk_pop hs
        refine br_f (nI_nle (by omega) (by omega)) ?_
        rw [nI_pred]
        refine ⟨vp_in_nI (by omega) (by decide), nm_r (e' := pr_rf k) (by rw [nI_clamp (by omega)]; exact p2) ?_⟩
        refine pr_visit X hup I J p1 (fun W' s' se' ha' sk' I' J' hs' => nm_r (nI_1 _) ?_)
        have W2 := ih (V ++ [k]) (K' ++ pr_kids (pr_S R C) k) W' s' se' ha' sk' (by rw [List.length_append, List.length_singleton]; omega) I' J' hs'
        rw [List.length_append (as := V), List.length_singleton] at W2
        exact W2
theorem pr_s2 {post : SX → Prop} (X : pr_X R F U B L P C) (hup : ∀ n, pr_Lg (pr_hs U P) B L (B n) (L n) (up n))
    (hp : ∀ s se ha sk, pr_Fin U L P up s se ha → post (pr_st H R F A G U B L P C s se ha sk)) {se ha sk : Nat → Int32} :
    ∀ (d i : Nat) (s : Nat → Int32), i + d = 9 → (∀ p, p < i → s p = 0) →
      wX_settleAll_2 post (nI H) (pr_rf R) (pr_rf F) (pr_rf A) (pr_rf G) (d + 1) (nI i) (pr_uf U) (pr_nf B) (pr_nf L) P (pr_cf C) s se ha sk := by
  intro d
  induction d with
  | zero =>
    intro i s hi h0
    refine br_t (nI_le (a := 9) (by omega) (by omega)) (nm_e ?_)
    have hs9 : ∀ p, p < 9 → upd s 8 65536 p = pr_ls (pr_gs L P up p) [] + (if p = 8 then 65536 else 0) := by
      intro p hp9
      show _ = 0 + _
      rw [Int32.zero_add]
      by_cases e : p = 8
      · subst e
        rw [pk_us, if_pos rfl]
      · rw [pk_un e, if_neg e]
        exact h0 p (by omega)
    have J0 : pr_SI2 (pr_hs U P) L P up [] (fun m => m ∈ ([] : List Nat)) (upd s 8 65536) se :=
      ⟨by simp, fun n => by simp, hs9, fun m hm => absurd hm (List.not_mem_nil)⟩
    have T := X.1
    by_cases c : R < 64
    · have e64 : pr_S R C 64 0 = R := pr_S_64
      have uR : U R = true := by
        have := pr_rootU T (by rw [e64]; exact c)
        rw [e64] at this
        exact this
      have eup : up R = 64 := by
        have := pr_uproot T hup (by rw [e64]; exact c)
        rw [e64] at this
        exact this
      refine br_f (pr_rf_pos c) (nm_e ⟨pr_rf_in c, nm_e ⟨65, ?_⟩⟩)
      rw [pr_rf_cl c]
      refine pr_s63 X hup hp 65 [] [R] [] (upd s 8 65536) se _ _ (by simp) ⟨by simp, ?_, ?_, ?_, ?_, ?_⟩ J0 ?_
      · intro n hn
        rcases hn with hn | hn
        · exact absurd hn (List.not_mem_nil)
        · rw [List.mem_singleton.mp hn]
          exact uR
      · intro m hm
        have := (pr_root T hm).2
        rw [e64] at this
        exact Or.inr ⟨R, List.mem_singleton.mpr rfl, this⟩
      · intro k m _ hm
        exact absurd hm (List.not_mem_nil)
      · intro k j hk hj hne
        rw [List.mem_singleton.mp hk, List.mem_singleton.mp hj] at hne
        exact absurd rfl hne
      · intro n hn
        rcases hn with hn | hn
        · exact absurd hn (List.not_mem_nil)
        · rw [List.mem_singleton.mp hn, pk_us, eup]
          rfl
      · exact pr_stk_push (K := []) (sk := sk) (fun i x hx => by simp at hx)
    · refine br_t (pr_rf_neg c) ⟨65, ?_⟩
      have hnone : ∀ m, ¬ U m = true := fun m hm => c (by have := (pr_root T hm).1; rw [pr_S_64] at this; exact this)
      refine pr_s63 X hup hp 65 [] [] [] (upd s 8 65536) se ha sk (by simp) ⟨by simp, ?_, fun m hm => absurd hm (hnone m), ?_, ?_, ?_⟩ J0 (fun i x hx => by simp at hx)
      · intro n hn
        rcases hn with hn | hn <;> exact absurd hn (List.not_mem_nil)
      · intro k m _ hm
        exact absurd hm (List.not_mem_nil)
      · intro k j hk
        exact absurd hk (List.not_mem_nil)
      · intro n hn
        rcases hn with hn | hn <;> exact absurd hn (List.not_mem_nil)
  | succ d ih =>
    intro i s hi h0
    refine br_f (nI_ge (b := 9) (by omega) (by decide)) ⟨vp_in_nI (by omega) (by decide), nm_r (e' := upd s i 0) (by rw [nI_clamp (by omega)]) (nm_r (nI_1 i) (ih (i + 1) (upd s i 0) (by omega) (fun p hp9 => ?_)))⟩
    by_cases e : p = i
    · subst e
      rw [pk_us]
    · rw [pk_un e]
      exact h0 p (by omega)
theorem pr_settleAll {post : SX → Prop} {e1 e2 e3 e4 : Nat → Int32} (X : pr_X R F U B L P C) (hup : ∀ n, pr_Lg (pr_hs U P) B L (B n) (L n) (up n))
    (hp : ∀ s se ha sk, pr_Fin U L P up s se ha → post (pr_st H R F A G U B L P C s se ha sk)) : wpX_settleAll post (pr_st H R F A G U B L P C e1 e2 e3 e4) :=
  ⟨10, pr_s2 X hup hp 9 0 e1 rfl (fun p h => by omega)⟩
end
section
variable {U : Nat → Bool} {B L : Nat → Nat} {P : Nat → Int32} {H : Nat} {nd up : Nat → Nat} {sA lA pA : Nat → Int32}
theorem pr_yr_inj (y : pr_Y (pr_hs U P) B L P H nd sA lA pA) {t t' : Nat} {r r' : Int32} (x : pr_yr H nd t r) (x' : pr_yr H nd t' r') : r' = r ↔ t' = t := by
  have hH := y.1
  rcases x with ⟨t1, t2⟩ | ⟨t1, f, hf, ef, t2⟩
  · rcases x' with ⟨t1', t2'⟩ | ⟨t1', f', hf', ef', t2'⟩
    · rw [t1, t1', t2, t2']
      simp
    · constructor
      · intro z
        rw [t2, t2'] at z
        have h1 : ¬ nI f' < 0 := nI_pos (by omega)
        rw [z] at h1
        exact absurd (by decide) h1
      · intro z
        omega
  · rcases x' with ⟨t1', t2'⟩ | ⟨t1', f', hf', ef', t2'⟩
    · constructor
      · intro z
        rw [t2, t2'] at z
        have h1 : ¬ nI f < 0 := nI_pos (by omega)
        rw [← z] at h1
        exact absurd (by decide) h1
      · intro z
        omega
    · rw [t2, t2', nI_eq (by omega) (by omega), ← ef, ← ef']
      exact ⟨fun z => by rw [z], fun z => y.2.2.1 f' f hf' hf z⟩
def pr_SE (L : Nat → Nat) (up : Nat → Nat) (l : List Nat) (t : Nat) : Int32 := (if t < 64 then pr_sz L t else 65536) - pr_ls (pr_gt L up t) l
theorem pr_yset21 {post : Int32 → Prop} (hb : pr_base U B L) (y : pr_Y (pr_hs U P) B L P H nd sA lA pA) (hup : ∀ n, pr_Lg (pr_hs U P) B L (B n) (L n) (up n)) {t : Nat} {r base : Int32} (hr : pr_yr H nd t r)
    (hp : post (base - pr_ls (pr_gt L up t) ((List.range H).map nd))) :
    ∀ d i : Nat, i + d = H → wY_settled_21 post r (nI H) sA lA pA (d + 1) (base - pr_ls (pr_gt L up t) ((List.range i).map nd)) (nI i) := by
  have hH := y.1
  intro d
  induction d with
  | zero =>
    intro i hi
    have e : i = H := by omega
    subst e
    exact br_t (nI_le (Nat.le_refl _) (by omega)) hp
  | succ d ih =>
    intro i hi
    have hi' : i < H := by omega
    obtain ⟨q1, q2, q3, q4, q5⟩ := pr_ynode hb y hi'
    obtain ⟨s0, s1, s2, s3⟩ := y.2.1 i hi'
    have hin : vp_in (nI i) 32 := vp_in_nI q5 (by decide)
    refine br_f (nI_ge hi' (by omega)) ⟨hin, hin, ?_⟩
    rw [nI_clamp (by omega), s1, s2]
    have e := pr_ls_rm (pr_gt L up t) nd i
    have W := ih (i + 1) (by omega)
    rw [e] at W
    refine pr_ylong hb y q3 (by omega) (fun t' r' ht hr' => ?_)
    have et := pr_Lg_uniq hb ht (hup (nd i))
    subst et
    have hiff := pr_yr_inj y hr hr'
    unfold pr_gt at W ⊢
    by_cases c : up (nd i) = t
    · refine br_t (hiff.mpr c) ⟨hin, ?_⟩
      refine pr_size q2 (nm_r ?_ (nm_r (nI_1 i) W))
      rw [if_pos c]
      show _ - pr_sz L (nd i) = _
      grind
    · refine br_f (fun z => c (hiff.mp z)) (nm_r (nI_1 i) ?_)
      rw [if_neg c, Int32.add_zero] at W
      exact W
theorem pr_ysettled {post : Int32 → Prop} (hb : pr_base U B L) (y : pr_Y (pr_hs U P) B L P H nd sA lA pA) (hup : ∀ n, pr_Lg (pr_hs U P) B L (B n) (L n) (up n)) {t : Nat} {r : Int32} (hr : pr_yr H nd t r)
    (hp : post (pr_SE L up ((List.range H).map nd) t)) : wpY_settled post (nI H, sA, lA, pA) r := by
  have hH := y.1
  have start : ∀ base : Int32, post (base - pr_ls (pr_gt L up t) ((List.range H).map nd)) → wY_settled_21 post r (nI H) sA lA pA (H + 1) base 0 := by
    intro base h
    have W := pr_yset21 hb y hup (base := base) hr h H 0 (by omega)
    have e : base - pr_ls (pr_gt L up t) ((List.range 0).map nd) = base := Int32.sub_zero base
    rw [e] at W
    exact W
  unfold pr_SE at hp
  rcases hr with ⟨t1, t2⟩ | ⟨t1, f, hf, ef, t2⟩
  · subst t2
    rw [if_neg (by omega)] at hp
    exact br_f (by decide) ⟨H + 1, start 65536 hp⟩
  · subst t2
    rw [if_pos t1] at hp
    obtain ⟨q1, q2, q3, q4, q5⟩ := pr_ynode hb y hf
    obtain ⟨s0, s1, s2, s3⟩ := y.2.1 f hf
    refine br_t (nI_pos' (by omega)) ⟨vp_in_nI q5 (by decide), ?_⟩
    rw [nI_clamp (by omega), s2]
    refine pr_size q2 ⟨H + 1, start _ ?_⟩
    rw [ef]
    exact hp
theorem pr_yown29 {post : Int32 → Prop} (hb : pr_base U B L) (y : pr_Y (pr_hs U P) B L P H nd sA lA pA) (hup : ∀ n, pr_Lg (pr_hs U P) B L (B n) (L n) (up n)) {v : Int32}
    (hp : post (pr_ls (fun m => if P m = v then pr_SE L up ((List.range H).map nd) m else 0) ((List.range H).map nd))) :
    ∀ d i : Nat, i + d = H → wY_owned_29 post v (nI H) sA lA pA (d + 1) (pr_ls (fun m => if P m = v then pr_SE L up ((List.range H).map nd) m else 0) ((List.range i).map nd)) (nI i) := by
  have hH := y.1
  intro d
  induction d with
  | zero =>
    intro i hi
    have e : i = H := by omega
    subst e
    exact br_t (nI_le (Nat.le_refl _) (by omega)) hp
  | succ d ih =>
    intro i hi
    have hi' : i < H := by omega
    obtain ⟨q1, q2, q3, q4, q5⟩ := pr_ynode hb y hi'
    obtain ⟨s0, s1, s2, s3⟩ := y.2.1 i hi'
    refine br_f (nI_ge hi' (by omega)) ⟨vp_in_nI q5 (by decide), ?_⟩
    rw [nI_clamp (by omega), s3]
    have e := pr_ls_rm (fun m => if P m = v then pr_SE L up ((List.range H).map nd) m else 0) nd i
    have W := ih (i + 1) (by omega)
    rw [e] at W
    by_cases c : P (nd i) = v
    · refine br_t c (pr_ysettled hb y hup (Or.inr ⟨q1, i, hi', rfl, rfl⟩) (nm_r ?_ (nm_r (nI_1 i) W)))
      rw [if_pos c]
    · refine br_f c (nm_r (nI_1 i) ?_)
      rw [if_neg c, Int32.add_zero] at W
      exact W
theorem pr_yus4 {post : Int32 → Prop} (hb : pr_base U B L) (y : pr_Y (pr_hs U P) B L P H nd sA lA pA) (hup : ∀ n, pr_Lg (pr_hs U P) B L (B n) (L n) (up n))
    (hp : post (pr_ls (fun m => if pr_SE L up ((List.range H).map nd) m = 0 ∨ (up m < 64 ∧ P (up m) = P m) then 1 else 0) ((List.range H).map nd))) :
    ∀ d i : Nat, i + d = H → wY_useless_4 post (nI H) sA lA pA (d + 1) (pr_ls (fun m => if pr_SE L up ((List.range H).map nd) m = 0 ∨ (up m < 64 ∧ P (up m) = P m) then 1 else 0) ((List.range i).map nd)) (nI i) := by
  have hH := y.1
  intro d
  induction d with
  | zero =>
    intro i hi
    have e : i = H := by omega
    subst e
    exact br_t (nI_le (Nat.le_refl _) (by omega)) hp
  | succ d ih =>
    intro i hi
    have hi' : i < H := by omega
    obtain ⟨q1, q2, q3, q4, q5⟩ := pr_ynode hb y hi'
    obtain ⟨s0, s1, s2, s3⟩ := y.2.1 i hi'
    have hin : vp_in (nI i) 32 := vp_in_nI q5 (by decide)
    refine br_f (nI_ge hi' (by omega)) ⟨hin, hin, ?_⟩
    rw [nI_clamp (by omega), s1, s2]
    have e := pr_ls_rm (fun m => if pr_SE L up ((List.range H).map nd) m = 0 ∨ (up m < 64 ∧ P (up m) = P m) then (1 : Int32) else 0) nd i
    have W := ih (i + 1) (by omega)
    rw [e] at W
    refine pr_ylong hb y q3 (by omega) (fun t' r' ht hr' => ?_)
    have et := pr_Lg_uniq hb ht (hup (nd i))
    subst et
    refine pr_ysettled hb y hup (Or.inr ⟨q1, i, hi', rfl, rfl⟩) ?_
    by_cases c : pr_SE L up ((List.range H).map nd) (nd i) = 0
    · refine br_t c (nm_r ?_ (nm_r (nI_1 i) W))
      rw [if_pos (Or.inl c)]
    · refine br_f c ?_
      rcases hr' with ⟨t1, t2⟩ | ⟨t1, f, hf, ef, t2⟩
      · refine br_t (by rw [t2]; decide) (nm_r (nI_1 i) ?_)
        rw [if_neg (fun z => by
          rcases z with z | z
          · exact c z
          · omega), Int32.add_zero] at W
        exact W
      · subst t2
        obtain ⟨u1, u2, u3, u4, u5⟩ := pr_ynode hb y hf
        refine br_f (nI_pos (by omega)) ⟨vp_in_nI u5 (by decide), hin, ?_⟩
        rw [nI_clamp (by omega), s3, (y.2.1 f hf).2.2.2, ef]
        by_cases c2 : P (up (nd i)) = P (nd i)
        · refine br_t c2 (nm_r ?_ (nm_r (nI_1 i) W))
          rw [if_pos (Or.inr ⟨t1, c2⟩)]
        · refine br_f c2 (nm_r (nI_1 i) ?_)
          rw [if_neg (fun z => by
            rcases z with z | z
            · exact c z
            · exact c2 z.2), Int32.add_zero] at W
          exact W
end
end
section
/-! owned and useless: the two sides -/
section
variable {H R F A G : Nat} {U : Nat → Bool} {B L : Nat → Nat} {P : Nat → Int32} {C : Nat → Nat} {e1 e2 e3 e4 : Nat → Int32} {nd up : Nat → Nat} {sA lA pA : Nat → Int32}
theorem pr_exup (hb : pr_base U B L) : ∃ up : Nat → Nat, ∀ n, pr_Lg (pr_hs U P) B L (B n) (L n) (up n) :=
  ⟨fun n => Classical.choose (pr_Lg_ex (B := B) (L := L) (fun m (hm : pr_hs U P m) => (hb.1 m hm.1).1) (B n) (L n)), fun n => Classical.choose_spec (pr_Lg_ex (B := B) (L := L) (fun m (hm : pr_hs U P m) => (hb.1 m hm.1).1) (B n) (L n))⟩
theorem pr_Wperm (y : pr_Y (pr_hs U P) B L P H nd sA lA pA) {W : List Nat} {s se : Nat → Int32} (J : pr_SI2 (pr_hs U P) L P up W (fun n => U n = true) s se) : W.Perm ((List.range H).map nd) := by
  obtain ⟨y1, y2, _⟩ := pr_En_Y y
  refine (List.perm_ext_iff_of_nodup J.1 y1).mpr (fun n => ?_)
  rw [J.2.1 n, y2 n]
  exact ⟨fun z => z.2, fun z => ⟨z.1, z⟩⟩
/-- a peer's addresses: settled by its entries, or entry by entry what it adds and takes -/
theorem pr_sumq (X : pr_X R F U B L P C) (hup : ∀ n, pr_Lg (pr_hs U P) B L (B n) (L n) (up n)) {l : List Nat} (hn : l.Nodup) (hl : ∀ n, n ∈ l ↔ pr_hs U P n) {q : Nat} (hq : q ≤ 7) :
    pr_ls (fun m => if P m = nI q then pr_SE L up l m else 0) l = pr_ls (pr_gs L P up q) l := by
  have h1 : pr_ls (fun m => if P m = nI q then pr_SE L up l m else 0) l = pr_ls (fun m => (if P m = nI q then pr_sz L m else 0) - pr_ls (fun n => if P m = nI q then pr_gt L up m n else 0) l) l := by
    refine pr_ls_cg l (fun m hm => ?_)
    have hm64 := (X.1.1.1 m ((hl m).mp hm).1).1
    by_cases c : P m = nI q
    · simp only [c, if_true]
      unfold pr_SE
      rw [if_pos hm64]
    · simp only [c, if_false]
      rw [pr_ls_0 l (fun _ _ => rfl)]
      decide
  have h2 : pr_ls (pr_gs L P up q) l = pr_ls (fun n => if P n = nI q then pr_sz L n else 0) l - pr_ls (fun n => if pr_pu P up n = nI q then pr_sz L n else 0) l := pr_ls_sub _ _ l
  rw [h1, h2, pr_ls_sub, pr_ls_swap]
  congr 1
  refine pr_ls_cg l (fun n hn' => ?_)
  have e : ∀ m, (if P m = nI q then pr_gt L up m n else 0) = if m = up n then (if P m = nI q then pr_sz L n else 0) else 0 := by
    intro m
    unfold pr_gt
    by_cases c : up n = m
    · rw [if_pos c, if_pos c.symm]
    · rw [if_neg c, if_neg (show ¬ m = up n from fun z => c z.symm)]
      simp
  simp only [e]
  rw [pr_ls_one l hn]
  unfold pr_pu
  by_cases c : up n < 64
  · have hh := (pr_up_cov hup c rfl).2.1
    rw [if_pos ((hl _).mpr hh), if_pos c]
  · rw [if_neg c, if_neg (fun z => c (X.1.1.1 _ ((hl _).mp z).1).1), if_neg (fun z => by
      have := (nI_eq (by decide) (by omega)).mp z
      omega)]
theorem pr_sum8 (X : pr_X R F U B L P C) (hup : ∀ n, pr_Lg (pr_hs U P) B L (B n) (L n) (up n)) {l : List Nat} (hl : ∀ n, n ∈ l ↔ pr_hs U P n) :
    pr_ls (pr_gs L P up 8) l + 65536 = pr_SE L up l 64 := by
  unfold pr_SE
  rw [if_neg (by decide)]
  have pk : ∀ n, pr_hs U P n → P n ≠ nI 8 := by
    intro n hn z
    rcases X.2.2.1 n hn.1 with w | ⟨w, w1, w2⟩
    · rw [w] at z
      exact absurd z (by decide)
    · rw [w2] at z
      have := (nI_eq (by omega) (by decide)).mp z
      omega
  have e : pr_ls (pr_gs L P up 8) l = pr_ls (fun n => 0 - pr_gt L up 64 n) l := by
    refine pr_ls_cg l (fun n hn => ?_)
    have hh := (hl n).mp hn
    unfold pr_gs pr_gt pr_pu
    rw [if_neg (pk n hh)]
    by_cases c : up n < 64
    · have hu := (pr_up_cov hup c rfl).2.1
      rw [if_pos c, if_neg (pk _ hu), if_neg (by omega)]
    · have : up n = 64 := by have := pr_Lg_le (hup n); omega
      rw [if_neg c, if_pos rfl, if_pos this]
  rw [e, pr_ls_sub, pr_ls_0 l (fun _ _ => rfl)]
  grind
theorem pr_vowned (X : pr_X R F U B L P C) (y : pr_Y (pr_hs U P) B L P H nd sA lA pA) (v1 : Int32) :
    wpX_owned (fun r u' => wpY_owned (fun r' => r' = r ∧ pr_Rel u' (nI H, sA, lA, pA)) (nI H, sA, lA, pA) v1) (pr_st H R F A G U B L P C e1 e2 e3 e4) v1 := by
  have hb := X.1.1
  have hH := y.1
  have keep : ∀ s se ha sk, pr_Rel (pr_st H R F A G U B L P C s se ha sk) (nI H, sA, lA, pA) := fun s se ha sk => pr_mk X y
  obtain ⟨up, hup⟩ := pr_exup (P := P) hb
  obtain ⟨y1, y2, _⟩ := pr_En_Y y
  by_cases c1 : v1 < -1
  · exact br_t c1 (br_t c1 ⟨rfl, keep _ _ _ _⟩)
  refine br_f c1 ?_
  by_cases c2 : v1 ≤ 7
  · refine br_t c2 ?_
    refine pr_settleAll X hup (fun s se ha sk fin => ?_)
    obtain ⟨W, J, _⟩ := fin
    have pm := pr_Wperm y J
    by_cases c3 : 0 ≤ v1
    · obtain ⟨q, hq, rfl⟩ := pr_peer (Int32.not_lt.mpr c3) c2
      refine br_t c3 ⟨vp_in_nI (by omega) (by decide), ?_⟩
      have e1 : ¬ nI q = -1 := by
        intro z
        rw [z] at c3
        exact absurd c3 (by decide)
      refine br_f c1 (br_t c2 (br_f e1 ⟨H + 1, pr_yown29 hb y hup ⟨?_, keep _ _ _ _⟩ H 0 (by omega)⟩))
      rw [nI_clamp (by omega), J.2.2.1 q (by omega), if_neg (by omega), Int32.add_zero, pr_ls_perm _ pm]
      exact pr_sumq X hup y1 y2 hq
    · refine br_f c3 ?_
      have e1 : v1 = -1 := by
        have a1 := Int32.not_lt.mp c1
        have a2 := Int32.not_le.mp c3
        rw [Int32.le_iff_toInt_le] at a1
        rw [Int32.lt_iff_toInt_lt] at a2
        apply Int32.toInt_inj.mp
        have b1 : (-1 : Int32).toInt = -1 := by decide
        have b2 : (0 : Int32).toInt = 0 := by decide
        omega
      refine br_f c1 (br_t c2 (br_t e1 (pr_ysettled hb y hup (t := 64) (Or.inl ⟨rfl, rfl⟩) ⟨?_, keep _ _ _ _⟩)))
      rw [J.2.2.1 8 (by decide), if_pos rfl, pr_ls_perm _ pm]
      exact (pr_sum8 X hup y2).symm
  · exact br_f c2 (br_f c1 (br_f c2 ⟨rfl, keep _ _ _ _⟩))
theorem pr_xus8 {post : Int32 → SX → Prop} {s se ha sk : Nat → Int32} (X : pr_X R F U B L P C) (hup : ∀ n, pr_Lg (pr_hs U P) B L (B n) (L n) (up n)) (hha : ∀ n, U n = true → ha n = pr_rf (up n))
    (hp : post (pr_ls (fun m => if (U m = true ∧ 0 ≤ P m) ∧ (se m = 0 ∨ (up m < 64 ∧ P (up m) = P m)) then 1 else 0) (List.range 64)) (pr_st H R F A G U B L P C s se ha sk)) :
    ∀ d i : Nat, i + d = 64 → wX_useless_8 post (nI H) (pr_rf R) (pr_rf F) (pr_rf A) (pr_rf G) (pr_uf U) (pr_nf B) (pr_nf L) P (pr_cf C) s se ha sk (d + 1) (pr_ls (fun m => if (U m = true ∧ 0 ≤ P m) ∧ (se m = 0 ∨ (up m < 64 ∧ P (up m) = P m)) then 1 else 0) (List.range i)) (nI i) := by
  intro d
  induction d with
  | zero =>
    intro i hi
    have e : i = 64 := by omega
    subst e
    exact br_t (nI_le (a := 64) (Nat.le_refl _) (by decide)) hp
  | succ d ih =>
    intro i hi
    have hi64 : i < 64 := by omega
    have hin : vp_in (nI i) 64 := vp_in_nI hi64 (by decide)
    have cl : (nI i).toNatClampNeg = i := nI_clamp (by omega)
    refine br_f (nI_ge (b := 64) hi64 (by decide)) ⟨hin, ?_⟩
    rw [cl]
    have e := pr_ls_r (fun m => if (U m = true ∧ 0 ≤ P m) ∧ (se m = 0 ∨ (up m < 64 ∧ P (up m) = P m)) then (1 : Int32) else 0) i
    have W := ih (i + 1) (by omega)
    rw [e] at W
    refine pr_uf0 (fun c => ?_) (fun c => ⟨hin, ?_⟩)
    · rw [if_neg (fun z => c z.1.1), Int32.add_zero] at W
      exact nm_r (nI_1 i) W
    · by_cases c2 : P i < 0
      · rw [if_neg (fun z => absurd z.1.2 (Int32.not_le.mpr c2)), Int32.add_zero] at W
        exact br_t c2 (nm_r (nI_1 i) W)
      · refine br_f c2 ⟨hin, ?_⟩
        have c2' := Int32.not_lt.mp c2
        rw [hha i c]
        -- the join, by what is known
        have j0 : ¬ (up i < 64 ∧ P (up i) = P i) → wX_useless_66 post (wX_useless_8 post (nI H) (pr_rf R) (pr_rf F) (pr_rf A) (pr_rf G) (pr_uf U) (pr_nf B) (pr_nf L) P (pr_cf C) s se ha sk (d + 1)) (pr_ls (fun m => if (U m = true ∧ 0 ≤ P m) ∧ (se m = 0 ∨ (up m < 64 ∧ P (up m) = P m)) then 1 else 0) (List.range i)) (nI i) 0 (nI H) (pr_rf R) (pr_rf F) (pr_rf A) (pr_rf G) (pr_uf U) (pr_nf B) (pr_nf L) P (pr_cf C) s se ha sk := by
          intro hno
          refine ⟨hin, ?_⟩
          rw [cl]
          by_cases c3 : se i = 0
          · rw [if_pos ⟨⟨c, c2'⟩, Or.inl c3⟩] at W
            exact br_t c3 (nm_e (nm_r (nI_1 i) W))
          · rw [if_neg (fun z => by
              rcases z.2 with w | w
              · exact c3 w
              · exact hno w)] at W
            exact br_f c3 (br_t rfl (nm_e (nm_r (nI_1 i) W)))
        have j1 : up i < 64 ∧ P (up i) = P i → wX_useless_66 post (wX_useless_8 post (nI H) (pr_rf R) (pr_rf F) (pr_rf A) (pr_rf G) (pr_uf U) (pr_nf B) (pr_nf L) P (pr_cf C) s se ha sk (d + 1)) (pr_ls (fun m => if (U m = true ∧ 0 ≤ P m) ∧ (se m = 0 ∨ (up m < 64 ∧ P (up m) = P m)) then 1 else 0) (List.range i)) (nI i) 1 (nI H) (pr_rf R) (pr_rf F) (pr_rf A) (pr_rf G) (pr_uf U) (pr_nf B) (pr_nf L) P (pr_cf C) s se ha sk := by
          intro hyes
          refine ⟨hin, ?_⟩
          rw [cl]
          rw [if_pos ⟨⟨c, c2'⟩, Or.inr hyes⟩] at W
          by_cases c3 : se i = 0
          · exact br_t c3 (nm_e (nm_r (nI_1 i) W))
          · exact br_f c3 (br_f (by decide) (nm_e (nm_r (nI_1 i) W)))
        by_cases c4 : up i < 64
        · refine br_f (pr_rf_pos c4) ⟨hin, pr_rf_in c4, hin, ?_⟩
          rw [pr_rf_cl c4]
          by_cases c5 : P (up i) = P i
          · exact br_t c5 (j1 ⟨c4, c5⟩)
          · exact br_f c5 (j0 (fun z => c5 z.2))
        · exact br_t (pr_rf_neg c4) (j0 (fun z => c4 z.1))
theorem pr_vuseless (X : pr_X R F U B L P C) (y : pr_Y (pr_hs U P) B L P H nd sA lA pA) :
    wpX_useless (fun r u' => wpY_useless (fun r' => r' = r ∧ pr_Rel u' (nI H, sA, lA, pA)) (nI H, sA, lA, pA)) (pr_st H R F A G U B L P C e1 e2 e3 e4) := by
  have hb := X.1.1
  obtain ⟨up, hup⟩ := pr_exup (P := P) hb
  obtain ⟨y1, y2, _⟩ := pr_En_Y y
  unfold wpX_useless
  refine pr_settleAll X hup (fun s se ha sk fin => ?_)
  obtain ⟨W, J, hha⟩ := fin
  have pm := pr_Wperm y J
  refine ⟨65, pr_xus8 X hup hha ?_ 64 0 rfl⟩
  refine ⟨H + 1, pr_yus4 hb y hup ⟨?_, pr_mk X y⟩ H 0 (by omega)⟩
  rw [pr_lsH hb y (fun n hn => if_neg (fun z => hn z.1))]
  refine pr_ls_cg _ (fun n hn => ?_)
  have hh := (y2 n).mp hn
  have h64 := (hb.1 n hh.1).1
  have e : se n = pr_SE L up ((List.range H).map nd) n := by
    unfold pr_SE
    rw [J.2.2.2 n ((J.2.1 n).mpr ⟨hh.1, hh⟩), if_pos h64, pr_ls_perm _ pm]
  rw [← e]
  by_cases c : se n = 0 ∨ (up n < 64 ∧ P (up n) = P n)
  · rw [if_pos c, if_pos ⟨hh, c⟩]
  · rw [if_neg c, if_neg (fun z => c z.2)]
end
end
section
/-! the constructors, and what is owed -/
theorem pr_T0 {B L : Nat → Nat} {S : Nat → Nat → Nat} (h : ¬ S 64 0 < 64) : pr_T (fun _ => false) B L S := by
  refine ⟨⟨fun n hn => absurd hn Bool.false_ne_true, fun n m hn => absurd hn Bool.false_ne_true⟩, ?_, fun A q m _ hm => absurd hm Bool.false_ne_true, fun n b hn => absurd hn Bool.false_ne_true⟩
  intro A q ha hc
  rcases ha.2 with e | ⟨u, _⟩
  · subst e
    exact absurd hc h
  · exact absurd u Bool.false_ne_true
/-- the free list from i on -/
theorem pr_free0 {C : Nat → Nat} (hC : ∀ n, n < 64 → C (2 * n) = n + 1) : ∀ d i : Nat, i + d = 64 → pr_free C i (List.range' i d) := by
  intro d
  induction d with
  | zero =>
    intro i hi
    show ¬ i < 64
    omega
  | succ d ih =>
    intro i hi
    refine ⟨rfl, by omega, ?_⟩
    rw [hC i (by omega)]
    exact ih (i + 1) (by omega)
theorem pr_init0 {C : Nat → Nat} (hC : ∀ n, n < 64 → C (2 * n) = n + 1) : pr_X 64 0 (fun _ => false) (fun _ => 0) (fun _ => 0) (fun _ => 0) C := by
  refine ⟨pr_T0 (show ¬ 64 < 64 by decide), ⟨List.range' 0 64, pr_free0 hC 64 0 rfl, List.nodup_range', fun n => ?_⟩, fun n hn => absurd hn Bool.false_ne_true, fun n b hn => absurd hn Bool.false_ne_true⟩
  rw [List.mem_range'_1]
  simp
theorem pr_initL {post : SX → Prop} {G : Nat} (hp : ∀ C, (∀ n, n < 64 → C (2 * n) = n + 1) → post (nI 0, -1, 0, 0, 0, pr_uf (fun _ => false), pr_nf (fun _ => 0), pr_nf (fun _ => 0), (fun _ => 0), pr_cf C, (fun _ => 0), (fun _ => 0), (fun _ => 0), (fun _ => 0))) :
    ∀ (d i : Nat) (C : Nat → Nat), i + d = 64 → (∀ n, n < i → C (2 * n) = n + 1) → wX_init_79 post 0 0 0 0 0 (d + 1) (nI i) (pr_uf (fun _ => false)) (pr_nf (fun _ => 0)) (pr_nf (fun _ => 0)) (fun _ => 0) (pr_cf C) (fun _ => 0) (fun _ => 0) (fun _ => 0) (fun _ => 0) := by
  intro d
  induction d with
  | zero =>
    intro i C hi hC
    have e : i = 64 := by omega
    subst e
    exact br_t (nI_le (a := 64) (Nat.le_refl _) (by decide)) (hp C hC)
  | succ d ih =>
    intro i C hi hC
    refine br_f (nI_ge (b := 64) (by omega) (by decide)) ?_
    have hin : vp_in (2 * nI i) 128 := by rw [pr_x2]; exact vp_in_nI (by omega) (by decide)
    have cl : (2 * nI i).toNatClampNeg = 2 * i := by rw [pr_x2]; exact nI_clamp (by omega)
    have go : ∀ v, v = i + 1 → wX_init_79 post 0 0 0 0 0 (d + 1) (nI (i + 1)) (pr_uf (fun _ => false)) (pr_nf (fun _ => 0)) (pr_nf (fun _ => 0)) (fun _ => 0) (pr_cf (pr_us C (2 * i) v)) (fun _ => 0) (fun _ => 0) (fun _ => 0) (fun _ => 0) := by
      intro v ev
      refine ih (i + 1) _ (by omega) (fun n hn => ?_)
      by_cases e : n = i
      · subst e
        rw [pr_us_s, ev]
      · rw [pr_us_n (by omega)]
        exact hC n (by omega)
    by_cases c : i = 63
    · refine br_t (congrArg nI c) ⟨hin, nm_r (e' := pr_cf (pr_us C (2 * i) 64)) (by rw [cl, pr_ucfm]) (nm_r (nI_1 i) (go 64 (by omega)))⟩
    · refine br_f (fun z => c ((nI_eq (b := 63) (by omega) (by decide)).mp z)) ⟨hin, nm_r (e' := pr_cf (pr_us C (2 * i) (i + 1))) ?_ (nm_r (nI_1 i) (go (i + 1) rfl))⟩
      rw [cl, nI_1, ← pr_rf_lt (by omega), pr_ucf]
theorem pr_c0 : pr_cf (fun _ => 0) = fun _ => 0 := rfl
def i_Rel (k : Nat) (u : SX) (v : SY) : Prop := pr_Rel u v
theorem i_up {k : Nat} {u : SX} {v : SY} (h : i_Rel k u v) : i_Rel (k + 4) u v := h
theorem i_vc0 : wpX_init (fun u => wpY_init (fun v => i_Rel 0 u v)) := by
  refine ⟨65, pr_initL (G := 0) ?_ 64 0 (fun _ => 0) rfl (fun n hn => by omega)⟩
  intro C hC
  show pr_Rel _ (nI 0, (fun _ => 0), (fun _ => 0), (fun _ => 0))
  exact pr_mk (H := 0) (R := 64) (F := 0) (A := 0) (G := 0) (nd := fun _ => 0) (pr_init0 hC) ⟨by decide, fun e he => absurd he (by omega), fun e f he => absurd he (by omega), fun n hn => absurd hn.1 Bool.false_ne_true⟩
theorem i_vc_allow {k : Nat} {u : SX} {v : SY} (I : i_Rel k u v) (hk : k + 4 ≤ 2048) (v1 : Int32) (v2 : Int32) (v3 : Int32) : wpX_allow (fun r u' => wpY_allow (fun r' v' => r' = r ∧ i_Rel (k + 4) u' v') v v1 v2 v3) u v1 v2 v3 := by
  obtain ⟨H, R, F, A, G, U, B, L, P, C, e1, e2, e3, e4, nd, sA, lA, pA, rfl, rfl, X, y⟩ := I
  exact pr_vallow X y v1 v2 v3
theorem i_vc_deny {k : Nat} {u : SX} {v : SY} (I : i_Rel k u v) (hk : k + 4 ≤ 2048) (v1 : Int32) (v2 : Int32) : wpX_deny (fun r u' => wpY_deny (fun r' v' => r' = r ∧ i_Rel (k + 4) u' v') v v1 v2) u v1 v2 := by
  obtain ⟨H, R, F, A, G, U, B, L, P, C, e1, e2, e3, e4, nd, sA, lA, pA, rfl, rfl, X, y⟩ := I
  exact pr_vdeny X y v1 v2
theorem i_vc_forget {k : Nat} {u : SX} {v : SY} (I : i_Rel k u v) (hk : k + 4 ≤ 2048) (v1 : Int32) : wpX_forget (fun r u' => wpY_forget (fun r' v' => r' = r ∧ i_Rel (k + 4) u' v') v v1) u v1 := by
  obtain ⟨H, R, F, A, G, U, B, L, P, C, e1, e2, e3, e4, nd, sA, lA, pA, rfl, rfl, X, y⟩ := I
  exact pr_vforget X y v1
theorem i_vc_owner {k : Nat} {u : SX} {v : SY} (I : i_Rel k u v) (hk : k + 4 ≤ 2048) (v1 : Int32) : wpX_owner (fun r => wpY_owner (fun r' => r' = r ∧ i_Rel (k + 4) u v) v v1) u v1 := by
  have I0 := I
  obtain ⟨H, R, F, A, G, U, B, L, P, C, e1, e2, e3, e4, nd, sA, lA, pA, rfl, rfl, X, y⟩ := I
  obtain ⟨a, ha, ea⟩ := nx_mask v1
  refine pr_xowner X.1 ea ha (fun t ht => pr_yowner X.1.1 y ea ha (fun t' ht' => ⟨?_, I0⟩))
  rw [pr_Lg_uniq X.1.1 ht ht']
theorem i_vc_length {k : Nat} {u : SX} {v : SY} (I : i_Rel k u v) (hk : k + 4 ≤ 2048) (v1 : Int32) : wpX_length (fun r => wpY_length (fun r' => r' = r ∧ i_Rel (k + 4) u v) v v1) u v1 := by
  have I0 := I
  obtain ⟨H, R, F, A, G, U, B, L, P, C, e1, e2, e3, e4, nd, sA, lA, pA, rfl, rfl, X, y⟩ := I
  obtain ⟨a, ha, ea⟩ := nx_mask v1
  refine pr_xlength X.1 ea ha (fun t ht => pr_ylength X.1.1 y ea ha (fun t' ht' => ⟨?_, I0⟩))
  rw [pr_Lg_uniq X.1.1 ht ht']
theorem i_vc_owned {k : Nat} {u : SX} {v : SY} (I : i_Rel k u v) (hk : k + 4 ≤ 2048) (v1 : Int32) : wpX_owned (fun r u' => wpY_owned (fun r' => r' = r ∧ i_Rel (k + 4) u' v) v v1) u v1 := by
  obtain ⟨H, R, F, A, G, U, B, L, P, C, e1, e2, e3, e4, nd, sA, lA, pA, rfl, rfl, X, y⟩ := I
  exact pr_vowned X y v1
theorem i_vc_next {k : Nat} {u : SX} {v : SY} (I : i_Rel k u v) (hk : k + 4 ≤ 2048) (v1 : Int32) (v2 : Int32) : wpX_next (fun r => wpY_next (fun r' => r' = r ∧ i_Rel (k + 4) u v) v v1 v2) u v1 v2 := by
  have I0 := I
  obtain ⟨H, R, F, A, G, U, B, L, P, C, e1, e2, e3, e4, nd, sA, lA, pA, rfl, rfl, X, y⟩ := I
  exact pr_vnext X y v1 v2 I0
theorem i_vc_useless {k : Nat} {u : SX} {v : SY} (I : i_Rel k u v) (hk : k + 4 ≤ 2048) : wpX_useless (fun r u' => wpY_useless (fun r' => r' = r ∧ i_Rel (k + 4) u' v) v) u := by
  obtain ⟨H, R, F, A, G, U, B, L, P, C, e1, e2, e3, e4, nd, sA, lA, pA, rfl, rfl, X, y⟩ := I
  exact pr_vuseless X y
theorem i_vc_entries {k : Nat} {u : SX} {v : SY} (I : i_Rel k u v) (hk : k + 4 ≤ 2048) (v1 : Int32) : wpX_entries (fun r => wpY_entries (fun r' => r' = r ∧ i_Rel (k + 4) u v) v v1) u v1 := by
  have I0 := I
  obtain ⟨H, R, F, A, G, U, B, L, P, C, e1, e2, e3, e4, nd, sA, lA, pA, rfl, rfl, X, y⟩ := I
  exact pr_ventries X y v1 I0
end
