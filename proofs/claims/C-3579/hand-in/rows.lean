section
theorem pk_us {f : Nat → Int32} {k : Nat} {x : Int32} : upd f k x k = x := if_pos rfl
theorem pk_un {f : Nat → Int32} {k j : Nat} {x : Int32} (h : j ≠ k) : upd f k x j = f j := if_neg h
theorem pk_sub {a b : Nat} (h : b ≤ a) : nI a - nI b = nI (a - b) := by
  obtain ⟨c, rfl⟩ : ∃ c, a = c + b := ⟨a - b, by omega⟩
  rw [← nI_add, Int32.add_sub_cancel, Nat.add_sub_cancel]
theorem pk_m1 (n : Nat) : nI (n + 1) + (-1) = nI n := by
  rw [← nI_1, Int32.add_assoc, show (1 : Int32) + (-1) = 0 from rfl, Int32.add_zero]
theorem pk_mul (a b : Nat) : nI a * nI b = nI (a * b) := (Int32.ofNat_mul a b).symm
theorem pk_ix (x : Int32) {n : Nat} (hn : n < 2 ^ 31) : x < 0 ∨ nI n ≤ x ∨ ∃ j : Nat, j < n ∧ x = nI j := by
  by_cases h : x < 0
  · exact Or.inl h
  · obtain ⟨j, hj, rfl⟩ := nI_of h
    by_cases h2 : j < n
    · exact Or.inr (Or.inr ⟨j, h2, rfl⟩)
    · exact Or.inr (Or.inl (nI_le (by omega) hj))
theorem pk_le {x y : Int32} {A B : Prop} (a b : Nat) (f : a ≤ b → A) (g : b < a → B) (hx : x = nI a := by rfl) (hy : y = nI b := by rfl) (ha : a < 2 ^ 31 := by omega) (hb : b < 2 ^ 31 := by omega) : (x ≤ y → A) ∧ (¬ x ≤ y → B) := by
  subst hx hy
  rw [nI_leI ha hb]
  exact ⟨f, fun z => g (by omega)⟩
theorem pk_lt {x y : Int32} {A B : Prop} (a b : Nat) (f : a < b → A) (g : b ≤ a → B) (hx : x = nI a := by rfl) (hy : y = nI b := by rfl) (ha : a < 2 ^ 31 := by omega) (hb : b < 2 ^ 31 := by omega) : (x < y → A) ∧ (¬ x < y → B) := by
  subst hx hy
  rw [nI_ltI ha hb]
  exact ⟨f, fun z => g (by omega)⟩
theorem pk_eq {x y : Int32} {A B : Prop} (a b : Nat) (f : a = b → A) (g : a ≠ b → B) (hx : x = nI a := by rfl) (hy : y = nI b := by rfl) (ha : a < 2 ^ 31 := by omega) (hb : b < 2 ^ 31 := by omega) : (x = y → A) ∧ (¬ x = y → B) := by
  subst hx hy
  rw [nI_eq ha hb]
  exact ⟨f, g⟩
theorem pk_in {x : Int32} (n N : Nat) (h : n < N) (hx : x = nI n := by rfl) (hN : N < 2 ^ 31 := by omega) : vp_in x N := by
  subst hx
  exact vp_in_nI h hN
theorem pk_cl {x : Int32} (n : Nat) (hx : x = nI n := by rfl) (h : n < 2 ^ 31 := by omega) : x.toNatClampNeg = n := by
  subst hx
  exact nI_clamp h
theorem pk_tn {n : Nat} (h : n < 2 ^ 32) : (nI n).toBitVec.toNat = n := Nat.mod_eq_of_lt h
theorem pk_and (x : Int32) {m : Int32} (k : Nat) (hm : m.toBitVec.toNat = 2 ^ k - 1) : x &&& m = nI (x.toBitVec.toNat % 2 ^ k) := by
  apply Int32.toBitVec_inj.mp
  apply BitVec.eq_of_toNat_eq
  rw [Int32.toBitVec_and, BitVec.toNat_and, hm, Nat.and_two_pow_sub_one_eq_mod]
  show _ = (BitVec.ofNat 32 _).toNat
  rw [BitVec.toNat_ofNat]
  exact (Nat.mod_eq_of_lt (Nat.lt_of_le_of_lt (Nat.mod_le _ _) x.toBitVec.isLt)).symm
theorem pk_andN {n : Nat} (h : n < 2 ^ 32) {m : Int32} (k : Nat) (hm : m.toBitVec.toNat = 2 ^ k - 1) : nI n &&& m = nI (n % 2 ^ k) := by
  rw [pk_and _ k hm, pk_tn h]
theorem pk_andE (x : Int32) {m : Int32} (k : Nat) (hm : m.toBitVec.toNat = 2 ^ k - 1) : ∃ j : Nat, j < 2 ^ k ∧ x &&& m = nI j := ⟨_, Nat.mod_lt _ (Nat.two_pow_pos k), pk_and x k hm⟩
theorem pk_andIn (x : Int32) {m : Int32} (k : Nat) (hm : m.toBitVec.toNat = 2 ^ k - 1) (hk : k ≤ 30) : vp_in (x &&& m) (2 ^ k) := by
  obtain ⟨j, hj, e⟩ := pk_andE x k hm
  rw [e]
  exact vp_in_nI hj (Nat.lt_of_le_of_lt (Nat.pow_le_pow_right (by decide) hk) (by decide))
theorem pk_shl (a s : Int32) (k : Nat) (hs : (s.toBitVec.smod 32).toNat = k) : (a <<< s).toBitVec.toNat = a.toBitVec.toNat * 2 ^ k % 2 ^ 32 := by
  show (a.toBitVec <<< (s.toBitVec.smod 32).toNat).toNat = _
  rw [hs, BitVec.toNat_shiftLeft, Nat.shiftLeft_eq]
theorem pk_shlN {n : Nat} (s : Int32) (k : Nat) (hs : (s.toBitVec.smod 32).toNat = k) (h : n * 2 ^ k < 2 ^ 32) : nI n <<< s = nI (n * 2 ^ k) := by
  apply Int32.toBitVec_inj.mp
  apply BitVec.eq_of_toNat_eq
  have hn : n < 2 ^ 32 := Nat.lt_of_le_of_lt (Nat.le_mul_of_pos_right n (Nat.two_pow_pos k)) h
  rw [pk_shl _ _ k hs, pk_tn hn, pk_tn h, Nat.mod_eq_of_lt h]
theorem pk_shr (a s : Int32) (k : Nat) (hs : (s.toBitVec.smod 32).toNat = k) : (a >>> s).toInt = a.toInt >>> k := by
  show (a.toBitVec.sshiftRight (s.toBitVec.smod 32).toNat).toInt = _
  rw [hs, BitVec.toInt_sshiftRight]
  rfl
theorem pk_shrN {n : Nat} (h : n < 2 ^ 31) (s : Int32) (k : Nat) (hs : (s.toBitVec.smod 32).toNat = k) : nI n >>> s = nI (n / 2 ^ k) := by
  apply Int32.toInt_inj.mp
  have h2 : n / 2 ^ k ≤ n := Nat.div_le_self _ _
  rw [pk_shr _ _ k hs, nI_toInt h, nI_toInt (by omega), Int.shiftRight_eq_div_pow]
  rfl
theorem pk_loop {σ : Type} (W : Nat → Nat → σ → Prop) (I : Nat → σ → Prop) (e i0 : Nat) (s : σ) (hi : i0 ≤ e) (h0 : I i0 s) (hx : ∀ n s, I e s → W (n + 1) e s)
    (hs : ∀ n i s, i < e → I i s → (∀ s', I (i + 1) s' → W n (i + 1) s') → W (n + 1) i s) : ∃ n, W n i0 s :=
  ⟨e + 1, loop_i W I e hx hs (e + 1) i0 s hi (by omega) h0⟩
theorem pk_least (P : Nat → Prop) (h : ∃ k, P k) : ∃ k, P k ∧ ∀ j, j < k → ¬ P j := by
  obtain ⟨k, hk⟩ := h
  induction k using Nat.strongRecOn with
  | ind k ih =>
    by_cases e : ∃ j, j < k ∧ P j
    · obtain ⟨j, hj, pj⟩ := e
      exact ih j hj pj
    · exact ⟨k, hk, fun j hj pj => e ⟨j, hj, pj⟩⟩
theorem co_4 {P : Nat → Prop} (h0 : P 0) (h1 : P 1) (h2 : P 2) (h3 : P 3) {i : Nat} (hi : i < 4) : P i :=
  match i, hi with
  | 0, _ => h0
  | 1, _ => h1
  | 2, _ => h2
  | 3, _ => h3
def bt (x : Int32) (i : Nat) : Bool := x.toBitVec.getLsbD i
theorem b_ext {x y : Int32} (h : ∀ i, i < 32 → bt x i = bt y i) : x = y := Int32.toBitVec_inj.mp (BitVec.eq_of_getLsbD_eq (fun i hi => h i hi))
theorem b_or (x y : Int32) (i : Nat) : bt (x ||| y) i = (bt x i || bt y i) := by unfold bt; rw [Int32.toBitVec_or, BitVec.getLsbD_or]
theorem b_and (x y : Int32) (i : Nat) : bt (x &&& y) i = (bt x i && bt y i) := by unfold bt; rw [Int32.toBitVec_and, BitVec.getLsbD_and]
theorem b_xor (x y : Int32) (i : Nat) : bt (x ^^^ y) i = (bt x i ^^ bt y i) := by unfold bt; rw [Int32.toBitVec_xor, BitVec.getLsbD_xor]
theorem b_big {x : Int32} {i : Nat} (h : 32 ≤ i) : bt x i = false := BitVec.getLsbD_of_ge _ _ h
theorem b_m1 : ∀ i, i < 32 → bt (-1) i = true := by decide +kernel
theorem b_0 (i : Nat) : bt 0 i = false := BitVec.getLsbD_zero
theorem s_l : ∀ n, n < 32 → ((nI n &&& 31).toBitVec.smod 32).toNat = n := by decide +kernel
theorem b_shl (n : Nat) (hn : n < 32) (x : Int32) {i : Nat} (hi : i < 32) : bt (x <<< (nI n &&& 31)) i = (decide (n ≤ i) && bt x (i - n)) := by
  unfold bt
  rw [Int32.toBitVec_shiftLeft]
  show (x.toBitVec <<< ((nI n &&& 31).toBitVec.smod 32).toNat).getLsbD i = _
  rw [s_l n hn, BitVec.getLsbD_shiftLeft]
  rcases Nat.lt_or_ge i n with h | h
  · simp [h, Nat.not_le.mpr h]
  · simp [hi, h, Nat.not_lt.mpr h]
theorem b_sshr (n : Nat) (hn : n < 32) (x : Int32) {i : Nat} (hi : i < 32) : bt (x >>> (nI n &&& 31)) i = if n + i < 32 then bt x (n + i) else bt x 31 := by
  unfold bt
  rw [Int32.toBitVec_shiftRight]
  show (x.toBitVec.sshiftRight ((nI n &&& 31).toBitVec.smod 32).toNat).getLsbD i = _
  rw [s_l n hn, BitVec.getLsbD_sshiftRight, BitVec.msb_eq_getLsbD_last]
  simp [hi]
theorem nx_and (a b : Nat) : nI a &&& nI b = nI (a &&& b) := by
  apply Int32.toBitVec_inj.1
  show BitVec.ofNat 32 a &&& BitVec.ofNat 32 b = BitVec.ofNat 32 (a &&& b)
  apply BitVec.eq_of_getLsbD_eq
  intro i hi
  simp [hi]
theorem nx_xor (a b : Nat) : nI a ^^^ nI b = nI (a ^^^ b) := by
  apply Int32.toBitVec_inj.1
  show BitVec.ofNat 32 a ^^^ BitVec.ofNat 32 b = BitVec.ofNat 32 (a ^^^ b)
  apply BitVec.eq_of_getLsbD_eq
  intro i hi
  simp [hi]
theorem wb_tb (n : Nat) : (lN n).toBitVec = BitVec.ofNat 64 n := rfl
theorem wb_inj {a b : Int64} (h : a.toBitVec = b.toBitVec) : a = b := Int64.toBitVec_inj.mp h
theorem wb_tn {n : Nat} (h : n < 2 ^ 64) : (lN n).toBitVec.toNat = n := by rw [wb_tb, BitVec.toNat_ofNat, Nat.mod_eq_of_lt h]
theorem wb_of (x : Int64) : ∃ n, n < 2 ^ 64 ∧ x = lN n := ⟨x.toBitVec.toNat, x.toBitVec.isLt, wb_inj (by rw [wb_tb]; simp)⟩
theorem wb_of32 (x : Int32) : ∃ n, n < 2 ^ 32 ∧ x = nI n := ⟨x.toBitVec.toNat, x.toBitVec.isLt, Int32.toBitVec_inj.mp (by show _ = BitVec.ofNat 32 _; simp)⟩
theorem wb_c : ∀ k, k < 64 → ((nI k).toInt64 &&& 63) = lN k := by decide +kernel
theorem wb_cu : ∀ k, k < 64 → ((nI k).toInt64.toUInt64 &&& Int64.toUInt64 63) = UInt64.ofNat k := by decide +kernel
theorem wb_sm : ∀ k, k < 64 → (BitVec.ofNat 64 k).smod 64 = BitVec.ofNat 64 k := by decide +kernel
theorem wb_pw {a b : Nat} (h : a ≤ b) : 2 ^ b = 2 ^ a * 2 ^ (b - a) := by rw [← Nat.pow_add]; congr 1; omega
theorem wb_lt2 {a b : Nat} (h : a < b) : 2 ^ a < 2 ^ b := Nat.pow_lt_pow_right (by decide) h
theorem wb_mod (n : Nat) : lN n = lN (n % 2 ^ 64) := wb_inj (by rw [wb_tb, wb_tb]; apply BitVec.eq_of_toNat_eq; rw [BitVec.toNat_ofNat, BitVec.toNat_ofNat, Nat.mod_mod])
theorem wb_shr {n k : Nat} (hn : n < 2 ^ 64) (hk : k < 64) : ((lN n).toUInt64 >>> ((nI k).toInt64.toUInt64 &&& Int64.toUInt64 63)).toInt64 = lN (n / 2 ^ k) := by
  rw [wb_cu k hk]
  apply wb_inj
  apply BitVec.eq_of_toNat_eq
  show ((lN n).toUInt64 >>> UInt64.ofNat k).toNat = (BitVec.ofNat 64 _).toNat
  have h1 : (UInt64.ofNat k).toNat = k := by
    show (BitVec.ofNat 64 k).toNat = k
    rw [BitVec.toNat_ofNat, Nat.mod_eq_of_lt (by omega)]
  have h2 : (lN n).toUInt64.toNat = n := wb_tn hn
  rw [UInt64.toNat_shiftRight, h1, h2, Nat.mod_eq_of_lt hk, Nat.shiftRight_eq_div_pow, BitVec.toNat_ofNat, Nat.mod_eq_of_lt (Nat.lt_of_le_of_lt (Nat.div_le_self _ _) hn)]
theorem wb_shl (n : Nat) {k : Nat} (hk : k < 64) : lN n <<< ((nI k).toInt64 &&& 63) = lN (n * 2 ^ k) := by
  rw [wb_c k hk]
  apply wb_inj
  rw [Int64.toBitVec_shiftLeft, wb_tb, wb_tb, wb_tb, wb_sm k hk]
  apply BitVec.eq_of_toNat_eq
  rw [BitVec.shiftLeft_eq', BitVec.toNat_shiftLeft, BitVec.toNat_ofNat, BitVec.toNat_ofNat, BitVec.toNat_ofNat, Nat.mod_eq_of_lt (show k < 2 ^ 64 by omega), Nat.shiftLeft_eq, Nat.mul_mod, Nat.mod_mod, ← Nat.mul_mod]
theorem wb_and {a b : Nat} (ha : a < 2 ^ 64) (hb : b < 2 ^ 64) : lN a &&& lN b = lN (a &&& b) := by
  apply wb_inj
  rw [Int64.toBitVec_and, wb_tb, wb_tb, wb_tb]
  apply BitVec.eq_of_toNat_eq
  rw [BitVec.toNat_and, BitVec.toNat_ofNat, BitVec.toNat_ofNat, BitVec.toNat_ofNat, Nat.mod_eq_of_lt ha, Nat.mod_eq_of_lt hb, Nat.mod_eq_of_lt (Nat.and_lt_two_pow _ hb)]
theorem wb_or {a b : Nat} (ha : a < 2 ^ 64) (hb : b < 2 ^ 64) : lN a ||| lN b = lN (a ||| b) := by
  apply wb_inj
  rw [Int64.toBitVec_or, wb_tb, wb_tb, wb_tb]
  apply BitVec.eq_of_toNat_eq
  rw [BitVec.toNat_or, BitVec.toNat_ofNat, BitVec.toNat_ofNat, BitVec.toNat_ofNat, Nat.mod_eq_of_lt ha, Nat.mod_eq_of_lt hb, Nat.mod_eq_of_lt (Nat.or_lt_two_pow ha hb)]
theorem wb_mask {n k : Nat} (hn : n < 2 ^ 64) (hk : k < 64) : lN n &&& lN (2 ^ k - 1) = lN (n % 2 ^ k) := by
  rw [wb_and hn (by have := wb_lt2 hk; omega), Nat.and_two_pow_sub_one_eq_mod]
theorem wb_a1 {n : Nat} (hn : n < 2 ^ 64) : lN n &&& 1 = lN (n % 2) := wb_mask (k := 1) hn (by decide)
theorem wb_bit {n k : Nat} (hn : n < 2 ^ 64) (hk : k < 64) : ((lN n).toUInt64 >>> ((nI k).toInt64.toUInt64 &&& Int64.toUInt64 63)).toInt64 &&& 1 = lN (n / 2 ^ k % 2) := by
  rw [wb_shr hn hk, wb_a1 (Nat.lt_of_le_of_lt (Nat.div_le_self _ _) hn)]
theorem wb_xor {q k : Nat} (hk : k < 63) (h : 2 ^ k ≤ q) (h2 : q < 2 ^ (k + 1)) : lN q ^^^ lN (2 ^ k) = lN (q - 2 ^ k) := by
  obtain ⟨r, rfl⟩ : ∃ r, q = 2 ^ k + r := ⟨q - 2 ^ k, by omega⟩
  have hr : r < 2 ^ k := by rw [Nat.pow_succ] at h2; omega
  have hx : (2 ^ k + r) ^^^ 2 ^ k = r := by
    apply Nat.eq_of_testBit_eq
    intro i
    rw [Nat.testBit_xor, Nat.testBit_two_pow]
    rcases Nat.lt_trichotomy i k with h | h | h
    · rw [Nat.testBit_two_pow_add_gt h]
      simp [show ¬ k = i by omega]
    · subst h
      rw [Nat.testBit_two_pow_add_eq]
      simp
    · have a1 : 2 ^ (k + 1) ≤ 2 ^ i := Nat.pow_le_pow_right (by decide) h
      rw [Nat.testBit_lt_two_pow (show 2 ^ k + r < 2 ^ i by omega), Nat.testBit_lt_two_pow (show r < 2 ^ i by omega)]
      simp [show ¬ k = i by omega]
  have b1 := wb_lt2 (show k + 1 < 64 by omega)
  have b2 := wb_lt2 (show k < 64 by omega)
  apply wb_inj
  rw [Int64.toBitVec_xor, wb_tb, wb_tb, wb_tb]
  apply BitVec.eq_of_toNat_eq
  rw [BitVec.toNat_xor, BitVec.toNat_ofNat, BitVec.toNat_ofNat, BitVec.toNat_ofNat, Nat.mod_eq_of_lt (by omega : 2 ^ k + r < 2 ^ 64), Nat.mod_eq_of_lt b2, hx, Nat.add_sub_cancel_left, Nat.mod_eq_of_lt (by omega)]
end
section
/-! sets below 16 as naturals: bits, subsets, removal; digits and masks; structures; finite tables -/
def sl_bit (v P : Nat) : Bool := P / 2 ^ v % 2 == 1
def sl_sub (P t : Nat) : Bool := P &&& t == P
def sl_pc (P : Nat) : Nat := 0 + P / 2 ^ 0 % 2 + P / 2 ^ 1 % 2 + P / 2 ^ 2 % 2 + P / 2 ^ 3 % 2
def sl_rm (t v : Nat) : Nat := if sl_bit v t then t - 2 ^ v else t
def sl_mk (v d : Nat) : Nat := d % 2 ^ v + d / 2 ^ v * 2 ^ (v + 1)
def sl_dg (v P : Nat) : Nat := P % 2 ^ v + P / 2 ^ (v + 1) * 2 ^ v
def sl_dt (s v : Nat) : Nat := s / 8 ^ (3 - v) % 8
def sl_par (s v : Nat) : Nat := sl_mk v (sl_dt s v)
def sl_stp (Q : Nat → Nat) (t v : Nat) : Nat := if sl_sub (Q v) t then t ||| 2 ^ v else t
def sl_row (Q : Nat → Nat) (t : Nat) : Nat := sl_stp Q (sl_stp Q (sl_stp Q (sl_stp Q t 0) 1) 2) 3
def sl_tk (Q : Nat → Nat) : Nat := sl_row Q (sl_row Q (sl_row Q (sl_row Q 0)))
def sl_noc (s : Nat) : Bool := sl_tk (sl_par s) == 15
def sl_perm (a b c d : Nat) : Bool := (2 ^ a ||| 2 ^ b ||| 2 ^ c ||| 2 ^ d) == 15
def sl_fol (s a b c : Nat) : Bool := sl_par s a == 0 && (sl_sub (sl_par s b) (2 ^ a) && sl_sub (sl_par s c) (2 ^ a ||| 2 ^ b))
def sl_mks (d0 d1 d2 d3 : Nat) : Nat := d0 * 512 + d1 * 64 + d2 * 8 + d3
def sl_all (n : Nat) (f : Nat → Bool) : Bool := match n with
  | 0 => true
  | n + 1 => f n && sl_all n f
theorem sl_all_of {f : Nat → Bool} : ∀ {n : Nat}, sl_all n f = true → ∀ i, i < n → f i = true := by
  intro n
  induction n with
  | zero => intro _ i hi; omega
  | succ n ih =>
    intro h i hi
    have h2 : (f n && sl_all n f) = true := h
    rw [Bool.and_eq_true] at h2
    rcases Nat.lt_or_ge i n with z | z
    · exact ih h2.2 i z
    · have e : i = n := by omega
      rw [e]; exact h2.1
def sl_any (n : Nat) (f : Nat → Bool) : Bool := match n with
  | 0 => false
  | n + 1 => f n || sl_any n f
theorem sl_any_of {f : Nat → Bool} : ∀ {n : Nat}, sl_any n f = true → ∃ i, i < n ∧ f i = true := by
  intro n
  induction n with
  | zero => intro h; exact absurd (show false = true from h) Bool.false_ne_true
  | succ n ih =>
    intro h
    have h2 : (f n || sl_any n f) = true := h
    rw [Bool.or_eq_true] at h2
    rcases h2 with z | z
    · exact ⟨n, by omega, z⟩
    · obtain ⟨i, hi, e⟩ := ih z
      exact ⟨i, by omega, e⟩
theorem sl_le4 {P : Nat → Prop} (h0 : P 0) (h1 : P 1) (h2 : P 2) (h3 : P 3) : ∀ i, i < 4 → P i := fun _ hi => co_4 h0 h1 h2 h3 hi
/-! Int32's operations at small numbers -/
theorem sl_tbit : ∀ v, v < 4 → ∀ P, P < 16 → ((nI P >>> (nI v &&& 31)) &&& 1) = nI (P / 2 ^ v % 2) := by decide +kernel
theorem sl_tbit1 : ∀ v, v < 4 → ∀ P, P < 16 → (((nI P >>> (nI v &&& 31)) &&& 1) = 1 ↔ sl_bit v P = true) := by decide +kernel
theorem sl_tbit0 : ∀ v, v < 4 → ∀ P, P < 16 → (((nI P >>> (nI v &&& 31)) &&& 1) = 0 ↔ sl_bit v P = false) := by decide +kernel
theorem sl_t1 : ∀ v, v < 4 → (1 : Int32) <<< (nI v &&& 31) = nI (2 ^ v) := by decide +kernel
theorem sl_trm : ∀ v, v < 4 → ∀ P, P < 16 → nI P &&& (((1 : Int32) <<< (nI v &&& 31)) ^^^ (-1)) = nI (sl_rm P v) := by decide +kernel
theorem sl_tsub : ∀ P, P < 16 → ∀ t, t < 16 → ((nI P &&& (nI t ^^^ (-1))) = 0 ↔ sl_sub P t = true) := by decide +kernel
theorem sl_tor : ∀ v, v < 4 → ∀ t, t < 16 → nI t ||| ((1 : Int32) <<< (nI v &&& 31)) = nI (t ||| 2 ^ v) := by decide +kernel
theorem sl_tmk : ∀ v, v < 4 → ∀ d, d < 8 → ((nI d &&& (((1 : Int32) <<< (nI v &&& 31)) - 1)) ||| ((nI d >>> (nI v &&& 31)) <<< ((nI v + 1) &&& 31))) = nI (sl_mk v d) := by decide +kernel
theorem sl_tdg : ∀ v, v < 4 → ∀ P, P < 16 → ((nI P &&& (((1 : Int32) <<< (nI v &&& 31)) - 1)) ||| ((nI P >>> ((nI v + 1) &&& 31)) <<< (nI v &&& 31))) = nI (sl_dg v P) := by decide +kernel
theorem sl_tpc : ∀ P, P < 16 → ((((nI P &&& 1) + ((nI P >>> ((1 : Int32) &&& 31)) &&& 1)) + ((nI P >>> ((2 : Int32) &&& 31)) &&& 1)) + ((nI P >>> ((3 : Int32) &&& 31)) &&& 1)) = nI (sl_pc P) := by decide +kernel
theorem sl_tmb : ∀ v, v < 4 → ∀ P, P < 16 → ∀ t, t < 16 → ((nI P &&& nI t) = 0 ↔ (P &&& t) = 0) := by decide +kernel
theorem sl_ix (v r : Nat) : nI v * 16 + nI r = nI (v * 16 + r) := by
  rw [show (16 : Int32) = nI 16 from rfl, pk_mul, nI_add]
theorem sl_ix8 (v r : Nat) : nI v * 8 + nI r = nI (v * 8 + r) := by
  rw [show (8 : Int32) = nI 8 from rfl, pk_mul, nI_add]
theorem sl_ix4 (v r : Nat) : nI v * 4 + nI r = nI (v * 4 + r) := by
  rw [show (4 : Int32) = nI 4 from rfl, pk_mul, nI_add]
/-! naturals: tables -/
theorem sl_rm_lt : ∀ v, v < 4 → ∀ t, t < 16 → sl_bit v t = true → sl_rm t v < t := by decide +kernel
theorem sl_rm_16 : ∀ v, v < 4 → ∀ t, t < 16 → sl_rm t v < 16 := by decide +kernel
theorem sl_rm_ne : ∀ v, v < 4 → ∀ t, t < 16 → (sl_rm t v = t ↔ sl_bit v t = false) := by decide +kernel
theorem sl_sub_rm : ∀ P, P < 16 → ∀ t, t < 16 → sl_sub P t = true → P = t ∨ ∃ v, v < 4 ∧ sl_bit v t = true ∧ sl_sub P (sl_rm t v) = true := by decide +kernel
theorem sl_rm_sub : ∀ v, v < 4 → ∀ t, t < 16 → ∀ P, P < 16 → sl_sub P (sl_rm t v) = true → sl_sub P t = true := by decide +kernel
theorem sl_sub_lt {P t : Nat} (ht : t < 16) (h : sl_sub P t = true) : P < 16 := by
  have e : P &&& t = P := by simpa [sl_sub] using h
  have h2 : P &&& t ≤ t := Nat.and_le_right
  omega
theorem sl_sub_self (P : Nat) : sl_sub P P = true := by simp [sl_sub]
theorem sl_mk_16 : ∀ v, v < 4 → ∀ d, d < 8 → sl_mk v d < 16 := by decide +kernel
theorem sl_mk_bit : ∀ v, v < 4 → ∀ d, d < 8 → sl_bit v (sl_mk v d) = false := by decide +kernel
theorem sl_dg_mk : ∀ v, v < 4 → ∀ d, d < 8 → sl_dg v (sl_mk v d) = d := by decide +kernel
theorem sl_mk_dg : ∀ v, v < 4 → ∀ P, P < 16 → sl_bit v P = false → sl_mk v (sl_dg v P) = P := by decide +kernel
theorem sl_dg_8 : ∀ v, v < 4 → ∀ P, P < 16 → sl_dg v P < 8 := by decide +kernel
theorem sl_mk_le : ∀ v, v < 4 → ∀ d, d < 8 → ∀ e, e < 8 → (sl_mk v d ≤ sl_mk v e ↔ d ≤ e) := by decide +kernel
theorem sl_pc_4 : ∀ P, P < 16 → sl_pc P ≤ 4 := by decide +kernel
theorem sl_dt_8 (s v : Nat) : sl_dt s v < 8 := Nat.mod_lt _ (by decide)
theorem sl_par_16 {s v : Nat} (hv : v < 4) : sl_par s v < 16 := sl_mk_16 v hv _ (sl_dt_8 s v)
theorem sl_par_bit {s v : Nat} (hv : v < 4) : sl_bit v (sl_par s v) = false := sl_mk_bit v hv _ (sl_dt_8 s v)
theorem sl_mks_lt {d0 d1 d2 d3 : Nat} (h0 : d0 < 8) (h1 : d1 < 8) (h2 : d2 < 8) (h3 : d3 < 8) : sl_mks d0 d1 d2 d3 < 4096 := by
  unfold sl_mks; omega
theorem sl_mks_0 {d0 d1 d2 d3 : Nat} (h0 : d0 < 8) (h1 : d1 < 8) (h2 : d2 < 8) (h3 : d3 < 8) : sl_dt (sl_mks d0 d1 d2 d3) 0 = d0 := by
  show (d0 * 512 + d1 * 64 + d2 * 8 + d3) / 512 % 8 = d0
  omega
theorem sl_mks_1 {d0 d1 d2 d3 : Nat} (h0 : d0 < 8) (h1 : d1 < 8) (h2 : d2 < 8) (h3 : d3 < 8) : sl_dt (sl_mks d0 d1 d2 d3) 1 = d1 := by
  show (d0 * 512 + d1 * 64 + d2 * 8 + d3) / 64 % 8 = d1
  omega
theorem sl_mks_2 {d0 d1 d2 d3 : Nat} (h0 : d0 < 8) (h1 : d1 < 8) (h2 : d2 < 8) (h3 : d3 < 8) : sl_dt (sl_mks d0 d1 d2 d3) 2 = d2 := by
  show (d0 * 512 + d1 * 64 + d2 * 8 + d3) / 8 % 8 = d2
  omega
theorem sl_mks_3 {d0 d1 d2 d3 : Nat} (h0 : d0 < 8) (h1 : d1 < 8) (h2 : d2 < 8) (h3 : d3 < 8) : sl_dt (sl_mks d0 d1 d2 d3) 3 = d3 := by
  show (d0 * 512 + d1 * 64 + d2 * 8 + d3) / 1 % 8 = d3
  omega
/-- the structure with given parents -/
def sl_str (Q : Nat → Nat) : Nat := sl_mks (sl_dg 0 (Q 0)) (sl_dg 1 (Q 1)) (sl_dg 2 (Q 2)) (sl_dg 3 (Q 3))
theorem sl_str_lt {Q : Nat → Nat} (h : ∀ v, v < 4 → Q v < 16) : sl_str Q < 4096 :=
  sl_mks_lt (sl_dg_8 0 (by decide) _ (h 0 (by decide))) (sl_dg_8 1 (by decide) _ (h 1 (by decide))) (sl_dg_8 2 (by decide) _ (h 2 (by decide))) (sl_dg_8 3 (by decide) _ (h 3 (by decide)))
theorem sl_str_par {Q : Nat → Nat} (h : ∀ v, v < 4 → Q v < 16) (hb : ∀ v, v < 4 → sl_bit v (Q v) = false) : ∀ v, v < 4 → sl_par (sl_str Q) v = Q v := by
  have h0 := sl_dg_8 0 (by decide) _ (h 0 (by decide))
  have h1 := sl_dg_8 1 (by decide) _ (h 1 (by decide))
  have h2 := sl_dg_8 2 (by decide) _ (h 2 (by decide))
  have h3 := sl_dg_8 3 (by decide) _ (h 3 (by decide))
  apply sl_le4
  · unfold sl_par sl_str; rw [sl_mks_0 h0 h1 h2 h3]; exact sl_mk_dg 0 (by decide) _ (h 0 (by decide)) (hb 0 (by decide))
  · unfold sl_par sl_str; rw [sl_mks_1 h0 h1 h2 h3]; exact sl_mk_dg 1 (by decide) _ (h 1 (by decide)) (hb 1 (by decide))
  · unfold sl_par sl_str; rw [sl_mks_2 h0 h1 h2 h3]; exact sl_mk_dg 2 (by decide) _ (h 2 (by decide)) (hb 2 (by decide))
  · unfold sl_par sl_str; rw [sl_mks_3 h0 h1 h2 h3]; exact sl_mk_dg 3 (by decide) _ (h 3 (by decide)) (hb 3 (by decide))
theorem sl_digits {s : Nat} (hs : s < 4096) : s = sl_mks (sl_dt s 0) (sl_dt s 1) (sl_dt s 2) (sl_dt s 3) := by
  show s = s / 512 % 8 * 512 + s / 64 % 8 * 64 + s / 8 % 8 * 8 + s / 1 % 8
  omega
theorem sl_tdt {s v : Nat} (hs : s < 4096) (hv : v < 4) : ((nI s >>> ((3 * (3 - nI v)) &&& 31)) &&& 7) = nI (sl_dt s v) := by
  revert v
  apply sl_le4
  · rw [pk_shrN (by omega) _ 9 (by decide), pk_andN (by omega) 3 (by decide)]; rfl
  · rw [pk_shrN (by omega) _ 6 (by decide), pk_andN (by omega) 3 (by decide)]; rfl
  · rw [pk_shrN (by omega) _ 3 (by decide), pk_andN (by omega) 3 (by decide)]; rfl
  · rw [pk_shrN (by omega) _ 0 (by decide), pk_andN (by omega) 3 (by decide)]; rfl
/-! no circle: some order is followed -/
def sl_ca (k : Nat) : Nat := k % 4
def sl_cb (k : Nat) : Nat := k / 4 % 4
def sl_cc (k : Nat) : Nat := k / 16 % 4
def sl_cd (k : Nat) : Nat := k / 64 % 4
theorem sl_noc_ex1 : sl_all 4096 (fun s => !sl_noc s || sl_any 256 (fun k => sl_perm (sl_ca k) (sl_cb k) (sl_cc k) (sl_cd k) && sl_fol s (sl_ca k) (sl_cb k) (sl_cc k))) = true := by decide +kernel
theorem sl_fol_noc1 : sl_all 256 (fun k => !sl_perm (sl_ca k) (sl_cb k) (sl_cc k) (sl_cd k) || sl_all 4096 (fun s => !sl_fol s (sl_ca k) (sl_cb k) (sl_cc k) || sl_noc s)) = true := by decide +kernel
theorem sl_noc_ex {s : Nat} (hs : s < 4096) (h : sl_noc s = true) : ∃ a b c d, a < 4 ∧ b < 4 ∧ c < 4 ∧ d < 4 ∧ sl_perm a b c d = true ∧ sl_fol s a b c = true := by
  have t := sl_all_of sl_noc_ex1 s hs
  have t2 : (!sl_noc s || sl_any 256 (fun k => sl_perm (sl_ca k) (sl_cb k) (sl_cc k) (sl_cd k) && sl_fol s (sl_ca k) (sl_cb k) (sl_cc k))) = true := t
  rw [h, Bool.not_true, Bool.false_or] at t2
  obtain ⟨k, _, e⟩ := sl_any_of t2
  rw [Bool.and_eq_true] at e
  exact ⟨sl_ca k, sl_cb k, sl_cc k, sl_cd k, Nat.mod_lt _ (by decide), Nat.mod_lt _ (by decide), Nat.mod_lt _ (by decide), Nat.mod_lt _ (by decide), e.1, e.2⟩
theorem sl_cod {a b c d : Nat} (ha : a < 4) (hb : b < 4) (hc : c < 4) (hd : d < 4) : ∃ k, k < 256 ∧ sl_ca k = a ∧ sl_cb k = b ∧ sl_cc k = c ∧ sl_cd k = d := by
  refine ⟨a + 4 * b + 16 * c + 64 * d, by omega, ?_, ?_, ?_, ?_⟩
  · unfold sl_ca; omega
  · unfold sl_cb; omega
  · unfold sl_cc; omega
  · unfold sl_cd; omega
theorem sl_fol_noc {s a b c d : Nat} (hs : s < 4096) (ha : a < 4) (hb : b < 4) (hc : c < 4) (hd : d < 4) (hp : sl_perm a b c d = true) (hf : sl_fol s a b c = true) : sl_noc s = true := by
  obtain ⟨k, hk, ea, eb, ec, ed⟩ := sl_cod ha hb hc hd
  have t := sl_all_of sl_fol_noc1 k hk
  have t2 : (!sl_perm (sl_ca k) (sl_cb k) (sl_cc k) (sl_cd k) || sl_all 4096 (fun s => !sl_fol s (sl_ca k) (sl_cb k) (sl_cc k) || sl_noc s)) = true := t
  rw [ea, eb, ec, ed, hp, Bool.not_true, Bool.false_or] at t2
  have t3 := sl_all_of t2 s hs
  have t4 : (!sl_fol s a b c || sl_noc s) = true := t3
  rw [hf, Bool.not_true, Bool.false_or] at t4
  exact t4
end
section
/-! X: the small methods -/
section
variable {m : Int32} {sc fb rq fx mu mn wi bo wa : Nat → Int32}
theorem sl_in4 {i : Nat} (hi : i < 4) : vp_in (nI i) 4 := vp_in_nI hi (by decide)
theorem sl_in16 {i : Nat} (hi : i < 16) : vp_in (nI i) 16 := vp_in_nI hi (by decide)
theorem sl_in64 {i : Nat} (hi : i < 64) : vp_in (nI i) 64 := vp_in_nI hi (by decide)
theorem sl_c4 {i : Nat} (hi : i < 4) : (nI i).toNatClampNeg = i := nI_clamp (by omega)
theorem sl_c16 {i : Nat} (hi : i < 16) : (nI i).toNatClampNeg = i := nI_clamp (by omega)
theorem sl_c64 {i : Nat} (hi : i < 64) : (nI i).toNatClampNeg = i := nI_clamp (by omega)
theorem sl_n4 {i : Nat} (hi : i < 4) : ¬ (4 : Int32) ≤ nI i := nI_ge (b := 4) hi (by decide)
theorem sl_y4 : (4 : Int32) ≤ nI 4 := by decide
theorem sl_n16 {i : Nat} (hi : i < 16) : ¬ (16 : Int32) ≤ nI i := nI_ge (b := 16) hi (by decide)
theorem sl_y16 : (16 : Int32) ≤ nI 16 := by decide
theorem sl_bad {post : Int32 → Prop} (p : Int32) (K1 : p < 0 ∨ 4 ≤ p → post 1) (K0 : ∀ v, v < 4 → p = nI v → post 0) : wpX_bad post p := by
  rcases pk_ix p (n := 4) (by decide) with h | h | ⟨j, hj, e⟩
  · exact br_t h (K1 (Or.inl h))
  · have h4 : (4 : Int32) ≤ p := h
    have h0 : ¬ p < 0 := by
      rw [Int32.lt_iff_toInt_lt]; rw [Int32.le_iff_toInt_le, show (4 : Int32).toInt = 4 from by decide] at h4
      rw [show (0 : Int32).toInt = 0 from by decide]; omega
    have h5 : ¬ p < 4 := Int32.not_lt.mpr h4
    exact br_f h0 (br_f h5 (K1 (Or.inr h4)))
  · subst e
    have h5 : nI j < 4 := nI_lt (b := 4) hj (by decide)
    exact br_f (nI_pos (by omega)) (br_t h5 (K0 j hj rfl))
theorem sl_badParents {post : Int32 → Prop} {v P : Nat} (hv : v < 4) (hP : P < 16) (K1 : sl_bit v P = true → post 1) (K0 : sl_bit v P = false → post 0) : wpX_badParents post (nI v) (nI P) := by
  refine br_f (nI_pos (by omega)) (br_f (sl_n16 hP) (br_c ?_ ?_))
  · intro h; exact K1 ((sl_tbit1 v hv P hP).mp h)
  · intro h; exact K0 (Bool.eq_false_iff.mpr (fun z => h ((sl_tbit1 v hv P hP).mpr z)))
theorem sl_size_s {post : Int32 → Prop} {P n a i : Nat} (hP : P < 16) (hi : i < 4) (h : wX_size_4 post (nI P) n (nI (a + P / 2 ^ i % 2)) (nI (i + 1))) : wX_size_4 post (nI P) (n + 1) (nI a) (nI i) := by
  refine br_f (sl_n4 hi) (nm_r (e' := nI (a + P / 2 ^ i % 2)) ?_ (nm_r (nI_1 i) h))
  rw [sl_tbit i hi P hP, nI_add]
theorem sl_size {post : Int32 → Prop} {P : Nat} (hP : P < 16) (K : post (nI (sl_pc P))) : wpX_size post (nI P) :=
  ⟨5, sl_size_s (i := 0) hP (by decide) (sl_size_s (i := 1) hP (by decide) (sl_size_s (i := 2) hP (by decide) (sl_size_s (i := 3) hP (by decide) (br_t sl_y4 K))))⟩
theorem sl_nd_s {post : SX → Prop} {i n : Nat} (hi : i < 4) (h : wX_noDemands_2 post m n (nI (i + 1)) sc fb rq (upd fx i (-1)) (upd mu i 0) (upd mn i 0) wi bo wa) : wX_noDemands_2 post m (n + 1) (nI i) sc fb rq fx mu mn wi bo wa := by
  refine br_f (sl_n4 hi) ⟨sl_in4 hi, ?_⟩
  rw [sl_c4 hi]
  exact nm_e ⟨sl_in4 hi, nm_e ⟨sl_in4 hi, nm_e (nm_r (nI_1 i) h)⟩⟩
theorem sl_noDemands {post : SX → Prop} (K : ∀ fx mu mn : Nat → Int32, (∀ j, j < 4 → fx j = -1) → (∀ j, j < 4 → mu j = 0) → (∀ j, j < 4 → mn j = 0) → post (m, sc, fb, rq, fx, mu, mn, wi, bo, wa)) : wpX_noDemands post (m, sc, fb, rq, fx, mu, mn, wi, bo, wa) :=
  ⟨5, sl_nd_s (i := 0) (by decide) (sl_nd_s (i := 1) (by decide) (sl_nd_s (i := 2) (by decide) (sl_nd_s (i := 3) (by decide) (br_t sl_y4 (K _ _ _ (sl_le4 rfl rfl rfl rfl) (sl_le4 rfl rfl rfl rfl) (sl_le4 rfl rfl rfl rfl))))))⟩
/-- X's allowed parents, with the demands -/
def sl_XA (m : Int32) (fb rq fx mu mn : Nat → Int32) (v P : Nat) : Prop :=
  sl_bit v P = false ∧ (fx v < 0 ∨ fx v = nI P) ∧ ¬ m < nI (sl_pc P) ∧ nI P &&& (fb v ||| mn v) = 0 ∧ nI P &&& (rq v ||| mu v) = (rq v ||| mu v)
theorem sl_isA31 {post : Int32 → Prop} {v P : Nat} (hv : v < 4) (hP : P < 16) (K1 : (¬ m < nI (sl_pc P) ∧ nI P &&& (fb v ||| mn v) = 0 ∧ nI P &&& (rq v ||| mu v) = (rq v ||| mu v)) → post 1) (K0 : ¬ (¬ m < nI (sl_pc P) ∧ nI P &&& (fb v ||| mn v) = 0 ∧ nI P &&& (rq v ||| mu v) = (rq v ||| mu v)) → post 0) : wX_isAllowed_31 post (nI v) (nI P) m sc fb rq fx mu mn wi bo wa := by
  unfold wX_isAllowed_31
  refine sl_size hP ?_
  rw [sl_c4 hv]
  refine ⟨sl_in4 hv, sl_in4 hv, nm_e (br_c ?_ ?_)⟩
  · intro h; exact K0 (fun z => z.1 h)
  · intro h
    refine ⟨sl_in4 hv, sl_in4 hv, br_c ?_ ?_⟩
    · intro h2
      refine br_c ?_ ?_
      · intro h3; exact K1 ⟨h, h2, h3⟩
      · intro h3; exact K0 (fun z => h3 z.2.2)
    · intro h2; exact K0 (fun z => h2 z.2.1)
theorem sl_isAllowed {post : Int32 → Prop} {v P : Nat} (hv : v < 4) (hP : P < 16) (K1 : sl_XA m fb rq fx mu mn v P → post 1) (K0 : ¬ sl_XA m fb rq fx mu mn v P → post 0) : wpX_isAllowed post (m, sc, fb, rq, fx, mu, mn, wi, bo, wa) (nI v) (nI P) := by
  unfold wpX_isAllowed
  refine sl_badParents hv hP ?_ ?_
  · intro hb
    refine br_f (by decide) (K0 ?_)
    intro z
    rw [z.1] at hb
    exact absurd hb (by decide)
  · intro hb
    refine br_t rfl ⟨sl_in4 hv, ?_⟩
    rw [sl_c4 hv]
    refine br_c ?_ ?_
    · intro h
      exact sl_isA31 hv hP (fun z => K1 ⟨hb, Or.inl h, z⟩) (fun z => K0 (fun y => z y.2.2))
    · intro h
      refine ⟨sl_in4 hv, br_c ?_ ?_⟩
      · intro h2
        exact sl_isA31 hv hP (fun z => K1 ⟨hb, Or.inr h2, z⟩) (fun z => K0 (fun y => z y.2.2))
      · intro h2
        exact K0 (fun y => y.2.1.elim h h2)
end
end
section
/-! X: the table of best parents within a set -/
def sl_Mx (S : Int → Prop) (w : Int) : Prop := (∀ x, S x → x ≤ w) ∧ (S w ∨ (w = -100000 ∧ ∀ x, ¬ S x))
theorem sl_mx_of {S : Int → Prop} {w : Int} (hu : ∀ x, S x → x ≤ w) (hl : ∀ x, S x → -50000 ≤ x) (h : S w ∨ w = -100000) : sl_Mx S w := by
  refine ⟨hu, ?_⟩
  rcases h with h | h
  · exact Or.inl h
  · refine Or.inr ⟨h, fun x hx => ?_⟩
    have h1 := hu x hx
    have h2 := hl x hx
    omega
theorem sl_mx_uniq {S : Int → Prop} {w w' : Int} (hl : ∀ x, S x → -50000 ≤ x) (h : sl_Mx S w) (h' : sl_Mx S w') : w = w' := by
  rcases h.2 with a | a
  · rcases h'.2 with b | b
    · have h1 := h.1 _ b
      have h2 := h'.1 _ a
      omega
    · exact absurd a (b.2 _)
  · rcases h'.2 with b | b
    · exact absurd b (a.2 _)
    · omega
theorem sl_mx_congr {S S' : Int → Prop} {w : Int} (e : ∀ x, S x ↔ S' x) (h : sl_Mx S w) : sl_Mx S' w := by
  refine ⟨fun x hx => h.1 x ((e x).mpr hx), ?_⟩
  rcases h.2 with a | a
  · exact Or.inl ((e _).mp a)
  · exact Or.inr ⟨a.1, fun x hx => a.2 x ((e x).mpr hx)⟩
def sl_Rng (sc : Nat → Int32) : Prop := ∀ i, i < 64 → -1000 ≤ (sc i).toInt ∧ (sc i).toInt ≤ 1000
def sl_WS (sc : Nat → Int32) (A : Nat → Nat → Prop) (v t : Nat) (x : Int) : Prop := ∃ P, sl_sub P t = true ∧ A v P ∧ x = (sc (v * 16 + P)).toInt
def sl_WOK (sc : Nat → Int32) (A : Nat → Nat → Prop) (w : Nat → Int32) (v t : Nat) : Prop := sl_Mx (sl_WS sc A v t) (w (v * 16 + t)).toInt
theorem sl_WS_r {sc : Nat → Int32} {A : Nat → Nat → Prop} {v t : Nat} (hsc : sl_Rng sc) (hv : v < 4) (ht : t < 16) {x : Int} (h : sl_WS sc A v t x) : -1000 ≤ x ∧ x ≤ 1000 := by
  obtain ⟨P, h1, _, rfl⟩ := h
  have := sl_sub_lt ht h1
  exact hsc _ (by omega)
theorem sl_none : (-100000 : Int32).toInt = -100000 := by decide
theorem sl_wok_step {sc w : Nat → Int32} {A : Nat → Nat → Prop} {v t : Nat} {st b : Int32} (hsc : sl_Rng sc) (hv : v < 4) (ht : t < 16)
    (hst : (A v t ∧ st = sc (v * 16 + t)) ∨ (¬ A v t ∧ st = -100000))
    (hb1 : ∀ u, u < 4 → sl_bit u t = true → w (v * 16 + sl_rm t u) ≤ b) (hb2 : st ≤ b)
    (hb3 : b = st ∨ ∃ u, u < 4 ∧ sl_bit u t = true ∧ b = w (v * 16 + sl_rm t u))
    (hp : ∀ t', t' < t → sl_WOK sc A w v t') : sl_Mx (sl_WS sc A v t) b.toInt := by
  refine sl_mx_of ?_ ?_ ?_
  · rintro x ⟨P, h1, h2, rfl⟩
    have hP := sl_sub_lt ht h1
    rcases sl_sub_rm P hP t ht h1 with e | ⟨u, hu, hbu, hs⟩
    · subst e
      rcases hst with ⟨_, e2⟩ | ⟨n, _⟩
      · rw [← e2]; exact Int32.le_iff_toInt_le.mp hb2
      · exact absurd h2 n
    · have a := (hp _ (sl_rm_lt u hu t ht hbu)).1 _ ⟨P, hs, h2, rfl⟩
      have c := Int32.le_iff_toInt_le.mp (hb1 u hu hbu)
      omega
  · intro x hx
    have := sl_WS_r hsc hv ht hx
    omega
  · rcases hb3 with e | ⟨u, hu, hbu, e⟩
    · rcases hst with ⟨a, e2⟩ | ⟨_, e2⟩
      · exact Or.inl ⟨t, sl_sub_self t, a, by rw [e, e2]⟩
      · exact Or.inr (by rw [e, e2]; exact sl_none)
    · rcases (hp _ (sl_rm_lt u hu t ht hbu)).2 with ⟨P, h1, h2, h3⟩ | ⟨h1, _⟩
      · have hr := sl_rm_16 u hu t ht
        exact Or.inl ⟨P, sl_rm_sub u hu t ht P (sl_sub_lt hr h1) h1, h2, by rw [e]; exact h3⟩
      · exact Or.inr (by rw [e]; exact h1)
section
variable {m : Int32} {sc fb rq fx mu mn wi bo wa : Nat → Int32}
theorem sl_fw40 {post : SX → Prop} {J : Int32 → (Nat → Int32) → (Nat → Int32) → (Nat → Int32) → (Nat → Int32) → (Nat → Int32) → (Nat → Int32) → (Nat → Int32) → (Nat → Int32) → (Nat → Int32) → Prop} {v t : Nat} (st : Int32) (hv : v < 4) (ht : t < 16)
    (K : ∀ b : Int32, (∀ u, u < 4 → sl_bit u t = true → wi (v * 16 + sl_rm t u) ≤ b) → st ≤ b → (b = st ∨ ∃ u, u < 4 ∧ sl_bit u t = true ∧ b = wi (v * 16 + sl_rm t u)) → J (nI (t + 1)) sc fb rq fx mu mn (upd wi (v * 16 + t) b) bo wa) :
    ∃ n, wX_fillWithin_40 post J (nI v) (nI t) m sc fb rq fx mu mn wi bo wa n st 0 := by
  refine loop_0 (fun n i b => wX_fillWithin_40 post J (nI v) (nI t) m sc fb rq fx mu mn wi bo wa n b (nI i)) (fun i b => (∀ u, u < i → sl_bit u t = true → wi (v * 16 + sl_rm t u) ≤ b) ∧ st ≤ b ∧ (b = st ∨ ∃ u, u < 4 ∧ sl_bit u t = true ∧ b = wi (v * 16 + sl_rm t u))) 4 st ⟨fun u hu => absurd hu (by omega), Int32.le_refl _, Or.inl rfl⟩ ?_ ?_
  · intro n b ⟨i1, i2, i3⟩
    refine br_t sl_y4 ?_
    rw [sl_ix, sl_c64 (by omega)]
    exact ⟨sl_in64 (by omega), nm_e (nm_r (nI_1 t) (K b i1 i2 i3))⟩
  · intro n i b hi ⟨i1, i2, i3⟩ next
    have hr := sl_rm_16 i hi t ht
    refine br_f (sl_n4 hi) (nm_r (sl_trm i hi t ht) ?_)
    rw [sl_ix, sl_c64 (by omega)]
    refine br_c ?_ ?_
    · intro h
      rw [nI_eq (by omega) (by omega), sl_rm_ne i hi t ht] at h
      refine nm_r (nI_1 i) (next b ⟨fun u hu hbu => ?_, i2, i3⟩)
      rcases Nat.lt_or_ge u i with z | z
      · exact i1 u z hbu
      · have e : u = i := by omega
        rw [e, h] at hbu
        exact absurd hbu (by decide)
    · intro h
      rw [nI_eq (by omega) (by omega), sl_rm_ne i hi t ht] at h
      have hbi : sl_bit i t = true := by
        cases hc : sl_bit i t
        · exact absurd hc h
        · rfl
      refine ⟨sl_in64 (by omega), br_c ?_ ?_⟩
      · intro h2
        refine nm_r (nI_1 i) (next b ⟨fun u hu hbu => ?_, i2, i3⟩)
        rcases Nat.lt_or_ge u i with z | z
        · exact i1 u z hbu
        · have e : u = i := by omega
          rw [e]; exact h2
      · intro h2
        have h3 : b ≤ wi (v * 16 + sl_rm t i) := by
          rw [Int32.le_iff_toInt_le] at h2 ⊢
          omega
        refine ⟨sl_in64 (by omega), nm_e (nm_r (nI_1 i) (next _ ⟨fun u hu hbu => ?_, Int32.le_trans i2 h3, Or.inr ⟨i, hi, hbi, rfl⟩⟩))⟩
        rcases Nat.lt_or_ge u i with z | z
        · exact Int32.le_trans (i1 u z hbu) h3
        · have e : u = i := by omega
          rw [e]; exact Int32.le_refl _
theorem sl_fill {post : SX → Prop} {v : Nat} (hv : v < 4) (hsc : sl_Rng sc)
    (K : ∀ w : Nat → Int32, (∀ j, (j < v * 16 ∨ v * 16 + 16 ≤ j) → w j = wi j) → (∀ t, t < 16 → sl_WOK sc (sl_XA m fb rq fx mu mn) w v t) → post (m, sc, fb, rq, fx, mu, mn, w, bo, wa)) :
    wpX_fillWithin post (m, sc, fb, rq, fx, mu, mn, wi, bo, wa) (nI v) := by
  unfold wpX_fillWithin
  refine loop_0 (fun n i w => wX_fillWithin_2 post (nI v) m n (nI i) sc fb rq fx mu mn w bo wa) (fun i w => (∀ j, (j < v * 16 ∨ v * 16 + 16 ≤ j) → w j = wi j) ∧ ∀ t, t < i → sl_WOK sc (sl_XA m fb rq fx mu mn) w v t) 16 wi ⟨fun _ _ => rfl, fun t ht => absurd ht (by omega)⟩ ?_ ?_
  · intro n w ⟨i1, i2⟩
    exact br_t sl_y16 (K w i1 i2)
  · intro n i w hi ⟨i1, i2⟩ next
    have fin : ∀ st : Int32, ((sl_XA m fb rq fx mu mn v i ∧ st = sc (v * 16 + i)) ∨ (¬ sl_XA m fb rq fx mu mn v i ∧ st = -100000)) → ∃ n40, wX_fillWithin_40 post (wX_fillWithin_2 post (nI v) m n) (nI v) (nI i) m sc fb rq fx mu mn w bo wa n40 st 0 := by
      intro st hst
      refine sl_fw40 st hv hi ?_
      intro b b1 b2 b3
      have hb := sl_wok_step hsc hv hi hst b1 b2 b3 i2
      refine next _ ⟨fun j hj => ?_, fun t ht => ?_⟩
      · rw [pk_un (by omega)]; exact i1 j hj
      · rcases Nat.lt_or_ge t i with z | z
        · have t2 := i2 t z
          unfold sl_WOK at t2 ⊢
          rw [pk_un (by omega)]; exact t2
        · have e : t = i := by omega
          subst e
          unfold sl_WOK
          rw [pk_us]; exact hb
    refine br_f (sl_n16 hi) (sl_isAllowed hv hi ?_ ?_)
    · intro hA
      refine br_f (by decide) ?_
      rw [sl_ix, sl_c64 (by omega)]
      exact ⟨sl_in64 (by omega), nm_e (fin _ (Or.inl ⟨hA, rfl⟩))⟩
    · intro hA
      exact br_t rfl (fin _ (Or.inr ⟨hA, rfl⟩))
end
end
section
/-! X: the table of best structures and of ways -/
def sl_tl (own br wr : Int32) (p : Int32 × Int32) : Int32 × Int32 := if own = -100000 ∨ br = -100000 then p else if br + own ≤ p.1 then (if br + own = p.1 then (p.1, p.2 + wr) else p) else (br + own, 0 + wr)
def sl_TL (w bo wa : Nat → Int32) (t : Nat) : Nat → Int32 × Int32
  | 0 => (-100000, 0)
  | v + 1 => if sl_bit v t = true then sl_tl (w (v * 16 + sl_rm t v)) (bo (sl_rm t v)) (wa (sl_rm t v)) (sl_TL w bo wa t v) else sl_TL w bo wa t v
theorem sl_TL_c {w bo wa bo' wa' : Nat → Int32} {t : Nat} (ht : t < 16) (h : ∀ j, j < t → bo' j = bo j ∧ wa' j = wa j) : ∀ v, v ≤ 4 → sl_TL w bo' wa' t v = sl_TL w bo wa t v := by
  intro v
  induction v with
  | zero => intro _; rfl
  | succ v ih =>
    intro hv
    unfold sl_TL
    rw [ih (by omega)]
    by_cases hb : sl_bit v t = true
    · have e := h _ (sl_rm_lt v (by omega) t ht hb)
      rw [if_pos hb, if_pos hb, e.1, e.2]
    · rw [if_neg hb, if_neg hb]
def sl_SV (sc : Nat → Int32) (A : Nat → Nat → Prop) (w bo wa : Nat → Int32) : Prop :=
  (∀ v, v < 4 → ∀ t, t < 16 → sl_WOK sc A w v t) ∧ bo 0 = 0 ∧ wa 0 = 1 ∧ ∀ t, 1 ≤ t → t < 16 → (bo t, wa t) = sl_TL w bo wa t 4
section
variable {m : Int32} {sc fb rq fx mu mn wi bo wa : Nat → Int32}
theorem sl_tl77 {post : SX → Prop} {t r : Nat} {x : Int32} (ht : t < 16) (hr : r < 16) (K1 : x = bo t → post (m, sc, fb, rq, fx, mu, mn, wi, bo, upd wa t (wa t + wa r))) (K0 : ¬ x = bo t → post (m, sc, fb, rq, fx, mu, mn, wi, bo, wa)) : wX_tryLast_77 post (nI t) (nI r) x m sc fb rq fx mu mn wi bo wa := by
  unfold wX_tryLast_77
  rw [sl_c16 ht, sl_c16 hr]
  refine ⟨sl_in16 ht, br_c ?_ ?_⟩
  · intro h
    exact ⟨sl_in16 ht, sl_in16 hr, sl_in16 ht, nm_e (K1 h)⟩
  · intro h
    exact K0 h
theorem sl_tryLast {post : SX → Prop} {t v : Nat} (hv : v < 4) (ht : t < 16) (hb : sl_bit v t = true)
    (K : ∀ bo' wa' : Nat → Int32, (∀ j, j ≠ t → bo' j = bo j ∧ wa' j = wa j) → (bo' t, wa' t) = sl_tl (wi (v * 16 + sl_rm t v)) (bo (sl_rm t v)) (wa (sl_rm t v)) (bo t, wa t) → post (m, sc, fb, rq, fx, mu, mn, wi, bo', wa')) :
    wpX_tryLast post (m, sc, fb, rq, fx, mu, mn, wi, bo, wa) (nI t) (nI v) := by
  have hlt := sl_rm_lt v hv t ht hb
  unfold wpX_tryLast
  refine nm_r (sl_trm v hv t ht) ?_
  rw [sl_ix, sl_c64 (by omega), sl_c16 (by omega : sl_rm t v < 16), sl_c16 ht]
  refine ⟨sl_in64 (by omega), nm_e (br_c ?_ ?_)⟩
  · intro h
    refine K bo wa (fun _ _ => ⟨rfl, rfl⟩) ?_
    unfold sl_tl
    rw [if_pos (Or.inl h)]
  · intro h
    refine ⟨sl_in16 (by omega), br_c ?_ ?_⟩
    · intro h2
      refine K bo wa (fun _ _ => ⟨rfl, rfl⟩) ?_
      unfold sl_tl
      rw [if_pos (Or.inr h2)]
    · intro h2
      have hn : ¬ (wi (v * 16 + sl_rm t v) = -100000 ∨ bo (sl_rm t v) = -100000) := fun z => z.elim h h2
      refine ⟨sl_in16 (by omega), nm_e ⟨sl_in16 ht, br_c ?_ ?_⟩⟩
      · intro h3
        refine sl_tl77 ht (by omega) ?_ ?_
        · intro h4
          refine K bo _ (fun j hj => ⟨rfl, pk_un hj⟩) ?_
          unfold sl_tl
          rw [if_neg hn, if_pos h3, if_pos h4, pk_us]
        · intro h4
          refine K bo wa (fun j hj => ⟨rfl, rfl⟩) ?_
          unfold sl_tl
          rw [if_neg hn, if_pos h3, if_neg h4]
      · intro h3
        refine ⟨sl_in16 ht, nm_e ⟨sl_in16 ht, nm_e (sl_tl77 ht (by omega) ?_ ?_)⟩⟩
        · intro h4
          refine K _ _ (fun j hj => ⟨pk_un hj, by rw [pk_un hj, pk_un hj]⟩) ?_
          unfold sl_tl
          rw [if_neg hn, if_neg h3, pk_us, pk_us, pk_us, pk_un (by omega)]
        · intro h4
          exact absurd pk_us.symm h4
theorem sl_sv57 {post : SX → Prop} {J : Int32 → Int32 → (Nat → Int32) → (Nat → Int32) → (Nat → Int32) → (Nat → Int32) → (Nat → Int32) → (Nat → Int32) → (Nat → Int32) → (Nat → Int32) → (Nat → Int32) → Prop} {t : Nat} (ht : t < 16) (h0 : (bo t, wa t) = (-100000, 0))
    (K : ∀ bo' wa' : Nat → Int32, (∀ j, j ≠ t → bo' j = bo j ∧ wa' j = wa j) → (bo' t, wa' t) = sl_TL wi bo wa t 4 → J (nI (t + 1)) m sc fb rq fx mu mn wi bo' wa') :
    ∃ n, wX_solve_57 post J (nI t) n 0 m sc fb rq fx mu mn wi bo wa := by
  refine loop_0 (fun n i (s : (Nat → Int32) × (Nat → Int32)) => wX_solve_57 post J (nI t) n (nI i) m sc fb rq fx mu mn wi s.1 s.2) (fun i s => (∀ j, j ≠ t → s.1 j = bo j ∧ s.2 j = wa j) ∧ (s.1 t, s.2 t) = sl_TL wi bo wa t i) 4 (bo, wa) ⟨fun _ _ => ⟨rfl, rfl⟩, h0⟩ ?_ ?_
  · intro n s ⟨i1, i2⟩
    exact br_t sl_y4 (nm_r (nI_1 t) (K _ _ i1 i2))
  · intro n i s hi ⟨i1, i2⟩ next
    refine br_f (sl_n4 hi) (br_c ?_ ?_)
    · intro h
      have hb := (sl_tbit1 i hi t ht).mp h
      have hlt := sl_rm_lt i hi t ht hb
      refine sl_tryLast hi ht hb ?_
      intro bo' wa' k1 k2
      refine nm_r (nI_1 i) (next (bo', wa') ⟨fun j hj => ⟨(k1 j hj).1.trans (i1 j hj).1, (k1 j hj).2.trans (i1 j hj).2⟩, ?_⟩)
      show (bo' t, wa' t) = sl_TL wi bo wa t (i + 1)
      rw [k2, i2, (i1 _ (by omega)).1, (i1 _ (by omega)).2]
      show _ = (if sl_bit i t = true then _ else _)
      rw [if_pos hb]
    · intro h
      have hb : ¬ sl_bit i t = true := fun z => h ((sl_tbit1 i hi t ht).mpr z)
      refine nm_r (nI_1 i) (next s ⟨i1, ?_⟩)
      rw [i2]
      show _ = (if sl_bit i t = true then _ else _)
      rw [if_neg hb]
theorem sl_sv34 {post : SX → Prop} (h0 : bo 0 = 0) (h1 : wa 0 = 1)
    (K : ∀ bo wa : Nat → Int32, bo 0 = 0 → wa 0 = 1 → (∀ t, 1 ≤ t → t < 16 → (bo t, wa t) = sl_TL wi bo wa t 4) → post (m, sc, fb, rq, fx, mu, mn, wi, bo, wa)) :
    ∃ n, wX_solve_34 post n 1 m sc fb rq fx mu mn wi bo wa := by
  refine pk_loop (fun n i (s : (Nat → Int32) × (Nat → Int32)) => wX_solve_34 post n (nI i) m sc fb rq fx mu mn wi s.1 s.2) (fun i s => 1 ≤ i ∧ s.1 0 = 0 ∧ s.2 0 = 1 ∧ ∀ t, 1 ≤ t → t < i → (s.1 t, s.2 t) = sl_TL wi s.1 s.2 t 4) 16 1 (bo, wa) (by decide) ⟨by decide, h0, h1, fun t a b => absurd a (by omega)⟩ ?_ ?_
  · intro n s ⟨_, i1, i2, i3⟩
    exact br_t sl_y16 (K s.1 s.2 i1 i2 i3)
  · intro n i s hi ⟨ip, i1, i2, i3⟩ next
    refine br_f (sl_n16 hi) ⟨sl_in16 hi, ?_⟩
    rw [sl_c16 hi]
    refine nm_e ⟨sl_in16 hi, nm_e (sl_sv57 hi (by rw [pk_us, pk_us]) ?_)⟩
    intro bo' wa' k1 k2
    have e : ∀ j, j ≠ i → bo' j = s.1 j ∧ wa' j = s.2 j := fun j hj => ⟨by rw [(k1 j hj).1, pk_un hj], by rw [(k1 j hj).2, pk_un hj]⟩
    refine next (bo', wa') ⟨by omega, (e 0 (by omega)).1.trans i1, (e 0 (by omega)).2.trans i2, fun t a b => ?_⟩
    show (bo' t, wa' t) = sl_TL wi bo' wa' t 4
    rcases Nat.lt_or_ge t i with z | z
    · rw [sl_TL_c (bo := s.1) (wa := s.2) (by omega) (fun j hj => e j (by omega)) 4 (by decide), (e t (by omega)).1, (e t (by omega)).2]
      exact i3 t a z
    · have et : t = i := by omega
      subst et
      rw [k2]
      exact (sl_TL_c hi (fun j hj => k1 j (by omega)) 4 (by decide)).symm
theorem sl_solve {post : SX → Prop} (hsc : sl_Rng sc)
    (K : ∀ w bo wa : Nat → Int32, sl_SV sc (sl_XA m fb rq fx mu mn) w bo wa → post (m, sc, fb, rq, fx, mu, mn, w, bo, wa)) : wpX_solve post (m, sc, fb, rq, fx, mu, mn, wi, bo, wa) := by
  unfold wpX_solve
  refine loop_0 (fun n i w => wX_solve_2 post n (nI i) m sc fb rq fx mu mn w bo wa) (fun i w => ∀ v, v < i → ∀ t, t < 16 → sl_WOK sc (sl_XA m fb rq fx mu mn) w v t) 4 wi (fun v hv => absurd hv (by omega)) ?_ ?_
  · intro n w i1
    refine br_t sl_y4 (nm_e (nm_e (sl_sv34 pk_us pk_us ?_)))
    intro bo' wa' b0 w0 h
    exact K w bo' wa' ⟨i1, b0, w0, h⟩
  · intro n i w hi i1 next
    refine br_f (sl_n4 hi) (sl_fill hi hsc ?_)
    intro w' f1 f2
    refine nm_r (nI_1 i) (next w' (fun v hv t ht => ?_))
    rcases Nat.lt_or_ge v i with z | z
    · have t2 := i1 v z t ht
      unfold sl_WOK at t2 ⊢
      rw [f1 _ (by omega)]; exact t2
    · have e : v = i := by omega
      rw [e]; exact f2 t ht
end
end
section
/-! the plain law: what the tables hold -/
def sl_sum (f : Nat → Int32) : Nat → Int32
  | 0 => 0
  | n + 1 => sl_sum f n + f n
theorem sl_sum_c {f g : Nat → Int32} : ∀ n, (∀ i, i < n → f i = g i) → sl_sum f n = sl_sum g n := by
  intro n
  induction n with
  | zero => intro _; rfl
  | succ n ih =>
    intro h
    show sl_sum f n + f n = sl_sum g n + g n
    rw [ih (fun i hi => h i (by omega)), h n (by omega)]
theorem sl_sum_0 {f : Nat → Int32} : ∀ n, (∀ i, i < n → f i = 0) → sl_sum f n = 0 := by
  intro n
  induction n with
  | zero => intro _; rfl
  | succ n ih =>
    intro h
    show sl_sum f n + f n = 0
    rw [ih (fun i hi => h i (by omega)), h n (by omega)]
    rfl
theorem sl_sum_4 (f : Nat → Int32) : ∀ n, sl_sum f (4 * n) = sl_sum (fun i => sl_sum (fun j => f (4 * i + j)) 4) n := by
  intro n
  induction n with
  | zero => rfl
  | succ n ih =>
    show sl_sum f (4 * n) + f (4 * n) + f (4 * n + 1) + f (4 * n + 2) + f (4 * n + 3) = sl_sum (fun i => sl_sum (fun j => f (4 * i + j)) 4) n + ((((0 + f (4 * n + 0)) + f (4 * n + 1)) + f (4 * n + 2)) + f (4 * n + 3))
    rw [ih, Int32.zero_add]
    simp only [Int32.add_assoc, Nat.add_zero]
noncomputable def sl_wh (p : Prop) (x : Int32) : Int32 := @ite _ p (Classical.propDecidable p) x 0
theorem sl_wh_t {p : Prop} {x : Int32} (h : p) : sl_wh p x = x := by unfold sl_wh; exact if_pos h
theorem sl_wh_f {p : Prop} {x : Int32} (h : ¬ p) : sl_wh p x = 0 := by unfold sl_wh; exact if_neg h
theorem sl_wh_c {p q : Prop} {x : Int32} (h : p ↔ q) : sl_wh p x = sl_wh q x := by rw [propext h]
theorem sl_wh_and {p q : Prop} {x : Int32} : sl_wh p (sl_wh q x) = sl_wh (p ∧ q) x := by
  by_cases hp : p
  · rw [sl_wh_t hp]; exact sl_wh_c ⟨fun h => ⟨hp, h⟩, fun h => h.2⟩
  · rw [sl_wh_f hp, sl_wh_f (fun h => hp h.1)]
theorem sl_wh_sum {p : Prop} {f : Nat → Int32} (n : Nat) : sl_wh p (sl_sum f n) = sl_sum (fun i => sl_wh p (f i)) n := by
  by_cases hp : p
  · rw [sl_wh_t hp]; exact sl_sum_c n (fun i _ => (sl_wh_t hp).symm)
  · rw [sl_wh_f hp]; exact (sl_sum_0 n (fun i _ => sl_wh_f hp)).symm
theorem sl_wh_i {p q : Prop} {x y : Int32} (h : p ↔ q) (e : p → x = y) : sl_wh p x = sl_wh q y := by
  by_cases hp : p
  · rw [sl_wh_t hp, sl_wh_t (h.mp hp)]; exact e hp
  · rw [sl_wh_f hp, sl_wh_f (fun z => hp (h.mpr z))]
/-- v may come last in t, with the worth sl_wr -/
def sl_vd (w bo : Nat → Int32) (t v : Nat) : Prop := sl_bit v t = true ∧ ¬ w (v * 16 + sl_rm t v) = -100000 ∧ ¬ bo (sl_rm t v) = -100000
def sl_wr (w bo : Nat → Int32) (t v : Nat) : Int32 := bo (sl_rm t v) + w (v * 16 + sl_rm t v)
theorem sl_TL_n {w bo wa : Nat → Int32} {t v : Nat} (h : ¬ sl_vd w bo t v) : sl_TL w bo wa t (v + 1) = sl_TL w bo wa t v := by
  show (if sl_bit v t = true then sl_tl _ _ _ _ else _) = _
  by_cases hb : sl_bit v t = true
  · rw [if_pos hb]
    unfold sl_tl
    rw [if_pos]
    by_cases h1 : w (v * 16 + sl_rm t v) = -100000
    · exact Or.inl h1
    · by_cases h2 : bo (sl_rm t v) = -100000
      · exact Or.inr h2
      · exact absurd ⟨hb, h1, h2⟩ h
  · rw [if_neg hb]
theorem sl_TL_y {w bo wa : Nat → Int32} {t v : Nat} (h : sl_vd w bo t v) : sl_TL w bo wa t (v + 1) = (if sl_wr w bo t v ≤ (sl_TL w bo wa t v).1 then (if sl_wr w bo t v = (sl_TL w bo wa t v).1 then ((sl_TL w bo wa t v).1, (sl_TL w bo wa t v).2 + wa (sl_rm t v)) else sl_TL w bo wa t v) else (sl_wr w bo t v, 0 + wa (sl_rm t v))) := by
  show (if sl_bit v t = true then sl_tl _ _ _ _ else _) = _
  rw [if_pos h.1]
  unfold sl_tl
  rw [if_neg (fun z => z.elim h.2.1 h.2.2)]
  rfl
theorem sl_TL_sp {w bo wa : Nat → Int32} {t : Nat} (hr : ∀ u, u < 4 → sl_vd w bo t u → (-100000 : Int32) < sl_wr w bo t u) : ∀ v, v ≤ 4 →
    (∀ u, u < v → sl_vd w bo t u → sl_wr w bo t u ≤ (sl_TL w bo wa t v).1) ∧
    (((sl_TL w bo wa t v).1 = -100000 ∧ ∀ u, u < v → ¬ sl_vd w bo t u) ∨ ∃ u, u < v ∧ sl_vd w bo t u ∧ (sl_TL w bo wa t v).1 = sl_wr w bo t u) ∧
    (sl_TL w bo wa t v).2 = sl_sum (fun u => sl_wh (sl_vd w bo t u ∧ sl_wr w bo t u = (sl_TL w bo wa t v).1) (wa (sl_rm t u))) v := by
  intro v
  induction v with
  | zero => intro _; exact ⟨fun u hu => absurd hu (by omega), Or.inl ⟨rfl, fun u hu => absurd hu (by omega)⟩, rfl⟩
  | succ v ih =>
    intro hv
    obtain ⟨a, b, c⟩ := ih (by omega)
    by_cases hd : sl_vd w bo t v
    · have e := sl_TL_y (wa := wa) hd
      by_cases h1 : sl_wr w bo t v ≤ (sl_TL w bo wa t v).1
      · have hb : ∃ u, u < v ∧ sl_vd w bo t u ∧ (sl_TL w bo wa t v).1 = sl_wr w bo t u := by
          rcases b with ⟨b1, _⟩ | b
          · have := hr v (by omega) hd
            rw [b1] at h1
            exact absurd h1 (Int32.not_le.mpr this)
          · exact b
        obtain ⟨u0, hu0, hd0, he0⟩ := hb
        by_cases h2 : sl_wr w bo t v = (sl_TL w bo wa t v).1
        · rw [if_pos h1, if_pos h2] at e
          rw [e]
          refine ⟨fun u hu hdu => ?_, Or.inr ⟨u0, by omega, hd0, he0⟩, ?_⟩
          · rcases Nat.lt_or_ge u v with z | z
            · exact a u z hdu
            · have eu : u = v := by omega
              rw [eu]; exact h1
          · show (sl_TL w bo wa t v).2 + wa (sl_rm t v) = sl_sum _ v + sl_wh (sl_vd w bo t v ∧ sl_wr w bo t v = (sl_TL w bo wa t v).1) (wa (sl_rm t v))
            rw [sl_wh_t ⟨hd, h2⟩, ← c]
        · rw [if_pos h1, if_neg h2] at e
          rw [e]
          refine ⟨fun u hu hdu => ?_, Or.inr ⟨u0, by omega, hd0, he0⟩, ?_⟩
          · rcases Nat.lt_or_ge u v with z | z
            · exact a u z hdu
            · have eu : u = v := by omega
              rw [eu]; exact h1
          · show (sl_TL w bo wa t v).2 = sl_sum _ v + sl_wh (sl_vd w bo t v ∧ sl_wr w bo t v = (sl_TL w bo wa t v).1) (wa (sl_rm t v))
            rw [sl_wh_f (fun z => h2 z.2), ← c, Int32.add_zero]
      · rw [if_neg h1] at e
        rw [e]
        have hlt : (sl_TL w bo wa t v).1 < sl_wr w bo t v := Int32.not_le.mp h1
        refine ⟨fun u hu hdu => ?_, Or.inr ⟨v, by omega, hd, rfl⟩, ?_⟩
        · rcases Nat.lt_or_ge u v with z | z
          · exact Int32.le_trans (a u z hdu) (Int32.le_of_lt hlt)
          · have eu : u = v := by omega
            rw [eu]; exact Int32.le_refl _
        · show 0 + wa (sl_rm t v) = sl_sum (fun u => sl_wh (sl_vd w bo t u ∧ sl_wr w bo t u = sl_wr w bo t v) (wa (sl_rm t u))) v + sl_wh (sl_vd w bo t v ∧ sl_wr w bo t v = sl_wr w bo t v) (wa (sl_rm t v))
          rw [sl_wh_t ⟨hd, rfl⟩, sl_sum_0 v]
          intro u hu
          refine sl_wh_f (fun z => ?_)
          have h3 := a u hu z.1
          rw [z.2] at h3
          exact h1 h3
    · rw [sl_TL_n hd]
      refine ⟨fun u hu hdu => ?_, ?_, ?_⟩
      · rcases Nat.lt_or_ge u v with z | z
        · exact a u z hdu
        · have eu : u = v := by omega
          rw [eu] at hdu
          exact absurd hdu hd
      · rcases b with ⟨b1, b2⟩ | ⟨u, b1, b2⟩
        · refine Or.inl ⟨b1, fun u hu => ?_⟩
          rcases Nat.lt_or_ge u v with z | z
          · exact b2 u z
          · have eu : u = v := by omega
            rw [eu]; exact hd
        · exact Or.inr ⟨u, by omega, b2⟩
      · show (sl_TL w bo wa t v).2 = sl_sum _ v + sl_wh (sl_vd w bo t v ∧ sl_wr w bo t v = (sl_TL w bo wa t v).1) (wa (sl_rm t v))
        rw [sl_wh_f (fun z => hd z.1), ← c, Int32.add_zero]
theorem sl_addI {a b : Int32} (ha : -100000 ≤ a.toInt) (ha2 : a.toInt ≤ 100000) (hb : -100000 ≤ b.toInt) (hb2 : b.toInt ≤ 100000) : (a + b).toInt = a.toInt + b.toInt := by
  rw [Int32.toInt_add]
  exact Int.bmod_eq_of_le (by omega) (by omega)
theorem sl_neN {a : Int32} (h : ¬ a = -100000) : a.toInt ≠ -100000 := fun z => h (Int32.toInt_inj.mp (z.trans sl_none.symm))
theorem sl_neN' {a : Int32} (h : a.toInt ≠ -100000) : ¬ a = -100000 := fun z => h (by rw [z]; exact sl_none)
theorem sl_pc_rm : ∀ v, v < 4 → ∀ t, t < 16 → sl_bit v t = true → sl_pc t = sl_pc (sl_rm t v) + 1 := by decide +kernel
section
variable {sc w bo wa : Nat → Int32} {A : Nat → Nat → Prop}
theorem sl_w1 (hsc : sl_Rng sc) (hS : sl_SV sc A w bo wa) {v t P : Nat} (hv : v < 4) (ht : t < 16) (hs : sl_sub P t = true) (hA : A v P) : (sc (v * 16 + P)).toInt ≤ (w (v * 16 + t)).toInt ∧ ¬ w (v * 16 + t) = -100000 := by
  have h := (hS.1 v hv t ht).1 _ ⟨P, hs, hA, rfl⟩
  have hP := sl_sub_lt ht hs
  have h2 := (hsc (v * 16 + P) (by omega)).1
  refine ⟨h, sl_neN' (by omega)⟩
theorem sl_w2 (hS : sl_SV sc A w bo wa) {v t : Nat} (hv : v < 4) (ht : t < 16) (hn : ¬ w (v * 16 + t) = -100000) : ∃ P, sl_sub P t = true ∧ A v P ∧ (w (v * 16 + t)).toInt = (sc (v * 16 + P)).toInt := by
  rcases (hS.1 v hv t ht).2 with h | h
  · exact h
  · exact absurd h.1 (sl_neN hn)
theorem sl_wrg (hsc : sl_Rng sc) (hS : sl_SV sc A w bo wa) {v t : Nat} (hv : v < 4) (ht : t < 16) (hn : ¬ w (v * 16 + t) = -100000) : -1000 ≤ (w (v * 16 + t)).toInt ∧ (w (v * 16 + t)).toInt ≤ 1000 := by
  obtain ⟨P, h1, _, h3⟩ := sl_w2 hS hv ht hn
  have hP := sl_sub_lt ht h1
  rw [h3]
  exact hsc _ (by omega)
theorem sl_D (hsc : sl_Rng sc) (hS : sl_SV sc A w bo wa) : ∀ k t, t < k → t < 16 →
    (¬ bo t = -100000 → -(1000 * (sl_pc t : Int)) ≤ (bo t).toInt ∧ (bo t).toInt ≤ 1000 * (sl_pc t : Int)) ∧
    (1 ≤ t → (∀ u, u < 4 → sl_vd w bo t u → (bo (sl_rm t u)).toInt + (w (u * 16 + sl_rm t u)).toInt ≤ (bo t).toInt) ∧
      (¬ bo t = -100000 → ∃ u, u < 4 ∧ sl_vd w bo t u ∧ (bo t).toInt = (bo (sl_rm t u)).toInt + (w (u * 16 + sl_rm t u)).toInt) ∧
      (∀ u, u < 4 → sl_vd w bo t u → ¬ bo t = -100000) ∧
      wa t = sl_sum (fun u => sl_wh (sl_vd w bo t u ∧ (bo (sl_rm t u)).toInt + (w (u * 16 + sl_rm t u)).toInt = (bo t).toInt) (wa (sl_rm t u))) 4) := by
  intro k
  induction k with
  | zero => intro t ht; omega
  | succ k ih =>
    intro t htk ht
    rcases Nat.eq_zero_or_pos t with z | hp
    · subst z
      refine ⟨fun _ => ?_, fun h => absurd h (by omega)⟩
      rw [hS.2.1]
      decide
    · have hT := hS.2.2.2 t hp ht
      -- worths of what may come last
      have hwr : ∀ u, u < 4 → sl_vd w bo t u → (sl_wr w bo t u).toInt = (bo (sl_rm t u)).toInt + (w (u * 16 + sl_rm t u)).toInt ∧ -(1000 * (sl_pc t : Int)) ≤ (sl_wr w bo t u).toInt ∧ (sl_wr w bo t u).toInt ≤ 1000 * (sl_pc t : Int) := by
        intro u hu hd
        have hlt := sl_rm_lt u hu t ht hd.1
        have r1 := (ih (sl_rm t u) (by omega) (by omega)).1 hd.2.2
        have r2 := sl_wrg hsc hS hu (by omega) hd.2.1
        have r3 := sl_pc_rm u hu t ht hd.1
        have r4 := sl_pc_4 t ht
        have r5 : (sl_wr w bo t u).toInt = (bo (sl_rm t u)).toInt + (w (u * 16 + sl_rm t u)).toInt := sl_addI (by omega) (by omega) (by omega) (by omega)
        refine ⟨r5, ?_, ?_⟩ <;> omega
      have hr : ∀ u, u < 4 → sl_vd w bo t u → (-100000 : Int32) < sl_wr w bo t u := by
        intro u hu hd
        have r := hwr u hu hd
        have r4 := sl_pc_4 t ht
        rw [Int32.lt_iff_toInt_lt, sl_none]
        omega
      obtain ⟨a, b, c⟩ := sl_TL_sp (wa := wa) hr 4 (by omega)
      have e1 : bo t = (sl_TL w bo wa t 4).1 := congrArg Prod.fst hT
      have e2 : wa t = (sl_TL w bo wa t 4).2 := congrArg Prod.snd hT
      rw [← e1] at a b c
      rw [← e2] at c
      refine ⟨fun hn => ?_, fun _ => ⟨fun u hu hd => ?_, fun hn => ?_, fun u hu hd => ?_, ?_⟩⟩
      · rcases b with b | ⟨u, hu, hd, e⟩
        · exact absurd b.1 hn
        · rw [e]; exact (hwr u hu hd).2
      · rw [← (hwr u hu hd).1]; exact Int32.le_iff_toInt_le.mp (a u hu hd)
      · rcases b with b | ⟨u, hu, hd, e⟩
        · exact absurd b.1 hn
        · exact ⟨u, hu, hd, by rw [e]; exact (hwr u hu hd).1⟩
      · intro z
        have h1 := a u hu hd
        rw [z] at h1
        exact absurd (hr u hu hd) (Int32.not_lt.mpr h1)
      · rw [c]
        refine sl_sum_c 4 (fun u hu => sl_wh_c ⟨fun h => ⟨h.1, ?_⟩, fun h => ⟨h.1, ?_⟩⟩)
        · rw [← (hwr u hu h.1).1, h.2]
        · exact Int32.toInt_inj.mp (by rw [(hwr u hu h.1).1]; exact h.2)
end
end
section
/-! orders and structures -/
def sl_CH (sc : Nat → Int32) (A : Nat → Nat → Prop) (a b c d : Nat) (x : Int) : Prop :=
  ∃ Pa Pb Pc Pd, (sl_sub Pa 0 = true ∧ A a Pa) ∧ (sl_sub Pb (2 ^ a) = true ∧ A b Pb) ∧ (sl_sub Pc (2 ^ a ||| 2 ^ b) = true ∧ A c Pc) ∧ (sl_sub Pd (2 ^ a ||| 2 ^ b ||| 2 ^ c) = true ∧ A d Pd) ∧
    x = (sc (a * 16 + Pa)).toInt + (sc (b * 16 + Pb)).toInt + (sc (c * 16 + Pc)).toInt + (sc (d * 16 + Pd)).toInt
theorem sl_by_cod {R : Nat → Nat → Nat → Nat → Prop} (h : ∀ k, k < 256 → R (sl_ca k) (sl_cb k) (sl_cc k) (sl_cd k)) : ∀ a, a < 4 → ∀ b, b < 4 → ∀ c, c < 4 → ∀ d, d < 4 → R a b c d := by
  intro a ha b hb c hc d hd
  obtain ⟨k, hk, ea, eb, ec, ed⟩ := sl_cod ha hb hc hd
  have t := h k hk
  rw [ea, eb, ec, ed] at t
  exact t
/-- from the bits of a descent: an order -/
def sl_dsc (a b c d : Nat) : Prop := sl_bit d 15 = true ∧ sl_bit c (sl_rm 15 d) = true ∧ sl_bit b (sl_rm (sl_rm 15 d) c) = true ∧ sl_bit a (sl_rm (sl_rm (sl_rm 15 d) c) b) = true
theorem sl_perm_dsc1 : ∀ a, a < 4 → ∀ b, b < 4 → ∀ c, c < 4 → ∀ d, d < 4 → (sl_perm a b c d = true → (sl_bit d 15 = true ∧ sl_bit c (sl_rm 15 d) = true) ∧ (sl_bit b (sl_rm (sl_rm 15 d) c) = true ∧ sl_bit a (sl_rm (sl_rm (sl_rm 15 d) c) b) = true)) := sl_by_cod (R := fun a b c d => sl_perm a b c d = true → (sl_bit d 15 = true ∧ sl_bit c (sl_rm 15 d) = true) ∧ (sl_bit b (sl_rm (sl_rm 15 d) c) = true ∧ sl_bit a (sl_rm (sl_rm (sl_rm 15 d) c) b) = true)) (by decide +kernel)
theorem sl_dsc_perm1 : ∀ a, a < 4 → ∀ b, b < 4 → ∀ c, c < 4 → ∀ d, d < 4 → (sl_bit d 15 = true → sl_bit c (sl_rm 15 d) = true → sl_bit b (sl_rm (sl_rm 15 d) c) = true → sl_bit a (sl_rm (sl_rm (sl_rm 15 d) c) b) = true → sl_perm a b c d = true) := sl_by_cod (R := fun a b c d => sl_bit d 15 = true → sl_bit c (sl_rm 15 d) = true → sl_bit b (sl_rm (sl_rm 15 d) c) = true → sl_bit a (sl_rm (sl_rm (sl_rm 15 d) c) b) = true → sl_perm a b c d = true) (by decide +kernel)
theorem sl_perm_set : ∀ a, a < 4 → ∀ b, b < 4 → ∀ c, c < 4 → ∀ d, d < 4 → (sl_perm a b c d = true → (sl_rm 15 d = (2 ^ a ||| 2 ^ b ||| 2 ^ c) ∧ sl_rm (sl_rm 15 d) c = (2 ^ a ||| 2 ^ b)) ∧ (sl_rm (sl_rm (sl_rm 15 d) c) b = 2 ^ a ∧ sl_rm (sl_rm (sl_rm (sl_rm 15 d) c) b) a = 0)) := sl_by_cod (R := fun a b c d => sl_perm a b c d = true → (sl_rm 15 d = (2 ^ a ||| 2 ^ b ||| 2 ^ c) ∧ sl_rm (sl_rm 15 d) c = (2 ^ a ||| 2 ^ b)) ∧ (sl_rm (sl_rm (sl_rm 15 d) c) b = 2 ^ a ∧ sl_rm (sl_rm (sl_rm (sl_rm 15 d) c) b) a = 0)) (by decide +kernel)
theorem sl_perm_ne : ∀ a, a < 4 → ∀ b, b < 4 → ∀ c, c < 4 → ∀ d, d < 4 → (sl_perm a b c d = true → (b ≠ a ∧ c ≠ a) ∧ (d ≠ a ∧ c ≠ b) ∧ (d ≠ b ∧ d ≠ c)) := sl_by_cod (R := fun a b c d => sl_perm a b c d = true → (b ≠ a ∧ c ≠ a) ∧ (d ≠ a ∧ c ≠ b) ∧ (d ≠ b ∧ d ≠ c)) (by decide +kernel)
theorem sl_perm_all : ∀ a, a < 4 → ∀ b, b < 4 → ∀ c, c < 4 → ∀ d, d < 4 → (sl_perm a b c d = true → ∀ v, v < 4 → v = a ∨ v = b ∨ v = c ∨ v = d) := sl_by_cod (R := fun a b c d => sl_perm a b c d = true → ∀ v, v < 4 → v = a ∨ v = b ∨ v = c ∨ v = d) (by decide +kernel)
theorem sl_perm_last : ∀ a, a < 4 → ∀ b, b < 4 → ∀ c, c < 4 → ∀ d, d < 4 → (sl_perm a b c d = true → ∀ P, P < 16 → sl_bit d P = false → sl_sub P (2 ^ a ||| 2 ^ b ||| 2 ^ c) = true) := sl_by_cod (R := fun a b c d => sl_perm a b c d = true → ∀ P, P < 16 → sl_bit d P = false → sl_sub P (2 ^ a ||| 2 ^ b ||| 2 ^ c) = true) (by decide +kernel)
theorem sl_lt_or : ∀ a, a < 4 → ∀ b, b < 4 → ∀ c, c < 4 → 2 ^ a < 16 ∧ (2 ^ a ||| 2 ^ b) < 16 ∧ (2 ^ a ||| 2 ^ b ||| 2 ^ c) < 16 ∧ 1 ≤ 2 ^ a ∧ 1 ≤ (2 ^ a ||| 2 ^ b) ∧ 1 ≤ (2 ^ a ||| 2 ^ b ||| 2 ^ c) := by decide +kernel
theorem sl_perm_sum (f : Nat → Int) : ∀ a, a < 4 → ∀ b, b < 4 → ∀ c, c < 4 → ∀ d, d < 4 → sl_perm a b c d = true → f a + f b + f c + f d = f 0 + f 1 + f 2 + f 3 := by
  refine sl_le4 ?_ ?_ ?_ ?_ <;> refine sl_le4 ?_ ?_ ?_ ?_ <;> refine sl_le4 ?_ ?_ ?_ ?_ <;> refine sl_le4 ?_ ?_ ?_ ?_ <;> intro h <;> first | exact absurd h (by decide) | omega
def sl_wo (sc : Nat → Int32) (s : Nat) : Int := (sc (0 * 16 + sl_par s 0)).toInt + (sc (1 * 16 + sl_par s 1)).toInt + (sc (2 * 16 + sl_par s 2)).toInt + (sc (3 * 16 + sl_par s 3)).toInt
def sl_ST (sc : Nat → Int32) (A : Nat → Nat → Prop) (x : Int) : Prop := ∃ s, s < 4096 ∧ sl_noc s = true ∧ (∀ v, v < 4 → A v (sl_par s v)) ∧ x = sl_wo sc s
section
variable {sc w bo wa : Nat → Int32} {A : Nat → Nat → Prop}
theorem sl_L1 {a b c d s : Nat} (ha : a < 4) (hb : b < 4) (hc : c < 4) (hd : d < 4) (hp : sl_perm a b c d = true) (hf : sl_fol s a b c = true) (hA : ∀ v, v < 4 → A v (sl_par s v)) : sl_CH sc A a b c d (sl_wo sc s) := by
  unfold sl_fol at hf
  rw [Bool.and_eq_true, Bool.and_eq_true, beq_iff_eq] at hf
  refine ⟨sl_par s a, sl_par s b, sl_par s c, sl_par s d, ⟨by rw [hf.1]; decide, hA a ha⟩, ⟨hf.2.1, hA b hb⟩, ⟨hf.2.2, hA c hc⟩, ⟨sl_perm_last a ha b hb c hc d hd hp _ (sl_par_16 hd) (sl_par_bit hd), hA d hd⟩, ?_⟩
  exact (sl_perm_sum (fun v => (sc (v * 16 + sl_par s v)).toInt) a ha b hb c hc d hd hp).symm
theorem sl_L2 (hAb : ∀ v P, A v P → sl_bit v P = false) {a b c d : Nat} {x : Int} (ha : a < 4) (hb : b < 4) (hc : c < 4) (hd : d < 4) (hp : sl_perm a b c d = true) (h : sl_CH sc A a b c d x) : ∃ s, s < 4096 ∧ sl_fol s a b c = true ∧ (∀ v, v < 4 → A v (sl_par s v)) ∧ x = sl_wo sc s := by
  obtain ⟨Pa, Pb, Pc, Pd, ⟨sa, Aa⟩, ⟨sb, Ab⟩, ⟨sc1, Ac⟩, ⟨sd, Ad⟩, hx⟩ := h
  obtain ⟨⟨n1, n2⟩, ⟨n3, n4⟩, ⟨n5, n6⟩⟩ := sl_perm_ne a ha b hb c hc d hd hp
  obtain ⟨l1, l2, l3, _⟩ := sl_lt_or a ha b hb c hc
  have hPa := sl_sub_lt (by omega) sa
  have hPb := sl_sub_lt l1 sb
  have hPc := sl_sub_lt l2 sc1
  have hPd := sl_sub_lt l3 sd
  have qa : (fun v => if v = a then Pa else if v = b then Pb else if v = c then Pc else Pd) a = Pa := if_pos rfl
  have qb : (fun v => if v = a then Pa else if v = b then Pb else if v = c then Pc else Pd) b = Pb := (if_neg n1).trans (if_pos rfl)
  have qc : (fun v => if v = a then Pa else if v = b then Pb else if v = c then Pc else Pd) c = Pc := (if_neg n2).trans ((if_neg n4).trans (if_pos rfl))
  have qd : (fun v => if v = a then Pa else if v = b then Pb else if v = c then Pc else Pd) d = Pd := (if_neg n3).trans ((if_neg n5).trans (if_neg n6))
  revert qa qb qc qd
  generalize (fun v => if v = a then Pa else if v = b then Pb else if v = c then Pc else Pd) = Q
  intro qa qb qc qd
  have all : ∀ {R : Nat → Nat → Prop}, R a Pa → R b Pb → R c Pc → R d Pd → ∀ v, v < 4 → R v (Q v) := by
    intro R ra rb rc rd v hv
    rcases sl_perm_all a ha b hb c hc d hd hp v hv with e | e | e | e
    · rw [e, qa]; exact ra
    · rw [e, qb]; exact rb
    · rw [e, qc]; exact rc
    · rw [e, qd]; exact rd
  have h16 : ∀ v, v < 4 → Q v < 16 := all (R := fun _ P => P < 16) hPa hPb hPc hPd
  have hbit : ∀ v, v < 4 → sl_bit v (Q v) = false := all (R := fun v P => sl_bit v P = false) (hAb _ _ Aa) (hAb _ _ Ab) (hAb _ _ Ac) (hAb _ _ Ad)
  have hq := sl_str_par h16 hbit
  refine ⟨sl_str Q, sl_str_lt h16, ?_, ?_, ?_⟩
  · unfold sl_fol
    rw [hq a ha, hq b hb, hq c hc, qa, qb, qc, sb, sc1]
    have e0 : Pa = 0 := by
      have : Pa &&& 0 = Pa := by simpa [sl_sub] using sa
      rw [Nat.and_zero] at this
      exact this.symm
    rw [e0]
    rfl
  · intro v hv
    rw [hq v hv]
    exact all (R := A) Aa Ab Ac Ad v hv
  · rw [hx]
    unfold sl_wo
    rw [hq 0 (by omega), hq 1 (by omega), hq 2 (by omega), hq 3 (by omega)]
    have t := sl_perm_sum (fun v => (sc (v * 16 + Q v)).toInt) a ha b hb c hc d hd hp
    rw [qa, qb, qc, qd] at t
    exact t
/-- X's descent through the tables: each step reaches the best -/
def sl_g (w bo : Nat → Int32) (t u : Nat) : Prop := sl_vd w bo t u ∧ (bo (sl_rm t u)).toInt + (w (u * 16 + sl_rm t u)).toInt = (bo t).toInt
def sl_gg (w bo : Nat → Int32) (a b c d : Nat) : Prop := sl_g w bo 15 d ∧ sl_g w bo (sl_rm 15 d) c ∧ sl_g w bo (sl_rm (sl_rm 15 d) c) b ∧ sl_g w bo (sl_rm (sl_rm (sl_rm 15 d) c) b) a
theorem sl_gg_CH (hS : sl_SV sc A w bo wa) {a b c d : Nat} (ha : a < 4) (hb : b < 4) (hc : c < 4) (hd : d < 4) (h : sl_gg w bo a b c d) : sl_perm a b c d = true ∧ sl_CH sc A a b c d (bo 15).toInt := by
  obtain ⟨⟨d1, d2⟩, ⟨c1, c2⟩, ⟨b1, b2⟩, ⟨a1, a2⟩⟩ := h
  have hp := sl_dsc_perm1 a ha b hb c hc d hd d1.1 c1.1 b1.1 a1.1
  refine ⟨hp, ?_⟩
  obtain ⟨⟨s3, s2⟩, ⟨s1, s0⟩⟩ := sl_perm_set a ha b hb c hc d hd hp
  obtain ⟨l1, l2, l3, _⟩ := sl_lt_or a ha b hb c hc
  have a4 := a1.2.1
  have b4 := b1.2.1
  have c4 := c1.2.1
  have d4 := d1.2.1
  rw [s0] at a2 a4
  rw [s1] at a2 b2 b4
  rw [s2] at b2 c2 c4
  rw [s3] at c2 d2 d4
  obtain ⟨Pa, pa1, pa2, pa3⟩ := sl_w2 hS ha (by omega) a4
  obtain ⟨Pb, pb1, pb2, pb3⟩ := sl_w2 hS hb l1 b4
  obtain ⟨Pc, pc1, pc2, pc3⟩ := sl_w2 hS hc l2 c4
  obtain ⟨Pd, pd1, pd2, pd3⟩ := sl_w2 hS hd l3 d4
  have z : (bo 0).toInt = 0 := by rw [hS.2.1]; decide
  exact ⟨Pa, Pb, Pc, Pd, ⟨pa1, pa2⟩, ⟨pb1, pb2⟩, ⟨pc1, pc2⟩, ⟨pd1, pd2⟩, by omega⟩
theorem sl_CH_le (hsc : sl_Rng sc) (hS : sl_SV sc A w bo wa) {a b c d : Nat} {x : Int} (ha : a < 4) (hb : b < 4) (hc : c < 4) (hd : d < 4) (hp : sl_perm a b c d = true) (h : sl_CH sc A a b c d x) : x ≤ (bo 15).toInt ∧ ¬ bo 15 = -100000 ∧ (x = (bo 15).toInt → sl_gg w bo a b c d) := by
  obtain ⟨Pa, Pb, Pc, Pd, ⟨sa, Aa⟩, ⟨sb, Ab⟩, ⟨sc1, Ac⟩, ⟨sd, Ad⟩, hx⟩ := h
  obtain ⟨⟨s3, s2⟩, ⟨s1, s0⟩⟩ := sl_perm_set a ha b hb c hc d hd hp
  obtain ⟨l1, l2, l3, l4, l5, l6⟩ := sl_lt_or a ha b hb c hc
  obtain ⟨⟨bd, bc⟩, ⟨bb, ba⟩⟩ := sl_perm_dsc1 a ha b hb c hc d hd hp
  have wa1 := sl_w1 hsc hS ha (by omega) sa Aa
  have wb1 := sl_w1 hsc hS hb l1 sb Ab
  have wc1 := sl_w1 hsc hS hc l2 sc1 Ac
  have wd1 := sl_w1 hsc hS hd l3 sd Ad
  have z0 : ¬ bo 0 = -100000 := by rw [hS.2.1]; decide
  have z : (bo 0).toInt = 0 := by rw [hS.2.1]; decide
  have va : sl_vd w bo (2 ^ a) a := by
    refine ⟨?_, ?_, ?_⟩
    · rw [← s1]; exact ba
    · rw [← s1, s0]; exact wa1.2
    · rw [← s1, s0]; exact z0
  have ra : sl_rm (2 ^ a) a = 0 := by rw [← s1]; exact s0
  have Da := (sl_D hsc hS 16 (2 ^ a) l1 l1).2 l4
  have na := Da.2.2.1 a ha va
  have va' := Da.1 a ha va
  rw [ra] at va'
  have rb : sl_rm (2 ^ a ||| 2 ^ b) b = 2 ^ a := by rw [← s2]; exact s1
  have vb : sl_vd w bo (2 ^ a ||| 2 ^ b) b := by
    refine ⟨?_, ?_, ?_⟩
    · rw [← s2]; exact bb
    · rw [rb]; exact wb1.2
    · rw [rb]; exact na
  have Db := (sl_D hsc hS 16 (2 ^ a ||| 2 ^ b) l2 l2).2 l5
  have nb := Db.2.2.1 b hb vb
  have vb' := Db.1 b hb vb
  rw [rb] at vb'
  have rc : sl_rm (2 ^ a ||| 2 ^ b ||| 2 ^ c) c = (2 ^ a ||| 2 ^ b) := by rw [← s3]; exact s2
  have vc : sl_vd w bo (2 ^ a ||| 2 ^ b ||| 2 ^ c) c := by
    refine ⟨?_, ?_, ?_⟩
    · rw [← s3]; exact bc
    · rw [rc]; exact wc1.2
    · rw [rc]; exact nb
  have Dc := (sl_D hsc hS 16 (2 ^ a ||| 2 ^ b ||| 2 ^ c) l3 l3).2 l6
  have nc := Dc.2.2.1 c hc vc
  have vc' := Dc.1 c hc vc
  rw [rc] at vc'
  have vd : sl_vd w bo 15 d := by
    refine ⟨bd, ?_, ?_⟩
    · rw [s3]; exact wd1.2
    · rw [s3]; exact nc
  have Dd := (sl_D hsc hS 16 15 (by omega) (by omega)).2 (by omega)
  have nd := Dd.2.2.1 d hd vd
  have vd' := Dd.1 d hd vd
  rw [s3] at vd'
  refine ⟨by omega, nd, fun hxe => ?_⟩
  refine ⟨⟨vd, ?_⟩, ⟨?_, ?_⟩, ⟨?_, ?_⟩, ⟨?_, ?_⟩⟩
  · rw [s3]; omega
  · rw [s3]; exact vc
  · rw [s3, rc]; omega
  · rw [s2]; exact vb
  · rw [s2, rb]; omega
  · rw [s1]; exact va
  · rw [s1, ra]; omega
theorem sl_bo_ex (hsc : sl_Rng sc) (hS : sl_SV sc A w bo wa) (h : ¬ bo 15 = -100000) : ∃ a b c d, a < 4 ∧ b < 4 ∧ c < 4 ∧ d < 4 ∧ sl_gg w bo a b c d := by
  have step : ∀ t, t < 16 → 1 ≤ t → ¬ bo t = -100000 → ∃ u, u < 4 ∧ sl_g w bo t u ∧ sl_rm t u < 16 ∧ sl_pc t = sl_pc (sl_rm t u) + 1 := by
    intro t ht h1 hn
    obtain ⟨u, hu, hd, e⟩ := ((sl_D hsc hS 16 t ht ht).2 h1).2.1 hn
    exact ⟨u, hu, ⟨hd, e.symm⟩, sl_rm_16 u hu t ht, sl_pc_rm u hu t ht hd.1⟩
  have pos : ∀ t, t < 16 → 1 ≤ sl_pc t → 1 ≤ t := by
    intro t _ hp
    rcases Nat.eq_zero_or_pos t with z | z
    · rw [z] at hp; exact absurd hp (by decide)
    · exact z
  have p15 : sl_pc 15 = 4 := by decide
  obtain ⟨d, hd, gd, ld, pd⟩ := step 15 (by omega) (by omega) h
  obtain ⟨c, hc, gc, lc, pc⟩ := step _ ld (pos _ ld (by omega)) gd.1.2.2
  obtain ⟨b, hb, gb, lb, pb⟩ := step _ lc (pos _ lc (by omega)) gc.1.2.2
  obtain ⟨a, ha, ga, la, pa⟩ := step _ lb (pos _ lb (by omega)) gb.1.2.2
  exact ⟨a, b, c, d, ha, hb, hc, hd, gd, gc, gb, ga⟩
theorem sl_wo_r (hsc : sl_Rng sc) (s : Nat) : -4000 ≤ sl_wo sc s ∧ sl_wo sc s ≤ 4000 := by
  have p0 := sl_par_16 (s := s) (v := 0) (by omega)
  have p1 := sl_par_16 (s := s) (v := 1) (by omega)
  have p2 := sl_par_16 (s := s) (v := 2) (by omega)
  have p3 := sl_par_16 (s := s) (v := 3) (by omega)
  have h0 := hsc (0 * 16 + sl_par s 0) (by omega)
  have h1 := hsc (1 * 16 + sl_par s 1) (by omega)
  have h2 := hsc (2 * 16 + sl_par s 2) (by omega)
  have h3 := hsc (3 * 16 + sl_par s 3) (by omega)
  unfold sl_wo
  omega
theorem sl_ST_r (hsc : sl_Rng sc) {x : Int} (h : sl_ST sc A x) : -50000 ≤ x := by
  obtain ⟨s, _, _, _, rfl⟩ := h
  have := sl_wo_r hsc s
  omega
/-- the last entry of the table: the greatest worth of an allowed structure -/
theorem sl_top (hAb : ∀ v P, A v P → sl_bit v P = false) (hsc : sl_Rng sc) (hS : sl_SV sc A w bo wa) : sl_Mx (sl_ST sc A) (bo 15).toInt := by
  refine sl_mx_of ?_ (fun x hx => sl_ST_r hsc hx) ?_
  · rintro x ⟨s, hs, hn, hA, rfl⟩
    obtain ⟨a, b, c, d, ha, hb, hc, hd, hp, hf⟩ := sl_noc_ex hs hn
    exact (sl_CH_le hsc hS ha hb hc hd hp (sl_L1 ha hb hc hd hp hf hA)).1
  · by_cases h : bo 15 = -100000
    · exact Or.inr (by rw [h]; exact sl_none)
    · obtain ⟨a, b, c, d, ha, hb, hc, hd, g⟩ := sl_bo_ex hsc hS h
      obtain ⟨hp, hC⟩ := sl_gg_CH hS ha hb hc hd g
      obtain ⟨s, hs, hf, hA, e⟩ := sl_L2 hAb ha hb hc hd hp hC
      exact Or.inl ⟨s, hs, sl_fol_noc hs ha hb hc hd hp hf, hA, e⟩
theorem sl_wa_s (hsc : sl_Rng sc) (hS : sl_SV sc A w bo wa) {t : Nat} (ht : t < 16) (h1 : 1 ≤ t) : wa t = sl_sum (fun u => sl_wh (sl_g w bo t u) (wa (sl_rm t u))) 4 := ((sl_D hsc hS 16 t ht ht).2 h1).2.2.2
/-- the ways: the orders that some best structure follows -/
theorem sl_topw (hAb : ∀ v P, A v P → sl_bit v P = false) (hsc : sl_Rng sc) (hS : sl_SV sc A w bo wa) :
    wa 15 = sl_sum (fun k => sl_wh (sl_perm (sl_ca k) (sl_cb k) (sl_cc k) (sl_cd k) = true ∧ ∃ s, s < 4096 ∧ sl_fol s (sl_ca k) (sl_cb k) (sl_cc k) = true ∧ sl_wo sc s = (bo 15).toInt ∧ ∀ v, v < 4 → A v (sl_par s v)) 1) 256 := by
  have pos : ∀ t, t < 16 → 1 ≤ sl_pc t → 1 ≤ t := by
    intro t _ hp
    rcases Nat.eq_zero_or_pos t with z | z
    · rw [z] at hp; exact absurd hp (by decide)
    · exact z
  have p15 : sl_pc 15 = 4 := by decide
  have X : wa 15 = sl_sum (fun d => sl_sum (fun c => sl_sum (fun b => sl_sum (fun a => sl_wh (sl_gg w bo a b c d) 1) 4) 4) 4) 4 := by
    rw [sl_wa_s hsc hS (t := 15) (by omega) (by omega)]
    refine sl_sum_c 4 (fun d hd => ?_)
    by_cases gd : sl_g w bo 15 d
    · have ld := sl_rm_16 d hd 15 (by omega)
      have pd := sl_pc_rm d hd 15 (by omega) gd.1.1
      rw [sl_wh_t gd, sl_wa_s hsc hS ld (pos _ ld (by omega))]
      refine sl_sum_c 4 (fun c hc => ?_)
      by_cases gc : sl_g w bo (sl_rm 15 d) c
      · have lc := sl_rm_16 c hc _ ld
        have pc := sl_pc_rm c hc _ ld gc.1.1
        rw [sl_wh_t gc, sl_wa_s hsc hS lc (pos _ lc (by omega))]
        refine sl_sum_c 4 (fun b hb => ?_)
        by_cases gb : sl_g w bo (sl_rm (sl_rm 15 d) c) b
        · have lb := sl_rm_16 b hb _ lc
          have pb := sl_pc_rm b hb _ lc gb.1.1
          rw [sl_wh_t gb, sl_wa_s hsc hS lb (pos _ lb (by omega))]
          refine sl_sum_c 4 (fun a ha => ?_)
          refine sl_wh_i ⟨fun ga => ⟨gd, gc, gb, ga⟩, fun g => g.2.2.2⟩ (fun ga => ?_)
          have hp := sl_dsc_perm1 a ha b hb c hc d hd gd.1.1 gc.1.1 gb.1.1 ga.1.1
          rw [(sl_perm_set a ha b hb c hc d hd hp).2.2]
          exact hS.2.2.1
        · rw [sl_wh_f gb]
          exact (sl_sum_0 4 (fun a _ => sl_wh_f (fun g => gb g.2.2.1))).symm
      · rw [sl_wh_f gc]
        exact (sl_sum_0 4 (fun b _ => sl_sum_0 4 (fun a _ => sl_wh_f (fun g => gc g.2.1)))).symm
    · rw [sl_wh_f gd]
      exact (sl_sum_0 4 (fun c _ => sl_sum_0 4 (fun b _ => sl_sum_0 4 (fun a _ => sl_wh_f (fun g => gd g.1))))).symm
  rw [X]
  have Y := sl_sum_4 (fun k => sl_wh (sl_perm (sl_ca k) (sl_cb k) (sl_cc k) (sl_cd k) = true ∧ ∃ s, s < 4096 ∧ sl_fol s (sl_ca k) (sl_cb k) (sl_cc k) = true ∧ sl_wo sc s = (bo 15).toInt ∧ ∀ v, v < 4 → A v (sl_par s v)) 1) 64
  rw [show (256 : Nat) = 4 * 64 from rfl, Y, show (64 : Nat) = 4 * 16 from rfl, sl_sum_4, show (16 : Nat) = 4 * 4 from rfl, sl_sum_4]
  refine sl_sum_c 4 (fun d hd => sl_sum_c 4 (fun c hc => sl_sum_c 4 (fun b hb => sl_sum_c 4 (fun a ha => ?_))))
  have ea : sl_ca (4 * (4 * (4 * d + c) + b) + a) = a := by unfold sl_ca; omega
  have eb : sl_cb (4 * (4 * (4 * d + c) + b) + a) = b := by unfold sl_cb; omega
  have ec : sl_cc (4 * (4 * (4 * d + c) + b) + a) = c := by unfold sl_cc; omega
  have ed : sl_cd (4 * (4 * (4 * d + c) + b) + a) = d := by unfold sl_cd; omega
  rw [ea, eb, ec, ed]
  refine sl_wh_c ⟨fun g => ?_, fun h => ?_⟩
  · obtain ⟨hp, hC⟩ := sl_gg_CH hS ha hb hc hd g
    obtain ⟨s, hs, hf, hA, e⟩ := sl_L2 hAb ha hb hc hd hp hC
    exact ⟨hp, s, hs, hf, e.symm, hA⟩
  · obtain ⟨hp, s, hs, hf, e, hA⟩ := h
    exact (sl_CH_le hsc hS ha hb hc hd hp (sl_L1 ha hb hc hd hp hf hA)).2.2 e
end
end
section
/-! Y: the walks -/
def sl_A0 (lim : Int32) (sa : Nat → Int32) (v P : Nat) : Prop :=
  ¬ lim < nI (sl_pc P) ∧ ∀ u, u < 4 → ¬ (sa (u * 4 + v) = 1 ∧ sl_bit u P = true) ∧ ¬ (sa (u * 4 + v) = 2 ∧ sl_bit u P = false)
def sl_YA (lim : Int32) (sa : Nat → Int32) (s : Nat) : Prop := sl_noc s = true ∧ ∀ v, v < 4 → sl_A0 lim sa v (sl_par s v)
def sl_yw (sy : Nat → Int32) (s : Nat) : Int32 := 0 + sy (0 * 8 + sl_dt s 0) + sy (1 * 8 + sl_dt s 1) + sy (2 * 8 + sl_dt s 2) + sy (3 * 8 + sl_dt s 3)
def sl_NC (nc : Nat → Int32) : Prop := ∀ s, s < 4096 → nc s = if sl_noc s = true then 1 else 0
theorem sl_or_16 : ∀ v, v < 4 → ∀ t, t < 16 → (t ||| 2 ^ v) < 16 := by decide +kernel
theorem sl_stp_16 {Q : Nat → Nat} {t v : Nat} (ht : t < 16) (hv : v < 4) : sl_stp Q t v < 16 := by
  unfold sl_stp
  by_cases h : sl_sub (Q v) t = true
  · rw [if_pos h]; exact sl_or_16 v hv t ht
  · rw [if_neg h]; exact ht
theorem sl_row_16 {Q : Nat → Nat} {t : Nat} (ht : t < 16) : sl_row Q t < 16 := sl_stp_16 (sl_stp_16 (sl_stp_16 (sl_stp_16 ht (by decide)) (by decide)) (by decide)) (by decide)
theorem sl_n4096 {i : Nat} (hi : i < 4096) : ¬ (4096 : Int32) ≤ nI i := nI_ge (b := 4096) hi (by decide)
theorem sl_y4096 : (4096 : Int32) ≤ nI 4096 := by decide
theorem sl_in4096 {i : Nat} (hi : i < 4096) : vp_in (nI i) 4096 := vp_in_nI hi (by decide)
theorem sl_c4096 {i : Nat} (hi : i < 4096) : (nI i).toNatClampNeg = i := nI_clamp (by omega)
theorem sl_in32 {i : Nat} (hi : i < 32) : vp_in (nI i) 32 := vp_in_nI hi (by decide)
theorem sl_c32 {i : Nat} (hi : i < 32) : (nI i).toNatClampNeg = i := nI_clamp (by omega)
section
variable {lim kn mo fi : Int32} {sy sa nc : Nat → Int32}
theorem sl_parOf {post : Int32 → Prop} {s v : Nat} (hs : s < 4096) (hv : v < 4) (K : post (nI (sl_par s v))) : wpY_parentsOf post (lim, kn, mo, fi, sy, sa, nc) (nI s) (nI v) := by
  unfold wpY_parentsOf wpY_digitOf wpY_mask
  dsimp only
  rw [sl_tdt hs hv]
  refine nm_e ?_
  rw [sl_tmk v hv _ (sl_dt_8 s v)]
  exact K
theorem sl_hc12_s {post : Int32 → Prop} {J : Int32 → Int32 → Prop} {s t i n : Nat} {k : Int32} (hs : s < 4096) (ht : t < 16) (hi : i < 4) (h : wY_hasCircle_12 post J (nI s) k lim kn mo fi sy sa nc n (nI (sl_stp (sl_par s) t i)) (nI (i + 1))) : wY_hasCircle_12 post J (nI s) k lim kn mo fi sy sa nc (n + 1) (nI t) (nI i) := by
  refine br_f (sl_n4 hi) (sl_parOf hs hi (br_c ?_ ?_))
  · intro z
    have z2 := (sl_tsub _ (sl_par_16 hi) t ht).mp z
    unfold sl_stp at h
    rw [if_pos z2] at h
    exact nm_r (sl_tor i hi t ht) (nm_r (nI_1 i) h)
  · intro z
    have z2 : ¬ sl_sub (sl_par s i) t = true := fun y => z ((sl_tsub _ (sl_par_16 hi) t ht).mpr y)
    unfold sl_stp at h
    rw [if_neg z2] at h
    exact nm_r (nI_1 i) h
theorem sl_hc12 {post : Int32 → Prop} {J : Int32 → Int32 → Prop} {s t k : Nat} (hs : s < 4096) (ht : t < 16) (K : J (nI (sl_row (sl_par s) t)) (nI (k + 1))) : ∃ n, wY_hasCircle_12 post J (nI s) (nI k) lim kn mo fi sy sa nc n (nI t) 0 :=
  ⟨5, sl_hc12_s (i := 0) hs ht (by decide) (sl_hc12_s (i := 1) hs (sl_stp_16 ht (by decide)) (by decide) (sl_hc12_s (i := 2) hs (sl_stp_16 (sl_stp_16 ht (by decide)) (by decide)) (by decide) (sl_hc12_s (i := 3) hs (sl_stp_16 (sl_stp_16 (sl_stp_16 ht (by decide)) (by decide)) (by decide)) (by decide) (br_t sl_y4 (nm_r (nI_1 k) K)))))⟩
theorem sl_hc {post : Int32 → Prop} {s : Nat} (hs : s < 4096) (K0 : sl_noc s = true → post 0) (K1 : ¬ sl_noc s = true → post 1) : wpY_hasCircle post (lim, kn, mo, fi, sy, sa, nc) (nI s) := by
  have h1 : sl_row (sl_par s) 0 < 16 := sl_row_16 (by decide)
  have h2 := sl_row_16 (Q := sl_par s) h1
  have h3 := sl_row_16 (Q := sl_par s) h2
  have h4 := sl_row_16 (Q := sl_par s) h3
  refine ⟨5, br_f (sl_n4 (i := 0) (by decide)) (sl_hc12 (k := 0) hs (t := 0) (by decide) (br_f (sl_n4 (i := 1) (by decide)) (sl_hc12 (k := 1) hs h1 (br_f (sl_n4 (i := 2) (by decide)) (sl_hc12 (k := 2) hs h2 (br_f (sl_n4 (i := 3) (by decide)) (sl_hc12 (k := 3) hs h3 (br_t sl_y4 ?_))))))))⟩
  have e : sl_noc s = (sl_row (sl_par s) (sl_row (sl_par s) (sl_row (sl_par s) (sl_row (sl_par s) 0))) == 15) := rfl
  refine br_c ?_ ?_
  · intro z
    have z2 := (nI_eq (b := 15) (by omega) (by decide)).mp z
    exact K0 (by rw [e, z2]; rfl)
  · intro z
    refine K1 (fun y => ?_)
    rw [e, beq_iff_eq] at y
    rw [y] at z
    exact z rfl
theorem sl_init {post : SY → Prop} (K : ∀ nc : Nat → Int32, sl_NC nc → post (3, 0, 0, 0, (fun _ => 0), (fun _ => 0), nc)) : wpY_init post := by
  unfold wpY_init
  refine loop_0 (fun n i nc => wY_init_36 post 3 0 0 0 n (nI i) (fun _ => 0) (fun _ => 0) nc) (fun i nc => ∀ s, s < i → nc s = if sl_noc s = true then 1 else 0) 4096 (fun _ => 0) (fun s hs => absurd hs (by omega)) ?_ ?_
  · intro n nc h
    exact br_t sl_y4096 (K nc h)
  · intro n i nc hi h next
    refine br_f (sl_n4096 hi) (sl_hc hi ?_ ?_)
    · intro z
      refine br_t rfl ⟨sl_in4096 hi, ?_⟩
      rw [sl_c4096 hi]
      refine nm_e (nm_r (nI_1 i) (next _ (fun s hs => ?_)))
      rcases Nat.lt_or_ge s i with y | y
      · rw [pk_un (by omega)]; exact h s y
      · have e : s = i := by omega
        rw [e, pk_us, if_pos z]; rfl
    · intro z
      refine br_f (by decide) ⟨sl_in4096 hi, ?_⟩
      rw [sl_c4096 hi]
      refine nm_e (nm_r (nI_1 i) (next _ (fun s hs => ?_)))
      rcases Nat.lt_or_ge s i with y | y
      · rw [pk_un (by omega)]; exact h s y
      · have e : s = i := by omega
        rw [e, pk_us, if_neg z]; rfl
theorem sl_al77 {post : Int32 → Prop} {J13 J42 : Int32 → Prop} {v P i : Nat} {s : Int32} (hv : v < 4) (hP : P < 16) (hi : i < 4) (K : ¬ (sa (i * 4 + v) = 2 ∧ sl_bit i P = false) → J42 (nI (i + 1))) (K0 : (sa (i * 4 + v) = 2 ∧ sl_bit i P = false) → post 0) : wY_allowed_77 post J13 J42 s (nI v) (nI P) (nI i) ((nI P >>> (nI i &&& 31)) &&& 1) lim kn mo fi sy sa nc := by
  unfold wY_allowed_77
  rw [sl_ix4, sl_c16 (by omega)]
  refine ⟨sl_in16 (by omega), br_c ?_ ?_⟩
  · intro h
    refine br_c ?_ ?_
    · intro h2; exact K0 ⟨h, (sl_tbit0 i hi P hP).mp h2⟩
    · intro h2; exact nm_r (nI_1 i) (K (fun z => h2 ((sl_tbit0 i hi P hP).mpr z.2)))
  · intro h
    exact nm_r (nI_1 i) (K (fun z => h z.1))
theorem sl_al42 {post : Int32 → Prop} {J : Int32 → Prop} {v P : Nat} {s : Int32} (hv : v < 4) (hP : P < 16)
    (K : (∀ u, u < 4 → ¬ (sa (u * 4 + v) = 1 ∧ sl_bit u P = true) ∧ ¬ (sa (u * 4 + v) = 2 ∧ sl_bit u P = false)) → J (nI (v + 1)))
    (K0 : ¬ (∀ u, u < 4 → ¬ (sa (u * 4 + v) = 1 ∧ sl_bit u P = true) ∧ ¬ (sa (u * 4 + v) = 2 ∧ sl_bit u P = false)) → post 0) :
    ∃ n, wY_allowed_42 post J s (nI v) (nI P) lim kn mo fi sy sa nc n 0 := by
  refine loop_0 (fun n i (_ : Unit) => wY_allowed_42 post J s (nI v) (nI P) lim kn mo fi sy sa nc n (nI i)) (fun i _ => ∀ u, u < i → ¬ (sa (u * 4 + v) = 1 ∧ sl_bit u P = true) ∧ ¬ (sa (u * 4 + v) = 2 ∧ sl_bit u P = false)) 4 () (fun u hu => absurd hu (by omega)) ?_ ?_
  · intro n _ h
    exact br_t sl_y4 (nm_r (nI_1 v) (K h))
  · intro n i _ hi h next
    refine br_f (sl_n4 hi) (nm_e ?_)
    rw [sl_ix4, sl_c16 (by omega)]
    have go : ∀ (n1 : ¬ (sa (i * 4 + v) = 1 ∧ sl_bit i P = true)), wY_allowed_77 post J (wY_allowed_42 post J s (nI v) (nI P) lim kn mo fi sy sa nc n) s (nI v) (nI P) (nI i) ((nI P >>> (nI i &&& 31)) &&& 1) lim kn mo fi sy sa nc := by
      intro n1
      refine sl_al77 hv hP hi ?_ ?_
      · intro n2
        refine next () (fun u hu => ?_)
        rcases Nat.lt_or_ge u i with y | y
        · exact h u y
        · have e : u = i := by omega
          rw [e]; exact ⟨n1, n2⟩
      · intro y
        exact K0 (fun z => (z i hi).2 y)
    refine ⟨sl_in16 (by omega), br_c ?_ ?_⟩
    · intro h1
      refine br_c ?_ ?_
      · intro h2
        exact K0 (fun z => (z i hi).1 ⟨h1, (sl_tbit1 i hi P hP).mp h2⟩)
      · intro h2
        exact go (fun z => h2 ((sl_tbit1 i hi P hP).mpr z.2))
    · intro h1
      exact go (fun z => h1 z.1)
theorem sl_bits {post : Int32 → Prop} {P : Nat} (hP : P < 16) (K : post (nI (sl_pc P))) : wpY_bits post (lim, kn, mo, fi, sy, sa, nc) (nI P) := by
  unfold wpY_bits
  dsimp only
  rw [sl_tpc P hP]
  exact K
theorem sl_allowed {post : Int32 → Prop} {s : Nat} (hs : s < 4096) (hnc : sl_NC nc) (K1 : sl_YA lim sa s → post 1) (K0 : ¬ sl_YA lim sa s → post 0) : wpY_allowed post (lim, kn, mo, fi, sy, sa, nc) (nI s) := by
  unfold wpY_allowed
  dsimp only
  rw [sl_c4096 hs, hnc s hs]
  refine ⟨sl_in4096 hs, ?_⟩
  by_cases hn : sl_noc s = true
  · rw [if_pos hn]
    refine br_f (by decide) ?_
    refine loop_0 (fun n i (_ : Unit) => wY_allowed_13 post (nI s) lim kn mo fi sy sa nc n (nI i)) (fun i _ => ∀ v, v < i → sl_A0 lim sa v (sl_par s v)) 4 () (fun u hu => absurd hu (by omega)) ?_ ?_
    · intro n _ h
      exact br_t sl_y4 (K1 ⟨hn, h⟩)
    · intro n i _ hi h next
      have hP := sl_par_16 (s := s) hi
      refine br_f (sl_n4 hi) (sl_parOf hs hi (sl_bits hP (br_c ?_ ?_)))
      · intro h1
        refine sl_al42 hi hP ?_ ?_
        · intro h2
          refine next () (fun v hv => ?_)
          rcases Nat.lt_or_ge v i with y | y
          · exact h v y
          · have e : v = i := by omega
            rw [e]; exact ⟨Int32.not_lt.mpr h1, h2⟩
        · intro h2
          exact K0 (fun z => h2 (z.2 i hi).2)
      · intro h1
        exact K0 (fun z => (z.2 i hi).1 (Int32.not_le.mp h1))
  · rw [if_neg hn]
    exact br_t rfl (K0 (fun z => hn z.1))
theorem sl_wth_s {post : Int32 → Prop} {s i n : Nat} {x : Int32} (hs : s < 4096) (hi : i < 4) (h : wY_worth_4 post (nI s) lim kn mo fi sy sa nc n (x + sy (i * 8 + sl_dt s i)) (nI (i + 1))) : wY_worth_4 post (nI s) lim kn mo fi sy sa nc (n + 1) x (nI i) := by
  refine br_f (sl_n4 hi) ?_
  unfold wpY_digitOf
  dsimp only
  have h8 := sl_dt_8 s i
  rw [sl_tdt hs hi, sl_ix8, sl_c32 (by omega)]
  exact ⟨sl_in32 (by omega), nm_e (nm_r (nI_1 i) h)⟩
theorem sl_worth {post : Int32 → Prop} {s : Nat} (hs : s < 4096) (K : post (sl_yw sy s)) : wpY_worth post (lim, kn, mo, fi, sy, sa, nc) (nI s) :=
  ⟨5, sl_wth_s (i := 0) hs (by decide) (sl_wth_s (i := 1) hs (by decide) (sl_wth_s (i := 2) hs (by decide) (sl_wth_s (i := 3) hs (by decide) (br_t sl_y4 K))))⟩
end
end
section
/-! Y: the scans over all structures -/
/-- after a scan of the first n structures: the greatest worth and the first structure that has it -/
def sl_YM (lim : Int32) (sy sa : Nat → Int32) (n : Nat) (mo fi : Int32) : Prop :=
  (∀ s, s < n → sl_YA lim sa s → sl_yw sy s ≤ mo) ∧ ((mo = -100000 ∧ fi = 0 ∧ ∀ s, s < n → ¬ sl_YA lim sa s) ∨ ∃ f, f < n ∧ fi = nI f ∧ sl_YA lim sa f ∧ mo = sl_yw sy f ∧ ∀ s, s < f → sl_YA lim sa s → sl_yw sy s < mo)
def sl_YR (sy : Nat → Int32) : Prop := ∀ s, s < 4096 → (-100000 : Int32) < sl_yw sy s
/-- a scan for the greatest worth of those that satisfy G -/
def sl_BM (sy : Nat → Int32) (G : Nat → Prop) (n : Nat) (mo : Int32) : Prop :=
  (∀ s, s < n → G s → sl_yw sy s ≤ mo) ∧ ((mo = -100000 ∧ ∀ s, s < n → ¬ G s) ∨ ∃ f, f < n ∧ G f ∧ mo = sl_yw sy f)
theorem sl_YM_no {lim : Int32} {sy sa : Nat → Int32} {n : Nat} {mo fi : Int32} (h : sl_YM lim sy sa n mo fi) (hn : ¬ sl_YA lim sa n) : sl_YM lim sy sa (n + 1) mo fi := by
  refine ⟨fun s hs hA => ?_, ?_⟩
  · rcases Nat.lt_or_ge s n with z | z
    · exact h.1 s z hA
    · have e : s = n := by omega
      rw [e] at hA; exact absurd hA hn
  · rcases h.2 with ⟨a, b, c⟩ | ⟨f, hf, r⟩
    · refine Or.inl ⟨a, b, fun s hs => ?_⟩
      rcases Nat.lt_or_ge s n with z | z
      · exact c s z
      · have e : s = n := by omega
        rw [e]; exact hn
    · exact Or.inr ⟨f, by omega, r⟩
theorem sl_YM_le {lim : Int32} {sy sa : Nat → Int32} {n : Nat} {mo fi : Int32} (hr : (-100000 : Int32) < sl_yw sy n) (h : sl_YM lim sy sa n mo fi) (hw : sl_yw sy n ≤ mo) : sl_YM lim sy sa (n + 1) mo fi := by
  refine ⟨fun s hs hA => ?_, ?_⟩
  · rcases Nat.lt_or_ge s n with z | z
    · exact h.1 s z hA
    · have e : s = n := by omega
      rw [e]; exact hw
  · rcases h.2 with ⟨a, b, c⟩ | ⟨f, hf, r⟩
    · rw [a] at hw
      exact absurd hr (Int32.not_lt.mpr hw)
    · exact Or.inr ⟨f, by omega, r⟩
theorem sl_YM_gt {lim : Int32} {sy sa : Nat → Int32} {n : Nat} {mo fi : Int32} (h : sl_YM lim sy sa n mo fi) (hn : sl_YA lim sa n) (hw : ¬ sl_yw sy n ≤ mo) : sl_YM lim sy sa (n + 1) (sl_yw sy n) (nI n) := by
  have hw2 : mo < sl_yw sy n := Int32.not_le.mp hw
  refine ⟨fun s hs hA => ?_, Or.inr ⟨n, by omega, rfl, hn, rfl, fun s hs hA => ?_⟩⟩
  · rcases Nat.lt_or_ge s n with z | z
    · exact Int32.le_trans (h.1 s z hA) (Int32.le_of_lt hw2)
    · have e : s = n := by omega
      rw [e]; exact Int32.le_refl _
  · have h1 := Int32.le_iff_toInt_le.mp (h.1 s hs hA)
    have h2 := Int32.lt_iff_toInt_lt.mp hw2
    rw [Int32.lt_iff_toInt_lt]
    omega
theorem sl_BM_no {sy : Nat → Int32} {G : Nat → Prop} {n : Nat} {mo : Int32} (h : sl_BM sy G n mo) (hn : ¬ G n) : sl_BM sy G (n + 1) mo := by
  refine ⟨fun s hs hA => ?_, ?_⟩
  · rcases Nat.lt_or_ge s n with z | z
    · exact h.1 s z hA
    · have e : s = n := by omega
      rw [e] at hA; exact absurd hA hn
  · rcases h.2 with ⟨a, c⟩ | ⟨f, hf, r⟩
    · refine Or.inl ⟨a, fun s hs => ?_⟩
      rcases Nat.lt_or_ge s n with z | z
      · exact c s z
      · have e : s = n := by omega
        rw [e]; exact hn
    · exact Or.inr ⟨f, by omega, r⟩
theorem sl_BM_le {sy : Nat → Int32} {G : Nat → Prop} {n : Nat} {mo : Int32} (hr : (-100000 : Int32) < sl_yw sy n) (h : sl_BM sy G n mo) (hw : sl_yw sy n ≤ mo) : sl_BM sy G (n + 1) mo := by
  refine ⟨fun s hs hA => ?_, ?_⟩
  · rcases Nat.lt_or_ge s n with z | z
    · exact h.1 s z hA
    · have e : s = n := by omega
      rw [e]; exact hw
  · rcases h.2 with ⟨a, c⟩ | ⟨f, hf, r⟩
    · rw [a] at hw
      exact absurd hr (Int32.not_lt.mpr hw)
    · exact Or.inr ⟨f, by omega, r⟩
theorem sl_BM_gt {sy : Nat → Int32} {G : Nat → Prop} {n : Nat} {mo : Int32} (h : sl_BM sy G n mo) (hn : G n) (hw : ¬ sl_yw sy n ≤ mo) : sl_BM sy G (n + 1) (sl_yw sy n) := by
  have hw2 : mo < sl_yw sy n := Int32.not_le.mp hw
  refine ⟨fun s hs hA => ?_, Or.inr ⟨n, by omega, hn, rfl⟩⟩
  rcases Nat.lt_or_ge s n with z | z
  · exact Int32.le_trans (h.1 s z hA) (Int32.le_of_lt hw2)
  · have e : s = n := by omega
    rw [e]; exact Int32.le_refl _
section
variable {lim kn mo fi : Int32} {sy sa nc : Nat → Int32}
theorem sl_workOut {post : SY → Prop} (hnc : sl_NC nc) (hr : sl_YR sy) (hk : ¬ kn = 0 → sl_YM lim sy sa 4096 mo fi)
    (K : ∀ kn mo fi : Int32, ¬ kn = 0 → sl_YM lim sy sa 4096 mo fi → post (lim, kn, mo, fi, sy, sa, nc)) : wpY_workOut post (lim, kn, mo, fi, sy, sa, nc) := by
  unfold wpY_workOut
  refine br_c ?_ (fun h => K kn mo fi h (hk h))
  intro _
  refine loop_0 (fun n i (s : Int32 × Int32) => wY_workOut_26 post lim 1 sy sa nc n (nI i) s.1 s.2) (fun i s => sl_YM lim sy sa i s.1 s.2) 4096 (-100000, 0) ⟨fun s hs => absurd hs (by omega), Or.inl ⟨rfl, rfl, fun s hs => absurd hs (by omega)⟩⟩ ?_ ?_
  · intro n s h
    exact br_t sl_y4096 (K 1 s.1 s.2 (by decide) h)
  · intro n i s hi h next
    refine br_f (sl_n4096 hi) (sl_allowed hi hnc ?_ ?_)
    · intro hA
      refine br_f (by decide) (sl_worth hi (br_c ?_ ?_))
      · intro hw
        exact nm_r (nI_1 i) (next s (sl_YM_le (hr i hi) h hw))
      · intro hw
        exact nm_r (nI_1 i) (next (sl_yw sy i, nI i) (sl_YM_gt h hA hw))
    · intro hA
      exact br_t rfl (nm_r (nI_1 i) (next s (sl_YM_no h hA)))
theorem sl_bestBy {post : Int32 → Prop} {u v : Nat} {has : Int32} (hu : u < 4) (hv : v < 4) (hnc : sl_NC nc) (hr : sl_YR sy)
    (K : ∀ r : Int32, sl_BM sy (fun s => ((nI (sl_par s v) >>> (nI u &&& 31)) &&& 1) = has ∧ sl_YA lim sa s) 4096 r → post r) : wpY_bestBy post (lim, kn, mo, fi, sy, sa, nc) (nI u) (nI v) has := by
  unfold wpY_bestBy
  refine loop_0 (fun n i x => wY_bestBy_7 post (nI u) (nI v) has lim kn mo fi sy sa nc n x (nI i)) (fun i x => sl_BM sy (fun s => ((nI (sl_par s v) >>> (nI u &&& 31)) &&& 1) = has ∧ sl_YA lim sa s) i x) 4096 (-100000) ⟨fun s hs => absurd hs (by omega), Or.inl ⟨rfl, fun s hs => absurd hs (by omega)⟩⟩ ?_ ?_
  · intro n x h
    exact br_t sl_y4096 (K x h)
  · intro n i x hi h next
    refine br_f (sl_n4096 hi) (sl_parOf hi hv (br_c ?_ ?_))
    · intro hb
      refine sl_allowed hi hnc ?_ ?_
      · intro hA
        refine br_f (by decide) (sl_worth hi (br_c ?_ ?_))
        · intro hw
          exact nm_r (nI_1 i) (next x (sl_BM_le (hr i hi) h hw))
        · intro hw
          exact nm_r (nI_1 i) (next (sl_yw sy i) (sl_BM_gt h ⟨hb, hA⟩ hw))
      · intro hA
        exact br_t rfl (nm_r (nI_1 i) (next x (sl_BM_no h (fun z => hA z.2))))
    · intro hb
      exact nm_r (nI_1 i) (next x (sl_BM_no h (fun z => hb z.1)))
theorem sl_tor2 : ∀ a, a < 4 → ∀ b, b < 4 → (((1 : Int32) <<< (nI a &&& 31)) ||| ((1 : Int32) <<< (nI b &&& 31))) = nI (2 ^ a ||| 2 ^ b) := by decide +kernel
theorem sl_p2_16 : ∀ a, a < 4 → 2 ^ a < 16 := by decide +kernel
theorem sl_or2_16 : ∀ a, a < 4 → ∀ b, b < 4 → (2 ^ a ||| 2 ^ b) < 16 := by decide +kernel
theorem sl_follows {post : Int32 → Prop} {s a b c d : Nat} (hs : s < 4096) (ha : a < 4) (hb : b < 4) (hc : c < 4) (hd : d < 4) (hne : d ≠ a) (K1 : sl_fol s a b c = true → post 1) (K0 : ¬ sl_fol s a b c = true → post 0) : wpY_follows post (lim, kn, mo, fi, sy, sa, nc) (nI s) (nI a) (nI b) (nI c) (nI d) := by
  unfold wpY_follows
  refine sl_parOf hs ha (sl_parOf hs hb (sl_parOf hs hc ?_))
  have pa := sl_par_16 (s := s) ha
  have pb := sl_par_16 (s := s) hb
  have pc := sl_par_16 (s := s) hc
  have hfol : sl_fol s a b c = true ↔ sl_par s a = 0 ∧ sl_sub (sl_par s b) (2 ^ a) = true ∧ sl_sub (sl_par s c) (2 ^ a ||| 2 ^ b) = true := by
    unfold sl_fol
    rw [Bool.and_eq_true, Bool.and_eq_true, beq_iff_eq]
  rw [hfol] at K1 K0
  rw [sl_tor2 a ha b hb, sl_t1 a ha]
  refine br_c ?_ ?_
  · intro h1
    have e1 : sl_par s a = 0 := (nI_eq (b := 0) (by omega) (by decide)).mp h1
    refine br_c ?_ ?_
    · intro h2
      have e2 := (sl_tsub _ pb _ (sl_p2_16 a ha)).mp h2
      refine br_c ?_ ?_
      · intro h3
        have e3 := (sl_tsub _ pc _ (sl_or2_16 a ha b hb)).mp h3
        refine br_f ?_ (K1 ⟨e1, e2, e3⟩)
        rw [nI_eq (by omega) (by omega)]
        exact hne
      · intro h3
        exact K0 (fun z => h3 ((sl_tsub _ pc _ (sl_or2_16 a ha b hb)).mpr z.2.2))
    · intro h2
      exact K0 (fun z => h2 ((sl_tsub _ pb _ (sl_p2_16 a ha)).mpr z.2.1))
  · intro h1
    refine K0 (fun z => h1 ?_)
    rw [z.1]
    rfl
theorem sl_someFollows {post : Int32 → Prop} {a b c d : Nat} (hnc : sl_NC nc) (ha : a < 4) (hb : b < 4) (hc : c < 4) (hd : d < 4) (hne : d ≠ a)
    (K1 : (∃ s, s < 4096 ∧ sl_fol s a b c = true ∧ sl_yw sy s = mo ∧ sl_YA lim sa s) → post 1)
    (K0 : ¬ (∃ s, s < 4096 ∧ sl_fol s a b c = true ∧ sl_yw sy s = mo ∧ sl_YA lim sa s) → post 0) : wpY_someFollows post (lim, kn, mo, fi, sy, sa, nc) (nI a) (nI b) (nI c) (nI d) := by
  unfold wpY_someFollows
  refine loop_0 (fun n i (_ : Unit) => wY_someFollows_3 post (nI a) (nI b) (nI c) (nI d) lim kn mo fi sy sa nc n (nI i)) (fun i _ => ∀ s, s < i → ¬ (sl_fol s a b c = true ∧ sl_yw sy s = mo ∧ sl_YA lim sa s)) 4096 () (fun s hs => absurd hs (by omega)) ?_ ?_
  · intro n _ h
    exact br_t sl_y4096 (K0 (fun ⟨s, hs, r⟩ => h s hs r))
  · intro n i _ hi h next
    have no : ¬ (sl_fol i a b c = true ∧ sl_yw sy i = mo ∧ sl_YA lim sa i) → wY_someFollows_3 post (nI a) (nI b) (nI c) (nI d) lim kn mo fi sy sa nc n (nI (i + 1)) := by
      intro hn
      refine next () (fun s hs => ?_)
      rcases Nat.lt_or_ge s i with z | z
      · exact h s z
      · have e : s = i := by omega
        rw [e]; exact hn
    refine br_f (sl_n4096 hi) (sl_follows hi ha hb hc hd hne ?_ ?_)
    · intro hf
      refine br_f (by decide) (sl_worth hi (br_c ?_ ?_))
      · intro hw
        refine sl_allowed hi hnc ?_ ?_
        · intro hA
          exact br_f (by decide) (K1 ⟨i, hi, hf, hw, hA⟩)
        · intro hA
          exact br_t rfl (nm_r (nI_1 i) (no (fun z => hA z.2.2)))
      · intro hw
        exact nm_r (nI_1 i) (no (fun z => hw z.2.1))
    · intro hf
      exact br_t rfl (nm_r (nI_1 i) (no (fun z => hf z.1)))
theorem sl_tca : ∀ k, k < 256 → nI k &&& 3 = nI (sl_ca k) := by decide +kernel
theorem sl_tcb : ∀ k, k < 256 → (nI k >>> ((2 : Int32) &&& 31)) &&& 3 = nI (sl_cb k) := by decide +kernel
theorem sl_tcc : ∀ k, k < 256 → (nI k >>> ((4 : Int32) &&& 31)) &&& 3 = nI (sl_cc k) := by decide +kernel
theorem sl_tcd : ∀ k, k < 256 → (nI k >>> ((6 : Int32) &&& 31)) &&& 3 = nI (sl_cd k) := by decide +kernel
theorem sl_tord : ∀ k, k < 256 → ((((((1 : Int32) <<< (nI (sl_ca k) &&& 31)) ||| ((1 : Int32) <<< (nI (sl_cb k) &&& 31))) ||| ((1 : Int32) <<< (nI (sl_cc k) &&& 31))) ||| ((1 : Int32) <<< (nI (sl_cd k) &&& 31))) = 15 ↔ sl_perm (sl_ca k) (sl_cb k) (sl_cc k) (sl_cd k) = true) := by decide +kernel
def sl_OK (lim : Int32) (sy sa : Nat → Int32) (mo : Int32) (k : Nat) : Prop := sl_perm (sl_ca k) (sl_cb k) (sl_cc k) (sl_cd k) = true ∧ ∃ s, s < 4096 ∧ sl_fol s (sl_ca k) (sl_cb k) (sl_cc k) = true ∧ sl_yw sy s = mo ∧ sl_YA lim sa s
theorem sl_orders {post : Int32 → SY → Prop} (hnc : sl_NC nc) (K : post (sl_sum (fun k => sl_wh (sl_OK lim sy sa mo k) 1) 256) (lim, kn, mo, fi, sy, sa, nc)) : ∃ n, wY_orders_19 post lim kn mo fi sy sa nc n 0 0 := by
  refine loop_0 (fun n i x => wY_orders_19 post lim kn mo fi sy sa nc n x (nI i)) (fun i x => x = sl_sum (fun k => sl_wh (sl_OK lim sy sa mo k) 1) i) 256 0 rfl ?_ ?_
  · intro n x h
    have h2 : (256 : Int32) ≤ nI 256 := by decide
    rw [← h] at K
    exact br_t h2 K
  · intro n i x hi h next
    have h2 : ¬ (256 : Int32) ≤ nI i := nI_ge (b := 256) hi (by decide)
    have ha : sl_ca i < 4 := Nat.mod_lt _ (by decide)
    have hb : sl_cb i < 4 := Nat.mod_lt _ (by decide)
    have hc : sl_cc i < 4 := Nat.mod_lt _ (by decide)
    have hd : sl_cd i < 4 := Nat.mod_lt _ (by decide)
    have yes : sl_OK lim sy sa mo i → wY_orders_19 post lim kn mo fi sy sa nc n (x + 1) (nI (i + 1)) := by
      intro hO
      refine next _ ?_
      show x + 1 = sl_sum (fun k => sl_wh (sl_OK lim sy sa mo k) 1) i + sl_wh (sl_OK lim sy sa mo i) 1
      rw [sl_wh_t hO, h]
    have no : ¬ sl_OK lim sy sa mo i → wY_orders_19 post lim kn mo fi sy sa nc n x (nI (i + 1)) := by
      intro hO
      refine next _ ?_
      show x = sl_sum (fun k => sl_wh (sl_OK lim sy sa mo k) 1) i + sl_wh (sl_OK lim sy sa mo i) 1
      rw [sl_wh_f hO, h, Int32.add_zero]
    refine br_f h2 (nm_r (sl_tca i hi) (nm_r (sl_tcb i hi) (nm_r (sl_tcc i hi) (nm_r (sl_tcd i hi) (br_c ?_ ?_)))))
    · intro hp
      have hp2 := (sl_tord i hi).mp hp
      unfold wY_orders_80
      refine br_f (by decide) (sl_someFollows hnc ha hb hc hd (sl_perm_ne _ ha _ hb _ hc _ hd hp2).2.1.1 ?_ ?_)
      · intro hE
        exact br_f (by decide) (nm_e (nm_r (nI_1 i) (yes ⟨hp2, hE⟩)))
      · intro hE
        exact br_t rfl (nm_r (nI_1 i) (no (fun z => hE z.2)))
    · intro hp
      unfold wY_orders_80
      exact br_t rfl (nm_r (nI_1 i) (no (fun z => hp ((sl_tord i hi).mpr z.1))))
theorem sl_yedges {post : Int32 → SY → Prop} {f : Nat} (hf : f < 4096) (K : post (0 + nI (sl_pc (sl_par f 0)) + nI (sl_pc (sl_par f 1)) + nI (sl_pc (sl_par f 2)) + nI (sl_pc (sl_par f 3))) (lim, kn, mo, nI f, sy, sa, nc)) : ∃ n, wY_edges_20 post lim kn mo (nI f) sy sa nc n 0 0 := by
  have step : ∀ (n i : Nat) (x : Int32), i < 4 → wY_edges_20 post lim kn mo (nI f) sy sa nc n (x + nI (sl_pc (sl_par f i))) (nI (i + 1)) → wY_edges_20 post lim kn mo (nI f) sy sa nc (n + 1) x (nI i) := by
    intro n i x hi h
    exact br_f (sl_n4 hi) (sl_parOf hf hi (sl_bits (sl_par_16 hi) (nm_e (nm_r (nI_1 i) h))))
  exact ⟨5, step 4 0 _ (by decide) (step 3 1 _ (by decide) (step 2 2 _ (by decide) (step 1 3 _ (by decide) (br_t sl_y4 K))))⟩
end
end
section
/-! X's allowed parents and Y's: the masks of what is said of edges -/
def sl_mm (sa : Nat → Int32) (q : Int32) (v : Nat) : Nat := (if sa (0 * 4 + v) = q then 1 else 0) + (if sa (1 * 4 + v) = q then 2 else 0) + (if sa (2 * 4 + v) = q then 4 else 0) + (if sa (3 * 4 + v) = q then 8 else 0)
theorem sl_mm_t : ∀ b0 b1 b2 b3 : Bool, ((if b0 = true then 1 else 0) + (if b1 = true then 2 else 0) + (if b2 = true then 4 else 0) + (if b3 = true then 8 else 0)) < 16 ∧ (sl_bit 0 ((if b0 = true then 1 else 0) + (if b1 = true then 2 else 0) + (if b2 = true then 4 else 0) + (if b3 = true then 8 else 0)) = b0 ∧ sl_bit 1 ((if b0 = true then 1 else 0) + (if b1 = true then 2 else 0) + (if b2 = true then 4 else 0) + (if b3 = true then 8 else 0)) = b1) ∧ (sl_bit 2 ((if b0 = true then 1 else 0) + (if b1 = true then 2 else 0) + (if b2 = true then 4 else 0) + (if b3 = true then 8 else 0)) = b2 ∧ sl_bit 3 ((if b0 = true then 1 else 0) + (if b1 = true then 2 else 0) + (if b2 = true then 4 else 0) + (if b3 = true then 8 else 0)) = b3) := by
  intro b0 b1 b2 b3
  cases b0 <;> cases b1 <;> cases b2 <;> cases b3 <;> decide
theorem sl_mm_e (sa : Nat → Int32) (q : Int32) (v : Nat) : sl_mm sa q v = (if decide (sa (0 * 4 + v) = q) = true then 1 else 0) + (if decide (sa (1 * 4 + v) = q) = true then 2 else 0) + (if decide (sa (2 * 4 + v) = q) = true then 4 else 0) + (if decide (sa (3 * 4 + v) = q) = true then 8 else 0) := by
  unfold sl_mm
  simp only [decide_eq_true_eq]
theorem sl_mm_16 (sa : Nat → Int32) (q : Int32) (v : Nat) : sl_mm sa q v < 16 := by
  rw [sl_mm_e]
  exact (sl_mm_t _ _ _ _).1
theorem sl_mm_bit (sa : Nat → Int32) (q : Int32) (v : Nat) : ∀ u, u < 4 → (sl_bit u (sl_mm sa q v) = true ↔ sa (u * 4 + v) = q) := by
  rw [sl_mm_e]
  have h := sl_mm_t (decide (sa (0 * 4 + v) = q)) (decide (sa (1 * 4 + v) = q)) (decide (sa (2 * 4 + v) = q)) (decide (sa (3 * 4 + v) = q))
  refine sl_le4 ?_ ?_ ?_ ?_
  · rw [h.2.1.1, decide_eq_true_eq]
  · rw [h.2.1.2, decide_eq_true_eq]
  · rw [h.2.2.1, decide_eq_true_eq]
  · rw [h.2.2.2, decide_eq_true_eq]
theorem sl_tOr : ∀ a, a < 16 → ∀ b, b < 16 → nI a ||| nI b = nI (a ||| b) := by decide +kernel
theorem sl_or_lt : ∀ a, a < 16 → ∀ b, b < 16 → (a ||| b) < 16 := by decide +kernel
theorem sl_bit_or : ∀ u, u < 4 → ∀ a, a < 16 → ∀ b, b < 16 → sl_bit u (a ||| b) = (sl_bit u a || sl_bit u b) := by decide +kernel
theorem sl_tAnd0 : ∀ P, P < 16 → ∀ t, t < 16 → (nI P &&& nI t = 0 ↔ ∀ u, u < 4 → sl_bit u t = true → sl_bit u P = false) := by decide +kernel
theorem sl_tAndE : ∀ P, P < 16 → ∀ t, t < 16 → (nI P &&& nI t = nI t ↔ ∀ u, u < 4 → sl_bit u t = true → sl_bit u P = true) := by decide +kernel
theorem sl_bit_ext : ∀ a, a < 16 → ∀ b, b < 16 → (∀ u, u < 4 → sl_bit u a = sl_bit u b) → a = b := by decide +kernel
/-- the masks of X hold what Y's table says -/
def sl_FR (fb rq sa : Nat → Int32) : Prop := ∀ v, v < 4 → fb v = nI (sl_mm sa 1 v) ∧ rq v = nI (sl_mm sa 2 v)
/-- a demand on the parents P of v: fixed, must (a mask M), must not (a mask N) -/
def sl_dem (fx : Nat → Int32) (M N : Nat → Nat) (v P : Nat) : Prop := (fx v < 0 ∨ fx v = nI P) ∧ (∀ u, u < 4 → sl_bit u (M v) = true → sl_bit u P = true) ∧ (∀ u, u < 4 → sl_bit u (N v) = true → sl_bit u P = false)
theorem sl_XA_iff {m : Int32} {fb rq fx mu mn sa : Nat → Int32} {M N : Nat → Nat} (hF : sl_FR fb rq sa) (hM : ∀ v, v < 4 → M v < 16 ∧ mu v = nI (M v)) (hN : ∀ v, v < 4 → N v < 16 ∧ mn v = nI (N v)) {v P : Nat} (hv : v < 4) (hP : P < 16) :
    sl_XA m fb rq fx mu mn v P ↔ sl_bit v P = false ∧ sl_A0 m sa v P ∧ sl_dem fx M N v P := by
  obtain ⟨f1, f2⟩ := hF v hv
  obtain ⟨m1, m2⟩ := hM v hv
  obtain ⟨n1, n2⟩ := hN v hv
  have k1 := sl_mm_16 sa 1 v
  have k2 := sl_mm_16 sa 2 v
  have b1 := sl_mm_bit sa 1 v
  have b2 := sl_mm_bit sa 2 v
  unfold sl_XA sl_A0 sl_dem
  rw [f1, f2, m2, n2, sl_tOr _ k1 _ n1, sl_tOr _ k2 _ m1, sl_tAnd0 P hP _ (sl_or_lt _ k1 _ n1), sl_tAndE P hP _ (sl_or_lt _ k2 _ m1)]
  constructor
  · rintro ⟨h1, h2, h3, h4, h5⟩
    refine ⟨h1, ⟨h3, fun u hu => ⟨fun z => ?_, fun z => ?_⟩⟩, h2, fun u hu hb => ?_, fun u hu hb => ?_⟩
    · have t := h4 u hu (by rw [sl_bit_or u hu _ k1 _ n1, (b1 u hu).mpr z.1]; rfl)
      rw [z.2] at t
      exact absurd t (by decide)
    · have t := h5 u hu (by rw [sl_bit_or u hu _ k2 _ m1, (b2 u hu).mpr z.1]; rfl)
      rw [z.2] at t
      exact absurd t (by decide)
    · exact h5 u hu (by rw [sl_bit_or u hu _ k2 _ m1, hb, Bool.or_true])
    · exact h4 u hu (by rw [sl_bit_or u hu _ k1 _ n1, hb, Bool.or_true])
  · rintro ⟨h1, ⟨h3, h4⟩, h2, h5, h6⟩
    refine ⟨h1, h2, h3, fun u hu hb => ?_, fun u hu hb => ?_⟩
    · rw [sl_bit_or u hu _ k1 _ n1, Bool.or_eq_true] at hb
      rcases hb with hb | hb
      · cases hc : sl_bit u P
        · rfl
        · exact absurd ⟨(b1 u hu).mp hb, hc⟩ (h4 u hu).1
      · exact h6 u hu hb
    · rw [sl_bit_or u hu _ k2 _ m1, Bool.or_eq_true] at hb
      rcases hb with hb | hb
      · cases hc : sl_bit u P
        · exact absurd ⟨(b2 u hu).mp hb, hc⟩ (h4 u hu).2
        · rfl
      · exact h5 u hu hb
theorem sl_XA_b {m : Int32} {fb rq fx mu mn : Nat → Int32} : ∀ v P, sl_XA m fb rq fx mu mn v P → sl_bit v P = false := fun _ _ h => h.1
/-- the allowed structures that meet the demands -/
theorem sl_ST_iff {m : Int32} {sc fb rq fx mu mn sa : Nat → Int32} {M N : Nat → Nat} (hF : sl_FR fb rq sa) (hM : ∀ v, v < 4 → M v < 16 ∧ mu v = nI (M v)) (hN : ∀ v, v < 4 → N v < 16 ∧ mn v = nI (N v)) (x : Int) :
    sl_ST sc (sl_XA m fb rq fx mu mn) x ↔ ∃ s, s < 4096 ∧ sl_YA m sa s ∧ (∀ v, v < 4 → sl_dem fx M N v (sl_par s v)) ∧ x = sl_wo sc s := by
  constructor
  · rintro ⟨s, hs, hn, hA, e⟩
    have t : ∀ v, v < 4 → _ := fun v hv => (sl_XA_iff hF hM hN hv (sl_par_16 hv)).mp (hA v hv)
    exact ⟨s, hs, ⟨hn, fun v hv => (t v hv).2.1⟩, fun v hv => (t v hv).2.2, e⟩
  · rintro ⟨s, hs, ⟨hn, hA⟩, hD, e⟩
    exact ⟨s, hs, hn, fun v hv => (sl_XA_iff hF hM hN hv (sl_par_16 hv)).mpr ⟨sl_par_bit hv, hA v hv, hD v hv⟩, e⟩
theorem sl_dem0 {fx : Nat → Int32} (hfx : ∀ j, j < 4 → fx j = -1) {v : Nat} (hv : v < 4) (P : Nat) : sl_dem fx (fun _ => 0) (fun _ => 0) v P := by
  have z : ∀ u, u < 4 → ¬ sl_bit u 0 = true := by decide
  exact ⟨Or.inl (by rw [hfx v hv]; decide), fun u hu h => absurd h (z u hu), fun u hu h => absurd h (z u hu)⟩
theorem sl_z16 {mu : Nat → Int32} (h : ∀ j, j < 4 → mu j = 0) : ∀ v, v < 4 → (fun _ : Nat => 0) v < 16 ∧ mu v = nI ((fun _ : Nat => 0) v) := fun v hv => ⟨show 0 < 16 from by decide, h v hv⟩
/-! Y's worth and X's scores -/
def sl_SR (sc sy : Nat → Int32) : Prop := ∀ v, v < 4 → ∀ d, d < 8 → sy (v * 8 + d) = sc (v * 16 + sl_mk v d)
theorem sl_yw_wo {sc sy : Nat → Int32} (hsc : sl_Rng sc) (hR : sl_SR sc sy) (s : Nat) : (sl_yw sy s).toInt = sl_wo sc s := by
  have p0 := sl_par_16 (s := s) (v := 0) (by omega)
  have p1 := sl_par_16 (s := s) (v := 1) (by omega)
  have p2 := sl_par_16 (s := s) (v := 2) (by omega)
  have p3 := sl_par_16 (s := s) (v := 3) (by omega)
  have h0 := hsc (0 * 16 + sl_par s 0) (by omega)
  have h1 := hsc (1 * 16 + sl_par s 1) (by omega)
  have h2 := hsc (2 * 16 + sl_par s 2) (by omega)
  have h3 := hsc (3 * 16 + sl_par s 3) (by omega)
  unfold sl_yw
  rw [hR 0 (by omega) _ (sl_dt_8 s 0), hR 1 (by omega) _ (sl_dt_8 s 1), hR 2 (by omega) _ (sl_dt_8 s 2), hR 3 (by omega) _ (sl_dt_8 s 3)]
  show (0 + sc (0 * 16 + sl_par s 0) + sc (1 * 16 + sl_par s 1) + sc (2 * 16 + sl_par s 2) + sc (3 * 16 + sl_par s 3)).toInt = sl_wo sc s
  unfold sl_wo
  rw [Int32.zero_add]
  have e1 := sl_addI (a := sc (0 * 16 + sl_par s 0)) (b := sc (1 * 16 + sl_par s 1)) (by omega) (by omega) (by omega) (by omega)
  have e2 := sl_addI (a := sc (0 * 16 + sl_par s 0) + sc (1 * 16 + sl_par s 1)) (b := sc (2 * 16 + sl_par s 2)) (by omega) (by omega) (by omega) (by omega)
  have e3 := sl_addI (a := sc (0 * 16 + sl_par s 0) + sc (1 * 16 + sl_par s 1) + sc (2 * 16 + sl_par s 2)) (b := sc (3 * 16 + sl_par s 3)) (by omega) (by omega) (by omega) (by omega)
  omega
theorem sl_YR_of {sc sy : Nat → Int32} (hsc : sl_Rng sc) (hR : sl_SR sc sy) : sl_YR sy := by
  intro s _
  have h1 := sl_yw_wo hsc hR s
  have h2 := sl_wo_r hsc s
  rw [Int32.lt_iff_toInt_lt, sl_none]
  omega
/-- a scan's result as a greatest value -/
theorem sl_BM_Mx {sc sy : Nat → Int32} {G : Nat → Prop} {r : Int32} (hsc : sl_Rng sc) (hR : sl_SR sc sy) (h : sl_BM sy G 4096 r) : sl_Mx (fun x => ∃ s, s < 4096 ∧ G s ∧ x = sl_wo sc s) r.toInt := by
  refine ⟨?_, ?_⟩
  · rintro x ⟨s, hs, hG, rfl⟩
    rw [← sl_yw_wo hsc hR]
    exact Int32.le_iff_toInt_le.mp (h.1 s hs hG)
  · rcases h.2 with ⟨a, b⟩ | ⟨f, hf, hG, e⟩
    · refine Or.inr ⟨by rw [a]; exact sl_none, ?_⟩
      rintro x ⟨s, hs, hG, _⟩
      exact b s hs hG
    · exact Or.inl ⟨f, hf, hG, by rw [e]; exact sl_yw_wo hsc hR f⟩
theorem sl_YM_BM {lim : Int32} {sy sa : Nat → Int32} {n : Nat} {mo fi : Int32} (h : sl_YM lim sy sa n mo fi) : sl_BM sy (sl_YA lim sa) n mo := by
  refine ⟨h.1, ?_⟩
  rcases h.2 with ⟨a, _, c⟩ | ⟨f, hf, _, hA, e, _⟩
  · exact Or.inl ⟨a, c⟩
  · exact Or.inr ⟨f, hf, hA, e⟩
/-- X's last entry against Y's scan: with demands D -/
theorem sl_meet {m : Int32} {sc fb rq fx mu mn sa sy w bo wa : Nat → Int32} {M N : Nat → Nat} {G : Nat → Prop} {r : Int32} (hsc : sl_Rng sc) (hR : sl_SR sc sy) (hF : sl_FR fb rq sa) (hM : ∀ v, v < 4 → M v < 16 ∧ mu v = nI (M v)) (hN : ∀ v, v < 4 → N v < 16 ∧ mn v = nI (N v))
    (hS : sl_SV sc (sl_XA m fb rq fx mu mn) w bo wa) (hG : ∀ s, s < 4096 → (G s ↔ sl_YA m sa s ∧ ∀ v, v < 4 → sl_dem fx M N v (sl_par s v))) (hB : sl_BM sy G 4096 r) : r = bo 15 := by
  apply Int32.toInt_inj.mp
  have h1 := sl_top sl_XA_b hsc hS
  have h2 := sl_BM_Mx hsc hR hB
  refine sl_mx_uniq (S := fun x => ∃ s, s < 4096 ∧ G s ∧ x = sl_wo sc s) ?_ h2 (sl_mx_congr (fun x => ?_) h1)
  · rintro x ⟨s, _, _, rfl⟩
    have := sl_wo_r hsc s
    omega
  · rw [sl_ST_iff hF hM hN]
    constructor
    · rintro ⟨s, hs, hA, hD, e⟩
      exact ⟨s, hs, (hG s hs).mpr ⟨hA, hD⟩, e⟩
    · rintro ⟨s, hs, hg, e⟩
      exact ⟨s, hs, ((hG s hs).mp hg).1, ((hG s hs).mp hg).2, e⟩
theorem sl_meet0 {m : Int32} {sc fb rq fx mu mn sa sy w bo wa : Nat → Int32} {mo fi : Int32} (hsc : sl_Rng sc) (hR : sl_SR sc sy) (hF : sl_FR fb rq sa) (hfx : ∀ j, j < 4 → fx j = -1) (hmu : ∀ j, j < 4 → mu j = 0) (hmn : ∀ j, j < 4 → mn j = 0)
    (hS : sl_SV sc (sl_XA m fb rq fx mu mn) w bo wa) (hY : sl_YM m sy sa 4096 mo fi) : mo = bo 15 :=
  sl_meet hsc hR hF (sl_z16 hmu) (sl_z16 hmn) hS (fun _ _ => ⟨fun h => ⟨h, fun _ hv => sl_dem0 hfx hv _⟩, fun h => h.1⟩) (sl_YM_BM hY)
end
section
/-! X: the first best structure -/
/-- f is the first of the best allowed structures -/
def sl_FO (m : Int32) (sc sa : Nat → Int32) (f : Nat) : Prop := f < 4096 ∧ sl_YA m sa f ∧ (∀ s, s < 4096 → sl_YA m sa s → sl_wo sc s ≤ sl_wo sc f) ∧ (∀ s, s < f → sl_YA m sa s → sl_wo sc s < sl_wo sc f)
theorem sl_YM_FO {lim : Int32} {sc sy sa : Nat → Int32} {mo fi : Int32} (hsc : sl_Rng sc) (hR : sl_SR sc sy) (h : sl_YM lim sy sa 4096 mo fi) (hn : ¬ mo = -100000) : ∃ f, fi = nI f ∧ sl_FO lim sc sa f ∧ mo.toInt = sl_wo sc f := by
  rcases h.2 with ⟨a, _⟩ | ⟨f, hf, e, hA, em, hm⟩
  · exact absurd a hn
  · have e2 : mo.toInt = sl_wo sc f := by rw [em]; exact sl_yw_wo hsc hR f
    refine ⟨f, e, ⟨hf, hA, fun s hs hs2 => ?_, fun s hs hs2 => ?_⟩, e2⟩
    · rw [← e2, ← sl_yw_wo hsc hR]
      exact Int32.le_iff_toInt_le.mp (h.1 s hs hs2)
    · rw [← e2, ← sl_yw_wo hsc hR]
      exact Int32.lt_iff_toInt_lt.mp (hm s hs hs2)
theorem sl_dt_of_par {s f v : Nat} (hv : v < 4) (h : sl_par s v = sl_par f v) : sl_dt s v = sl_dt f v := by
  have a := (sl_mk_le v hv _ (sl_dt_8 s v) _ (sl_dt_8 f v)).mp (Nat.le_of_eq h)
  have b := (sl_mk_le v hv _ (sl_dt_8 f v) _ (sl_dt_8 s v)).mp (Nat.le_of_eq h.symm)
  omega
theorem sl_dt_lt {s f v : Nat} (hv : v < 4) (h : sl_par s v < sl_par f v) : sl_dt s v < sl_dt f v := by
  rcases Nat.lt_or_ge (sl_dt s v) (sl_dt f v) with z | z
  · exact z
  · have b := (sl_mk_le v hv _ (sl_dt_8 f v) _ (sl_dt_8 s v)).mpr z
    have e1 : sl_par s v = sl_mk v (sl_dt s v) := rfl
    have e2 : sl_par f v = sl_mk v (sl_dt f v) := rfl
    omega
theorem sl_lex {s f : Nat} (hs : s < 4096) (hf : f < 4096) : ∀ v, v < 4 → (∀ j, j < v → sl_par s j = sl_par f j) → sl_par s v < sl_par f v → s < f := by
  have es := sl_digits hs
  have ef := sl_digits hf
  have s0 := sl_dt_8 s 0
  have s1 := sl_dt_8 s 1
  have s2 := sl_dt_8 s 2
  have s3 := sl_dt_8 s 3
  have f0 := sl_dt_8 f 0
  have f1 := sl_dt_8 f 1
  have f2 := sl_dt_8 f 2
  have f3 := sl_dt_8 f 3
  unfold sl_mks at es ef
  refine sl_le4 ?_ ?_ ?_ ?_
  · intro _ h
    have t := sl_dt_lt (by omega) h
    omega
  · intro e h
    have t := sl_dt_lt (by omega) h
    have e0 := sl_dt_of_par (by omega) (e 0 (by omega))
    omega
  · intro e h
    have t := sl_dt_lt (by omega) h
    have e0 := sl_dt_of_par (by omega) (e 0 (by omega))
    have e1 := sl_dt_of_par (by omega) (e 1 (by omega))
    omega
  · intro e h
    have t := sl_dt_lt (by omega) h
    have e0 := sl_dt_of_par (by omega) (e 0 (by omega))
    have e1 := sl_dt_of_par (by omega) (e 1 (by omega))
    have e2 := sl_dt_of_par (by omega) (e 2 (by omega))
    omega
section
variable {m : Int32} {sc fb rq fx mu mn wi bo wa sa : Nat → Int32}
/-- with the first v variables fixed as in f: the next one fixed to p keeps the greatest worth only from f's own parents on -/
theorem sl_fix {f v p : Nat} (hsc : sl_Rng sc) (hF : sl_FR fb rq sa) (hO : sl_FO m sc sa f) (hv : v < 4) (hp : p ≤ sl_par f v) (hmu : ∀ j, j < 4 → mu j = 0) (hmn : ∀ j, j < 4 → mn j = 0)
    (h1 : ∀ j, j < v → fx j = nI (sl_par f j)) (h2 : fx v = nI p) (h3 : ∀ j, v < j → j < 4 → fx j = -1) (hS : sl_SV sc (sl_XA m fb rq fx mu mn) wi bo wa) :
    ((bo 15).toInt = sl_wo sc f ↔ p = sl_par f v) := by
  have hT := sl_mx_congr (sl_ST_iff hF (sl_z16 hmu) (sl_z16 hmn)) (sl_top sl_XA_b hsc hS)
  have z : ∀ u, u < 4 → ¬ sl_bit u 0 = true := by decide
  have pf := sl_par_16 (s := f) hv
  obtain ⟨o1, o2, o3, o4⟩ := hO
  constructor
  · intro he
    rcases hT.2 with ⟨s, hs, hA, hD, e⟩ | ⟨a, _⟩
    · rcases Nat.lt_or_ge p (sl_par f v) with y | y
      · have val : ∀ j, j < 4 → ∀ q, q < 16 → fx j = nI q → sl_par s j = q := by
          intro j hj q hq eq
          have hps := sl_par_16 (s := s) hj
          rcases (hD j hj).1 with n | n
          · rw [eq] at n
            exact absurd n (nI_pos (by omega))
          · rw [eq] at n
            exact ((nI_eq (by omega) (by omega)).mp n).symm
        have hlt : s < f := by
          refine sl_lex hs o1 v hv (fun j hj => ?_) ?_
          · exact val j (by omega) _ (sl_par_16 (by omega)) (h1 j hj)
          · rw [val v hv p (by omega) h2]; exact y
        have t := o4 s hlt hA
        omega
      · omega
    · have t := sl_wo_r hsc f
      omega
  · intro e
    have up : (bo 15).toInt ≤ sl_wo sc f := by
      rcases hT.2 with ⟨s, hs, hA, hD, e⟩ | ⟨a, _⟩
      · rw [e]; exact o3 s hs hA
      · have t := sl_wo_r hsc f
        omega
    have lo : sl_wo sc f ≤ (bo 15).toInt := by
      refine hT.1 _ ⟨f, o1, o2, fun j hj => ?_, rfl⟩
      refine ⟨?_, fun u hu h => absurd h (z u hu), fun u hu h => absurd h (z u hu)⟩
      rcases Nat.lt_trichotomy j v with y | y | y
      · exact Or.inr (h1 j y)
      · rw [y, h2, e]; exact Or.inr rfl
      · rw [h3 j y hj]; exact Or.inl (by decide)
    omega
theorem sl_xbest {post : Int32 → SX → Prop} (hsc : sl_Rng sc) (K : ∀ fx mu mn wi bo wa : Nat → Int32, (∀ j, j < 4 → fx j = -1) → (∀ j, j < 4 → mu j = 0) → (∀ j, j < 4 → mn j = 0) → sl_SV sc (sl_XA m fb rq fx mu mn) wi bo wa → post (bo 15) (m, sc, fb, rq, fx, mu, mn, wi, bo, wa)) : wpX_best post (m, sc, fb, rq, fx, mu, mn, wi, bo, wa) := by
  unfold wpX_best
  refine sl_noDemands ?_
  intro fx mu mn h1 h2 h3
  refine sl_solve hsc ?_
  intro w bo wa hS
  exact K fx mu mn w bo wa h1 h2 h3 hS
theorem sl_ff25 {post : Int32 → SX → Prop} {J : Int32 → Int32 → (Nat → Int32) → (Nat → Int32) → (Nat → Int32) → (Nat → Int32) → (Nat → Int32) → (Nat → Int32) → (Nat → Int32) → (Nat → Int32) → (Nat → Int32) → Prop} {f v : Nat} {W : Int32} (hsc : sl_Rng sc) (hF : sl_FR fb rq sa) (hO : sl_FO m sc sa f) (hW : W.toInt = sl_wo sc f) (hv : v < 4) (hmu : ∀ j, j < 4 → mu j = 0) (hmn : ∀ j, j < 4 → mn j = 0)
    (K : ∀ fx wi bo wa : Nat → Int32, (∀ j, j < v + 1 → fx j = nI (sl_par f j)) → (∀ j, v < j → j < 4 → fx j = -1) → J (nI (v + 1)) m sc fb rq fx mu mn wi bo wa) :
    ∀ (d p n : Nat) (fx wi bo wa : Nat → Int32), p + d = sl_par f v → d + 1 < n → (∀ j, j < v → fx j = nI (sl_par f j)) → (∀ j, v < j → j < 4 → fx j = -1) → wX_findFirst_25 post J W (nI v) n 0 (nI p) m sc fb rq fx mu mn wi bo wa := by
  have pf := sl_par_16 (s := f) hv
  intro d
  induction d with
  | zero =>
    intro p n fx wi bo wa hp hn h1 h3
    obtain ⟨n, rfl⟩ : ∃ k, n = k + 2 := ⟨n - 2, by omega⟩
    refine br_f (sl_n16 (by omega)) (br_t rfl ⟨sl_in4 hv, ?_⟩)
    rw [sl_c4 hv]
    refine nm_e (sl_solve hsc ?_)
    intro w bo' wa' hS
    have h1' : ∀ j, j < v → upd fx v (nI p) j = nI (sl_par f j) := fun j hj => by rw [pk_un (by omega)]; exact h1 j hj
    have h3' : ∀ j, v < j → j < 4 → upd fx v (nI p) j = -1 := fun j hj hj4 => by rw [pk_un (by omega)]; exact h3 j hj hj4
    have hx := (sl_fix hsc hF hO hv (p := p) (by omega) hmu hmn h1' pk_us h3' hS).mpr (by omega)
    have hx2 : bo' 15 = W := Int32.toInt_inj.mp (hx.trans hW.symm)
    have fin : J (nI (v + 1)) m sc fb rq (upd fx v (nI p)) mu mn w bo' wa' := by
      refine K _ _ _ _ (fun j hj => ?_) h3'
      rcases Nat.lt_or_ge j v with z | z
      · exact h1' j z
      · have e : j = v := by omega
        rw [e, pk_us]
        exact congrArg nI (by omega)
    refine br_t hx2 (nm_r (nI_1 p) ?_)
    rcases Nat.lt_or_ge (p + 1) 16 with z | z
    · exact br_f (sl_n16 z) (br_f (by decide) (nm_r (nI_1 v) fin))
    · have e : p + 1 = 16 := by omega
      rw [e]
      exact br_t sl_y16 (nm_r (nI_1 v) fin)
  | succ d ih =>
    intro p n fx wi bo wa hp hn h1 h3
    obtain ⟨n, rfl⟩ : ∃ k, n = k + 1 := ⟨n - 1, by omega⟩
    refine br_f (sl_n16 (by omega)) (br_t rfl ⟨sl_in4 hv, ?_⟩)
    rw [sl_c4 hv]
    refine nm_e (sl_solve hsc ?_)
    intro w bo' wa' hS
    have h1' : ∀ j, j < v → upd fx v (nI p) j = nI (sl_par f j) := fun j hj => by rw [pk_un (by omega)]; exact h1 j hj
    have h3' : ∀ j, v < j → j < 4 → upd fx v (nI p) j = -1 := fun j hj hj4 => by rw [pk_un (by omega)]; exact h3 j hj hj4
    have hx := sl_fix hsc hF hO hv (p := p) (by omega) hmu hmn h1' pk_us h3' hS
    have hx2 : ¬ bo' 15 = W := by
      intro z
      have t := hx.mp (by rw [z]; exact hW)
      omega
    exact br_f hx2 (nm_r (nI_1 p) (ih (p + 1) n _ _ _ _ (by omega) (by omega) h1' h3'))
theorem sl_ff {post : Int32 → SX → Prop} {sy : Nat → Int32} {mo fi : Int32} (hsc : sl_Rng sc) (hR : sl_SR sc sy) (hF : sl_FR fb rq sa) (hY : sl_YM m sy sa 4096 mo fi)
    (K0 : mo = -100000 → ∀ fx mu mn wi bo wa : Nat → Int32, post 0 (m, sc, fb, rq, fx, mu, mn, wi, bo, wa))
    (K1 : ∀ f, ¬ mo = -100000 → fi = nI f → f < 4096 → ∀ fx mu mn wi bo wa : Nat → Int32, (∀ j, j < 4 → fx j = nI (sl_par f j)) → post 1 (m, sc, fb, rq, fx, mu, mn, wi, bo, wa)) : wpX_findFirst post (m, sc, fb, rq, fx, mu, mn, wi, bo, wa) := by
  unfold wpX_findFirst
  refine sl_xbest hsc ?_
  intro fx mu mn wi bo wa hfx hmu hmn hS
  have e := sl_meet0 hsc hR hF hfx hmu hmn hS hY
  refine br_c ?_ ?_
  · intro z
    exact K0 (e.trans z) _ _ _ _ _ _
  · intro z
    have hn : ¬ mo = -100000 := fun y => z (e.symm.trans y)
    obtain ⟨f, ef, hO, hW⟩ := sl_YM_FO hsc hR hY hn
    rw [e] at hW
    refine loop_0 (fun n i (s : (Nat → Int32) × (Nat → Int32) × (Nat → Int32) × (Nat → Int32)) => wX_findFirst_15 post (bo 15) n (nI i) m sc fb rq s.1 mu mn s.2.1 s.2.2.1 s.2.2.2) (fun i s => (∀ j, j < i → s.1 j = nI (sl_par f j)) ∧ (∀ j, i ≤ j → j < 4 → s.1 j = -1)) 4 (fx, wi, bo, wa) ⟨fun j hj => absurd hj (by omega), fun j _ hj => hfx j hj⟩ ?_ ?_
    · intro n s h
      exact br_t sl_y4 (K1 f hn ef hO.1 _ _ _ _ _ _ h.1)
    · intro n i s hi h next
      refine br_f (sl_n4 hi) ⟨18, sl_ff25 (post := post) (v := i) hsc hF hO hW hi hmu hmn ?_ (sl_par f i) 0 18 _ _ _ _ (by omega) ?_ h.1 (fun j hj hj4 => h.2 j (by omega) hj4)⟩
      · intro fx' wi' bo' wa' k1 k2
        exact next (fx', wi', bo', wa') ⟨k1, fun j hj hj4 => k2 j (by omega) hj4⟩
      · have := sl_par_16 (s := f) hi
        omega
theorem sl_xedges {post : Int32 → SX → Prop} {f : Nat} (h : ∀ j, j < 4 → fx j = nI (sl_par f j)) (K : post (0 + nI (sl_pc (sl_par f 0)) + nI (sl_pc (sl_par f 1)) + nI (sl_pc (sl_par f 2)) + nI (sl_pc (sl_par f 3))) (m, sc, fb, rq, fx, mu, mn, wi, bo, wa)) : ∃ n, wX_edges_16 post m sc fb rq fx mu mn wi bo wa n 0 0 := by
  have step : ∀ (n i : Nat) (x : Int32), i < 4 → wX_edges_16 post m sc fb rq fx mu mn wi bo wa n (x + nI (sl_pc (sl_par f i))) (nI (i + 1)) → wX_edges_16 post m sc fb rq fx mu mn wi bo wa (n + 1) x (nI i) := by
    intro n i x hi hh
    refine br_f (sl_n4 hi) ⟨sl_in4 hi, ?_⟩
    rw [sl_c4 hi, h i hi]
    exact sl_size (sl_par_16 hi) (nm_e (nm_r (nI_1 i) hh))
  exact ⟨5, step 4 0 _ (by decide) (step 3 1 _ (by decide) (step 2 2 _ (by decide) (step 1 3 _ (by decide) (br_t sl_y4 K))))⟩
end
end
section
/-! scores from data, on both sides -/
def sl_cs (n j : Nat) : Nat := n / 2 ^ (4 * j) % 16
theorem sl_cs_16 (n j : Nat) : sl_cs n j < 16 := Nat.mod_lt _ (by decide)
theorem sl_4j (j : Nat) : 4 * nI j = nI (4 * j) := pk_mul 4 j
theorem sl_xcase {n j : Nat} (hn : n < 2 ^ 64) (hj : j < 16) : ((((lN n).toUInt64 >>> ((4 * nI j).toInt64.toUInt64 &&& Int64.toUInt64 63)).toInt64).toInt32) &&& 15 = nI (sl_cs n j) := by
  rw [sl_4j, wb_shr hn (by omega), lN_i, pk_and _ 4 (by decide)]
  unfold sl_cs
  generalize n / 2 ^ (4 * j) = q
  show nI (q % 2 ^ 32 % 2 ^ 4) = nI (q % 16)
  exact congrArg nI (by omega)
theorem sl_15b : ∀ i, i < 64 → (15#64).getLsbD i = decide (i < 4) := by decide +kernel
theorem sl_ycase {n j : Nat} (hn : n < 2 ^ 64) (hj : j < 16) : ((lN n >>> ((4 * nI j).toInt64 &&& 63)) &&& 15).toInt32 = nI (sl_cs n j) := by
  rw [sl_4j, wb_c (4 * j) (by omega), ← lN_i]
  congr 1
  apply wb_inj
  rw [Int64.toBitVec_and, Int64.toBitVec_shiftRight, wb_tb, wb_tb, wb_tb, wb_sm (4 * j) (by omega)]
  show (BitVec.ofNat 64 n).sshiftRight (BitVec.ofNat 64 (4 * j)).toNat &&& 15#64 = BitVec.ofNat 64 (n / 2 ^ (4 * j) % 2 ^ 4)
  rw [BitVec.toNat_ofNat, Nat.mod_eq_of_lt (by omega : 4 * j < 2 ^ 64)]
  apply BitVec.eq_of_getLsbD_eq
  intro i hi
  rw [BitVec.getLsbD_and, BitVec.getLsbD_sshiftRight, sl_15b i hi, BitVec.getLsbD_ofNat, BitVec.getLsbD_ofNat, Nat.testBit_mod_two_pow, Nat.testBit_div_two_pow]
  by_cases h : i < 4
  · have h1 : 4 * j + i < 64 := by omega
    have h2 : ¬ 64 ≤ i := by omega
    have h3 : i + 4 * j < 64 := by omega
    simp [h, h1, h2, h3, hi, Nat.add_comm]
  · simp [h]
/-- cases with the variable 0 and 1, where the parents P are set as t -/
def sl_ht (n v P t : Nat) : Nat → Nat × Nat
  | 0 => (0, 0)
  | j + 1 => if (sl_cs n j &&& P) = t then (if sl_bit v (sl_cs n j) = true then ((sl_ht n v P t j).1, (sl_ht n v P t j).2 + 1) else ((sl_ht n v P t j).1 + 1, (sl_ht n v P t j).2)) else sl_ht n v P t j
theorem sl_ht_y1 {n v P t j : Nat} (h : (sl_cs n j &&& P) = t) (hb : sl_bit v (sl_cs n j) = true) : sl_ht n v P t (j + 1) = ((sl_ht n v P t j).1, (sl_ht n v P t j).2 + 1) := by
  show (if (sl_cs n j &&& P) = t then (if sl_bit v (sl_cs n j) = true then _ else _) else _) = _
  rw [if_pos h, if_pos hb]
theorem sl_ht_y0 {n v P t j : Nat} (h : (sl_cs n j &&& P) = t) (hb : ¬ sl_bit v (sl_cs n j) = true) : sl_ht n v P t (j + 1) = ((sl_ht n v P t j).1 + 1, (sl_ht n v P t j).2) := by
  show (if (sl_cs n j &&& P) = t then (if sl_bit v (sl_cs n j) = true then _ else _) else _) = _
  rw [if_pos h, if_neg hb]
theorem sl_ht_n {n v P t j : Nat} (h : ¬ (sl_cs n j &&& P) = t) : sl_ht n v P t (j + 1) = sl_ht n v P t j := by
  show (if (sl_cs n j &&& P) = t then (if sl_bit v (sl_cs n j) = true then _ else _) else _) = _
  rw [if_neg h]
theorem sl_ht_le (n v P t : Nat) : ∀ j, (sl_ht n v P t j).1 + (sl_ht n v P t j).2 ≤ j := by
  intro j
  induction j with
  | zero => exact Nat.le_refl _
  | succ j ih =>
    by_cases h : (sl_cs n j &&& P) = t
    · by_cases hb : sl_bit v (sl_cs n j) = true
      · rw [sl_ht_y1 h hb]; dsimp only; omega
      · rw [sl_ht_y0 h hb]; dsimp only; omega
    · rw [sl_ht_n h]; omega
def sl_hm (n v P t : Nat) : Nat := if (sl_ht n v P t 16).1 ≤ (sl_ht n v P t 16).2 then (sl_ht n v P t 16).2 else (sl_ht n v P t 16).1
theorem sl_hm_le (n v P t : Nat) : sl_hm n v P t ≤ 16 := by
  have h := sl_ht_le n v P t 16
  unfold sl_hm
  by_cases z : (sl_ht n v P t 16).1 ≤ (sl_ht n v P t 16).2
  · rw [if_pos z]; omega
  · rw [if_neg z]; omega
theorem sl_tAndT {c P t : Nat} (hc : c < 16) (hP : P < 16) (ht : t < 16) : (nI c &&& nI P) = nI t ↔ (c &&& P) = t := by
  have h : (c &&& P) ≤ P := Nat.and_le_right
  rw [nx_and, nI_eq (by omega) (by omega)]
theorem sl_hitsAt {post : Int32 → Prop} {n v P t : Nat} (hn : n < 2 ^ 64) (hv : v < 4) (hP : P < 16) (ht : t < 16) (K : post (nI (sl_hm n v P t))) : wpX_hitsAt post (lN n) (nI v) (nI P) (nI t) := by
  unfold wpX_hitsAt
  refine loop_0 (fun f i (s : Nat × Nat) => wX_hitsAt_9 post (lN n) (nI v) (nI P) (nI t) f (nI s.1) (nI s.2) (nI i)) (fun i s => s = sl_ht n v P t i) 16 (0, 0) rfl ?_ ?_
  · intro f s h
    subst h
    have hl := sl_ht_le n v P t 16
    refine br_t sl_y16 (br_c ?_ ?_)
    · intro z
      rw [nI_leI (by omega) (by omega)] at z
      unfold sl_hm at K
      rw [if_pos z] at K
      exact K
    · intro z
      rw [nI_leI (by omega) (by omega)] at z
      unfold sl_hm at K
      rw [if_neg z] at K
      exact K
  · intro f i s hi h next
    subst h
    refine br_f (sl_n16 hi) ?_
    unfold wpX_caseAt
    rw [sl_xcase hn hi]
    have hc := sl_cs_16 n i
    refine br_c ?_ ?_
    · intro z
      rw [sl_tAndT hc hP ht] at z
      refine br_c ?_ ?_
      · intro y
        rw [sl_tbit1 v hv _ hc] at y
        exact nm_r (nI_1 _) (nm_r (nI_1 i) (next _ (sl_ht_y1 z y).symm))
      · intro y
        rw [sl_tbit1 v hv _ hc] at y
        exact nm_r (nI_1 _) (nm_r (nI_1 i) (next _ (sl_ht_y0 z y).symm))
    · intro z
      rw [sl_tAndT hc hP ht] at z
      exact nm_r (nI_1 i) (next _ (sl_ht_n z).symm)
section
variable {lim kn mo fi : Int32} {sy sa nc : Nat → Int32}
theorem sl_greater {post : Int32 → Prop} {n v P t : Nat} (hn : n < 2 ^ 64) (hv : v < 4) (hP : P < 16) (ht : t < 16) (K : post (nI (sl_hm n v P t))) : wpY_greater post (lim, kn, mo, fi, sy, sa, nc) (lN n) (nI v) (nI P) (nI t) := by
  unfold wpY_greater
  refine loop_0 (fun f i (s : Nat × Nat) => wY_greater_9 post (lN n) (nI v) (nI P) (nI t) lim kn mo fi sy sa nc f (nI s.1) (nI s.2) (nI i)) (fun i s => s = sl_ht n v P t i) 16 (0, 0) rfl ?_ ?_
  · intro f s h
    subst h
    have hl := sl_ht_le n v P t 16
    refine br_t sl_y16 (br_c ?_ ?_)
    · intro z
      rw [nI_leI (by omega) (by omega)] at z
      unfold sl_hm at K
      rw [if_pos z] at K
      exact K
    · intro z
      rw [nI_leI (by omega) (by omega)] at z
      unfold sl_hm at K
      rw [if_neg z] at K
      exact K
  · intro f i s hi h next
    subst h
    refine br_f (sl_n16 hi) (nm_r (sl_ycase hn hi) ?_)
    have hc := sl_cs_16 n i
    rw [sl_tbit v hv _ hc]
    refine br_c ?_ ?_
    · intro z
      rw [sl_tAndT hc hP ht] at z
      by_cases y : sl_bit v (sl_cs n i) = true
      · have e : sl_cs n i / 2 ^ v % 2 = 1 := by simpa [sl_bit] using y
        rw [e]
        refine nm_r (nI_add _ _) (nm_r (e' := nI (sl_ht n v P t i).1) ?_ (nm_r (nI_1 i) (next _ (sl_ht_y1 z y).symm)))
        rw [nI_1, pk_sub (by omega)]
        exact congrArg nI (by omega)
      · have e : sl_cs n i / 2 ^ v % 2 = 0 := by
          have h2 : ¬ sl_cs n i / 2 ^ v % 2 = 1 := by simpa [sl_bit] using y
          omega
        rw [e]
        refine nm_r (nI_add _ _) (nm_r (e' := nI ((sl_ht n v P t i).1 + 1)) ?_ (nm_r (nI_1 i) (next _ (sl_ht_y0 z y).symm)))
        rw [nI_1, pk_sub (by omega)]
        exact congrArg nI (by omega)
    · intro z
      rw [sl_tAndT hc hP ht] at z
      exact nm_r (nI_1 i) (next _ (sl_ht_n z).symm)
/-- the hits of all settings -/
def sl_sm (n v P : Nat) : Nat → Nat
  | 0 => 0
  | t + 1 => if sl_sub t P = true then sl_sm n v P t + sl_hm n v P t else sl_sm n v P t
theorem sl_sm_y {n v P t : Nat} (h : sl_sub t P = true) : sl_sm n v P (t + 1) = sl_sm n v P t + sl_hm n v P t := if_pos h
theorem sl_sm_n {n v P t : Nat} (h : ¬ sl_sub t P = true) : sl_sm n v P (t + 1) = sl_sm n v P t := if_neg h
theorem sl_sm_le (n v P : Nat) : ∀ t, sl_sm n v P t ≤ 16 * t := by
  intro t
  induction t with
  | zero => exact Nat.le_refl _
  | succ t ih =>
    have h := sl_hm_le n v P t
    by_cases z : sl_sub t P = true
    · rw [sl_sm_y z]; omega
    · rw [sl_sm_n z]; omega
def sl_lv (n v P : Nat) : Int32 := nI (sl_sm n v P 16) - (3 * ((1 : Int32) <<< (nI (sl_pc P) &&& 31)))
theorem sl_t3 : ∀ P, P < 16 → 3 * ((1 : Int32) <<< (nI (sl_pc P) &&& 31)) = nI (3 * 2 ^ sl_pc P) ∧ 3 * 2 ^ sl_pc P ≤ 48 := by decide +kernel
theorem sl_lv_r {n v P : Nat} (hP : P < 16) : -1000 ≤ (sl_lv n v P).toInt ∧ (sl_lv n v P).toInt ≤ 1000 := by
  have h := sl_sm_le n v P 16
  have h3 := sl_t3 P hP
  unfold sl_lv
  rw [h3.1, Int32.toInt_sub, nI_toInt (by omega), nI_toInt (by omega)]
  rw [Int.bmod_eq_of_le (by omega) (by omega)]
  omega
theorem sl_scoreFrom {post : Int32 → Prop} {n v P : Nat} (hn : n < 2 ^ 64) (hv : v < 4) (hP : P < 16) (K : post (sl_lv n v P)) : wpX_scoreFrom post (lN n) (nI v) (nI P) := by
  unfold wpX_scoreFrom
  refine loop_0 (fun f i (s : Nat) => wX_scoreFrom_6 post (lN n) (nI v) (nI P) f (nI s) (nI i)) (fun i s => s = sl_sm n v P i) 16 0 rfl ?_ ?_
  · intro f s h
    subst h
    exact br_t sl_y16 (sl_size hP K)
  · intro f i s hi h next
    subst h
    refine br_f (sl_n16 hi) (br_c ?_ ?_)
    · intro z
      rw [sl_tsub i hi P hP] at z
      exact sl_hitsAt hn hv hP hi (nm_r (nI_add _ _) (nm_r (nI_1 i) (next _ (sl_sm_y z).symm)))
    · intro z
      rw [sl_tsub i hi P hP] at z
      exact nm_r (nI_1 i) (next _ (sl_sm_n z).symm)
theorem sl_hits {post : Int32 → Prop} {n v P : Nat} (hn : n < 2 ^ 64) (hv : v < 4) (hP : P < 16) (K : post (nI (sl_sm n v P 16))) : wpY_hits post (lim, kn, mo, fi, sy, sa, nc) (lN n) (nI v) (nI P) := by
  unfold wpY_hits
  refine loop_0 (fun f i (s : Nat) => wY_hits_6 post (lN n) (nI v) (nI P) lim kn mo fi sy sa nc f (nI s) (nI i)) (fun i s => s = sl_sm n v P i) 16 0 rfl ?_ ?_
  · intro f s h
    subst h
    exact br_t sl_y16 K
  · intro f i s hi h next
    subst h
    refine br_f (sl_n16 hi) (br_c ?_ ?_)
    · intro z
      rw [sl_tsub i hi P hP] at z
      exact sl_greater hn hv hP hi (nm_r (nI_add _ _) (nm_r (nI_1 i) (next _ (sl_sm_y z).symm)))
    · intro z
      rw [sl_tsub i hi P hP] at z
      exact nm_r (nI_1 i) (next _ (sl_sm_n z).symm)
theorem sl_mask {post : Int32 → Prop} {v d : Nat} (hv : v < 4) (hd : d < 8) (K : post (nI (sl_mk v d))) : wpY_mask post (lim, kn, mo, fi, sy, sa, nc) (nI v) (nI d) := by
  unfold wpY_mask
  dsimp only
  refine nm_e ?_
  rw [sl_tmk v hv d hd]
  exact K
theorem sl_ylearn {post : Int32 → SY → Prop} {n : Nat} (hn : n < 2 ^ 64) (K : ∀ sy : Nat → Int32, (∀ v, v < 4 → ∀ d, d < 8 → sy (v * 8 + d) = sl_lv n v (sl_mk v d)) → post 0 (lim, 0, mo, fi, sy, sa, nc)) : wpY_learn post (lim, kn, mo, fi, sy, sa, nc) (lN n) := by
  unfold wpY_learn
  refine loop_0 (fun f i s => wY_learn_2 post (lN n) lim kn mo fi f (nI i) s sa nc) (fun i s => ∀ v, v < i → ∀ d, d < 8 → s (v * 8 + d) = sl_lv n v (sl_mk v d)) 4 sy (fun v hv => absurd hv (by omega)) ?_ ?_
  · intro f s h
    exact br_t sl_y4 (K s h)
  · intro f v s hv h next
    refine br_f (sl_n4 hv) ?_
    refine loop_0 (fun g i s => wY_learn_10 post (wY_learn_2 post (lN n) lim kn mo fi f) (lN n) (nI v) lim kn mo fi g (nI i) s sa nc) (fun i s => (∀ v', v' < v → ∀ d, d < 8 → s (v' * 8 + d) = sl_lv n v' (sl_mk v' d)) ∧ ∀ d, d < i → s (v * 8 + d) = sl_lv n v (sl_mk v d)) 8 s ⟨h, fun d hd => absurd hd (by omega)⟩ ?_ ?_
    · intro g s h
      have h8 : (8 : Int32) ≤ nI 8 := by decide
      refine br_t h8 (nm_r (nI_1 v) (next s (fun v' hv' d hd => ?_)))
      rcases Nat.lt_or_ge v' v with z | z
      · exact h.1 v' z d hd
      · have e : v' = v := by omega
        rw [e]; exact h.2 d hd
    · intro g i s hi h next2
      have h8 : ¬ (8 : Int32) ≤ nI i := nI_ge (b := 8) hi (by decide)
      have hP := sl_mk_16 v hv i hi
      refine br_f h8 (sl_mask hv hi (sl_bits hP (sl_hits hn hv hP ?_)))
      rw [sl_ix8, sl_c32 (by omega)]
      refine ⟨sl_in32 (by omega), nm_e (nm_r (nI_1 i) (next2 _ ⟨fun v' hv' d hd => ?_, fun d hd => ?_⟩))⟩
      · rw [pk_un (by omega)]; exact h.1 v' hv' d hd
      · rcases Nat.lt_or_ge d i with z | z
        · rw [pk_un (by omega)]; exact h.2 d z
        · have e : d = i := by omega
          rw [e, pk_us]; rfl
end
section
variable {m : Int32} {sc fb rq fx mu mn wi bo wa : Nat → Int32}
theorem sl_xlearn {post : Int32 → SX → Prop} {n : Nat} (hn : n < 2 ^ 64) (K : ∀ sc' : Nat → Int32, (∀ v, v < 4 → ∀ P, P < 16 → (sl_bit v P = false → sc' (v * 16 + P) = sl_lv n v P) ∧ (sl_bit v P = true → sc' (v * 16 + P) = sc (v * 16 + P))) → post 0 (m, sc', fb, rq, fx, mu, mn, wi, bo, wa)) : wpX_learn post (m, sc, fb, rq, fx, mu, mn, wi, bo, wa) (lN n) := by
  unfold wpX_learn
  refine loop_0 (fun f i s => wX_learn_2 post (lN n) m f (nI i) s fb rq fx mu mn wi bo wa) (fun i s => (∀ v, v < 4 → ∀ P, P < 16 → (v < i → sl_bit v P = false → s (v * 16 + P) = sl_lv n v P) ∧ (sl_bit v P = true → s (v * 16 + P) = sc (v * 16 + P)))) 4 sc (fun v hv P hP => ⟨fun z => absurd z (by omega), fun _ => rfl⟩) ?_ ?_
  · intro f s h
    exact br_t sl_y4 (K s (fun v hv P hP => ⟨(h v hv P hP).1 hv, (h v hv P hP).2⟩))
  · intro f v s hv h next
    refine br_f (sl_n4 hv) ?_
    refine loop_0 (fun g i s => wX_learn_10 post (wX_learn_2 post (lN n) m f) (lN n) (nI v) m g (nI i) s fb rq fx mu mn wi bo wa) (fun i s => (∀ v', v' < 4 → ∀ P, P < 16 → (v' < v ∨ (v' = v ∧ P < i) → sl_bit v' P = false → s (v' * 16 + P) = sl_lv n v' P) ∧ (sl_bit v' P = true → s (v' * 16 + P) = sc (v' * 16 + P)))) 16 s (fun v' hv' P hP => ⟨fun z => (h v' hv' P hP).1 (by omega), (h v' hv' P hP).2⟩) ?_ ?_
    · intro g s h
      exact br_t sl_y16 (nm_r (nI_1 v) (next s (fun v' hv' P hP => ⟨fun z => (h v' hv' P hP).1 (by omega), (h v' hv' P hP).2⟩)))
    · intro g i s hi h next2
      refine br_f (sl_n16 hi) (br_c ?_ ?_)
      · intro z
        rw [sl_tbit0 v hv i hi] at z
        refine sl_scoreFrom hn hv hi ?_
        rw [sl_ix, sl_c64 (by omega)]
        refine ⟨sl_in64 (by omega), nm_e (nm_r (nI_1 i) (next2 _ (fun v' hv' P hP => ?_)))⟩
        by_cases e : v' = v ∧ P = i
        · rw [e.1, e.2, pk_us]
          refine ⟨fun _ _ => rfl, fun y => ?_⟩
          rw [z] at y
          exact absurd y (by decide)
        · rw [pk_un (by omega)]
          exact ⟨fun y => (h v' hv' P hP).1 (by omega), (h v' hv' P hP).2⟩
      · intro z
        rw [sl_tbit0 v hv i hi] at z
        refine nm_r (nI_1 i) (next2 s (fun v' hv' P hP => ⟨fun y b => ?_, (h v' hv' P hP).2⟩))
        by_cases e : v' = v ∧ P = i
        · rw [e.1, e.2] at b
          exact absurd b z
        · exact (h v' hv' P hP).1 (by omega) b
end
end
section
/-! towards the owed statements: Y's small methods, existence and uniqueness of the scan's result, updates -/
def sl_oob (p : Int32) : Prop := p < 0 ∨ 4 ≤ p
def sl_bpd (v : Nat) (p : Int32) : Prop := p < 0 ∨ 16 ≤ p ∨ ∃ P, P < 16 ∧ p = nI P ∧ sl_bit v P = true
theorem sl_i0 : (0 : Int32).toInt = 0 := by decide
theorem sl_i3 : (3 : Int32).toInt = 3 := by decide
theorem sl_i4 : (4 : Int32).toInt = 4 := by decide
theorem sl_i15 : (15 : Int32).toInt = 15 := by decide
theorem sl_i16 : (16 : Int32).toInt = 16 := by decide
theorem sl_xbp {post : Int32 → Prop} {v : Nat} (hv : v < 4) (p : Int32) (K1 : sl_bpd v p → post 1) (K0 : ∀ P, P < 16 → p = nI P → sl_bit v P = false → post 0) : wpX_badParents post (nI v) p := by
  rcases pk_ix p (n := 16) (by decide) with h | h | ⟨P, hP, e⟩
  · exact br_t h (K1 (Or.inl h))
  · have h16 : (16 : Int32) ≤ p := h
    have h0 : ¬ p < 0 := by
      rw [Int32.lt_iff_toInt_lt, sl_i0]
      rw [Int32.le_iff_toInt_le, sl_i16] at h16
      omega
    exact br_f h0 (br_t h16 (K1 (Or.inr (Or.inl h16))))
  · subst e
    exact sl_badParents hv hP (fun hb => K1 (Or.inr (Or.inr ⟨P, hP, rfl, hb⟩))) (fun hb => K0 P hP rfl hb)
section
variable {lim kn mo fi : Int32} {sy sa nc : Nat → Int32}
theorem sl_ybad1 {post : Int32 → Prop} {p : Int32} (h : sl_oob p) (K : post 1) : wpY_bad post (lim, kn, mo, fi, sy, sa, nc) p := by
  unfold wpY_bad
  by_cases h0 : p < 0
  · exact br_t h0 K
  · rcases h with h | h
    · exact absurd h h0
    · refine br_f h0 (br_f ?_ K)
      rw [Int32.le_iff_toInt_le, sl_i3]
      rw [Int32.le_iff_toInt_le, sl_i4] at h
      omega
theorem sl_ybad0 {post : Int32 → Prop} {v : Nat} (hv : v < 4) (K : post 0) : wpY_bad post (lim, kn, mo, fi, sy, sa, nc) (nI v) := by
  unfold wpY_bad
  have h3 : nI v ≤ 3 := nI_le (b := 3) (by omega) (by decide)
  exact br_f (nI_pos (by omega)) (br_t h3 K)
theorem sl_ybm1 {post : Int32 → Prop} {v : Nat} {p : Int32} (hv : v < 4) (h : sl_bpd v p) (K : post 1) : wpY_badMask post (lim, kn, mo, fi, sy, sa, nc) (nI v) p := by
  unfold wpY_badMask
  by_cases h0 : p < 0
  · exact br_t h0 K
  · refine br_f h0 ?_
    rcases h with h | h | ⟨P, hP, e, hb⟩
    · exact absurd h h0
    · refine br_t ?_ K
      rw [Int32.lt_iff_toInt_lt, sl_i15]
      rw [Int32.le_iff_toInt_le, sl_i16] at h
      omega
    · subst e
      have h15 : ¬ (15 : Int32) < nI P := nI_nlt (a := 15) (b := P) (by omega) (by decide)
      exact br_f h15 (br_t ((sl_tbit1 v hv P hP).mpr hb) K)
theorem sl_ybm0 {post : Int32 → Prop} {v P : Nat} (hv : v < 4) (hP : P < 16) (hb : sl_bit v P = false) (K : post 0) : wpY_badMask post (lim, kn, mo, fi, sy, sa, nc) (nI v) (nI P) := by
  unfold wpY_badMask
  have h15 : ¬ (15 : Int32) < nI P := nI_nlt (a := 15) (b := P) (by omega) (by decide)
  refine br_f (nI_pos (by omega)) (br_f h15 (br_f ?_ K))
  rw [sl_tbit1 v hv P hP, hb]
  decide
theorem sl_digit {post : Int32 → Prop} {v P : Nat} (hv : v < 4) (hP : P < 16) (K : post (nI (sl_dg v P))) : wpY_digit post (lim, kn, mo, fi, sy, sa, nc) (nI v) (nI P) := by
  unfold wpY_digit
  dsimp only
  refine nm_e ?_
  rw [sl_tdg v hv P hP]
  exact K
end
theorem sl_YM_ex {lim : Int32} {sy sa : Nat → Int32} (hr : sl_YR sy) : ∀ n, n ≤ 4096 → ∃ mo fi, sl_YM lim sy sa n mo fi := by
  intro n
  induction n with
  | zero => intro _; exact ⟨-100000, 0, fun s hs => absurd hs (by omega), Or.inl ⟨rfl, rfl, fun s hs => absurd hs (by omega)⟩⟩
  | succ n ih =>
    intro hn
    obtain ⟨mo, fi, h⟩ := ih (by omega)
    by_cases hA : sl_YA lim sa n
    · by_cases hw : sl_yw sy n ≤ mo
      · exact ⟨mo, fi, sl_YM_le (hr n (by omega)) h hw⟩
      · exact ⟨_, _, sl_YM_gt h hA hw⟩
    · exact ⟨mo, fi, sl_YM_no h hA⟩
theorem sl_YM_uniq {lim : Int32} {sy sa : Nat → Int32} {n : Nat} {mo fi mo' fi' : Int32} (h : sl_YM lim sy sa n mo fi) (h' : sl_YM lim sy sa n mo' fi') : mo = mo' ∧ fi = fi' := by
  rcases h.2 with ⟨a, b, c⟩ | ⟨f, hf, e, hA, em, hm⟩
  · rcases h'.2 with ⟨a', b', c'⟩ | ⟨f', hf', e', hA', em', hm'⟩
    · exact ⟨a.trans a'.symm, b.trans b'.symm⟩
    · exact absurd hA' (c f' hf')
  · rcases h'.2 with ⟨a', b', c'⟩ | ⟨f', hf', e', hA', em', hm'⟩
    · exact absurd hA (c' f hf)
    · have h1 := Int32.le_iff_toInt_le.mp (h.1 f' hf' hA')
      have h2 := Int32.le_iff_toInt_le.mp (h'.1 f hf hA)
      rw [← em'] at h1
      rw [← em] at h2
      have e1 : mo = mo' := Int32.toInt_inj.mp (by omega)
      refine ⟨e1, ?_⟩
      have e2 : f = f' := by
        rcases Nat.lt_trichotomy f f' with z | z | z
        · have t := Int32.lt_iff_toInt_lt.mp (hm' f z hA)
          rw [← em] at t
          omega
        · exact z
        · have t := Int32.lt_iff_toInt_lt.mp (hm f' z hA')
          rw [← em'] at t
          omega
      rw [e, e', e2]
/-! updates -/
theorem sl_SR_upd {sc sy : Nat → Int32} {v P : Nat} {x : Int32} (h : sl_SR sc sy) (hv : v < 4) (hP : P < 16) (hb : sl_bit v P = false) : sl_SR (upd sc (v * 16 + P) x) (upd sy (v * 8 + sl_dg v P) x) := by
  intro v' hv' d hd
  have h8 := sl_dg_8 v hv P hP
  have h16 := sl_mk_16 v' hv' d hd
  by_cases e : v' = v ∧ d = sl_dg v P
  · rw [e.1, e.2, pk_us, sl_mk_dg v hv P hP hb, pk_us]
  · rw [pk_un (by omega), pk_un ?_]
    · exact h v' hv' d hd
    · intro z
      apply e
      have e1 : v' = v := by omega
      subst e1
      have e2 : sl_mk v' d = P := by omega
      exact ⟨rfl, by rw [← e2]; exact (sl_dg_mk v' hv' d hd).symm⟩
theorem sl_Rng_upd {sc : Nat → Int32} {i : Nat} {x : Int32} (h : sl_Rng sc) (h1 : -1000 ≤ x.toInt) (h2 : x.toInt ≤ 1000) : sl_Rng (upd sc i x) := by
  intro j hj
  by_cases e : j = i
  · rw [e, pk_us]; exact ⟨h1, h2⟩
  · rw [pk_un e]; exact h j hj
theorem sl_mm_ne {sa : Nat → Int32} {u v v' : Nat} {q y : Int32} (hv : v < 4) (hv' : v' < 4) (h : v' ≠ v) : sl_mm (upd sa (u * 4 + v) y) q v' = sl_mm sa q v' := by
  unfold sl_mm
  rw [pk_un (by omega), pk_un (by omega), pk_un (by omega), pk_un (by omega)]
theorem sl_mm_upd {sa : Nat → Int32} {u v F : Nat} {q y : Int32} (hu : u < 4) (hv : v < 4) (hF : F < 16) (h : ∀ j, j < 4 → (sl_bit j F = true ↔ if j = u then y = q else sl_bit j (sl_mm sa q v) = true)) : sl_mm (upd sa (u * 4 + v) y) q v = F := by
  refine sl_bit_ext _ (sl_mm_16 _ _ _) _ hF (fun j hj => ?_)
  rw [Bool.eq_iff_iff, sl_mm_bit _ _ _ j hj, h j hj]
  by_cases e : j = u
  · rw [if_pos e, e, pk_us]
  · rw [if_neg e, pk_un (by omega), sl_mm_bit _ _ _ j hj]
theorem sl_bit_rm : ∀ u, u < 4 → ∀ j, j < 4 → ∀ F, F < 16 → sl_bit j (sl_rm F u) = (sl_bit j F && !(j == u)) := by decide +kernel
theorem sl_bit_set : ∀ u, u < 4 → ∀ j, j < 4 → ∀ F, F < 16 → sl_bit j (sl_rm F u ||| 2 ^ u) = (sl_bit j F || (j == u)) := by decide +kernel
theorem sl_set_16 : ∀ u, u < 4 → ∀ F, F < 16 → (sl_rm F u ||| 2 ^ u) < 16 := by decide +kernel
theorem sl_tclr : ∀ u, u < 4 → ∀ F, F < 16 → nI F &&& (nI (2 ^ u) ^^^ (-1)) = nI (sl_rm F u) := by decide +kernel
theorem sl_tset : ∀ u, u < 4 → ∀ F, F < 16 → nI (sl_rm F u) ||| nI (2 ^ u) = nI (sl_rm F u ||| 2 ^ u) := by decide +kernel
theorem sl_ttst : ∀ u, u < 4 → ∀ F, F < 16 → (nI F &&& nI (2 ^ u) = 0 ↔ sl_bit u F = false) := by decide +kernel
theorem sl_bit_p2 : ∀ u, u < 4 → ∀ j, j < 4 → (sl_bit j (2 ^ u) = true ↔ j = u) := by decide +kernel
/-- the mask after an edge is set (q = r) or cleared -/
def sl_em (q r F u : Nat) : Nat := if q = r then sl_rm F u ||| 2 ^ u else sl_rm F u
theorem sl_em_16 {q r F u : Nat} (hu : u < 4) (hF : F < 16) : sl_em q r F u < 16 := by
  unfold sl_em
  by_cases h : q = r
  · rw [if_pos h]; exact sl_set_16 u hu F hF
  · rw [if_neg h]; exact sl_rm_16 u hu F hF
theorem sl_em_bit {q r F u j : Nat} (hu : u < 4) (hj : j < 4) (hF : F < 16) : sl_bit j (sl_em q r F u) = true ↔ if j = u then q = r else sl_bit j F = true := by
  unfold sl_em
  by_cases h : q = r
  · rw [if_pos h, sl_bit_set u hu j hj F hF]
    by_cases e : j = u
    · rw [if_pos e]; simp [e, h]
    · rw [if_neg e]; simp [e]
  · rw [if_neg h, sl_bit_rm u hu j hj F hF]
    by_cases e : j = u
    · rw [if_pos e]; simp [e, h]
    · rw [if_neg e]; simp [e]
section
variable {m : Int32} {sc fb rq fx mu mn wi bo wa : Nat → Int32}
theorem sl_edge105 {post : Int32 → SX → Prop} {u v q R : Nat} {how z : Int32} (hu : u < 4) (hv : v < 4) (hq : q < 4) (eq : how &&& 3 = nI q) (hR : R < 16) (er : rq v = nI (sl_rm R u))
    (K : ∀ rq' : Nat → Int32, (∀ j, j ≠ v → rq' j = rq j) → rq' v = nI (sl_em q 2 R u) → post z (m, sc, fb, rq', fx, mu, mn, wi, bo, wa)) : wX_edge_105 post (nI v) how (nI (2 ^ u)) z m sc fb rq fx mu mn wi bo wa := by
  unfold wX_edge_105
  rw [eq, sl_c4 hv]
  refine br_c ?_ ?_
  · intro h
    have h2 : q = 2 := (nI_eq (b := 2) (by omega) (by decide)).mp h
    refine ⟨sl_in4 hv, sl_in4 hv, nm_e (K _ (fun j hj => pk_un hj) ?_)⟩
    rw [pk_us, er, sl_tset u hu R hR]
    unfold sl_em
    rw [if_pos h2]
  · intro h
    have h2 : ¬ q = 2 := fun y => h (by rw [y]; rfl)
    refine K rq (fun j hj => rfl) ?_
    unfold sl_em
    rw [if_neg h2]
    exact er
theorem sl_edge59 {post : Int32 → SX → Prop} {u v q F R : Nat} {how z : Int32} (hu : u < 4) (hv : v < 4) (hq : q < 4) (eq : how &&& 3 = nI q) (hF : F < 16) (hR : R < 16) (ef : fb v = nI F) (er : rq v = nI R)
    (K : ∀ fb' rq' : Nat → Int32, (∀ j, j ≠ v → fb' j = fb j ∧ rq' j = rq j) → fb' v = nI (sl_em q 1 F u) → rq' v = nI (sl_em q 2 R u) → post z (m, sc, fb', rq', fx, mu, mn, wi, bo, wa)) : wX_edge_59 post (nI v) how (nI (2 ^ u)) z m sc fb rq fx mu mn wi bo wa := by
  unfold wX_edge_59
  rw [eq, sl_c4 hv, ef, er, sl_tclr u hu F hF, sl_tclr u hu R hR]
  refine ⟨sl_in4 hv, sl_in4 hv, nm_e ⟨sl_in4 hv, sl_in4 hv, nm_e (br_c ?_ ?_)⟩⟩
  · intro h
    have h1 : q = 1 := (nI_eq (b := 1) (by omega) (by decide)).mp h
    refine ⟨sl_in4 hv, sl_in4 hv, nm_e (sl_edge105 hu hv hq eq hR pk_us ?_)⟩
    intro rq' k1 k2
    refine K _ rq' (fun j hj => ⟨by rw [pk_un hj, pk_un hj], by rw [k1 j hj, pk_un hj]⟩) ?_ k2
    rw [pk_us, pk_us, sl_tset u hu F hF]
    unfold sl_em
    rw [if_pos h1]
  · intro h
    have h1 : ¬ q = 1 := fun y => h (by rw [y]; rfl)
    refine sl_edge105 hu hv hq eq hR pk_us ?_
    intro rq' k1 k2
    refine K _ rq' (fun j hj => ⟨by rw [pk_un hj], by rw [k1 j hj, pk_un hj]⟩) ?_ k2
    rw [pk_us]
    unfold sl_em
    rw [if_neg h1]
end
theorem sl_FR_upd {fb rq sa fb' rq' : Nat → Int32} {u v q : Nat} {y : Int32} (hF : sl_FR fb rq sa) (hu : u < 4) (hv : v < 4) (hy1 : q = 1 ↔ y = 1) (hy2 : q = 2 ↔ y = 2)
    (k0 : ∀ j, j ≠ v → fb' j = fb j ∧ rq' j = rq j) (k1 : fb' v = nI (sl_em q 1 (sl_mm sa 1 v) u)) (k2 : rq' v = nI (sl_em q 2 (sl_mm sa 2 v) u)) : sl_FR fb' rq' (upd sa (u * 4 + v) y) := by
  intro v' hv'
  by_cases e : v' = v
  · subst e
    rw [k1, k2]
    have m1 := sl_mm_16 sa 1 v'
    have m2 := sl_mm_16 sa 2 v'
    refine ⟨congrArg nI ?_, congrArg nI ?_⟩
    · refine (sl_mm_upd hu hv (sl_em_16 hu m1) (fun j hj => ?_)).symm
      rw [sl_em_bit hu hj m1]
      by_cases e : j = u
      · rw [if_pos e, if_pos e]; exact hy1
      · rw [if_neg e, if_neg e]
    · refine (sl_mm_upd hu hv (sl_em_16 hu m2) (fun j hj => ?_)).symm
      rw [sl_em_bit hu hj m2]
      by_cases e : j = u
      · rw [if_pos e, if_pos e]; exact hy2
      · rw [if_neg e, if_neg e]
  · rw [(k0 v' e).1, (k0 v' e).2, sl_mm_ne hv hv' e, sl_mm_ne hv hv' e]
    exact hF v' hv'
end
section
/-! what is owed -/
def sl_R (m : Int32) (sc fb rq : Nat → Int32) (lim kn mo fi : Int32) (sy sa nc : Nat → Int32) : Prop :=
  lim = m ∧ sl_Rng sc ∧ sl_SR sc sy ∧ sl_FR fb rq sa ∧ (∀ u, u < 4 → ∀ v, v < 4 → sa (u * 4 + v) = 0 ∨ sa (u * 4 + v) = 1 ∨ sa (u * 4 + v) = 2) ∧ sl_NC nc ∧ (¬ kn = 0 → sl_YM lim sy sa 4096 mo fi)
/-- the relation at the head of a turn -/
def i_Rel (_ : Nat) (u : SX) (v : SY) : Prop := sl_R u.1 u.2.1 u.2.2.1 u.2.2.2.1 v.1 v.2.1 v.2.2.1 v.2.2.2.1 v.2.2.2.2.1 v.2.2.2.2.2.1 v.2.2.2.2.2.2
theorem i_up {k : Nat} {u : SX} {v : SY} (h : i_Rel k u v) : i_Rel (k + 4) u v := h
theorem i_vc0 : wpX_init (fun u => wpY_init (fun v => i_Rel 0 u v)) := by
  unfold wpX_init
  refine sl_noDemands ?_
  intro fx mu mn _ _ _
  refine sl_init ?_
  intro nc hnc
  refine (show sl_R 3 (fun _ => 0) (fun _ => 0) (fun _ => 0) 3 0 0 0 (fun _ => 0) (fun _ => 0) nc from ⟨rfl, fun i _ => ?_, fun v _ d _ => rfl, ?_, fun _ _ _ _ => Or.inl rfl, hnc, fun h => absurd rfl h⟩)
  · show -1000 ≤ (0 : Int32).toInt ∧ (0 : Int32).toInt ≤ 1000
    decide
  · exact sl_le4 (by decide) (by decide) (by decide) (by decide)
theorem i_vc_score {k : Nat} {u : SX} {v : SY} (I : i_Rel k u v) (hk : k + 4 ≤ 2048) (v1 : Int32) (v2 : Int32) (v3 : Int32) : wpX_score (fun r u' => wpY_score (fun r' v' => r' = r ∧ i_Rel (k + 4) u' v') v v1 v2 v3) u v1 v2 v3 := by
  obtain ⟨m, sc, fb, rq, fx, mu, mn, wi, bo, wa⟩ := u
  obtain ⟨lim, kn, mo, fi, sy, sa, nc⟩ := v
  obtain ⟨e, hsc, hR, hF, h2, hnc, hkn⟩ := (show sl_R m sc fb rq lim kn mo fi sy sa nc from I)
  unfold wpX_score wpY_score
  refine sl_bad v1 ?_ ?_
  · intro hb
    exact br_f (by decide) (sl_ybad1 hb (br_f (by decide) ⟨rfl, I⟩))
  · intro v hv ev
    subst ev
    refine br_t rfl (sl_xbp hv v2 ?_ ?_)
    · intro hb
      exact br_f (by decide) (sl_ybad0 hv (br_t rfl (sl_ybm1 hv hb (br_f (by decide) ⟨rfl, I⟩))))
    · intro P hP eP hb
      subst eP
      have Y : ∀ {post : Int32 → Prop}, post 0 → wpY_badMask post (lim, kn, mo, fi, sy, sa, nc) (nI v) (nI P) := fun h => sl_ybm0 hv hP hb h
      refine br_t rfl (br_c ?_ ?_)
      · intro h3
        exact sl_ybad0 hv (br_t rfl (Y (br_t rfl (br_t h3 ⟨rfl, I⟩))))
      · intro h3
        refine br_c ?_ ?_
        · intro h4
          rw [sl_ix, sl_c64 (by omega)]
          refine ⟨sl_in64 (by omega), nm_e (sl_ybad0 hv (br_t rfl (Y (br_t rfl (br_f h3 (br_t h4 (sl_digit hv hP ?_)))))))⟩
          have h8 := sl_dg_8 v hv P hP
          rw [sl_ix8, sl_c32 (by omega)]
          refine ⟨sl_in32 (by omega), nm_e ⟨rfl, ?_⟩⟩
          refine (show sl_R m (upd sc (v * 16 + P) v3) fb rq lim 0 mo fi (upd sy (v * 8 + sl_dg v P) v3) sa nc from ⟨e, sl_Rng_upd hsc ?_ ?_, sl_SR_upd hR hv hP hb, hF, h2, hnc, fun h => absurd rfl h⟩)
          · rw [Int32.lt_iff_toInt_lt, show (-1000 : Int32).toInt = -1000 from by decide] at h3
            omega
          · rw [Int32.le_iff_toInt_le, show (1000 : Int32).toInt = 1000 from by decide] at h4
            exact h4
        · intro h4
          exact sl_ybad0 hv (br_t rfl (Y (br_t rfl (br_f h3 (br_f h4 ⟨rfl, I⟩)))))
theorem i_vc_limit {k : Nat} {u : SX} {v : SY} (I : i_Rel k u v) (hk : k + 4 ≤ 2048) (v1 : Int32) : wpX_limit (fun r u' => wpY_limit (fun r' v' => r' = r ∧ i_Rel (k + 4) u' v') v v1) u v1 := by
  obtain ⟨m, sc, fb, rq, fx, mu, mn, wi, bo, wa⟩ := u
  obtain ⟨lim, kn, mo, fi, sy, sa, nc⟩ := v
  obtain ⟨e, hsc, hR, hF, h2, hnc, hkn⟩ := (show sl_R m sc fb rq lim kn mo fi sy sa nc from I)
  unfold wpX_limit wpY_limit
  refine br_c ?_ ?_
  · intro h
    exact br_t h ⟨rfl, I⟩
  · intro h
    refine br_c ?_ ?_
    · intro h3
      refine br_f h (br_t h3 ⟨e, ?_⟩)
      exact (show sl_R v1 sc fb rq v1 0 mo fi sy sa nc from ⟨rfl, hsc, hR, hF, h2, hnc, fun h => absurd rfl h⟩)
    · intro h3
      exact br_f h (br_f h3 ⟨rfl, I⟩)
theorem sl_y3 : ∀ q, q < 4 → ¬ q = 3 → (q = 1 ↔ nI q = 1) ∧ (q = 2 ↔ nI q = 2) ∧ (nI q = 0 ∨ nI q = 1 ∨ nI q = 2) := by decide +kernel
theorem i_vc_edge {k : Nat} {u : SX} {v : SY} (I : i_Rel k u v) (hk : k + 4 ≤ 2048) (v1 : Int32) (v2 : Int32) (v3 : Int32) : wpX_edge (fun r u' => wpY_edge (fun r' v' => r' = r ∧ i_Rel (k + 4) u' v') v v1 v2 v3) u v1 v2 v3 := by
  obtain ⟨m, sc, fb, rq, fx, mu, mn, wi, bo, wa⟩ := u
  obtain ⟨lim, kn, mo, fi, sy, sa, nc⟩ := v
  obtain ⟨e, hsc, hR, hF, h2, hnc, hkn⟩ := (show sl_R m sc fb rq lim kn mo fi sy sa nc from I)
  unfold wpX_edge
  refine sl_bad v1 ?_ ?_
  · intro hb
    refine br_f (by decide) ?_
    unfold wpY_edge
    exact sl_ybad1 hb (br_f (by decide) ⟨rfl, I⟩)
  · intro u hu eu
    subst eu
    refine br_t rfl (sl_bad v2 ?_ ?_)
    · intro hb
      refine br_f (by decide) ?_
      unfold wpY_edge
      exact sl_ybad0 hu (br_t rfl (sl_ybad1 hb (br_f (by decide) ⟨rfl, I⟩)))
    · intro v hv ev
      subst ev
      refine br_t rfl (br_c ?_ ?_)
      · intro huv
        unfold wpY_edge
        exact sl_ybad0 hu (br_t rfl (sl_ybad0 hv (br_t rfl (br_t huv ⟨rfl, I⟩))))
      · intro huv
        have mF := sl_mm_16 sa 1 v
        have mR := sl_mm_16 sa 2 v
        have bF := sl_mm_bit sa 1 v u hu
        have bR := sl_mm_bit sa 2 v u hu
        obtain ⟨q, hq, eq⟩ := pk_andE v3 (m := 3) 2 (by decide)
        have fin : ∀ z : Int32, sa (u * 4 + v) = z → wX_edge_59 (fun r u' => wpY_edge (fun r' v' => r' = r ∧ i_Rel (k + 4) u' v') (lim, kn, mo, fi, sy, sa, nc) (nI u) (nI v) v3) (nI v) v3 (nI (2 ^ u)) z m sc fb rq fx mu mn wi bo wa := by
          intro z hz
          refine sl_edge59 hu hv hq eq mF mR (hF v hv).1 (hF v hv).2 ?_
          intro fb' rq' k0 k1 k2
          have rel : ∀ y : Int32, (q = 1 ↔ y = 1) → (q = 2 ↔ y = 2) → (y = 0 ∨ y = 1 ∨ y = 2) → sl_R m sc fb' rq' lim 0 mo fi sy (upd sa (u * 4 + v) y) nc := by
            intro y y1 y2 y3
            refine ⟨e, hsc, hR, sl_FR_upd hF hu hv y1 y2 k0 k1 k2, fun a ha b hb => ?_, hnc, fun h => absurd rfl h⟩
            by_cases ei : a * 4 + b = u * 4 + v
            · rw [ei, pk_us]; exact y3
            · rw [pk_un ei]; exact h2 a ha b hb
          unfold wpY_edge
          refine sl_ybad0 hu (br_t rfl (sl_ybad0 hv (br_t rfl (br_f huv ?_))))
          rw [sl_ix4, sl_c16 (by omega), eq]
          refine ⟨sl_in16 (by omega), nm_r hz (br_c ?_ ?_)⟩
          · intro h3
            have q3 : q = 3 := (nI_eq (b := 3) (by omega) (by decide)).mp h3
            refine ⟨sl_in16 (by omega), nm_e ⟨rfl, rel 0 ?_ ?_ (Or.inl rfl)⟩⟩
            · rw [q3]; decide
            · rw [q3]; decide
          · intro h3
            have q3 : ¬ q = 3 := fun y => h3 (by rw [y]; rfl)
            have t := sl_y3 q hq q3
            exact ⟨sl_in16 (by omega), nm_e ⟨rfl, rel (nI q) t.1 t.2.1 t.2.2⟩⟩
        refine nm_r (sl_t1 u hu) ⟨sl_in4 hv, ?_⟩
        rw [sl_c4 hv, (hF v hv).1, (hF v hv).2]
        refine br_c ?_ ?_
        · intro t1
          rw [sl_ttst u hu _ mF] at t1
          refine ⟨sl_in4 hv, br_c ?_ ?_⟩
          · intro t2
            rw [sl_ttst u hu _ mR] at t2
            refine fin 0 ?_
            rcases h2 u hu v hv with y | y | y
            · exact y
            · rw [bF.mpr y] at t1; exact absurd t1 (by decide)
            · rw [bR.mpr y] at t2; exact absurd t2 (by decide)
          · intro t2
            rw [sl_ttst u hu _ mR] at t2
            refine fin 2 (bR.mp ?_)
            cases hc : sl_bit u (sl_mm sa 2 v)
            · exact absurd hc t2
            · rfl
        · intro t1
          rw [sl_ttst u hu _ mF] at t1
          refine fin 1 (bF.mp ?_)
          cases hc : sl_bit u (sl_mm sa 1 v)
          · exact absurd hc t1
          · rfl
theorem i_vc_learn {k : Nat} {u : SX} {v : SY} (I : i_Rel k u v) (hk : k + 4 ≤ 2048) (a0 : Int64) : wpX_learn (fun r u' => wpY_learn (fun r' v' => r' = r ∧ i_Rel (k + 4) u' v') v a0) u a0 := by
  obtain ⟨m, sc, fb, rq, fx, mu, mn, wi, bo, wa⟩ := u
  obtain ⟨lim, kn, mo, fi, sy, sa, nc⟩ := v
  obtain ⟨e, hsc, hR, hF, h2, hnc, hkn⟩ := (show sl_R m sc fb rq lim kn mo fi sy sa nc from I)
  obtain ⟨n, hn, en⟩ := wb_of a0
  subst en
  refine sl_xlearn hn ?_
  intro sc' hx
  refine sl_ylearn hn ?_
  intro sy' hy
  refine ⟨rfl, (show sl_R m sc' fb rq lim 0 mo fi sy' sa nc from ⟨e, fun i hi => ?_, fun v hv d hd => ?_, hF, h2, hnc, fun h => absurd rfl h⟩)⟩
  · have t := hx (i / 16) (by omega) (i % 16) (by omega)
    have ei : i / 16 * 16 + i % 16 = i := by omega
    rw [ei] at t
    cases hc : sl_bit (i / 16) (i % 16)
    · rw [t.1 hc]; exact sl_lv_r (by omega)
    · rw [t.2 hc]; exact hsc i hi
  · rw [hy v hv d hd]
    exact ((hx v hv _ (sl_mk_16 v hv d hd)).1 (sl_mk_bit v hv d hd)).symm
theorem i_vc_best {k : Nat} {u : SX} {v : SY} (I : i_Rel k u v) (hk : k + 4 ≤ 2048) : wpX_best (fun r u' => wpY_best (fun r' v' => r' = r ∧ i_Rel (k + 4) u' v') v) u := by
  obtain ⟨m, sc, fb, rq, fx, mu, mn, wi, bo, wa⟩ := u
  obtain ⟨lim, kn, mo, fi, sy, sa, nc⟩ := v
  obtain ⟨e, hsc, hR, hF, h2, hnc, hkn⟩ := (show sl_R m sc fb rq lim kn mo fi sy sa nc from I)
  subst e
  refine sl_xbest hsc ?_
  intro fx mu mn wi bo wa hfx hmu hmn hS
  unfold wpY_best
  refine sl_workOut hnc (sl_YR_of hsc hR) hkn ?_
  intro kn mo fi _ hY
  exact ⟨sl_meet0 hsc hR hF hfx hmu hmn hS hY, (show sl_R lim sc fb rq lim kn mo fi sy sa nc from ⟨rfl, hsc, hR, hF, h2, hnc, fun _ => hY⟩)⟩
theorem i_vc_parents {k : Nat} {u : SX} {v : SY} (I : i_Rel k u v) (hk : k + 4 ≤ 2048) (v1 : Int32) : wpX_parents (fun r u' => wpY_parents (fun r' v' => r' = r ∧ i_Rel (k + 4) u' v') v v1) u v1 := by
  obtain ⟨m, sc, fb, rq, fx, mu, mn, wi, bo, wa⟩ := u
  obtain ⟨lim, kn, mo, fi, sy, sa, nc⟩ := v
  obtain ⟨e, hsc, hR, hF, h2, hnc, hkn⟩ := (show sl_R m sc fb rq lim kn mo fi sy sa nc from I)
  subst e
  have hr := sl_YR_of hsc hR
  obtain ⟨mo0, fi0, hY0⟩ := sl_YM_ex (lim := lim) (sa := sa) hr 4096 (Nat.le_refl _)
  unfold wpX_parents
  refine sl_bad v1 ?_ ?_
  · intro hb
    refine br_f (by decide) ?_
    unfold wpY_parents
    exact sl_ybad1 hb (br_f (by decide) ⟨rfl, I⟩)
  · intro v hv ev
    subst ev
    refine br_t rfl (sl_ff hsc hR hF hY0 ?_ ?_)
    · intro hm fx mu mn wi bo wa
      refine br_t rfl ?_
      unfold wpY_parents
      refine sl_ybad0 hv (br_t rfl (sl_workOut hnc hr hkn ?_))
      intro kn mo fi _ hY
      have hu := sl_YM_uniq hY hY0
      exact br_t (hu.1.trans hm) ⟨rfl, (show sl_R lim sc fb rq lim kn mo fi sy sa nc from ⟨rfl, hsc, hR, hF, h2, hnc, fun _ => hY⟩)⟩
    · intro f hm ef hf fx mu mn wi bo wa hfx
      refine br_f (by decide) ⟨sl_in4 hv, ?_⟩
      rw [sl_c4 hv]
      unfold wpY_parents
      refine sl_ybad0 hv (br_t rfl (sl_workOut hnc hr hkn ?_))
      intro kn mo fi _ hY
      have hu := sl_YM_uniq hY hY0
      have efi : fi = nI f := hu.2.trans ef
      subst efi
      refine br_f (fun z => hm (hu.1.symm.trans z)) (sl_parOf hf hv ⟨(hfx v hv).symm, ?_⟩)
      exact (show sl_R lim sc fb rq lim kn mo (nI f) sy sa nc from ⟨rfl, hsc, hR, hF, h2, hnc, fun _ => hY⟩)
theorem i_vc_bestWith {k : Nat} {u : SX} {v : SY} (I : i_Rel k u v) (hk : k + 4 ≤ 2048) (v1 : Int32) (v2 : Int32) : wpX_bestWith (fun r u' => wpY_bestWith (fun r' => r' = r ∧ i_Rel (k + 4) u' v) v v1 v2) u v1 v2 := by
  obtain ⟨m, sc, fb, rq, fx, mu, mn, wi, bo, wa⟩ := u
  obtain ⟨lim, kn, mo, fi, sy, sa, nc⟩ := v
  obtain ⟨e, hsc, hR, hF, h2, hnc, hkn⟩ := (show sl_R m sc fb rq lim kn mo fi sy sa nc from I)
  subst e
  have hr := sl_YR_of hsc hR
  unfold wpX_bestWith
  refine sl_bad v1 ?_ ?_
  · intro hb
    refine br_f (by decide) ?_
    unfold wpY_bestWith
    exact sl_ybad1 hb (br_f (by decide) ⟨rfl, I⟩)
  · intro u hu eu
    subst eu
    refine br_t rfl (sl_bad v2 ?_ ?_)
    · intro hb
      refine br_f (by decide) ?_
      unfold wpY_bestWith
      exact sl_ybad0 hu (br_t rfl (sl_ybad1 hb (br_f (by decide) ⟨rfl, I⟩)))
    · intro v hv ev
      subst ev
      refine br_t rfl (br_c ?_ ?_)
      · intro huv
        unfold wpY_bestWith
        exact sl_ybad0 hu (br_t rfl (sl_ybad0 hv (br_t rfl (br_t huv ⟨rfl, I⟩))))
      · intro huv
        refine sl_noDemands ?_
        intro fx mu mn hfx hmu hmn
        refine ⟨sl_in4 hv, ?_⟩
        rw [sl_c4 hv, sl_t1 u hu]
        refine nm_e (sl_solve hsc ?_)
        intro w bo wa hS
        unfold wpY_bestWith
        refine sl_ybad0 hu (br_t rfl (sl_ybad0 hv (br_t rfl (br_f huv (sl_bestBy hu hv hnc hr ?_)))))
        intro r hB
        refine ⟨sl_meet (M := fun j => if j = v then 2 ^ u else 0) (N := fun _ => 0) hsc hR hF (fun j hj => ?_) (sl_z16 hmn) hS (fun s hs => ?_) hB, I⟩
        · show (if j = v then 2 ^ u else 0) < 16 ∧ upd mu v (nI (2 ^ u)) j = nI (if j = v then 2 ^ u else 0)
          by_cases ej : j = v
          · rw [if_pos ej, ej, pk_us]; exact ⟨sl_p2_16 u hu, rfl⟩
          · rw [if_neg ej, pk_un ej]; exact ⟨by decide, hmu j hj⟩
        · rw [sl_tbit1 u hu _ (sl_par_16 hv)]
          have z0 : ∀ j, j < 4 → ¬ sl_bit j 0 = true := by decide
          constructor
          · rintro ⟨hb, hA⟩
            refine ⟨hA, fun j hj => ⟨Or.inl (by rw [hfx j hj]; decide), fun i hi h => ?_, fun i hi h => absurd h (z0 i hi)⟩⟩
            have h' : sl_bit i (if j = v then 2 ^ u else 0) = true := h
            by_cases ej : j = v
            · rw [if_pos ej, sl_bit_p2 u hu i hi] at h'
              rw [ej, h']; exact hb
            · rw [if_neg ej] at h'
              exact absurd h' (z0 i hi)
          · rintro ⟨hA, hD⟩
            refine ⟨(hD v hv).2.1 u hu ?_, hA⟩
            show sl_bit u (if v = v then 2 ^ u else 0) = true
            rw [if_pos rfl]
            exact (sl_bit_p2 u hu u hu).mpr rfl
theorem i_vc_bestWithout {k : Nat} {u : SX} {v : SY} (I : i_Rel k u v) (hk : k + 4 ≤ 2048) (v1 : Int32) (v2 : Int32) : wpX_bestWithout (fun r u' => wpY_bestWithout (fun r' => r' = r ∧ i_Rel (k + 4) u' v) v v1 v2) u v1 v2 := by
  obtain ⟨m, sc, fb, rq, fx, mu, mn, wi, bo, wa⟩ := u
  obtain ⟨lim, kn, mo, fi, sy, sa, nc⟩ := v
  obtain ⟨e, hsc, hR, hF, h2, hnc, hkn⟩ := (show sl_R m sc fb rq lim kn mo fi sy sa nc from I)
  subst e
  have hr := sl_YR_of hsc hR
  unfold wpX_bestWithout
  refine sl_bad v1 ?_ ?_
  · intro hb
    refine br_f (by decide) ?_
    unfold wpY_bestWithout
    exact sl_ybad1 hb (br_f (by decide) ⟨rfl, I⟩)
  · intro u hu eu
    subst eu
    refine br_t rfl (sl_bad v2 ?_ ?_)
    · intro hb
      refine br_f (by decide) ?_
      unfold wpY_bestWithout
      exact sl_ybad0 hu (br_t rfl (sl_ybad1 hb (br_f (by decide) ⟨rfl, I⟩)))
    · intro v hv ev
      subst ev
      refine br_t rfl (br_c ?_ ?_)
      · intro huv
        unfold wpY_bestWithout
        exact sl_ybad0 hu (br_t rfl (sl_ybad0 hv (br_t rfl (br_t huv ⟨rfl, I⟩))))
      · intro huv
        refine sl_noDemands ?_
        intro fx mu mn hfx hmu hmn
        refine ⟨sl_in4 hv, ?_⟩
        rw [sl_c4 hv, sl_t1 u hu]
        refine nm_e (sl_solve hsc ?_)
        intro w bo wa hS
        unfold wpY_bestWithout
        refine sl_ybad0 hu (br_t rfl (sl_ybad0 hv (br_t rfl (br_f huv (sl_bestBy hu hv hnc hr ?_)))))
        intro r hB
        refine ⟨sl_meet (M := fun _ => 0) (N := fun j => if j = v then 2 ^ u else 0) hsc hR hF (sl_z16 hmu) (fun j hj => ?_) hS (fun s hs => ?_) hB, I⟩
        · show (if j = v then 2 ^ u else 0) < 16 ∧ upd mn v (nI (2 ^ u)) j = nI (if j = v then 2 ^ u else 0)
          by_cases ej : j = v
          · rw [if_pos ej, ej, pk_us]; exact ⟨sl_p2_16 u hu, rfl⟩
          · rw [if_neg ej, pk_un ej]; exact ⟨by decide, hmn j hj⟩
        · rw [sl_tbit0 u hu _ (sl_par_16 hv)]
          have z0 : ∀ j, j < 4 → ¬ sl_bit j 0 = true := by decide
          constructor
          · rintro ⟨hb, hA⟩
            refine ⟨hA, fun j hj => ⟨Or.inl (by rw [hfx j hj]; decide), fun i hi h => absurd h (z0 i hi), fun i hi h => ?_⟩⟩
            have h' : sl_bit i (if j = v then 2 ^ u else 0) = true := h
            by_cases ej : j = v
            · rw [if_pos ej, sl_bit_p2 u hu i hi] at h'
              rw [ej, h']; exact hb
            · rw [if_neg ej] at h'
              exact absurd h' (z0 i hi)
          · rintro ⟨hA, hD⟩
            refine ⟨(hD v hv).2.2 u hu ?_, hA⟩
            show sl_bit u (if v = v then 2 ^ u else 0) = true
            rw [if_pos rfl]
            exact (sl_bit_p2 u hu u hu).mpr rfl
theorem i_vc_edges {k : Nat} {u : SX} {v : SY} (I : i_Rel k u v) (hk : k + 4 ≤ 2048) : wpX_edges (fun r u' => wpY_edges (fun r' v' => r' = r ∧ i_Rel (k + 4) u' v') v) u := by
  obtain ⟨m, sc, fb, rq, fx, mu, mn, wi, bo, wa⟩ := u
  obtain ⟨lim, kn, mo, fi, sy, sa, nc⟩ := v
  obtain ⟨e, hsc, hR, hF, h2, hnc, hkn⟩ := (show sl_R m sc fb rq lim kn mo fi sy sa nc from I)
  subst e
  have hr := sl_YR_of hsc hR
  obtain ⟨mo0, fi0, hY0⟩ := sl_YM_ex (lim := lim) (sa := sa) hr 4096 (Nat.le_refl _)
  unfold wpX_edges
  refine sl_ff hsc hR hF hY0 ?_ ?_
  · intro hm fx mu mn wi bo wa
    refine br_t rfl ?_
    unfold wpY_edges
    refine sl_workOut hnc hr hkn ?_
    intro kn mo fi _ hY
    have hu := sl_YM_uniq hY hY0
    exact br_t (hu.1.trans hm) ⟨rfl, (show sl_R lim sc fb rq lim kn mo fi sy sa nc from ⟨rfl, hsc, hR, hF, h2, hnc, fun _ => hY⟩)⟩
  · intro f hm ef hf fx mu mn wi bo wa hfx
    refine br_f (by decide) (sl_xedges hfx ?_)
    unfold wpY_edges
    refine sl_workOut hnc hr hkn ?_
    intro kn mo fi _ hY
    have hu := sl_YM_uniq hY hY0
    have efi : fi = nI f := hu.2.trans ef
    subst efi
    refine br_f (fun z => hm (hu.1.symm.trans z)) (sl_yedges hf ⟨rfl, ?_⟩)
    exact (show sl_R lim sc fb rq lim kn mo (nI f) sy sa nc from ⟨rfl, hsc, hR, hF, h2, hnc, fun _ => hY⟩)
theorem i_vc_orders {k : Nat} {u : SX} {v : SY} (I : i_Rel k u v) (hk : k + 4 ≤ 2048) : wpX_orders (fun r u' => wpY_orders (fun r' v' => r' = r ∧ i_Rel (k + 4) u' v') v) u := by
  obtain ⟨m, sc, fb, rq, fx, mu, mn, wi, bo, wa⟩ := u
  obtain ⟨lim, kn, mo, fi, sy, sa, nc⟩ := v
  obtain ⟨e, hsc, hR, hF, h2, hnc, hkn⟩ := (show sl_R m sc fb rq lim kn mo fi sy sa nc from I)
  subst e
  have hr := sl_YR_of hsc hR
  unfold wpX_orders
  refine sl_noDemands ?_
  intro fx mu mn hfx hmu hmn
  refine sl_solve hsc ?_
  intro w bo wa hS
  refine br_c ?_ ?_
  · intro hb
    unfold wpY_orders
    refine sl_workOut hnc hr hkn ?_
    intro kn mo fi _ hY
    have em := sl_meet0 hsc hR hF hfx hmu hmn hS hY
    exact br_t (em.trans hb) ⟨rfl, (show sl_R lim sc fb rq lim kn mo fi sy sa nc from ⟨rfl, hsc, hR, hF, h2, hnc, fun _ => hY⟩)⟩
  · intro hb
    unfold wpY_orders
    refine sl_workOut hnc hr hkn ?_
    intro kn mo fi _ hY
    have em := sl_meet0 hsc hR hF hfx hmu hmn hS hY
    refine br_f (fun z => hb (em.symm.trans z)) (sl_orders hnc ⟨?_, (show sl_R lim sc fb rq lim kn mo fi sy sa nc from ⟨rfl, hsc, hR, hF, h2, hnc, fun _ => hY⟩)⟩)
    rw [sl_topw sl_XA_b hsc hS]
    refine sl_sum_c 256 (fun c hc => sl_wh_c ?_)
    have ha : sl_ca c < 4 := Nat.mod_lt _ (by decide)
    have hb' : sl_cb c < 4 := Nat.mod_lt _ (by decide)
    have hc' : sl_cc c < 4 := Nat.mod_lt _ (by decide)
    have hd : sl_cd c < 4 := Nat.mod_lt _ (by decide)
    constructor
    · rintro ⟨hp, s, hs, hf, hw, hA⟩
      refine ⟨hp, s, hs, hf, ?_, fun v hv => ?_⟩
      · rw [← sl_yw_wo hsc hR, hw, em]
      · exact (sl_XA_iff hF (sl_z16 hmu) (sl_z16 hmn) hv (sl_par_16 hv)).mpr ⟨sl_par_bit hv, hA.2 v hv, sl_dem0 hfx hv _⟩
    · rintro ⟨hp, s, hs, hf, hw, hA⟩
      refine ⟨hp, s, hs, hf, ?_, sl_fol_noc hs ha hb' hc' hd hp hf, fun v hv => ?_⟩
      · exact Int32.toInt_inj.mp (by rw [sl_yw_wo hsc hR, hw, em])
      · exact ((sl_XA_iff hF (sl_z16 hmu) (sl_z16 hmn) hv (sl_par_16 hv)).mp (hA v hv)).2.1
theorem i_vc_scoreOf {k : Nat} {u : SX} {v : SY} (I : i_Rel k u v) (hk : k + 4 ≤ 2048) (v1 : Int32) (v2 : Int32) : wpX_scoreOf (fun r => wpY_scoreOf (fun r' => r' = r ∧ i_Rel (k + 4) u v) v v1 v2) u v1 v2 := by
  obtain ⟨m, sc, fb, rq, fx, mu, mn, wi, bo, wa⟩ := u
  obtain ⟨lim, kn, mo, fi, sy, sa, nc⟩ := v
  obtain ⟨e, hsc, hR, hF, h2, hnc, hkn⟩ := (show sl_R m sc fb rq lim kn mo fi sy sa nc from I)
  unfold wpX_scoreOf
  refine sl_bad v1 ?_ ?_
  · intro hb
    refine br_f (by decide) ?_
    unfold wpY_scoreOf
    exact sl_ybad1 hb (br_f (by decide) ⟨rfl, I⟩)
  · intro v hv ev
    subst ev
    refine br_t rfl (sl_xbp hv v2 ?_ ?_)
    · intro hb
      refine br_f (by decide) ?_
      unfold wpY_scoreOf
      exact sl_ybad0 hv (br_t rfl (sl_ybm1 hv hb (br_f (by decide) ⟨rfl, I⟩)))
    · intro P hP eP hb
      subst eP
      refine br_t rfl ?_
      rw [sl_ix, sl_c64 (by omega)]
      refine ⟨sl_in64 (by omega), ?_⟩
      unfold wpY_scoreOf
      refine sl_ybad0 hv (br_t rfl (sl_ybm0 hv hP hb (br_t rfl (sl_digit hv hP ?_))))
      have h8 := sl_dg_8 v hv P hP
      rw [sl_ix8, sl_c32 (by omega)]
      refine ⟨sl_in32 (by omega), ?_, I⟩
      rw [hR v hv _ h8, sl_mk_dg v hv P hP hb]
end
