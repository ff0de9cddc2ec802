section
theorem pk_us {f : Nat → Int32} {k : Nat} {x : Int32} : upd f k x k = x := if_pos rfl
theorem pk_un {f : Nat → Int32} {k j : Nat} {x : Int32} (h : j ≠ k) : upd f k x j = f j := if_neg h
theorem pk_sub {a b : Nat} (h : b ≤ a) : nI a - nI b = nI (a - b) := by
  obtain ⟨c, rfl⟩ : ∃ c, a = c + b := ⟨a - b, by omega⟩
  rw [← nI_add, Int32.add_sub_cancel, Nat.add_sub_cancel]
theorem pk_m1 (n : Nat) : nI (n + 1) + (-1) = nI n := by
  rw [← nI_1, Int32.add_assoc, show (1 : Int32) + (-1) = 0 from rfl, Int32.add_zero]
theorem pk_mul (a b : Nat) : nI a * nI b = nI (a * b) := (Int32.ofNat_mul a b).symm
theorem pk_sub_toInt {a b : Nat} (ha : a < 2 ^ 30) (hb : b < 2 ^ 30) : (nI a - nI b).toInt = (a : Int) - b := by
  rw [Int32.toInt_sub, nI_toInt (by omega), nI_toInt (by omega)]
  exact Int.bmod_eq_of_le (by omega) (by omega)
theorem pk_sneg {a b : Nat} (hb : b < 2 ^ 30) (h : a < b) : nI a - nI b < 0 := by
  rw [Int32.lt_iff_toInt_lt, pk_sub_toInt (by omega) hb, show (0 : Int32).toInt = 0 from by decide]
  omega
theorem pk_ix (x : Int32) {n : Nat} (hn : n < 2 ^ 31) : x < 0 ∨ nI n ≤ x ∨ ∃ j : Nat, j < n ∧ x = nI j := by
  by_cases h : x < 0
  · exact Or.inl h
  · obtain ⟨j, hj, rfl⟩ := nI_of h
    by_cases h2 : j < n
    · exact Or.inr (Or.inr ⟨j, h2, rfl⟩)
    · exact Or.inr (Or.inl (nI_le (by omega) hj))
theorem pk_le {x y : Int32} {A B : Prop} (a b : Nat) (f : a ≤ b → A) (g : b < a → B) (hx : x = nI a := by rfl) (hy : y = nI b := by rfl) (ha : a < 2 ^ 31 := by omega) (hb : b < 2 ^ 31 := by omega) : (x ≤ y → A) ∧ (¬ x ≤ y → B) := by
  subst hx hy
  rw [nI_leI ha hb]
  exact ⟨f, fun z => g (by omega)⟩
theorem pk_lt {x y : Int32} {A B : Prop} (a b : Nat) (f : a < b → A) (g : b ≤ a → B) (hx : x = nI a := by rfl) (hy : y = nI b := by rfl) (ha : a < 2 ^ 31 := by omega) (hb : b < 2 ^ 31 := by omega) : (x < y → A) ∧ (¬ x < y → B) := by
  subst hx hy
  rw [nI_ltI ha hb]
  exact ⟨f, fun z => g (by omega)⟩
theorem pk_eq {x y : Int32} {A B : Prop} (a b : Nat) (f : a = b → A) (g : a ≠ b → B) (hx : x = nI a := by rfl) (hy : y = nI b := by rfl) (ha : a < 2 ^ 31 := by omega) (hb : b < 2 ^ 31 := by omega) : (x = y → A) ∧ (¬ x = y → B) := by
  subst hx hy
  rw [nI_eq ha hb]
  exact ⟨f, g⟩
theorem pk_in {x : Int32} (n N : Nat) (h : n < N) (hx : x = nI n := by rfl) (hN : N < 2 ^ 31 := by omega) : vp_in x N := by
  subst hx
  exact vp_in_nI h hN
theorem pk_cl {x : Int32} (n : Nat) (hx : x = nI n := by rfl) (h : n < 2 ^ 31 := by omega) : x.toNatClampNeg = n := by
  subst hx
  exact nI_clamp h
theorem pk_tn {n : Nat} (h : n < 2 ^ 32) : (nI n).toBitVec.toNat = n := Nat.mod_eq_of_lt h
theorem pk_and (x : Int32) {m : Int32} (k : Nat) (hm : m.toBitVec.toNat = 2 ^ k - 1) : x &&& m = nI (x.toBitVec.toNat % 2 ^ k) := by
  apply Int32.toBitVec_inj.mp
  apply BitVec.eq_of_toNat_eq
  rw [Int32.toBitVec_and, BitVec.toNat_and, hm, Nat.and_two_pow_sub_one_eq_mod]
  show _ = (BitVec.ofNat 32 _).toNat
  rw [BitVec.toNat_ofNat]
  exact (Nat.mod_eq_of_lt (Nat.lt_of_le_of_lt (Nat.mod_le _ _) x.toBitVec.isLt)).symm
theorem pk_andN {n : Nat} (h : n < 2 ^ 32) {m : Int32} (k : Nat) (hm : m.toBitVec.toNat = 2 ^ k - 1) : nI n &&& m = nI (n % 2 ^ k) := by
  rw [pk_and _ k hm, pk_tn h]
theorem pk_andE (x : Int32) {m : Int32} (k : Nat) (hm : m.toBitVec.toNat = 2 ^ k - 1) : ∃ j : Nat, j < 2 ^ k ∧ x &&& m = nI j := ⟨_, Nat.mod_lt _ (Nat.two_pow_pos k), pk_and x k hm⟩
theorem pk_andIn (x : Int32) {m : Int32} (k : Nat) (hm : m.toBitVec.toNat = 2 ^ k - 1) (hk : k ≤ 30) : vp_in (x &&& m) (2 ^ k) := by
  obtain ⟨j, hj, e⟩ := pk_andE x k hm
  rw [e]
  exact vp_in_nI hj (Nat.lt_of_le_of_lt (Nat.pow_le_pow_right (by decide) hk) (by decide))
theorem pk_shl (a s : Int32) (k : Nat) (hs : (s.toBitVec.smod 32).toNat = k) : (a <<< s).toBitVec.toNat = a.toBitVec.toNat * 2 ^ k % 2 ^ 32 := by
  show (a.toBitVec <<< (s.toBitVec.smod 32).toNat).toNat = _
  rw [hs, BitVec.toNat_shiftLeft, Nat.shiftLeft_eq]
theorem pk_shlN {n : Nat} (s : Int32) (k : Nat) (hs : (s.toBitVec.smod 32).toNat = k) (h : n * 2 ^ k < 2 ^ 32) : nI n <<< s = nI (n * 2 ^ k) := by
  apply Int32.toBitVec_inj.mp
  apply BitVec.eq_of_toNat_eq
  have hn : n < 2 ^ 32 := Nat.lt_of_le_of_lt (Nat.le_mul_of_pos_right n (Nat.two_pow_pos k)) h
  rw [pk_shl _ _ k hs, pk_tn hn, pk_tn h, Nat.mod_eq_of_lt h]
theorem pk_shr (a s : Int32) (k : Nat) (hs : (s.toBitVec.smod 32).toNat = k) : (a >>> s).toInt = a.toInt >>> k := by
  show (a.toBitVec.sshiftRight (s.toBitVec.smod 32).toNat).toInt = _
  rw [hs, BitVec.toInt_sshiftRight]
  rfl
theorem pk_shrN {n : Nat} (h : n < 2 ^ 31) (s : Int32) (k : Nat) (hs : (s.toBitVec.smod 32).toNat = k) : nI n >>> s = nI (n / 2 ^ k) := by
  apply Int32.toInt_inj.mp
  have h2 : n / 2 ^ k ≤ n := Nat.div_le_self _ _
  rw [pk_shr _ _ k hs, nI_toInt h, nI_toInt (by omega), Int.shiftRight_eq_div_pow]
  rfl
theorem pk_least (P : Nat → Prop) (h : ∃ k, P k) : ∃ k, P k ∧ ∀ j, j < k → ¬ P j := by
  obtain ⟨k, hk⟩ := h
  induction k using Nat.strongRecOn with
  | ind k ih =>
    by_cases e : ∃ j, j < k ∧ P j
    · obtain ⟨j, hj, pj⟩ := e
      exact ih j hj pj
    · exact ⟨k, hk, fun j hj pj => e ⟨j, hj, pj⟩⟩
theorem sb_shr0 (x : Int32) : x >>> ((0 : Int32) &&& 31) = x := by
  rw [show ((0 : Int32) &&& 31) = 0 by decide]
  simp
theorem sb_shl0 (x : Int32) : x <<< ((0 : Int32) &&& 31) = x := by
  rw [show ((0 : Int32) &&& 31) = 0 by decide]
  simp
theorem sb_cl0 : (0 : Int32).toNatClampNeg = 0 := by decide
theorem sb_m1 {p : Nat} (h : 0 < p) : nI p + (-1) = nI (p - 1) := by
  obtain ⟨q, rfl⟩ : ∃ q, p = q + 1 := ⟨p - 1, by omega⟩
  exact pk_m1 q
def bt (x : Int32) (i : Nat) : Bool := x.toBitVec.getLsbD i
theorem b_ext {x y : Int32} (h : ∀ i, i < 32 → bt x i = bt y i) : x = y := Int32.toBitVec_inj.mp (BitVec.eq_of_getLsbD_eq (fun i hi => h i hi))
theorem b_or (x y : Int32) (i : Nat) : bt (x ||| y) i = (bt x i || bt y i) := by unfold bt; rw [Int32.toBitVec_or, BitVec.getLsbD_or]
theorem b_and (x y : Int32) (i : Nat) : bt (x &&& y) i = (bt x i && bt y i) := by unfold bt; rw [Int32.toBitVec_and, BitVec.getLsbD_and]
theorem b_xor (x y : Int32) (i : Nat) : bt (x ^^^ y) i = (bt x i ^^ bt y i) := by unfold bt; rw [Int32.toBitVec_xor, BitVec.getLsbD_xor]
theorem b_big {x : Int32} {i : Nat} (h : 32 ≤ i) : bt x i = false := BitVec.getLsbD_of_ge _ _ h
theorem b_m1 : ∀ i, i < 32 → bt (-1) i = true := by decide +kernel
theorem b_0 (i : Nat) : bt 0 i = false := BitVec.getLsbD_zero
theorem s_l : ∀ n, n < 32 → ((nI n &&& 31).toBitVec.smod 32).toNat = n := by decide +kernel
theorem s_u : ∀ n, n < 32 → (((nI n).toUInt32 &&& Int32.toUInt32 31).toBitVec % 32).toNat = n := by decide +kernel
theorem b_shl (n : Nat) (hn : n < 32) (x : Int32) {i : Nat} (hi : i < 32) : bt (x <<< (nI n &&& 31)) i = (decide (n ≤ i) && bt x (i - n)) := by
  unfold bt
  rw [Int32.toBitVec_shiftLeft]
  show (x.toBitVec <<< ((nI n &&& 31).toBitVec.smod 32).toNat).getLsbD i = _
  rw [s_l n hn, BitVec.getLsbD_shiftLeft]
  rcases Nat.lt_or_ge i n with h | h
  · simp [h, Nat.not_le.mpr h]
  · simp [hi, h, Nat.not_lt.mpr h]
theorem b_ushr (n : Nat) (hn : n < 32) (x : Int32) (i : Nat) : bt ((x.toUInt32 >>> ((nI n).toUInt32 &&& Int32.toUInt32 31)).toInt32) i = bt x (n + i) := by
  show (x.toUInt32 >>> ((nI n).toUInt32 &&& Int32.toUInt32 31)).toBitVec.getLsbD i = x.toUInt32.toBitVec.getLsbD (n + i)
  rw [UInt32.toBitVec_shiftRight]
  show (x.toUInt32.toBitVec >>> (((nI n).toUInt32 &&& Int32.toUInt32 31).toBitVec % 32).toNat).getLsbD i = _
  rw [s_u n hn, BitVec.getLsbD_ushiftRight]
theorem b_sshr (n : Nat) (hn : n < 32) (x : Int32) {i : Nat} (hi : i < 32) : bt (x >>> (nI n &&& 31)) i = if n + i < 32 then bt x (n + i) else bt x 31 := by
  unfold bt
  rw [Int32.toBitVec_shiftRight]
  show (x.toBitVec.sshiftRight ((nI n &&& 31).toBitVec.smod 32).toNat).getLsbD i = _
  rw [s_l n hn, BitVec.getLsbD_sshiftRight, BitVec.msb_eq_getLsbD_last]
  simp [hi]
/-! ===== own rows ===== -/
def dl_u (f : Nat → Nat) (k v : Nat) : Nat → Nat := fun j => if j = k then v else f j
theorem dl_us {f : Nat → Nat} {k v : Nat} : dl_u f k v k = v := if_pos rfl
theorem dl_un {f : Nat → Nat} {k v j : Nat} (h : j ≠ k) : dl_u f k v j = f j := if_neg h
def dl_A (f : Nat → Nat) : Nat → Int32 := fun i => nI (f i)
theorem dl_Ar (f : Nat → Nat) (i : Nat) : dl_A f i = nI (f i) := rfl
theorem dl_Au (f : Nat → Nat) (k v : Nat) : upd (dl_A f) k (nI v) = dl_A (dl_u f k v) := by
  funext j
  unfold upd dl_A dl_u
  by_cases h : j = k
  · rw [if_pos h, if_pos h]
  · rw [if_neg h, if_neg h]
theorem dl_A0 : (fun _ : Nat => (0 : Int32)) = dl_A (fun _ => 0) := rfl
theorem dl_leT {a b : Nat} (h : a ≤ b) (hb : b < 2147483648) : (nI a ≤ nI b) ↔ True := iff_true_intro (nI_le h hb)
theorem dl_leF {a b : Nat} (h : b < a) (hb : a < 2147483648) : (nI a ≤ nI b) ↔ False := iff_false_intro (nI_ge h hb)
theorem dl_ltT {a b : Nat} (h : a < b) (hb : b < 2147483648) : (nI a < nI b) ↔ True := iff_true_intro (nI_lt h hb)
theorem dl_ltF {a b : Nat} (h : b ≤ a) (hb : a < 2147483648) : (nI a < nI b) ↔ False := iff_false_intro (nI_nlt h hb)
theorem dl_eqT {a b : Nat} (h : a = b) : (nI a = nI b) ↔ True := iff_true_intro (congrArg nI h)
theorem dl_eqF {a b : Nat} (h : a ≠ b) (ha : a < 2147483648) (hb : b < 2147483648) : (nI a = nI b) ↔ False := iff_false_intro (fun z => h ((nI_eq ha hb).mp z))
theorem dl_inT {a n : Nat} (h : a < n) (hn : n < 2147483648) : vp_in (nI a) n ↔ True := iff_true_intro (vp_in_nI h hn)
theorem dl_sub {a b : Nat} (h : b ≤ a) : nI a - nI b = nI (a - b) := pk_sub h
theorem dl_sub1 {a : Nat} (h : 1 ≤ a) : nI a - 1 = nI (a - 1) := pk_sub (a := a) (b := 1) h
theorem dl_subm1 {a : Nat} (h : 0 < a) : nI a + (-1) = nI (a - 1) := sb_m1 h
theorem dl_mul4 (a : Nat) : nI a * 4 = nI (a * 4) := pk_mul a 4
theorem dl_mul64 (a : Nat) : nI a * 64 = nI (a * 64) := pk_mul a 64
theorem dl_3add (a : Nat) : 3 + nI a = nI (3 + a) := nI_add 3 a
theorem dl_add4 (a : Nat) : nI a + 4 = nI (a + 4) := nI_add a 4
theorem dl_sub3 {a : Nat} (h : 3 ≤ a) : nI a - 3 = nI (a - 3) := pk_sub (a := a) (b := 3) h
theorem dl_m1 : nI 4294967295 = -1 := by decide
theorem dl_fe {A B : Prop} (h : A → B) (a : A) : B := h a
theorem dl_leLI0 {a : Nat} (ha : a < 2147483648) : ((0 : Int32) ≤ nI a) ↔ 0 ≤ a := nI_leI (a := 0) (b := a) (by omega) ha
theorem dl_leLT0 {a : Nat} (h : 0 ≤ a) (ha : a < 2147483648) : ((0 : Int32) ≤ nI a) ↔ True := iff_true_intro ((dl_leLI0 ha).mpr h)
theorem dl_leLF0 {a : Nat} (h : a < 0) (ha : a < 2147483648) : ((0 : Int32) ≤ nI a) ↔ False := iff_false_intro (fun z => absurd ((dl_leLI0 ha).mp z) (by omega))
theorem dl_leRI0 {a : Nat} (ha : a < 2147483648) : (nI a ≤ (0 : Int32)) ↔ a ≤ 0 := nI_leI (a := a) (b := 0) ha (by omega)
theorem dl_leRT0 {a : Nat} (h : a ≤ 0) (ha : a < 2147483648) : (nI a ≤ (0 : Int32)) ↔ True := iff_true_intro ((dl_leRI0 ha).mpr h)
theorem dl_leRF0 {a : Nat} (h : 0 < a) (ha : a < 2147483648) : (nI a ≤ (0 : Int32)) ↔ False := iff_false_intro (fun z => absurd ((dl_leRI0 ha).mp z) (by omega))
theorem dl_ltLI0 {a : Nat} (ha : a < 2147483648) : ((0 : Int32) < nI a) ↔ 0 < a := nI_ltI (a := 0) (b := a) (by omega) ha
theorem dl_ltLT0 {a : Nat} (h : 0 < a) (ha : a < 2147483648) : ((0 : Int32) < nI a) ↔ True := iff_true_intro ((dl_ltLI0 ha).mpr h)
theorem dl_ltLF0 {a : Nat} (h : a ≤ 0) (ha : a < 2147483648) : ((0 : Int32) < nI a) ↔ False := iff_false_intro (fun z => absurd ((dl_ltLI0 ha).mp z) (by omega))
theorem dl_ltRI0 {a : Nat} (ha : a < 2147483648) : (nI a < (0 : Int32)) ↔ a < 0 := nI_ltI (a := a) (b := 0) ha (by omega)
theorem dl_ltRT0 {a : Nat} (h : a < 0) (ha : a < 2147483648) : (nI a < (0 : Int32)) ↔ True := iff_true_intro ((dl_ltRI0 ha).mpr h)
theorem dl_ltRF0 {a : Nat} (h : 0 ≤ a) (ha : a < 2147483648) : (nI a < (0 : Int32)) ↔ False := iff_false_intro (fun z => absurd ((dl_ltRI0 ha).mp z) (by omega))
theorem dl_eqRI0 {a : Nat} (ha : a < 2147483648) : (nI a = (0 : Int32)) ↔ a = 0 := nI_eq (a := a) (b := 0) ha (by omega)
theorem dl_eqRT0 {a : Nat} (h : a = 0) (ha : a < 2147483648) : (nI a = (0 : Int32)) ↔ True := iff_true_intro ((dl_eqRI0 ha).mpr h)
theorem dl_eqRF0 {a : Nat} (h : a ≠ 0) (ha : a < 2147483648) : (nI a = (0 : Int32)) ↔ False := iff_false_intro (fun z => absurd ((dl_eqRI0 ha).mp z) (by omega))
theorem dl_leLI1 {a : Nat} (ha : a < 2147483648) : ((1 : Int32) ≤ nI a) ↔ 1 ≤ a := nI_leI (a := 1) (b := a) (by omega) ha
theorem dl_leLT1 {a : Nat} (h : 1 ≤ a) (ha : a < 2147483648) : ((1 : Int32) ≤ nI a) ↔ True := iff_true_intro ((dl_leLI1 ha).mpr h)
theorem dl_leLF1 {a : Nat} (h : a < 1) (ha : a < 2147483648) : ((1 : Int32) ≤ nI a) ↔ False := iff_false_intro (fun z => absurd ((dl_leLI1 ha).mp z) (by omega))
theorem dl_leRI1 {a : Nat} (ha : a < 2147483648) : (nI a ≤ (1 : Int32)) ↔ a ≤ 1 := nI_leI (a := a) (b := 1) ha (by omega)
theorem dl_leRT1 {a : Nat} (h : a ≤ 1) (ha : a < 2147483648) : (nI a ≤ (1 : Int32)) ↔ True := iff_true_intro ((dl_leRI1 ha).mpr h)
theorem dl_leRF1 {a : Nat} (h : 1 < a) (ha : a < 2147483648) : (nI a ≤ (1 : Int32)) ↔ False := iff_false_intro (fun z => absurd ((dl_leRI1 ha).mp z) (by omega))
theorem dl_ltLI1 {a : Nat} (ha : a < 2147483648) : ((1 : Int32) < nI a) ↔ 1 < a := nI_ltI (a := 1) (b := a) (by omega) ha
theorem dl_ltLT1 {a : Nat} (h : 1 < a) (ha : a < 2147483648) : ((1 : Int32) < nI a) ↔ True := iff_true_intro ((dl_ltLI1 ha).mpr h)
theorem dl_ltLF1 {a : Nat} (h : a ≤ 1) (ha : a < 2147483648) : ((1 : Int32) < nI a) ↔ False := iff_false_intro (fun z => absurd ((dl_ltLI1 ha).mp z) (by omega))
theorem dl_ltRI1 {a : Nat} (ha : a < 2147483648) : (nI a < (1 : Int32)) ↔ a < 1 := nI_ltI (a := a) (b := 1) ha (by omega)
theorem dl_ltRT1 {a : Nat} (h : a < 1) (ha : a < 2147483648) : (nI a < (1 : Int32)) ↔ True := iff_true_intro ((dl_ltRI1 ha).mpr h)
theorem dl_ltRF1 {a : Nat} (h : 1 ≤ a) (ha : a < 2147483648) : (nI a < (1 : Int32)) ↔ False := iff_false_intro (fun z => absurd ((dl_ltRI1 ha).mp z) (by omega))
theorem dl_eqRI1 {a : Nat} (ha : a < 2147483648) : (nI a = (1 : Int32)) ↔ a = 1 := nI_eq (a := a) (b := 1) ha (by omega)
theorem dl_eqRT1 {a : Nat} (h : a = 1) (ha : a < 2147483648) : (nI a = (1 : Int32)) ↔ True := iff_true_intro ((dl_eqRI1 ha).mpr h)
theorem dl_eqRF1 {a : Nat} (h : a ≠ 1) (ha : a < 2147483648) : (nI a = (1 : Int32)) ↔ False := iff_false_intro (fun z => absurd ((dl_eqRI1 ha).mp z) (by omega))
theorem dl_leLI2 {a : Nat} (ha : a < 2147483648) : ((2 : Int32) ≤ nI a) ↔ 2 ≤ a := nI_leI (a := 2) (b := a) (by omega) ha
theorem dl_leLT2 {a : Nat} (h : 2 ≤ a) (ha : a < 2147483648) : ((2 : Int32) ≤ nI a) ↔ True := iff_true_intro ((dl_leLI2 ha).mpr h)
theorem dl_leLF2 {a : Nat} (h : a < 2) (ha : a < 2147483648) : ((2 : Int32) ≤ nI a) ↔ False := iff_false_intro (fun z => absurd ((dl_leLI2 ha).mp z) (by omega))
theorem dl_leRI2 {a : Nat} (ha : a < 2147483648) : (nI a ≤ (2 : Int32)) ↔ a ≤ 2 := nI_leI (a := a) (b := 2) ha (by omega)
theorem dl_leRT2 {a : Nat} (h : a ≤ 2) (ha : a < 2147483648) : (nI a ≤ (2 : Int32)) ↔ True := iff_true_intro ((dl_leRI2 ha).mpr h)
theorem dl_leRF2 {a : Nat} (h : 2 < a) (ha : a < 2147483648) : (nI a ≤ (2 : Int32)) ↔ False := iff_false_intro (fun z => absurd ((dl_leRI2 ha).mp z) (by omega))
theorem dl_ltLI2 {a : Nat} (ha : a < 2147483648) : ((2 : Int32) < nI a) ↔ 2 < a := nI_ltI (a := 2) (b := a) (by omega) ha
theorem dl_ltLT2 {a : Nat} (h : 2 < a) (ha : a < 2147483648) : ((2 : Int32) < nI a) ↔ True := iff_true_intro ((dl_ltLI2 ha).mpr h)
theorem dl_ltLF2 {a : Nat} (h : a ≤ 2) (ha : a < 2147483648) : ((2 : Int32) < nI a) ↔ False := iff_false_intro (fun z => absurd ((dl_ltLI2 ha).mp z) (by omega))
theorem dl_ltRI2 {a : Nat} (ha : a < 2147483648) : (nI a < (2 : Int32)) ↔ a < 2 := nI_ltI (a := a) (b := 2) ha (by omega)
theorem dl_ltRT2 {a : Nat} (h : a < 2) (ha : a < 2147483648) : (nI a < (2 : Int32)) ↔ True := iff_true_intro ((dl_ltRI2 ha).mpr h)
theorem dl_ltRF2 {a : Nat} (h : 2 ≤ a) (ha : a < 2147483648) : (nI a < (2 : Int32)) ↔ False := iff_false_intro (fun z => absurd ((dl_ltRI2 ha).mp z) (by omega))
theorem dl_eqRI2 {a : Nat} (ha : a < 2147483648) : (nI a = (2 : Int32)) ↔ a = 2 := nI_eq (a := a) (b := 2) ha (by omega)
theorem dl_eqRT2 {a : Nat} (h : a = 2) (ha : a < 2147483648) : (nI a = (2 : Int32)) ↔ True := iff_true_intro ((dl_eqRI2 ha).mpr h)
theorem dl_eqRF2 {a : Nat} (h : a ≠ 2) (ha : a < 2147483648) : (nI a = (2 : Int32)) ↔ False := iff_false_intro (fun z => absurd ((dl_eqRI2 ha).mp z) (by omega))
theorem dl_leLI3 {a : Nat} (ha : a < 2147483648) : ((3 : Int32) ≤ nI a) ↔ 3 ≤ a := nI_leI (a := 3) (b := a) (by omega) ha
theorem dl_leLT3 {a : Nat} (h : 3 ≤ a) (ha : a < 2147483648) : ((3 : Int32) ≤ nI a) ↔ True := iff_true_intro ((dl_leLI3 ha).mpr h)
theorem dl_leLF3 {a : Nat} (h : a < 3) (ha : a < 2147483648) : ((3 : Int32) ≤ nI a) ↔ False := iff_false_intro (fun z => absurd ((dl_leLI3 ha).mp z) (by omega))
theorem dl_leRI3 {a : Nat} (ha : a < 2147483648) : (nI a ≤ (3 : Int32)) ↔ a ≤ 3 := nI_leI (a := a) (b := 3) ha (by omega)
theorem dl_leRT3 {a : Nat} (h : a ≤ 3) (ha : a < 2147483648) : (nI a ≤ (3 : Int32)) ↔ True := iff_true_intro ((dl_leRI3 ha).mpr h)
theorem dl_leRF3 {a : Nat} (h : 3 < a) (ha : a < 2147483648) : (nI a ≤ (3 : Int32)) ↔ False := iff_false_intro (fun z => absurd ((dl_leRI3 ha).mp z) (by omega))
theorem dl_ltLI3 {a : Nat} (ha : a < 2147483648) : ((3 : Int32) < nI a) ↔ 3 < a := nI_ltI (a := 3) (b := a) (by omega) ha
theorem dl_ltLT3 {a : Nat} (h : 3 < a) (ha : a < 2147483648) : ((3 : Int32) < nI a) ↔ True := iff_true_intro ((dl_ltLI3 ha).mpr h)
theorem dl_ltLF3 {a : Nat} (h : a ≤ 3) (ha : a < 2147483648) : ((3 : Int32) < nI a) ↔ False := iff_false_intro (fun z => absurd ((dl_ltLI3 ha).mp z) (by omega))
theorem dl_ltRI3 {a : Nat} (ha : a < 2147483648) : (nI a < (3 : Int32)) ↔ a < 3 := nI_ltI (a := a) (b := 3) ha (by omega)
theorem dl_ltRT3 {a : Nat} (h : a < 3) (ha : a < 2147483648) : (nI a < (3 : Int32)) ↔ True := iff_true_intro ((dl_ltRI3 ha).mpr h)
theorem dl_ltRF3 {a : Nat} (h : 3 ≤ a) (ha : a < 2147483648) : (nI a < (3 : Int32)) ↔ False := iff_false_intro (fun z => absurd ((dl_ltRI3 ha).mp z) (by omega))
theorem dl_eqRI3 {a : Nat} (ha : a < 2147483648) : (nI a = (3 : Int32)) ↔ a = 3 := nI_eq (a := a) (b := 3) ha (by omega)
theorem dl_eqRT3 {a : Nat} (h : a = 3) (ha : a < 2147483648) : (nI a = (3 : Int32)) ↔ True := iff_true_intro ((dl_eqRI3 ha).mpr h)
theorem dl_eqRF3 {a : Nat} (h : a ≠ 3) (ha : a < 2147483648) : (nI a = (3 : Int32)) ↔ False := iff_false_intro (fun z => absurd ((dl_eqRI3 ha).mp z) (by omega))
theorem dl_leLI8 {a : Nat} (ha : a < 2147483648) : ((8 : Int32) ≤ nI a) ↔ 8 ≤ a := nI_leI (a := 8) (b := a) (by omega) ha
theorem dl_leLT8 {a : Nat} (h : 8 ≤ a) (ha : a < 2147483648) : ((8 : Int32) ≤ nI a) ↔ True := iff_true_intro ((dl_leLI8 ha).mpr h)
theorem dl_leLF8 {a : Nat} (h : a < 8) (ha : a < 2147483648) : ((8 : Int32) ≤ nI a) ↔ False := iff_false_intro (fun z => absurd ((dl_leLI8 ha).mp z) (by omega))
theorem dl_leRI8 {a : Nat} (ha : a < 2147483648) : (nI a ≤ (8 : Int32)) ↔ a ≤ 8 := nI_leI (a := a) (b := 8) ha (by omega)
theorem dl_leRT8 {a : Nat} (h : a ≤ 8) (ha : a < 2147483648) : (nI a ≤ (8 : Int32)) ↔ True := iff_true_intro ((dl_leRI8 ha).mpr h)
theorem dl_leRF8 {a : Nat} (h : 8 < a) (ha : a < 2147483648) : (nI a ≤ (8 : Int32)) ↔ False := iff_false_intro (fun z => absurd ((dl_leRI8 ha).mp z) (by omega))
theorem dl_ltLI8 {a : Nat} (ha : a < 2147483648) : ((8 : Int32) < nI a) ↔ 8 < a := nI_ltI (a := 8) (b := a) (by omega) ha
theorem dl_ltLT8 {a : Nat} (h : 8 < a) (ha : a < 2147483648) : ((8 : Int32) < nI a) ↔ True := iff_true_intro ((dl_ltLI8 ha).mpr h)
theorem dl_ltLF8 {a : Nat} (h : a ≤ 8) (ha : a < 2147483648) : ((8 : Int32) < nI a) ↔ False := iff_false_intro (fun z => absurd ((dl_ltLI8 ha).mp z) (by omega))
theorem dl_ltRI8 {a : Nat} (ha : a < 2147483648) : (nI a < (8 : Int32)) ↔ a < 8 := nI_ltI (a := a) (b := 8) ha (by omega)
theorem dl_ltRT8 {a : Nat} (h : a < 8) (ha : a < 2147483648) : (nI a < (8 : Int32)) ↔ True := iff_true_intro ((dl_ltRI8 ha).mpr h)
theorem dl_ltRF8 {a : Nat} (h : 8 ≤ a) (ha : a < 2147483648) : (nI a < (8 : Int32)) ↔ False := iff_false_intro (fun z => absurd ((dl_ltRI8 ha).mp z) (by omega))
theorem dl_eqRI8 {a : Nat} (ha : a < 2147483648) : (nI a = (8 : Int32)) ↔ a = 8 := nI_eq (a := a) (b := 8) ha (by omega)
theorem dl_eqRT8 {a : Nat} (h : a = 8) (ha : a < 2147483648) : (nI a = (8 : Int32)) ↔ True := iff_true_intro ((dl_eqRI8 ha).mpr h)
theorem dl_eqRF8 {a : Nat} (h : a ≠ 8) (ha : a < 2147483648) : (nI a = (8 : Int32)) ↔ False := iff_false_intro (fun z => absurd ((dl_eqRI8 ha).mp z) (by omega))
theorem dl_leLI9 {a : Nat} (ha : a < 2147483648) : ((9 : Int32) ≤ nI a) ↔ 9 ≤ a := nI_leI (a := 9) (b := a) (by omega) ha
theorem dl_leLT9 {a : Nat} (h : 9 ≤ a) (ha : a < 2147483648) : ((9 : Int32) ≤ nI a) ↔ True := iff_true_intro ((dl_leLI9 ha).mpr h)
theorem dl_leLF9 {a : Nat} (h : a < 9) (ha : a < 2147483648) : ((9 : Int32) ≤ nI a) ↔ False := iff_false_intro (fun z => absurd ((dl_leLI9 ha).mp z) (by omega))
theorem dl_leRI9 {a : Nat} (ha : a < 2147483648) : (nI a ≤ (9 : Int32)) ↔ a ≤ 9 := nI_leI (a := a) (b := 9) ha (by omega)
theorem dl_leRT9 {a : Nat} (h : a ≤ 9) (ha : a < 2147483648) : (nI a ≤ (9 : Int32)) ↔ True := iff_true_intro ((dl_leRI9 ha).mpr h)
theorem dl_leRF9 {a : Nat} (h : 9 < a) (ha : a < 2147483648) : (nI a ≤ (9 : Int32)) ↔ False := iff_false_intro (fun z => absurd ((dl_leRI9 ha).mp z) (by omega))
theorem dl_ltLI9 {a : Nat} (ha : a < 2147483648) : ((9 : Int32) < nI a) ↔ 9 < a := nI_ltI (a := 9) (b := a) (by omega) ha
theorem dl_ltLT9 {a : Nat} (h : 9 < a) (ha : a < 2147483648) : ((9 : Int32) < nI a) ↔ True := iff_true_intro ((dl_ltLI9 ha).mpr h)
theorem dl_ltLF9 {a : Nat} (h : a ≤ 9) (ha : a < 2147483648) : ((9 : Int32) < nI a) ↔ False := iff_false_intro (fun z => absurd ((dl_ltLI9 ha).mp z) (by omega))
theorem dl_ltRI9 {a : Nat} (ha : a < 2147483648) : (nI a < (9 : Int32)) ↔ a < 9 := nI_ltI (a := a) (b := 9) ha (by omega)
theorem dl_ltRT9 {a : Nat} (h : a < 9) (ha : a < 2147483648) : (nI a < (9 : Int32)) ↔ True := iff_true_intro ((dl_ltRI9 ha).mpr h)
theorem dl_ltRF9 {a : Nat} (h : 9 ≤ a) (ha : a < 2147483648) : (nI a < (9 : Int32)) ↔ False := iff_false_intro (fun z => absurd ((dl_ltRI9 ha).mp z) (by omega))
theorem dl_eqRI9 {a : Nat} (ha : a < 2147483648) : (nI a = (9 : Int32)) ↔ a = 9 := nI_eq (a := a) (b := 9) ha (by omega)
theorem dl_eqRT9 {a : Nat} (h : a = 9) (ha : a < 2147483648) : (nI a = (9 : Int32)) ↔ True := iff_true_intro ((dl_eqRI9 ha).mpr h)
theorem dl_eqRF9 {a : Nat} (h : a ≠ 9) (ha : a < 2147483648) : (nI a = (9 : Int32)) ↔ False := iff_false_intro (fun z => absurd ((dl_eqRI9 ha).mp z) (by omega))
theorem dl_leLI16 {a : Nat} (ha : a < 2147483648) : ((16 : Int32) ≤ nI a) ↔ 16 ≤ a := nI_leI (a := 16) (b := a) (by omega) ha
theorem dl_leLT16 {a : Nat} (h : 16 ≤ a) (ha : a < 2147483648) : ((16 : Int32) ≤ nI a) ↔ True := iff_true_intro ((dl_leLI16 ha).mpr h)
theorem dl_leLF16 {a : Nat} (h : a < 16) (ha : a < 2147483648) : ((16 : Int32) ≤ nI a) ↔ False := iff_false_intro (fun z => absurd ((dl_leLI16 ha).mp z) (by omega))
theorem dl_leRI16 {a : Nat} (ha : a < 2147483648) : (nI a ≤ (16 : Int32)) ↔ a ≤ 16 := nI_leI (a := a) (b := 16) ha (by omega)
theorem dl_leRT16 {a : Nat} (h : a ≤ 16) (ha : a < 2147483648) : (nI a ≤ (16 : Int32)) ↔ True := iff_true_intro ((dl_leRI16 ha).mpr h)
theorem dl_leRF16 {a : Nat} (h : 16 < a) (ha : a < 2147483648) : (nI a ≤ (16 : Int32)) ↔ False := iff_false_intro (fun z => absurd ((dl_leRI16 ha).mp z) (by omega))
theorem dl_ltLI16 {a : Nat} (ha : a < 2147483648) : ((16 : Int32) < nI a) ↔ 16 < a := nI_ltI (a := 16) (b := a) (by omega) ha
theorem dl_ltLT16 {a : Nat} (h : 16 < a) (ha : a < 2147483648) : ((16 : Int32) < nI a) ↔ True := iff_true_intro ((dl_ltLI16 ha).mpr h)
theorem dl_ltLF16 {a : Nat} (h : a ≤ 16) (ha : a < 2147483648) : ((16 : Int32) < nI a) ↔ False := iff_false_intro (fun z => absurd ((dl_ltLI16 ha).mp z) (by omega))
theorem dl_ltRI16 {a : Nat} (ha : a < 2147483648) : (nI a < (16 : Int32)) ↔ a < 16 := nI_ltI (a := a) (b := 16) ha (by omega)
theorem dl_ltRT16 {a : Nat} (h : a < 16) (ha : a < 2147483648) : (nI a < (16 : Int32)) ↔ True := iff_true_intro ((dl_ltRI16 ha).mpr h)
theorem dl_ltRF16 {a : Nat} (h : 16 ≤ a) (ha : a < 2147483648) : (nI a < (16 : Int32)) ↔ False := iff_false_intro (fun z => absurd ((dl_ltRI16 ha).mp z) (by omega))
theorem dl_eqRI16 {a : Nat} (ha : a < 2147483648) : (nI a = (16 : Int32)) ↔ a = 16 := nI_eq (a := a) (b := 16) ha (by omega)
theorem dl_eqRT16 {a : Nat} (h : a = 16) (ha : a < 2147483648) : (nI a = (16 : Int32)) ↔ True := iff_true_intro ((dl_eqRI16 ha).mpr h)
theorem dl_eqRF16 {a : Nat} (h : a ≠ 16) (ha : a < 2147483648) : (nI a = (16 : Int32)) ↔ False := iff_false_intro (fun z => absurd ((dl_eqRI16 ha).mp z) (by omega))
theorem dl_leLI64 {a : Nat} (ha : a < 2147483648) : ((64 : Int32) ≤ nI a) ↔ 64 ≤ a := nI_leI (a := 64) (b := a) (by omega) ha
theorem dl_leLT64 {a : Nat} (h : 64 ≤ a) (ha : a < 2147483648) : ((64 : Int32) ≤ nI a) ↔ True := iff_true_intro ((dl_leLI64 ha).mpr h)
theorem dl_leLF64 {a : Nat} (h : a < 64) (ha : a < 2147483648) : ((64 : Int32) ≤ nI a) ↔ False := iff_false_intro (fun z => absurd ((dl_leLI64 ha).mp z) (by omega))
theorem dl_leRI64 {a : Nat} (ha : a < 2147483648) : (nI a ≤ (64 : Int32)) ↔ a ≤ 64 := nI_leI (a := a) (b := 64) ha (by omega)
theorem dl_leRT64 {a : Nat} (h : a ≤ 64) (ha : a < 2147483648) : (nI a ≤ (64 : Int32)) ↔ True := iff_true_intro ((dl_leRI64 ha).mpr h)
theorem dl_leRF64 {a : Nat} (h : 64 < a) (ha : a < 2147483648) : (nI a ≤ (64 : Int32)) ↔ False := iff_false_intro (fun z => absurd ((dl_leRI64 ha).mp z) (by omega))
theorem dl_ltLI64 {a : Nat} (ha : a < 2147483648) : ((64 : Int32) < nI a) ↔ 64 < a := nI_ltI (a := 64) (b := a) (by omega) ha
theorem dl_ltLT64 {a : Nat} (h : 64 < a) (ha : a < 2147483648) : ((64 : Int32) < nI a) ↔ True := iff_true_intro ((dl_ltLI64 ha).mpr h)
theorem dl_ltLF64 {a : Nat} (h : a ≤ 64) (ha : a < 2147483648) : ((64 : Int32) < nI a) ↔ False := iff_false_intro (fun z => absurd ((dl_ltLI64 ha).mp z) (by omega))
theorem dl_ltRI64 {a : Nat} (ha : a < 2147483648) : (nI a < (64 : Int32)) ↔ a < 64 := nI_ltI (a := a) (b := 64) ha (by omega)
theorem dl_ltRT64 {a : Nat} (h : a < 64) (ha : a < 2147483648) : (nI a < (64 : Int32)) ↔ True := iff_true_intro ((dl_ltRI64 ha).mpr h)
theorem dl_ltRF64 {a : Nat} (h : 64 ≤ a) (ha : a < 2147483648) : (nI a < (64 : Int32)) ↔ False := iff_false_intro (fun z => absurd ((dl_ltRI64 ha).mp z) (by omega))
theorem dl_eqRI64 {a : Nat} (ha : a < 2147483648) : (nI a = (64 : Int32)) ↔ a = 64 := nI_eq (a := a) (b := 64) ha (by omega)
theorem dl_eqRT64 {a : Nat} (h : a = 64) (ha : a < 2147483648) : (nI a = (64 : Int32)) ↔ True := iff_true_intro ((dl_eqRI64 ha).mpr h)
theorem dl_eqRF64 {a : Nat} (h : a ≠ 64) (ha : a < 2147483648) : (nI a = (64 : Int32)) ↔ False := iff_false_intro (fun z => absurd ((dl_eqRI64 ha).mp z) (by omega))
theorem dl_leLI65 {a : Nat} (ha : a < 2147483648) : ((65 : Int32) ≤ nI a) ↔ 65 ≤ a := nI_leI (a := 65) (b := a) (by omega) ha
theorem dl_leLT65 {a : Nat} (h : 65 ≤ a) (ha : a < 2147483648) : ((65 : Int32) ≤ nI a) ↔ True := iff_true_intro ((dl_leLI65 ha).mpr h)
theorem dl_leLF65 {a : Nat} (h : a < 65) (ha : a < 2147483648) : ((65 : Int32) ≤ nI a) ↔ False := iff_false_intro (fun z => absurd ((dl_leLI65 ha).mp z) (by omega))
theorem dl_leRI65 {a : Nat} (ha : a < 2147483648) : (nI a ≤ (65 : Int32)) ↔ a ≤ 65 := nI_leI (a := a) (b := 65) ha (by omega)
theorem dl_leRT65 {a : Nat} (h : a ≤ 65) (ha : a < 2147483648) : (nI a ≤ (65 : Int32)) ↔ True := iff_true_intro ((dl_leRI65 ha).mpr h)
theorem dl_leRF65 {a : Nat} (h : 65 < a) (ha : a < 2147483648) : (nI a ≤ (65 : Int32)) ↔ False := iff_false_intro (fun z => absurd ((dl_leRI65 ha).mp z) (by omega))
theorem dl_ltLI65 {a : Nat} (ha : a < 2147483648) : ((65 : Int32) < nI a) ↔ 65 < a := nI_ltI (a := 65) (b := a) (by omega) ha
theorem dl_ltLT65 {a : Nat} (h : 65 < a) (ha : a < 2147483648) : ((65 : Int32) < nI a) ↔ True := iff_true_intro ((dl_ltLI65 ha).mpr h)
theorem dl_ltLF65 {a : Nat} (h : a ≤ 65) (ha : a < 2147483648) : ((65 : Int32) < nI a) ↔ False := iff_false_intro (fun z => absurd ((dl_ltLI65 ha).mp z) (by omega))
theorem dl_ltRI65 {a : Nat} (ha : a < 2147483648) : (nI a < (65 : Int32)) ↔ a < 65 := nI_ltI (a := a) (b := 65) ha (by omega)
theorem dl_ltRT65 {a : Nat} (h : a < 65) (ha : a < 2147483648) : (nI a < (65 : Int32)) ↔ True := iff_true_intro ((dl_ltRI65 ha).mpr h)
theorem dl_ltRF65 {a : Nat} (h : 65 ≤ a) (ha : a < 2147483648) : (nI a < (65 : Int32)) ↔ False := iff_false_intro (fun z => absurd ((dl_ltRI65 ha).mp z) (by omega))
theorem dl_eqRI65 {a : Nat} (ha : a < 2147483648) : (nI a = (65 : Int32)) ↔ a = 65 := nI_eq (a := a) (b := 65) ha (by omega)
theorem dl_eqRT65 {a : Nat} (h : a = 65) (ha : a < 2147483648) : (nI a = (65 : Int32)) ↔ True := iff_true_intro ((dl_eqRI65 ha).mpr h)
theorem dl_eqRF65 {a : Nat} (h : a ≠ 65) (ha : a < 2147483648) : (nI a = (65 : Int32)) ↔ False := iff_false_intro (fun z => absurd ((dl_eqRI65 ha).mp z) (by omega))
end
section
/-! sums -/
def dl_s (f : Nat → Nat) : Nat → Nat
  | 0 => 0
  | n + 1 => dl_s f n + f n
theorem dl_s_c {f g : Nat → Nat} : ∀ {n : Nat}, (∀ i, i < n → f i = g i) → dl_s f n = dl_s g n
  | 0, _ => rfl
  | n + 1, h => by
    have a := dl_s_c (f := f) (g := g) (n := n) (fun i hi => h i (by omega))
    have b := h n (by omega)
    simp only [dl_s]; omega
theorem dl_s_add {f g : Nat → Nat} : ∀ {n : Nat}, dl_s (fun i => f i + g i) n = dl_s f n + dl_s g n
  | 0 => rfl
  | n + 1 => by
    have a := dl_s_add (f := f) (g := g) (n := n)
    simp only [dl_s]; omega
theorem dl_s_le {f g : Nat → Nat} : ∀ {n : Nat}, (∀ i, i < n → f i ≤ g i) → dl_s f n ≤ dl_s g n
  | 0, _ => Nat.le_refl _
  | n + 1, h => by
    have a := dl_s_le (f := f) (g := g) (n := n) (fun i hi => h i (by omega))
    have b := h n (by omega)
    simp only [dl_s]; omega
theorem dl_s_0 {f : Nat → Nat} : ∀ {n : Nat}, (∀ i, i < n → f i = 0) → dl_s f n = 0
  | 0, _ => rfl
  | n + 1, h => by
    have a := dl_s_0 (f := f) (n := n) (fun i hi => h i (by omega))
    have b := h n (by omega)
    simp only [dl_s]; omega
theorem dl_s_z {f : Nat → Nat} : ∀ {n : Nat}, dl_s f n = 0 → ∀ i, i < n → f i = 0
  | 0, _, i, hi => by omega
  | n + 1, h, i, hi => by
    simp only [dl_s] at h
    rcases Nat.lt_or_ge i n with z | z
    · exact dl_s_z (n := n) (by omega) i z
    · have : i = n := by omega
      subst this; omega
theorem dl_s_1 {f : Nat → Nat} {c : Nat} : ∀ {n : Nat}, c < n → (∀ i, i < n → i ≠ c → f i = 0) → dl_s f n = f c
  | 0, h, _ => by omega
  | n + 1, h, z => by
    simp only [dl_s]
    rcases Nat.lt_or_ge c n with q | q
    · have a := dl_s_1 (f := f) (n := n) q (fun i hi => z i (by omega))
      have b := z n (by omega) (by omega)
      omega
    · have e : c = n := by omega
      subst e
      have a := dl_s_0 (f := f) (n := c) (fun i hi => z i (by omega) (by omega))
      omega
theorem dl_s_swap {f : Nat → Nat → Nat} {m : Nat} : ∀ {n : Nat}, dl_s (fun i => dl_s (fun j => f i j) m) n = dl_s (fun j => dl_s (fun i => f i j) n) m
  | 0 => by
    simp only [dl_s]
    exact (dl_s_0 (fun _ _ => rfl)).symm
  | n + 1 => by
    have a := dl_s_swap (f := f) (m := m) (n := n)
    have b := dl_s_add (f := fun j => dl_s (fun i => f i j) n) (g := fun j => f n j) (n := m)
    simp only [dl_s] at a b ⊢
    omega
theorem dl_s_u {f g : Nat → Nat} {c d : Nat} : ∀ {n : Nat}, c < n → (∀ i, i < n → i ≠ c → g i = f i) → g c = f c + d → dl_s g n = dl_s f n + d
  | 0, h, _, _ => by omega
  | n + 1, h, z, e => by
    simp only [dl_s]
    rcases Nat.lt_or_ge c n with q | q
    · have a := dl_s_u (f := f) (g := g) (n := n) q (fun i hi => z i (by omega)) e
      have b := z n (by omega) (by omega)
      omega
    · have e2 : c = n := by omega
      subst e2
      have a := dl_s_c (f := g) (g := f) (n := c) (fun i hi => z i (by omega) (by omega))
      omega
theorem dl_s_one {f : Nat → Nat} : ∀ {n : Nat}, dl_s f n = 1 → ∃ c, c < n ∧ f c = 1 ∧ ∀ i, i < n → f i ≠ 0 → i = c
  | 0, h => by simp only [dl_s] at h; omega
  | n + 1, h => by
    simp only [dl_s] at h
    rcases Nat.lt_or_ge (f n) 1 with q | q
    · obtain ⟨c, h1, h2, h3⟩ := dl_s_one (f := f) (n := n) (by omega)
      refine ⟨c, by omega, h2, fun i hi hz => ?_⟩
      rcases Nat.lt_or_ge i n with z | z
      · exact h3 i z hz
      · have : i = n := by omega
        subst this; omega
    · refine ⟨n, by omega, by omega, fun i hi hz => ?_⟩
      rcases Nat.lt_or_ge i n with z | z
      · exact absurd (dl_s_z (f := f) (n := n) (by omega) i z) hz
      · omega
theorem dl_s_mono {f : Nat → Nat} : ∀ {m n : Nat}, m ≤ n → dl_s f m ≤ dl_s f n
  | m, 0, h => by
    have : m = 0 := by omega
    subst this; exact Nat.le_refl _
  | m, n + 1, h => by
    rcases Nat.lt_or_ge m (n + 1) with z | z
    · have a := dl_s_mono (f := f) (m := m) (n := n) (by omega)
      simp only [dl_s]; omega
    · have : m = n + 1 := by omega
      subst this; exact Nat.le_refl _
theorem dl_s_get {f : Nat → Nat} {i n : Nat} (h : i < n) : dl_s f i + f i ≤ dl_s f n := dl_s_mono (f := f) (m := i + 1) (n := n) h
theorem dl_s_const {k : Nat} : ∀ {n : Nat}, dl_s (fun _ => k) n = n * k
  | 0 => by simp [dl_s]
  | n + 1 => by
    have a := dl_s_const (k := k) (n := n)
    simp only [dl_s, Nat.add_mul, Nat.one_mul]; omega
/-- a sum over a permutation -/
theorem dl_s_perm {f π ρ : Nat → Nat} {n : Nat} (h1 : ∀ t, t < n → π t < n ∧ ρ (π t) = t) (h2 : ∀ c, c < n → ρ c < n ∧ π (ρ c) = c) : dl_s (fun t => f (π t)) n = dl_s f n := by
  have e1 : dl_s (fun t => f (π t)) n = dl_s (fun t => dl_s (fun c => if π t = c then f c else 0) n) n := by
    refine dl_s_c (fun t ht => ?_)
    have := dl_s_1 (f := fun c => if π t = c then f c else 0) (c := π t) (n := n) (h1 t ht).1 (fun i _ z => if_neg (fun e => z e.symm))
    rw [this, if_pos rfl]
  rw [e1, dl_s_swap]
  refine dl_s_c (fun c hc => ?_)
  have := dl_s_1 (f := fun t => if π t = c then f c else 0) (c := ρ c) (n := n) (h2 c hc).1 (fun i hi z => if_neg (fun e => z (by rw [← e, (h1 i hi).2])))
  rw [this, if_pos (h2 c hc).2]
/-- the sum of an interval's places -/
theorem dl_s_iv {d k : Nat} : ∀ {n : Nat}, dl_s (fun p => if d ≤ p ∧ p < d + k then 1 else 0) n = min (n - d) k
  | 0 => by simp [dl_s]
  | n + 1 => by
    have a := dl_s_iv (d := d) (k := k) (n := n)
    simp only [dl_s]
    rw [a]
    split <;> omega
/-! pigeonhole -/
theorem dl_pig : ∀ (b a : Nat) (f : Nat → Nat), (∀ i, i < a → f i < b) → (∀ i j, i < a → j < a → f i = f j → i = j) → a ≤ b
  | 0, a, f, h, _ => by
    rcases Nat.eq_zero_or_pos a with z | z
    · omega
    · have := h 0 z; omega
  | b + 1, a, f, h, inj => by
    by_cases q : ∃ i, i < a ∧ f i = b
    · obtain ⟨k, hk, ek⟩ := q
      have := dl_pig b (a - 1) (fun i => if i < k then f i else f (i + 1)) (fun i hi => by
        by_cases z : i < k
        · have x := h i (by omega)
          have y : f i ≠ b := fun e => by have := inj i k (by omega) hk (by omega); omega
          simp only [z, if_true]; omega
        · have x := h (i + 1) (by omega)
          have y : f (i + 1) ≠ b := fun e => by have := inj (i + 1) k (by omega) hk (by omega); omega
          simp only [z, if_false]; omega) (fun i j hi hj e => by
        by_cases z : i < k <;> by_cases w : j < k <;> simp only [z, w, if_true, if_false] at e
        · exact inj i j (by omega) (by omega) e
        · have := inj i (j + 1) (by omega) (by omega) e; omega
        · have := inj (i + 1) j (by omega) (by omega) e; omega
        · have := inj (i + 1) (j + 1) (by omega) (by omega) e; omega)
      omega
    · have := dl_pig b a f (fun i hi => by
        have x := h i hi
        have y : f i ≠ b := fun e => q ⟨i, hi, e⟩
        omega) inj
      omega
/-- the first place below n where P holds, or n -/
theorem dl_first (P : Nat → Prop) (n : Nat) : ∃ p, p ≤ n ∧ (∀ q, q < p → ¬ P q) ∧ (p < n → P p) := by
  induction n with
  | zero => exact ⟨0, Nat.le_refl _, fun q h => by omega, fun h => by omega⟩
  | succ n ih =>
    obtain ⟨p, h1, h2, h3⟩ := ih
    rcases Nat.lt_or_ge p n with z | z
    · exact ⟨p, by omega, h2, fun _ => h3 z⟩
    · have e : p = n := by omega
      subst e
      by_cases q : P p
      · exact ⟨p, by omega, h2, fun _ => q⟩
      · refine ⟨p + 1, by omega, fun r hr => ?_, fun h => by omega⟩
        rcases Nat.lt_or_ge r p with y | y
        · exact h2 r y
        · have : r = p := by omega
          subst this; exact q
/-! counts: the number of k < N with P k -/
noncomputable def dl_b (P : Prop) : Nat := @ite Nat P (Classical.propDecidable P) 1 0
theorem dl_b_t {P : Prop} (h : P) : dl_b P = 1 := by unfold dl_b; rw [if_pos h]
theorem dl_b_f {P : Prop} (h : ¬ P) : dl_b P = 0 := by unfold dl_b; rw [if_neg h]
theorem dl_b_le (P : Prop) : dl_b P ≤ 1 := by
  rcases Classical.em P with h | h
  · rw [dl_b_t h]; omega
  · rw [dl_b_f h]; omega
theorem dl_b_mono {P Q : Prop} (h : P → Q) : dl_b P ≤ dl_b Q := by
  rcases Classical.em P with p | p
  · rw [dl_b_t p, dl_b_t (h p)]; omega
  · rw [dl_b_f p]; omega
theorem dl_b_iff {P Q : Prop} (h : P ↔ Q) : dl_b P = dl_b Q := Nat.le_antisymm (dl_b_mono h.mp) (dl_b_mono h.mpr)
noncomputable def dl_n (P : Nat → Prop) (n : Nat) : Nat := dl_s (fun k => dl_b (P k)) n
theorem dl_n_le (P : Nat → Prop) (n : Nat) : dl_n P n ≤ n := by
  have a := dl_s_le (f := fun k => dl_b (P k)) (g := fun _ => 1) (n := n) (fun i _ => dl_b_le _)
  have b := dl_s_const (k := 1) (n := n)
  unfold dl_n; omega
theorem dl_n_mono {P Q : Nat → Prop} {n : Nat} (h : ∀ k, k < n → P k → Q k) : dl_n P n ≤ dl_n Q n := dl_s_le (fun k hk => dl_b_mono (h k hk))
theorem dl_n_eq {P Q : Nat → Prop} {n : Nat} (h : ∀ k, k < n → (P k ↔ Q k)) : dl_n P n = dl_n Q n := dl_s_c (fun k hk => dl_b_iff (h k hk))
theorem dl_n_add {P Q : Nat → Prop} {n a : Nat} (ha : a < n) (hp : ¬ P a) (hq : Q a) (h : ∀ k, k < n → k ≠ a → (Q k ↔ P k)) : dl_n Q n = dl_n P n + 1 := by
  refine dl_s_u (c := a) ha (fun i hi z => dl_b_iff (h i hi z)) ?_
  show dl_b (Q a) = dl_b (P a) + 1
  rw [dl_b_t hq, dl_b_f hp]
theorem dl_n_lt {P Q : Nat → Prop} {n a : Nat} (ha : a < n) (hp : ¬ P a) (hq : Q a) (h : ∀ k, k < n → P k → Q k) : dl_n P n < dl_n Q n := by
  have e := dl_n_add (P := P) (Q := fun k => P k ∨ k = a) ha hp (Or.inr rfl) (fun k _ z => ⟨fun q => q.elim id (fun e => absurd e z), Or.inl⟩)
  have m := dl_n_mono (P := fun k => P k ∨ k = a) (Q := Q) (n := n) (fun k hk q => q.elim (h k hk) (fun e => e ▸ hq))
  omega
theorem dl_n_all {P : Nat → Prop} : ∀ {n : Nat}, n ≤ dl_n P n → ∀ k, k < n → P k
  | 0, _, k, hk => by omega
  | n + 1, h, k, hk => by
    have a := dl_n_le P n
    have b := dl_b_le (P n)
    simp only [dl_n, dl_s] at h a
    rcases Nat.lt_or_ge k n with z | z
    · exact dl_n_all (n := n) (by unfold dl_n; omega) k z
    · have e : k = n := by omega
      subst e
      refine Classical.byContradiction (fun q => ?_)
      rw [dl_b_f q] at h; omega
theorem dl_n_succ {P : Nat → Prop} {n : Nat} : dl_n P (n + 1) = dl_n P n + dl_b (P n) := rfl
/-! a list sorted by G, holding just the members M -/
def dl_srt (G : Nat → Nat → Prop) (M : Nat → Prop) (σ : Nat → Nat) (m : Nat) : Prop :=
  (∀ s s', s < s' → s' < m → G (σ s) (σ s')) ∧ (∀ s, s < m → M (σ s)) ∧ ∀ c, M c → ∃ s, s < m ∧ σ s = c
theorem dl_srt_c {G : Nat → Nat → Prop} {M : Nat → Prop} {σ τ : Nat → Nat} {m : Nat} (h : dl_srt G M σ m) (e : ∀ s, s < m → τ s = σ s) : dl_srt G M τ m :=
  ⟨fun s s' a b => by rw [e s (by omega), e s' b]; exact h.1 s s' a b, fun s a => by rw [e s a]; exact h.2.1 s a, fun c hc => (h.2.2 c hc).elim fun s hs => ⟨s, hs.1, by rw [e s hs.1]; exact hs.2⟩⟩
theorem dl_srt_M {G : Nat → Nat → Prop} {M M' : Nat → Prop} {σ : Nat → Nat} {m : Nat} (h : dl_srt G M σ m) (e : ∀ c, M c ↔ M' c) : dl_srt G M' σ m :=
  ⟨h.1, fun s hs => (e _).mp (h.2.1 s hs), fun c hc => h.2.2 c ((e c).mpr hc)⟩
theorem dl_srt_ins {G : Nat → Nat → Prop} {M M' : Nat → Prop} {σ τ : Nat → Nat} {m x c : Nat} (h : dl_srt G M σ m) (hx : x ≤ m)
    (lo : ∀ s, s < x → τ s = σ s) (at0 : τ x = c) (hi : ∀ s, x < s → s ≤ m → τ s = σ (s - 1))
    (gl : ∀ s, s < x → G (σ s) c) (gh : ∀ s, x ≤ s → s < m → G c (σ s)) (hM : ∀ d, M' d ↔ (M d ∨ d = c)) : dl_srt G M' τ (m + 1) := by
  refine ⟨fun s s' a b => ?_, fun s a => ?_, fun d hd => ?_⟩
  · rcases Nat.lt_trichotomy s x with z | z | z
    · rw [lo s z]
      rcases Nat.lt_trichotomy s' x with w | w | w
      · rw [lo s' w]; exact h.1 s s' a (by omega)
      · rw [w, at0]; exact gl s z
      · rw [hi s' w (by omega)]; exact h.1 s (s' - 1) (by omega) (by omega)
    · rw [z, at0, hi s' (by omega) (by omega)]; exact gh (s' - 1) (by omega) (by omega)
    · rw [hi s z (by omega), hi s' (by omega) (by omega)]; exact h.1 (s - 1) (s' - 1) (by omega) (by omega)
  · rw [hM]
    rcases Nat.lt_trichotomy s x with z | z | z
    · rw [lo s z]; exact Or.inl (h.2.1 s (by omega))
    · rw [z, at0]; exact Or.inr rfl
    · rw [hi s z (by omega)]; exact Or.inl (h.2.1 (s - 1) (by omega))
  · rcases (hM d).mp hd with q | q
    · obtain ⟨s, h1, h2⟩ := h.2.2 d q
      rcases Nat.lt_or_ge s x with z | z
      · exact ⟨s, by omega, by rw [lo s z]; exact h2⟩
      · exact ⟨s + 1, by omega, by rw [hi (s + 1) (by omega) (by omega)]; exact h2⟩
    · exact ⟨x, by omega, by rw [at0]; exact q.symm⟩
theorem dl_srt_inj {G : Nat → Nat → Prop} {M : Nat → Prop} {σ : Nat → Nat} {m : Nat} (h : dl_srt G M σ m) (ir : ∀ a, ¬ G a a) {s s' : Nat} (hs : s < m) (hs' : s' < m) (e : σ s = σ s') : s = s' := by
  rcases Nat.lt_trichotomy s s' with z | z | z
  · have := h.1 s s' z hs'; rw [e] at this; exact absurd this (ir _)
  · exact z
  · have := h.1 s' s z hs; rw [e] at this; exact absurd this (ir _)
end
section
/-! chains: Rc R Q a y: there is a chain from a to y, its members behind a in Q -/
def dl_Rc (R : Nat → Nat → Prop) (Q : Nat → Prop) (a y : Nat) : Prop :=
  ∀ Z : Nat → Prop, (∀ x y, (x = a ∨ Z x) → R x y → Q y → Z y) → Z y
theorem dl_Rc_0 {R : Nat → Nat → Prop} {Q : Nat → Prop} {a y : Nat} (h : R a y) (q : Q y) : dl_Rc R Q a y := fun _ c => c a y (Or.inl rfl) h q
theorem dl_Rc_s {R : Nat → Nat → Prop} {Q : Nat → Prop} {a x y : Nat} (k : dl_Rc R Q a x) (h : R x y) (q : Q y) : dl_Rc R Q a y := fun Z c => c x y (Or.inr (k Z c)) h q
theorem dl_Rc_c {R : Nat → Nat → Prop} {Q : Nat → Prop} {a x y : Nat} (k : x = a ∨ dl_Rc R Q a x) (h : R x y) (q : Q y) : dl_Rc R Q a y :=
  k.elim (fun e => dl_Rc_0 (e ▸ h) q) (fun k => dl_Rc_s k h q)
theorem dl_Rc_Q {R : Nat → Nat → Prop} {Q : Nat → Prop} {a y : Nat} (k : dl_Rc R Q a y) : Q y := k Q (fun _ _ _ _ q => q)
theorem dl_Rc_e {R : Nat → Nat → Prop} {Q : Nat → Prop} {a y : Nat} (k : dl_Rc R Q a y) : ∃ x, R x y := k (fun y => ∃ x, R x y) (fun x _ _ r _ => ⟨x, r⟩)
theorem dl_Rc_m {R : Nat → Nat → Prop} {Q Q' : Nat → Prop} {a y : Nat} (k : dl_Rc R Q a y) (h : ∀ y, Q y → Q' y) : dl_Rc R Q' a y :=
  k (dl_Rc R Q' a) (fun _ y c r q => dl_Rc_c c r (h y q))
theorem dl_Rc_mR {R : Nat → Nat → Prop} {Q Q' : Nat → Prop} {a y : Nat} (k : dl_Rc R Q a y) (h : ∀ x y, R x y → Q y → Q' y) : dl_Rc R Q' a y :=
  k (dl_Rc R Q' a) (fun x y c r q => dl_Rc_c c r (h x y r q))
def dl_Tr (R : Nat → Nat → Prop) (a b : Nat) : Prop := dl_Rc R (fun _ => True) a b
theorem dl_Tr_t {R : Nat → Nat → Prop} {a b c : Nat} (h : dl_Tr R a b) (k : dl_Tr R b c) : dl_Tr R a c :=
  k (dl_Tr R a) (fun _ _ q r _ => q.elim (fun e => dl_Rc_s (e ▸ h) r trivial) (fun k => dl_Rc_s k r trivial))
theorem dl_Tr_1 {R : Nat → Nat → Prop} {a b : Nat} (h : R a b) : dl_Tr R a b := dl_Rc_0 h trivial
/-- a chain from a to b -/
def dl_Cl (R : Nat → Nat → Prop) (Q : Nat → Prop) (a b : Nat) : Prop := ∃ x, (x = a ∨ dl_Rc R Q a x) ∧ R x b
theorem dl_Cl_Tr {R : Nat → Nat → Prop} {Q : Nat → Prop} {a b : Nat} (q : ∀ y, Q y) : dl_Cl R Q a b ↔ dl_Tr R a b := by
  constructor
  · rintro ⟨x, h | h, r⟩
    · exact dl_Tr_1 (h ▸ r)
    · exact dl_Rc_s (dl_Rc_m h (fun _ _ => trivial)) r trivial
  · intro h
    exact h (dl_Cl R Q a) (fun x y k r _ => k.elim (fun e => ⟨x, Or.inl e, r⟩) (fun k => by
      obtain ⟨z, hz, rz⟩ := k
      exact ⟨x, Or.inr (dl_Rc_c hz rz (q x)), r⟩))
/-- a closed chain stays within the common chains -/
theorem dl_Cl_cm {R : Nat → Nat → Prop} {Q Q' : Nat → Prop} {c : Nat} (ir : ∀ x, ¬ R x x) (hq : ∀ y, Q' y ↔ (Q y ∧ (y = c ∨ (dl_Tr R c y ∧ dl_Tr R y c)))) : dl_Cl R Q c c ↔ ∃ x, dl_Rc R Q' c x ∧ R x c := by
  constructor
  · rintro ⟨x, h | h, r⟩
    · exact absurd (h ▸ r) (ir c)
    · have key := h (fun y => dl_Tr R c y ∧ (dl_Tr R y c → dl_Rc R Q' c y)) (fun z y k s q => by
        rcases k with e | ⟨k1, k2⟩
        · rw [e] at s
          exact ⟨dl_Tr_1 s, fun t => dl_Rc_0 s ((hq y).mpr ⟨q, Or.inr ⟨dl_Tr_1 s, t⟩⟩)⟩
        · have t1 := dl_Rc_s k1 s trivial
          exact ⟨t1, fun t => dl_Rc_s (k2 (dl_Tr_t (dl_Tr_1 s) t)) s ((hq y).mpr ⟨q, Or.inr ⟨t1, t⟩⟩)⟩)
      exact ⟨x, key.2 (dl_Tr_1 r), r⟩
  · rintro ⟨x, h, r⟩
    exact ⟨x, Or.inr (dl_Rc_m h (fun y q => ((hq y).mp q).1)), r⟩
/-! Warshall's stages -/
def dl_P (R : Nat → Nat → Prop) : Nat → Nat → Nat → Prop
  | 0, a, b => R a b
  | v + 1, a, b => dl_P R v a b ∨ (dl_P R v a v ∧ dl_P R v v b)
theorem dl_P_R {R : Nat → Nat → Prop} {a b : Nat} (h : R a b) : ∀ v, dl_P R v a b
  | 0 => h
  | v + 1 => Or.inl (dl_P_R h v)
theorem dl_P_Tr {R : Nat → Nat → Prop} : ∀ {v a b : Nat}, dl_P R v a b → dl_Tr R a b
  | 0, _, _, h => dl_Tr_1 h
  | _ + 1, _, _, h => h.elim dl_P_Tr (fun k => dl_Tr_t (dl_P_Tr k.1) (dl_P_Tr k.2))
theorem dl_P_v {R : Nat → Nat → Prop} {v b : Nat} : dl_P R (v + 1) v b ↔ dl_P R v v b := ⟨fun h => h.elim id (fun k => k.2), Or.inl⟩
theorem dl_P_t {R : Nat → Nat → Prop} : ∀ {v x a b : Nat}, x < v → dl_P R v a x → dl_P R v x b → dl_P R v a b
  | 0, _, _, _, h, _, _ => by omega
  | v + 1, x, a, b, h, p, q => by
    rcases Nat.lt_or_ge x v with z | z
    · rcases p with p | ⟨p1, p2⟩
      · rcases q with q | ⟨q1, q2⟩
        · exact Or.inl (dl_P_t z p q)
        · exact Or.inr ⟨dl_P_t z p q1, q2⟩
      · rcases q with q | ⟨q1, q2⟩
        · exact Or.inr ⟨p1, dl_P_t z p2 q⟩
        · exact Or.inr ⟨p1, q2⟩
    · have e : x = v := by omega
      subst e
      exact Or.inr ⟨p.elim id (fun k => k.1), q.elim id (fun k => k.2)⟩
theorem dl_P_iff {R : Nat → Nat → Prop} {n a b : Nat} (hR : ∀ x y, R x y → x < n) : dl_P R n a b ↔ dl_Tr R a b := by
  refine ⟨dl_P_Tr, fun h => h (dl_P R n a) (fun x y k r _ => ?_)⟩
  rcases k with e | k
  · exact dl_P_R (e ▸ r) n
  · exact dl_P_t (hR x y r) k (dl_P_R r n)
/-! no closed chain: a rank -/
def dl_Ac (R : Nat → Nat → Prop) (Q : Nat → Prop) : Prop := ∃ (rk : Nat → Nat) (B : Nat), (∀ x, rk x < B) ∧ ∀ x y, Q x → Q y → R x y → rk x < rk y
theorem dl_Ac_m {R : Nat → Nat → Prop} {Q Q' : Nat → Prop} (h : dl_Ac R Q) (m : ∀ x, (∃ y, R x y ∨ R y x) → Q' x → Q x) : dl_Ac R Q' := by
  obtain ⟨rk, B, h1, h2⟩ := h
  exact ⟨rk, B, h1, fun x y a b r => h2 x y (m x ⟨y, Or.inl r⟩ a) (m y ⟨x, Or.inr r⟩ b) r⟩
theorem dl_Ac_0 {R : Nat → Nat → Prop} {Q : Nat → Prop} (m : ∀ x y, R x y → ¬ Q x) : dl_Ac R Q := ⟨fun _ => 0, 1, fun _ => Nat.one_pos, fun x y a _ r => absurd a (m x y r)⟩
theorem dl_Ac_s {R : Nat → Nat → Prop} {Q Q' : Nat → Prop} {c : Nat} (h : dl_Ac R Q) (ir : ∀ x, ¬ R x x) (hc : ¬ dl_Cl R Q c c) (m : ∀ x, Q' x → Q x ∨ x = c) : dl_Ac R Q' := by
  obtain ⟨rk, B, h1, h2⟩ := h
  have hn : ∀ x, dl_Rc R Q c x → ¬ R x c := fun x k r => hc ⟨x, Or.inr k, r⟩
  refine ⟨fun x => @ite Nat (dl_Rc R Q c x) (Classical.propDecidable _) (B + 1 + rk x) (if x = c then B else rk x), B + 1 + B, fun x => ?_, fun x y a b r => ?_⟩
  · have := h1 x
    dsimp only
    split
    · omega
    · split <;> omega
  · dsimp only
    have hx := h1 x
    have hy := h1 y
    by_cases px : dl_Rc R Q c x
    · rw [if_pos px]
      have nyc : y ≠ c := fun e => hn x px (e ▸ r)
      have qy : Q y := (m y b).elim id (fun e => absurd e nyc)
      have py := dl_Rc_s px r qy
      rw [if_pos py]
      have := h2 x y (dl_Rc_Q px) qy r
      omega
    · rw [if_neg px]
      by_cases ex : x = c
      · rw [if_pos ex]
        have nyc : y ≠ c := fun e => ir c (by rw [ex, e] at r; exact r)
        have qy : Q y := (m y b).elim id (fun e => absurd e nyc)
        rw [if_pos (dl_Rc_0 (ex ▸ r) qy)]
        omega
      · rw [if_neg ex]
        have qx : Q x := (m x a).elim id (fun e => absurd e ex)
        by_cases py : dl_Rc R Q c y
        · rw [if_pos py]; omega
        · rw [if_neg py]
          by_cases ey : y = c
          · rw [if_pos ey]; omega
          · rw [if_neg ey]
            exact h2 x y qx ((m y b).elim id (fun e => absurd e ey)) r
/-- of a set that isn't empty, some member has no other ahead of it -/
theorem dl_Ac_min {R : Nat → Nat → Prop} {Q : Nat → Prop} (h : dl_Ac R Q) {c0 : Nat} (h0 : Q c0) : ∃ c, Q c ∧ ∀ x, Q x → ¬ R x c := by
  obtain ⟨rk, B, h1, h2⟩ := h
  have key : ∀ k c, rk c < k → Q c → ∃ c, Q c ∧ ∀ x, Q x → ¬ R x c := by
    intro k
    induction k with
    | zero => intro c h; omega
    | succ k ih =>
      intro c hk qc
      by_cases z : ∃ x, Q x ∧ R x c
      · obtain ⟨x, qx, r⟩ := z
        exact ih x (by have := h2 x c qx qc r; omega) qx
      · exact ⟨c, qc, fun x qx r => z ⟨x, qx, r⟩⟩
  exact key _ c0 (Nat.lt_succ_self _) h0
/-! the precedence of commands -/
def dl_R (cnt : Nat) (K S D N : Nat → Nat) (i j : Nat) : Prop := i < cnt ∧ j < cnt ∧ i ≠ j ∧ K i = 1 ∧ K j = 1 ∧ ∃ k, k < N i ∧ D j ≤ S i + k ∧ S i + k < D j + N j
theorem dl_R_ir {cnt : Nat} {K S D N : Nat → Nat} (x : Nat) : ¬ dl_R cnt K S D N x x := fun h => h.2.2.1 rfl
/-! which copies are kept: decided in the order β -/
noncomputable def dl_dec (R : Nat → Nat → Prop) (β F0 : Nat → Nat) : Nat → Nat → Nat
  | 0 => F0
  | r + 1 => dl_u (dl_dec R β F0 r) (β r) (1 + 2 * dl_b (dl_Cl R (fun y => dl_dec R β F0 r y = 1) (β r) (β r)))
/-- what is known of the fates F after r decisions -/
def dl_Dk (R : Nat → Nat → Prop) (K β : Nat → Nat) (m r : Nat) (F : Nat → Nat) (cnt : Nat) : Prop :=
  (∀ c, c < cnt → K c = 2 → F c = 2) ∧ (∀ s, s < r → F (β s) = 1 ∨ F (β s) = 3) ∧ (∀ s, r ≤ s → s < m → F (β s) = 0) ∧ dl_Ac R (fun y => F y = 1)
theorem dl_Dk_0 {cnt m : Nat} {K S D N β F0 : Nat → Nat} (hK : ∀ c, c < cnt → K c = 1 ∨ K c = 2) (hF : ∀ c, c < cnt → F0 c = if K c = 2 then 2 else 0) (hβ : ∀ s, s < m → β s < cnt ∧ K (β s) = 1) : dl_Dk (dl_R cnt K S D N) K β m 0 F0 cnt := by
  refine ⟨fun c hc k => by rw [hF c hc, if_pos k], fun s hs => by omega, fun s _ hs => ?_, dl_Ac_0 fun x y r q => ?_⟩
  · rw [hF _ (hβ s hs).1, if_neg (by rw [(hβ s hs).2]; omega)]
  · have e := hF x r.1
    rw [if_neg (by rw [r.2.2.2.1]; omega)] at e
    omega
theorem dl_Dk_s {cnt m r : Nat} {K S D N β F : Nat → Nat} (hβ : ∀ s, s < m → β s < cnt ∧ K (β s) = 1) (hi : ∀ s s', s < m → s' < m → β s = β s' → s = s') (hr : r < m) (h : dl_Dk (dl_R cnt K S D N) K β m r F cnt) :
    dl_Dk (dl_R cnt K S D N) K β m (r + 1) (dl_u F (β r) (1 + 2 * dl_b (dl_Cl (dl_R cnt K S D N) (fun y => F y = 1) (β r) (β r)))) cnt := by
  obtain ⟨h1, h2, h3, h4⟩ := h
  refine ⟨fun c hc k => ?_, fun s hs => ?_, fun s hs hm => ?_, ?_⟩
  · rw [dl_un (fun e => by have := (hβ r hr).2; rw [← e] at this; omega)]
    exact h1 c hc k
  · by_cases e : s = r
    · subst e
      rw [dl_us]
      rcases Classical.em (dl_Cl (dl_R cnt K S D N) (fun y => F y = 1) (β s) (β s)) with z | z
      · rw [dl_b_t z]; exact Or.inr rfl
      · rw [dl_b_f z]; exact Or.inl rfl
    · rw [dl_un (fun z => e (hi s r (by omega) hr z))]
      exact h2 s (by omega)
  · rw [dl_un (fun z => by have := hi s r hm hr z; omega)]
    exact h3 s (by omega) hm
  · rcases Classical.em (dl_Cl (dl_R cnt K S D N) (fun y => F y = 1) (β r) (β r)) with z | z
    · refine dl_Ac_m h4 (fun x _ q => ?_)
      by_cases e : x = β r
      · rw [e, dl_us, dl_b_t z] at q; omega
      · rwa [dl_un e] at q
    · refine dl_Ac_s h4 dl_R_ir z (fun x q => ?_)
      by_cases e : x = β r
      · exact Or.inr e
      · rw [dl_un e] at q; exact Or.inl q
theorem dl_Dk_d {cnt m : Nat} {K S D N β F0 : Nat → Nat} (hK : ∀ c, c < cnt → K c = 1 ∨ K c = 2) (hF : ∀ c, c < cnt → F0 c = if K c = 2 then 2 else 0) (hβ : ∀ s, s < m → β s < cnt ∧ K (β s) = 1) (hi : ∀ s s', s < m → s' < m → β s = β s' → s = s') :
    ∀ r, r ≤ m → dl_Dk (dl_R cnt K S D N) K β m r (dl_dec (dl_R cnt K S D N) β F0 r) cnt
  | 0, _ => dl_Dk_0 hK hF hβ
  | r + 1, h => dl_Dk_s hβ hi h (dl_Dk_d hK hF hβ hi r (by omega))
end
section
theorem dl_bt1 : ∀ i, i < 32 → bt 1 i = decide (i = 0) := by decide +kernel
theorem dl_bit1 {x : Int32} {j : Nat} (hj : j < 32) : ((x >>> (nI j &&& 31)) &&& 1) = nI (if bt x j = true then 1 else 0) := by
  refine b_ext (fun i hi => ?_)
  rw [b_and, b_sshr j hj x hi, dl_bt1 i hi]
  by_cases z : i = 0
  · subst z
    rw [Nat.add_zero, if_pos hj]
    cases h : bt x j
    · exact (b_0 0).symm ▸ rfl
    · simp only [if_true, decide_true, Bool.and_true]
      exact (dl_bt1 0 (by omega)).symm
  · rw [decide_eq_false z, Bool.and_false]
    cases h : bt x j
    · exact (b_0 i).symm
    · simp only [if_true]
      have := dl_bt1 i hi
      rw [decide_eq_false z] at this
      exact this.symm
theorem dl_bit {x : Int32} {j : Nat} (hj : j < 32) : (((x >>> (nI j &&& 31)) &&& 1) = 0) ↔ ¬ bt x j = true := by
  rw [dl_bit1 hj]
  by_cases h : bt x j = true
  · rw [if_pos h]; exact ⟨fun z => absurd z (by decide), fun z => absurd h z⟩
  · rw [if_neg h]; exact ⟨fun _ => h, fun _ => rfl⟩
theorem dl_2bit {x y : Int32} {i j : Nat} (hi : i < 32) (hj : j < 32) : ((((x >>> (nI i &&& 31)) &&& (y >>> (nI j &&& 31))) &&& 1) = 0) ↔ ¬ (bt x i = true ∧ bt y j = true) := by
  have e : (((x >>> (nI i &&& 31)) &&& (y >>> (nI j &&& 31))) &&& 1) = ((x >>> (nI i &&& 31)) &&& 1) &&& ((y >>> (nI j &&& 31)) &&& 1) := by
    refine b_ext (fun k _ => ?_)
    simp only [b_and]
    cases bt (x >>> (nI i &&& 31)) k <;> cases bt (y >>> (nI j &&& 31)) k <;> cases bt 1 k <;> rfl
  rw [e, dl_bit1 hi, dl_bit1 hj]
  by_cases h : bt x i = true <;> by_cases k : bt y j = true
  · rw [if_pos h, if_pos k]; exact ⟨fun z => absurd z (by decide), fun z => absurd ⟨h, k⟩ z⟩
  · rw [if_pos h, if_neg k]; exact ⟨fun _ z => k z.2, fun _ => by decide⟩
  · rw [if_neg h, if_pos k]; exact ⟨fun _ z => h z.1, fun _ => by decide⟩
  · rw [if_neg h, if_neg k]; exact ⟨fun _ z => k z.2, fun _ => by decide⟩
theorem dl_sh1 {c j : Nat} (hc : c < 32) (hj : j < 32) : bt ((1 : Int32) <<< (nI c &&& 31)) j = decide (j = c) := by
  rw [b_shl c hc 1 hj, dl_bt1 (j - c) (by omega)]
  by_cases h : j = c
  · subst h; simp
  · rw [decide_eq_false h]
    rcases Nat.lt_or_ge j c with z | z
    · rw [decide_eq_false (by omega)]; rfl
    · rw [decide_eq_false (show ¬ j - c = 0 by omega), Bool.and_false]
theorem dl_or1 {x : Int32} {c j : Nat} (hc : c < 32) (hj : j < 32) : (bt (x ||| ((1 : Int32) <<< (nI c &&& 31))) j = true) ↔ (bt x j = true ∨ j = c) := by
  rw [b_or, dl_sh1 hc hj, Bool.or_eq_true, decide_eq_true_eq]
theorem dl_clr {x : Int32} {c j : Nat} (hc : c < 32) (hj : j < 32) : (bt (x &&& (((1 : Int32) <<< (nI c &&& 31)) ^^^ (-1))) j = true) ↔ (bt x j = true ∧ j ≠ c) := by
  rw [b_and, b_xor, dl_sh1 hc hj, b_m1 j hj, Bool.and_eq_true]
  by_cases h : j = c
  · simp [h]
  · simp [h]
theorem dl_z0 {x : Int32} : x = 0 ↔ ∀ i, i < 32 → ¬ bt x i = true := by
  constructor
  · intro e i _
    rw [e, b_0]; decide
  · intro h
    refine b_ext (fun i hi => ?_)
    rw [b_0]
    exact Bool.eq_false_iff.mpr (h i hi)
theorem dl_nz {x : Int32} : ¬ x = 0 ↔ ∃ i, i < 32 ∧ bt x i = true := by
  rw [dl_z0]
  constructor
  · intro h
    refine Classical.byContradiction (fun z => h (fun i hi k => z ⟨i, hi, k⟩))
  · rintro ⟨i, hi, k⟩ h
    exact h i hi k
theorem dl_lowN {n b : Nat} (h1 : n.testBit b = true) (h2 : ∀ i, i < b → n.testBit i = false) (j : Nat) : (n &&& (n - 1)).testBit j = (n.testBit j && decide (j ≠ b)) := by
  have e1 : n % 2 ^ (b + 1) = 2 ^ b := by
    refine Nat.eq_of_testBit_eq (fun i => ?_)
    rw [Nat.testBit_mod_two_pow, Nat.testBit_two_pow]
    rcases Nat.lt_trichotomy i b with z | z | z
    · rw [h2 i z, Bool.and_false, decide_eq_false (by omega)]
    · subst z; rw [h1]; simp
    · rw [decide_eq_false (by omega), decide_eq_false (by omega)]; rfl
  have e2 := Nat.div_add_mod n (2 ^ (b + 1))
  rw [e1] at e2
  have hp : 0 < 2 ^ b := Nat.two_pow_pos b
  have hl : 2 ^ b < 2 ^ (b + 1) := Nat.pow_lt_pow_right (by decide) (by omega)
  have e3 : n - 1 = 2 ^ (b + 1) * (n / 2 ^ (b + 1)) + (2 ^ b - 1) := by
    generalize 2 ^ (b + 1) * (n / 2 ^ (b + 1)) = q at *
    omega
  rw [Nat.testBit_and]
  rcases Nat.lt_trichotomy j b with z | z | z
  · rw [h2 j z]; rfl
  · subst z
    rw [e3, Nat.testBit_two_pow_mul_add _ (by omega), if_pos (by omega), Nat.testBit_two_pow_sub_one]
    simp
  · have a : (n - 1).testBit j = n.testBit j := by
      rw [e3, Nat.testBit_two_pow_mul_add _ (by omega), if_neg (by omega)]
      conv => rhs; rw [← e2]
      rw [Nat.testBit_two_pow_mul_add _ hl, if_neg (by omega)]
    rw [a, Bool.and_self, decide_eq_true (by omega), Bool.and_true]
theorem dl_btN (x : Int32) (i : Nat) : bt x i = x.toBitVec.toNat.testBit i := BitVec.testBit_toNat _ ▸ rfl
theorem dl_low {x : Int32} {b j : Nat} (h1 : bt x b = true) (h2 : ∀ i, i < b → ¬ bt x i = true) : (bt (x &&& (x - 1)) j = true) ↔ (bt x j = true ∧ j ≠ b) := by
  have n1 : x.toBitVec.toNat.testBit b = true := by rw [← dl_btN]; exact h1
  have hpos : 1 ≤ x.toBitVec.toNat := by
    rcases Nat.eq_zero_or_pos x.toBitVec.toNat with z | z
    · rw [z, Nat.zero_testBit] at n1; exact absurd n1 (by decide)
    · exact z
  have e : (x - 1).toBitVec.toNat = x.toBitVec.toNat - 1 := by
    rw [Int32.toBitVec_sub, BitVec.toNat_sub]
    have := x.toBitVec.isLt
    show (2 ^ 32 - 1 + x.toBitVec.toNat) % 2 ^ 32 = _
    omega
  have := dl_lowN (n := x.toBitVec.toNat) (b := b) n1 (fun i hi => by rw [← dl_btN]; exact Bool.eq_false_iff.mpr (h2 i hi)) j
  rw [b_and, dl_btN, dl_btN, e, ← Nat.testBit_and, this, Bool.and_eq_true, decide_eq_true_eq]
end
section
/-! the commands' facts, the tiling, the order by destination -/
def dl_Cm (C ol : Nat) (K S D N : Nat → Nat) (c : Nat) : Prop := 1 ≤ N c ∧ D c + N c ≤ C ∧ ((K c = 1 ∧ S c + N c ≤ ol) ∨ (K c = 2 ∧ S c = 4294967295))
def dl_Bs (C L ol T cnt : Nat) (K S D N : Nat → Nat) : Prop := 8 ≤ C ∧ C ≤ 64 ∧ 2 ≤ L ∧ L ≤ 16 ∧ cnt ≤ L ∧ ol ≤ C ∧ T ≤ C ∧ ∀ c, c < cnt → dl_Cm C ol K S D N c
def dl_wc (cnt : Nat) (D N : Nat → Nat) (p : Nat) : Nat := dl_s (fun c => if D c ≤ p ∧ p < D c + N c then 1 else 0) cnt
def dl_flt (T p w : Nat) : Nat := if p < T then (if w = 0 then 1 else if w < 2 then 0 else 2) else if w < 1 then 0 else 3
theorem dl_flt_lt (T p w : Nat) : dl_flt T p w < 4 := by
  unfold dl_flt
  split
  · split
    · omega
    · split <;> omega
  · split <;> omega
theorem dl_wc_le (cnt : Nat) (D N : Nat → Nat) (p : Nat) : dl_wc cnt D N p ≤ cnt := by
  have a := dl_s_le (f := fun c => if D c ≤ p ∧ p < D c + N c then 1 else 0) (g := fun _ => 1) (n := cnt) (fun i _ => by split <;> omega)
  have b := dl_s_const (k := 1) (n := cnt)
  unfold dl_wc; omega
def dl_Til (T cnt : Nat) (D N wr : Nat → Nat) : Prop :=
  (∀ p, p < T → wr p < cnt ∧ D (wr p) ≤ p ∧ p < D (wr p) + N (wr p)) ∧ ∀ c p, c < cnt → D c ≤ p → p < D c + N c → p < T ∧ wr p = c
theorem dl_til_of {C L ol T cnt : Nat} {K S D N : Nat → Nat} (B : dl_Bs C L ol T cnt K S D N) (h : ∀ p, p < C → dl_flt T p (dl_wc cnt D N p) = 0) : ∃ wr, dl_Til T cnt D N wr := by
  have hT : T ≤ C := B.2.2.2.2.2.2.1
  have hc := B.2.2.2.2.2.2.2
  have ex : ∀ p, ∃ w, p < T → w < cnt ∧ (D w ≤ p ∧ p < D w + N w) ∧ ∀ i, i < cnt → (D i ≤ p ∧ p < D i + N i) → i = w := by
    intro p
    by_cases hp : p < T
    · have e := h p (by omega)
      unfold dl_flt at e
      rw [if_pos hp] at e
      have e1 : dl_wc cnt D N p = 1 := by
        by_cases z : dl_wc cnt D N p = 0
        · rw [if_pos z] at e; omega
        · rw [if_neg z] at e
          by_cases w : dl_wc cnt D N p < 2
          · omega
          · rw [if_neg w] at e; omega
      obtain ⟨c, c1, c2, c3⟩ := dl_s_one e1
      refine ⟨c, fun _ => ⟨c1, ?_, fun i hi z => c3 i hi (by rw [if_pos z]; omega)⟩⟩
      by_cases z : D c ≤ p ∧ p < D c + N c
      · exact z
      · rw [if_neg z] at c2; omega
    · exact ⟨0, fun z => absurd z hp⟩
  obtain ⟨wr, hw⟩ : ∃ wr : Nat → Nat, ∀ p, p < T → wr p < cnt ∧ (D (wr p) ≤ p ∧ p < D (wr p) + N (wr p)) ∧ ∀ i, i < cnt → (D i ≤ p ∧ p < D i + N i) → i = wr p := ⟨fun p => Classical.choose (ex p), fun p => Classical.choose_spec (ex p)⟩
  refine ⟨wr, fun p hp => ⟨(hw p hp).1, (hw p hp).2.1.1, (hw p hp).2.1.2⟩, fun c p c1 c2 c3 => ?_⟩
  have hp : p < T := by
    rcases Nat.lt_or_ge p T with z | z
    · exact z
    · exfalso
      have hC := (hc c c1).2.1
      have e := h p (by omega)
      unfold dl_flt at e
      rw [if_neg (by omega)] at e
      by_cases w : dl_wc cnt D N p < 1
      · have := dl_s_z (f := fun c => if D c ≤ p ∧ p < D c + N c then 1 else 0) (n := cnt) (by unfold dl_wc at w; omega) c c1
        rw [if_pos ⟨c2, c3⟩] at this
        omega
      · rw [if_neg w] at e; omega
  exact ⟨hp, ((hw p hp).2.2 c c1 ⟨c2, c3⟩).symm⟩
section
variable {C L ol T cnt : Nat} {K S D N wr σ : Nat → Nat}
theorem dl_til_end (H : dl_Til T cnt D N wr) {c : Nat} (hc : c < cnt) (hn : 1 ≤ N c) : D c + N c ≤ T := by
  have := (H.2 c (D c + N c - 1) hc (by omega) (by omega)).1
  omega
theorem dl_til_sum (H : dl_Til T cnt D N wr) (hn : ∀ c, c < cnt → 1 ≤ N c) : dl_s N cnt = T := by
  have e1 : dl_s N cnt = dl_s (fun c => dl_s (fun p => if D c ≤ p ∧ p < D c + N c then 1 else 0) T) cnt := by
    refine dl_s_c (fun c hc => ?_)
    rw [dl_s_iv]
    have := dl_til_end H hc (hn c hc)
    omega
  have e2 : dl_s (fun p => dl_s (fun c => if D c ≤ p ∧ p < D c + N c then 1 else 0) cnt) T = dl_s (fun _ => 1) T := by
    refine dl_s_c (fun p hp => ?_)
    obtain ⟨w1, w2, w3⟩ := H.1 p hp
    rw [dl_s_1 (c := wr p) w1 (fun i hi z => if_neg (fun q => z (H.2 i p hi q.1 q.2).2.symm)), if_pos ⟨w2, w3⟩]
  rw [e1, dl_s_swap, e2, dl_s_const]
  omega
theorem dl_dj (H : dl_Til T cnt D N wr) (hn : ∀ c, c < cnt → 1 ≤ N c) {a b : Nat} (ha : a < cnt) (hb : b < cnt) (h : D a < D b) : D a + N a ≤ D b := by
  rcases Nat.lt_or_ge (D b) (D a + N a) with z | z
  · have e1 := (H.2 a (D b) ha (by omega) z).2
    have e2 := (H.2 b (D b) hb (by omega) (by have := hn b hb; omega)).2
    have : a = b := e1.symm.trans e2
    subst this; omega
  · exact z
theorem dl_dd (H : dl_Til T cnt D N wr) (hn : ∀ c, c < cnt → 1 ≤ N c) {a b : Nat} (ha : a < cnt) (hb : b < cnt) (h : D a = D b) : a = b := by
  have e1 := (H.2 a (D b) ha (by omega) (by have := hn a ha; omega)).2
  have e2 := (H.2 b (D b) hb (by omega) (by have := hn b hb; omega)).2
  exact e1.symm.trans e2
def dl_Sd (cnt : Nat) (D σ : Nat → Nat) : Prop := dl_srt (fun a b => D a < D b) (fun c => c < cnt) σ cnt
theorem dl_slot (H : dl_Til T cnt D N wr) (hn : ∀ c, c < cnt → 1 ≤ N c) (Q : dl_Sd cnt D σ) {p s : Nat} (hp : p < T) (hs : s < cnt) (h1 : D (σ s) ≤ p) (h2 : ∀ s', s + 1 ≤ s' → s' < cnt → p < D (σ s')) : σ s = wr p := by
  obtain ⟨w1, w2, w3⟩ := H.1 p hp
  obtain ⟨t, t1, t2⟩ := Q.2.2 (wr p) w1
  rcases Nat.lt_trichotomy s t with z | z | z
  · have := h2 t z t1; rw [t2] at this; omega
  · rw [z]; exact t2
  · have a := Q.1 t s z hs
    have b := dl_dj H hn (Q.2.1 t t1) (Q.2.1 s hs) a
    rw [t2] at b
    omega
/-- the slots that a copy's reading meets -/
theorem dl_link (H : dl_Til T cnt D N wr) (hn : ∀ c, c < cnt → 1 ≤ N c) (Q : dl_Sd cnt D σ) {c l a b j : Nat} (hc : c < cnt) (hk : K c = 1) (hS : S c < T) (hl : l < T) (hl1 : S c ≤ l) (hl2 : l < S c + N c) (hl3 : l + 1 = S c + N c ∨ l + 1 = T)
    (ha : a < cnt) (hb : b < cnt) (ea : σ a = wr (S c)) (eb : σ b = wr l) : dl_R cnt K S D N c j ↔ (j ≠ c ∧ K j = 1 ∧ ∃ s, a ≤ s ∧ s ≤ b ∧ σ s = j) := by
  have wa := H.1 _ hS
  have wb := H.1 _ hl
  rw [← ea] at wa
  rw [← eb] at wb
  constructor
  · rintro ⟨_, hj, ne, _, kj, k, k1, k2, k3⟩
    refine ⟨ne.symm, kj, ?_⟩
    obtain ⟨s, s1, s2⟩ := Q.2.2 j hj
    have hq := (H.2 j _ hj k2 k3).1
    refine ⟨s, ?_, ?_, s2⟩
    · rcases Nat.lt_or_ge s a with z | z
      · have x := dl_dj H hn (Q.2.1 s s1) (Q.2.1 a ha) (Q.1 s a z ha)
        rw [s2] at x
        omega
      · exact z
    · rcases Nat.lt_or_ge b s with z | z
      · have x := dl_dj H hn (Q.2.1 b hb) (Q.2.1 s s1) (Q.1 b s z s1)
        rw [s2] at x
        omega
      · exact z
  · rintro ⟨ne, kj, s, s1, s2, s3⟩
    have hs : s < cnt := by omega
    have hj : j < cnt := by rw [← s3]; exact Q.2.1 s hs
    refine ⟨hc, hj, ne.symm, hk, kj, ?_⟩
    have nj := hn j hj
    have x1 : D j ≤ l := by
      rcases Nat.lt_or_ge s b with z | z
      · have := Q.1 s b z hb; rw [s3] at this; omega
      · have e : s = b := by omega
        rw [← s3, e]; omega
    rcases Nat.lt_or_ge a s with z | z
    · have x := dl_dj H hn (Q.2.1 a ha) (Q.2.1 s hs) (Q.1 a s z hs)
      rw [s3] at x
      exact ⟨D j - S c, by omega, by omega, by omega⟩
    · have e : s = a := by omega
      have e2 : j = σ a := by rw [← s3, e]
      rw [← e2] at wa
      have := hn c hc
      exact ⟨0, by omega, by omega, by omega⟩
theorem dl_nolink (H : dl_Til T cnt D N wr) {c j : Nat} (hS : T ≤ S c) : ¬ dl_R cnt K S D N c j := by
  rintro ⟨_, hj, _, _, _, k, _, k2, k3⟩
  have := (H.2 j _ hj k2 k3).1
  omega
end
end
section
def dl_si (E : Nat → Int32) : Nat → Int32
  | 0 => 0
  | n + 1 => dl_si E n + E n
theorem dl_si_u {E : Nat → Int32} {a : Nat} {v d : Int32} (hv : v = E a + d) : ∀ p, dl_si (upd E a v) p = if a < p then dl_si E p + d else dl_si E p
  | 0 => rfl
  | p + 1 => by
    have ih := dl_si_u (E := E) (a := a) hv p
    simp only [dl_si, ih]
    rcases Nat.lt_trichotomy a p with z | z | z
    · rw [if_pos z, if_pos (by omega), pk_un (by omega), Int32.add_assoc, Int32.add_assoc, Int32.add_comm d]
    · subst z
      rw [if_neg (by omega), if_pos (by omega), pk_us, hv, Int32.add_assoc]
    · rw [if_neg (by omega), if_neg (by omega), pk_un (by omega)]
theorem dl_si_0 {E : Nat → Int32} : ∀ p, (∀ q, q < p → E q = 0) → dl_si E p = 0
  | 0, _ => rfl
  | p + 1, h => by
    simp only [dl_si]
    rw [dl_si_0 p (fun q hq => h q (by omega)), h p (by omega)]
    rfl
theorem dl_si_s {D N : Nat → Nat} {E : Nat → Int32} {i : Nat} (h : ∀ p, p < 65 → dl_si E (p + 1) = nI (dl_wc i D N p)) (hn : 1 ≤ N i) :
    ∀ p, p < 65 → dl_si (upd (upd E (D i) (E (D i) + 1)) (D i + N i) ((upd E (D i) (E (D i) + 1)) (D i + N i) - 1)) (p + 1) = nI (dl_wc (i + 1) D N p) := by
  intro p hp
  rw [dl_si_u (d := -1) (Int32.sub_eq_add_neg _ _), dl_si_u (d := 1) rfl, h p hp]
  have e : dl_wc (i + 1) D N p = dl_wc i D N p + if D i ≤ p ∧ p < D i + N i then 1 else 0 := rfl
  rw [e]
  rcases Nat.lt_or_ge p (D i) with z | z
  · rw [if_neg (by omega), if_neg (by omega), if_neg (by omega)]; rfl
  · rcases Nat.lt_or_ge p (D i + N i) with w | w
    · rw [if_neg (by omega), if_pos (by omega), if_pos ⟨z, w⟩, nI_1]
    · rw [if_pos (by omega), if_pos (by omega), if_neg (by omega), nI_1, pk_m1]; rfl
section
variable {C L ph ol T cnt ls co dn pl dy : Nat} {kp : Int32} {K S D N A bD sq po ws ss bd F P : Nat → Nat} {bu pool bf af cm ed re old nxt dat mk : Nat → Int32}
theorem dl_xfo (post : Int32 → Prop) {p w : Nat} (hp : p < 2147483648) (hw : w < 2147483648) (hT : T < 2147483648) (H : post (nI (dl_flt T p w))) : wpX_faultOf post (nI C, nI L, nI ph, nI ol, nI T, nI cnt, nI ls, nI co, kp, nI dn, nI pl, bu, dl_A K, dl_A S, dl_A D, dl_A N, dl_A A, pool, dl_A bD, bf, af, cm, dl_A sq, dl_A po, dl_A ws, dl_A ss, ed, re, dl_A bd) (nI p) (nI w) := by
  unfold dl_flt at H
  by_cases h : p < T
  · rw [if_pos h] at H
    by_cases h0 : w = 0
    · rw [if_pos h0] at H
      simp (disch := omega) only [wpX_faultOf, nI_clamp, dl_Ar, dl_Au, dl_leT, dl_leF, dl_ltT, dl_ltF, dl_eqT, dl_eqF, nI_add, nI_1, dl_inT, dl_sub, dl_sub1, dl_subm1, forall_eq, true_implies, false_implies, not_true, not_false_iff, true_and, and_true, dl_leLT0, dl_leLF0, dl_leRT0, dl_leRF0, dl_ltLT0, dl_ltLF0, dl_ltRT0, dl_ltRF0, dl_eqRT0, dl_eqRF0, dl_leLT1, dl_leLF1, dl_leRT1, dl_leRF1, dl_ltLT1, dl_ltLF1, dl_ltRT1, dl_ltRF1, dl_eqRT1, dl_eqRF1, dl_leLT2, dl_leLF2, dl_leRT2, dl_leRF2, dl_ltLT2, dl_ltLF2, dl_ltRT2, dl_ltRF2, dl_eqRT2, dl_eqRF2, dl_leLT3, dl_leLF3, dl_leRT3, dl_leRF3, dl_ltLT3, dl_ltLF3, dl_ltRT3, dl_ltRF3, dl_eqRT3, dl_eqRF3, dl_leLT8, dl_leLF8, dl_leRT8, dl_leRF8, dl_ltLT8, dl_ltLF8, dl_ltRT8, dl_ltRF8, dl_eqRT8, dl_eqRF8, dl_leLT9, dl_leLF9, dl_leRT9, dl_leRF9, dl_ltLT9, dl_ltLF9, dl_ltRT9, dl_ltRF9, dl_eqRT9, dl_eqRF9, dl_leLT16, dl_leLF16, dl_leRT16, dl_leRF16, dl_ltLT16, dl_ltLF16, dl_ltRT16, dl_ltRF16, dl_eqRT16, dl_eqRF16, dl_leLT64, dl_leLF64, dl_leRT64, dl_leRF64, dl_ltLT64, dl_ltLF64, dl_ltRT64, dl_ltRF64, dl_eqRT64, dl_eqRF64, dl_leLT65, dl_leLF65, dl_leRT65, dl_leRF65, dl_ltLT65, dl_ltLF65, dl_ltRT65, dl_ltRF65, dl_eqRT65, dl_eqRF65]
      exact H
    · rw [if_neg h0] at H
      by_cases h2 : w < 2
      · rw [if_pos h2] at H
        simp (disch := omega) only [wpX_faultOf, nI_clamp, dl_Ar, dl_Au, dl_leT, dl_leF, dl_ltT, dl_ltF, dl_eqT, dl_eqF, nI_add, nI_1, dl_inT, dl_sub, dl_sub1, dl_subm1, forall_eq, true_implies, false_implies, not_true, not_false_iff, true_and, and_true, dl_leLT0, dl_leLF0, dl_leRT0, dl_leRF0, dl_ltLT0, dl_ltLF0, dl_ltRT0, dl_ltRF0, dl_eqRT0, dl_eqRF0, dl_leLT1, dl_leLF1, dl_leRT1, dl_leRF1, dl_ltLT1, dl_ltLF1, dl_ltRT1, dl_ltRF1, dl_eqRT1, dl_eqRF1, dl_leLT2, dl_leLF2, dl_leRT2, dl_leRF2, dl_ltLT2, dl_ltLF2, dl_ltRT2, dl_ltRF2, dl_eqRT2, dl_eqRF2, dl_leLT3, dl_leLF3, dl_leRT3, dl_leRF3, dl_ltLT3, dl_ltLF3, dl_ltRT3, dl_ltRF3, dl_eqRT3, dl_eqRF3, dl_leLT8, dl_leLF8, dl_leRT8, dl_leRF8, dl_ltLT8, dl_ltLF8, dl_ltRT8, dl_ltRF8, dl_eqRT8, dl_eqRF8, dl_leLT9, dl_leLF9, dl_leRT9, dl_leRF9, dl_ltLT9, dl_ltLF9, dl_ltRT9, dl_ltRF9, dl_eqRT9, dl_eqRF9, dl_leLT16, dl_leLF16, dl_leRT16, dl_leRF16, dl_ltLT16, dl_ltLF16, dl_ltRT16, dl_ltRF16, dl_eqRT16, dl_eqRF16, dl_leLT64, dl_leLF64, dl_leRT64, dl_leRF64, dl_ltLT64, dl_ltLF64, dl_ltRT64, dl_ltRF64, dl_eqRT64, dl_eqRF64, dl_leLT65, dl_leLF65, dl_leRT65, dl_leRF65, dl_ltLT65, dl_ltLF65, dl_ltRT65, dl_ltRF65, dl_eqRT65, dl_eqRF65]
        exact H
      · rw [if_neg h2] at H
        simp (disch := omega) only [wpX_faultOf, nI_clamp, dl_Ar, dl_Au, dl_leT, dl_leF, dl_ltT, dl_ltF, dl_eqT, dl_eqF, nI_add, nI_1, dl_inT, dl_sub, dl_sub1, dl_subm1, forall_eq, true_implies, false_implies, not_true, not_false_iff, true_and, and_true, dl_leLT0, dl_leLF0, dl_leRT0, dl_leRF0, dl_ltLT0, dl_ltLF0, dl_ltRT0, dl_ltRF0, dl_eqRT0, dl_eqRF0, dl_leLT1, dl_leLF1, dl_leRT1, dl_leRF1, dl_ltLT1, dl_ltLF1, dl_ltRT1, dl_ltRF1, dl_eqRT1, dl_eqRF1, dl_leLT2, dl_leLF2, dl_leRT2, dl_leRF2, dl_ltLT2, dl_ltLF2, dl_ltRT2, dl_ltRF2, dl_eqRT2, dl_eqRF2, dl_leLT3, dl_leLF3, dl_leRT3, dl_leRF3, dl_ltLT3, dl_ltLF3, dl_ltRT3, dl_ltRF3, dl_eqRT3, dl_eqRF3, dl_leLT8, dl_leLF8, dl_leRT8, dl_leRF8, dl_ltLT8, dl_ltLF8, dl_ltRT8, dl_ltRF8, dl_eqRT8, dl_eqRF8, dl_leLT9, dl_leLF9, dl_leRT9, dl_leRF9, dl_ltLT9, dl_ltLF9, dl_ltRT9, dl_ltRF9, dl_eqRT9, dl_eqRF9, dl_leLT16, dl_leLF16, dl_leRT16, dl_leRF16, dl_ltLT16, dl_ltLF16, dl_ltRT16, dl_ltRF16, dl_eqRT16, dl_eqRF16, dl_leLT64, dl_leLF64, dl_leRT64, dl_leRF64, dl_ltLT64, dl_ltLF64, dl_ltRT64, dl_ltRF64, dl_eqRT64, dl_eqRF64, dl_leLT65, dl_leLF65, dl_leRT65, dl_leRF65, dl_ltLT65, dl_ltLF65, dl_ltRT65, dl_ltRF65, dl_eqRT65, dl_eqRF65]
        exact H
  · rw [if_neg h] at H
    by_cases h1 : w < 1
    · rw [if_pos h1] at H
      simp (disch := omega) only [wpX_faultOf, nI_clamp, dl_Ar, dl_Au, dl_leT, dl_leF, dl_ltT, dl_ltF, dl_eqT, dl_eqF, nI_add, nI_1, dl_inT, dl_sub, dl_sub1, dl_subm1, forall_eq, true_implies, false_implies, not_true, not_false_iff, true_and, and_true, dl_leLT0, dl_leLF0, dl_leRT0, dl_leRF0, dl_ltLT0, dl_ltLF0, dl_ltRT0, dl_ltRF0, dl_eqRT0, dl_eqRF0, dl_leLT1, dl_leLF1, dl_leRT1, dl_leRF1, dl_ltLT1, dl_ltLF1, dl_ltRT1, dl_ltRF1, dl_eqRT1, dl_eqRF1, dl_leLT2, dl_leLF2, dl_leRT2, dl_leRF2, dl_ltLT2, dl_ltLF2, dl_ltRT2, dl_ltRF2, dl_eqRT2, dl_eqRF2, dl_leLT3, dl_leLF3, dl_leRT3, dl_leRF3, dl_ltLT3, dl_ltLF3, dl_ltRT3, dl_ltRF3, dl_eqRT3, dl_eqRF3, dl_leLT8, dl_leLF8, dl_leRT8, dl_leRF8, dl_ltLT8, dl_ltLF8, dl_ltRT8, dl_ltRF8, dl_eqRT8, dl_eqRF8, dl_leLT9, dl_leLF9, dl_leRT9, dl_leRF9, dl_ltLT9, dl_ltLF9, dl_ltRT9, dl_ltRF9, dl_eqRT9, dl_eqRF9, dl_leLT16, dl_leLF16, dl_leRT16, dl_leRF16, dl_ltLT16, dl_ltLF16, dl_ltRT16, dl_ltRF16, dl_eqRT16, dl_eqRF16, dl_leLT64, dl_leLF64, dl_leRT64, dl_leRF64, dl_ltLT64, dl_ltLF64, dl_ltRT64, dl_ltRF64, dl_eqRT64, dl_eqRF64, dl_leLT65, dl_leLF65, dl_leRT65, dl_leRF65, dl_ltLT65, dl_ltLF65, dl_ltRT65, dl_ltRF65, dl_eqRT65, dl_eqRF65]
      exact H
    · rw [if_neg h1] at H
      simp (disch := omega) only [wpX_faultOf, nI_clamp, dl_Ar, dl_Au, dl_leT, dl_leF, dl_ltT, dl_ltF, dl_eqT, dl_eqF, nI_add, nI_1, dl_inT, dl_sub, dl_sub1, dl_subm1, forall_eq, true_implies, false_implies, not_true, not_false_iff, true_and, and_true, dl_leLT0, dl_leLF0, dl_leRT0, dl_leRF0, dl_ltLT0, dl_ltLF0, dl_ltRT0, dl_ltRF0, dl_eqRT0, dl_eqRF0, dl_leLT1, dl_leLF1, dl_leRT1, dl_leRF1, dl_ltLT1, dl_ltLF1, dl_ltRT1, dl_ltRF1, dl_eqRT1, dl_eqRF1, dl_leLT2, dl_leLF2, dl_leRT2, dl_leRF2, dl_ltLT2, dl_ltLF2, dl_ltRT2, dl_ltRF2, dl_eqRT2, dl_eqRF2, dl_leLT3, dl_leLF3, dl_leRT3, dl_leRF3, dl_ltLT3, dl_ltLF3, dl_ltRT3, dl_ltRF3, dl_eqRT3, dl_eqRF3, dl_leLT8, dl_leLF8, dl_leRT8, dl_leRF8, dl_ltLT8, dl_ltLF8, dl_ltRT8, dl_ltRF8, dl_eqRT8, dl_eqRF8, dl_leLT9, dl_leLF9, dl_leRT9, dl_leRF9, dl_ltLT9, dl_ltLF9, dl_ltRT9, dl_ltRF9, dl_eqRT9, dl_eqRF9, dl_leLT16, dl_leLF16, dl_leRT16, dl_leRF16, dl_ltLT16, dl_ltLF16, dl_ltRT16, dl_ltRF16, dl_eqRT16, dl_eqRF16, dl_leLT64, dl_leLF64, dl_leRT64, dl_leRF64, dl_ltLT64, dl_ltLF64, dl_ltRT64, dl_ltRF64, dl_eqRT64, dl_eqRF64, dl_leLT65, dl_leLF65, dl_leRT65, dl_leRF65, dl_ltLT65, dl_ltLF65, dl_ltRT65, dl_ltRF65, dl_eqRT65, dl_eqRF65]
      exact H
theorem dl_xff78 (post : Int32 → SX → Prop) (B : dl_Bs C L ol T cnt K S D N) (hE : ∀ p, p < 65 → dl_si ed (p + 1) = nI (dl_wc cnt D N p)) {p : Nat} (hp : p ≤ C) (h0 : ∀ q, q < p → dl_flt T q (dl_wc cnt D N q) = 0) (h1 : p < C → dl_flt T p (dl_wc cnt D N p) ≠ 0)
    (H : post (nI (if p < C then p * 4 + dl_flt T p (dl_wc cnt D N p) else 0)) (nI C, nI L, nI ph, nI ol, nI T, nI cnt, nI ls, nI co, kp, nI dn, nI pl, bu, dl_A K, dl_A S, dl_A D, dl_A N, dl_A A, pool, dl_A bD, bf, af, cm, dl_A sq, dl_A po, dl_A ws, dl_A ss, ed, re, dl_A bd)) :
    ∀ f i, i ≤ p → C - i < f → wX_firstFault_78 post (nI C) (nI L) (nI ph) (nI ol) (nI T) (nI cnt) (nI ls) (nI co) kp (nI dn) (nI pl) bu (dl_A K) (dl_A S) (dl_A D) (dl_A N) (dl_A A) pool (dl_A bD) bf af cm (dl_A sq) (dl_A po) (dl_A ws) (dl_A ss) ed re (dl_A bd) f (dl_si ed i) (nI i) := by
  intro f
  obtain ⟨b1, b2, b3, b4, b5, b6, b7, b8⟩ := B
  induction f with
  | zero => intro i _ h; omega
  | succ f ih =>
    intro i hi hf
    rcases Nat.lt_or_ge i C with z | z
    · have e : dl_si ed i + ed i = nI (dl_wc cnt D N i) := hE i (by omega)
      have w := dl_wc_le cnt D N i
      simp (disch := omega) only [wX_firstFault_78, nI_clamp, dl_Ar, dl_Au, dl_leT, dl_leF, dl_ltT, dl_ltF, dl_eqT, dl_eqF, nI_add, nI_1, dl_inT, dl_sub, dl_sub1, dl_subm1, forall_eq, true_implies, false_implies, not_true, not_false_iff, true_and, and_true, dl_leLT0, dl_leLF0, dl_leRT0, dl_leRF0, dl_ltLT0, dl_ltLF0, dl_ltRT0, dl_ltRF0, dl_eqRT0, dl_eqRF0, dl_leLT1, dl_leLF1, dl_leRT1, dl_leRF1, dl_ltLT1, dl_ltLF1, dl_ltRT1, dl_ltRF1, dl_eqRT1, dl_eqRF1, dl_leLT2, dl_leLF2, dl_leRT2, dl_leRF2, dl_ltLT2, dl_ltLF2, dl_ltRT2, dl_ltRF2, dl_eqRT2, dl_eqRF2, dl_leLT3, dl_leLF3, dl_leRT3, dl_leRF3, dl_ltLT3, dl_ltLF3, dl_ltRT3, dl_ltRF3, dl_eqRT3, dl_eqRF3, dl_leLT8, dl_leLF8, dl_leRT8, dl_leRF8, dl_ltLT8, dl_ltLF8, dl_ltRT8, dl_ltRF8, dl_eqRT8, dl_eqRF8, dl_leLT9, dl_leLF9, dl_leRT9, dl_leRF9, dl_ltLT9, dl_ltLF9, dl_ltRT9, dl_ltRF9, dl_eqRT9, dl_eqRF9, dl_leLT16, dl_leLF16, dl_leRT16, dl_leRF16, dl_ltLT16, dl_ltLF16, dl_ltRT16, dl_ltRF16, dl_eqRT16, dl_eqRF16, dl_leLT64, dl_leLF64, dl_leRT64, dl_leRF64, dl_ltLT64, dl_ltLF64, dl_ltRT64, dl_ltRF64, dl_eqRT64, dl_eqRF64, dl_leLT65, dl_leLF65, dl_leRT65, dl_leRF65, dl_ltLT65, dl_ltLF65, dl_ltRT65, dl_ltRF65, dl_eqRT65, dl_eqRF65, e]
      refine dl_xfo _ (by omega) (by omega) (by omega) ?_
      have fl := dl_flt_lt T i (dl_wc cnt D N i)
      rcases Nat.lt_or_ge i p with q | q
      · rw [h0 i q]
        refine br_t rfl ?_
        rw [← e]
        exact ih (i + 1) q (by omega)
      · have e2 : i = p := by omega
        subst e2
        refine br_f (nI_ne0 (Nat.pos_of_ne_zero (h1 z)) (by omega)) ?_
        rw [if_pos z] at H
        rw [dl_mul4, nI_add]
        exact H
    · have e2 : i = p := by omega
      subst e2
      simp (disch := omega) only [wX_firstFault_78, nI_clamp, dl_Ar, dl_Au, dl_leT, dl_leF, dl_ltT, dl_ltF, dl_eqT, dl_eqF, nI_add, nI_1, dl_inT, dl_sub, dl_sub1, dl_subm1, forall_eq, true_implies, false_implies, not_true, not_false_iff, true_and, and_true, dl_leLT0, dl_leLF0, dl_leRT0, dl_leRF0, dl_ltLT0, dl_ltLF0, dl_ltRT0, dl_ltRF0, dl_eqRT0, dl_eqRF0, dl_leLT1, dl_leLF1, dl_leRT1, dl_leRF1, dl_ltLT1, dl_ltLF1, dl_ltRT1, dl_ltRF1, dl_eqRT1, dl_eqRF1, dl_leLT2, dl_leLF2, dl_leRT2, dl_leRF2, dl_ltLT2, dl_ltLF2, dl_ltRT2, dl_ltRF2, dl_eqRT2, dl_eqRF2, dl_leLT3, dl_leLF3, dl_leRT3, dl_leRF3, dl_ltLT3, dl_ltLF3, dl_ltRT3, dl_ltRF3, dl_eqRT3, dl_eqRF3, dl_leLT8, dl_leLF8, dl_leRT8, dl_leRF8, dl_ltLT8, dl_ltLF8, dl_ltRT8, dl_ltRF8, dl_eqRT8, dl_eqRF8, dl_leLT9, dl_leLF9, dl_leRT9, dl_leRF9, dl_ltLT9, dl_ltLF9, dl_ltRT9, dl_ltRF9, dl_eqRT9, dl_eqRF9, dl_leLT16, dl_leLF16, dl_leRT16, dl_leRF16, dl_ltLT16, dl_ltLF16, dl_ltRT16, dl_ltRF16, dl_eqRT16, dl_eqRF16, dl_leLT64, dl_leLF64, dl_leRT64, dl_leRF64, dl_ltLT64, dl_ltLF64, dl_ltRT64, dl_ltRF64, dl_eqRT64, dl_eqRF64, dl_leLT65, dl_leLF65, dl_leRT65, dl_leRF65, dl_ltLT65, dl_ltLF65, dl_ltRT65, dl_ltRF65, dl_eqRT65, dl_eqRF65]
      rw [if_neg (by omega)] at H
      exact H
theorem dl_xff23 (post : Int32 → SX → Prop) (B : dl_Bs C L ol T cnt K S D N) (H : ∀ E, (∀ p, p < 65 → dl_si E (p + 1) = nI (dl_wc cnt D N p)) → ∃ n, wX_firstFault_78 post (nI C) (nI L) (nI ph) (nI ol) (nI T) (nI cnt) (nI ls) (nI co) kp (nI dn) (nI pl) bu (dl_A K) (dl_A S) (dl_A D) (dl_A N) (dl_A A) pool (dl_A bD) bf af cm (dl_A sq) (dl_A po) (dl_A ws) (dl_A ss) E re (dl_A bd) n 0 0) :
    ∀ f i E, i ≤ cnt → cnt - i < f → (∀ p, p < 65 → dl_si E (p + 1) = nI (dl_wc i D N p)) → wX_firstFault_23 post (nI C) (nI L) (nI ph) (nI ol) (nI T) (nI cnt) (nI ls) (nI co) kp (nI dn) (nI pl) f (nI i) bu (dl_A K) (dl_A S) (dl_A D) (dl_A N) (dl_A A) pool (dl_A bD) bf af cm (dl_A sq) (dl_A po) (dl_A ws) (dl_A ss) E re (dl_A bd) := by
  intro f
  obtain ⟨b1, b2, b3, b4, b5, b6, b7, b8⟩ := B
  induction f with
  | zero => intro i E _ h; omega
  | succ f ih =>
    intro i E h1 h2 hE
    rcases Nat.lt_or_ge i cnt with z | z
    · obtain ⟨c1, c2, -⟩ := b8 i z
      simp (disch := omega) only [wX_firstFault_23, nI_clamp, dl_Ar, dl_Au, dl_leT, dl_leF, dl_ltT, dl_ltF, dl_eqT, dl_eqF, nI_add, nI_1, dl_inT, dl_sub, dl_sub1, dl_subm1, forall_eq, true_implies, false_implies, not_true, not_false_iff, true_and, and_true, dl_leLT0, dl_leLF0, dl_leRT0, dl_leRF0, dl_ltLT0, dl_ltLF0, dl_ltRT0, dl_ltRF0, dl_eqRT0, dl_eqRF0, dl_leLT1, dl_leLF1, dl_leRT1, dl_leRF1, dl_ltLT1, dl_ltLF1, dl_ltRT1, dl_ltRF1, dl_eqRT1, dl_eqRF1, dl_leLT2, dl_leLF2, dl_leRT2, dl_leRF2, dl_ltLT2, dl_ltLF2, dl_ltRT2, dl_ltRF2, dl_eqRT2, dl_eqRF2, dl_leLT3, dl_leLF3, dl_leRT3, dl_leRF3, dl_ltLT3, dl_ltLF3, dl_ltRT3, dl_ltRF3, dl_eqRT3, dl_eqRF3, dl_leLT8, dl_leLF8, dl_leRT8, dl_leRF8, dl_ltLT8, dl_ltLF8, dl_ltRT8, dl_ltRF8, dl_eqRT8, dl_eqRF8, dl_leLT9, dl_leLF9, dl_leRT9, dl_leRF9, dl_ltLT9, dl_ltLF9, dl_ltRT9, dl_ltRF9, dl_eqRT9, dl_eqRF9, dl_leLT16, dl_leLF16, dl_leRT16, dl_leRF16, dl_ltLT16, dl_ltLF16, dl_ltRT16, dl_ltRF16, dl_eqRT16, dl_eqRF16, dl_leLT64, dl_leLF64, dl_leRT64, dl_leRF64, dl_ltLT64, dl_ltLF64, dl_ltRT64, dl_ltRF64, dl_eqRT64, dl_eqRF64, dl_leLT65, dl_leLF65, dl_leRT65, dl_leRF65, dl_ltLT65, dl_ltLF65, dl_ltRT65, dl_ltRF65, dl_eqRT65, dl_eqRF65]
      exact ih (i + 1) _ (by omega) (by omega) (dl_si_s hE c1)
    · have e : i = cnt := by omega
      subst e
      simp (disch := omega) only [wX_firstFault_23, nI_clamp, dl_Ar, dl_Au, dl_leT, dl_leF, dl_ltT, dl_ltF, dl_eqT, dl_eqF, nI_add, nI_1, dl_inT, dl_sub, dl_sub1, dl_subm1, forall_eq, true_implies, false_implies, not_true, not_false_iff, true_and, and_true, dl_leLT0, dl_leLF0, dl_leRT0, dl_leRF0, dl_ltLT0, dl_ltLF0, dl_ltRT0, dl_ltRF0, dl_eqRT0, dl_eqRF0, dl_leLT1, dl_leLF1, dl_leRT1, dl_leRF1, dl_ltLT1, dl_ltLF1, dl_ltRT1, dl_ltRF1, dl_eqRT1, dl_eqRF1, dl_leLT2, dl_leLF2, dl_leRT2, dl_leRF2, dl_ltLT2, dl_ltLF2, dl_ltRT2, dl_ltRF2, dl_eqRT2, dl_eqRF2, dl_leLT3, dl_leLF3, dl_leRT3, dl_leRF3, dl_ltLT3, dl_ltLF3, dl_ltRT3, dl_ltRF3, dl_eqRT3, dl_eqRF3, dl_leLT8, dl_leLF8, dl_leRT8, dl_leRF8, dl_ltLT8, dl_ltLF8, dl_ltRT8, dl_ltRF8, dl_eqRT8, dl_eqRF8, dl_leLT9, dl_leLF9, dl_leRT9, dl_leRF9, dl_ltLT9, dl_ltLF9, dl_ltRT9, dl_ltRF9, dl_eqRT9, dl_eqRF9, dl_leLT16, dl_leLF16, dl_leRT16, dl_leRF16, dl_ltLT16, dl_ltLF16, dl_ltRT16, dl_ltRF16, dl_eqRT16, dl_eqRF16, dl_leLT64, dl_leLF64, dl_leRT64, dl_leRF64, dl_ltLT64, dl_ltLF64, dl_ltRT64, dl_ltRF64, dl_eqRT64, dl_eqRF64, dl_leLT65, dl_leLF65, dl_leRT65, dl_leRF65, dl_ltLT65, dl_ltLF65, dl_ltRT65, dl_ltRF65, dl_eqRT65, dl_eqRF65]
      exact H E hE
theorem dl_xff2 (post : Int32 → SX → Prop) (H : ∀ E, (∀ p, p < 65 → E p = 0) → ∃ n, wX_firstFault_23 post (nI C) (nI L) (nI ph) (nI ol) (nI T) (nI cnt) (nI ls) (nI co) kp (nI dn) (nI pl) n 0 bu (dl_A K) (dl_A S) (dl_A D) (dl_A N) (dl_A A) pool (dl_A bD) bf af cm (dl_A sq) (dl_A po) (dl_A ws) (dl_A ss) E re (dl_A bd)) :
    ∀ f i E, i ≤ 65 → 65 - i < f → (∀ p, p < i → E p = 0) → wX_firstFault_2 post (nI C) (nI L) (nI ph) (nI ol) (nI T) (nI cnt) (nI ls) (nI co) kp (nI dn) (nI pl) f (nI i) bu (dl_A K) (dl_A S) (dl_A D) (dl_A N) (dl_A A) pool (dl_A bD) bf af cm (dl_A sq) (dl_A po) (dl_A ws) (dl_A ss) E re (dl_A bd) := by
  intro f
  induction f with
  | zero => intro i E _ h; omega
  | succ f ih =>
    intro i E h1 h2 hE
    rcases Nat.lt_or_ge i 65 with z | z
    · simp (disch := omega) only [wX_firstFault_2, nI_clamp, dl_Ar, dl_Au, dl_leT, dl_leF, dl_ltT, dl_ltF, dl_eqT, dl_eqF, nI_add, nI_1, dl_inT, dl_sub, dl_sub1, dl_subm1, forall_eq, true_implies, false_implies, not_true, not_false_iff, true_and, and_true, dl_leLT0, dl_leLF0, dl_leRT0, dl_leRF0, dl_ltLT0, dl_ltLF0, dl_ltRT0, dl_ltRF0, dl_eqRT0, dl_eqRF0, dl_leLT1, dl_leLF1, dl_leRT1, dl_leRF1, dl_ltLT1, dl_ltLF1, dl_ltRT1, dl_ltRF1, dl_eqRT1, dl_eqRF1, dl_leLT2, dl_leLF2, dl_leRT2, dl_leRF2, dl_ltLT2, dl_ltLF2, dl_ltRT2, dl_ltRF2, dl_eqRT2, dl_eqRF2, dl_leLT3, dl_leLF3, dl_leRT3, dl_leRF3, dl_ltLT3, dl_ltLF3, dl_ltRT3, dl_ltRF3, dl_eqRT3, dl_eqRF3, dl_leLT8, dl_leLF8, dl_leRT8, dl_leRF8, dl_ltLT8, dl_ltLF8, dl_ltRT8, dl_ltRF8, dl_eqRT8, dl_eqRF8, dl_leLT9, dl_leLF9, dl_leRT9, dl_leRF9, dl_ltLT9, dl_ltLF9, dl_ltRT9, dl_ltRF9, dl_eqRT9, dl_eqRF9, dl_leLT16, dl_leLF16, dl_leRT16, dl_leRF16, dl_ltLT16, dl_ltLF16, dl_ltRT16, dl_ltRF16, dl_eqRT16, dl_eqRF16, dl_leLT64, dl_leLF64, dl_leRT64, dl_leRF64, dl_ltLT64, dl_ltLF64, dl_ltRT64, dl_ltRF64, dl_eqRT64, dl_eqRF64, dl_leLT65, dl_leLF65, dl_leRT65, dl_leRF65, dl_ltLT65, dl_ltLF65, dl_ltRT65, dl_ltRF65, dl_eqRT65, dl_eqRF65]
      refine ih (i + 1) _ (by omega) (by omega) (fun p hp => ?_)
      by_cases e : p = i
      · rw [e, pk_us]
      · rw [pk_un e]; exact hE p (by omega)
    · simp (disch := omega) only [wX_firstFault_2, nI_clamp, dl_Ar, dl_Au, dl_leT, dl_leF, dl_ltT, dl_ltF, dl_eqT, dl_eqF, nI_add, nI_1, dl_inT, dl_sub, dl_sub1, dl_subm1, forall_eq, true_implies, false_implies, not_true, not_false_iff, true_and, and_true, dl_leLT0, dl_leLF0, dl_leRT0, dl_leRF0, dl_ltLT0, dl_ltLF0, dl_ltRT0, dl_ltRF0, dl_eqRT0, dl_eqRF0, dl_leLT1, dl_leLF1, dl_leRT1, dl_leRF1, dl_ltLT1, dl_ltLF1, dl_ltRT1, dl_ltRF1, dl_eqRT1, dl_eqRF1, dl_leLT2, dl_leLF2, dl_leRT2, dl_leRF2, dl_ltLT2, dl_ltLF2, dl_ltRT2, dl_ltRF2, dl_eqRT2, dl_eqRF2, dl_leLT3, dl_leLF3, dl_leRT3, dl_leRF3, dl_ltLT3, dl_ltLF3, dl_ltRT3, dl_ltRF3, dl_eqRT3, dl_eqRF3, dl_leLT8, dl_leLF8, dl_leRT8, dl_leRF8, dl_ltLT8, dl_ltLF8, dl_ltRT8, dl_ltRF8, dl_eqRT8, dl_eqRF8, dl_leLT9, dl_leLF9, dl_leRT9, dl_leRF9, dl_ltLT9, dl_ltLF9, dl_ltRT9, dl_ltRF9, dl_eqRT9, dl_eqRF9, dl_leLT16, dl_leLF16, dl_leRT16, dl_leRF16, dl_ltLT16, dl_ltLF16, dl_ltRT16, dl_ltRF16, dl_eqRT16, dl_eqRF16, dl_leLT64, dl_leLF64, dl_leRT64, dl_leRF64, dl_ltLT64, dl_ltLF64, dl_ltRT64, dl_ltRF64, dl_eqRT64, dl_eqRF64, dl_leLT65, dl_leLF65, dl_leRT65, dl_leRF65, dl_ltLT65, dl_ltLF65, dl_ltRT65, dl_ltRF65, dl_eqRT65, dl_eqRF65]
      exact H E (fun p hp => hE p (by omega))
theorem dl_xff (post : Int32 → SX → Prop) (B : dl_Bs C L ol T cnt K S D N) {p : Nat} (hp : p ≤ C) (h0 : ∀ q, q < p → dl_flt T q (dl_wc cnt D N q) = 0) (h1 : p < C → dl_flt T p (dl_wc cnt D N p) ≠ 0)
    (H : ∀ E, post (nI (if p < C then p * 4 + dl_flt T p (dl_wc cnt D N p) else 0)) (nI C, nI L, nI ph, nI ol, nI T, nI cnt, nI ls, nI co, kp, nI dn, nI pl, bu, dl_A K, dl_A S, dl_A D, dl_A N, dl_A A, pool, dl_A bD, bf, af, cm, dl_A sq, dl_A po, dl_A ws, dl_A ss, E, re, dl_A bd)) : wpX_firstFault post (nI C, nI L, nI ph, nI ol, nI T, nI cnt, nI ls, nI co, kp, nI dn, nI pl, bu, dl_A K, dl_A S, dl_A D, dl_A N, dl_A A, pool, dl_A bD, bf, af, cm, dl_A sq, dl_A po, dl_A ws, dl_A ss, ed, re, dl_A bd) := by
  refine ⟨66, dl_xff2 post (fun E hE => ⟨cnt + 1, dl_xff23 post B (fun E' hE' => ⟨C + 1, dl_xff78 post B hE' hp h0 h1 (H E') _ 0 (by omega) (by omega)⟩) _ 0 E (by omega) (by omega) (fun q hq => ?_)⟩) _ 0 _ (by omega) (by omega) (fun q hq => by omega)⟩
  exact dl_si_0 _ (fun r hr => hE r (by omega))
theorem dl_xfaultAt (post : Int32 → SX → Prop) (B : dl_Bs C L ol T cnt K S D N) {p : Nat} (hp : p ≤ C) (h0 : ∀ q, q < p → dl_flt T q (dl_wc cnt D N q) = 0) (h1 : p < C → dl_flt T p (dl_wc cnt D N p) ≠ 0)
    (H : ∀ E, post (if p < C then nI p else -1) (nI C, nI L, nI ph, nI ol, nI T, nI cnt, nI ls, nI co, kp, nI dn, nI pl, bu, dl_A K, dl_A S, dl_A D, dl_A N, dl_A A, pool, dl_A bD, bf, af, cm, dl_A sq, dl_A po, dl_A ws, dl_A ss, E, re, dl_A bd)) : wpX_faultAt post (nI C, nI L, nI ph, nI ol, nI T, nI cnt, nI ls, nI co, kp, nI dn, nI pl, bu, dl_A K, dl_A S, dl_A D, dl_A N, dl_A A, pool, dl_A bD, bf, af, cm, dl_A sq, dl_A po, dl_A ws, dl_A ss, ed, re, dl_A bd) := by
  have hC := B.2.1
  unfold wpX_faultAt
  refine dl_xff _ B hp h0 h1 (fun E => ?_)
  have fl := dl_flt_lt T p (dl_wc cnt D N p)
  by_cases z : p < C
  · have := h1 z
    rw [if_pos z]
    refine br_f (nI_ne0 (by omega) (by omega)) ?_
    rw [pk_shrN (by omega) _ 2 (by decide), show (p * 4 + dl_flt T p (dl_wc cnt D N p)) / 2 ^ 2 = p by omega]
    have h := H E
    rw [if_pos z] at h
    exact h
  · rw [if_neg z]
    refine br_t rfl ?_
    have h := H E
    rw [if_neg z] at h
    exact h
theorem dl_xfaultKind (post : Int32 → SX → Prop) (B : dl_Bs C L ol T cnt K S D N) {p : Nat} (hp : p ≤ C) (h0 : ∀ q, q < p → dl_flt T q (dl_wc cnt D N q) = 0) (h1 : p < C → dl_flt T p (dl_wc cnt D N p) ≠ 0)
    (H : ∀ E, post (if p < C then nI (dl_flt T p (dl_wc cnt D N p)) else 0) (nI C, nI L, nI ph, nI ol, nI T, nI cnt, nI ls, nI co, kp, nI dn, nI pl, bu, dl_A K, dl_A S, dl_A D, dl_A N, dl_A A, pool, dl_A bD, bf, af, cm, dl_A sq, dl_A po, dl_A ws, dl_A ss, E, re, dl_A bd)) : wpX_faultKind post (nI C, nI L, nI ph, nI ol, nI T, nI cnt, nI ls, nI co, kp, nI dn, nI pl, bu, dl_A K, dl_A S, dl_A D, dl_A N, dl_A A, pool, dl_A bD, bf, af, cm, dl_A sq, dl_A po, dl_A ws, dl_A ss, ed, re, dl_A bd) := by
  have hC := B.2.1
  unfold wpX_faultKind
  refine dl_xff _ B hp h0 h1 (fun E => ?_)
  have fl := dl_flt_lt T p (dl_wc cnt D N p)
  have h := H E
  by_cases z : p < C
  · rw [if_pos z] at h ⊢
    dsimp only
    rw [pk_andN (by omega) 2 (by decide), show (p * 4 + dl_flt T p (dl_wc cnt D N p)) % 2 ^ 2 = dl_flt T p (dl_wc cnt D N p) by omega]
    exact h
  · rw [if_neg z] at h ⊢
    exact h
end
end
section
section
variable {C L ph ol T cnt ls co dn pl dy : Nat} {kp : Int32} {K S D N A bD sq po ws ss bd F P : Nat → Nat} {bu pool bf af cm ed re old nxt dat mk : Nat → Int32}
theorem dl_yw (post : Int32 → Prop) {c p : Nat} (hc : c < 16) (hp : p < 2147483648) (hb : D c + N c < 2147483648) (H1 : D c ≤ p → p < D c + N c → post 1) (H0 : ¬ (D c ≤ p ∧ p < D c + N c) → post 0) : wpY_writes post (nI C, nI L, nI ph, nI ol, nI T, nI cnt, nI dy, old, nxt, dl_A K, dl_A S, dl_A D, dl_A N, dat, dl_A F, dl_A P, mk) (nI c) (nI p) := by
  by_cases h1 : p < D c
  · simp (disch := omega) only [wpY_writes, nI_clamp, dl_Ar, dl_Au, dl_leT, dl_leF, dl_ltT, dl_ltF, dl_eqT, dl_eqF, nI_add, nI_1, dl_inT, dl_sub, dl_sub1, dl_subm1, forall_eq, true_implies, false_implies, not_true, not_false_iff, true_and, and_true, dl_leLT0, dl_leLF0, dl_leRT0, dl_leRF0, dl_ltLT0, dl_ltLF0, dl_ltRT0, dl_ltRF0, dl_eqRT0, dl_eqRF0, dl_leLT1, dl_leLF1, dl_leRT1, dl_leRF1, dl_ltLT1, dl_ltLF1, dl_ltRT1, dl_ltRF1, dl_eqRT1, dl_eqRF1, dl_leLT2, dl_leLF2, dl_leRT2, dl_leRF2, dl_ltLT2, dl_ltLF2, dl_ltRT2, dl_ltRF2, dl_eqRT2, dl_eqRF2, dl_leLT3, dl_leLF3, dl_leRT3, dl_leRF3, dl_ltLT3, dl_ltLF3, dl_ltRT3, dl_ltRF3, dl_eqRT3, dl_eqRF3, dl_leLT8, dl_leLF8, dl_leRT8, dl_leRF8, dl_ltLT8, dl_ltLF8, dl_ltRT8, dl_ltRF8, dl_eqRT8, dl_eqRF8, dl_leLT9, dl_leLF9, dl_leRT9, dl_leRF9, dl_ltLT9, dl_ltLF9, dl_ltRT9, dl_ltRF9, dl_eqRT9, dl_eqRF9, dl_leLT16, dl_leLF16, dl_leRT16, dl_leRF16, dl_ltLT16, dl_ltLF16, dl_ltRT16, dl_ltRF16, dl_eqRT16, dl_eqRF16, dl_leLT64, dl_leLF64, dl_leRT64, dl_leRF64, dl_ltLT64, dl_ltLF64, dl_ltRT64, dl_ltRF64, dl_eqRT64, dl_eqRF64, dl_leLT65, dl_leLF65, dl_leRT65, dl_leRF65, dl_ltLT65, dl_ltLF65, dl_ltRT65, dl_ltRF65, dl_eqRT65, dl_eqRF65]
    exact H0 (by omega)
  · by_cases h2 : p < D c + N c
    · simp (disch := omega) only [wpY_writes, nI_clamp, dl_Ar, dl_Au, dl_leT, dl_leF, dl_ltT, dl_ltF, dl_eqT, dl_eqF, nI_add, nI_1, dl_inT, dl_sub, dl_sub1, dl_subm1, forall_eq, true_implies, false_implies, not_true, not_false_iff, true_and, and_true, dl_leLT0, dl_leLF0, dl_leRT0, dl_leRF0, dl_ltLT0, dl_ltLF0, dl_ltRT0, dl_ltRF0, dl_eqRT0, dl_eqRF0, dl_leLT1, dl_leLF1, dl_leRT1, dl_leRF1, dl_ltLT1, dl_ltLF1, dl_ltRT1, dl_ltRF1, dl_eqRT1, dl_eqRF1, dl_leLT2, dl_leLF2, dl_leRT2, dl_leRF2, dl_ltLT2, dl_ltLF2, dl_ltRT2, dl_ltRF2, dl_eqRT2, dl_eqRF2, dl_leLT3, dl_leLF3, dl_leRT3, dl_leRF3, dl_ltLT3, dl_ltLF3, dl_ltRT3, dl_ltRF3, dl_eqRT3, dl_eqRF3, dl_leLT8, dl_leLF8, dl_leRT8, dl_leRF8, dl_ltLT8, dl_ltLF8, dl_ltRT8, dl_ltRF8, dl_eqRT8, dl_eqRF8, dl_leLT9, dl_leLF9, dl_leRT9, dl_leRF9, dl_ltLT9, dl_ltLF9, dl_ltRT9, dl_ltRF9, dl_eqRT9, dl_eqRF9, dl_leLT16, dl_leLF16, dl_leRT16, dl_leRF16, dl_ltLT16, dl_ltLF16, dl_ltRT16, dl_ltRF16, dl_eqRT16, dl_eqRF16, dl_leLT64, dl_leLF64, dl_leRT64, dl_leRF64, dl_ltLT64, dl_ltLF64, dl_ltRT64, dl_ltRF64, dl_eqRT64, dl_eqRF64, dl_leLT65, dl_leLF65, dl_leRT65, dl_leRF65, dl_ltLT65, dl_ltLF65, dl_ltRT65, dl_ltRF65, dl_eqRT65, dl_eqRF65]
      exact H1 (by omega) h2
    · simp (disch := omega) only [wpY_writes, nI_clamp, dl_Ar, dl_Au, dl_leT, dl_leF, dl_ltT, dl_ltF, dl_eqT, dl_eqF, nI_add, nI_1, dl_inT, dl_sub, dl_sub1, dl_subm1, forall_eq, true_implies, false_implies, not_true, not_false_iff, true_and, and_true, dl_leLT0, dl_leLF0, dl_leRT0, dl_leRF0, dl_ltLT0, dl_ltLF0, dl_ltRT0, dl_ltRF0, dl_eqRT0, dl_eqRF0, dl_leLT1, dl_leLF1, dl_leRT1, dl_leRF1, dl_ltLT1, dl_ltLF1, dl_ltRT1, dl_ltRF1, dl_eqRT1, dl_eqRF1, dl_leLT2, dl_leLF2, dl_leRT2, dl_leRF2, dl_ltLT2, dl_ltLF2, dl_ltRT2, dl_ltRF2, dl_eqRT2, dl_eqRF2, dl_leLT3, dl_leLF3, dl_leRT3, dl_leRF3, dl_ltLT3, dl_ltLF3, dl_ltRT3, dl_ltRF3, dl_eqRT3, dl_eqRF3, dl_leLT8, dl_leLF8, dl_leRT8, dl_leRF8, dl_ltLT8, dl_ltLF8, dl_ltRT8, dl_ltRF8, dl_eqRT8, dl_eqRF8, dl_leLT9, dl_leLF9, dl_leRT9, dl_leRF9, dl_ltLT9, dl_ltLF9, dl_ltRT9, dl_ltRF9, dl_eqRT9, dl_eqRF9, dl_leLT16, dl_leLF16, dl_leRT16, dl_leRF16, dl_ltLT16, dl_ltLF16, dl_ltRT16, dl_ltRF16, dl_eqRT16, dl_eqRF16, dl_leLT64, dl_leLF64, dl_leRT64, dl_leRF64, dl_ltLT64, dl_ltLF64, dl_ltRT64, dl_ltRF64, dl_eqRT64, dl_eqRF64, dl_leLT65, dl_leLF65, dl_leRT65, dl_leRF65, dl_ltLT65, dl_ltLF65, dl_ltRT65, dl_ltRF65, dl_eqRT65, dl_eqRF65]
      exact H0 (by omega)
theorem dl_yfo4 (post : Int32 → Prop) (B : dl_Bs C L ol T cnt K S D N) {p : Nat} (hp : p < 2147483648) (H : post (nI (dl_flt T p (dl_wc cnt D N p)))) :
    ∀ f i, i ≤ cnt → cnt - i < f → wY_faultOf_4 post (nI p) (nI C) (nI L) (nI ph) (nI ol) (nI T) (nI cnt) (nI dy) old nxt (dl_A K) (dl_A S) (dl_A D) (dl_A N) dat (dl_A F) (dl_A P) mk f (nI (dl_wc i D N p)) (nI i) := by
  intro f
  obtain ⟨b1, b2, b3, b4, b5, b6, b7, b8⟩ := B
  induction f with
  | zero => intro i _ h; omega
  | succ f ih =>
    intro i h1 h2
    have w := dl_wc_le i D N p
    rcases Nat.lt_or_ge i cnt with z | z
    · obtain ⟨c1, c2, -⟩ := b8 i z
      have e : dl_wc (i + 1) D N p = dl_wc i D N p + if D i ≤ p ∧ p < D i + N i then 1 else 0 := rfl
      have IH := ih (i + 1) (by omega) (by omega)
      rw [e] at IH
      simp (disch := omega) only [wY_faultOf_4, nI_clamp, dl_Ar, dl_Au, dl_leT, dl_leF, dl_ltT, dl_ltF, dl_eqT, dl_eqF, nI_add, nI_1, dl_inT, dl_sub, dl_sub1, dl_subm1, forall_eq, true_implies, false_implies, not_true, not_false_iff, true_and, and_true, dl_leLT0, dl_leLF0, dl_leRT0, dl_leRF0, dl_ltLT0, dl_ltLF0, dl_ltRT0, dl_ltRF0, dl_eqRT0, dl_eqRF0, dl_leLT1, dl_leLF1, dl_leRT1, dl_leRF1, dl_ltLT1, dl_ltLF1, dl_ltRT1, dl_ltRF1, dl_eqRT1, dl_eqRF1, dl_leLT2, dl_leLF2, dl_leRT2, dl_leRF2, dl_ltLT2, dl_ltLF2, dl_ltRT2, dl_ltRF2, dl_eqRT2, dl_eqRF2, dl_leLT3, dl_leLF3, dl_leRT3, dl_leRF3, dl_ltLT3, dl_ltLF3, dl_ltRT3, dl_ltRF3, dl_eqRT3, dl_eqRF3, dl_leLT8, dl_leLF8, dl_leRT8, dl_leRF8, dl_ltLT8, dl_ltLF8, dl_ltRT8, dl_ltRF8, dl_eqRT8, dl_eqRF8, dl_leLT9, dl_leLF9, dl_leRT9, dl_leRF9, dl_ltLT9, dl_ltLF9, dl_ltRT9, dl_ltRF9, dl_eqRT9, dl_eqRF9, dl_leLT16, dl_leLF16, dl_leRT16, dl_leRF16, dl_ltLT16, dl_ltLF16, dl_ltRT16, dl_ltRF16, dl_eqRT16, dl_eqRF16, dl_leLT64, dl_leLF64, dl_leRT64, dl_leRF64, dl_ltLT64, dl_ltLF64, dl_ltRT64, dl_ltRF64, dl_eqRT64, dl_eqRF64, dl_leLT65, dl_leLF65, dl_leRT65, dl_leRF65, dl_ltLT65, dl_ltLF65, dl_ltRT65, dl_ltRF65, dl_eqRT65, dl_eqRF65]
      refine dl_yw _ (by omega) hp (by omega) (fun q1 q2 => br_f (by decide) ?_) (fun q => br_t rfl ?_)
      · rw [if_pos ⟨q1, q2⟩] at IH
        exact IH
      · rw [if_neg q] at IH
        exact IH
    · have e : i = cnt := by omega
      subst e
      unfold dl_flt at H
      by_cases h : p < T
      · rw [if_pos h] at H
        by_cases h0 : dl_wc i D N p = 0
        · rw [if_pos h0] at H
          simp (disch := omega) only [wY_faultOf_4, nI_clamp, dl_Ar, dl_Au, dl_leT, dl_leF, dl_ltT, dl_ltF, dl_eqT, dl_eqF, nI_add, nI_1, dl_inT, dl_sub, dl_sub1, dl_subm1, forall_eq, true_implies, false_implies, not_true, not_false_iff, true_and, and_true, dl_leLT0, dl_leLF0, dl_leRT0, dl_leRF0, dl_ltLT0, dl_ltLF0, dl_ltRT0, dl_ltRF0, dl_eqRT0, dl_eqRF0, dl_leLT1, dl_leLF1, dl_leRT1, dl_leRF1, dl_ltLT1, dl_ltLF1, dl_ltRT1, dl_ltRF1, dl_eqRT1, dl_eqRF1, dl_leLT2, dl_leLF2, dl_leRT2, dl_leRF2, dl_ltLT2, dl_ltLF2, dl_ltRT2, dl_ltRF2, dl_eqRT2, dl_eqRF2, dl_leLT3, dl_leLF3, dl_leRT3, dl_leRF3, dl_ltLT3, dl_ltLF3, dl_ltRT3, dl_ltRF3, dl_eqRT3, dl_eqRF3, dl_leLT8, dl_leLF8, dl_leRT8, dl_leRF8, dl_ltLT8, dl_ltLF8, dl_ltRT8, dl_ltRF8, dl_eqRT8, dl_eqRF8, dl_leLT9, dl_leLF9, dl_leRT9, dl_leRF9, dl_ltLT9, dl_ltLF9, dl_ltRT9, dl_ltRF9, dl_eqRT9, dl_eqRF9, dl_leLT16, dl_leLF16, dl_leRT16, dl_leRF16, dl_ltLT16, dl_ltLF16, dl_ltRT16, dl_ltRF16, dl_eqRT16, dl_eqRF16, dl_leLT64, dl_leLF64, dl_leRT64, dl_leRF64, dl_ltLT64, dl_ltLF64, dl_ltRT64, dl_ltRF64, dl_eqRT64, dl_eqRF64, dl_leLT65, dl_leLF65, dl_leRT65, dl_leRF65, dl_ltLT65, dl_ltLF65, dl_ltRT65, dl_ltRF65, dl_eqRT65, dl_eqRF65]
          exact H
        · rw [if_neg h0] at H
          by_cases h2 : dl_wc i D N p < 2
          · rw [if_pos h2] at H
            simp (disch := omega) only [wY_faultOf_4, nI_clamp, dl_Ar, dl_Au, dl_leT, dl_leF, dl_ltT, dl_ltF, dl_eqT, dl_eqF, nI_add, nI_1, dl_inT, dl_sub, dl_sub1, dl_subm1, forall_eq, true_implies, false_implies, not_true, not_false_iff, true_and, and_true, dl_leLT0, dl_leLF0, dl_leRT0, dl_leRF0, dl_ltLT0, dl_ltLF0, dl_ltRT0, dl_ltRF0, dl_eqRT0, dl_eqRF0, dl_leLT1, dl_leLF1, dl_leRT1, dl_leRF1, dl_ltLT1, dl_ltLF1, dl_ltRT1, dl_ltRF1, dl_eqRT1, dl_eqRF1, dl_leLT2, dl_leLF2, dl_leRT2, dl_leRF2, dl_ltLT2, dl_ltLF2, dl_ltRT2, dl_ltRF2, dl_eqRT2, dl_eqRF2, dl_leLT3, dl_leLF3, dl_leRT3, dl_leRF3, dl_ltLT3, dl_ltLF3, dl_ltRT3, dl_ltRF3, dl_eqRT3, dl_eqRF3, dl_leLT8, dl_leLF8, dl_leRT8, dl_leRF8, dl_ltLT8, dl_ltLF8, dl_ltRT8, dl_ltRF8, dl_eqRT8, dl_eqRF8, dl_leLT9, dl_leLF9, dl_leRT9, dl_leRF9, dl_ltLT9, dl_ltLF9, dl_ltRT9, dl_ltRF9, dl_eqRT9, dl_eqRF9, dl_leLT16, dl_leLF16, dl_leRT16, dl_leRF16, dl_ltLT16, dl_ltLF16, dl_ltRT16, dl_ltRF16, dl_eqRT16, dl_eqRF16, dl_leLT64, dl_leLF64, dl_leRT64, dl_leRF64, dl_ltLT64, dl_ltLF64, dl_ltRT64, dl_ltRF64, dl_eqRT64, dl_eqRF64, dl_leLT65, dl_leLF65, dl_leRT65, dl_leRF65, dl_ltLT65, dl_ltLF65, dl_ltRT65, dl_ltRF65, dl_eqRT65, dl_eqRF65]
            exact H
          · rw [if_neg h2] at H
            simp (disch := omega) only [wY_faultOf_4, nI_clamp, dl_Ar, dl_Au, dl_leT, dl_leF, dl_ltT, dl_ltF, dl_eqT, dl_eqF, nI_add, nI_1, dl_inT, dl_sub, dl_sub1, dl_subm1, forall_eq, true_implies, false_implies, not_true, not_false_iff, true_and, and_true, dl_leLT0, dl_leLF0, dl_leRT0, dl_leRF0, dl_ltLT0, dl_ltLF0, dl_ltRT0, dl_ltRF0, dl_eqRT0, dl_eqRF0, dl_leLT1, dl_leLF1, dl_leRT1, dl_leRF1, dl_ltLT1, dl_ltLF1, dl_ltRT1, dl_ltRF1, dl_eqRT1, dl_eqRF1, dl_leLT2, dl_leLF2, dl_leRT2, dl_leRF2, dl_ltLT2, dl_ltLF2, dl_ltRT2, dl_ltRF2, dl_eqRT2, dl_eqRF2, dl_leLT3, dl_leLF3, dl_leRT3, dl_leRF3, dl_ltLT3, dl_ltLF3, dl_ltRT3, dl_ltRF3, dl_eqRT3, dl_eqRF3, dl_leLT8, dl_leLF8, dl_leRT8, dl_leRF8, dl_ltLT8, dl_ltLF8, dl_ltRT8, dl_ltRF8, dl_eqRT8, dl_eqRF8, dl_leLT9, dl_leLF9, dl_leRT9, dl_leRF9, dl_ltLT9, dl_ltLF9, dl_ltRT9, dl_ltRF9, dl_eqRT9, dl_eqRF9, dl_leLT16, dl_leLF16, dl_leRT16, dl_leRF16, dl_ltLT16, dl_ltLF16, dl_ltRT16, dl_ltRF16, dl_eqRT16, dl_eqRF16, dl_leLT64, dl_leLF64, dl_leRT64, dl_leRF64, dl_ltLT64, dl_ltLF64, dl_ltRT64, dl_ltRF64, dl_eqRT64, dl_eqRF64, dl_leLT65, dl_leLF65, dl_leRT65, dl_leRF65, dl_ltLT65, dl_ltLF65, dl_ltRT65, dl_ltRF65, dl_eqRT65, dl_eqRF65]
            exact H
      · rw [if_neg h] at H
        by_cases h1 : dl_wc i D N p < 1
        · rw [if_pos h1] at H
          simp (disch := omega) only [wY_faultOf_4, nI_clamp, dl_Ar, dl_Au, dl_leT, dl_leF, dl_ltT, dl_ltF, dl_eqT, dl_eqF, nI_add, nI_1, dl_inT, dl_sub, dl_sub1, dl_subm1, forall_eq, true_implies, false_implies, not_true, not_false_iff, true_and, and_true, dl_leLT0, dl_leLF0, dl_leRT0, dl_leRF0, dl_ltLT0, dl_ltLF0, dl_ltRT0, dl_ltRF0, dl_eqRT0, dl_eqRF0, dl_leLT1, dl_leLF1, dl_leRT1, dl_leRF1, dl_ltLT1, dl_ltLF1, dl_ltRT1, dl_ltRF1, dl_eqRT1, dl_eqRF1, dl_leLT2, dl_leLF2, dl_leRT2, dl_leRF2, dl_ltLT2, dl_ltLF2, dl_ltRT2, dl_ltRF2, dl_eqRT2, dl_eqRF2, dl_leLT3, dl_leLF3, dl_leRT3, dl_leRF3, dl_ltLT3, dl_ltLF3, dl_ltRT3, dl_ltRF3, dl_eqRT3, dl_eqRF3, dl_leLT8, dl_leLF8, dl_leRT8, dl_leRF8, dl_ltLT8, dl_ltLF8, dl_ltRT8, dl_ltRF8, dl_eqRT8, dl_eqRF8, dl_leLT9, dl_leLF9, dl_leRT9, dl_leRF9, dl_ltLT9, dl_ltLF9, dl_ltRT9, dl_ltRF9, dl_eqRT9, dl_eqRF9, dl_leLT16, dl_leLF16, dl_leRT16, dl_leRF16, dl_ltLT16, dl_ltLF16, dl_ltRT16, dl_ltRF16, dl_eqRT16, dl_eqRF16, dl_leLT64, dl_leLF64, dl_leRT64, dl_leRF64, dl_ltLT64, dl_ltLF64, dl_ltRT64, dl_ltRF64, dl_eqRT64, dl_eqRF64, dl_leLT65, dl_leLF65, dl_leRT65, dl_leRF65, dl_ltLT65, dl_ltLF65, dl_ltRT65, dl_ltRF65, dl_eqRT65, dl_eqRF65]
          exact H
        · rw [if_neg h1] at H
          simp (disch := omega) only [wY_faultOf_4, nI_clamp, dl_Ar, dl_Au, dl_leT, dl_leF, dl_ltT, dl_ltF, dl_eqT, dl_eqF, nI_add, nI_1, dl_inT, dl_sub, dl_sub1, dl_subm1, forall_eq, true_implies, false_implies, not_true, not_false_iff, true_and, and_true, dl_leLT0, dl_leLF0, dl_leRT0, dl_leRF0, dl_ltLT0, dl_ltLF0, dl_ltRT0, dl_ltRF0, dl_eqRT0, dl_eqRF0, dl_leLT1, dl_leLF1, dl_leRT1, dl_leRF1, dl_ltLT1, dl_ltLF1, dl_ltRT1, dl_ltRF1, dl_eqRT1, dl_eqRF1, dl_leLT2, dl_leLF2, dl_leRT2, dl_leRF2, dl_ltLT2, dl_ltLF2, dl_ltRT2, dl_ltRF2, dl_eqRT2, dl_eqRF2, dl_leLT3, dl_leLF3, dl_leRT3, dl_leRF3, dl_ltLT3, dl_ltLF3, dl_ltRT3, dl_ltRF3, dl_eqRT3, dl_eqRF3, dl_leLT8, dl_leLF8, dl_leRT8, dl_leRF8, dl_ltLT8, dl_ltLF8, dl_ltRT8, dl_ltRF8, dl_eqRT8, dl_eqRF8, dl_leLT9, dl_leLF9, dl_leRT9, dl_leRF9, dl_ltLT9, dl_ltLF9, dl_ltRT9, dl_ltRF9, dl_eqRT9, dl_eqRF9, dl_leLT16, dl_leLF16, dl_leRT16, dl_leRF16, dl_ltLT16, dl_ltLF16, dl_ltRT16, dl_ltRF16, dl_eqRT16, dl_eqRF16, dl_leLT64, dl_leLF64, dl_leRT64, dl_leRF64, dl_ltLT64, dl_ltLF64, dl_ltRT64, dl_ltRF64, dl_eqRT64, dl_eqRF64, dl_leLT65, dl_leLF65, dl_leRT65, dl_leRF65, dl_ltLT65, dl_ltLF65, dl_ltRT65, dl_ltRF65, dl_eqRT65, dl_eqRF65]
          exact H
theorem dl_yfo (post : Int32 → Prop) (B : dl_Bs C L ol T cnt K S D N) {p : Nat} (hp : p < 2147483648) (H : post (nI (dl_flt T p (dl_wc cnt D N p)))) : wpY_faultOf post (nI C, nI L, nI ph, nI ol, nI T, nI cnt, nI dy, old, nxt, dl_A K, dl_A S, dl_A D, dl_A N, dat, dl_A F, dl_A P, mk) (nI p) :=
  ⟨cnt + 1, dl_yfo4 post B hp H _ 0 (by omega) (by omega)⟩
theorem dl_yfa2 (post : Int32 → Prop) (B : dl_Bs C L ol T cnt K S D N) {p : Nat} (hp : p ≤ C) (h0 : ∀ q, q < p → dl_flt T q (dl_wc cnt D N q) = 0) (h1 : p < C → dl_flt T p (dl_wc cnt D N p) ≠ 0)
    (H : post (if p < C then nI p else -1)) : ∀ f i, i ≤ p → C - i < f → wY_faultAt_2 post (nI C) (nI L) (nI ph) (nI ol) (nI T) (nI cnt) (nI dy) old nxt (dl_A K) (dl_A S) (dl_A D) (dl_A N) dat (dl_A F) (dl_A P) mk f (nI i) := by
  intro f
  have hC := B.2.1
  induction f with
  | zero => intro i _ h; omega
  | succ f ih =>
    intro i hi hf
    rcases Nat.lt_or_ge i C with z | z
    · simp (disch := omega) only [wY_faultAt_2, nI_clamp, dl_Ar, dl_Au, dl_leT, dl_leF, dl_ltT, dl_ltF, dl_eqT, dl_eqF, nI_add, nI_1, dl_inT, dl_sub, dl_sub1, dl_subm1, forall_eq, true_implies, false_implies, not_true, not_false_iff, true_and, and_true, dl_leLT0, dl_leLF0, dl_leRT0, dl_leRF0, dl_ltLT0, dl_ltLF0, dl_ltRT0, dl_ltRF0, dl_eqRT0, dl_eqRF0, dl_leLT1, dl_leLF1, dl_leRT1, dl_leRF1, dl_ltLT1, dl_ltLF1, dl_ltRT1, dl_ltRF1, dl_eqRT1, dl_eqRF1, dl_leLT2, dl_leLF2, dl_leRT2, dl_leRF2, dl_ltLT2, dl_ltLF2, dl_ltRT2, dl_ltRF2, dl_eqRT2, dl_eqRF2, dl_leLT3, dl_leLF3, dl_leRT3, dl_leRF3, dl_ltLT3, dl_ltLF3, dl_ltRT3, dl_ltRF3, dl_eqRT3, dl_eqRF3, dl_leLT8, dl_leLF8, dl_leRT8, dl_leRF8, dl_ltLT8, dl_ltLF8, dl_ltRT8, dl_ltRF8, dl_eqRT8, dl_eqRF8, dl_leLT9, dl_leLF9, dl_leRT9, dl_leRF9, dl_ltLT9, dl_ltLF9, dl_ltRT9, dl_ltRF9, dl_eqRT9, dl_eqRF9, dl_leLT16, dl_leLF16, dl_leRT16, dl_leRF16, dl_ltLT16, dl_ltLF16, dl_ltRT16, dl_ltRF16, dl_eqRT16, dl_eqRF16, dl_leLT64, dl_leLF64, dl_leRT64, dl_leRF64, dl_ltLT64, dl_ltLF64, dl_ltRT64, dl_ltRF64, dl_eqRT64, dl_eqRF64, dl_leLT65, dl_leLF65, dl_leRT65, dl_leRF65, dl_ltLT65, dl_ltLF65, dl_ltRT65, dl_ltRF65, dl_eqRT65, dl_eqRF65]
      refine dl_yfo _ B (by omega) ?_
      have fl := dl_flt_lt T i (dl_wc cnt D N i)
      rcases Nat.lt_or_ge i p with q | q
      · rw [h0 i q]
        exact br_t rfl (ih (i + 1) q (by omega))
      · have e2 : i = p := by omega
        subst e2
        refine br_f (nI_ne0 (Nat.pos_of_ne_zero (h1 z)) (by omega)) ?_
        rw [if_pos z] at H
        exact H
    · have e2 : i = p := by omega
      subst e2
      simp (disch := omega) only [wY_faultAt_2, nI_clamp, dl_Ar, dl_Au, dl_leT, dl_leF, dl_ltT, dl_ltF, dl_eqT, dl_eqF, nI_add, nI_1, dl_inT, dl_sub, dl_sub1, dl_subm1, forall_eq, true_implies, false_implies, not_true, not_false_iff, true_and, and_true, dl_leLT0, dl_leLF0, dl_leRT0, dl_leRF0, dl_ltLT0, dl_ltLF0, dl_ltRT0, dl_ltRF0, dl_eqRT0, dl_eqRF0, dl_leLT1, dl_leLF1, dl_leRT1, dl_leRF1, dl_ltLT1, dl_ltLF1, dl_ltRT1, dl_ltRF1, dl_eqRT1, dl_eqRF1, dl_leLT2, dl_leLF2, dl_leRT2, dl_leRF2, dl_ltLT2, dl_ltLF2, dl_ltRT2, dl_ltRF2, dl_eqRT2, dl_eqRF2, dl_leLT3, dl_leLF3, dl_leRT3, dl_leRF3, dl_ltLT3, dl_ltLF3, dl_ltRT3, dl_ltRF3, dl_eqRT3, dl_eqRF3, dl_leLT8, dl_leLF8, dl_leRT8, dl_leRF8, dl_ltLT8, dl_ltLF8, dl_ltRT8, dl_ltRF8, dl_eqRT8, dl_eqRF8, dl_leLT9, dl_leLF9, dl_leRT9, dl_leRF9, dl_ltLT9, dl_ltLF9, dl_ltRT9, dl_ltRF9, dl_eqRT9, dl_eqRF9, dl_leLT16, dl_leLF16, dl_leRT16, dl_leRF16, dl_ltLT16, dl_ltLF16, dl_ltRT16, dl_ltRF16, dl_eqRT16, dl_eqRF16, dl_leLT64, dl_leLF64, dl_leRT64, dl_leRF64, dl_ltLT64, dl_ltLF64, dl_ltRT64, dl_ltRF64, dl_eqRT64, dl_eqRF64, dl_leLT65, dl_leLF65, dl_leRT65, dl_leRF65, dl_ltLT65, dl_ltLF65, dl_ltRT65, dl_ltRF65, dl_eqRT65, dl_eqRF65]
      rw [if_neg (by omega)] at H
      exact H
theorem dl_yfaultAt (post : Int32 → Prop) (B : dl_Bs C L ol T cnt K S D N) {p : Nat} (hp : p ≤ C) (h0 : ∀ q, q < p → dl_flt T q (dl_wc cnt D N q) = 0) (h1 : p < C → dl_flt T p (dl_wc cnt D N p) ≠ 0)
    (H : post (if p < C then nI p else -1)) : wpY_faultAt post (nI C, nI L, nI ph, nI ol, nI T, nI cnt, nI dy, old, nxt, dl_A K, dl_A S, dl_A D, dl_A N, dat, dl_A F, dl_A P, mk) := ⟨C + 1, dl_yfa2 post B hp h0 h1 H _ 0 (by omega) (by omega)⟩
theorem dl_yfaultKind (post : Int32 → Prop) (B : dl_Bs C L ol T cnt K S D N) {p : Nat} (hp : p ≤ C) (h0 : ∀ q, q < p → dl_flt T q (dl_wc cnt D N q) = 0) (h1 : p < C → dl_flt T p (dl_wc cnt D N p) ≠ 0)
    (H : post (if p < C then nI (dl_flt T p (dl_wc cnt D N p)) else 0)) : wpY_faultKind post (nI C, nI L, nI ph, nI ol, nI T, nI cnt, nI dy, old, nxt, dl_A K, dl_A S, dl_A D, dl_A N, dat, dl_A F, dl_A P, mk) := by
  have hC := B.2.1
  unfold wpY_faultKind
  refine dl_yfaultAt _ B hp h0 h1 ?_
  by_cases z : p < C
  · rw [if_pos z] at H ⊢
    refine br_t (nI_pos' (by omega)) ?_
    exact dl_yfo _ B (by omega) H
  · rw [if_neg z] at H ⊢
    exact br_f (by decide) H
end
end
section
section
variable {C L ph ol T cnt ls co dn pl dy : Nat} {kp : Int32} {K S D N A bD sq po ws ss bd F P : Nat → Nat} {bu pool bf af cm ed re old nxt dat mk : Nat → Int32}
theorem dl_xsd12 (post : SX → Prop) (J : Int32 → (Nat → Int32) → (Nat → Int32) → (Nat → Int32) → (Nat → Int32) → (Nat → Int32) → (Nat → Int32) → (Nat → Int32) → (Nat → Int32) → (Nat → Int32) → (Nat → Int32) → (Nat → Int32) → (Nat → Int32) → (Nat → Int32) → (Nat → Int32) → (Nat → Int32) → (Nat → Int32) → (Nat → Int32) → (Nat → Int32) → Prop) (hcnt : cnt ≤ 16) (hD : ∀ i, i < cnt → D i < 2147483648) (hdd : ∀ a b, a < cnt → b < cnt → D a = D b → a = b) {c : Nat} (hc : c < cnt) {σ : Nat → Nat}
    (Q : dl_srt (fun a b => D a < D b) (fun d => d < c) σ c) (H : ∀ τ, dl_srt (fun a b => D a < D b) (fun d => d < c + 1) τ (c + 1) → J (nI (c + 1)) bu (dl_A K) (dl_A S) (dl_A D) (dl_A N) (dl_A A) pool (dl_A τ) bf af cm (dl_A sq) (dl_A po) (dl_A ws) (dl_A ss) ed re (dl_A bd)) :
    ∀ f x τ, x ≤ c → x < f → (∀ s, s < x → τ s = σ s) → (∀ s, x < s → s ≤ c → τ s = σ (s - 1)) → (∀ s, x ≤ s → s < c → D c < D (σ s)) → wX_sortByDestination_12 post J (nI c) (nI C) (nI L) (nI ph) (nI ol) (nI T) (nI cnt) (nI ls) (nI co) kp (nI dn) (nI pl) f (nI x) bu (dl_A K) (dl_A S) (dl_A D) (dl_A N) (dl_A A) pool (dl_A τ) bf af cm (dl_A sq) (dl_A po) (dl_A ws) (dl_A ss) ed re (dl_A bd) := by
  intro f
  have hDc := hD c hc
  induction f with
  | zero => intro x τ _ h; omega
  | succ f ih =>
    intro x τ hx hf lo hi gh
    have fin : (∀ s, s < x → D (σ s) < D c) → J (nI (c + 1)) bu (dl_A K) (dl_A S) (dl_A D) (dl_A N) (dl_A A) pool (dl_A (dl_u τ x c)) bf af cm (dl_A sq) (dl_A po) (dl_A ws) (dl_A ss) ed re (dl_A bd) := fun gl =>
      H _ (dl_srt_ins (M := fun d => d < c) Q hx (fun s hs => by rw [dl_un (by omega)]; exact lo s hs) dl_us (fun s h1 h2 => by rw [dl_un (by omega)]; exact hi s h1 h2) gl gh (fun d => by omega))
    rcases Nat.eq_zero_or_pos x with z | z
    · subst z
      simp (disch := omega) only [wX_sortByDestination_12, nI_clamp, dl_Ar, dl_Au, dl_leT, dl_leF, dl_ltT, dl_ltF, dl_eqT, dl_eqF, nI_add, nI_1, dl_inT, dl_sub, dl_sub1, dl_subm1, forall_eq, true_implies, false_implies, not_true, not_false_iff, true_and, and_true, dl_leLT0, dl_leLF0, dl_leRT0, dl_leRF0, dl_ltLT0, dl_ltLF0, dl_ltRT0, dl_ltRF0, dl_eqRT0, dl_eqRF0, dl_leLT1, dl_leLF1, dl_leRT1, dl_leRF1, dl_ltLT1, dl_ltLF1, dl_ltRT1, dl_ltRF1, dl_eqRT1, dl_eqRF1, dl_leLT2, dl_leLF2, dl_leRT2, dl_leRF2, dl_ltLT2, dl_ltLF2, dl_ltRT2, dl_ltRF2, dl_eqRT2, dl_eqRF2, dl_leLT3, dl_leLF3, dl_leRT3, dl_leRF3, dl_ltLT3, dl_ltLF3, dl_ltRT3, dl_ltRF3, dl_eqRT3, dl_eqRF3, dl_leLT8, dl_leLF8, dl_leRT8, dl_leRF8, dl_ltLT8, dl_ltLF8, dl_ltRT8, dl_ltRF8, dl_eqRT8, dl_eqRF8, dl_leLT9, dl_leLF9, dl_leRT9, dl_leRF9, dl_ltLT9, dl_ltLF9, dl_ltRT9, dl_ltRF9, dl_eqRT9, dl_eqRF9, dl_leLT16, dl_leLF16, dl_leRT16, dl_leRF16, dl_ltLT16, dl_ltLF16, dl_ltRT16, dl_ltRF16, dl_eqRT16, dl_eqRF16, dl_leLT64, dl_leLF64, dl_leRT64, dl_leRF64, dl_ltLT64, dl_ltLF64, dl_ltRT64, dl_ltRF64, dl_eqRT64, dl_eqRF64, dl_leLT65, dl_leLF65, dl_leRT65, dl_leRF65, dl_ltLT65, dl_ltLF65, dl_ltRT65, dl_ltRF65, dl_eqRT65, dl_eqRF65]
      exact fin (fun s hs => by omega)
    · have e := lo (x - 1) (by omega)
      have m := Q.2.1 (x - 1) (by omega)
      rw [← e] at m
      have hDt := hD (τ (x - 1)) (by omega)
      by_cases q : D (τ (x - 1)) ≤ D c
      · simp (disch := omega) only [wX_sortByDestination_12, nI_clamp, dl_Ar, dl_Au, dl_leT, dl_leF, dl_ltT, dl_ltF, dl_eqT, dl_eqF, nI_add, nI_1, dl_inT, dl_sub, dl_sub1, dl_subm1, forall_eq, true_implies, false_implies, not_true, not_false_iff, true_and, and_true, dl_leLT0, dl_leLF0, dl_leRT0, dl_leRF0, dl_ltLT0, dl_ltLF0, dl_ltRT0, dl_ltRF0, dl_eqRT0, dl_eqRF0, dl_leLT1, dl_leLF1, dl_leRT1, dl_leRF1, dl_ltLT1, dl_ltLF1, dl_ltRT1, dl_ltRF1, dl_eqRT1, dl_eqRF1, dl_leLT2, dl_leLF2, dl_leRT2, dl_leRF2, dl_ltLT2, dl_ltLF2, dl_ltRT2, dl_ltRF2, dl_eqRT2, dl_eqRF2, dl_leLT3, dl_leLF3, dl_leRT3, dl_leRF3, dl_ltLT3, dl_ltLF3, dl_ltRT3, dl_ltRF3, dl_eqRT3, dl_eqRF3, dl_leLT8, dl_leLF8, dl_leRT8, dl_leRF8, dl_ltLT8, dl_ltLF8, dl_ltRT8, dl_ltRF8, dl_eqRT8, dl_eqRF8, dl_leLT9, dl_leLF9, dl_leRT9, dl_leRF9, dl_ltLT9, dl_ltLF9, dl_ltRT9, dl_ltRF9, dl_eqRT9, dl_eqRF9, dl_leLT16, dl_leLF16, dl_leRT16, dl_leRF16, dl_ltLT16, dl_ltLF16, dl_ltRT16, dl_ltRF16, dl_eqRT16, dl_eqRF16, dl_leLT64, dl_leLF64, dl_leRT64, dl_leRF64, dl_ltLT64, dl_ltLF64, dl_ltRT64, dl_ltRF64, dl_eqRT64, dl_eqRF64, dl_leLT65, dl_leLF65, dl_leRT65, dl_leRF65, dl_ltLT65, dl_ltLF65, dl_ltRT65, dl_ltRF65, dl_eqRT65, dl_eqRF65]
        refine fin (fun s hs => ?_)
        have ne : D (τ (x - 1)) ≠ D c := fun z => by have := hdd _ _ (by omega) hc z; omega
        rw [e] at q ne
        by_cases w : s = x - 1
        · rw [w]; omega
        · have := Q.1 s (x - 1) (by omega) (by omega)
          omega
      · simp (disch := omega) only [wX_sortByDestination_12, nI_clamp, dl_Ar, dl_Au, dl_leT, dl_leF, dl_ltT, dl_ltF, dl_eqT, dl_eqF, nI_add, nI_1, dl_inT, dl_sub, dl_sub1, dl_subm1, forall_eq, true_implies, false_implies, not_true, not_false_iff, true_and, and_true, dl_leLT0, dl_leLF0, dl_leRT0, dl_leRF0, dl_ltLT0, dl_ltLF0, dl_ltRT0, dl_ltRF0, dl_eqRT0, dl_eqRF0, dl_leLT1, dl_leLF1, dl_leRT1, dl_leRF1, dl_ltLT1, dl_ltLF1, dl_ltRT1, dl_ltRF1, dl_eqRT1, dl_eqRF1, dl_leLT2, dl_leLF2, dl_leRT2, dl_leRF2, dl_ltLT2, dl_ltLF2, dl_ltRT2, dl_ltRF2, dl_eqRT2, dl_eqRF2, dl_leLT3, dl_leLF3, dl_leRT3, dl_leRF3, dl_ltLT3, dl_ltLF3, dl_ltRT3, dl_ltRF3, dl_eqRT3, dl_eqRF3, dl_leLT8, dl_leLF8, dl_leRT8, dl_leRF8, dl_ltLT8, dl_ltLF8, dl_ltRT8, dl_ltRF8, dl_eqRT8, dl_eqRF8, dl_leLT9, dl_leLF9, dl_leRT9, dl_leRF9, dl_ltLT9, dl_ltLF9, dl_ltRT9, dl_ltRF9, dl_eqRT9, dl_eqRF9, dl_leLT16, dl_leLF16, dl_leRT16, dl_leRF16, dl_ltLT16, dl_ltLF16, dl_ltRT16, dl_ltRF16, dl_eqRT16, dl_eqRF16, dl_leLT64, dl_leLF64, dl_leRT64, dl_leRF64, dl_ltLT64, dl_ltLF64, dl_ltRT64, dl_ltRF64, dl_eqRT64, dl_eqRF64, dl_leLT65, dl_leLF65, dl_leRT65, dl_leRF65, dl_ltLT65, dl_ltLF65, dl_ltRT65, dl_ltRF65, dl_eqRT65, dl_eqRF65]
        refine ih (x - 1) _ (by omega) (by omega) (fun s hs => by rw [dl_un (by omega)]; exact lo s (by omega)) (fun s h1 h2 => ?_) (fun s h1 h2 => ?_)
        · by_cases w : s = x
          · rw [w, dl_us]; exact e
          · rw [dl_un w]; exact hi s (by omega) h2
        · by_cases w : s = x - 1
          · rw [w, ← e]; omega
          · exact gh s (by omega) h2
theorem dl_xsd (post : SX → Prop) (hcnt : cnt ≤ 16) (hD : ∀ i, i < cnt → D i < 2147483648) (hdd : ∀ a b, a < cnt → b < cnt → D a = D b → a = b) (H : ∀ σ, dl_Sd cnt D σ → post (nI C, nI L, nI ph, nI ol, nI T, nI cnt, nI ls, nI co, kp, nI dn, nI pl, bu, dl_A K, dl_A S, dl_A D, dl_A N, dl_A A, pool, dl_A σ, bf, af, cm, dl_A sq, dl_A po, dl_A ws, dl_A ss, ed, re, dl_A bd)) : wpX_sortByDestination post (nI C, nI L, nI ph, nI ol, nI T, nI cnt, nI ls, nI co, kp, nI dn, nI pl, bu, dl_A K, dl_A S, dl_A D, dl_A N, dl_A A, pool, dl_A bD, bf, af, cm, dl_A sq, dl_A po, dl_A ws, dl_A ss, ed, re, dl_A bd) := by
  have key : ∀ f c σ, c ≤ cnt → cnt - c < f → dl_srt (fun a b => D a < D b) (fun d => d < c) σ c → wX_sortByDestination_2 post (nI C) (nI L) (nI ph) (nI ol) (nI T) (nI cnt) (nI ls) (nI co) kp (nI dn) (nI pl) f (nI c) bu (dl_A K) (dl_A S) (dl_A D) (dl_A N) (dl_A A) pool (dl_A σ) bf af cm (dl_A sq) (dl_A po) (dl_A ws) (dl_A ss) ed re (dl_A bd) := by
    intro f
    induction f with
    | zero => intro c σ _ h; omega
    | succ f ih =>
      intro c σ h1 h2 Q
      rcases Nat.lt_or_ge c cnt with z | z
      · simp (disch := omega) only [wX_sortByDestination_2, nI_clamp, dl_Ar, dl_Au, dl_leT, dl_leF, dl_ltT, dl_ltF, dl_eqT, dl_eqF, nI_add, nI_1, dl_inT, dl_sub, dl_sub1, dl_subm1, forall_eq, true_implies, false_implies, not_true, not_false_iff, true_and, and_true, dl_leLT0, dl_leLF0, dl_leRT0, dl_leRF0, dl_ltLT0, dl_ltLF0, dl_ltRT0, dl_ltRF0, dl_eqRT0, dl_eqRF0, dl_leLT1, dl_leLF1, dl_leRT1, dl_leRF1, dl_ltLT1, dl_ltLF1, dl_ltRT1, dl_ltRF1, dl_eqRT1, dl_eqRF1, dl_leLT2, dl_leLF2, dl_leRT2, dl_leRF2, dl_ltLT2, dl_ltLF2, dl_ltRT2, dl_ltRF2, dl_eqRT2, dl_eqRF2, dl_leLT3, dl_leLF3, dl_leRT3, dl_leRF3, dl_ltLT3, dl_ltLF3, dl_ltRT3, dl_ltRF3, dl_eqRT3, dl_eqRF3, dl_leLT8, dl_leLF8, dl_leRT8, dl_leRF8, dl_ltLT8, dl_ltLF8, dl_ltRT8, dl_ltRF8, dl_eqRT8, dl_eqRF8, dl_leLT9, dl_leLF9, dl_leRT9, dl_leRF9, dl_ltLT9, dl_ltLF9, dl_ltRT9, dl_ltRF9, dl_eqRT9, dl_eqRF9, dl_leLT16, dl_leLF16, dl_leRT16, dl_leRF16, dl_ltLT16, dl_ltLF16, dl_ltRT16, dl_ltRF16, dl_eqRT16, dl_eqRF16, dl_leLT64, dl_leLF64, dl_leRT64, dl_leRF64, dl_ltLT64, dl_ltLF64, dl_ltRT64, dl_ltRF64, dl_eqRT64, dl_eqRF64, dl_leLT65, dl_leLF65, dl_leRT65, dl_leRF65, dl_ltLT65, dl_ltLF65, dl_ltRT65, dl_ltRF65, dl_eqRT65, dl_eqRF65]
        exact ⟨c + 1, dl_xsd12 post _ hcnt hD hdd z Q (fun τ q => ih (c + 1) τ z (by omega) q) _ c σ (by omega) (by omega) (fun _ _ => rfl) (fun s _ _ => by omega) (fun s _ _ => by omega)⟩
      · have e : c = cnt := by omega
        subst e
        simp (disch := omega) only [wX_sortByDestination_2, nI_clamp, dl_Ar, dl_Au, dl_leT, dl_leF, dl_ltT, dl_ltF, dl_eqT, dl_eqF, nI_add, nI_1, dl_inT, dl_sub, dl_sub1, dl_subm1, forall_eq, true_implies, false_implies, not_true, not_false_iff, true_and, and_true, dl_leLT0, dl_leLF0, dl_leRT0, dl_leRF0, dl_ltLT0, dl_ltLF0, dl_ltRT0, dl_ltRF0, dl_eqRT0, dl_eqRF0, dl_leLT1, dl_leLF1, dl_leRT1, dl_leRF1, dl_ltLT1, dl_ltLF1, dl_ltRT1, dl_ltRF1, dl_eqRT1, dl_eqRF1, dl_leLT2, dl_leLF2, dl_leRT2, dl_leRF2, dl_ltLT2, dl_ltLF2, dl_ltRT2, dl_ltRF2, dl_eqRT2, dl_eqRF2, dl_leLT3, dl_leLF3, dl_leRT3, dl_leRF3, dl_ltLT3, dl_ltLF3, dl_ltRT3, dl_ltRF3, dl_eqRT3, dl_eqRF3, dl_leLT8, dl_leLF8, dl_leRT8, dl_leRF8, dl_ltLT8, dl_ltLF8, dl_ltRT8, dl_ltRF8, dl_eqRT8, dl_eqRF8, dl_leLT9, dl_leLF9, dl_leRT9, dl_leRF9, dl_ltLT9, dl_ltLF9, dl_ltRT9, dl_ltRF9, dl_eqRT9, dl_eqRF9, dl_leLT16, dl_leLF16, dl_leRT16, dl_leRF16, dl_ltLT16, dl_ltLF16, dl_ltRT16, dl_ltRF16, dl_eqRT16, dl_eqRF16, dl_leLT64, dl_leLF64, dl_leRT64, dl_leRF64, dl_ltLT64, dl_ltLF64, dl_ltRT64, dl_ltRF64, dl_eqRT64, dl_eqRF64, dl_leLT65, dl_leLF65, dl_leRT65, dl_leRF65, dl_ltLT65, dl_ltLF65, dl_ltRT65, dl_ltRF65, dl_eqRT65, dl_eqRF65]
        exact H σ Q
  exact ⟨cnt + 1, key _ 0 bD (by omega) (by omega) ⟨fun s s' _ h => by omega, fun s h => by omega, fun c h => by omega⟩⟩
theorem dl_shr1 {a : Nat} (h : a < 2147483648) : nI a >>> ((1 : Int32) &&& 31) = nI (a / 2) := pk_shrN h _ 1 (by decide)
def dl_Iv (cnt : Nat) (D σ : Nat → Nat) (p s b : Nat) : Prop := s < cnt ∧ D (σ s) ≤ p ∧ ∀ s', s + b ≤ s' → s' < cnt → p < D (σ s')
theorem dl_xsl (post : Int32 → Prop) (hcnt : cnt ≤ 16) (hD : ∀ i, i < cnt → D i < 2147483648) (Q : dl_Sd cnt D bD) {p : Nat} (hp : p < 2147483648) {f s j : Nat} (hj : 0 < j) (hj8 : j ≤ 8) (I : dl_Iv cnt D bD p s (2 * j))
    (H : ∀ s', dl_Iv cnt D bD p s' j → wX_slotOf_5 post (nI p) (nI C) (nI L) (nI ph) (nI ol) (nI T) (nI cnt) (nI ls) (nI co) kp (nI dn) (nI pl) bu (dl_A K) (dl_A S) (dl_A D) (dl_A N) (dl_A A) pool (dl_A bD) bf af cm (dl_A sq) (dl_A po) (dl_A ws) (dl_A ss) ed re (dl_A bd) f (nI s') (nI (j / 2))) : wX_slotOf_5 post (nI p) (nI C) (nI L) (nI ph) (nI ol) (nI T) (nI cnt) (nI ls) (nI co) kp (nI dn) (nI pl) bu (dl_A K) (dl_A S) (dl_A D) (dl_A N) (dl_A A) pool (dl_A bD) bf af cm (dl_A sq) (dl_A po) (dl_A ws) (dl_A ss) ed re (dl_A bd) (f + 1) (nI s) (nI j) := by
  obtain ⟨i1, i2, i3⟩ := I
  rcases Nat.lt_or_ge (s + j) cnt with z | z
  · have m := Q.2.1 (s + j) z
    have hd := hD _ m
    by_cases q : D (bD (s + j)) ≤ p
    · simp (disch := omega) only [wX_slotOf_5, nI_clamp, dl_Ar, dl_Au, dl_leT, dl_leF, dl_ltT, dl_ltF, dl_eqT, dl_eqF, nI_add, nI_1, dl_inT, dl_sub, dl_sub1, dl_subm1, forall_eq, true_implies, false_implies, not_true, not_false_iff, true_and, and_true, dl_leLT0, dl_leLF0, dl_leRT0, dl_leRF0, dl_ltLT0, dl_ltLF0, dl_ltRT0, dl_ltRF0, dl_eqRT0, dl_eqRF0, dl_leLT1, dl_leLF1, dl_leRT1, dl_leRF1, dl_ltLT1, dl_ltLF1, dl_ltRT1, dl_ltRF1, dl_eqRT1, dl_eqRF1, dl_leLT2, dl_leLF2, dl_leRT2, dl_leRF2, dl_ltLT2, dl_ltLF2, dl_ltRT2, dl_ltRF2, dl_eqRT2, dl_eqRF2, dl_leLT3, dl_leLF3, dl_leRT3, dl_leRF3, dl_ltLT3, dl_ltLF3, dl_ltRT3, dl_ltRF3, dl_eqRT3, dl_eqRF3, dl_leLT8, dl_leLF8, dl_leRT8, dl_leRF8, dl_ltLT8, dl_ltLF8, dl_ltRT8, dl_ltRF8, dl_eqRT8, dl_eqRF8, dl_leLT9, dl_leLF9, dl_leRT9, dl_leRF9, dl_ltLT9, dl_ltLF9, dl_ltRT9, dl_ltRF9, dl_eqRT9, dl_eqRF9, dl_leLT16, dl_leLF16, dl_leRT16, dl_leRF16, dl_ltLT16, dl_ltLF16, dl_ltRT16, dl_ltRF16, dl_eqRT16, dl_eqRF16, dl_leLT64, dl_leLF64, dl_leRT64, dl_leRF64, dl_ltLT64, dl_ltLF64, dl_ltRT64, dl_ltRF64, dl_eqRT64, dl_eqRF64, dl_leLT65, dl_leLF65, dl_leRT65, dl_leRF65, dl_ltLT65, dl_ltLF65, dl_ltRT65, dl_ltRF65, dl_eqRT65, dl_eqRF65, dl_shr1]
      exact H (s + j) ⟨z, q, fun s' h1 h2 => i3 s' (by omega) h2⟩
    · simp (disch := omega) only [wX_slotOf_5, nI_clamp, dl_Ar, dl_Au, dl_leT, dl_leF, dl_ltT, dl_ltF, dl_eqT, dl_eqF, nI_add, nI_1, dl_inT, dl_sub, dl_sub1, dl_subm1, forall_eq, true_implies, false_implies, not_true, not_false_iff, true_and, and_true, dl_leLT0, dl_leLF0, dl_leRT0, dl_leRF0, dl_ltLT0, dl_ltLF0, dl_ltRT0, dl_ltRF0, dl_eqRT0, dl_eqRF0, dl_leLT1, dl_leLF1, dl_leRT1, dl_leRF1, dl_ltLT1, dl_ltLF1, dl_ltRT1, dl_ltRF1, dl_eqRT1, dl_eqRF1, dl_leLT2, dl_leLF2, dl_leRT2, dl_leRF2, dl_ltLT2, dl_ltLF2, dl_ltRT2, dl_ltRF2, dl_eqRT2, dl_eqRF2, dl_leLT3, dl_leLF3, dl_leRT3, dl_leRF3, dl_ltLT3, dl_ltLF3, dl_ltRT3, dl_ltRF3, dl_eqRT3, dl_eqRF3, dl_leLT8, dl_leLF8, dl_leRT8, dl_leRF8, dl_ltLT8, dl_ltLF8, dl_ltRT8, dl_ltRF8, dl_eqRT8, dl_eqRF8, dl_leLT9, dl_leLF9, dl_leRT9, dl_leRF9, dl_ltLT9, dl_ltLF9, dl_ltRT9, dl_ltRF9, dl_eqRT9, dl_eqRF9, dl_leLT16, dl_leLF16, dl_leRT16, dl_leRF16, dl_ltLT16, dl_ltLF16, dl_ltRT16, dl_ltRF16, dl_eqRT16, dl_eqRF16, dl_leLT64, dl_leLF64, dl_leRT64, dl_leRF64, dl_ltLT64, dl_ltLF64, dl_ltRT64, dl_ltRF64, dl_eqRT64, dl_eqRF64, dl_leLT65, dl_leLF65, dl_leRT65, dl_leRF65, dl_ltLT65, dl_ltLF65, dl_ltRT65, dl_ltRF65, dl_eqRT65, dl_eqRF65, dl_shr1]
      refine H s ⟨i1, i2, fun s' h1 h2 => ?_⟩
      by_cases e : s' = s + j
      · rw [e]; omega
      · have := Q.1 (s + j) s' (by omega) h2
        omega
  · simp (disch := omega) only [wX_slotOf_5, nI_clamp, dl_Ar, dl_Au, dl_leT, dl_leF, dl_ltT, dl_ltF, dl_eqT, dl_eqF, nI_add, nI_1, dl_inT, dl_sub, dl_sub1, dl_subm1, forall_eq, true_implies, false_implies, not_true, not_false_iff, true_and, and_true, dl_leLT0, dl_leLF0, dl_leRT0, dl_leRF0, dl_ltLT0, dl_ltLF0, dl_ltRT0, dl_ltRF0, dl_eqRT0, dl_eqRF0, dl_leLT1, dl_leLF1, dl_leRT1, dl_leRF1, dl_ltLT1, dl_ltLF1, dl_ltRT1, dl_ltRF1, dl_eqRT1, dl_eqRF1, dl_leLT2, dl_leLF2, dl_leRT2, dl_leRF2, dl_ltLT2, dl_ltLF2, dl_ltRT2, dl_ltRF2, dl_eqRT2, dl_eqRF2, dl_leLT3, dl_leLF3, dl_leRT3, dl_leRF3, dl_ltLT3, dl_ltLF3, dl_ltRT3, dl_ltRF3, dl_eqRT3, dl_eqRF3, dl_leLT8, dl_leLF8, dl_leRT8, dl_leRF8, dl_ltLT8, dl_ltLF8, dl_ltRT8, dl_ltRF8, dl_eqRT8, dl_eqRF8, dl_leLT9, dl_leLF9, dl_leRT9, dl_leRF9, dl_ltLT9, dl_ltLF9, dl_ltRT9, dl_ltRF9, dl_eqRT9, dl_eqRF9, dl_leLT16, dl_leLF16, dl_leRT16, dl_leRF16, dl_ltLT16, dl_ltLF16, dl_ltRT16, dl_ltRF16, dl_eqRT16, dl_eqRF16, dl_leLT64, dl_leLF64, dl_leRT64, dl_leRF64, dl_ltLT64, dl_ltLF64, dl_ltRT64, dl_ltRF64, dl_eqRT64, dl_eqRF64, dl_leLT65, dl_leLF65, dl_leRT65, dl_leRF65, dl_ltLT65, dl_ltLF65, dl_ltRT65, dl_ltRF65, dl_eqRT65, dl_eqRF65, dl_shr1]
    exact H s ⟨i1, i2, fun s' h1 h2 => by omega⟩
theorem dl_xslot (post : Int32 → Prop) (hcnt : cnt ≤ 16) (hn : ∀ c, c < cnt → 1 ≤ N c) (hT : T < 2147483648) {wr : Nat → Nat} (Ti : dl_Til T cnt D N wr) (Q : dl_Sd cnt D bD) {p : Nat} (hp : p < T) (H : ∀ s, s < cnt → bD s = wr p → post (nI s)) : wpX_slotOf post (nI C, nI L, nI ph, nI ol, nI T, nI cnt, nI ls, nI co, kp, nI dn, nI pl, bu, dl_A K, dl_A S, dl_A D, dl_A N, dl_A A, pool, dl_A bD, bf, af, cm, dl_A sq, dl_A po, dl_A ws, dl_A ss, ed, re, dl_A bd) (nI p) := by
  have hD : ∀ i, i < cnt → D i < 2147483648 := fun i hi => by have := dl_til_end Ti hi (hn i hi); omega
  obtain ⟨w1, w2, w3⟩ := Ti.1 p hp
  obtain ⟨t, t1, t2⟩ := Q.2.2 _ w1
  have i0 : dl_Iv cnt D bD p 0 (2 * 8) := by
    refine ⟨by omega, ?_, fun s' h1 h2 => by omega⟩
    by_cases e : t = 0
    · rw [← e, t2]; exact w2
    · have := Q.1 0 t (by omega) t1
      rw [t2] at this; omega
  refine ⟨5, dl_xsl post hcnt hD Q (by omega) (by decide) (by decide) i0 (fun s1 i1 => ?_)⟩
  refine dl_xsl post hcnt hD Q (by omega) (j := 4) (by decide) (by decide) i1 (fun s2 i2 => ?_)
  refine dl_xsl post hcnt hD Q (by omega) (j := 2) (by decide) (by decide) i2 (fun s3 i3 => ?_)
  refine dl_xsl post hcnt hD Q (by omega) (j := 1) (by decide) (by decide) i3 (fun s4 i4 => ?_)
  exact br_t (by decide) (H s4 i4.1 (dl_slot Ti hn Q hp i4.1 i4.2.1 i4.2.2))
end
end
section
/-- bit rows: before and its converse -/
def dl_BA (bf af : Nat → Int32) (V : Nat → Nat → Prop) : Prop := (∀ i j, i < 16 → j < 16 → (bt (bf i) j = true ↔ V i j)) ∧ ∀ i j, i < 16 → j < 16 → (bt (af j) i = true ↔ V i j)
theorem dl_BA_c {bf af : Nat → Int32} {V V' : Nat → Nat → Prop} (h : dl_BA bf af V) (e : ∀ i j, i < 16 → j < 16 → (V i j ↔ V' i j)) : dl_BA bf af V' :=
  ⟨fun i j a b => (h.1 i j a b).trans (e i j a b), fun i j a b => (h.2 i j a b).trans (e i j a b)⟩
theorem dl_BA_s {bf af : Nat → Int32} {V V' : Nat → Nat → Prop} {c d : Nat} (hc : c < 16) (hd : d < 16) (h : dl_BA bf af V) (e : ∀ i j, V' i j ↔ (V i j ∨ (i = c ∧ j = d))) :
    dl_BA (upd bf c (bf c ||| ((1 : Int32) <<< (nI d &&& 31)))) (upd af d (af d ||| ((1 : Int32) <<< (nI c &&& 31)))) V' := by
  refine ⟨fun i j a b => ?_, fun i j a b => ?_⟩
  · rw [e]
    by_cases z : i = c
    · subst z
      rw [pk_us, dl_or1 (by omega) (by omega), h.1 i j a b]
      exact ⟨fun q => q.elim Or.inl (fun w => Or.inr ⟨rfl, w⟩), fun q => q.elim Or.inl (fun w => Or.inr w.2)⟩
    · rw [pk_un z, h.1 i j a b]
      exact ⟨Or.inl, fun q => q.elim id (fun w => absurd w.1 z)⟩
  · rw [e]
    by_cases z : j = d
    · subst z
      rw [pk_us, dl_or1 (by omega) (by omega), h.2 i j a b]
      exact ⟨fun q => q.elim Or.inl (fun w => Or.inr ⟨w, rfl⟩), fun q => q.elim Or.inl (fun w => Or.inr w.1)⟩
    · rw [pk_un z, h.2 i j a b]
      exact ⟨Or.inl, fun q => q.elim id (fun w => absurd w.2 z)⟩
section
variable {C L ph ol T cnt ls co dn pl dy : Nat} {kp : Int32} {K S D N A bD sq po ws ss bd F P : Nat → Nat} {bu pool bf af cm ed re old nxt dat mk : Nat → Int32}
theorem dl_xlr52 (post : SX → Prop) (hcnt : cnt ≤ 16) (hK : ∀ c, c < cnt → K c < 2147483648) (Q : dl_Sd cnt D bD) {V : Nat → Nat → Prop} {c a b : Nat} (hc : c < cnt) (hb : b < cnt)
    (H : ∀ bf' af', dl_BA bf' af' (fun i j => V i j ∨ (i = c ∧ j ≠ c ∧ K j = 1 ∧ ∃ s, a ≤ s ∧ s ≤ b ∧ bD s = j)) → post (nI C, nI L, nI ph, nI ol, nI T, nI cnt, nI ls, nI co, kp, nI dn, nI pl, bu, dl_A K, dl_A S, dl_A D, dl_A N, dl_A A, pool, dl_A bD, bf', af', cm, dl_A sq, dl_A po, dl_A ws, dl_A ss, ed, re, dl_A bd)) :
    ∀ f s bf' af', a ≤ s → s ≤ b + 1 → b + 1 - s < f → dl_BA bf' af' (fun i j => V i j ∨ (i = c ∧ j ≠ c ∧ K j = 1 ∧ ∃ t, a ≤ t ∧ t < s ∧ bD t = j)) → wX_linkReader_52 post (nI c) (nI b) (nI C) (nI L) (nI ph) (nI ol) (nI T) (nI cnt) (nI ls) (nI co) kp (nI dn) (nI pl) f (nI s) bu (dl_A K) (dl_A S) (dl_A D) (dl_A N) (dl_A A) pool (dl_A bD) bf' af' cm (dl_A sq) (dl_A po) (dl_A ws) (dl_A ss) ed re (dl_A bd) := by
  intro f
  induction f with
  | zero => intro s bf' af' _ _ h; omega
  | succ f ih =>
    intro s bf' af' h0 h1 h2 G
    rcases Nat.lt_or_ge b s with z | z
    · have e : s = b + 1 := by omega
      subst e
      simp (disch := omega) only [wX_linkReader_52, nI_clamp, dl_Ar, dl_Au, dl_leT, dl_leF, dl_ltT, dl_ltF, dl_eqT, dl_eqF, nI_add, nI_1, dl_inT, dl_sub, dl_sub1, dl_subm1, forall_eq, true_implies, false_implies, not_true, not_false_iff, true_and, and_true, dl_leLT0, dl_leLF0, dl_leRT0, dl_leRF0, dl_ltLT0, dl_ltLF0, dl_ltRT0, dl_ltRF0, dl_eqRT0, dl_eqRF0, dl_leLT1, dl_leLF1, dl_leRT1, dl_leRF1, dl_ltLT1, dl_ltLF1, dl_ltRT1, dl_ltRF1, dl_eqRT1, dl_eqRF1, dl_leLT2, dl_leLF2, dl_leRT2, dl_leRF2, dl_ltLT2, dl_ltLF2, dl_ltRT2, dl_ltRF2, dl_eqRT2, dl_eqRF2, dl_leLT3, dl_leLF3, dl_leRT3, dl_leRF3, dl_ltLT3, dl_ltLF3, dl_ltRT3, dl_ltRF3, dl_eqRT3, dl_eqRF3, dl_leLT8, dl_leLF8, dl_leRT8, dl_leRF8, dl_ltLT8, dl_ltLF8, dl_ltRT8, dl_ltRF8, dl_eqRT8, dl_eqRF8, dl_leLT9, dl_leLF9, dl_leRT9, dl_leRF9, dl_ltLT9, dl_ltLF9, dl_ltRT9, dl_ltRF9, dl_eqRT9, dl_eqRF9, dl_leLT16, dl_leLF16, dl_leRT16, dl_leRF16, dl_ltLT16, dl_ltLF16, dl_ltRT16, dl_ltRF16, dl_eqRT16, dl_eqRF16, dl_leLT64, dl_leLF64, dl_leRT64, dl_leRF64, dl_ltLT64, dl_ltLF64, dl_ltRT64, dl_ltRF64, dl_eqRT64, dl_eqRF64, dl_leLT65, dl_leLF65, dl_leRT65, dl_leRF65, dl_ltLT65, dl_ltLF65, dl_ltRT65, dl_ltRF65, dl_eqRT65, dl_eqRF65]
      exact H bf' af' (dl_BA_c G (fun i j _ _ => by
        constructor
        · rintro (q | ⟨q1, q2, q3, t, t1, t2, t3⟩)
          · exact Or.inl q
          · exact Or.inr ⟨q1, q2, q3, t, t1, by omega, t3⟩
        · rintro (q | ⟨q1, q2, q3, t, t1, t2, t3⟩)
          · exact Or.inl q
          · exact Or.inr ⟨q1, q2, q3, t, t1, by omega, t3⟩))
    · have m := Q.2.1 s (by omega)
      have hk := hK _ m
      have same : (bD s = c ∨ K (bD s) ≠ 1) → dl_BA bf' af' (fun i j => V i j ∨ (i = c ∧ j ≠ c ∧ K j = 1 ∧ ∃ t, a ≤ t ∧ t < s + 1 ∧ bD t = j)) := fun o => dl_BA_c G (fun i j _ _ => by
        constructor
        · rintro (q | ⟨q1, q2, q3, t, t1, t2, t3⟩)
          · exact Or.inl q
          · exact Or.inr ⟨q1, q2, q3, t, t1, by omega, t3⟩
        · rintro (q | ⟨q1, q2, q3, t, t1, t2, t3⟩)
          · exact Or.inl q
          · by_cases w : t = s
            · rw [w] at t3
              rcases o with o | o
              · exact absurd (t3.symm.trans o) q2
              · rw [t3] at o; exact absurd q3 o
            · exact Or.inr ⟨q1, q2, q3, t, t1, by omega, t3⟩)
      by_cases e : bD s = c
      · simp (disch := omega) only [wX_linkReader_52, nI_clamp, dl_Ar, dl_Au, dl_leT, dl_leF, dl_ltT, dl_ltF, dl_eqT, dl_eqF, nI_add, nI_1, dl_inT, dl_sub, dl_sub1, dl_subm1, forall_eq, true_implies, false_implies, not_true, not_false_iff, true_and, and_true, dl_leLT0, dl_leLF0, dl_leRT0, dl_leRF0, dl_ltLT0, dl_ltLF0, dl_ltRT0, dl_ltRF0, dl_eqRT0, dl_eqRF0, dl_leLT1, dl_leLF1, dl_leRT1, dl_leRF1, dl_ltLT1, dl_ltLF1, dl_ltRT1, dl_ltRF1, dl_eqRT1, dl_eqRF1, dl_leLT2, dl_leLF2, dl_leRT2, dl_leRF2, dl_ltLT2, dl_ltLF2, dl_ltRT2, dl_ltRF2, dl_eqRT2, dl_eqRF2, dl_leLT3, dl_leLF3, dl_leRT3, dl_leRF3, dl_ltLT3, dl_ltLF3, dl_ltRT3, dl_ltRF3, dl_eqRT3, dl_eqRF3, dl_leLT8, dl_leLF8, dl_leRT8, dl_leRF8, dl_ltLT8, dl_ltLF8, dl_ltRT8, dl_ltRF8, dl_eqRT8, dl_eqRF8, dl_leLT9, dl_leLF9, dl_leRT9, dl_leRF9, dl_ltLT9, dl_ltLF9, dl_ltRT9, dl_ltRF9, dl_eqRT9, dl_eqRF9, dl_leLT16, dl_leLF16, dl_leRT16, dl_leRF16, dl_ltLT16, dl_ltLF16, dl_ltRT16, dl_ltRF16, dl_eqRT16, dl_eqRF16, dl_leLT64, dl_leLF64, dl_leRT64, dl_leRF64, dl_ltLT64, dl_ltLF64, dl_ltRT64, dl_ltRF64, dl_eqRT64, dl_eqRF64, dl_leLT65, dl_leLF65, dl_leRT65, dl_leRF65, dl_ltLT65, dl_ltLF65, dl_ltRT65, dl_ltRF65, dl_eqRT65, dl_eqRF65]
        exact ih (s + 1) bf' af' (by omega) (by omega) (by omega) (same (Or.inl e))
      · by_cases k : K (bD s) = 1
        · simp (disch := omega) only [wX_linkReader_52, nI_clamp, dl_Ar, dl_Au, dl_leT, dl_leF, dl_ltT, dl_ltF, dl_eqT, dl_eqF, nI_add, nI_1, dl_inT, dl_sub, dl_sub1, dl_subm1, forall_eq, true_implies, false_implies, not_true, not_false_iff, true_and, and_true, dl_leLT0, dl_leLF0, dl_leRT0, dl_leRF0, dl_ltLT0, dl_ltLF0, dl_ltRT0, dl_ltRF0, dl_eqRT0, dl_eqRF0, dl_leLT1, dl_leLF1, dl_leRT1, dl_leRF1, dl_ltLT1, dl_ltLF1, dl_ltRT1, dl_ltRF1, dl_eqRT1, dl_eqRF1, dl_leLT2, dl_leLF2, dl_leRT2, dl_leRF2, dl_ltLT2, dl_ltLF2, dl_ltRT2, dl_ltRF2, dl_eqRT2, dl_eqRF2, dl_leLT3, dl_leLF3, dl_leRT3, dl_leRF3, dl_ltLT3, dl_ltLF3, dl_ltRT3, dl_ltRF3, dl_eqRT3, dl_eqRF3, dl_leLT8, dl_leLF8, dl_leRT8, dl_leRF8, dl_ltLT8, dl_ltLF8, dl_ltRT8, dl_ltRF8, dl_eqRT8, dl_eqRF8, dl_leLT9, dl_leLF9, dl_leRT9, dl_leRF9, dl_ltLT9, dl_ltLF9, dl_ltRT9, dl_ltRF9, dl_eqRT9, dl_eqRF9, dl_leLT16, dl_leLF16, dl_leRT16, dl_leRF16, dl_ltLT16, dl_ltLF16, dl_ltRT16, dl_ltRF16, dl_eqRT16, dl_eqRF16, dl_leLT64, dl_leLF64, dl_leRT64, dl_leRF64, dl_ltLT64, dl_ltLF64, dl_ltRT64, dl_ltRF64, dl_eqRT64, dl_eqRF64, dl_leLT65, dl_leLF65, dl_leRT65, dl_leRF65, dl_ltLT65, dl_ltLF65, dl_ltRT65, dl_ltRF65, dl_eqRT65, dl_eqRF65]
          refine ih (s + 1) _ _ (by omega) (by omega) (by omega) (dl_BA_s (by omega) (by omega) G (fun i j => ?_))
          constructor
          · rintro (q | ⟨q1, q2, q3, t, t1, t2, t3⟩)
            · exact Or.inl (Or.inl q)
            · by_cases w : t = s
              · rw [w] at t3; exact Or.inr ⟨q1, t3.symm⟩
              · exact Or.inl (Or.inr ⟨q1, q2, q3, t, t1, by omega, t3⟩)
          · rintro ((q | ⟨q1, q2, q3, t, t1, t2, t3⟩) | ⟨q1, q2⟩)
            · exact Or.inl q
            · exact Or.inr ⟨q1, q2, q3, t, t1, by omega, t3⟩
            · rw [q2]; exact Or.inr ⟨q1, e, k, s, h0, by omega, rfl⟩
        · simp (disch := omega) only [wX_linkReader_52, nI_clamp, dl_Ar, dl_Au, dl_leT, dl_leF, dl_ltT, dl_ltF, dl_eqT, dl_eqF, nI_add, nI_1, dl_inT, dl_sub, dl_sub1, dl_subm1, forall_eq, true_implies, false_implies, not_true, not_false_iff, true_and, and_true, dl_leLT0, dl_leLF0, dl_leRT0, dl_leRF0, dl_ltLT0, dl_ltLF0, dl_ltRT0, dl_ltRF0, dl_eqRT0, dl_eqRF0, dl_leLT1, dl_leLF1, dl_leRT1, dl_leRF1, dl_ltLT1, dl_ltLF1, dl_ltRT1, dl_ltRF1, dl_eqRT1, dl_eqRF1, dl_leLT2, dl_leLF2, dl_leRT2, dl_leRF2, dl_ltLT2, dl_ltLF2, dl_ltRT2, dl_ltRF2, dl_eqRT2, dl_eqRF2, dl_leLT3, dl_leLF3, dl_leRT3, dl_leRF3, dl_ltLT3, dl_ltLF3, dl_ltRT3, dl_ltRF3, dl_eqRT3, dl_eqRF3, dl_leLT8, dl_leLF8, dl_leRT8, dl_leRF8, dl_ltLT8, dl_ltLF8, dl_ltRT8, dl_ltRF8, dl_eqRT8, dl_eqRF8, dl_leLT9, dl_leLF9, dl_leRT9, dl_leRF9, dl_ltLT9, dl_ltLF9, dl_ltRT9, dl_ltRF9, dl_eqRT9, dl_eqRF9, dl_leLT16, dl_leLF16, dl_leRT16, dl_leRF16, dl_ltLT16, dl_ltLF16, dl_ltRT16, dl_ltRF16, dl_eqRT16, dl_eqRF16, dl_leLT64, dl_leLF64, dl_leRT64, dl_leRF64, dl_ltLT64, dl_ltLF64, dl_ltRT64, dl_ltRF64, dl_eqRT64, dl_eqRF64, dl_leLT65, dl_leLF65, dl_leRT65, dl_leRF65, dl_ltLT65, dl_ltLF65, dl_ltRT65, dl_ltRF65, dl_eqRT65, dl_eqRF65]
          exact ih (s + 1) bf' af' (by omega) (by omega) (by omega) (same (Or.inr k))
theorem dl_xlr31 (post : SX → Prop) (B : dl_Bs C L ol T cnt K S D N) {wr : Nat → Nat} (Ti : dl_Til T cnt D N wr) (Q : dl_Sd cnt D bD) {V : Nat → Nat → Prop} (G : dl_BA bf af V) {c l : Nat} (hc : c < cnt) (hk : K c = 1) (hS : S c < T) (hl : l < T) (hl1 : S c ≤ l) (hl2 : l < S c + N c) (hl3 : l + 1 = S c + N c ∨ l + 1 = T)
    (H : ∀ bf' af', dl_BA bf' af' (fun i j => V i j ∨ (i = c ∧ dl_R cnt K S D N c j)) → post (nI C, nI L, nI ph, nI ol, nI T, nI cnt, nI ls, nI co, kp, nI dn, nI pl, bu, dl_A K, dl_A S, dl_A D, dl_A N, dl_A A, pool, dl_A bD, bf', af', cm, dl_A sq, dl_A po, dl_A ws, dl_A ss, ed, re, dl_A bd)) : wX_linkReader_31 post (nI c) (nI l) (nI C) (nI L) (nI ph) (nI ol) (nI T) (nI cnt) (nI ls) (nI co) kp (nI dn) (nI pl) bu (dl_A K) (dl_A S) (dl_A D) (dl_A N) (dl_A A) pool (dl_A bD) bf af cm (dl_A sq) (dl_A po) (dl_A ws) (dl_A ss) ed re (dl_A bd) := by
  obtain ⟨b1, b2, b3, b4, b5, b6, b7, b8⟩ := B
  have hn : ∀ c, c < cnt → 1 ≤ N c := fun c hc => (b8 c hc).1
  have hK : ∀ c, c < cnt → K c < 2147483648 := fun c hc => by have := (b8 c hc).2.2; omega
  unfold wX_linkReader_31
  refine ⟨vp_in_nI (by omega) (by omega), ?_⟩
  rw [nI_clamp (by omega), dl_Ar]
  refine dl_xslot _ (by omega) hn (by omega) Ti Q hS (fun a ha ea => ?_)
  refine dl_xslot _ (by omega) hn (by omega) Ti Q hl (fun b hb eb => ?_)
  refine ⟨b + 1 - a + 1, dl_xlr52 post (V := V) (a := a) (by omega) hK Q hc hb (fun bf' af' G' => H bf' af' (dl_BA_c G' (fun i j _ _ => ?_))) _ a bf af (by omega) ?_ (by omega) (dl_BA_c G (fun i j _ _ => ?_))⟩
  · have L := dl_link (j := j) Ti hn Q hc hk hS hl hl1 hl2 hl3 ha hb ea eb
    constructor
    · rintro (q | ⟨q1, q2⟩)
      · exact Or.inl q
      · exact Or.inr ⟨q1, L.mpr q2⟩
    · rintro (q | ⟨q1, q2⟩)
      · exact Or.inl q
      · exact Or.inr ⟨q1, L.mp q2⟩
  · rcases Nat.lt_or_ge b a with z | z
    · have x := dl_dj Ti hn (Q.2.1 b hb) (Q.2.1 a ha) (Q.1 b a z ha)
      have wa := Ti.1 _ hS
      have wb := Ti.1 _ hl
      rw [← ea] at wa
      rw [← eb] at wb
      omega
    · omega
  · constructor
    · exact Or.inl
    · rintro (q | ⟨q1, q2, q3, t, t1, t2, t3⟩)
      · exact q
      · omega
theorem dl_xlr (post : SX → Prop) (B : dl_Bs C L ol T cnt K S D N) {wr : Nat → Nat} (Ti : dl_Til T cnt D N wr) (Q : dl_Sd cnt D bD) {V : Nat → Nat → Prop} (G : dl_BA bf af V) {c : Nat} (hc : c < cnt) (hk : K c = 1) (hS : S c < T)
    (H : ∀ bf' af', dl_BA bf' af' (fun i j => V i j ∨ (i = c ∧ dl_R cnt K S D N c j)) → post (nI C, nI L, nI ph, nI ol, nI T, nI cnt, nI ls, nI co, kp, nI dn, nI pl, bu, dl_A K, dl_A S, dl_A D, dl_A N, dl_A A, pool, dl_A bD, bf', af', cm, dl_A sq, dl_A po, dl_A ws, dl_A ss, ed, re, dl_A bd)) : wpX_linkReader post (nI C, nI L, nI ph, nI ol, nI T, nI cnt, nI ls, nI co, kp, nI dn, nI pl, bu, dl_A K, dl_A S, dl_A D, dl_A N, dl_A A, pool, dl_A bD, bf, af, cm, dl_A sq, dl_A po, dl_A ws, dl_A ss, ed, re, dl_A bd) (nI c) := by
  have B' := B
  obtain ⟨b1, b2, b3, b4, b5, b6, b7, b8⟩ := B
  obtain ⟨c1, c2, c3⟩ := b8 c hc
  have hs : S c + N c ≤ ol := by omega
  rcases Nat.lt_or_ge (S c + N c - 1) T with z | z
  · simp (disch := omega) only [wpX_linkReader, nI_clamp, dl_Ar, dl_Au, dl_leT, dl_leF, dl_ltT, dl_ltF, dl_eqT, dl_eqF, nI_add, nI_1, dl_inT, dl_sub, dl_sub1, dl_subm1, forall_eq, true_implies, false_implies, not_true, not_false_iff, true_and, and_true, dl_leLT0, dl_leLF0, dl_leRT0, dl_leRF0, dl_ltLT0, dl_ltLF0, dl_ltRT0, dl_ltRF0, dl_eqRT0, dl_eqRF0, dl_leLT1, dl_leLF1, dl_leRT1, dl_leRF1, dl_ltLT1, dl_ltLF1, dl_ltRT1, dl_ltRF1, dl_eqRT1, dl_eqRF1, dl_leLT2, dl_leLF2, dl_leRT2, dl_leRF2, dl_ltLT2, dl_ltLF2, dl_ltRT2, dl_ltRF2, dl_eqRT2, dl_eqRF2, dl_leLT3, dl_leLF3, dl_leRT3, dl_leRF3, dl_ltLT3, dl_ltLF3, dl_ltRT3, dl_ltRF3, dl_eqRT3, dl_eqRF3, dl_leLT8, dl_leLF8, dl_leRT8, dl_leRF8, dl_ltLT8, dl_ltLF8, dl_ltRT8, dl_ltRF8, dl_eqRT8, dl_eqRF8, dl_leLT9, dl_leLF9, dl_leRT9, dl_leRF9, dl_ltLT9, dl_ltLF9, dl_ltRT9, dl_ltRF9, dl_eqRT9, dl_eqRF9, dl_leLT16, dl_leLF16, dl_leRT16, dl_leRF16, dl_ltLT16, dl_ltLF16, dl_ltRT16, dl_ltRF16, dl_eqRT16, dl_eqRF16, dl_leLT64, dl_leLF64, dl_leRT64, dl_leRF64, dl_ltLT64, dl_ltLF64, dl_ltRT64, dl_ltRF64, dl_eqRT64, dl_eqRF64, dl_leLT65, dl_leLF65, dl_leRT65, dl_leRF65, dl_ltLT65, dl_ltLF65, dl_ltRT65, dl_ltRF65, dl_eqRT65, dl_eqRF65]
    exact dl_xlr31 post B' Ti Q G hc hk hS z (by omega) (by omega) (Or.inl (by omega)) H
  · simp (disch := omega) only [wpX_linkReader, nI_clamp, dl_Ar, dl_Au, dl_leT, dl_leF, dl_ltT, dl_ltF, dl_eqT, dl_eqF, nI_add, nI_1, dl_inT, dl_sub, dl_sub1, dl_subm1, forall_eq, true_implies, false_implies, not_true, not_false_iff, true_and, and_true, dl_leLT0, dl_leLF0, dl_leRT0, dl_leRF0, dl_ltLT0, dl_ltLF0, dl_ltRT0, dl_ltRF0, dl_eqRT0, dl_eqRF0, dl_leLT1, dl_leLF1, dl_leRT1, dl_leRF1, dl_ltLT1, dl_ltLF1, dl_ltRT1, dl_ltRF1, dl_eqRT1, dl_eqRF1, dl_leLT2, dl_leLF2, dl_leRT2, dl_leRF2, dl_ltLT2, dl_ltLF2, dl_ltRT2, dl_ltRF2, dl_eqRT2, dl_eqRF2, dl_leLT3, dl_leLF3, dl_leRT3, dl_leRF3, dl_ltLT3, dl_ltLF3, dl_ltRT3, dl_ltRF3, dl_eqRT3, dl_eqRF3, dl_leLT8, dl_leLF8, dl_leRT8, dl_leRF8, dl_ltLT8, dl_ltLF8, dl_ltRT8, dl_ltRF8, dl_eqRT8, dl_eqRF8, dl_leLT9, dl_leLF9, dl_leRT9, dl_leRF9, dl_ltLT9, dl_ltLF9, dl_ltRT9, dl_ltRF9, dl_eqRT9, dl_eqRF9, dl_leLT16, dl_leLF16, dl_leRT16, dl_leRF16, dl_ltLT16, dl_ltLF16, dl_ltRT16, dl_ltRF16, dl_eqRT16, dl_eqRF16, dl_leLT64, dl_leLF64, dl_leRT64, dl_leRF64, dl_ltLT64, dl_ltLF64, dl_ltRT64, dl_ltRF64, dl_eqRT64, dl_eqRF64, dl_leLT65, dl_leLF65, dl_leRT65, dl_leRF65, dl_ltLT65, dl_ltLF65, dl_ltRT65, dl_ltRF65, dl_eqRT65, dl_eqRF65]
    exact dl_xlr31 post B' Ti Q G hc hk hS (by omega) (by omega) (by omega) (Or.inr (by omega)) H
theorem dl_xfp30 (post : SX → Prop) (B : dl_Bs C L ol T cnt K S D N) {wr : Nat → Nat} (Ti : dl_Til T cnt D N wr) (Q : dl_Sd cnt D bD) (H : ∀ bf' af', dl_BA bf' af' (dl_R cnt K S D N) → post (nI C, nI L, nI ph, nI ol, nI T, nI cnt, nI ls, nI co, kp, nI dn, nI pl, bu, dl_A K, dl_A S, dl_A D, dl_A N, dl_A A, pool, dl_A bD, bf', af', cm, dl_A sq, dl_A po, dl_A ws, dl_A ss, ed, re, dl_A bd)) :
    ∀ f c bf' af', c ≤ cnt → cnt - c < f → dl_BA bf' af' (fun i j => i < c ∧ dl_R cnt K S D N i j) → wX_findPrecedence_30 post f (nI c) (nI C) (nI L) (nI ph) (nI ol) (nI T) (nI cnt) (nI ls) (nI co) kp (nI dn) (nI pl) bu (dl_A K) (dl_A S) (dl_A D) (dl_A N) (dl_A A) pool (dl_A bD) bf' af' cm (dl_A sq) (dl_A po) (dl_A ws) (dl_A ss) ed re (dl_A bd) := by
  intro f
  have B' := B
  obtain ⟨b1, b2, b3, b4, b5, b6, b7, b8⟩ := B'
  induction f with
  | zero => intro c bf' af' _ h; omega
  | succ f ih =>
    intro c bf' af' h1 h2 G
    rcases Nat.lt_or_ge c cnt with z | z
    · obtain ⟨c1, c2, c3⟩ := b8 c z
      have none : (∀ j, ¬ dl_R cnt K S D N c j) → dl_BA bf' af' (fun i j => i < c + 1 ∧ dl_R cnt K S D N i j) := fun n => dl_BA_c G (fun i j _ _ => by
        constructor
        · rintro ⟨q1, q2⟩; exact ⟨by omega, q2⟩
        · rintro ⟨q1, q2⟩
          by_cases e : i = c
          · rw [e] at q2; exact absurd q2 (n j)
          · exact ⟨by omega, q2⟩)
      by_cases k : K c = 1
      · rcases Nat.lt_or_ge (S c) T with w | w
        · simp (disch := omega) only [wX_findPrecedence_30, nI_clamp, dl_Ar, dl_Au, dl_leT, dl_leF, dl_ltT, dl_ltF, dl_eqT, dl_eqF, nI_add, nI_1, dl_inT, dl_sub, dl_sub1, dl_subm1, forall_eq, true_implies, false_implies, not_true, not_false_iff, true_and, and_true, dl_leLT0, dl_leLF0, dl_leRT0, dl_leRF0, dl_ltLT0, dl_ltLF0, dl_ltRT0, dl_ltRF0, dl_eqRT0, dl_eqRF0, dl_leLT1, dl_leLF1, dl_leRT1, dl_leRF1, dl_ltLT1, dl_ltLF1, dl_ltRT1, dl_ltRF1, dl_eqRT1, dl_eqRF1, dl_leLT2, dl_leLF2, dl_leRT2, dl_leRF2, dl_ltLT2, dl_ltLF2, dl_ltRT2, dl_ltRF2, dl_eqRT2, dl_eqRF2, dl_leLT3, dl_leLF3, dl_leRT3, dl_leRF3, dl_ltLT3, dl_ltLF3, dl_ltRT3, dl_ltRF3, dl_eqRT3, dl_eqRF3, dl_leLT8, dl_leLF8, dl_leRT8, dl_leRF8, dl_ltLT8, dl_ltLF8, dl_ltRT8, dl_ltRF8, dl_eqRT8, dl_eqRF8, dl_leLT9, dl_leLF9, dl_leRT9, dl_leRF9, dl_ltLT9, dl_ltLF9, dl_ltRT9, dl_ltRF9, dl_eqRT9, dl_eqRF9, dl_leLT16, dl_leLF16, dl_leRT16, dl_leRF16, dl_ltLT16, dl_ltLF16, dl_ltRT16, dl_ltRF16, dl_eqRT16, dl_eqRF16, dl_leLT64, dl_leLF64, dl_leRT64, dl_leRF64, dl_ltLT64, dl_ltLF64, dl_ltRT64, dl_ltRF64, dl_eqRT64, dl_eqRF64, dl_leLT65, dl_leLF65, dl_leRT65, dl_leRF65, dl_ltLT65, dl_ltLF65, dl_ltRT65, dl_ltRF65, dl_eqRT65, dl_eqRF65]
          refine dl_xlr _ B Ti Q G z k w (fun bf2 af2 G2 => ?_)
          refine ih (c + 1) bf2 af2 z (by omega) (dl_BA_c G2 (fun i j _ _ => ?_))
          constructor
          · rintro (⟨q1, q2⟩ | ⟨q1, q2⟩)
            · exact ⟨by omega, q2⟩
            · rw [q1]; exact ⟨by omega, q2⟩
          · rintro ⟨q1, q2⟩
            by_cases e : i = c
            · rw [e] at q2; exact Or.inr ⟨e, q2⟩
            · exact Or.inl ⟨by omega, q2⟩
        · simp (disch := omega) only [wX_findPrecedence_30, nI_clamp, dl_Ar, dl_Au, dl_leT, dl_leF, dl_ltT, dl_ltF, dl_eqT, dl_eqF, nI_add, nI_1, dl_inT, dl_sub, dl_sub1, dl_subm1, forall_eq, true_implies, false_implies, not_true, not_false_iff, true_and, and_true, dl_leLT0, dl_leLF0, dl_leRT0, dl_leRF0, dl_ltLT0, dl_ltLF0, dl_ltRT0, dl_ltRF0, dl_eqRT0, dl_eqRF0, dl_leLT1, dl_leLF1, dl_leRT1, dl_leRF1, dl_ltLT1, dl_ltLF1, dl_ltRT1, dl_ltRF1, dl_eqRT1, dl_eqRF1, dl_leLT2, dl_leLF2, dl_leRT2, dl_leRF2, dl_ltLT2, dl_ltLF2, dl_ltRT2, dl_ltRF2, dl_eqRT2, dl_eqRF2, dl_leLT3, dl_leLF3, dl_leRT3, dl_leRF3, dl_ltLT3, dl_ltLF3, dl_ltRT3, dl_ltRF3, dl_eqRT3, dl_eqRF3, dl_leLT8, dl_leLF8, dl_leRT8, dl_leRF8, dl_ltLT8, dl_ltLF8, dl_ltRT8, dl_ltRF8, dl_eqRT8, dl_eqRF8, dl_leLT9, dl_leLF9, dl_leRT9, dl_leRF9, dl_ltLT9, dl_ltLF9, dl_ltRT9, dl_ltRF9, dl_eqRT9, dl_eqRF9, dl_leLT16, dl_leLF16, dl_leRT16, dl_leRF16, dl_ltLT16, dl_ltLF16, dl_ltRT16, dl_ltRF16, dl_eqRT16, dl_eqRF16, dl_leLT64, dl_leLF64, dl_leRT64, dl_leRF64, dl_ltLT64, dl_ltLF64, dl_ltRT64, dl_ltRF64, dl_eqRT64, dl_eqRF64, dl_leLT65, dl_leLF65, dl_leRT65, dl_leRF65, dl_ltLT65, dl_ltLF65, dl_ltRT65, dl_ltRF65, dl_eqRT65, dl_eqRF65]
          exact ih (c + 1) bf' af' z (by omega) (none (fun j => dl_nolink Ti w))
      · simp (disch := omega) only [wX_findPrecedence_30, nI_clamp, dl_Ar, dl_Au, dl_leT, dl_leF, dl_ltT, dl_ltF, dl_eqT, dl_eqF, nI_add, nI_1, dl_inT, dl_sub, dl_sub1, dl_subm1, forall_eq, true_implies, false_implies, not_true, not_false_iff, true_and, and_true, dl_leLT0, dl_leLF0, dl_leRT0, dl_leRF0, dl_ltLT0, dl_ltLF0, dl_ltRT0, dl_ltRF0, dl_eqRT0, dl_eqRF0, dl_leLT1, dl_leLF1, dl_leRT1, dl_leRF1, dl_ltLT1, dl_ltLF1, dl_ltRT1, dl_ltRF1, dl_eqRT1, dl_eqRF1, dl_leLT2, dl_leLF2, dl_leRT2, dl_leRF2, dl_ltLT2, dl_ltLF2, dl_ltRT2, dl_ltRF2, dl_eqRT2, dl_eqRF2, dl_leLT3, dl_leLF3, dl_leRT3, dl_leRF3, dl_ltLT3, dl_ltLF3, dl_ltRT3, dl_ltRF3, dl_eqRT3, dl_eqRF3, dl_leLT8, dl_leLF8, dl_leRT8, dl_leRF8, dl_ltLT8, dl_ltLF8, dl_ltRT8, dl_ltRF8, dl_eqRT8, dl_eqRF8, dl_leLT9, dl_leLF9, dl_leRT9, dl_leRF9, dl_ltLT9, dl_ltLF9, dl_ltRT9, dl_ltRF9, dl_eqRT9, dl_eqRF9, dl_leLT16, dl_leLF16, dl_leRT16, dl_leRF16, dl_ltLT16, dl_ltLF16, dl_ltRT16, dl_ltRF16, dl_eqRT16, dl_eqRF16, dl_leLT64, dl_leLF64, dl_leRT64, dl_leRF64, dl_ltLT64, dl_ltLF64, dl_ltRT64, dl_ltRF64, dl_eqRT64, dl_eqRF64, dl_leLT65, dl_leLF65, dl_leRT65, dl_leRF65, dl_ltLT65, dl_ltLF65, dl_ltRT65, dl_ltRF65, dl_eqRT65, dl_eqRF65]
        exact ih (c + 1) bf' af' z (by omega) (none (fun j r => k r.2.2.2.1))
    · have e : c = cnt := by omega
      subst e
      simp (disch := omega) only [wX_findPrecedence_30, nI_clamp, dl_Ar, dl_Au, dl_leT, dl_leF, dl_ltT, dl_ltF, dl_eqT, dl_eqF, nI_add, nI_1, dl_inT, dl_sub, dl_sub1, dl_subm1, forall_eq, true_implies, false_implies, not_true, not_false_iff, true_and, and_true, dl_leLT0, dl_leLF0, dl_leRT0, dl_leRF0, dl_ltLT0, dl_ltLF0, dl_ltRT0, dl_ltRF0, dl_eqRT0, dl_eqRF0, dl_leLT1, dl_leLF1, dl_leRT1, dl_leRF1, dl_ltLT1, dl_ltLF1, dl_ltRT1, dl_ltRF1, dl_eqRT1, dl_eqRF1, dl_leLT2, dl_leLF2, dl_leRT2, dl_leRF2, dl_ltLT2, dl_ltLF2, dl_ltRT2, dl_ltRF2, dl_eqRT2, dl_eqRF2, dl_leLT3, dl_leLF3, dl_leRT3, dl_leRF3, dl_ltLT3, dl_ltLF3, dl_ltRT3, dl_ltRF3, dl_eqRT3, dl_eqRF3, dl_leLT8, dl_leLF8, dl_leRT8, dl_leRF8, dl_ltLT8, dl_ltLF8, dl_ltRT8, dl_ltRF8, dl_eqRT8, dl_eqRF8, dl_leLT9, dl_leLF9, dl_leRT9, dl_leRF9, dl_ltLT9, dl_ltLF9, dl_ltRT9, dl_ltRF9, dl_eqRT9, dl_eqRF9, dl_leLT16, dl_leLF16, dl_leRT16, dl_leRF16, dl_ltLT16, dl_ltLF16, dl_ltRT16, dl_ltRF16, dl_eqRT16, dl_eqRF16, dl_leLT64, dl_leLF64, dl_leRT64, dl_leRF64, dl_ltLT64, dl_ltLF64, dl_ltRT64, dl_ltRF64, dl_eqRT64, dl_eqRF64, dl_leLT65, dl_leLF65, dl_leRT65, dl_leRF65, dl_ltLT65, dl_ltLF65, dl_ltRT65, dl_ltRF65, dl_eqRT65, dl_eqRF65]
      exact H bf' af' (dl_BA_c G (fun i j _ _ => ⟨fun q => q.2, fun q => ⟨q.1, q⟩⟩))
theorem dl_xfp (post : SX → Prop) (B : dl_Bs C L ol T cnt K S D N) {wr : Nat → Nat} (Ti : dl_Til T cnt D N wr) (Q : dl_Sd cnt D bD) (H : ∀ bf' af', dl_BA bf' af' (dl_R cnt K S D N) → post (nI C, nI L, nI ph, nI ol, nI T, nI cnt, nI ls, nI co, kp, nI dn, nI pl, bu, dl_A K, dl_A S, dl_A D, dl_A N, dl_A A, pool, dl_A bD, bf', af', cm, dl_A sq, dl_A po, dl_A ws, dl_A ss, ed, re, dl_A bd)) : wpX_findPrecedence post (nI C, nI L, nI ph, nI ol, nI T, nI cnt, nI ls, nI co, kp, nI dn, nI pl, bu, dl_A K, dl_A S, dl_A D, dl_A N, dl_A A, pool, dl_A bD, bf, af, cm, dl_A sq, dl_A po, dl_A ws, dl_A ss, ed, re, dl_A bd) := by
  have key : ∀ f c bf' af', c ≤ 16 → 16 - c < f → (∀ i, i < c → bf' i = 0 ∧ af' i = 0) → wX_findPrecedence_2 post (nI C) (nI L) (nI ph) (nI ol) (nI T) (nI cnt) (nI ls) (nI co) kp (nI dn) (nI pl) f (nI c) bu (dl_A K) (dl_A S) (dl_A D) (dl_A N) (dl_A A) pool (dl_A bD) bf' af' cm (dl_A sq) (dl_A po) (dl_A ws) (dl_A ss) ed re (dl_A bd) := by
    intro f
    induction f with
    | zero => intro c bf' af' _ h; omega
    | succ f ih =>
      intro c bf' af' h1 h2 G
      rcases Nat.lt_or_ge c 16 with z | z
      · simp (disch := omega) only [wX_findPrecedence_2, nI_clamp, dl_Ar, dl_Au, dl_leT, dl_leF, dl_ltT, dl_ltF, dl_eqT, dl_eqF, nI_add, nI_1, dl_inT, dl_sub, dl_sub1, dl_subm1, forall_eq, true_implies, false_implies, not_true, not_false_iff, true_and, and_true, dl_leLT0, dl_leLF0, dl_leRT0, dl_leRF0, dl_ltLT0, dl_ltLF0, dl_ltRT0, dl_ltRF0, dl_eqRT0, dl_eqRF0, dl_leLT1, dl_leLF1, dl_leRT1, dl_leRF1, dl_ltLT1, dl_ltLF1, dl_ltRT1, dl_ltRF1, dl_eqRT1, dl_eqRF1, dl_leLT2, dl_leLF2, dl_leRT2, dl_leRF2, dl_ltLT2, dl_ltLF2, dl_ltRT2, dl_ltRF2, dl_eqRT2, dl_eqRF2, dl_leLT3, dl_leLF3, dl_leRT3, dl_leRF3, dl_ltLT3, dl_ltLF3, dl_ltRT3, dl_ltRF3, dl_eqRT3, dl_eqRF3, dl_leLT8, dl_leLF8, dl_leRT8, dl_leRF8, dl_ltLT8, dl_ltLF8, dl_ltRT8, dl_ltRF8, dl_eqRT8, dl_eqRF8, dl_leLT9, dl_leLF9, dl_leRT9, dl_leRF9, dl_ltLT9, dl_ltLF9, dl_ltRT9, dl_ltRF9, dl_eqRT9, dl_eqRF9, dl_leLT16, dl_leLF16, dl_leRT16, dl_leRF16, dl_ltLT16, dl_ltLF16, dl_ltRT16, dl_ltRF16, dl_eqRT16, dl_eqRF16, dl_leLT64, dl_leLF64, dl_leRT64, dl_leRF64, dl_ltLT64, dl_ltLF64, dl_ltRT64, dl_ltRF64, dl_eqRT64, dl_eqRF64, dl_leLT65, dl_leLF65, dl_leRT65, dl_leRF65, dl_ltLT65, dl_ltLF65, dl_ltRT65, dl_ltRF65, dl_eqRT65, dl_eqRF65]
        refine ih (c + 1) _ _ z (by omega) (fun i hi => ?_)
        by_cases e : i = c
        · rw [e, pk_us, pk_us]; exact ⟨rfl, rfl⟩
        · rw [pk_un e, pk_un e]; exact G i (by omega)
      · simp (disch := omega) only [wX_findPrecedence_2, nI_clamp, dl_Ar, dl_Au, dl_leT, dl_leF, dl_ltT, dl_ltF, dl_eqT, dl_eqF, nI_add, nI_1, dl_inT, dl_sub, dl_sub1, dl_subm1, forall_eq, true_implies, false_implies, not_true, not_false_iff, true_and, and_true, dl_leLT0, dl_leLF0, dl_leRT0, dl_leRF0, dl_ltLT0, dl_ltLF0, dl_ltRT0, dl_ltRF0, dl_eqRT0, dl_eqRF0, dl_leLT1, dl_leLF1, dl_leRT1, dl_leRF1, dl_ltLT1, dl_ltLF1, dl_ltRT1, dl_ltRF1, dl_eqRT1, dl_eqRF1, dl_leLT2, dl_leLF2, dl_leRT2, dl_leRF2, dl_ltLT2, dl_ltLF2, dl_ltRT2, dl_ltRF2, dl_eqRT2, dl_eqRF2, dl_leLT3, dl_leLF3, dl_leRT3, dl_leRF3, dl_ltLT3, dl_ltLF3, dl_ltRT3, dl_ltRF3, dl_eqRT3, dl_eqRF3, dl_leLT8, dl_leLF8, dl_leRT8, dl_leRF8, dl_ltLT8, dl_ltLF8, dl_ltRT8, dl_ltRF8, dl_eqRT8, dl_eqRF8, dl_leLT9, dl_leLF9, dl_leRT9, dl_leRF9, dl_ltLT9, dl_ltLF9, dl_ltRT9, dl_ltRF9, dl_eqRT9, dl_eqRF9, dl_leLT16, dl_leLF16, dl_leRT16, dl_leRF16, dl_ltLT16, dl_ltLF16, dl_ltRT16, dl_ltRF16, dl_eqRT16, dl_eqRF16, dl_leLT64, dl_leLF64, dl_leRT64, dl_leRF64, dl_ltLT64, dl_ltLF64, dl_ltRT64, dl_ltRF64, dl_eqRT64, dl_eqRF64, dl_leLT65, dl_leLF65, dl_leRT65, dl_leRF65, dl_ltLT65, dl_ltLF65, dl_ltRT65, dl_ltRF65, dl_eqRT65, dl_eqRF65]
        refine ⟨cnt + 1, dl_xfp30 post B Ti Q H _ 0 bf' af' (by omega) (by omega) ⟨fun i j hi _ => ?_, fun i j _ hj => ?_⟩⟩
        · rw [(G i (by omega)).1, b_0]
          exact ⟨fun q => absurd q (by decide), fun q => by omega⟩
        · rw [(G j (by omega)).2, b_0]
          exact ⟨fun q => absurd q (by decide), fun q => by omega⟩
  exact ⟨17, key _ 0 bf af (by omega) (by omega) (fun i hi => by omega)⟩
end
end
section
def dl_Rw (cnt : Nat) (re : Nat → Int32) (V : Nat → Nat → Prop) : Prop := ∀ i j, i < cnt → j < 16 → (bt (re i) j = true ↔ V i j)
def dl_CC (cnt : Nat) (K : Nat → Nat) (R : Nat → Nat → Prop) (cm : Nat → Int32) (m : Nat) : Prop := ∀ c j, c < m → j < 32 → (bt (cm c) j = true ↔ (K c = 1 ∧ (j = c ∨ (dl_Tr R c j ∧ dl_Tr R j c))))
theorem dl_R_lt {cnt : Nat} {K S D N : Nat → Nat} : ∀ x y, dl_R cnt K S D N x y → x < cnt := fun _ _ r => r.1
theorem dl_Tr_lt {cnt : Nat} {K S D N : Nat → Nat} {Q : Nat → Prop} {a b : Nat} (h : dl_Rc (dl_R cnt K S D N) Q a b) : b < cnt := (dl_Rc_e h).elim fun _ r => r.2.1
section
variable {C L ph ol T cnt ls co dn pl dy : Nat} {kp : Int32} {K S D N A bD sq po ws ss bd F P : Nat → Nat} {bu pool bf af cm ed re old nxt dat mk : Nat → Int32}
theorem dl_xfc40 (post : SX → Prop) (J : Int32 → (Nat → Int32) → (Nat → Int32) → (Nat → Int32) → (Nat → Int32) → (Nat → Int32) → (Nat → Int32) → (Nat → Int32) → (Nat → Int32) → (Nat → Int32) → (Nat → Int32) → (Nat → Int32) → (Nat → Int32) → (Nat → Int32) → (Nat → Int32) → (Nat → Int32) → (Nat → Int32) → (Nat → Int32) → (Nat → Int32) → Prop) (hcnt : cnt ≤ 16) {R : Nat → Nat → Prop} {v : Nat} (hv : v < cnt) (H : ∀ re', dl_Rw cnt re' (dl_P R (v + 1)) → J (nI (v + 1)) bu (dl_A K) (dl_A S) (dl_A D) (dl_A N) (dl_A A) pool (dl_A bD) bf af cm (dl_A sq) (dl_A po) (dl_A ws) (dl_A ss) ed re' (dl_A bd)) :
    ∀ f c re', c ≤ cnt → cnt - c < f → dl_Rw cnt re' (fun i j => (i < c ∧ dl_P R (v + 1) i j) ∨ (c ≤ i ∧ dl_P R v i j)) → wX_findComponents_40 post J (nI v) (nI C) (nI L) (nI ph) (nI ol) (nI T) (nI cnt) (nI ls) (nI co) kp (nI dn) (nI pl) f (nI c) bu (dl_A K) (dl_A S) (dl_A D) (dl_A N) (dl_A A) pool (dl_A bD) bf af cm (dl_A sq) (dl_A po) (dl_A ws) (dl_A ss) ed re' (dl_A bd) := by
  intro f
  induction f with
  | zero => intro c re' _ h; omega
  | succ f ih =>
    intro c re' h1 h2 G
    rcases Nat.lt_or_ge c cnt with z | z
    · have gc : ∀ j, j < 16 → (bt (re' c) j = true ↔ dl_P R v c j) := fun j hj => (G c j z hj).trans ⟨fun q => q.elim (fun w => by omega) (fun w => w.2), fun q => Or.inr ⟨Nat.le_refl _, q⟩⟩
      have gv : ∀ j, j < 16 → (bt (re' v) j = true ↔ dl_P R v v j) := fun j hj => (G v j hv hj).trans ⟨fun q => q.elim (fun w => dl_P_v.mp w.2) (fun w => w.2), fun q => by
        rcases Nat.lt_or_ge v c with w | w
        · exact Or.inl ⟨w, Or.inl q⟩
        · exact Or.inr ⟨w, q⟩⟩
      by_cases q : bt (re' c) v = true
      · have nz : ¬ (((re' c) >>> (nI v &&& 31)) &&& 1) = 0 := fun e => (dl_bit (by omega)).mp e q
        simp (disch := omega) only [wX_findComponents_40, nI_clamp, dl_Ar, dl_Au, dl_leT, dl_leF, dl_ltT, dl_ltF, dl_eqT, dl_eqF, nI_add, nI_1, dl_inT, dl_sub, dl_sub1, dl_subm1, forall_eq, true_implies, false_implies, not_true, not_false_iff, true_and, and_true, dl_leLT0, dl_leLF0, dl_leRT0, dl_leRF0, dl_ltLT0, dl_ltLF0, dl_ltRT0, dl_ltRF0, dl_eqRT0, dl_eqRF0, dl_leLT1, dl_leLF1, dl_leRT1, dl_leRF1, dl_ltLT1, dl_ltLF1, dl_ltRT1, dl_ltRF1, dl_eqRT1, dl_eqRF1, dl_leLT2, dl_leLF2, dl_leRT2, dl_leRF2, dl_ltLT2, dl_ltLF2, dl_ltRT2, dl_ltRF2, dl_eqRT2, dl_eqRF2, dl_leLT3, dl_leLF3, dl_leRT3, dl_leRF3, dl_ltLT3, dl_ltLF3, dl_ltRT3, dl_ltRF3, dl_eqRT3, dl_eqRF3, dl_leLT8, dl_leLF8, dl_leRT8, dl_leRF8, dl_ltLT8, dl_ltLF8, dl_ltRT8, dl_ltRF8, dl_eqRT8, dl_eqRF8, dl_leLT9, dl_leLF9, dl_leRT9, dl_leRF9, dl_ltLT9, dl_ltLF9, dl_ltRT9, dl_ltRF9, dl_eqRT9, dl_eqRF9, dl_leLT16, dl_leLF16, dl_leRT16, dl_leRF16, dl_ltLT16, dl_ltLF16, dl_ltRT16, dl_ltRF16, dl_eqRT16, dl_eqRF16, dl_leLT64, dl_leLF64, dl_leRT64, dl_leRF64, dl_ltLT64, dl_ltLF64, dl_ltRT64, dl_ltRF64, dl_eqRT64, dl_eqRF64, dl_leLT65, dl_leLF65, dl_leRT65, dl_leRF65, dl_ltLT65, dl_ltLF65, dl_ltRT65, dl_ltRF65, dl_eqRT65, dl_eqRF65, nz]
        refine ih (c + 1) _ z (by omega) (fun i j hi hj => ?_)
        by_cases e : i = c
        · subst e
          rw [pk_us, b_or, Bool.or_eq_true, gc j hj, gv j hj]
          constructor
          · rintro (w | w)
            · exact Or.inl ⟨by omega, Or.inl w⟩
            · exact Or.inl ⟨by omega, Or.inr ⟨(gc v (by omega)).mp q, w⟩⟩
          · rintro (⟨_, w | w⟩ | ⟨w, _⟩)
            · exact Or.inl w
            · exact Or.inr w.2
            · omega
        · rw [pk_un e, G i j hi hj]
          constructor
          · rintro (w | w)
            · exact Or.inl ⟨by omega, w.2⟩
            · exact Or.inr ⟨by omega, w.2⟩
          · rintro (w | w)
            · exact Or.inl ⟨by omega, w.2⟩
            · exact Or.inr ⟨by omega, w.2⟩
      · have nz : (((re' c) >>> (nI v &&& 31)) &&& 1) = 0 := (dl_bit (by omega)).mpr q
        simp (disch := omega) only [wX_findComponents_40, nI_clamp, dl_Ar, dl_Au, dl_leT, dl_leF, dl_ltT, dl_ltF, dl_eqT, dl_eqF, nI_add, nI_1, dl_inT, dl_sub, dl_sub1, dl_subm1, forall_eq, true_implies, false_implies, not_true, not_false_iff, true_and, and_true, dl_leLT0, dl_leLF0, dl_leRT0, dl_leRF0, dl_ltLT0, dl_ltLF0, dl_ltRT0, dl_ltRF0, dl_eqRT0, dl_eqRF0, dl_leLT1, dl_leLF1, dl_leRT1, dl_leRF1, dl_ltLT1, dl_ltLF1, dl_ltRT1, dl_ltRF1, dl_eqRT1, dl_eqRF1, dl_leLT2, dl_leLF2, dl_leRT2, dl_leRF2, dl_ltLT2, dl_ltLF2, dl_ltRT2, dl_ltRF2, dl_eqRT2, dl_eqRF2, dl_leLT3, dl_leLF3, dl_leRT3, dl_leRF3, dl_ltLT3, dl_ltLF3, dl_ltRT3, dl_ltRF3, dl_eqRT3, dl_eqRF3, dl_leLT8, dl_leLF8, dl_leRT8, dl_leRF8, dl_ltLT8, dl_ltLF8, dl_ltRT8, dl_ltRF8, dl_eqRT8, dl_eqRF8, dl_leLT9, dl_leLF9, dl_leRT9, dl_leRF9, dl_ltLT9, dl_ltLF9, dl_ltRT9, dl_ltRF9, dl_eqRT9, dl_eqRF9, dl_leLT16, dl_leLF16, dl_leRT16, dl_leRF16, dl_ltLT16, dl_ltLF16, dl_ltRT16, dl_ltRF16, dl_eqRT16, dl_eqRF16, dl_leLT64, dl_leLF64, dl_leRT64, dl_leRF64, dl_ltLT64, dl_ltLF64, dl_ltRT64, dl_ltRF64, dl_eqRT64, dl_eqRF64, dl_leLT65, dl_leLF65, dl_leRT65, dl_leRF65, dl_ltLT65, dl_ltLF65, dl_ltRT65, dl_ltRF65, dl_eqRT65, dl_eqRF65, nz]
        refine ih (c + 1) _ z (by omega) (fun i j hi hj => ?_)
        rw [G i j hi hj]
        by_cases e : i = c
        · subst e
          have nq : ¬ dl_P R v i v := fun w => q ((gc v (by omega)).mpr w)
          constructor
          · rintro (w | w)
            · omega
            · exact Or.inl ⟨by omega, Or.inl w.2⟩
          · rintro (⟨_, w | w⟩ | ⟨w, _⟩)
            · exact Or.inr ⟨Nat.le_refl _, w⟩
            · exact absurd w.1 nq
            · omega
        · constructor
          · rintro (w | w)
            · exact Or.inl ⟨by omega, w.2⟩
            · exact Or.inr ⟨by omega, w.2⟩
          · rintro (w | w)
            · exact Or.inl ⟨by omega, w.2⟩
            · exact Or.inr ⟨by omega, w.2⟩
    · have e : c = cnt := by omega
      subst e
      simp (disch := omega) only [wX_findComponents_40, nI_clamp, dl_Ar, dl_Au, dl_leT, dl_leF, dl_ltT, dl_ltF, dl_eqT, dl_eqF, nI_add, nI_1, dl_inT, dl_sub, dl_sub1, dl_subm1, forall_eq, true_implies, false_implies, not_true, not_false_iff, true_and, and_true, dl_leLT0, dl_leLF0, dl_leRT0, dl_leRF0, dl_ltLT0, dl_ltLF0, dl_ltRT0, dl_ltRF0, dl_eqRT0, dl_eqRF0, dl_leLT1, dl_leLF1, dl_leRT1, dl_leRF1, dl_ltLT1, dl_ltLF1, dl_ltRT1, dl_ltRF1, dl_eqRT1, dl_eqRF1, dl_leLT2, dl_leLF2, dl_leRT2, dl_leRF2, dl_ltLT2, dl_ltLF2, dl_ltRT2, dl_ltRF2, dl_eqRT2, dl_eqRF2, dl_leLT3, dl_leLF3, dl_leRT3, dl_leRF3, dl_ltLT3, dl_ltLF3, dl_ltRT3, dl_ltRF3, dl_eqRT3, dl_eqRF3, dl_leLT8, dl_leLF8, dl_leRT8, dl_leRF8, dl_ltLT8, dl_ltLF8, dl_ltRT8, dl_ltRF8, dl_eqRT8, dl_eqRF8, dl_leLT9, dl_leLF9, dl_leRT9, dl_leRF9, dl_ltLT9, dl_ltLF9, dl_ltRT9, dl_ltRF9, dl_eqRT9, dl_eqRF9, dl_leLT16, dl_leLF16, dl_leRT16, dl_leRF16, dl_ltLT16, dl_ltLF16, dl_ltRT16, dl_ltRF16, dl_eqRT16, dl_eqRF16, dl_leLT64, dl_leLF64, dl_leRT64, dl_leRF64, dl_ltLT64, dl_ltLF64, dl_ltRT64, dl_ltRF64, dl_eqRT64, dl_eqRF64, dl_leLT65, dl_leLF65, dl_leRT65, dl_leRF65, dl_ltLT65, dl_ltLF65, dl_ltRT65, dl_ltRF65, dl_eqRT65, dl_eqRF65]
      exact H re' (fun i j hi hj => (G i j hi hj).trans ⟨fun q => q.elim (fun w => w.2) (fun w => by omega), fun q => Or.inl ⟨hi, q⟩⟩)
theorem dl_xcof (post : Int32 → Prop) (hcnt : cnt ≤ 16) (hK : ∀ c, c < cnt → K c < 2147483648) {R : Nat → Nat → Prop} (hR : ∀ a b, dl_Tr R a b → b < cnt) (G : dl_Rw cnt re (dl_Tr R)) {c : Nat} (hc : c < cnt)
    (H : ∀ m, (∀ j, j < 32 → (bt m j = true ↔ (K c = 1 ∧ (j = c ∨ (dl_Tr R c j ∧ dl_Tr R j c))))) → post m) : wpX_componentOf post (nI C, nI L, nI ph, nI ol, nI T, nI cnt, nI ls, nI co, kp, nI dn, nI pl, bu, dl_A K, dl_A S, dl_A D, dl_A N, dl_A A, pool, dl_A bD, bf, af, cm, dl_A sq, dl_A po, dl_A ws, dl_A ss, ed, re, dl_A bd) (nI c) := by
  have hk := hK c hc
  by_cases k : K c = 1
  · have key : ∀ f x m, x ≤ cnt → cnt - x < f → (∀ j, j < 32 → (bt m j = true ↔ (j = c ∨ (j < x ∧ dl_Tr R c j ∧ dl_Tr R j c)))) → wX_componentOf_18 post (nI c) (nI C) (nI L) (nI ph) (nI ol) (nI T) (nI cnt) (nI ls) (nI co) kp (nI dn) (nI pl) bu (dl_A K) (dl_A S) (dl_A D) (dl_A N) (dl_A A) pool (dl_A bD) bf af cm (dl_A sq) (dl_A po) (dl_A ws) (dl_A ss) ed re (dl_A bd) f m (nI x) := by
      intro f
      induction f with
      | zero => intro x m _ h; omega
      | succ f ih =>
        intro x m h1 h2 I
        rcases Nat.lt_or_ge x cnt with z | z
        · have b2 := dl_2bit (x := re c) (y := re x) (i := x) (j := c) (by omega) (by omega)
          rw [G c x hc (by omega), G x c z (by omega)] at b2
          by_cases q : dl_Tr R c x ∧ dl_Tr R x c
          · have nz : ¬ ((((re c) >>> (nI x &&& 31)) &&& ((re x) >>> (nI c &&& 31))) &&& 1) = 0 := fun e => b2.mp e q
            simp (disch := omega) only [wX_componentOf_18, nI_clamp, dl_Ar, dl_Au, dl_leT, dl_leF, dl_ltT, dl_ltF, dl_eqT, dl_eqF, nI_add, nI_1, dl_inT, dl_sub, dl_sub1, dl_subm1, forall_eq, true_implies, false_implies, not_true, not_false_iff, true_and, and_true, dl_leLT0, dl_leLF0, dl_leRT0, dl_leRF0, dl_ltLT0, dl_ltLF0, dl_ltRT0, dl_ltRF0, dl_eqRT0, dl_eqRF0, dl_leLT1, dl_leLF1, dl_leRT1, dl_leRF1, dl_ltLT1, dl_ltLF1, dl_ltRT1, dl_ltRF1, dl_eqRT1, dl_eqRF1, dl_leLT2, dl_leLF2, dl_leRT2, dl_leRF2, dl_ltLT2, dl_ltLF2, dl_ltRT2, dl_ltRF2, dl_eqRT2, dl_eqRF2, dl_leLT3, dl_leLF3, dl_leRT3, dl_leRF3, dl_ltLT3, dl_ltLF3, dl_ltRT3, dl_ltRF3, dl_eqRT3, dl_eqRF3, dl_leLT8, dl_leLF8, dl_leRT8, dl_leRF8, dl_ltLT8, dl_ltLF8, dl_ltRT8, dl_ltRF8, dl_eqRT8, dl_eqRF8, dl_leLT9, dl_leLF9, dl_leRT9, dl_leRF9, dl_ltLT9, dl_ltLF9, dl_ltRT9, dl_ltRF9, dl_eqRT9, dl_eqRF9, dl_leLT16, dl_leLF16, dl_leRT16, dl_leRF16, dl_ltLT16, dl_ltLF16, dl_ltRT16, dl_ltRF16, dl_eqRT16, dl_eqRF16, dl_leLT64, dl_leLF64, dl_leRT64, dl_leRF64, dl_ltLT64, dl_ltLF64, dl_ltRT64, dl_ltRF64, dl_eqRT64, dl_eqRF64, dl_leLT65, dl_leLF65, dl_leRT65, dl_leRF65, dl_ltLT65, dl_ltLF65, dl_ltRT65, dl_ltRF65, dl_eqRT65, dl_eqRF65, nz]
            refine ih (x + 1) _ z (by omega) (fun j hj => ?_)
            rw [dl_or1 (by omega) hj, I j hj]
            constructor
            · rintro ((w | w) | w)
              · exact Or.inl w
              · exact Or.inr ⟨by omega, w.2⟩
              · rw [w]; exact Or.inr ⟨by omega, q⟩
            · rintro (w | w)
              · exact Or.inl (Or.inl w)
              · by_cases e : j = x
                · exact Or.inr e
                · exact Or.inl (Or.inr ⟨by omega, w.2⟩)
          · have nz : ((((re c) >>> (nI x &&& 31)) &&& ((re x) >>> (nI c &&& 31))) &&& 1) = 0 := b2.mpr q
            simp (disch := omega) only [wX_componentOf_18, nI_clamp, dl_Ar, dl_Au, dl_leT, dl_leF, dl_ltT, dl_ltF, dl_eqT, dl_eqF, nI_add, nI_1, dl_inT, dl_sub, dl_sub1, dl_subm1, forall_eq, true_implies, false_implies, not_true, not_false_iff, true_and, and_true, dl_leLT0, dl_leLF0, dl_leRT0, dl_leRF0, dl_ltLT0, dl_ltLF0, dl_ltRT0, dl_ltRF0, dl_eqRT0, dl_eqRF0, dl_leLT1, dl_leLF1, dl_leRT1, dl_leRF1, dl_ltLT1, dl_ltLF1, dl_ltRT1, dl_ltRF1, dl_eqRT1, dl_eqRF1, dl_leLT2, dl_leLF2, dl_leRT2, dl_leRF2, dl_ltLT2, dl_ltLF2, dl_ltRT2, dl_ltRF2, dl_eqRT2, dl_eqRF2, dl_leLT3, dl_leLF3, dl_leRT3, dl_leRF3, dl_ltLT3, dl_ltLF3, dl_ltRT3, dl_ltRF3, dl_eqRT3, dl_eqRF3, dl_leLT8, dl_leLF8, dl_leRT8, dl_leRF8, dl_ltLT8, dl_ltLF8, dl_ltRT8, dl_ltRF8, dl_eqRT8, dl_eqRF8, dl_leLT9, dl_leLF9, dl_leRT9, dl_leRF9, dl_ltLT9, dl_ltLF9, dl_ltRT9, dl_ltRF9, dl_eqRT9, dl_eqRF9, dl_leLT16, dl_leLF16, dl_leRT16, dl_leRF16, dl_ltLT16, dl_ltLF16, dl_ltRT16, dl_ltRF16, dl_eqRT16, dl_eqRF16, dl_leLT64, dl_leLF64, dl_leRT64, dl_leRF64, dl_ltLT64, dl_ltLF64, dl_ltRT64, dl_ltRF64, dl_eqRT64, dl_eqRF64, dl_leLT65, dl_leLF65, dl_leRT65, dl_leRF65, dl_ltLT65, dl_ltLF65, dl_ltRT65, dl_ltRF65, dl_eqRT65, dl_eqRF65, nz]
            refine ih (x + 1) _ z (by omega) (fun j hj => ?_)
            rw [I j hj]
            constructor
            · rintro (w | w)
              · exact Or.inl w
              · exact Or.inr ⟨by omega, w.2⟩
            · rintro (w | w)
              · exact Or.inl w
              · by_cases e : j = x
                · rw [e] at w; exact absurd w.2 q
                · exact Or.inr ⟨by omega, w.2⟩
        · have e : x = cnt := by omega
          subst e
          simp (disch := omega) only [wX_componentOf_18, nI_clamp, dl_Ar, dl_Au, dl_leT, dl_leF, dl_ltT, dl_ltF, dl_eqT, dl_eqF, nI_add, nI_1, dl_inT, dl_sub, dl_sub1, dl_subm1, forall_eq, true_implies, false_implies, not_true, not_false_iff, true_and, and_true, dl_leLT0, dl_leLF0, dl_leRT0, dl_leRF0, dl_ltLT0, dl_ltLF0, dl_ltRT0, dl_ltRF0, dl_eqRT0, dl_eqRF0, dl_leLT1, dl_leLF1, dl_leRT1, dl_leRF1, dl_ltLT1, dl_ltLF1, dl_ltRT1, dl_ltRF1, dl_eqRT1, dl_eqRF1, dl_leLT2, dl_leLF2, dl_leRT2, dl_leRF2, dl_ltLT2, dl_ltLF2, dl_ltRT2, dl_ltRF2, dl_eqRT2, dl_eqRF2, dl_leLT3, dl_leLF3, dl_leRT3, dl_leRF3, dl_ltLT3, dl_ltLF3, dl_ltRT3, dl_ltRF3, dl_eqRT3, dl_eqRF3, dl_leLT8, dl_leLF8, dl_leRT8, dl_leRF8, dl_ltLT8, dl_ltLF8, dl_ltRT8, dl_ltRF8, dl_eqRT8, dl_eqRF8, dl_leLT9, dl_leLF9, dl_leRT9, dl_leRF9, dl_ltLT9, dl_ltLF9, dl_ltRT9, dl_ltRF9, dl_eqRT9, dl_eqRF9, dl_leLT16, dl_leLF16, dl_leRT16, dl_leRF16, dl_ltLT16, dl_ltLF16, dl_ltRT16, dl_ltRF16, dl_eqRT16, dl_eqRF16, dl_leLT64, dl_leLF64, dl_leRT64, dl_leRF64, dl_ltLT64, dl_ltLF64, dl_ltRT64, dl_ltRF64, dl_eqRT64, dl_eqRF64, dl_leLT65, dl_leLF65, dl_leRT65, dl_leRF65, dl_ltLT65, dl_ltLF65, dl_ltRT65, dl_ltRF65, dl_eqRT65, dl_eqRF65]
          refine H m (fun j hj => (I j hj).trans ?_)
          constructor
          · rintro (w | w)
            · exact ⟨k, Or.inl w⟩
            · exact ⟨k, Or.inr w.2⟩
          · rintro ⟨_, w | w⟩
            · exact Or.inl w
            · exact Or.inr ⟨hR _ _ w.1, w⟩
    simp (disch := omega) only [wpX_componentOf, nI_clamp, dl_Ar, dl_Au, dl_leT, dl_leF, dl_ltT, dl_ltF, dl_eqT, dl_eqF, nI_add, nI_1, dl_inT, dl_sub, dl_sub1, dl_subm1, forall_eq, true_implies, false_implies, not_true, not_false_iff, true_and, and_true, dl_leLT0, dl_leLF0, dl_leRT0, dl_leRF0, dl_ltLT0, dl_ltLF0, dl_ltRT0, dl_ltRF0, dl_eqRT0, dl_eqRF0, dl_leLT1, dl_leLF1, dl_leRT1, dl_leRF1, dl_ltLT1, dl_ltLF1, dl_ltRT1, dl_ltRF1, dl_eqRT1, dl_eqRF1, dl_leLT2, dl_leLF2, dl_leRT2, dl_leRF2, dl_ltLT2, dl_ltLF2, dl_ltRT2, dl_ltRF2, dl_eqRT2, dl_eqRF2, dl_leLT3, dl_leLF3, dl_leRT3, dl_leRF3, dl_ltLT3, dl_ltLF3, dl_ltRT3, dl_ltRF3, dl_eqRT3, dl_eqRF3, dl_leLT8, dl_leLF8, dl_leRT8, dl_leRF8, dl_ltLT8, dl_ltLF8, dl_ltRT8, dl_ltRF8, dl_eqRT8, dl_eqRF8, dl_leLT9, dl_leLF9, dl_leRT9, dl_leRF9, dl_ltLT9, dl_ltLF9, dl_ltRT9, dl_ltRF9, dl_eqRT9, dl_eqRF9, dl_leLT16, dl_leLF16, dl_leRT16, dl_leRF16, dl_ltLT16, dl_ltLF16, dl_ltRT16, dl_ltRF16, dl_eqRT16, dl_eqRF16, dl_leLT64, dl_leLF64, dl_leRT64, dl_leRF64, dl_ltLT64, dl_ltLF64, dl_ltRT64, dl_ltRF64, dl_eqRT64, dl_eqRF64, dl_leLT65, dl_leLF65, dl_leRT65, dl_leRF65, dl_ltLT65, dl_ltLF65, dl_ltRT65, dl_ltRF65, dl_eqRT65, dl_eqRF65]
    refine ⟨cnt + 1, key _ 0 _ (by omega) (by omega) (fun j hj => ?_)⟩
    rw [dl_sh1 (by omega) hj, decide_eq_true_eq]
    exact ⟨Or.inl, fun q => q.elim id (fun w => by omega)⟩
  · simp (disch := omega) only [wpX_componentOf, nI_clamp, dl_Ar, dl_Au, dl_leT, dl_leF, dl_ltT, dl_ltF, dl_eqT, dl_eqF, nI_add, nI_1, dl_inT, dl_sub, dl_sub1, dl_subm1, forall_eq, true_implies, false_implies, not_true, not_false_iff, true_and, and_true, dl_leLT0, dl_leLF0, dl_leRT0, dl_leRF0, dl_ltLT0, dl_ltLF0, dl_ltRT0, dl_ltRF0, dl_eqRT0, dl_eqRF0, dl_leLT1, dl_leLF1, dl_leRT1, dl_leRF1, dl_ltLT1, dl_ltLF1, dl_ltRT1, dl_ltRF1, dl_eqRT1, dl_eqRF1, dl_leLT2, dl_leLF2, dl_leRT2, dl_leRF2, dl_ltLT2, dl_ltLF2, dl_ltRT2, dl_ltRF2, dl_eqRT2, dl_eqRF2, dl_leLT3, dl_leLF3, dl_leRT3, dl_leRF3, dl_ltLT3, dl_ltLF3, dl_ltRT3, dl_ltRF3, dl_eqRT3, dl_eqRF3, dl_leLT8, dl_leLF8, dl_leRT8, dl_leRF8, dl_ltLT8, dl_ltLF8, dl_ltRT8, dl_ltRF8, dl_eqRT8, dl_eqRF8, dl_leLT9, dl_leLF9, dl_leRT9, dl_leRF9, dl_ltLT9, dl_ltLF9, dl_ltRT9, dl_ltRF9, dl_eqRT9, dl_eqRF9, dl_leLT16, dl_leLF16, dl_leRT16, dl_leRF16, dl_ltLT16, dl_ltLF16, dl_ltRT16, dl_ltRF16, dl_eqRT16, dl_eqRF16, dl_leLT64, dl_leLF64, dl_leRT64, dl_leRF64, dl_ltLT64, dl_ltLF64, dl_ltRT64, dl_ltRF64, dl_eqRT64, dl_eqRF64, dl_leLT65, dl_leLF65, dl_leRT65, dl_leRF65, dl_ltLT65, dl_ltLF65, dl_ltRT65, dl_ltRF65, dl_eqRT65, dl_eqRF65]
    refine H 0 (fun j hj => ?_)
    rw [b_0]
    exact ⟨fun z => absurd z (by decide), fun z => absurd z.1 k⟩
theorem dl_xfc (post : SX → Prop) (B : dl_Bs C L ol T cnt K S D N) (G : dl_BA bf af (dl_R cnt K S D N))
    (H : ∀ re' cm', dl_CC cnt K (dl_R cnt K S D N) cm' cnt → post (nI C, nI L, nI ph, nI ol, nI T, nI cnt, nI ls, nI co, kp, nI dn, nI pl, bu, dl_A K, dl_A S, dl_A D, dl_A N, dl_A A, pool, dl_A bD, bf, af, cm', dl_A sq, dl_A po, dl_A ws, dl_A ss, ed, re', dl_A bd)) : wpX_findComponents post (nI C, nI L, nI ph, nI ol, nI T, nI cnt, nI ls, nI co, kp, nI dn, nI pl, bu, dl_A K, dl_A S, dl_A D, dl_A N, dl_A A, pool, dl_A bD, bf, af, cm, dl_A sq, dl_A po, dl_A ws, dl_A ss, ed, re, dl_A bd) := by
  obtain ⟨b1, b2, b3, b4, b5, b6, b7, b8⟩ := B
  have hK : ∀ c, c < cnt → K c < 2147483648 := fun c hc => by have := (b8 c hc).2.2; omega
  have k90 : ∀ re', dl_Rw cnt re' (dl_Tr (dl_R cnt K S D N)) → ∀ f c cm', c ≤ cnt → cnt - c < f → dl_CC cnt K (dl_R cnt K S D N) cm' c → wX_findComponents_90 post (nI C) (nI L) (nI ph) (nI ol) (nI T) (nI cnt) (nI ls) (nI co) kp (nI dn) (nI pl) f (nI c) bu (dl_A K) (dl_A S) (dl_A D) (dl_A N) (dl_A A) pool (dl_A bD) bf af cm' (dl_A sq) (dl_A po) (dl_A ws) (dl_A ss) ed re' (dl_A bd) := by
    intro re' Gr f
    induction f with
    | zero => intro c cm' _ h; omega
    | succ f ih =>
      intro c cm' h1 h2 I
      rcases Nat.lt_or_ge c cnt with z | z
      · simp (disch := omega) only [wX_findComponents_90, nI_clamp, dl_Ar, dl_Au, dl_leT, dl_leF, dl_ltT, dl_ltF, dl_eqT, dl_eqF, nI_add, nI_1, dl_inT, dl_sub, dl_sub1, dl_subm1, forall_eq, true_implies, false_implies, not_true, not_false_iff, true_and, and_true, dl_leLT0, dl_leLF0, dl_leRT0, dl_leRF0, dl_ltLT0, dl_ltLF0, dl_ltRT0, dl_ltRF0, dl_eqRT0, dl_eqRF0, dl_leLT1, dl_leLF1, dl_leRT1, dl_leRF1, dl_ltLT1, dl_ltLF1, dl_ltRT1, dl_ltRF1, dl_eqRT1, dl_eqRF1, dl_leLT2, dl_leLF2, dl_leRT2, dl_leRF2, dl_ltLT2, dl_ltLF2, dl_ltRT2, dl_ltRF2, dl_eqRT2, dl_eqRF2, dl_leLT3, dl_leLF3, dl_leRT3, dl_leRF3, dl_ltLT3, dl_ltLF3, dl_ltRT3, dl_ltRF3, dl_eqRT3, dl_eqRF3, dl_leLT8, dl_leLF8, dl_leRT8, dl_leRF8, dl_ltLT8, dl_ltLF8, dl_ltRT8, dl_ltRF8, dl_eqRT8, dl_eqRF8, dl_leLT9, dl_leLF9, dl_leRT9, dl_leRF9, dl_ltLT9, dl_ltLF9, dl_ltRT9, dl_ltRF9, dl_eqRT9, dl_eqRF9, dl_leLT16, dl_leLF16, dl_leRT16, dl_leRF16, dl_ltLT16, dl_ltLF16, dl_ltRT16, dl_ltRF16, dl_eqRT16, dl_eqRF16, dl_leLT64, dl_leLF64, dl_leRT64, dl_leRF64, dl_ltLT64, dl_ltLF64, dl_ltRT64, dl_ltRF64, dl_eqRT64, dl_eqRF64, dl_leLT65, dl_leLF65, dl_leRT65, dl_leRF65, dl_ltLT65, dl_ltLF65, dl_ltRT65, dl_ltRF65, dl_eqRT65, dl_eqRF65]
        refine dl_xcof _ (by omega) hK (fun a b h => dl_Tr_lt h) Gr z (fun m hm => ?_)
        refine ih (c + 1) _ z (by omega) (fun d j hd hj => ?_)
        by_cases e : d = c
        · subst e; rw [pk_us]; exact hm j hj
        · rw [pk_un e]; exact I d j (by omega) hj
      · have e : c = cnt := by omega
        subst e
        simp (disch := omega) only [wX_findComponents_90, nI_clamp, dl_Ar, dl_Au, dl_leT, dl_leF, dl_ltT, dl_ltF, dl_eqT, dl_eqF, nI_add, nI_1, dl_inT, dl_sub, dl_sub1, dl_subm1, forall_eq, true_implies, false_implies, not_true, not_false_iff, true_and, and_true, dl_leLT0, dl_leLF0, dl_leRT0, dl_leRF0, dl_ltLT0, dl_ltLF0, dl_ltRT0, dl_ltRF0, dl_eqRT0, dl_eqRF0, dl_leLT1, dl_leLF1, dl_leRT1, dl_leRF1, dl_ltLT1, dl_ltLF1, dl_ltRT1, dl_ltRF1, dl_eqRT1, dl_eqRF1, dl_leLT2, dl_leLF2, dl_leRT2, dl_leRF2, dl_ltLT2, dl_ltLF2, dl_ltRT2, dl_ltRF2, dl_eqRT2, dl_eqRF2, dl_leLT3, dl_leLF3, dl_leRT3, dl_leRF3, dl_ltLT3, dl_ltLF3, dl_ltRT3, dl_ltRF3, dl_eqRT3, dl_eqRF3, dl_leLT8, dl_leLF8, dl_leRT8, dl_leRF8, dl_ltLT8, dl_ltLF8, dl_ltRT8, dl_ltRF8, dl_eqRT8, dl_eqRF8, dl_leLT9, dl_leLF9, dl_leRT9, dl_leRF9, dl_ltLT9, dl_ltLF9, dl_ltRT9, dl_ltRF9, dl_eqRT9, dl_eqRF9, dl_leLT16, dl_leLF16, dl_leRT16, dl_leRF16, dl_ltLT16, dl_ltLF16, dl_ltRT16, dl_ltRF16, dl_eqRT16, dl_eqRF16, dl_leLT64, dl_leLF64, dl_leRT64, dl_leRF64, dl_ltLT64, dl_ltLF64, dl_ltRT64, dl_ltRF64, dl_eqRT64, dl_eqRF64, dl_leLT65, dl_leLF65, dl_leRT65, dl_leRF65, dl_ltLT65, dl_ltLF65, dl_ltRT65, dl_ltRF65, dl_eqRT65, dl_eqRF65]
        exact H re' cm' I
  have k30 : ∀ f v re', v ≤ cnt → cnt - v < f → dl_Rw cnt re' (dl_P (dl_R cnt K S D N) v) → wX_findComponents_30 post (nI C) (nI L) (nI ph) (nI ol) (nI T) (nI cnt) (nI ls) (nI co) kp (nI dn) (nI pl) f (nI v) bu (dl_A K) (dl_A S) (dl_A D) (dl_A N) (dl_A A) pool (dl_A bD) bf af cm (dl_A sq) (dl_A po) (dl_A ws) (dl_A ss) ed re' (dl_A bd) := by
    intro f
    induction f with
    | zero => intro v re' _ h; omega
    | succ f ih =>
      intro v re' h1 h2 I
      rcases Nat.lt_or_ge v cnt with z | z
      · simp (disch := omega) only [wX_findComponents_30, nI_clamp, dl_Ar, dl_Au, dl_leT, dl_leF, dl_ltT, dl_ltF, dl_eqT, dl_eqF, nI_add, nI_1, dl_inT, dl_sub, dl_sub1, dl_subm1, forall_eq, true_implies, false_implies, not_true, not_false_iff, true_and, and_true, dl_leLT0, dl_leLF0, dl_leRT0, dl_leRF0, dl_ltLT0, dl_ltLF0, dl_ltRT0, dl_ltRF0, dl_eqRT0, dl_eqRF0, dl_leLT1, dl_leLF1, dl_leRT1, dl_leRF1, dl_ltLT1, dl_ltLF1, dl_ltRT1, dl_ltRF1, dl_eqRT1, dl_eqRF1, dl_leLT2, dl_leLF2, dl_leRT2, dl_leRF2, dl_ltLT2, dl_ltLF2, dl_ltRT2, dl_ltRF2, dl_eqRT2, dl_eqRF2, dl_leLT3, dl_leLF3, dl_leRT3, dl_leRF3, dl_ltLT3, dl_ltLF3, dl_ltRT3, dl_ltRF3, dl_eqRT3, dl_eqRF3, dl_leLT8, dl_leLF8, dl_leRT8, dl_leRF8, dl_ltLT8, dl_ltLF8, dl_ltRT8, dl_ltRF8, dl_eqRT8, dl_eqRF8, dl_leLT9, dl_leLF9, dl_leRT9, dl_leRF9, dl_ltLT9, dl_ltLF9, dl_ltRT9, dl_ltRF9, dl_eqRT9, dl_eqRF9, dl_leLT16, dl_leLF16, dl_leRT16, dl_leRF16, dl_ltLT16, dl_ltLF16, dl_ltRT16, dl_ltRF16, dl_eqRT16, dl_eqRF16, dl_leLT64, dl_leLF64, dl_leRT64, dl_leRF64, dl_ltLT64, dl_ltLF64, dl_ltRT64, dl_ltRF64, dl_eqRT64, dl_eqRF64, dl_leLT65, dl_leLF65, dl_leRT65, dl_leRF65, dl_ltLT65, dl_ltLF65, dl_ltRT65, dl_ltRF65, dl_eqRT65, dl_eqRF65]
        refine ⟨cnt + 1, dl_xfc40 post _ (by omega) (R := dl_R cnt K S D N) z (fun re2 I2 => ih (v + 1) re2 z (by omega) I2) _ 0 re' (by omega) (by omega) (fun i j hi hj => (I i j hi hj).trans ?_)⟩
        exact ⟨fun q => Or.inr ⟨Nat.zero_le _, q⟩, fun q => q.elim (fun w => by omega) (fun w => w.2)⟩
      · have e : v = cnt := by omega
        subst e
        simp (disch := omega) only [wX_findComponents_30, nI_clamp, dl_Ar, dl_Au, dl_leT, dl_leF, dl_ltT, dl_ltF, dl_eqT, dl_eqF, nI_add, nI_1, dl_inT, dl_sub, dl_sub1, dl_subm1, forall_eq, true_implies, false_implies, not_true, not_false_iff, true_and, and_true, dl_leLT0, dl_leLF0, dl_leRT0, dl_leRF0, dl_ltLT0, dl_ltLF0, dl_ltRT0, dl_ltRF0, dl_eqRT0, dl_eqRF0, dl_leLT1, dl_leLF1, dl_leRT1, dl_leRF1, dl_ltLT1, dl_ltLF1, dl_ltRT1, dl_ltRF1, dl_eqRT1, dl_eqRF1, dl_leLT2, dl_leLF2, dl_leRT2, dl_leRF2, dl_ltLT2, dl_ltLF2, dl_ltRT2, dl_ltRF2, dl_eqRT2, dl_eqRF2, dl_leLT3, dl_leLF3, dl_leRT3, dl_leRF3, dl_ltLT3, dl_ltLF3, dl_ltRT3, dl_ltRF3, dl_eqRT3, dl_eqRF3, dl_leLT8, dl_leLF8, dl_leRT8, dl_leRF8, dl_ltLT8, dl_ltLF8, dl_ltRT8, dl_ltRF8, dl_eqRT8, dl_eqRF8, dl_leLT9, dl_leLF9, dl_leRT9, dl_leRF9, dl_ltLT9, dl_ltLF9, dl_ltRT9, dl_ltRF9, dl_eqRT9, dl_eqRF9, dl_leLT16, dl_leLF16, dl_leRT16, dl_leRF16, dl_ltLT16, dl_ltLF16, dl_ltRT16, dl_ltRF16, dl_eqRT16, dl_eqRF16, dl_leLT64, dl_leLF64, dl_leRT64, dl_leRF64, dl_ltLT64, dl_ltLF64, dl_ltRT64, dl_ltRF64, dl_eqRT64, dl_eqRF64, dl_leLT65, dl_leLF65, dl_leRT65, dl_leRF65, dl_ltLT65, dl_ltLF65, dl_ltRT65, dl_ltRF65, dl_eqRT65, dl_eqRF65]
        exact ⟨v + 1, k90 re' (fun i j hi hj => (I i j hi hj).trans (dl_P_iff dl_R_lt)) _ 0 cm (by omega) (by omega) (fun d j hd => by omega)⟩
  have k2 : ∀ f c re', c ≤ cnt → cnt - c < f → (∀ i, i < c → re' i = bf i) → wX_findComponents_2 post (nI C) (nI L) (nI ph) (nI ol) (nI T) (nI cnt) (nI ls) (nI co) kp (nI dn) (nI pl) f (nI c) bu (dl_A K) (dl_A S) (dl_A D) (dl_A N) (dl_A A) pool (dl_A bD) bf af cm (dl_A sq) (dl_A po) (dl_A ws) (dl_A ss) ed re' (dl_A bd) := by
    intro f
    induction f with
    | zero => intro c re' _ h; omega
    | succ f ih =>
      intro c re' h1 h2 I
      rcases Nat.lt_or_ge c cnt with z | z
      · simp (disch := omega) only [wX_findComponents_2, nI_clamp, dl_Ar, dl_Au, dl_leT, dl_leF, dl_ltT, dl_ltF, dl_eqT, dl_eqF, nI_add, nI_1, dl_inT, dl_sub, dl_sub1, dl_subm1, forall_eq, true_implies, false_implies, not_true, not_false_iff, true_and, and_true, dl_leLT0, dl_leLF0, dl_leRT0, dl_leRF0, dl_ltLT0, dl_ltLF0, dl_ltRT0, dl_ltRF0, dl_eqRT0, dl_eqRF0, dl_leLT1, dl_leLF1, dl_leRT1, dl_leRF1, dl_ltLT1, dl_ltLF1, dl_ltRT1, dl_ltRF1, dl_eqRT1, dl_eqRF1, dl_leLT2, dl_leLF2, dl_leRT2, dl_leRF2, dl_ltLT2, dl_ltLF2, dl_ltRT2, dl_ltRF2, dl_eqRT2, dl_eqRF2, dl_leLT3, dl_leLF3, dl_leRT3, dl_leRF3, dl_ltLT3, dl_ltLF3, dl_ltRT3, dl_ltRF3, dl_eqRT3, dl_eqRF3, dl_leLT8, dl_leLF8, dl_leRT8, dl_leRF8, dl_ltLT8, dl_ltLF8, dl_ltRT8, dl_ltRF8, dl_eqRT8, dl_eqRF8, dl_leLT9, dl_leLF9, dl_leRT9, dl_leRF9, dl_ltLT9, dl_ltLF9, dl_ltRT9, dl_ltRF9, dl_eqRT9, dl_eqRF9, dl_leLT16, dl_leLF16, dl_leRT16, dl_leRF16, dl_ltLT16, dl_ltLF16, dl_ltRT16, dl_ltRF16, dl_eqRT16, dl_eqRF16, dl_leLT64, dl_leLF64, dl_leRT64, dl_leRF64, dl_ltLT64, dl_ltLF64, dl_ltRT64, dl_ltRF64, dl_eqRT64, dl_eqRF64, dl_leLT65, dl_leLF65, dl_leRT65, dl_leRF65, dl_ltLT65, dl_ltLF65, dl_ltRT65, dl_ltRF65, dl_eqRT65, dl_eqRF65]
        refine ih (c + 1) _ z (by omega) (fun i hi => ?_)
        by_cases e : i = c
        · rw [e, pk_us]
        · rw [pk_un e]; exact I i (by omega)
      · have e : c = cnt := by omega
        subst e
        simp (disch := omega) only [wX_findComponents_2, nI_clamp, dl_Ar, dl_Au, dl_leT, dl_leF, dl_ltT, dl_ltF, dl_eqT, dl_eqF, nI_add, nI_1, dl_inT, dl_sub, dl_sub1, dl_subm1, forall_eq, true_implies, false_implies, not_true, not_false_iff, true_and, and_true, dl_leLT0, dl_leLF0, dl_leRT0, dl_leRF0, dl_ltLT0, dl_ltLF0, dl_ltRT0, dl_ltRF0, dl_eqRT0, dl_eqRF0, dl_leLT1, dl_leLF1, dl_leRT1, dl_leRF1, dl_ltLT1, dl_ltLF1, dl_ltRT1, dl_ltRF1, dl_eqRT1, dl_eqRF1, dl_leLT2, dl_leLF2, dl_leRT2, dl_leRF2, dl_ltLT2, dl_ltLF2, dl_ltRT2, dl_ltRF2, dl_eqRT2, dl_eqRF2, dl_leLT3, dl_leLF3, dl_leRT3, dl_leRF3, dl_ltLT3, dl_ltLF3, dl_ltRT3, dl_ltRF3, dl_eqRT3, dl_eqRF3, dl_leLT8, dl_leLF8, dl_leRT8, dl_leRF8, dl_ltLT8, dl_ltLF8, dl_ltRT8, dl_ltRF8, dl_eqRT8, dl_eqRF8, dl_leLT9, dl_leLF9, dl_leRT9, dl_leRF9, dl_ltLT9, dl_ltLF9, dl_ltRT9, dl_ltRF9, dl_eqRT9, dl_eqRF9, dl_leLT16, dl_leLF16, dl_leRT16, dl_leRF16, dl_ltLT16, dl_ltLF16, dl_ltRT16, dl_ltRF16, dl_eqRT16, dl_eqRF16, dl_leLT64, dl_leLF64, dl_leRT64, dl_leRF64, dl_ltLT64, dl_ltLF64, dl_ltRT64, dl_ltRF64, dl_eqRT64, dl_eqRF64, dl_leLT65, dl_leLF65, dl_leRT65, dl_leRF65, dl_ltLT65, dl_ltLF65, dl_ltRT65, dl_ltRF65, dl_eqRT65, dl_eqRF65]
        exact ⟨c + 1, k30 _ 0 re' (by omega) (by omega) (fun i j hi hj => by rw [I i hi]; exact G.1 i j (by omega) hj)⟩
  exact ⟨cnt + 1, k2 _ 0 re (by omega) (by omega) (fun i hi => by omega)⟩
end
end
section
def dl_G (N : Nat → Nat) (a b : Nat) : Prop := N b < N a ∨ (N a = N b ∧ a < b)
def dl_Sb (cnt : Nat) (K N β : Nat → Nat) (m : Nat) : Prop := dl_srt (dl_G N) (fun c => c < cnt ∧ K c = 1) β m
def dl_cst (N F : Nat → Nat) (cnt : Nat) : Nat := dl_s (fun c => if F c = 3 then N c else 0) cnt
def dl_KF (cnt : Nat) (F : Nat → Nat) (kp : Int32) : Prop := ∀ j, j < 32 → (bt kp j = true ↔ (j < cnt ∧ F j = 1))
section
variable {C L ph ol T cnt ls co dn pl dy : Nat} {kp : Int32} {K S D N A bD sq po ws ss bd F P : Nat → Nat} {bu pool bf af cm ed re old nxt dat mk : Nat → Int32}
theorem dl_xsb24 (post : Int32 → SX → Prop) (J : Int32 → Int32 → (Nat → Int32) → (Nat → Int32) → (Nat → Int32) → (Nat → Int32) → (Nat → Int32) → (Nat → Int32) → (Nat → Int32) → (Nat → Int32) → (Nat → Int32) → (Nat → Int32) → (Nat → Int32) → (Nat → Int32) → (Nat → Int32) → (Nat → Int32) → (Nat → Int32) → (Nat → Int32) → (Nat → Int32) → (Nat → Int32) → Prop) (hcnt : cnt ≤ 16) (hN : ∀ i, i < cnt → N i < 2147483648) {c m : Nat} (hc : c < cnt) (hk : K c = 1) (hm : m ≤ c) {σ : Nat → Nat}
    (Q : dl_srt (dl_G N) (fun d => d < c ∧ K d = 1) σ m) (H : ∀ τ, dl_srt (dl_G N) (fun d => d < c + 1 ∧ K d = 1) τ (m + 1) → J (nI (m + 1)) (nI (c + 1)) bu (dl_A K) (dl_A S) (dl_A D) (dl_A N) (dl_A A) pool (dl_A bD) bf af cm (dl_A sq) (dl_A po) (dl_A ws) (dl_A ss) ed re (dl_A τ)) :
    ∀ f x τ, x ≤ m → x < f → (∀ s, s < x → τ s = σ s) → (∀ s, x < s → s ≤ m → τ s = σ (s - 1)) → (∀ s, x ≤ s → s < m → dl_G N c (σ s)) → wX_sortByDearness_24 post J (nI m) (nI c) (nI C) (nI L) (nI ph) (nI ol) (nI T) (nI cnt) (nI ls) (nI co) kp (nI dn) (nI pl) f (nI x) bu (dl_A K) (dl_A S) (dl_A D) (dl_A N) (dl_A A) pool (dl_A bD) bf af cm (dl_A sq) (dl_A po) (dl_A ws) (dl_A ss) ed re (dl_A τ) := by
  intro f
  have hNc := hN c hc
  induction f with
  | zero => intro x τ _ h; omega
  | succ f ih =>
    intro x τ hx hf lo hi gh
    have fin : (∀ s, s < x → dl_G N (σ s) c) → J (nI (m + 1)) (nI (c + 1)) bu (dl_A K) (dl_A S) (dl_A D) (dl_A N) (dl_A A) pool (dl_A bD) bf af cm (dl_A sq) (dl_A po) (dl_A ws) (dl_A ss) ed re (dl_A (dl_u τ x c)) := fun gl =>
      H _ (dl_srt_ins (M := fun d => d < c ∧ K d = 1) Q hx (fun s hs => by rw [dl_un (by omega)]; exact lo s hs) dl_us (fun s h1 h2 => by rw [dl_un (by omega)]; exact hi s h1 h2) gl gh (fun d => by
        constructor
        · rintro ⟨h1, h2⟩
          by_cases e : d = c
          · exact Or.inr e
          · exact Or.inl ⟨by omega, h2⟩
        · rintro (⟨h1, h2⟩ | e)
          · exact ⟨by omega, h2⟩
          · rw [e]; exact ⟨by omega, hk⟩))
    rcases Nat.eq_zero_or_pos x with z | z
    · subst z
      simp (disch := omega) only [wX_sortByDearness_24, wX_sortByDearness_70, nI_clamp, dl_Ar, dl_Au, dl_leT, dl_leF, dl_ltT, dl_ltF, dl_eqT, dl_eqF, nI_add, nI_1, dl_inT, dl_sub, dl_sub1, dl_subm1, forall_eq, true_implies, false_implies, not_true, not_false_iff, true_and, and_true, dl_leLT0, dl_leLF0, dl_leRT0, dl_leRF0, dl_ltLT0, dl_ltLF0, dl_ltRT0, dl_ltRF0, dl_eqRT0, dl_eqRF0, dl_leLT1, dl_leLF1, dl_leRT1, dl_leRF1, dl_ltLT1, dl_ltLF1, dl_ltRT1, dl_ltRF1, dl_eqRT1, dl_eqRF1, dl_leLT2, dl_leLF2, dl_leRT2, dl_leRF2, dl_ltLT2, dl_ltLF2, dl_ltRT2, dl_ltRF2, dl_eqRT2, dl_eqRF2, dl_leLT3, dl_leLF3, dl_leRT3, dl_leRF3, dl_ltLT3, dl_ltLF3, dl_ltRT3, dl_ltRF3, dl_eqRT3, dl_eqRF3, dl_leLT8, dl_leLF8, dl_leRT8, dl_leRF8, dl_ltLT8, dl_ltLF8, dl_ltRT8, dl_ltRF8, dl_eqRT8, dl_eqRF8, dl_leLT9, dl_leLF9, dl_leRT9, dl_leRF9, dl_ltLT9, dl_ltLF9, dl_ltRT9, dl_ltRF9, dl_eqRT9, dl_eqRF9, dl_leLT16, dl_leLF16, dl_leRT16, dl_leRF16, dl_ltLT16, dl_ltLF16, dl_ltRT16, dl_ltRF16, dl_eqRT16, dl_eqRF16, dl_leLT64, dl_leLF64, dl_leRT64, dl_leRF64, dl_ltLT64, dl_ltLF64, dl_ltRT64, dl_ltRF64, dl_eqRT64, dl_eqRF64, dl_leLT65, dl_leLF65, dl_leRT65, dl_leRF65, dl_ltLT65, dl_ltLF65, dl_ltRT65, dl_ltRF65, dl_eqRT65, dl_eqRF65]
      exact fin (fun s hs => by omega)
    · have e := lo (x - 1) (by omega)
      have mm := (Q.2.1 (x - 1) (by omega)).1
      rw [← e] at mm
      have hNt := hN (τ (x - 1)) (by omega)
      by_cases q : N c ≤ N (τ (x - 1))
      · simp (disch := omega) only [wX_sortByDearness_24, wX_sortByDearness_70, nI_clamp, dl_Ar, dl_Au, dl_leT, dl_leF, dl_ltT, dl_ltF, dl_eqT, dl_eqF, nI_add, nI_1, dl_inT, dl_sub, dl_sub1, dl_subm1, forall_eq, true_implies, false_implies, not_true, not_false_iff, true_and, and_true, dl_leLT0, dl_leLF0, dl_leRT0, dl_leRF0, dl_ltLT0, dl_ltLF0, dl_ltRT0, dl_ltRF0, dl_eqRT0, dl_eqRF0, dl_leLT1, dl_leLF1, dl_leRT1, dl_leRF1, dl_ltLT1, dl_ltLF1, dl_ltRT1, dl_ltRF1, dl_eqRT1, dl_eqRF1, dl_leLT2, dl_leLF2, dl_leRT2, dl_leRF2, dl_ltLT2, dl_ltLF2, dl_ltRT2, dl_ltRF2, dl_eqRT2, dl_eqRF2, dl_leLT3, dl_leLF3, dl_leRT3, dl_leRF3, dl_ltLT3, dl_ltLF3, dl_ltRT3, dl_ltRF3, dl_eqRT3, dl_eqRF3, dl_leLT8, dl_leLF8, dl_leRT8, dl_leRF8, dl_ltLT8, dl_ltLF8, dl_ltRT8, dl_ltRF8, dl_eqRT8, dl_eqRF8, dl_leLT9, dl_leLF9, dl_leRT9, dl_leRF9, dl_ltLT9, dl_ltLF9, dl_ltRT9, dl_ltRF9, dl_eqRT9, dl_eqRF9, dl_leLT16, dl_leLF16, dl_leRT16, dl_leRF16, dl_ltLT16, dl_ltLF16, dl_ltRT16, dl_ltRF16, dl_eqRT16, dl_eqRF16, dl_leLT64, dl_leLF64, dl_leRT64, dl_leRF64, dl_ltLT64, dl_ltLF64, dl_ltRT64, dl_ltRF64, dl_eqRT64, dl_eqRF64, dl_leLT65, dl_leLF65, dl_leRT65, dl_leRF65, dl_ltLT65, dl_ltLF65, dl_ltRT65, dl_ltRF65, dl_eqRT65, dl_eqRF65]
        refine fin (fun s hs => ?_)
        have g1 : dl_G N (σ (x - 1)) c := by
          rw [← e]; unfold dl_G; omega
        by_cases w : s = x - 1
        · rw [w]; exact g1
        · have g0 := Q.1 s (x - 1) (by omega) (by omega)
          unfold dl_G at g0 g1 ⊢; omega
      · simp (disch := omega) only [wX_sortByDearness_24, wX_sortByDearness_70, nI_clamp, dl_Ar, dl_Au, dl_leT, dl_leF, dl_ltT, dl_ltF, dl_eqT, dl_eqF, nI_add, nI_1, dl_inT, dl_sub, dl_sub1, dl_subm1, forall_eq, true_implies, false_implies, not_true, not_false_iff, true_and, and_true, dl_leLT0, dl_leLF0, dl_leRT0, dl_leRF0, dl_ltLT0, dl_ltLF0, dl_ltRT0, dl_ltRF0, dl_eqRT0, dl_eqRF0, dl_leLT1, dl_leLF1, dl_leRT1, dl_leRF1, dl_ltLT1, dl_ltLF1, dl_ltRT1, dl_ltRF1, dl_eqRT1, dl_eqRF1, dl_leLT2, dl_leLF2, dl_leRT2, dl_leRF2, dl_ltLT2, dl_ltLF2, dl_ltRT2, dl_ltRF2, dl_eqRT2, dl_eqRF2, dl_leLT3, dl_leLF3, dl_leRT3, dl_leRF3, dl_ltLT3, dl_ltLF3, dl_ltRT3, dl_ltRF3, dl_eqRT3, dl_eqRF3, dl_leLT8, dl_leLF8, dl_leRT8, dl_leRF8, dl_ltLT8, dl_ltLF8, dl_ltRT8, dl_ltRF8, dl_eqRT8, dl_eqRF8, dl_leLT9, dl_leLF9, dl_leRT9, dl_leRF9, dl_ltLT9, dl_ltLF9, dl_ltRT9, dl_ltRF9, dl_eqRT9, dl_eqRF9, dl_leLT16, dl_leLF16, dl_leRT16, dl_leRF16, dl_ltLT16, dl_ltLF16, dl_ltRT16, dl_ltRF16, dl_eqRT16, dl_eqRF16, dl_leLT64, dl_leLF64, dl_leRT64, dl_leRF64, dl_ltLT64, dl_ltLF64, dl_ltRT64, dl_ltRF64, dl_eqRT64, dl_eqRF64, dl_leLT65, dl_leLF65, dl_leRT65, dl_leRF65, dl_ltLT65, dl_ltLF65, dl_ltRT65, dl_ltRF65, dl_eqRT65, dl_eqRF65]
        refine ih (x - 1) _ (by omega) (by omega) (fun s hs => by rw [dl_un (by omega)]; exact lo s (by omega)) (fun s h1 h2 => ?_) (fun s h1 h2 => ?_)
        · by_cases w : s = x
          · rw [w, dl_us]; exact e
          · rw [dl_un w]; exact hi s (by omega) h2
        · by_cases w : s = x - 1
          · rw [w, ← e]; exact Or.inl (by omega)
          · exact gh s (by omega) h2
theorem dl_xsb (post : Int32 → SX → Prop) (B : dl_Bs C L ol T cnt K S D N) (H : ∀ β m, m ≤ cnt → dl_Sb cnt K N β m → post (nI m) (nI C, nI L, nI ph, nI ol, nI T, nI cnt, nI ls, nI co, kp, nI dn, nI pl, bu, dl_A K, dl_A S, dl_A D, dl_A N, dl_A A, pool, dl_A bD, bf, af, cm, dl_A sq, dl_A po, dl_A ws, dl_A ss, ed, re, dl_A β)) : wpX_sortByDearness post (nI C, nI L, nI ph, nI ol, nI T, nI cnt, nI ls, nI co, kp, nI dn, nI pl, bu, dl_A K, dl_A S, dl_A D, dl_A N, dl_A A, pool, dl_A bD, bf, af, cm, dl_A sq, dl_A po, dl_A ws, dl_A ss, ed, re, dl_A bd) := by
  obtain ⟨b1, b2, b3, b4, b5, b6, b7, b8⟩ := B
  have hN : ∀ i, i < cnt → N i < 2147483648 := fun i hi => by have := (b8 i hi).2.1; omega
  have key : ∀ f c m σ, c ≤ cnt → m ≤ c → cnt - c < f → dl_srt (dl_G N) (fun d => d < c ∧ K d = 1) σ m → wX_sortByDearness_4 post (nI C) (nI L) (nI ph) (nI ol) (nI T) (nI cnt) (nI ls) (nI co) kp (nI dn) (nI pl) f (nI m) (nI c) bu (dl_A K) (dl_A S) (dl_A D) (dl_A N) (dl_A A) pool (dl_A bD) bf af cm (dl_A sq) (dl_A po) (dl_A ws) (dl_A ss) ed re (dl_A σ) := by
    intro f
    induction f with
    | zero => intro c m σ _ _ h; omega
    | succ f ih =>
      intro c m σ h1 hm h2 Q
      rcases Nat.lt_or_ge c cnt with z | z
      · have hk : K c < 2147483648 := by have := (b8 c z).2.2; omega
        by_cases k : K c = 1
        · simp (disch := omega) only [wX_sortByDearness_4, nI_clamp, dl_Ar, dl_Au, dl_leT, dl_leF, dl_ltT, dl_ltF, dl_eqT, dl_eqF, nI_add, nI_1, dl_inT, dl_sub, dl_sub1, dl_subm1, forall_eq, true_implies, false_implies, not_true, not_false_iff, true_and, and_true, dl_leLT0, dl_leLF0, dl_leRT0, dl_leRF0, dl_ltLT0, dl_ltLF0, dl_ltRT0, dl_ltRF0, dl_eqRT0, dl_eqRF0, dl_leLT1, dl_leLF1, dl_leRT1, dl_leRF1, dl_ltLT1, dl_ltLF1, dl_ltRT1, dl_ltRF1, dl_eqRT1, dl_eqRF1, dl_leLT2, dl_leLF2, dl_leRT2, dl_leRF2, dl_ltLT2, dl_ltLF2, dl_ltRT2, dl_ltRF2, dl_eqRT2, dl_eqRF2, dl_leLT3, dl_leLF3, dl_leRT3, dl_leRF3, dl_ltLT3, dl_ltLF3, dl_ltRT3, dl_ltRF3, dl_eqRT3, dl_eqRF3, dl_leLT8, dl_leLF8, dl_leRT8, dl_leRF8, dl_ltLT8, dl_ltLF8, dl_ltRT8, dl_ltRF8, dl_eqRT8, dl_eqRF8, dl_leLT9, dl_leLF9, dl_leRT9, dl_leRF9, dl_ltLT9, dl_ltLF9, dl_ltRT9, dl_ltRF9, dl_eqRT9, dl_eqRF9, dl_leLT16, dl_leLF16, dl_leRT16, dl_leRF16, dl_ltLT16, dl_ltLF16, dl_ltRT16, dl_ltRF16, dl_eqRT16, dl_eqRF16, dl_leLT64, dl_leLF64, dl_leRT64, dl_leRF64, dl_ltLT64, dl_ltLF64, dl_ltRT64, dl_ltRF64, dl_eqRT64, dl_eqRF64, dl_leLT65, dl_leLF65, dl_leRT65, dl_leRF65, dl_ltLT65, dl_ltLF65, dl_ltRT65, dl_ltRF65, dl_eqRT65, dl_eqRF65]
          exact ⟨m + 1, dl_xsb24 post _ (by omega) hN z k hm Q (fun τ q => ih (c + 1) (m + 1) τ z (by omega) (by omega) q) _ m σ (by omega) (by omega) (fun _ _ => rfl) (fun s _ _ => by omega) (fun s _ _ => by omega)⟩
        · simp (disch := omega) only [wX_sortByDearness_4, nI_clamp, dl_Ar, dl_Au, dl_leT, dl_leF, dl_ltT, dl_ltF, dl_eqT, dl_eqF, nI_add, nI_1, dl_inT, dl_sub, dl_sub1, dl_subm1, forall_eq, true_implies, false_implies, not_true, not_false_iff, true_and, and_true, dl_leLT0, dl_leLF0, dl_leRT0, dl_leRF0, dl_ltLT0, dl_ltLF0, dl_ltRT0, dl_ltRF0, dl_eqRT0, dl_eqRF0, dl_leLT1, dl_leLF1, dl_leRT1, dl_leRF1, dl_ltLT1, dl_ltLF1, dl_ltRT1, dl_ltRF1, dl_eqRT1, dl_eqRF1, dl_leLT2, dl_leLF2, dl_leRT2, dl_leRF2, dl_ltLT2, dl_ltLF2, dl_ltRT2, dl_ltRF2, dl_eqRT2, dl_eqRF2, dl_leLT3, dl_leLF3, dl_leRT3, dl_leRF3, dl_ltLT3, dl_ltLF3, dl_ltRT3, dl_ltRF3, dl_eqRT3, dl_eqRF3, dl_leLT8, dl_leLF8, dl_leRT8, dl_leRF8, dl_ltLT8, dl_ltLF8, dl_ltRT8, dl_ltRF8, dl_eqRT8, dl_eqRF8, dl_leLT9, dl_leLF9, dl_leRT9, dl_leRF9, dl_ltLT9, dl_ltLF9, dl_ltRT9, dl_ltRF9, dl_eqRT9, dl_eqRF9, dl_leLT16, dl_leLF16, dl_leRT16, dl_leRF16, dl_ltLT16, dl_ltLF16, dl_ltRT16, dl_ltRF16, dl_eqRT16, dl_eqRF16, dl_leLT64, dl_leLF64, dl_leRT64, dl_leRF64, dl_ltLT64, dl_ltLF64, dl_ltRT64, dl_ltRF64, dl_eqRT64, dl_eqRF64, dl_leLT65, dl_leLF65, dl_leRT65, dl_leRF65, dl_ltLT65, dl_ltLF65, dl_ltRT65, dl_ltRF65, dl_eqRT65, dl_eqRF65]
          refine ih (c + 1) m σ z (by omega) (by omega) (dl_srt_M Q (fun d => ?_))
          constructor
          · rintro ⟨w1, w2⟩; exact ⟨by omega, w2⟩
          · rintro ⟨w1, w2⟩
            by_cases e : d = c
            · rw [e] at w2; exact absurd w2 k
            · exact ⟨by omega, w2⟩
      · have e : c = cnt := by omega
        subst e
        simp (disch := omega) only [wX_sortByDearness_4, nI_clamp, dl_Ar, dl_Au, dl_leT, dl_leF, dl_ltT, dl_ltF, dl_eqT, dl_eqF, nI_add, nI_1, dl_inT, dl_sub, dl_sub1, dl_subm1, forall_eq, true_implies, false_implies, not_true, not_false_iff, true_and, and_true, dl_leLT0, dl_leLF0, dl_leRT0, dl_leRF0, dl_ltLT0, dl_ltLF0, dl_ltRT0, dl_ltRF0, dl_eqRT0, dl_eqRF0, dl_leLT1, dl_leLF1, dl_leRT1, dl_leRF1, dl_ltLT1, dl_ltLF1, dl_ltRT1, dl_ltRF1, dl_eqRT1, dl_eqRF1, dl_leLT2, dl_leLF2, dl_leRT2, dl_leRF2, dl_ltLT2, dl_ltLF2, dl_ltRT2, dl_ltRF2, dl_eqRT2, dl_eqRF2, dl_leLT3, dl_leLF3, dl_leRT3, dl_leRF3, dl_ltLT3, dl_ltLF3, dl_ltRT3, dl_ltRF3, dl_eqRT3, dl_eqRF3, dl_leLT8, dl_leLF8, dl_leRT8, dl_leRF8, dl_ltLT8, dl_ltLF8, dl_ltRT8, dl_ltRF8, dl_eqRT8, dl_eqRF8, dl_leLT9, dl_leLF9, dl_leRT9, dl_leRF9, dl_ltLT9, dl_ltLF9, dl_ltRT9, dl_ltRF9, dl_eqRT9, dl_eqRF9, dl_leLT16, dl_leLF16, dl_leRT16, dl_leRF16, dl_ltLT16, dl_ltLF16, dl_ltRT16, dl_ltRF16, dl_eqRT16, dl_eqRF16, dl_leLT64, dl_leLF64, dl_leRT64, dl_leRF64, dl_ltLT64, dl_ltLF64, dl_ltRT64, dl_ltRF64, dl_eqRT64, dl_eqRF64, dl_leLT65, dl_leLF65, dl_leRT65, dl_leRF65, dl_ltLT65, dl_ltLF65, dl_ltRT65, dl_ltRF65, dl_eqRT65, dl_eqRF65]
        exact H σ m hm Q
  exact ⟨cnt + 1, key _ 0 0 bd (by omega) (by omega) (by omega) ⟨fun s s' _ h => by omega, fun s h => by omega, fun c h => by omega⟩⟩
theorem dl_xlow (post : Int32 → Prop) {x : Int32} {i0 : Nat} (h0 : i0 < 16) (hb : bt x i0 = true) (H : ∀ b, b < 16 → bt x b = true → (∀ i, i < b → ¬ bt x i = true) → post (nI b)) : wpX_lowestBit post (nI C, nI L, nI ph, nI ol, nI T, nI cnt, nI ls, nI co, kp, nI dn, nI pl, bu, dl_A K, dl_A S, dl_A D, dl_A N, dl_A A, pool, dl_A bD, bf, af, cm, dl_A sq, dl_A po, dl_A ws, dl_A ss, ed, re, dl_A bd) x := by
  have key : ∀ f b, b ≤ i0 → i0 - b < f → (∀ i, i < b → ¬ bt x i = true) → wX_lowestBit_2 post x (nI C) (nI L) (nI ph) (nI ol) (nI T) (nI cnt) (nI ls) (nI co) kp (nI dn) (nI pl) bu (dl_A K) (dl_A S) (dl_A D) (dl_A N) (dl_A A) pool (dl_A bD) bf af cm (dl_A sq) (dl_A po) (dl_A ws) (dl_A ss) ed re (dl_A bd) f (nI b) := by
    intro f
    induction f with
    | zero => intro b _ h; omega
    | succ f ih =>
      intro b h1 h2 I
      by_cases q : bt x b = true
      · have nz : ¬ ((x >>> (nI b &&& 31)) &&& 1) = 0 := fun e => (dl_bit (by omega)).mp e q
        simp (disch := omega) only [wX_lowestBit_2, nI_clamp, dl_Ar, dl_Au, dl_leT, dl_leF, dl_ltT, dl_ltF, dl_eqT, dl_eqF, nI_add, nI_1, dl_inT, dl_sub, dl_sub1, dl_subm1, forall_eq, true_implies, false_implies, not_true, not_false_iff, true_and, and_true, dl_leLT0, dl_leLF0, dl_leRT0, dl_leRF0, dl_ltLT0, dl_ltLF0, dl_ltRT0, dl_ltRF0, dl_eqRT0, dl_eqRF0, dl_leLT1, dl_leLF1, dl_leRT1, dl_leRF1, dl_ltLT1, dl_ltLF1, dl_ltRT1, dl_ltRF1, dl_eqRT1, dl_eqRF1, dl_leLT2, dl_leLF2, dl_leRT2, dl_leRF2, dl_ltLT2, dl_ltLF2, dl_ltRT2, dl_ltRF2, dl_eqRT2, dl_eqRF2, dl_leLT3, dl_leLF3, dl_leRT3, dl_leRF3, dl_ltLT3, dl_ltLF3, dl_ltRT3, dl_ltRF3, dl_eqRT3, dl_eqRF3, dl_leLT8, dl_leLF8, dl_leRT8, dl_leRF8, dl_ltLT8, dl_ltLF8, dl_ltRT8, dl_ltRF8, dl_eqRT8, dl_eqRF8, dl_leLT9, dl_leLF9, dl_leRT9, dl_leRF9, dl_ltLT9, dl_ltLF9, dl_ltRT9, dl_ltRF9, dl_eqRT9, dl_eqRF9, dl_leLT16, dl_leLF16, dl_leRT16, dl_leRF16, dl_ltLT16, dl_ltLF16, dl_ltRT16, dl_ltRF16, dl_eqRT16, dl_eqRF16, dl_leLT64, dl_leLF64, dl_leRT64, dl_leRF64, dl_ltLT64, dl_ltLF64, dl_ltRT64, dl_ltRF64, dl_eqRT64, dl_eqRF64, dl_leLT65, dl_leLF65, dl_leRT65, dl_leRF65, dl_ltLT65, dl_ltLF65, dl_ltRT65, dl_ltRF65, dl_eqRT65, dl_eqRF65, nz]
        exact H b (by omega) q I
      · have nz : ((x >>> (nI b &&& 31)) &&& 1) = 0 := (dl_bit (by omega)).mpr q
        have ne : b ≠ i0 := fun e => q (e ▸ hb)
        simp (disch := omega) only [wX_lowestBit_2, nI_clamp, dl_Ar, dl_Au, dl_leT, dl_leF, dl_ltT, dl_ltF, dl_eqT, dl_eqF, nI_add, nI_1, dl_inT, dl_sub, dl_sub1, dl_subm1, forall_eq, true_implies, false_implies, not_true, not_false_iff, true_and, and_true, dl_leLT0, dl_leLF0, dl_leRT0, dl_leRF0, dl_ltLT0, dl_ltLF0, dl_ltRT0, dl_ltRF0, dl_eqRT0, dl_eqRF0, dl_leLT1, dl_leLF1, dl_leRT1, dl_leRF1, dl_ltLT1, dl_ltLF1, dl_ltRT1, dl_ltRF1, dl_eqRT1, dl_eqRF1, dl_leLT2, dl_leLF2, dl_leRT2, dl_leRF2, dl_ltLT2, dl_ltLF2, dl_ltRT2, dl_ltRF2, dl_eqRT2, dl_eqRF2, dl_leLT3, dl_leLF3, dl_leRT3, dl_leRF3, dl_ltLT3, dl_ltLF3, dl_ltRT3, dl_ltRF3, dl_eqRT3, dl_eqRF3, dl_leLT8, dl_leLF8, dl_leRT8, dl_leRF8, dl_ltLT8, dl_ltLF8, dl_ltRT8, dl_ltRF8, dl_eqRT8, dl_eqRF8, dl_leLT9, dl_leLF9, dl_leRT9, dl_leRF9, dl_ltLT9, dl_ltLF9, dl_ltRT9, dl_ltRF9, dl_eqRT9, dl_eqRF9, dl_leLT16, dl_leLF16, dl_leRT16, dl_leRF16, dl_ltLT16, dl_ltLF16, dl_ltRT16, dl_ltRF16, dl_eqRT16, dl_eqRF16, dl_leLT64, dl_leLF64, dl_leRT64, dl_leRF64, dl_ltLT64, dl_ltLF64, dl_ltRT64, dl_ltRF64, dl_eqRT64, dl_eqRF64, dl_leLT65, dl_leLF65, dl_leRT65, dl_leRF65, dl_ltLT65, dl_ltLF65, dl_ltRT65, dl_ltRF65, dl_eqRT65, dl_eqRF65, nz]
        refine ih (b + 1) (by omega) (by omega) (fun i hi => ?_)
        by_cases e : i = b
        · rw [e]; exact q
        · exact I i (by omega)
  exact ⟨i0 + 1, key _ 0 (by omega) (by omega) (fun i hi => by omega)⟩
/-- the search of a closed chain -/
def dl_Sk (cnt : Nat) (R : Nat → Nat → Prop) (Q : Nat → Prop) (c : Nat) (se op : Int32) (t : Nat) : Prop :=
  (∀ j, j < 32 → bt se j = true → j < cnt ∧ Q j ∧ dl_Rc R Q c j) ∧ (∀ j, j < 32 → bt op j = true → bt se j = true) ∧ (∀ y, R c y → Q y → bt se y = true) ∧
  (∀ x y, x < 32 → bt se x = true → ¬ bt op x = true → R x y → Q y → bt se y = true) ∧ (∀ x, x < 32 → bt se x = true → ¬ bt op x = true → ¬ R x c) ∧
  t = dl_n (fun j => bt se j = true ∧ ¬ bt op j = true) cnt
theorem dl_xcc27 (post : Int32 → Prop) (hcnt : cnt ≤ 16) {R : Nat → Nat → Prop} (hR : ∀ x y, R x y → x < cnt ∧ y < cnt) (G : dl_BA bf af R) {Q : Nat → Prop} {c : Nat} (hc : c < cnt) (hQc : ¬ Q c) {al : Int32} (hal : ∀ j, j < 32 → (bt al j = true ↔ (j < cnt ∧ Q j)))
    (H1 : (∃ x, dl_Rc R Q c x ∧ R x c) → post 1) (H0 : ¬ (∃ x, dl_Rc R Q c x ∧ R x c) → post 0) :
    ∀ f t se op, 16 - t < f → dl_Sk cnt R Q c se op t → wX_closesChain_27 post (nI c) al (nI C) (nI L) (nI ph) (nI ol) (nI T) (nI cnt) (nI ls) (nI co) kp (nI dn) (nI pl) bu (dl_A K) (dl_A S) (dl_A D) (dl_A N) (dl_A A) pool (dl_A bD) bf af cm (dl_A sq) (dl_A po) (dl_A ws) (dl_A ss) ed re (dl_A bd) f se op (nI t) := by
  intro f
  induction f with
  | zero => intro t se op h; omega
  | succ f ih =>
    intro t se op hf I
    obtain ⟨i1, i2, i3, i4, i5, i6⟩ := I
    have ht : t < cnt := by
      have a := dl_n_lt (P := fun j => bt se j = true ∧ ¬ bt op j = true) (Q := fun _ => True) (n := cnt) (a := c) hc (fun w => hQc (i1 c (by omega) w.1).2.1) trivial (fun _ _ _ => trivial)
      have b := dl_n_le (fun _ => True) cnt
      omega
    by_cases z : op = 0
    · simp (disch := omega) only [wX_closesChain_27, nI_clamp, dl_Ar, dl_Au, dl_leT, dl_leF, dl_ltT, dl_ltF, dl_eqT, dl_eqF, nI_add, nI_1, dl_inT, dl_sub, dl_sub1, dl_subm1, forall_eq, true_implies, false_implies, not_true, not_false_iff, true_and, and_true, dl_leLT0, dl_leLF0, dl_leRT0, dl_leRF0, dl_ltLT0, dl_ltLF0, dl_ltRT0, dl_ltRF0, dl_eqRT0, dl_eqRF0, dl_leLT1, dl_leLF1, dl_leRT1, dl_leRF1, dl_ltLT1, dl_ltLF1, dl_ltRT1, dl_ltRF1, dl_eqRT1, dl_eqRF1, dl_leLT2, dl_leLF2, dl_leRT2, dl_leRF2, dl_ltLT2, dl_ltLF2, dl_ltRT2, dl_ltRF2, dl_eqRT2, dl_eqRF2, dl_leLT3, dl_leLF3, dl_leRT3, dl_leRF3, dl_ltLT3, dl_ltLF3, dl_ltRT3, dl_ltRF3, dl_eqRT3, dl_eqRF3, dl_leLT8, dl_leLF8, dl_leRT8, dl_leRF8, dl_ltLT8, dl_ltLF8, dl_ltRT8, dl_ltRF8, dl_eqRT8, dl_eqRF8, dl_leLT9, dl_leLF9, dl_leRT9, dl_leRF9, dl_ltLT9, dl_ltLF9, dl_ltRT9, dl_ltRF9, dl_eqRT9, dl_eqRF9, dl_leLT16, dl_leLF16, dl_leRT16, dl_leRF16, dl_ltLT16, dl_ltLF16, dl_ltRT16, dl_ltRF16, dl_eqRT16, dl_eqRF16, dl_leLT64, dl_leLF64, dl_leRT64, dl_leRF64, dl_ltLT64, dl_ltLF64, dl_ltRT64, dl_ltRF64, dl_eqRT64, dl_eqRF64, dl_leLT65, dl_leLF65, dl_leRT65, dl_leRF65, dl_ltLT65, dl_ltLF65, dl_ltRT65, dl_ltRF65, dl_eqRT65, dl_eqRF65, z]
      refine H0 ?_
      rintro ⟨x, hx, rx⟩
      have no : ∀ j, ¬ bt op j = true := fun j => by rw [z, b_0]; decide
      have sx : bt se x = true := hx (fun y => bt se y = true) (fun x y k r q => by
        rcases k with e | k
        · rw [e] at r; exact i3 y r q
        · exact i4 x y (by have := hR x y r; omega) k (no x) r q)
      exact i5 x (by have := hR x c rx; omega) sx (no x) rx
    · obtain ⟨y0, hy0, by0⟩ := dl_nz.mp z
      have y16 : y0 < 16 := by have := (i1 y0 hy0 (i2 y0 hy0 by0)).1; omega
      simp (disch := omega) only [wX_closesChain_27, nI_clamp, dl_Ar, dl_Au, dl_leT, dl_leF, dl_ltT, dl_ltF, dl_eqT, dl_eqF, nI_add, nI_1, dl_inT, dl_sub, dl_sub1, dl_subm1, forall_eq, true_implies, false_implies, not_true, not_false_iff, true_and, and_true, dl_leLT0, dl_leLF0, dl_leRT0, dl_leRF0, dl_ltLT0, dl_ltLF0, dl_ltRT0, dl_ltRF0, dl_eqRT0, dl_eqRF0, dl_leLT1, dl_leLF1, dl_leRT1, dl_leRF1, dl_ltLT1, dl_ltLF1, dl_ltRT1, dl_ltRF1, dl_eqRT1, dl_eqRF1, dl_leLT2, dl_leLF2, dl_leRT2, dl_leRF2, dl_ltLT2, dl_ltLF2, dl_ltRT2, dl_ltRF2, dl_eqRT2, dl_eqRF2, dl_leLT3, dl_leLF3, dl_leRT3, dl_leRF3, dl_ltLT3, dl_ltLF3, dl_ltRT3, dl_ltRF3, dl_eqRT3, dl_eqRF3, dl_leLT8, dl_leLF8, dl_leRT8, dl_leRF8, dl_ltLT8, dl_ltLF8, dl_ltRT8, dl_ltRF8, dl_eqRT8, dl_eqRF8, dl_leLT9, dl_leLF9, dl_leRT9, dl_leRF9, dl_ltLT9, dl_ltLF9, dl_ltRT9, dl_ltRF9, dl_eqRT9, dl_eqRF9, dl_leLT16, dl_leLF16, dl_leRT16, dl_leRF16, dl_ltLT16, dl_ltLF16, dl_ltRT16, dl_ltRF16, dl_eqRT16, dl_eqRF16, dl_leLT64, dl_leLF64, dl_leRT64, dl_leRF64, dl_ltLT64, dl_ltLF64, dl_ltRT64, dl_ltRF64, dl_eqRT64, dl_eqRF64, dl_leLT65, dl_leLF65, dl_leRT65, dl_leRF65, dl_ltLT65, dl_ltLF65, dl_ltRT65, dl_ltRF65, dl_eqRT65, dl_eqRF65, z]
      refine dl_xlow _ y16 by0 (fun x hx bx lx => ?_)
      have sx := i2 x (by omega) bx
      obtain ⟨x1, x2, x3⟩ := i1 x (by omega) sx
      have op1 : ∀ j, (bt (op &&& (op - 1)) j = true ↔ (bt op j = true ∧ j ≠ x)) := fun j => dl_low bx lx
      by_cases q : R x c
      · have nz : ¬ (((bf x) >>> (nI c &&& 31)) &&& 1) = 0 := fun e => (dl_bit (by omega)).mp e ((G.1 x c (by omega) (by omega)).mpr q)
        try simp (disch := omega) only [nI_clamp, dl_Ar, dl_Au, dl_leT, dl_leF, dl_ltT, dl_ltF, dl_eqT, dl_eqF, nI_add, nI_1, dl_inT, dl_sub, dl_sub1, dl_subm1, forall_eq, true_implies, false_implies, not_true, not_false_iff, true_and, and_true, dl_leLT0, dl_leLF0, dl_leRT0, dl_leRF0, dl_ltLT0, dl_ltLF0, dl_ltRT0, dl_ltRF0, dl_eqRT0, dl_eqRF0, dl_leLT1, dl_leLF1, dl_leRT1, dl_leRF1, dl_ltLT1, dl_ltLF1, dl_ltRT1, dl_ltRF1, dl_eqRT1, dl_eqRF1, dl_leLT2, dl_leLF2, dl_leRT2, dl_leRF2, dl_ltLT2, dl_ltLF2, dl_ltRT2, dl_ltRF2, dl_eqRT2, dl_eqRF2, dl_leLT3, dl_leLF3, dl_leRT3, dl_leRF3, dl_ltLT3, dl_ltLF3, dl_ltRT3, dl_ltRF3, dl_eqRT3, dl_eqRF3, dl_leLT8, dl_leLF8, dl_leRT8, dl_leRF8, dl_ltLT8, dl_ltLF8, dl_ltRT8, dl_ltRF8, dl_eqRT8, dl_eqRF8, dl_leLT9, dl_leLF9, dl_leRT9, dl_leRF9, dl_ltLT9, dl_ltLF9, dl_ltRT9, dl_ltRF9, dl_eqRT9, dl_eqRF9, dl_leLT16, dl_leLF16, dl_leRT16, dl_leRF16, dl_ltLT16, dl_ltLF16, dl_ltRT16, dl_ltRF16, dl_eqRT16, dl_eqRF16, dl_leLT64, dl_leLF64, dl_leRT64, dl_leRF64, dl_ltLT64, dl_ltLF64, dl_ltRT64, dl_ltRF64, dl_eqRT64, dl_eqRF64, dl_leLT65, dl_leLF65, dl_leRT65, dl_leRF65, dl_ltLT65, dl_ltLF65, dl_ltRT65, dl_ltRF65, dl_eqRT65, dl_eqRF65, nz]
        exact H1 ⟨x, x3, q⟩
      · have nz : (((bf x) >>> (nI c &&& 31)) &&& 1) = 0 := (dl_bit (by omega)).mpr (fun e => q ((G.1 x c (by omega) (by omega)).mp e))
        try simp (disch := omega) only [nI_clamp, dl_Ar, dl_Au, dl_leT, dl_leF, dl_ltT, dl_ltF, dl_eqT, dl_eqF, nI_add, nI_1, dl_inT, dl_sub, dl_sub1, dl_subm1, forall_eq, true_implies, false_implies, not_true, not_false_iff, true_and, and_true, dl_leLT0, dl_leLF0, dl_leRT0, dl_leRF0, dl_ltLT0, dl_ltLF0, dl_ltRT0, dl_ltRF0, dl_eqRT0, dl_eqRF0, dl_leLT1, dl_leLF1, dl_leRT1, dl_leRF1, dl_ltLT1, dl_ltLF1, dl_ltRT1, dl_ltRF1, dl_eqRT1, dl_eqRF1, dl_leLT2, dl_leLF2, dl_leRT2, dl_leRF2, dl_ltLT2, dl_ltLF2, dl_ltRT2, dl_ltRF2, dl_eqRT2, dl_eqRF2, dl_leLT3, dl_leLF3, dl_leRT3, dl_leRF3, dl_ltLT3, dl_ltLF3, dl_ltRT3, dl_ltRF3, dl_eqRT3, dl_eqRF3, dl_leLT8, dl_leLF8, dl_leRT8, dl_leRF8, dl_ltLT8, dl_ltLF8, dl_ltRT8, dl_ltRF8, dl_eqRT8, dl_eqRF8, dl_leLT9, dl_leLF9, dl_leRT9, dl_leRF9, dl_ltLT9, dl_ltLF9, dl_ltRT9, dl_ltRF9, dl_eqRT9, dl_eqRF9, dl_leLT16, dl_leLF16, dl_leRT16, dl_leRF16, dl_ltLT16, dl_ltLF16, dl_ltRT16, dl_ltRF16, dl_eqRT16, dl_eqRF16, dl_leLT64, dl_leLF64, dl_leRT64, dl_leRF64, dl_ltLT64, dl_ltLF64, dl_ltRT64, dl_ltRF64, dl_eqRT64, dl_eqRF64, dl_leLT65, dl_leLF65, dl_leRT65, dl_leRF65, dl_ltLT65, dl_ltLF65, dl_ltRT65, dl_ltRF65, dl_eqRT65, dl_eqRF65, nz]
        have fr : ∀ j, j < 32 → (bt (((bf x) &&& al) &&& (se ^^^ (-1))) j = true ↔ (R x j ∧ Q j ∧ ¬ bt se j = true)) := fun j hj => by
          rw [b_and, b_and, b_xor, b_m1 j hj, Bool.and_eq_true, Bool.and_eq_true, hal j hj]
          constructor
          · rintro ⟨⟨w1, w2, w3⟩, w4⟩
            refine ⟨(G.1 x j (by omega) (by omega)).mp w1, w3, fun e => ?_⟩
            rw [e] at w4; exact absurd w4 (by decide)
          · rintro ⟨w1, w2, w3⟩
            have jl := (hR x j w1).2
            refine ⟨⟨(G.1 x j (by omega) (by omega)).mpr w1, jl, w2⟩, ?_⟩
            rw [Bool.eq_false_iff.mpr w3]; rfl
        generalize ((bf x) &&& al) &&& (se ^^^ (-1)) = fs at fr ⊢
        have S' : ∀ j, j < 32 → (bt (se ||| fs) j = true ↔ (bt se j = true ∨ (R x j ∧ Q j ∧ ¬ bt se j = true))) := fun j hj => by rw [b_or, Bool.or_eq_true, fr j hj]
        have O' : ∀ j, j < 32 → (bt ((op &&& (op - 1)) ||| fs) j = true ↔ ((bt op j = true ∧ j ≠ x) ∨ (R x j ∧ Q j ∧ ¬ bt se j = true))) := fun j hj => by rw [b_or, Bool.or_eq_true, fr j hj, op1 j]
        have key : ∀ j, j < 32 → ((bt (se ||| fs) j = true ∧ ¬ bt ((op &&& (op - 1)) ||| fs) j = true) ↔ ((bt se j = true ∧ ¬ bt op j = true) ∨ j = x)) := fun j hj => by
          rw [S' j hj, O' j hj]
          constructor
          · rintro ⟨w1, w2⟩
            by_cases e : j = x
            · exact Or.inr e
            · rcases w1 with w1 | w1
              · exact Or.inl ⟨w1, fun o => w2 (Or.inl ⟨o, e⟩)⟩
              · exact absurd (Or.inr w1) w2
          · rintro (⟨w1, w2⟩ | e)
            · refine ⟨Or.inl w1, ?_⟩
              rintro (o | o)
              · exact w2 o.1
              · exact o.2.2 w1
            · rw [e]
              refine ⟨Or.inl sx, ?_⟩
              rintro (o | o)
              · exact o.2 rfl
              · exact o.2.2 sx
        refine ih (t + 1) _ _ (by omega) ⟨fun j hj b => ?_, fun j hj b => ?_, fun y r qy => ?_, fun a y ha sa oa r qy => ?_, fun a ha sa oa r => ?_, ?_⟩
        · rcases (S' j hj).mp b with w | w
          · exact i1 j hj w
          · exact ⟨(hR x j w.1).2, w.2.1, dl_Rc_s x3 w.1 w.2.1⟩
        · rcases (O' j hj).mp b with w | w
          · exact (S' j hj).mpr (Or.inl (i2 j hj w.1))
          · exact (S' j hj).mpr (Or.inr w)
        · exact (S' y (by have := hR c y r; omega)).mpr (Or.inl (i3 y r qy))
        · have hy := hR a y r
          rw [S' y (by omega)]
          rcases (key a ha).mp ⟨sa, oa⟩ with w | w
          · exact Or.inl (i4 a y ha w.1 w.2 r qy)
          · by_cases e : bt se y = true
            · exact Or.inl e
            · rw [w] at r; exact Or.inr ⟨r, qy, e⟩
        · rcases (key a ha).mp ⟨sa, oa⟩ with w | w
          · exact i5 a ha w.1 w.2 r
          · rw [w] at r; exact q r
        · rw [i6]
          refine (dl_n_add (a := x) x1 (fun w => w.2 bx) ((key x (by omega)).mpr (Or.inr rfl)) (fun k hk ne => (key k (by omega)).trans ⟨fun w => w.elim id (fun e => absurd e ne), Or.inl⟩)).symm
theorem dl_xcc (post : Int32 → Prop) (hcnt : cnt ≤ 16) {R : Nat → Nat → Prop} (hR : ∀ x y, R x y → x < cnt ∧ y < cnt) (ir : ∀ x, ¬ R x x) (G : dl_BA bf af R) {c : Nat} (hc : c < cnt) (hk : K c = 1) (hF : ¬ F c = 1) (CC : dl_CC cnt K R cm cnt) (KF : dl_KF cnt F kp)
    (H1 : dl_Cl R (fun y => F y = 1) c c → post 1) (H0 : ¬ dl_Cl R (fun y => F y = 1) c c → post 0) : wpX_closesChain post (nI C, nI L, nI ph, nI ol, nI T, nI cnt, nI ls, nI co, kp, nI dn, nI pl, bu, dl_A K, dl_A S, dl_A D, dl_A N, dl_A A, pool, dl_A bD, bf, af, cm, dl_A sq, dl_A po, dl_A ws, dl_A ss, ed, re, dl_A bd) (nI c) := by
  have e := dl_Cl_cm (R := R) (Q := fun y => F y = 1) (Q' := fun y => F y = 1 ∧ (y = c ∨ (dl_Tr R c y ∧ dl_Tr R y c))) (c := c) ir (fun _ => Iff.rfl)
  have hal : ∀ j, j < 32 → (bt (kp &&& cm c) j = true ↔ (j < cnt ∧ (F j = 1 ∧ (j = c ∨ (dl_Tr R c j ∧ dl_Tr R j c))))) := fun j hj => by
    rw [b_and, Bool.and_eq_true, KF j hj, CC c j hc hj]
    exact ⟨fun w => ⟨w.1.1, w.1.2, w.2.2⟩, fun w => ⟨⟨w.1, w.2.1⟩, hk, w.2.2⟩⟩
  have hse : ∀ j, j < 32 → (bt (bf c &&& (kp &&& cm c)) j = true ↔ (R c j ∧ (F j = 1 ∧ (j = c ∨ (dl_Tr R c j ∧ dl_Tr R j c))))) := fun j hj => by
    rw [b_and, Bool.and_eq_true, hal j hj]
    constructor
    · rintro ⟨w1, w2, w3⟩
      exact ⟨(G.1 c j (by omega) (by omega)).mp w1, w3⟩
    · rintro ⟨w1, w2⟩
      have := (hR c j w1).2
      exact ⟨(G.1 c j (by omega) (by omega)).mpr w1, this, w2⟩
  simp (disch := omega) only [wpX_closesChain, nI_clamp, dl_Ar, dl_Au, dl_leT, dl_leF, dl_ltT, dl_ltF, dl_eqT, dl_eqF, nI_add, nI_1, dl_inT, dl_sub, dl_sub1, dl_subm1, forall_eq, true_implies, false_implies, not_true, not_false_iff, true_and, and_true, dl_leLT0, dl_leLF0, dl_leRT0, dl_leRF0, dl_ltLT0, dl_ltLF0, dl_ltRT0, dl_ltRF0, dl_eqRT0, dl_eqRF0, dl_leLT1, dl_leLF1, dl_leRT1, dl_leRF1, dl_ltLT1, dl_ltLF1, dl_ltRT1, dl_ltRF1, dl_eqRT1, dl_eqRF1, dl_leLT2, dl_leLF2, dl_leRT2, dl_leRF2, dl_ltLT2, dl_ltLF2, dl_ltRT2, dl_ltRF2, dl_eqRT2, dl_eqRF2, dl_leLT3, dl_leLF3, dl_leRT3, dl_leRF3, dl_ltLT3, dl_ltLF3, dl_ltRT3, dl_ltRF3, dl_eqRT3, dl_eqRF3, dl_leLT8, dl_leLF8, dl_leRT8, dl_leRF8, dl_ltLT8, dl_ltLF8, dl_ltRT8, dl_ltRF8, dl_eqRT8, dl_eqRF8, dl_leLT9, dl_leLF9, dl_leRT9, dl_leRF9, dl_ltLT9, dl_ltLF9, dl_ltRT9, dl_ltRF9, dl_eqRT9, dl_eqRF9, dl_leLT16, dl_leLF16, dl_leRT16, dl_leRF16, dl_ltLT16, dl_ltLF16, dl_ltRT16, dl_ltRF16, dl_eqRT16, dl_eqRF16, dl_leLT64, dl_leLF64, dl_leRT64, dl_leRF64, dl_ltLT64, dl_ltLF64, dl_ltRT64, dl_ltRF64, dl_eqRT64, dl_eqRF64, dl_leLT65, dl_leLF65, dl_leRT65, dl_leRF65, dl_ltLT65, dl_ltLF65, dl_ltRT65, dl_ltRF65, dl_eqRT65, dl_eqRF65]
  refine ⟨17, dl_xcc27 post hcnt hR G hc (fun w => hF w.1) hal (fun w => H1 (e.mpr w)) (fun w => H0 (fun z => w (e.mp z))) _ 0 _ _ (by omega) ⟨fun j hj b => ?_, fun j _ b => b, fun y r q => (hse y (by have := hR c y r; omega)).mpr ⟨r, q⟩, fun x y _ b n => absurd b n, fun x _ b n => absurd b n, ?_⟩⟩
  · have w := (hse j hj).mp b
    exact ⟨(hR c j w.1).2, w.2, dl_Rc_0 w.1 w.2⟩
  · exact (dl_s_0 (fun i _ => dl_b_f (fun w => w.2 w.1))).symm
/-- the copies kept: β the order of dearness, F0 the fates at first -/
theorem dl_xck (post : Int32 → SX → Prop) (B : dl_Bs C L ol T cnt K S D N) (G : dl_BA bf af (dl_R cnt K S D N)) (CC : dl_CC cnt K (dl_R cnt K S D N) cm cnt) {F0 : Nat → Nat} (hF0 : ∀ c, c < cnt → F0 c = if K c = 2 then 2 else 0)
    (H : ∀ β m kp', m ≤ cnt → dl_Sb cnt K N β m → dl_KF cnt (dl_dec (dl_R cnt K S D N) β F0 m) kp' → post (nI (dl_cst N (dl_dec (dl_R cnt K S D N) β F0 m) cnt)) (nI C, nI L, nI ph, nI ol, nI T, nI cnt, nI ls, nI co, kp', nI dn, nI pl, bu, dl_A K, dl_A S, dl_A D, dl_A N, dl_A A, pool, dl_A bD, bf, af, cm, dl_A sq, dl_A po, dl_A ws, dl_A ss, ed, re, dl_A β)) : wpX_chooseKept post (nI C, nI L, nI ph, nI ol, nI T, nI cnt, nI ls, nI co, kp, nI dn, nI pl, bu, dl_A K, dl_A S, dl_A D, dl_A N, dl_A A, pool, dl_A bD, bf, af, cm, dl_A sq, dl_A po, dl_A ws, dl_A ss, ed, re, dl_A bd) := by
  have B' := B
  obtain ⟨b1, b2, b3, b4, b5, b6, b7, b8⟩ := B'
  have hK : ∀ c, c < cnt → K c = 1 ∨ K c = 2 := fun c hc => by have := (b8 c hc).2.2; omega
  unfold wpX_chooseKept
  refine dl_xsb _ B (fun β m hm Sb => ?_)
  have hβ : ∀ s, s < m → β s < cnt ∧ K (β s) = 1 := fun s hs => Sb.2.1 s hs
  have hi : ∀ s s', s < m → s' < m → β s = β s' → s = s' := fun s s' a b e => dl_srt_inj Sb (fun a w => by unfold dl_G at w; omega) a b e
  have Dk := dl_Dk_d (S := S) (D := D) (N := N) hK hF0 hβ hi
  have key : ∀ f r kp', r ≤ m → m - r < f → dl_KF cnt (dl_dec (dl_R cnt K S D N) β F0 r) kp' → wX_chooseKept_14 post (nI m) (nI C) (nI L) (nI ph) (nI ol) (nI T) (nI cnt) (nI ls) (nI co) (nI dn) (nI pl) bu (dl_A K) (dl_A S) (dl_A D) (dl_A N) (dl_A A) pool (dl_A bD) bf af cm (dl_A sq) (dl_A po) (dl_A ws) (dl_A ss) ed re (dl_A β) f (nI (dl_cst N (dl_dec (dl_R cnt K S D N) β F0 r) cnt)) (nI r) kp' := by
    intro f
    induction f with
    | zero => intro r kp' _ h; omega
    | succ f ih =>
      intro r kp' h1 h2 KF
      rcases Nat.lt_or_ge r m with z | z
      · obtain ⟨c1, c2⟩ := hβ r z
        obtain ⟨d1, d2, d3, d4⟩ := Dk r h1
        have f0 := d3 r (Nat.le_refl _) z
        have IH := fun kp2 => ih (r + 1) kp2 z (by omega)
        simp (disch := omega) only [wX_chooseKept_14, nI_clamp, dl_Ar, dl_Au, dl_leT, dl_leF, dl_ltT, dl_ltF, dl_eqT, dl_eqF, nI_add, nI_1, dl_inT, dl_sub, dl_sub1, dl_subm1, forall_eq, true_implies, false_implies, not_true, not_false_iff, true_and, and_true, dl_leLT0, dl_leLF0, dl_leRT0, dl_leRF0, dl_ltLT0, dl_ltLF0, dl_ltRT0, dl_ltRF0, dl_eqRT0, dl_eqRF0, dl_leLT1, dl_leLF1, dl_leRT1, dl_leRF1, dl_ltLT1, dl_ltLF1, dl_ltRT1, dl_ltRF1, dl_eqRT1, dl_eqRF1, dl_leLT2, dl_leLF2, dl_leRT2, dl_leRF2, dl_ltLT2, dl_ltLF2, dl_ltRT2, dl_ltRF2, dl_eqRT2, dl_eqRF2, dl_leLT3, dl_leLF3, dl_leRT3, dl_leRF3, dl_ltLT3, dl_ltLF3, dl_ltRT3, dl_ltRF3, dl_eqRT3, dl_eqRF3, dl_leLT8, dl_leLF8, dl_leRT8, dl_leRF8, dl_ltLT8, dl_ltLF8, dl_ltRT8, dl_ltRF8, dl_eqRT8, dl_eqRF8, dl_leLT9, dl_leLF9, dl_leRT9, dl_leRF9, dl_ltLT9, dl_ltLF9, dl_ltRT9, dl_ltRF9, dl_eqRT9, dl_eqRF9, dl_leLT16, dl_leLF16, dl_leRT16, dl_leRF16, dl_ltLT16, dl_ltLF16, dl_ltRT16, dl_ltRF16, dl_eqRT16, dl_eqRF16, dl_leLT64, dl_leLF64, dl_leRT64, dl_leRF64, dl_ltLT64, dl_ltLF64, dl_ltRT64, dl_ltRF64, dl_eqRT64, dl_eqRF64, dl_leLT65, dl_leLF65, dl_leRT65, dl_leRF65, dl_ltLT65, dl_ltLF65, dl_ltRT65, dl_ltRF65, dl_eqRT65, dl_eqRF65]
        refine dl_xcc (F := dl_dec (dl_R cnt K S D N) β F0 r) _ (by omega) (fun x y q => ⟨q.1, q.2.1⟩) dl_R_ir G c1 c2 (by omega) CC KF (fun q => br_f (by decide) ?_) (fun q => br_t rfl ?_)
        · have e : dl_dec (dl_R cnt K S D N) β F0 (r + 1) = dl_u (dl_dec (dl_R cnt K S D N) β F0 r) (β r) 3 := by
            show dl_u _ _ _ = _
            rw [dl_b_t q]
          rw [e] at IH
          have ec : dl_cst N (dl_u (dl_dec (dl_R cnt K S D N) β F0 r) (β r) 3) cnt = dl_cst N (dl_dec (dl_R cnt K S D N) β F0 r) cnt + N (β r) := by
            refine dl_s_u c1 (fun i _ ne => by rw [dl_un ne]) ?_
            rw [dl_us, if_pos rfl, if_neg (by omega)]; omega
          rw [ec] at IH
          try simp (disch := omega) only [nI_clamp, dl_Ar, dl_Au, dl_leT, dl_leF, dl_ltT, dl_ltF, dl_eqT, dl_eqF, nI_add, nI_1, dl_inT, dl_sub, dl_sub1, dl_subm1, forall_eq, true_implies, false_implies, not_true, not_false_iff, true_and, and_true, dl_leLT0, dl_leLF0, dl_leRT0, dl_leRF0, dl_ltLT0, dl_ltLF0, dl_ltRT0, dl_ltRF0, dl_eqRT0, dl_eqRF0, dl_leLT1, dl_leLF1, dl_leRT1, dl_leRF1, dl_ltLT1, dl_ltLF1, dl_ltRT1, dl_ltRF1, dl_eqRT1, dl_eqRF1, dl_leLT2, dl_leLF2, dl_leRT2, dl_leRF2, dl_ltLT2, dl_ltLF2, dl_ltRT2, dl_ltRF2, dl_eqRT2, dl_eqRF2, dl_leLT3, dl_leLF3, dl_leRT3, dl_leRF3, dl_ltLT3, dl_ltLF3, dl_ltRT3, dl_ltRF3, dl_eqRT3, dl_eqRF3, dl_leLT8, dl_leLF8, dl_leRT8, dl_leRF8, dl_ltLT8, dl_ltLF8, dl_ltRT8, dl_ltRF8, dl_eqRT8, dl_eqRF8, dl_leLT9, dl_leLF9, dl_leRT9, dl_leRF9, dl_ltLT9, dl_ltLF9, dl_ltRT9, dl_ltRF9, dl_eqRT9, dl_eqRF9, dl_leLT16, dl_leLF16, dl_leRT16, dl_leRF16, dl_ltLT16, dl_ltLF16, dl_ltRT16, dl_ltRF16, dl_eqRT16, dl_eqRF16, dl_leLT64, dl_leLF64, dl_leRT64, dl_leRF64, dl_ltLT64, dl_ltLF64, dl_ltRT64, dl_ltRF64, dl_eqRT64, dl_eqRF64, dl_leLT65, dl_leLF65, dl_leRT65, dl_leRF65, dl_ltLT65, dl_ltLF65, dl_ltRT65, dl_ltRF65, dl_eqRT65, dl_eqRF65]
          refine IH kp' (fun j hj => (KF j hj).trans ?_)
          by_cases ej : j = β r
          · rw [ej, dl_us, f0]
            exact ⟨fun w => absurd w.2 (by omega), fun w => absurd w.2 (by omega)⟩
          · rw [dl_un ej]
        · have e : dl_dec (dl_R cnt K S D N) β F0 (r + 1) = dl_u (dl_dec (dl_R cnt K S D N) β F0 r) (β r) 1 := by
            show dl_u _ _ _ = _
            rw [dl_b_f q]
          rw [e] at IH
          have ec : dl_cst N (dl_u (dl_dec (dl_R cnt K S D N) β F0 r) (β r) 1) cnt = dl_cst N (dl_dec (dl_R cnt K S D N) β F0 r) cnt := by
            refine dl_s_c (fun i _ => ?_)
            by_cases ei : i = β r
            · rw [ei, dl_us, f0]; rfl
            · rw [dl_un ei]
          rw [ec] at IH
          try simp (disch := omega) only [nI_clamp, dl_Ar, dl_Au, dl_leT, dl_leF, dl_ltT, dl_ltF, dl_eqT, dl_eqF, nI_add, nI_1, dl_inT, dl_sub, dl_sub1, dl_subm1, forall_eq, true_implies, false_implies, not_true, not_false_iff, true_and, and_true, dl_leLT0, dl_leLF0, dl_leRT0, dl_leRF0, dl_ltLT0, dl_ltLF0, dl_ltRT0, dl_ltRF0, dl_eqRT0, dl_eqRF0, dl_leLT1, dl_leLF1, dl_leRT1, dl_leRF1, dl_ltLT1, dl_ltLF1, dl_ltRT1, dl_ltRF1, dl_eqRT1, dl_eqRF1, dl_leLT2, dl_leLF2, dl_leRT2, dl_leRF2, dl_ltLT2, dl_ltLF2, dl_ltRT2, dl_ltRF2, dl_eqRT2, dl_eqRF2, dl_leLT3, dl_leLF3, dl_leRT3, dl_leRF3, dl_ltLT3, dl_ltLF3, dl_ltRT3, dl_ltRF3, dl_eqRT3, dl_eqRF3, dl_leLT8, dl_leLF8, dl_leRT8, dl_leRF8, dl_ltLT8, dl_ltLF8, dl_ltRT8, dl_ltRF8, dl_eqRT8, dl_eqRF8, dl_leLT9, dl_leLF9, dl_leRT9, dl_leRF9, dl_ltLT9, dl_ltLF9, dl_ltRT9, dl_ltRF9, dl_eqRT9, dl_eqRF9, dl_leLT16, dl_leLF16, dl_leRT16, dl_leRF16, dl_ltLT16, dl_ltLF16, dl_ltRT16, dl_ltRF16, dl_eqRT16, dl_eqRF16, dl_leLT64, dl_leLF64, dl_leRT64, dl_leRF64, dl_ltLT64, dl_ltLF64, dl_ltRT64, dl_ltRF64, dl_eqRT64, dl_eqRF64, dl_leLT65, dl_leLF65, dl_leRT65, dl_leRF65, dl_ltLT65, dl_ltLF65, dl_ltRT65, dl_ltRF65, dl_eqRT65, dl_eqRF65]
          refine IH _ (fun j hj => ?_)
          rw [dl_or1 (by omega) hj, KF j hj]
          by_cases ej : j = β r
          · rw [ej, dl_us]
            exact ⟨fun _ => ⟨c1, rfl⟩, fun _ => Or.inr rfl⟩
          · rw [dl_un ej]
            exact ⟨fun w => w.elim id (fun w => absurd w ej), Or.inl⟩
      · have e : r = m := by omega
        subst e
        simp (disch := omega) only [wX_chooseKept_14, nI_clamp, dl_Ar, dl_Au, dl_leT, dl_leF, dl_ltT, dl_ltF, dl_eqT, dl_eqF, nI_add, nI_1, dl_inT, dl_sub, dl_sub1, dl_subm1, forall_eq, true_implies, false_implies, not_true, not_false_iff, true_and, and_true, dl_leLT0, dl_leLF0, dl_leRT0, dl_leRF0, dl_ltLT0, dl_ltLF0, dl_ltRT0, dl_ltRF0, dl_eqRT0, dl_eqRF0, dl_leLT1, dl_leLF1, dl_leRT1, dl_leRF1, dl_ltLT1, dl_ltLF1, dl_ltRT1, dl_ltRF1, dl_eqRT1, dl_eqRF1, dl_leLT2, dl_leLF2, dl_leRT2, dl_leRF2, dl_ltLT2, dl_ltLF2, dl_ltRT2, dl_ltRF2, dl_eqRT2, dl_eqRF2, dl_leLT3, dl_leLF3, dl_leRT3, dl_leRF3, dl_ltLT3, dl_ltLF3, dl_ltRT3, dl_ltRF3, dl_eqRT3, dl_eqRF3, dl_leLT8, dl_leLF8, dl_leRT8, dl_leRF8, dl_ltLT8, dl_ltLF8, dl_ltRT8, dl_ltRF8, dl_eqRT8, dl_eqRF8, dl_leLT9, dl_leLF9, dl_leRT9, dl_leRF9, dl_ltLT9, dl_ltLF9, dl_ltRT9, dl_ltRF9, dl_eqRT9, dl_eqRF9, dl_leLT16, dl_leLF16, dl_leRT16, dl_leRF16, dl_ltLT16, dl_ltLF16, dl_ltRT16, dl_ltRF16, dl_eqRT16, dl_eqRF16, dl_leLT64, dl_leLF64, dl_leRT64, dl_leRF64, dl_ltLT64, dl_ltLF64, dl_ltRT64, dl_ltRF64, dl_eqRT64, dl_eqRF64, dl_leLT65, dl_leLF65, dl_leRT65, dl_leRF65, dl_ltLT65, dl_ltLF65, dl_ltRT65, dl_ltRF65, dl_eqRT65, dl_eqRF65]
        exact H β r kp' hm Sb KF
  have e0 : dl_cst N F0 cnt = 0 := dl_s_0 (fun i hi => if_neg (by rw [hF0 i hi]; split <;> omega))
  have k0 := key (m + 1) 0 0 (by omega) (by omega) (fun j hj => by
    rw [b_0]
    refine ⟨fun w => absurd w (by decide), fun w => ?_⟩
    have := hF0 j w.1
    have w2 : F0 j = 1 := w.2
    rw [w2] at this
    split at this <;> omega)
  have k1 : dl_cst N (dl_dec (dl_R cnt K S D N) β F0 0) cnt = 0 := e0
  rw [k1] at k0
  exact ⟨m + 1, k0⟩
end
end
section
def dl_Pk (R : Nat → Nat → Prop) (Lf : Nat → Prop) (c : Nat) : Prop := Lf c ∧ (∀ x, Lf x → ¬ R x c) ∧ ∀ d, d < c → Lf d → ∃ x, Lf x ∧ R x d
/-- the kept copies in their order -/
def dl_Kq (cnt : Nat) (R : Nat → Nat → Prop) (F π : Nat → Nat) (m : Nat) : Prop := ∀ t, t < m → dl_Pk R (fun c => c < cnt ∧ F c = 1 ∧ ∀ s, s < t → π s ≠ c) (π t)
/-- the whole order: π the command at each place, ρ the place of each command -/
def dl_Pi (cnt : Nat) (R : Nat → Nat → Prop) (D F π ρ : Nat → Nat) (m : Nat) : Prop :=
  (∀ t, t < cnt → π t < cnt ∧ ρ (π t) = t) ∧ (∀ c, c < cnt → ρ c < cnt ∧ π (ρ c) = c) ∧ m ≤ cnt ∧ dl_Kq cnt R F π m ∧ (∀ t, m ≤ t → t < cnt → ¬ F (π t) = 1) ∧ ∀ t t', m ≤ t → t < t' → t' < cnt → D (π t) < D (π t')
theorem dl_Kq_c {cnt m : Nat} {R : Nat → Nat → Prop} {F π π' : Nat → Nat} (h : dl_Kq cnt R F π m) (e : ∀ t, t < m → π' t = π t) : dl_Kq cnt R F π' m := by
  intro t ht
  have q := h t ht
  rw [e t ht]
  have g : (fun c => c < cnt ∧ F c = 1 ∧ ∀ s, s < t → π' s ≠ c) = (fun c => c < cnt ∧ F c = 1 ∧ ∀ s, s < t → π s ≠ c) := by
    funext c
    refine propext ⟨fun w => ⟨w.1, w.2.1, fun s hs => ?_⟩, fun w => ⟨w.1, w.2.1, fun s hs => ?_⟩⟩
    · rw [← e s (by omega)]; exact w.2.2 s hs
    · rw [e s (by omega)]; exact w.2.2 s hs
  rw [g]
  exact q
section
variable {C L ph ol T cnt ls co dn pl dy : Nat} {kp : Int32} {K S D N A bD sq po ws ss bd F P : Nat → Nat} {bu pool bf af cm ed re old nxt dat mk : Nat → Int32}
theorem dl_xik (post : Int32 → Prop) (hcnt : cnt ≤ 16) (KF : dl_KF cnt F kp) {c : Nat} (hc : c < cnt) (H1 : F c = 1 → post 1) (H0 : ¬ F c = 1 → post 0) : wpX_isKept post (nI C, nI L, nI ph, nI ol, nI T, nI cnt, nI ls, nI co, kp, nI dn, nI pl, bu, dl_A K, dl_A S, dl_A D, dl_A N, dl_A A, pool, dl_A bD, bf, af, cm, dl_A sq, dl_A po, dl_A ws, dl_A ss, ed, re, dl_A bd) (nI c) := by
  have k := KF c (by omega)
  by_cases q : F c = 1
  · have nz : ¬ ((kp >>> (nI c &&& 31)) &&& 1) = 0 := fun e => (dl_bit (by omega)).mp e (k.mpr ⟨hc, q⟩)
    exact br_f nz (H1 q)
  · have nz : ((kp >>> (nI c &&& 31)) &&& 1) = 0 := (dl_bit (by omega)).mpr (fun e => q (k.mp e).2)
    exact br_t nz (H0 q)
theorem dl_xsv42 (post : SX → Prop) (J : Int32 → Int32 → (Nat → Int32) → (Nat → Int32) → (Nat → Int32) → (Nat → Int32) → (Nat → Int32) → (Nat → Int32) → (Nat → Int32) → (Nat → Int32) → (Nat → Int32) → (Nat → Int32) → (Nat → Int32) → (Nat → Int32) → (Nat → Int32) → (Nat → Int32) → (Nat → Int32) → (Nat → Int32) → (Nat → Int32) → (Nat → Int32) → Prop) {c a : Nat} (hc : c < 16) (ha : a + N c ≤ 64) (hs : S c + N c ≤ 64) {pool0 : Nat → Int32}
    (H : ∀ pool', (∀ q, q < a → pool' q = pool0 q) → (∀ k, k < N c → pool' (a + k) = bu (S c + k)) → J (nI (a + N c)) (nI (c + 1)) bu (dl_A K) (dl_A S) (dl_A D) (dl_A N) (dl_A A) pool' (dl_A bD) bf af cm (dl_A sq) (dl_A po) (dl_A ws) (dl_A ss) ed re (dl_A bd)) :
    ∀ f k pool', k ≤ N c → N c - k < f → (∀ q, q < a → pool' q = pool0 q) → (∀ k', k' < k → pool' (a + k') = bu (S c + k')) → wX_saveConverted_42 post J (nI a) (nI c) (nI C) (nI L) (nI ph) (nI ol) (nI T) (nI cnt) (nI ls) (nI co) kp (nI dn) (nI pl) f (nI k) bu (dl_A K) (dl_A S) (dl_A D) (dl_A N) (dl_A A) pool' (dl_A bD) bf af cm (dl_A sq) (dl_A po) (dl_A ws) (dl_A ss) ed re (dl_A bd) := by
  intro f
  induction f with
  | zero => intro k pool' _ h; omega
  | succ f ih =>
    intro k pool' h1 h2 P1 P2
    rcases Nat.lt_or_ge k (N c) with z | z
    · simp (disch := omega) only [wX_saveConverted_42, nI_clamp, dl_Ar, dl_Au, dl_leT, dl_leF, dl_ltT, dl_ltF, dl_eqT, dl_eqF, nI_add, nI_1, dl_inT, dl_sub, dl_sub1, dl_subm1, forall_eq, true_implies, false_implies, not_true, not_false_iff, true_and, and_true, dl_leLT0, dl_leLF0, dl_leRT0, dl_leRF0, dl_ltLT0, dl_ltLF0, dl_ltRT0, dl_ltRF0, dl_eqRT0, dl_eqRF0, dl_leLT1, dl_leLF1, dl_leRT1, dl_leRF1, dl_ltLT1, dl_ltLF1, dl_ltRT1, dl_ltRF1, dl_eqRT1, dl_eqRF1, dl_leLT2, dl_leLF2, dl_leRT2, dl_leRF2, dl_ltLT2, dl_ltLF2, dl_ltRT2, dl_ltRF2, dl_eqRT2, dl_eqRF2, dl_leLT3, dl_leLF3, dl_leRT3, dl_leRF3, dl_ltLT3, dl_ltLF3, dl_ltRT3, dl_ltRF3, dl_eqRT3, dl_eqRF3, dl_leLT8, dl_leLF8, dl_leRT8, dl_leRF8, dl_ltLT8, dl_ltLF8, dl_ltRT8, dl_ltRF8, dl_eqRT8, dl_eqRF8, dl_leLT9, dl_leLF9, dl_leRT9, dl_leRF9, dl_ltLT9, dl_ltLF9, dl_ltRT9, dl_ltRF9, dl_eqRT9, dl_eqRF9, dl_leLT16, dl_leLF16, dl_leRT16, dl_leRF16, dl_ltLT16, dl_ltLF16, dl_ltRT16, dl_ltRF16, dl_eqRT16, dl_eqRF16, dl_leLT64, dl_leLF64, dl_leRT64, dl_leRF64, dl_ltLT64, dl_ltLF64, dl_ltRT64, dl_ltRF64, dl_eqRT64, dl_eqRF64, dl_leLT65, dl_leLF65, dl_leRT65, dl_leRF65, dl_ltLT65, dl_ltLF65, dl_ltRT65, dl_ltRF65, dl_eqRT65, dl_eqRF65]
      refine ih (k + 1) _ z (by omega) (fun q hq => ?_) (fun k' hk => ?_)
      · rw [pk_un (by omega)]; exact P1 q hq
      · by_cases e : k' = k
        · rw [e, pk_us]
        · rw [pk_un (by omega)]; exact P2 k' (by omega)
    · have e : k = N c := by omega
      subst e
      simp (disch := omega) only [wX_saveConverted_42, nI_clamp, dl_Ar, dl_Au, dl_leT, dl_leF, dl_ltT, dl_ltF, dl_eqT, dl_eqF, nI_add, nI_1, dl_inT, dl_sub, dl_sub1, dl_subm1, forall_eq, true_implies, false_implies, not_true, not_false_iff, true_and, and_true, dl_leLT0, dl_leLF0, dl_leRT0, dl_leRF0, dl_ltLT0, dl_ltLF0, dl_ltRT0, dl_ltRF0, dl_eqRT0, dl_eqRF0, dl_leLT1, dl_leLF1, dl_leRT1, dl_leRF1, dl_ltLT1, dl_ltLF1, dl_ltRT1, dl_ltRF1, dl_eqRT1, dl_eqRF1, dl_leLT2, dl_leLF2, dl_leRT2, dl_leRF2, dl_ltLT2, dl_ltLF2, dl_ltRT2, dl_ltRF2, dl_eqRT2, dl_eqRF2, dl_leLT3, dl_leLF3, dl_leRT3, dl_leRF3, dl_ltLT3, dl_ltLF3, dl_ltRT3, dl_ltRF3, dl_eqRT3, dl_eqRF3, dl_leLT8, dl_leLF8, dl_leRT8, dl_leRF8, dl_ltLT8, dl_ltLF8, dl_ltRT8, dl_ltRF8, dl_eqRT8, dl_eqRF8, dl_leLT9, dl_leLF9, dl_leRT9, dl_leRF9, dl_ltLT9, dl_ltLF9, dl_ltRT9, dl_ltRF9, dl_eqRT9, dl_eqRF9, dl_leLT16, dl_leLF16, dl_leRT16, dl_leRF16, dl_ltLT16, dl_ltLF16, dl_ltRT16, dl_ltRF16, dl_eqRT16, dl_eqRF16, dl_leLT64, dl_leLF64, dl_leRT64, dl_leRF64, dl_ltLT64, dl_ltLF64, dl_ltRT64, dl_ltRF64, dl_eqRT64, dl_eqRF64, dl_leLT65, dl_leLF65, dl_leRT65, dl_leRF65, dl_ltLT65, dl_ltLF65, dl_ltRT65, dl_ltRF65, dl_eqRT65, dl_eqRF65]
      exact H pool' P1 P2
theorem dl_xsv (post : SX → Prop) (B : dl_Bs C L ol T cnt K S D N) (KF : dl_KF cnt F kp) (hF : ∀ c, c < cnt → (F c = 3 ↔ (K c = 1 ∧ ¬ F c = 1))) (hs : ls + dl_cst N F cnt ≤ 64)
    (H : ∀ A' pool', (∀ d, d < cnt → ¬ F d = 3 → A' d = A d) → (∀ q, q < ls → pool' q = pool q) → (∀ d, d < cnt → F d = 3 → A' d + N d ≤ 64 ∧ ∀ k, k < N d → pool' (A' d + k) = bu (S d + k)) → post (nI C, nI L, nI ph, nI ol, nI T, nI cnt, nI ls, nI co, kp, nI dn, nI pl, bu, dl_A K, dl_A S, dl_A D, dl_A N, dl_A A', pool', dl_A bD, bf, af, cm, dl_A sq, dl_A po, dl_A ws, dl_A ss, ed, re, dl_A bd)) : wpX_saveConverted post (nI C, nI L, nI ph, nI ol, nI T, nI cnt, nI ls, nI co, kp, nI dn, nI pl, bu, dl_A K, dl_A S, dl_A D, dl_A N, dl_A A, pool, dl_A bD, bf, af, cm, dl_A sq, dl_A po, dl_A ws, dl_A ss, ed, re, dl_A bd) := by
  obtain ⟨b1, b2, b3, b4, b5, b6, b7, b8⟩ := B
  have key : ∀ f c A' pool', c ≤ cnt → cnt - c < f → (∀ d, d < cnt → ¬ F d = 3 → A' d = A d) → (∀ q, q < ls → pool' q = pool q) → (∀ d, d < c → F d = 3 → A' d + N d ≤ ls + dl_s (fun c => if F c = 3 then N c else 0) c ∧ ∀ k, k < N d → pool' (A' d + k) = bu (S d + k)) →
      wX_saveConverted_7 post (nI C) (nI L) (nI ph) (nI ol) (nI T) (nI cnt) (nI ls) (nI co) kp (nI dn) (nI pl) f (nI (ls + dl_s (fun c => if F c = 3 then N c else 0) c)) (nI c) bu (dl_A K) (dl_A S) (dl_A D) (dl_A N) (dl_A A') pool' (dl_A bD) bf af cm (dl_A sq) (dl_A po) (dl_A ws) (dl_A ss) ed re (dl_A bd) := by
    intro f
    induction f with
    | zero => intro c A' pool' _ h; omega
    | succ f ih =>
      intro c A' pool' h1 h2 P1 P2 P3
      rcases Nat.lt_or_ge c cnt with z | z
      · obtain ⟨c1, c2, c3⟩ := b8 c z
        have hb := dl_s_get (f := fun c => if F c = 3 then N c else 0) z
        have e1 : dl_s (fun c => if F c = 3 then N c else 0) (c + 1) = dl_s (fun c => if F c = 3 then N c else 0) c + if F c = 3 then N c else 0 := rfl
        have hk : K c < 2147483648 := by omega
        have same : ¬ F c = 3 → wX_saveConverted_7 post (nI C) (nI L) (nI ph) (nI ol) (nI T) (nI cnt) (nI ls) (nI co) kp (nI dn) (nI pl) f (nI (ls + dl_s (fun c => if F c = 3 then N c else 0) c)) (nI (c + 1)) bu (dl_A K) (dl_A S) (dl_A D) (dl_A N) (dl_A A') pool' (dl_A bD) bf af cm (dl_A sq) (dl_A po) (dl_A ws) (dl_A ss) ed re (dl_A bd) := fun ne => by
          have IH := ih (c + 1) A' pool' z (by omega) P1 P2 (fun d hd e => by
            rw [e1, if_neg ne]
            refine P3 d ?_ e
            by_cases w : d = c
            · rw [w] at e; exact absurd e ne
            · omega)
          rw [e1, if_neg ne] at IH
          exact IH
        by_cases k : K c = 1
        · simp (disch := omega) only [wX_saveConverted_7, nI_clamp, dl_Ar, dl_Au, dl_leT, dl_leF, dl_ltT, dl_ltF, dl_eqT, dl_eqF, nI_add, nI_1, dl_inT, dl_sub, dl_sub1, dl_subm1, forall_eq, true_implies, false_implies, not_true, not_false_iff, true_and, and_true, dl_leLT0, dl_leLF0, dl_leRT0, dl_leRF0, dl_ltLT0, dl_ltLF0, dl_ltRT0, dl_ltRF0, dl_eqRT0, dl_eqRF0, dl_leLT1, dl_leLF1, dl_leRT1, dl_leRF1, dl_ltLT1, dl_ltLF1, dl_ltRT1, dl_ltRF1, dl_eqRT1, dl_eqRF1, dl_leLT2, dl_leLF2, dl_leRT2, dl_leRF2, dl_ltLT2, dl_ltLF2, dl_ltRT2, dl_ltRF2, dl_eqRT2, dl_eqRF2, dl_leLT3, dl_leLF3, dl_leRT3, dl_leRF3, dl_ltLT3, dl_ltLF3, dl_ltRT3, dl_ltRF3, dl_eqRT3, dl_eqRF3, dl_leLT8, dl_leLF8, dl_leRT8, dl_leRF8, dl_ltLT8, dl_ltLF8, dl_ltRT8, dl_ltRF8, dl_eqRT8, dl_eqRF8, dl_leLT9, dl_leLF9, dl_leRT9, dl_leRF9, dl_ltLT9, dl_ltLF9, dl_ltRT9, dl_ltRF9, dl_eqRT9, dl_eqRF9, dl_leLT16, dl_leLF16, dl_leRT16, dl_leRF16, dl_ltLT16, dl_ltLF16, dl_ltRT16, dl_ltRF16, dl_eqRT16, dl_eqRF16, dl_leLT64, dl_leLF64, dl_leRT64, dl_leRF64, dl_ltLT64, dl_ltLF64, dl_ltRT64, dl_ltRF64, dl_eqRT64, dl_eqRF64, dl_leLT65, dl_leLF65, dl_leRT65, dl_leRF65, dl_ltLT65, dl_ltLF65, dl_ltRT65, dl_ltRF65, dl_eqRT65, dl_eqRF65]
          refine dl_xik _ (by omega) KF z (fun q => br_f (by decide) (same (by omega))) (fun q => br_t rfl ?_)
          have f3 : F c = 3 := (hF c z).mpr ⟨k, q⟩
          unfold dl_cst at hs
          try dsimp only at hb
          rw [if_pos f3] at hb e1
          try simp (disch := omega) only [nI_clamp, dl_Ar, dl_Au, dl_leT, dl_leF, dl_ltT, dl_ltF, dl_eqT, dl_eqF, nI_add, nI_1, dl_inT, dl_sub, dl_sub1, dl_subm1, forall_eq, true_implies, false_implies, not_true, not_false_iff, true_and, and_true, dl_leLT0, dl_leLF0, dl_leRT0, dl_leRF0, dl_ltLT0, dl_ltLF0, dl_ltRT0, dl_ltRF0, dl_eqRT0, dl_eqRF0, dl_leLT1, dl_leLF1, dl_leRT1, dl_leRF1, dl_ltLT1, dl_ltLF1, dl_ltRT1, dl_ltRF1, dl_eqRT1, dl_eqRF1, dl_leLT2, dl_leLF2, dl_leRT2, dl_leRF2, dl_ltLT2, dl_ltLF2, dl_ltRT2, dl_ltRF2, dl_eqRT2, dl_eqRF2, dl_leLT3, dl_leLF3, dl_leRT3, dl_leRF3, dl_ltLT3, dl_ltLF3, dl_ltRT3, dl_ltRF3, dl_eqRT3, dl_eqRF3, dl_leLT8, dl_leLF8, dl_leRT8, dl_leRF8, dl_ltLT8, dl_ltLF8, dl_ltRT8, dl_ltRF8, dl_eqRT8, dl_eqRF8, dl_leLT9, dl_leLF9, dl_leRT9, dl_leRF9, dl_ltLT9, dl_ltLF9, dl_ltRT9, dl_ltRF9, dl_eqRT9, dl_eqRF9, dl_leLT16, dl_leLF16, dl_leRT16, dl_leRF16, dl_ltLT16, dl_ltLF16, dl_ltRT16, dl_ltRF16, dl_eqRT16, dl_eqRF16, dl_leLT64, dl_leLF64, dl_leRT64, dl_leRF64, dl_ltLT64, dl_ltLF64, dl_ltRT64, dl_ltRF64, dl_eqRT64, dl_eqRF64, dl_leLT65, dl_leLF65, dl_leRT65, dl_leRF65, dl_ltLT65, dl_ltLF65, dl_ltRT65, dl_ltRF65, dl_eqRT65, dl_eqRF65]
          refine ⟨N c + 1, dl_xsv42 post _ (pool0 := pool') (by omega) (by omega) (by omega) (fun pool2 Q1 Q2 => ?_) _ 0 pool' (by omega) (by omega) (fun _ _ => rfl) (fun _ h => by omega)⟩
          have IH := ih (c + 1) (dl_u A' c (ls + dl_s (fun c => if F c = 3 then N c else 0) c)) pool2 z (by omega) (fun d hd e => by rw [dl_un (fun w => e (by rw [w]; exact f3))]; exact P1 d hd e) (fun q hq => by rw [Q1 q (by omega)]; exact P2 q hq) (fun d hd e => by
            rw [e1]
            by_cases w : d = c
            · rw [w, dl_us]; exact ⟨by omega, Q2⟩
            · rw [dl_un w]
              obtain ⟨r1, r2⟩ := P3 d (by omega) e
              exact ⟨by omega, fun k hk => by rw [Q1 _ (by omega)]; exact r2 k hk⟩)
          rw [e1, ← Nat.add_assoc] at IH
          exact IH
        · simp (disch := omega) only [wX_saveConverted_7, nI_clamp, dl_Ar, dl_Au, dl_leT, dl_leF, dl_ltT, dl_ltF, dl_eqT, dl_eqF, nI_add, nI_1, dl_inT, dl_sub, dl_sub1, dl_subm1, forall_eq, true_implies, false_implies, not_true, not_false_iff, true_and, and_true, dl_leLT0, dl_leLF0, dl_leRT0, dl_leRF0, dl_ltLT0, dl_ltLF0, dl_ltRT0, dl_ltRF0, dl_eqRT0, dl_eqRF0, dl_leLT1, dl_leLF1, dl_leRT1, dl_leRF1, dl_ltLT1, dl_ltLF1, dl_ltRT1, dl_ltRF1, dl_eqRT1, dl_eqRF1, dl_leLT2, dl_leLF2, dl_leRT2, dl_leRF2, dl_ltLT2, dl_ltLF2, dl_ltRT2, dl_ltRF2, dl_eqRT2, dl_eqRF2, dl_leLT3, dl_leLF3, dl_leRT3, dl_leRF3, dl_ltLT3, dl_ltLF3, dl_ltRT3, dl_ltRF3, dl_eqRT3, dl_eqRF3, dl_leLT8, dl_leLF8, dl_leRT8, dl_leRF8, dl_ltLT8, dl_ltLF8, dl_ltRT8, dl_ltRF8, dl_eqRT8, dl_eqRF8, dl_leLT9, dl_leLF9, dl_leRT9, dl_leRF9, dl_ltLT9, dl_ltLF9, dl_ltRT9, dl_ltRF9, dl_eqRT9, dl_eqRF9, dl_leLT16, dl_leLF16, dl_leRT16, dl_leRF16, dl_ltLT16, dl_ltLF16, dl_ltRT16, dl_ltRF16, dl_eqRT16, dl_eqRF16, dl_leLT64, dl_leLF64, dl_leRT64, dl_leRF64, dl_ltLT64, dl_ltLF64, dl_ltRT64, dl_ltRF64, dl_eqRT64, dl_eqRF64, dl_leLT65, dl_leLF65, dl_leRT65, dl_leRF65, dl_ltLT65, dl_ltLF65, dl_ltRT65, dl_ltRF65, dl_eqRT65, dl_eqRF65]
          exact same (fun e => k ((hF c z).mp e).1)
      · have e : c = cnt := by omega
        subst e
        simp (disch := omega) only [wX_saveConverted_7, nI_clamp, dl_Ar, dl_Au, dl_leT, dl_leF, dl_ltT, dl_ltF, dl_eqT, dl_eqF, nI_add, nI_1, dl_inT, dl_sub, dl_sub1, dl_subm1, forall_eq, true_implies, false_implies, not_true, not_false_iff, true_and, and_true, dl_leLT0, dl_leLF0, dl_leRT0, dl_leRF0, dl_ltLT0, dl_ltLF0, dl_ltRT0, dl_ltRF0, dl_eqRT0, dl_eqRF0, dl_leLT1, dl_leLF1, dl_leRT1, dl_leRF1, dl_ltLT1, dl_ltLF1, dl_ltRT1, dl_ltRF1, dl_eqRT1, dl_eqRF1, dl_leLT2, dl_leLF2, dl_leRT2, dl_leRF2, dl_ltLT2, dl_ltLF2, dl_ltRT2, dl_ltRF2, dl_eqRT2, dl_eqRF2, dl_leLT3, dl_leLF3, dl_leRT3, dl_leRF3, dl_ltLT3, dl_ltLF3, dl_ltRT3, dl_ltRF3, dl_eqRT3, dl_eqRF3, dl_leLT8, dl_leLF8, dl_leRT8, dl_leRF8, dl_ltLT8, dl_ltLF8, dl_ltRT8, dl_ltRF8, dl_eqRT8, dl_eqRF8, dl_leLT9, dl_leLF9, dl_leRT9, dl_leRF9, dl_ltLT9, dl_ltLF9, dl_ltRT9, dl_ltRF9, dl_eqRT9, dl_eqRF9, dl_leLT16, dl_leLF16, dl_leRT16, dl_leRF16, dl_ltLT16, dl_ltLF16, dl_ltRT16, dl_ltRF16, dl_eqRT16, dl_eqRF16, dl_leLT64, dl_leLF64, dl_leRT64, dl_leRF64, dl_ltLT64, dl_ltLF64, dl_ltRT64, dl_ltRF64, dl_eqRT64, dl_eqRF64, dl_leLT65, dl_leLF65, dl_leRT65, dl_leRF65, dl_ltLT65, dl_ltLF65, dl_ltRT65, dl_ltRF65, dl_eqRT65, dl_eqRF65]
        exact H A' pool' P1 P2 (fun d hd e => ⟨Nat.le_trans (P3 d hd e).1 hs, (P3 d hd e).2⟩)
  have k0 := key (cnt + 1) 0 A pool (by omega) (by omega) (fun _ _ _ => rfl) (fun _ _ => rfl) (fun d h => by omega)
  exact ⟨cnt + 1, k0⟩
theorem dl_xrdy (post : Int32 → Prop) (hcnt : cnt ≤ 16) {R : Nat → Nat → Prop} (G : dl_BA bf af R) {Lf : Nat → Prop} (hL : ∀ c, Lf c → c < cnt) {x : Int32} (hx : ∀ j, j < 32 → (bt x j = true ↔ Lf j)) (ex : ∃ c, Lf c ∧ ∀ x, Lf x → ¬ R x c)
    (H : ∀ c, dl_Pk R Lf c → post (nI c)) : wpX_leastReady post (nI C, nI L, nI ph, nI ol, nI T, nI cnt, nI ls, nI co, kp, nI dn, nI pl, bu, dl_A K, dl_A S, dl_A D, dl_A N, dl_A A, pool, dl_A bD, bf, af, cm, dl_A sq, dl_A po, dl_A ws, dl_A ss, ed, re, dl_A bd) x := by
  obtain ⟨c0, ⟨l0, r0⟩, m0⟩ := pk_least (fun c => Lf c ∧ ∀ x, Lf x → ¬ R x c) ex
  have h0 := hL c0 l0
  have pk : dl_Pk R Lf c0 := ⟨l0, r0, fun d hd ld => Classical.byContradiction (fun w => m0 d hd ⟨ld, fun x lx rx => w ⟨x, lx, rx⟩⟩)⟩
  have key : ∀ f c, c ≤ c0 → c0 - c < f → wX_leastReady_2 post x (nI C) (nI L) (nI ph) (nI ol) (nI T) (nI cnt) (nI ls) (nI co) kp (nI dn) (nI pl) bu (dl_A K) (dl_A S) (dl_A D) (dl_A N) (dl_A A) pool (dl_A bD) bf af cm (dl_A sq) (dl_A po) (dl_A ws) (dl_A ss) ed re (dl_A bd) f (nI c) := by
    intro f
    induction f with
    | zero => intro c _ h; omega
    | succ f ih =>
      intro c h1 h2
      by_cases q : Lf c
      · have nz : ¬ ((x >>> (nI c &&& 31)) &&& 1) = 0 := fun e => (dl_bit (by omega)).mp e ((hx c (by omega)).mpr q)
        have az : (af c &&& x) = 0 ↔ ∀ y, Lf y → ¬ R y c := by
          rw [dl_z0]
          constructor
          · intro w y ly ry
            have hy := hL y ly
            refine w y (by omega) ?_
            rw [b_and, Bool.and_eq_true]
            exact ⟨(G.2 y c (by omega) (by omega)).mpr ry, (hx y (by omega)).mpr ly⟩
          · intro w y hy b
            rw [b_and, Bool.and_eq_true] at b
            have ly := (hx y hy).mp b.2
            have hy2 := hL y ly
            exact w y ly ((G.2 y c (by omega) (by omega)).mp b.1)
        by_cases e : c = c0
        · subst e
          have a0 := az.mpr r0
          simp (disch := omega) only [wX_leastReady_2, nI_clamp, dl_Ar, dl_Au, dl_leT, dl_leF, dl_ltT, dl_ltF, dl_eqT, dl_eqF, nI_add, nI_1, dl_inT, dl_sub, dl_sub1, dl_subm1, forall_eq, true_implies, false_implies, not_true, not_false_iff, true_and, and_true, dl_leLT0, dl_leLF0, dl_leRT0, dl_leRF0, dl_ltLT0, dl_ltLF0, dl_ltRT0, dl_ltRF0, dl_eqRT0, dl_eqRF0, dl_leLT1, dl_leLF1, dl_leRT1, dl_leRF1, dl_ltLT1, dl_ltLF1, dl_ltRT1, dl_ltRF1, dl_eqRT1, dl_eqRF1, dl_leLT2, dl_leLF2, dl_leRT2, dl_leRF2, dl_ltLT2, dl_ltLF2, dl_ltRT2, dl_ltRF2, dl_eqRT2, dl_eqRF2, dl_leLT3, dl_leLF3, dl_leRT3, dl_leRF3, dl_ltLT3, dl_ltLF3, dl_ltRT3, dl_ltRF3, dl_eqRT3, dl_eqRF3, dl_leLT8, dl_leLF8, dl_leRT8, dl_leRF8, dl_ltLT8, dl_ltLF8, dl_ltRT8, dl_ltRF8, dl_eqRT8, dl_eqRF8, dl_leLT9, dl_leLF9, dl_leRT9, dl_leRF9, dl_ltLT9, dl_ltLF9, dl_ltRT9, dl_ltRF9, dl_eqRT9, dl_eqRF9, dl_leLT16, dl_leLF16, dl_leRT16, dl_leRF16, dl_ltLT16, dl_ltLF16, dl_ltRT16, dl_ltRF16, dl_eqRT16, dl_eqRF16, dl_leLT64, dl_leLF64, dl_leRT64, dl_leRF64, dl_ltLT64, dl_ltLF64, dl_ltRT64, dl_ltRF64, dl_eqRT64, dl_eqRF64, dl_leLT65, dl_leLF65, dl_leRT65, dl_leRF65, dl_ltLT65, dl_ltLF65, dl_ltRT65, dl_ltRF65, dl_eqRT65, dl_eqRF65, nz, a0]
          exact H c pk
        · have a0 : ¬ (af c &&& x) = 0 := fun w => m0 c (by omega) ⟨q, az.mp w⟩
          simp (disch := omega) only [wX_leastReady_2, nI_clamp, dl_Ar, dl_Au, dl_leT, dl_leF, dl_ltT, dl_ltF, dl_eqT, dl_eqF, nI_add, nI_1, dl_inT, dl_sub, dl_sub1, dl_subm1, forall_eq, true_implies, false_implies, not_true, not_false_iff, true_and, and_true, dl_leLT0, dl_leLF0, dl_leRT0, dl_leRF0, dl_ltLT0, dl_ltLF0, dl_ltRT0, dl_ltRF0, dl_eqRT0, dl_eqRF0, dl_leLT1, dl_leLF1, dl_leRT1, dl_leRF1, dl_ltLT1, dl_ltLF1, dl_ltRT1, dl_ltRF1, dl_eqRT1, dl_eqRF1, dl_leLT2, dl_leLF2, dl_leRT2, dl_leRF2, dl_ltLT2, dl_ltLF2, dl_ltRT2, dl_ltRF2, dl_eqRT2, dl_eqRF2, dl_leLT3, dl_leLF3, dl_leRT3, dl_leRF3, dl_ltLT3, dl_ltLF3, dl_ltRT3, dl_ltRF3, dl_eqRT3, dl_eqRF3, dl_leLT8, dl_leLF8, dl_leRT8, dl_leRF8, dl_ltLT8, dl_ltLF8, dl_ltRT8, dl_ltRF8, dl_eqRT8, dl_eqRF8, dl_leLT9, dl_leLF9, dl_leRT9, dl_leRF9, dl_ltLT9, dl_ltLF9, dl_ltRT9, dl_ltRF9, dl_eqRT9, dl_eqRF9, dl_leLT16, dl_leLF16, dl_leRT16, dl_leRF16, dl_ltLT16, dl_ltLF16, dl_ltRT16, dl_ltRF16, dl_eqRT16, dl_eqRF16, dl_leLT64, dl_leLF64, dl_leRT64, dl_leRF64, dl_ltLT64, dl_ltLF64, dl_ltRT64, dl_ltRF64, dl_eqRT64, dl_eqRF64, dl_leLT65, dl_leLF65, dl_leRT65, dl_leRF65, dl_ltLT65, dl_ltLF65, dl_ltRT65, dl_ltRF65, dl_eqRT65, dl_eqRF65, nz, a0]
          exact ih (c + 1) (by omega) (by omega)
      · have nz : ((x >>> (nI c &&& 31)) &&& 1) = 0 := (dl_bit (by omega)).mpr (fun e => q ((hx c (by omega)).mp e))
        have ne : c ≠ c0 := fun e => q (e ▸ l0)
        simp (disch := omega) only [wX_leastReady_2, nI_clamp, dl_Ar, dl_Au, dl_leT, dl_leF, dl_ltT, dl_ltF, dl_eqT, dl_eqF, nI_add, nI_1, dl_inT, dl_sub, dl_sub1, dl_subm1, forall_eq, true_implies, false_implies, not_true, not_false_iff, true_and, and_true, dl_leLT0, dl_leLF0, dl_leRT0, dl_leRF0, dl_ltLT0, dl_ltLF0, dl_ltRT0, dl_ltRF0, dl_eqRT0, dl_eqRF0, dl_leLT1, dl_leLF1, dl_leRT1, dl_leRF1, dl_ltLT1, dl_ltLF1, dl_ltRT1, dl_ltRF1, dl_eqRT1, dl_eqRF1, dl_leLT2, dl_leLF2, dl_leRT2, dl_leRF2, dl_ltLT2, dl_ltLF2, dl_ltRT2, dl_ltRF2, dl_eqRT2, dl_eqRF2, dl_leLT3, dl_leLF3, dl_leRT3, dl_leRF3, dl_ltLT3, dl_ltLF3, dl_ltRT3, dl_ltRF3, dl_eqRT3, dl_eqRF3, dl_leLT8, dl_leLF8, dl_leRT8, dl_leRF8, dl_ltLT8, dl_ltLF8, dl_ltRT8, dl_ltRF8, dl_eqRT8, dl_eqRF8, dl_leLT9, dl_leLF9, dl_leRT9, dl_leRF9, dl_ltLT9, dl_ltLF9, dl_ltRT9, dl_ltRF9, dl_eqRT9, dl_eqRF9, dl_leLT16, dl_leLF16, dl_leRT16, dl_leRF16, dl_ltLT16, dl_ltLF16, dl_ltRT16, dl_ltRF16, dl_eqRT16, dl_eqRF16, dl_leLT64, dl_leLF64, dl_leRT64, dl_leRF64, dl_ltLT64, dl_ltLF64, dl_ltRT64, dl_ltRF64, dl_eqRT64, dl_eqRF64, dl_leLT65, dl_leLF65, dl_leRT65, dl_leRF65, dl_ltLT65, dl_ltLF65, dl_ltRT65, dl_ltRF65, dl_eqRT65, dl_eqRF65, nz]
        exact ih (c + 1) (by omega) (by omega)
  exact ⟨c0 + 1, key _ 0 (by omega) (by omega)⟩
theorem dl_xpk (post : Int32 → SX → Prop) (hcnt : cnt ≤ 16) {R : Nat → Nat → Prop} (G : dl_BA bf af R) (KF : dl_KF cnt F kp) (Ac : dl_Ac R (fun y => F y = 1))
    (H : ∀ m π ρ, m ≤ cnt → dl_Kq cnt R F π m → (∀ c, c < cnt → F c = 1 → ∃ s, s < m ∧ π s = c) → (∀ t, t < m → ρ (π t) = t) → post (nI m) (nI C, nI L, nI ph, nI ol, nI T, nI cnt, nI ls, nI co, kp, nI dn, nI pl, bu, dl_A K, dl_A S, dl_A D, dl_A N, dl_A A, pool, dl_A bD, bf, af, cm, dl_A π, dl_A ρ, dl_A ws, dl_A ss, ed, re, dl_A bd)) : wpX_placeKept post (nI C, nI L, nI ph, nI ol, nI T, nI cnt, nI ls, nI co, kp, nI dn, nI pl, bu, dl_A K, dl_A S, dl_A D, dl_A N, dl_A A, pool, dl_A bD, bf, af, cm, dl_A sq, dl_A po, dl_A ws, dl_A ss, ed, re, dl_A bd) := by
  have key : ∀ f t π ρ x, t ≤ cnt → cnt - t < f → (∀ j, j < 32 → (bt x j = true ↔ (j < cnt ∧ F j = 1 ∧ ∀ s, s < t → π s ≠ j))) → dl_Kq cnt R F π t → (∀ s, s < t → ρ (π s) = s) → wX_placeKept_9 post (nI C) (nI L) (nI ph) (nI ol) (nI T) (nI cnt) (nI ls) (nI co) kp (nI dn) (nI pl) f x (nI t) (nI t) bu (dl_A K) (dl_A S) (dl_A D) (dl_A N) (dl_A A) pool (dl_A bD) bf af cm (dl_A π) (dl_A ρ) (dl_A ws) (dl_A ss) ed re (dl_A bd) := by
    intro f
    induction f with
    | zero => intro t π ρ x _ h; omega
    | succ f ih =>
      intro t π ρ x h1 h2 hx Kq hρ
      rcases Nat.lt_or_ge t cnt with z | z
      · by_cases q : x = 0
        · simp (disch := omega) only [wX_placeKept_9, nI_clamp, dl_Ar, dl_Au, dl_leT, dl_leF, dl_ltT, dl_ltF, dl_eqT, dl_eqF, nI_add, nI_1, dl_inT, dl_sub, dl_sub1, dl_subm1, forall_eq, true_implies, false_implies, not_true, not_false_iff, true_and, and_true, dl_leLT0, dl_leLF0, dl_leRT0, dl_leRF0, dl_ltLT0, dl_ltLF0, dl_ltRT0, dl_ltRF0, dl_eqRT0, dl_eqRF0, dl_leLT1, dl_leLF1, dl_leRT1, dl_leRF1, dl_ltLT1, dl_ltLF1, dl_ltRT1, dl_ltRF1, dl_eqRT1, dl_eqRF1, dl_leLT2, dl_leLF2, dl_leRT2, dl_leRF2, dl_ltLT2, dl_ltLF2, dl_ltRT2, dl_ltRF2, dl_eqRT2, dl_eqRF2, dl_leLT3, dl_leLF3, dl_leRT3, dl_leRF3, dl_ltLT3, dl_ltLF3, dl_ltRT3, dl_ltRF3, dl_eqRT3, dl_eqRF3, dl_leLT8, dl_leLF8, dl_leRT8, dl_leRF8, dl_ltLT8, dl_ltLF8, dl_ltRT8, dl_ltRF8, dl_eqRT8, dl_eqRF8, dl_leLT9, dl_leLF9, dl_leRT9, dl_leRF9, dl_ltLT9, dl_ltLF9, dl_ltRT9, dl_ltRF9, dl_eqRT9, dl_eqRF9, dl_leLT16, dl_leLF16, dl_leRT16, dl_leRF16, dl_ltLT16, dl_ltLF16, dl_ltRT16, dl_ltRF16, dl_eqRT16, dl_eqRF16, dl_leLT64, dl_leLF64, dl_leRT64, dl_leRF64, dl_ltLT64, dl_ltLF64, dl_ltRT64, dl_ltRF64, dl_eqRT64, dl_eqRF64, dl_leLT65, dl_leLF65, dl_leRT65, dl_leRF65, dl_ltLT65, dl_ltLF65, dl_ltRT65, dl_ltRF65, dl_eqRT65, dl_eqRF65, q]
          refine H t π ρ h1 Kq (fun c hc fc => ?_) hρ
          refine Classical.byContradiction (fun w => ?_)
          exact dl_z0.mp q c (by omega) ((hx c (by omega)).mpr ⟨hc, fc, fun s hs e => w ⟨s, hs, e⟩⟩)
        · simp (disch := omega) only [wX_placeKept_9, nI_clamp, dl_Ar, dl_Au, dl_leT, dl_leF, dl_ltT, dl_ltF, dl_eqT, dl_eqF, nI_add, nI_1, dl_inT, dl_sub, dl_sub1, dl_subm1, forall_eq, true_implies, false_implies, not_true, not_false_iff, true_and, and_true, dl_leLT0, dl_leLF0, dl_leRT0, dl_leRF0, dl_ltLT0, dl_ltLF0, dl_ltRT0, dl_ltRF0, dl_eqRT0, dl_eqRF0, dl_leLT1, dl_leLF1, dl_leRT1, dl_leRF1, dl_ltLT1, dl_ltLF1, dl_ltRT1, dl_ltRF1, dl_eqRT1, dl_eqRF1, dl_leLT2, dl_leLF2, dl_leRT2, dl_leRF2, dl_ltLT2, dl_ltLF2, dl_ltRT2, dl_ltRF2, dl_eqRT2, dl_eqRF2, dl_leLT3, dl_leLF3, dl_leRT3, dl_leRF3, dl_ltLT3, dl_ltLF3, dl_ltRT3, dl_ltRF3, dl_eqRT3, dl_eqRF3, dl_leLT8, dl_leLF8, dl_leRT8, dl_leRF8, dl_ltLT8, dl_ltLF8, dl_ltRT8, dl_ltRF8, dl_eqRT8, dl_eqRF8, dl_leLT9, dl_leLF9, dl_leRT9, dl_leRF9, dl_ltLT9, dl_ltLF9, dl_ltRT9, dl_ltRF9, dl_eqRT9, dl_eqRF9, dl_leLT16, dl_leLF16, dl_leRT16, dl_leRF16, dl_ltLT16, dl_ltLF16, dl_ltRT16, dl_ltRF16, dl_eqRT16, dl_eqRF16, dl_leLT64, dl_leLF64, dl_leRT64, dl_leRF64, dl_ltLT64, dl_ltLF64, dl_ltRT64, dl_ltRF64, dl_eqRT64, dl_eqRF64, dl_leLT65, dl_leLF65, dl_leRT65, dl_leRF65, dl_ltLT65, dl_ltLF65, dl_ltRT65, dl_ltRF65, dl_eqRT65, dl_eqRF65, q]
          obtain ⟨j0, hj0, bj0⟩ := dl_nz.mp q
          have l0 := (hx j0 hj0).mp bj0
          have ex := dl_Ac_min (Q := fun c => c < cnt ∧ F c = 1 ∧ ∀ s, s < t → π s ≠ c) (dl_Ac_m Ac (fun _ _ w => w.2.1)) l0
          refine dl_xrdy _ hcnt G (Lf := fun c => c < cnt ∧ F c = 1 ∧ ∀ s, s < t → π s ≠ c) (fun c w => w.1) hx ex (fun c pc => ?_)
          have hc : c < cnt := pc.1.1
          try simp (disch := omega) only [nI_clamp, dl_Ar, dl_Au, dl_leT, dl_leF, dl_ltT, dl_ltF, dl_eqT, dl_eqF, nI_add, nI_1, dl_inT, dl_sub, dl_sub1, dl_subm1, forall_eq, true_implies, false_implies, not_true, not_false_iff, true_and, and_true, dl_leLT0, dl_leLF0, dl_leRT0, dl_leRF0, dl_ltLT0, dl_ltLF0, dl_ltRT0, dl_ltRF0, dl_eqRT0, dl_eqRF0, dl_leLT1, dl_leLF1, dl_leRT1, dl_leRF1, dl_ltLT1, dl_ltLF1, dl_ltRT1, dl_ltRF1, dl_eqRT1, dl_eqRF1, dl_leLT2, dl_leLF2, dl_leRT2, dl_leRF2, dl_ltLT2, dl_ltLF2, dl_ltRT2, dl_ltRF2, dl_eqRT2, dl_eqRF2, dl_leLT3, dl_leLF3, dl_leRT3, dl_leRF3, dl_ltLT3, dl_ltLF3, dl_ltRT3, dl_ltRF3, dl_eqRT3, dl_eqRF3, dl_leLT8, dl_leLF8, dl_leRT8, dl_leRF8, dl_ltLT8, dl_ltLF8, dl_ltRT8, dl_ltRF8, dl_eqRT8, dl_eqRF8, dl_leLT9, dl_leLF9, dl_leRT9, dl_leRF9, dl_ltLT9, dl_ltLF9, dl_ltRT9, dl_ltRF9, dl_eqRT9, dl_eqRF9, dl_leLT16, dl_leLF16, dl_leRT16, dl_leRF16, dl_ltLT16, dl_ltLF16, dl_ltRT16, dl_ltRF16, dl_eqRT16, dl_eqRF16, dl_leLT64, dl_leLF64, dl_leRT64, dl_leRF64, dl_ltLT64, dl_ltLF64, dl_ltRT64, dl_ltRF64, dl_eqRT64, dl_eqRF64, dl_leLT65, dl_leLF65, dl_leRT65, dl_leRF65, dl_ltLT65, dl_ltLF65, dl_ltRT65, dl_ltRF65, dl_eqRT65, dl_eqRF65]
          have agree : ∀ s, s < t → dl_u π t c s = π s := fun s hs => dl_un (by omega)
          refine ih (t + 1) (dl_u π t c) (dl_u ρ c t) _ z (by omega) (fun j hj => ?_) (fun s hs => ?_) (fun s hs => ?_)
          · rw [dl_clr (by omega) hj, hx j hj]
            constructor
            · rintro ⟨⟨w1, w2, w3⟩, w4⟩
              refine ⟨w1, w2, fun s hs => ?_⟩
              by_cases e : s = t
              · rw [e, dl_us]; exact fun u => w4 u.symm
              · rw [agree s (by omega)]; exact w3 s (by omega)
            · rintro ⟨w1, w2, w3⟩
              refine ⟨⟨w1, w2, fun s hs => ?_⟩, fun u => ?_⟩
              · have := w3 s (by omega); rw [agree s hs] at this; exact this
              · have := w3 t (by omega); rw [dl_us] at this; exact this u.symm
          · by_cases e : s = t
            · subst e
              rw [dl_us]
              have g : (fun c_1 => c_1 < cnt ∧ F c_1 = 1 ∧ ∀ s_1, s_1 < s → dl_u π s c s_1 ≠ c_1) = (fun c => c < cnt ∧ F c = 1 ∧ ∀ s_1, s_1 < s → π s_1 ≠ c) := by
                funext d
                refine propext ⟨fun w => ⟨w.1, w.2.1, fun r hr => ?_⟩, fun w => ⟨w.1, w.2.1, fun r hr => ?_⟩⟩
                · rw [← agree r hr]; exact w.2.2 r hr
                · rw [agree r hr]; exact w.2.2 r hr
              rw [g]
              exact pc
            · exact dl_Kq_c (m := t) Kq agree s (by omega)
          · by_cases e : s = t
            · rw [e, dl_us, dl_us]
            · rw [agree s (by omega), dl_un (pc.1.2.2 s (by omega))]
              exact hρ s (by omega)
      · have e : t = cnt := by omega
        subst e
        simp (disch := omega) only [wX_placeKept_9, nI_clamp, dl_Ar, dl_Au, dl_leT, dl_leF, dl_ltT, dl_ltF, dl_eqT, dl_eqF, nI_add, nI_1, dl_inT, dl_sub, dl_sub1, dl_subm1, forall_eq, true_implies, false_implies, not_true, not_false_iff, true_and, and_true, dl_leLT0, dl_leLF0, dl_leRT0, dl_leRF0, dl_ltLT0, dl_ltLF0, dl_ltRT0, dl_ltRF0, dl_eqRT0, dl_eqRF0, dl_leLT1, dl_leLF1, dl_leRT1, dl_leRF1, dl_ltLT1, dl_ltLF1, dl_ltRT1, dl_ltRF1, dl_eqRT1, dl_eqRF1, dl_leLT2, dl_leLF2, dl_leRT2, dl_leRF2, dl_ltLT2, dl_ltLF2, dl_ltRT2, dl_ltRF2, dl_eqRT2, dl_eqRF2, dl_leLT3, dl_leLF3, dl_leRT3, dl_leRF3, dl_ltLT3, dl_ltLF3, dl_ltRT3, dl_ltRF3, dl_eqRT3, dl_eqRF3, dl_leLT8, dl_leLF8, dl_leRT8, dl_leRF8, dl_ltLT8, dl_ltLF8, dl_ltRT8, dl_ltRF8, dl_eqRT8, dl_eqRF8, dl_leLT9, dl_leLF9, dl_leRT9, dl_leRF9, dl_ltLT9, dl_ltLF9, dl_ltRT9, dl_ltRF9, dl_eqRT9, dl_eqRF9, dl_leLT16, dl_leLF16, dl_leRT16, dl_leRF16, dl_ltLT16, dl_ltLF16, dl_ltRT16, dl_ltRF16, dl_eqRT16, dl_eqRF16, dl_leLT64, dl_leLF64, dl_leRT64, dl_leRF64, dl_ltLT64, dl_ltLF64, dl_ltRT64, dl_ltRF64, dl_eqRT64, dl_eqRF64, dl_leLT65, dl_leLF65, dl_leRT65, dl_leRF65, dl_ltLT65, dl_ltLF65, dl_ltRT65, dl_ltRF65, dl_eqRT65, dl_eqRF65]
        refine H t π ρ (Nat.le_refl _) Kq (fun c hc fc => ?_) hρ
        refine Classical.byContradiction (fun w => ?_)
        have := dl_pig t (t + 1) (fun i => if i < t then π i else c) (fun i hi => by
          try dsimp only
          split
          · rename_i h; exact (Kq i h).1.1
          · exact hc) (fun i j hi hj e => by
          try dsimp only at e
          by_cases a : i < t <;> by_cases b : j < t
          · rw [if_pos a, if_pos b] at e
            have := hρ i a; rw [e, hρ j b] at this; exact this.symm
          · rw [if_pos a, if_neg b] at e; exact absurd ⟨i, a, e⟩ w
          · rw [if_neg a, if_pos b] at e; exact absurd ⟨j, b, e.symm⟩ w
          · omega)
        omega
  exact ⟨cnt + 1, key _ 0 sq po kp (by omega) (by omega) (fun j hj => (KF j hj).trans ⟨fun w => ⟨w.1, w.2, fun s hs => by omega⟩, fun w => ⟨w.1, w.2.1⟩⟩) (fun s hs => by omega) (fun s hs => by omega)⟩
theorem dl_xpl (post : SX → Prop) (hcnt : cnt ≤ 16) {R : Nat → Nat → Prop} (KF : dl_KF cnt F kp) (Q : dl_Sd cnt D bD) {m : Nat} (hm : m ≤ cnt) (Kq : dl_Kq cnt R F sq m) (hk : ∀ c, c < cnt → F c = 1 → ∃ s, s < m ∧ sq s = c) (hρ : ∀ t, t < m → po (sq t) = t)
    (H : ∀ π ρ, dl_Pi cnt R D F π ρ m → post (nI C, nI L, nI ph, nI ol, nI T, nI cnt, nI ls, nI co, kp, nI dn, nI pl, bu, dl_A K, dl_A S, dl_A D, dl_A N, dl_A A, pool, dl_A bD, bf, af, cm, dl_A π, dl_A ρ, dl_A ws, dl_A ss, ed, re, dl_A bd)) : wpX_placeLiterals post (nI C, nI L, nI ph, nI ol, nI T, nI cnt, nI ls, nI co, kp, nI dn, nI pl, bu, dl_A K, dl_A S, dl_A D, dl_A N, dl_A A, pool, dl_A bD, bf, af, cm, dl_A sq, dl_A po, dl_A ws, dl_A ss, ed, re, dl_A bd) (nI m) := by
  have ir : ∀ a, ¬ D a < D a := fun a h => by omega
  have key : ∀ f a s π ρ, s ≤ cnt → cnt - s < f → m ≤ a → a ≤ cnt → (∀ t, t < m → π t = sq t) → (∀ t, t < a → π t < cnt ∧ ρ (π t) = t) → (∀ t, m ≤ t → t < a → ¬ F (π t) = 1 ∧ ∃ r, r < s ∧ bD r = π t) → (∀ t t', m ≤ t → t < t' → t' < a → D (π t) < D (π t')) → (∀ r, r < s → ¬ F (bD r) = 1 → ∃ t, t < a ∧ π t = bD r) →
      wX_placeLiterals_4 post (nI C) (nI L) (nI ph) (nI ol) (nI T) (nI cnt) (nI ls) (nI co) kp (nI dn) (nI pl) f (nI a) (nI s) bu (dl_A K) (dl_A S) (dl_A D) (dl_A N) (dl_A A) pool (dl_A bD) bf af cm (dl_A π) (dl_A ρ) (dl_A ws) (dl_A ss) ed re (dl_A bd) := by
    intro f
    induction f with
    | zero => intro a s π ρ _ h; omega
    | succ f ih =>
      intro a s π ρ h1 h2 ma ac P0 P1 P2 P3 P4
      rcases Nat.lt_or_ge s cnt with z | z
      · have hb := Q.2.1 s z
        simp (disch := omega) only [wX_placeLiterals_4, nI_clamp, dl_Ar, dl_Au, dl_leT, dl_leF, dl_ltT, dl_ltF, dl_eqT, dl_eqF, nI_add, nI_1, dl_inT, dl_sub, dl_sub1, dl_subm1, forall_eq, true_implies, false_implies, not_true, not_false_iff, true_and, and_true, dl_leLT0, dl_leLF0, dl_leRT0, dl_leRF0, dl_ltLT0, dl_ltLF0, dl_ltRT0, dl_ltRF0, dl_eqRT0, dl_eqRF0, dl_leLT1, dl_leLF1, dl_leRT1, dl_leRF1, dl_ltLT1, dl_ltLF1, dl_ltRT1, dl_ltRF1, dl_eqRT1, dl_eqRF1, dl_leLT2, dl_leLF2, dl_leRT2, dl_leRF2, dl_ltLT2, dl_ltLF2, dl_ltRT2, dl_ltRF2, dl_eqRT2, dl_eqRF2, dl_leLT3, dl_leLF3, dl_leRT3, dl_leRF3, dl_ltLT3, dl_ltLF3, dl_ltRT3, dl_ltRF3, dl_eqRT3, dl_eqRF3, dl_leLT8, dl_leLF8, dl_leRT8, dl_leRF8, dl_ltLT8, dl_ltLF8, dl_ltRT8, dl_ltRF8, dl_eqRT8, dl_eqRF8, dl_leLT9, dl_leLF9, dl_leRT9, dl_leRF9, dl_ltLT9, dl_ltLF9, dl_ltRT9, dl_ltRF9, dl_eqRT9, dl_eqRF9, dl_leLT16, dl_leLF16, dl_leRT16, dl_leRF16, dl_ltLT16, dl_ltLF16, dl_ltRT16, dl_ltRF16, dl_eqRT16, dl_eqRF16, dl_leLT64, dl_leLF64, dl_leRT64, dl_leRF64, dl_ltLT64, dl_ltLF64, dl_ltRT64, dl_ltRF64, dl_eqRT64, dl_eqRF64, dl_leLT65, dl_leLF65, dl_leRT65, dl_leRF65, dl_ltLT65, dl_ltLF65, dl_ltRT65, dl_ltRF65, dl_eqRT65, dl_eqRF65]
        refine dl_xik _ hcnt KF hb (fun q => br_f (by decide) ?_) (fun q => br_t rfl ?_)
        · try simp (disch := omega) only [nI_clamp, dl_Ar, dl_Au, dl_leT, dl_leF, dl_ltT, dl_ltF, dl_eqT, dl_eqF, nI_add, nI_1, dl_inT, dl_sub, dl_sub1, dl_subm1, forall_eq, true_implies, false_implies, not_true, not_false_iff, true_and, and_true, dl_leLT0, dl_leLF0, dl_leRT0, dl_leRF0, dl_ltLT0, dl_ltLF0, dl_ltRT0, dl_ltRF0, dl_eqRT0, dl_eqRF0, dl_leLT1, dl_leLF1, dl_leRT1, dl_leRF1, dl_ltLT1, dl_ltLF1, dl_ltRT1, dl_ltRF1, dl_eqRT1, dl_eqRF1, dl_leLT2, dl_leLF2, dl_leRT2, dl_leRF2, dl_ltLT2, dl_ltLF2, dl_ltRT2, dl_ltRF2, dl_eqRT2, dl_eqRF2, dl_leLT3, dl_leLF3, dl_leRT3, dl_leRF3, dl_ltLT3, dl_ltLF3, dl_ltRT3, dl_ltRF3, dl_eqRT3, dl_eqRF3, dl_leLT8, dl_leLF8, dl_leRT8, dl_leRF8, dl_ltLT8, dl_ltLF8, dl_ltRT8, dl_ltRF8, dl_eqRT8, dl_eqRF8, dl_leLT9, dl_leLF9, dl_leRT9, dl_leRF9, dl_ltLT9, dl_ltLF9, dl_ltRT9, dl_ltRF9, dl_eqRT9, dl_eqRF9, dl_leLT16, dl_leLF16, dl_leRT16, dl_leRF16, dl_ltLT16, dl_ltLF16, dl_ltRT16, dl_ltRF16, dl_eqRT16, dl_eqRF16, dl_leLT64, dl_leLF64, dl_leRT64, dl_leRF64, dl_ltLT64, dl_ltLF64, dl_ltRT64, dl_ltRF64, dl_eqRT64, dl_eqRF64, dl_leLT65, dl_leLF65, dl_leRT65, dl_leRF65, dl_ltLT65, dl_ltLF65, dl_ltRT65, dl_ltRF65, dl_eqRT65, dl_eqRF65]
          refine ih a (s + 1) π ρ z (by omega) ma ac P0 P1 (fun t x y => ⟨(P2 t x y).1, (P2 t x y).2.elim fun r hr => ⟨r, by omega, hr.2⟩⟩) P3 (fun r hr w => ?_)
          by_cases e : r = s
          · rw [e] at w; exact absurd q w
          · exact P4 r (by omega) w
        · have new : ∀ t, t < a → π t ≠ bD s := fun t ht e => by
            rcases Nat.lt_or_ge t m with w | w
            · have := (Kq t w).1.2.1
              rw [← P0 t w, e] at this; exact q this
            · obtain ⟨r, r1, r2⟩ := (P2 t w ht).2
              have := dl_srt_inj Q ir (by omega) z (r2.trans e)
              omega
          have lt : a < cnt := by
            have := dl_pig cnt (a + 1) (fun i => if i < a then π i else bD s) (fun i hi => by
              try dsimp only
              split
              · rename_i h; exact (P1 i h).1
              · exact hb) (fun i j hi hj e => by
              try dsimp only at e
              by_cases x : i < a <;> by_cases y : j < a
              · rw [if_pos x, if_pos y] at e
                have := (P1 i x).2; rw [e, (P1 j y).2] at this; exact this.symm
              · rw [if_pos x, if_neg y] at e; exact absurd e (new i x)
              · rw [if_neg x, if_pos y] at e; exact absurd e.symm (new j y)
              · omega)
            omega
          try simp (disch := omega) only [nI_clamp, dl_Ar, dl_Au, dl_leT, dl_leF, dl_ltT, dl_ltF, dl_eqT, dl_eqF, nI_add, nI_1, dl_inT, dl_sub, dl_sub1, dl_subm1, forall_eq, true_implies, false_implies, not_true, not_false_iff, true_and, and_true, dl_leLT0, dl_leLF0, dl_leRT0, dl_leRF0, dl_ltLT0, dl_ltLF0, dl_ltRT0, dl_ltRF0, dl_eqRT0, dl_eqRF0, dl_leLT1, dl_leLF1, dl_leRT1, dl_leRF1, dl_ltLT1, dl_ltLF1, dl_ltRT1, dl_ltRF1, dl_eqRT1, dl_eqRF1, dl_leLT2, dl_leLF2, dl_leRT2, dl_leRF2, dl_ltLT2, dl_ltLF2, dl_ltRT2, dl_ltRF2, dl_eqRT2, dl_eqRF2, dl_leLT3, dl_leLF3, dl_leRT3, dl_leRF3, dl_ltLT3, dl_ltLF3, dl_ltRT3, dl_ltRF3, dl_eqRT3, dl_eqRF3, dl_leLT8, dl_leLF8, dl_leRT8, dl_leRF8, dl_ltLT8, dl_ltLF8, dl_ltRT8, dl_ltRF8, dl_eqRT8, dl_eqRF8, dl_leLT9, dl_leLF9, dl_leRT9, dl_leRF9, dl_ltLT9, dl_ltLF9, dl_ltRT9, dl_ltRF9, dl_eqRT9, dl_eqRF9, dl_leLT16, dl_leLF16, dl_leRT16, dl_leRF16, dl_ltLT16, dl_ltLF16, dl_ltRT16, dl_ltRF16, dl_eqRT16, dl_eqRF16, dl_leLT64, dl_leLF64, dl_leRT64, dl_leRF64, dl_ltLT64, dl_ltLF64, dl_ltRT64, dl_ltRF64, dl_eqRT64, dl_eqRF64, dl_leLT65, dl_leLF65, dl_leRT65, dl_leRF65, dl_ltLT65, dl_ltLF65, dl_ltRT65, dl_ltRF65, dl_eqRT65, dl_eqRF65]
          refine ih (a + 1) (s + 1) (dl_u π a (bD s)) (dl_u ρ (bD s) a) z (by omega) (by omega) lt (fun t ht => by rw [dl_un (by omega)]; exact P0 t ht) (fun t ht => ?_) (fun t x y => ?_) (fun t t' x y y' => ?_) (fun r hr w => ?_)
          · by_cases e : t = a
            · rw [e, dl_us, dl_us]; exact ⟨hb, rfl⟩
            · rw [dl_un e, dl_un (new t (by omega))]; exact P1 t (by omega)
          · by_cases e : t = a
            · rw [e, dl_us]; exact ⟨q, s, by omega, rfl⟩
            · rw [dl_un e]; exact ⟨(P2 t x (by omega)).1, (P2 t x (by omega)).2.elim fun r hr => ⟨r, by omega, hr.2⟩⟩
          · rw [dl_un (show t ≠ a by omega)]
            by_cases e : t' = a
            · rw [e, dl_us]
              obtain ⟨r, r1, r2⟩ := (P2 t x (by omega)).2
              rw [← r2]; exact Q.1 r s r1 z
            · rw [dl_un e]; exact P3 t t' x y (by omega)
          · by_cases e : r = s
            · exact ⟨a, by omega, by rw [e, dl_us]⟩
            · obtain ⟨t, t1, t2⟩ := P4 r (by omega) w
              exact ⟨t, by omega, by rw [dl_un (by omega)]; exact t2⟩
      · have e : s = cnt := by omega
        subst e
        simp (disch := omega) only [wX_placeLiterals_4, nI_clamp, dl_Ar, dl_Au, dl_leT, dl_leF, dl_ltT, dl_ltF, dl_eqT, dl_eqF, nI_add, nI_1, dl_inT, dl_sub, dl_sub1, dl_subm1, forall_eq, true_implies, false_implies, not_true, not_false_iff, true_and, and_true, dl_leLT0, dl_leLF0, dl_leRT0, dl_leRF0, dl_ltLT0, dl_ltLF0, dl_ltRT0, dl_ltRF0, dl_eqRT0, dl_eqRF0, dl_leLT1, dl_leLF1, dl_leRT1, dl_leRF1, dl_ltLT1, dl_ltLF1, dl_ltRT1, dl_ltRF1, dl_eqRT1, dl_eqRF1, dl_leLT2, dl_leLF2, dl_leRT2, dl_leRF2, dl_ltLT2, dl_ltLF2, dl_ltRT2, dl_ltRF2, dl_eqRT2, dl_eqRF2, dl_leLT3, dl_leLF3, dl_leRT3, dl_leRF3, dl_ltLT3, dl_ltLF3, dl_ltRT3, dl_ltRF3, dl_eqRT3, dl_eqRF3, dl_leLT8, dl_leLF8, dl_leRT8, dl_leRF8, dl_ltLT8, dl_ltLF8, dl_ltRT8, dl_ltRF8, dl_eqRT8, dl_eqRF8, dl_leLT9, dl_leLF9, dl_leRT9, dl_leRF9, dl_ltLT9, dl_ltLF9, dl_ltRT9, dl_ltRF9, dl_eqRT9, dl_eqRF9, dl_leLT16, dl_leLF16, dl_leRT16, dl_leRF16, dl_ltLT16, dl_ltLF16, dl_ltRT16, dl_ltRF16, dl_eqRT16, dl_eqRF16, dl_leLT64, dl_leLF64, dl_leRT64, dl_leRF64, dl_ltLT64, dl_ltLF64, dl_ltRT64, dl_ltRF64, dl_eqRT64, dl_eqRF64, dl_leLT65, dl_leLF65, dl_leRT65, dl_leRF65, dl_ltLT65, dl_ltLF65, dl_ltRT65, dl_ltRF65, dl_eqRT65, dl_eqRF65]
        have all : ∀ c, c < s → ρ c < a ∧ π (ρ c) = c := fun c hc => by
          have : ∃ t, t < a ∧ π t = c := by
            by_cases q : F c = 1
            · obtain ⟨r, r1, r2⟩ := hk c hc q
              exact ⟨r, by omega, by rw [P0 r r1]; exact r2⟩
            · obtain ⟨r, r1, r2⟩ := Q.2.2 c hc
              rw [← r2] at q ⊢
              exact P4 r r1 q
          obtain ⟨t, t1, t2⟩ := this
          have := (P1 t t1).2
          rw [t2] at this
          rw [this]; exact ⟨t1, t2⟩
        have ge := dl_pig a s ρ (fun i hi => (all i hi).1) (fun i j hi hj e => by
          have := (all i hi).2; rw [e, (all j hj).2] at this; exact this.symm)
        have ea : a = s := by omega
        subst ea
        exact H π ρ ⟨P1, all, hm, dl_Kq_c Kq P0, fun t x y => (P2 t x y).1, P3⟩
  exact ⟨cnt + 1, key _ m 0 sq po (by omega) (by omega) (Nat.le_refl _) hm (fun _ _ => rfl) (fun t ht => ⟨(Kq t ht).1.1, hρ t ht⟩) (fun t _ _ => by omega) (fun t t' _ _ _ => by omega) (fun r hr => by omega)⟩
theorem dl_xlo (post : SX → Prop) (hcnt : cnt ≤ 16) (hN : ∀ i, i < cnt → N i < 2147483648) (KF : dl_KF cnt F kp) (hq : ∀ t, t < cnt → sq t < cnt)
    (H : ∀ ws' ss', (∀ t, t ≤ cnt → ws' t = dl_s (fun s => N (sq s)) t ∧ ss' t = dl_s (fun s => if F (sq s) = 1 then 4 else 3 + N (sq s)) t) → post (nI C, nI L, nI ph, nI ol, nI T, nI cnt, nI ls, nI co, kp, nI dn, nI pl, bu, dl_A K, dl_A S, dl_A D, dl_A N, dl_A A, pool, dl_A bD, bf, af, cm, dl_A sq, dl_A po, dl_A ws', dl_A ss', ed, re, dl_A bd)) : wpX_layOut post (nI C, nI L, nI ph, nI ol, nI T, nI cnt, nI ls, nI co, kp, nI dn, nI pl, bu, dl_A K, dl_A S, dl_A D, dl_A N, dl_A A, pool, dl_A bD, bf, af, cm, dl_A sq, dl_A po, dl_A ws, dl_A ss, ed, re, dl_A bd) := by
  have key : ∀ f p ws' ss', p ≤ cnt → cnt - p < f → (∀ t, t ≤ p → ws' t = dl_s (fun s => N (sq s)) t ∧ ss' t = dl_s (fun s => if F (sq s) = 1 then 4 else 3 + N (sq s)) t) → wX_layOut_16 post (nI C) (nI L) (nI ph) (nI ol) (nI T) (nI cnt) (nI ls) (nI co) kp (nI dn) (nI pl) f (nI p) bu (dl_A K) (dl_A S) (dl_A D) (dl_A N) (dl_A A) pool (dl_A bD) bf af cm (dl_A sq) (dl_A po) (dl_A ws') (dl_A ss') ed re (dl_A bd) := by
    intro f
    induction f with
    | zero => intro p ws' ss' _ h; omega
    | succ f ih =>
      intro p ws' ss' h1 h2 I
      rcases Nat.lt_or_ge p cnt with z | z
      · have hb := hq p z
        have hn := hN _ hb
        obtain ⟨e1, e2⟩ := I p (Nat.le_refl _)
        have nx : ∀ v, v = (if F (sq p) = 1 then 4 else 3 + N (sq p)) → ∀ t, t ≤ p + 1 → dl_u ws' (p + 1) (ws' p + N (sq p)) t = dl_s (fun s => N (sq s)) t ∧ dl_u ss' (p + 1) (ss' p + v) t = dl_s (fun s => if F (sq s) = 1 then 4 else 3 + N (sq s)) t := fun v hv t ht => by
          by_cases e : t = p + 1
          · rw [e, dl_us, dl_us, e1, e2, hv]; exact ⟨rfl, rfl⟩
          · rw [dl_un e, dl_un e]; exact I t (by omega)
        simp (disch := omega) only [wX_layOut_16, nI_clamp, dl_Ar, dl_Au, dl_leT, dl_leF, dl_ltT, dl_ltF, dl_eqT, dl_eqF, nI_add, nI_1, dl_inT, dl_sub, dl_sub1, dl_subm1, forall_eq, true_implies, false_implies, not_true, not_false_iff, true_and, and_true, dl_leLT0, dl_leLF0, dl_leRT0, dl_leRF0, dl_ltLT0, dl_ltLF0, dl_ltRT0, dl_ltRF0, dl_eqRT0, dl_eqRF0, dl_leLT1, dl_leLF1, dl_leRT1, dl_leRF1, dl_ltLT1, dl_ltLF1, dl_ltRT1, dl_ltRF1, dl_eqRT1, dl_eqRF1, dl_leLT2, dl_leLF2, dl_leRT2, dl_leRF2, dl_ltLT2, dl_ltLF2, dl_ltRT2, dl_ltRF2, dl_eqRT2, dl_eqRF2, dl_leLT3, dl_leLF3, dl_leRT3, dl_leRF3, dl_ltLT3, dl_ltLF3, dl_ltRT3, dl_ltRF3, dl_eqRT3, dl_eqRF3, dl_leLT8, dl_leLF8, dl_leRT8, dl_leRF8, dl_ltLT8, dl_ltLF8, dl_ltRT8, dl_ltRF8, dl_eqRT8, dl_eqRF8, dl_leLT9, dl_leLF9, dl_leRT9, dl_leRF9, dl_ltLT9, dl_ltLF9, dl_ltRT9, dl_ltRF9, dl_eqRT9, dl_eqRF9, dl_leLT16, dl_leLF16, dl_leRT16, dl_leRF16, dl_ltLT16, dl_ltLF16, dl_ltRT16, dl_ltRF16, dl_eqRT16, dl_eqRF16, dl_leLT64, dl_leLF64, dl_leRT64, dl_leRF64, dl_ltLT64, dl_ltLF64, dl_ltRT64, dl_ltRF64, dl_eqRT64, dl_eqRF64, dl_leLT65, dl_leLF65, dl_leRT65, dl_leRF65, dl_ltLT65, dl_ltLF65, dl_ltRT65, dl_ltRF65, dl_eqRT65, dl_eqRF65]
        refine dl_xik _ hcnt KF hb (fun q => br_f (by decide) ?_) (fun q => br_t rfl ?_)
        · simp (disch := omega) only [wX_layOut_50, nI_clamp, dl_Ar, dl_Au, dl_leT, dl_leF, dl_ltT, dl_ltF, dl_eqT, dl_eqF, nI_add, nI_1, dl_inT, dl_sub, dl_sub1, dl_subm1, forall_eq, true_implies, false_implies, not_true, not_false_iff, true_and, and_true, dl_leLT0, dl_leLF0, dl_leRT0, dl_leRF0, dl_ltLT0, dl_ltLF0, dl_ltRT0, dl_ltRF0, dl_eqRT0, dl_eqRF0, dl_leLT1, dl_leLF1, dl_leRT1, dl_leRF1, dl_ltLT1, dl_ltLF1, dl_ltRT1, dl_ltRF1, dl_eqRT1, dl_eqRF1, dl_leLT2, dl_leLF2, dl_leRT2, dl_leRF2, dl_ltLT2, dl_ltLF2, dl_ltRT2, dl_ltRF2, dl_eqRT2, dl_eqRF2, dl_leLT3, dl_leLF3, dl_leRT3, dl_leRF3, dl_ltLT3, dl_ltLF3, dl_ltRT3, dl_ltRF3, dl_eqRT3, dl_eqRF3, dl_leLT8, dl_leLF8, dl_leRT8, dl_leRF8, dl_ltLT8, dl_ltLF8, dl_ltRT8, dl_ltRF8, dl_eqRT8, dl_eqRF8, dl_leLT9, dl_leLF9, dl_leRT9, dl_leRF9, dl_ltLT9, dl_ltLF9, dl_ltRT9, dl_ltRF9, dl_eqRT9, dl_eqRF9, dl_leLT16, dl_leLF16, dl_leRT16, dl_leRF16, dl_ltLT16, dl_ltLF16, dl_ltRT16, dl_ltRF16, dl_eqRT16, dl_eqRF16, dl_leLT64, dl_leLF64, dl_leRT64, dl_leRF64, dl_ltLT64, dl_ltLF64, dl_ltRT64, dl_ltRF64, dl_eqRT64, dl_eqRF64, dl_leLT65, dl_leLF65, dl_leRT65, dl_leRF65, dl_ltLT65, dl_ltLF65, dl_ltRT65, dl_ltRF65, dl_eqRT65, dl_eqRF65, dl_add4]
          exact ih (p + 1) _ _ z (by omega) (nx 4 (by rw [if_pos q]))
        · simp (disch := omega) only [wX_layOut_50, nI_clamp, dl_Ar, dl_Au, dl_leT, dl_leF, dl_ltT, dl_ltF, dl_eqT, dl_eqF, nI_add, nI_1, dl_inT, dl_sub, dl_sub1, dl_subm1, forall_eq, true_implies, false_implies, not_true, not_false_iff, true_and, and_true, dl_leLT0, dl_leLF0, dl_leRT0, dl_leRF0, dl_ltLT0, dl_ltLF0, dl_ltRT0, dl_ltRF0, dl_eqRT0, dl_eqRF0, dl_leLT1, dl_leLF1, dl_leRT1, dl_leRF1, dl_ltLT1, dl_ltLF1, dl_ltRT1, dl_ltRF1, dl_eqRT1, dl_eqRF1, dl_leLT2, dl_leLF2, dl_leRT2, dl_leRF2, dl_ltLT2, dl_ltLF2, dl_ltRT2, dl_ltRF2, dl_eqRT2, dl_eqRF2, dl_leLT3, dl_leLF3, dl_leRT3, dl_leRF3, dl_ltLT3, dl_ltLF3, dl_ltRT3, dl_ltRF3, dl_eqRT3, dl_eqRF3, dl_leLT8, dl_leLF8, dl_leRT8, dl_leRF8, dl_ltLT8, dl_ltLF8, dl_ltRT8, dl_ltRF8, dl_eqRT8, dl_eqRF8, dl_leLT9, dl_leLF9, dl_leRT9, dl_leRF9, dl_ltLT9, dl_ltLF9, dl_ltRT9, dl_ltRF9, dl_eqRT9, dl_eqRF9, dl_leLT16, dl_leLF16, dl_leRT16, dl_leRF16, dl_ltLT16, dl_ltLF16, dl_ltRT16, dl_ltRF16, dl_eqRT16, dl_eqRF16, dl_leLT64, dl_leLF64, dl_leRT64, dl_leRF64, dl_ltLT64, dl_ltLF64, dl_ltRT64, dl_ltRF64, dl_eqRT64, dl_eqRF64, dl_leLT65, dl_leLF65, dl_leRT65, dl_leRF65, dl_ltLT65, dl_ltLF65, dl_ltRT65, dl_ltRF65, dl_eqRT65, dl_eqRF65, dl_3add]
          exact ih (p + 1) _ _ z (by omega) (nx _ (by rw [if_neg q]))
      · have e : p = cnt := by omega
        subst e
        simp (disch := omega) only [wX_layOut_16, nI_clamp, dl_Ar, dl_Au, dl_leT, dl_leF, dl_ltT, dl_ltF, dl_eqT, dl_eqF, nI_add, nI_1, dl_inT, dl_sub, dl_sub1, dl_subm1, forall_eq, true_implies, false_implies, not_true, not_false_iff, true_and, and_true, dl_leLT0, dl_leLF0, dl_leRT0, dl_leRF0, dl_ltLT0, dl_ltLF0, dl_ltRT0, dl_ltRF0, dl_eqRT0, dl_eqRF0, dl_leLT1, dl_leLF1, dl_leRT1, dl_leRF1, dl_ltLT1, dl_ltLF1, dl_ltRT1, dl_ltRF1, dl_eqRT1, dl_eqRF1, dl_leLT2, dl_leLF2, dl_leRT2, dl_leRF2, dl_ltLT2, dl_ltLF2, dl_ltRT2, dl_ltRF2, dl_eqRT2, dl_eqRF2, dl_leLT3, dl_leLF3, dl_leRT3, dl_leRF3, dl_ltLT3, dl_ltLF3, dl_ltRT3, dl_ltRF3, dl_eqRT3, dl_eqRF3, dl_leLT8, dl_leLF8, dl_leRT8, dl_leRF8, dl_ltLT8, dl_ltLF8, dl_ltRT8, dl_ltRF8, dl_eqRT8, dl_eqRF8, dl_leLT9, dl_leLF9, dl_leRT9, dl_leRF9, dl_ltLT9, dl_ltLF9, dl_ltRT9, dl_ltRF9, dl_eqRT9, dl_eqRF9, dl_leLT16, dl_leLF16, dl_leRT16, dl_leRF16, dl_ltLT16, dl_ltLF16, dl_ltRT16, dl_ltRF16, dl_eqRT16, dl_eqRF16, dl_leLT64, dl_leLF64, dl_leRT64, dl_leRF64, dl_ltLT64, dl_ltLF64, dl_ltRT64, dl_ltRF64, dl_eqRT64, dl_eqRF64, dl_leLT65, dl_leLF65, dl_leRT65, dl_leRF65, dl_ltLT65, dl_ltLF65, dl_ltRT65, dl_ltRF65, dl_eqRT65, dl_eqRF65]
        exact H ws' ss' I
  have u0 : ∀ g : Nat → Nat, upd (dl_A g) 0 0 = dl_A (dl_u g 0 0) := fun g => dl_Au g 0 0
  simp only [wpX_layOut, u0, forall_eq]
  exact ⟨cnt + 1, key _ 0 _ _ (by omega) (by omega) (fun t ht => by
    have : t = 0 := by omega
    subst this; rw [dl_us, dl_us]; exact ⟨rfl, rfl⟩)⟩
end
end
section
theorem dl_nb0 : vp_nar .boolean 0 = 0 := rfl
theorem dl_nb1 : vp_nar .boolean 1 = 1 := rfl
section
variable {C L ph ol T cnt ls co dn pl dy : Nat} {kp : Int32} {K S D N A bD sq po ws ss bd F P : Nat → Nat} {bu pool bf af cm ed re old nxt dat mk : Nat → Int32}
theorem dl_ypr (post : Int32 → Prop) (B : dl_Bs C L ol T cnt K S D N) {i j : Nat} (hi : i < cnt) (hj : j < cnt) (H1 : dl_R cnt K S D N i j → post 1) (H0 : ¬ dl_R cnt K S D N i j → post 0) : wpY_precedes post (nI C, nI L, nI ph, nI ol, nI T, nI cnt, nI dy, old, nxt, dl_A K, dl_A S, dl_A D, dl_A N, dat, dl_A F, dl_A P, mk) (nI i) (nI j) := by
  obtain ⟨b1, b2, b3, b4, b5, b6, b7, b8⟩ := B
  obtain ⟨c1, c2, c3⟩ := b8 i hi
  obtain ⟨d1, d2, d3⟩ := b8 j hj
  have hki : K i < 2147483648 := by omega
  have hkj : K j < 2147483648 := by omega
  by_cases e : i = j
  · simp (disch := omega) only [wpY_precedes, nI_clamp, dl_Ar, dl_Au, dl_leT, dl_leF, dl_ltT, dl_ltF, dl_eqT, dl_eqF, nI_add, nI_1, dl_inT, dl_sub, dl_sub1, dl_subm1, forall_eq, true_implies, false_implies, not_true, not_false_iff, true_and, and_true, dl_leLT0, dl_leLF0, dl_leRT0, dl_leRF0, dl_ltLT0, dl_ltLF0, dl_ltRT0, dl_ltRF0, dl_eqRT0, dl_eqRF0, dl_leLT1, dl_leLF1, dl_leRT1, dl_leRF1, dl_ltLT1, dl_ltLF1, dl_ltRT1, dl_ltRF1, dl_eqRT1, dl_eqRF1, dl_leLT2, dl_leLF2, dl_leRT2, dl_leRF2, dl_ltLT2, dl_ltLF2, dl_ltRT2, dl_ltRF2, dl_eqRT2, dl_eqRF2, dl_leLT3, dl_leLF3, dl_leRT3, dl_leRF3, dl_ltLT3, dl_ltLF3, dl_ltRT3, dl_ltRF3, dl_eqRT3, dl_eqRF3, dl_leLT8, dl_leLF8, dl_leRT8, dl_leRF8, dl_ltLT8, dl_ltLF8, dl_ltRT8, dl_ltRF8, dl_eqRT8, dl_eqRF8, dl_leLT9, dl_leLF9, dl_leRT9, dl_leRF9, dl_ltLT9, dl_ltLF9, dl_ltRT9, dl_ltRF9, dl_eqRT9, dl_eqRF9, dl_leLT16, dl_leLF16, dl_leRT16, dl_leRF16, dl_ltLT16, dl_ltLF16, dl_ltRT16, dl_ltRF16, dl_eqRT16, dl_eqRF16, dl_leLT64, dl_leLF64, dl_leRT64, dl_leRF64, dl_ltLT64, dl_ltLF64, dl_ltRT64, dl_ltRF64, dl_eqRT64, dl_eqRF64, dl_leLT65, dl_leLF65, dl_leRT65, dl_leRF65, dl_ltLT65, dl_ltLF65, dl_ltRT65, dl_ltRF65, dl_eqRT65, dl_eqRF65]
    exact H0 (fun r => r.2.2.1 e)
  · by_cases k1 : K i = 1
    · by_cases k2 : K j = 1
      · have hs : S i + N i ≤ ol := by omega
        have key : ∀ f k, k ≤ N i → N i - k < f → (∀ k', k' < k → ¬ (D j ≤ S i + k' ∧ S i + k' < D j + N j)) → wY_precedes_29 post (nI i) (nI j) (nI C) (nI L) (nI ph) (nI ol) (nI T) (nI cnt) (nI dy) old nxt (dl_A K) (dl_A S) (dl_A D) (dl_A N) dat (dl_A F) (dl_A P) mk f (nI k) := by
          intro f
          induction f with
          | zero => intro k _ h; omega
          | succ f ih =>
            intro k h1 h2 I
            rcases Nat.lt_or_ge k (N i) with z | z
            · simp (disch := omega) only [wY_precedes_29, nI_clamp, dl_Ar, dl_Au, dl_leT, dl_leF, dl_ltT, dl_ltF, dl_eqT, dl_eqF, nI_add, nI_1, dl_inT, dl_sub, dl_sub1, dl_subm1, forall_eq, true_implies, false_implies, not_true, not_false_iff, true_and, and_true, dl_leLT0, dl_leLF0, dl_leRT0, dl_leRF0, dl_ltLT0, dl_ltLF0, dl_ltRT0, dl_ltRF0, dl_eqRT0, dl_eqRF0, dl_leLT1, dl_leLF1, dl_leRT1, dl_leRF1, dl_ltLT1, dl_ltLF1, dl_ltRT1, dl_ltRF1, dl_eqRT1, dl_eqRF1, dl_leLT2, dl_leLF2, dl_leRT2, dl_leRF2, dl_ltLT2, dl_ltLF2, dl_ltRT2, dl_ltRF2, dl_eqRT2, dl_eqRF2, dl_leLT3, dl_leLF3, dl_leRT3, dl_leRF3, dl_ltLT3, dl_ltLF3, dl_ltRT3, dl_ltRF3, dl_eqRT3, dl_eqRF3, dl_leLT8, dl_leLF8, dl_leRT8, dl_leRF8, dl_ltLT8, dl_ltLF8, dl_ltRT8, dl_ltRF8, dl_eqRT8, dl_eqRF8, dl_leLT9, dl_leLF9, dl_leRT9, dl_leRF9, dl_ltLT9, dl_ltLF9, dl_ltRT9, dl_ltRF9, dl_eqRT9, dl_eqRF9, dl_leLT16, dl_leLF16, dl_leRT16, dl_leRF16, dl_ltLT16, dl_ltLF16, dl_ltRT16, dl_ltRF16, dl_eqRT16, dl_eqRF16, dl_leLT64, dl_leLF64, dl_leRT64, dl_leRF64, dl_ltLT64, dl_ltLF64, dl_ltRT64, dl_ltRF64, dl_eqRT64, dl_eqRF64, dl_leLT65, dl_leLF65, dl_leRT65, dl_leRF65, dl_ltLT65, dl_ltLF65, dl_ltRT65, dl_ltRF65, dl_eqRT65, dl_eqRF65]
              refine dl_yw _ (by omega) (by omega) (by omega) (fun q1 q2 => br_f (by decide) (H1 ⟨hi, hj, e, k1, k2, k, z, q1, q2⟩)) (fun q => br_t rfl ?_)
              refine ih (k + 1) z (by omega) (fun k' hk => ?_)
              by_cases w : k' = k
              · rw [w]; exact q
              · exact I k' (by omega)
            · simp (disch := omega) only [wY_precedes_29, nI_clamp, dl_Ar, dl_Au, dl_leT, dl_leF, dl_ltT, dl_ltF, dl_eqT, dl_eqF, nI_add, nI_1, dl_inT, dl_sub, dl_sub1, dl_subm1, forall_eq, true_implies, false_implies, not_true, not_false_iff, true_and, and_true, dl_leLT0, dl_leLF0, dl_leRT0, dl_leRF0, dl_ltLT0, dl_ltLF0, dl_ltRT0, dl_ltRF0, dl_eqRT0, dl_eqRF0, dl_leLT1, dl_leLF1, dl_leRT1, dl_leRF1, dl_ltLT1, dl_ltLF1, dl_ltRT1, dl_ltRF1, dl_eqRT1, dl_eqRF1, dl_leLT2, dl_leLF2, dl_leRT2, dl_leRF2, dl_ltLT2, dl_ltLF2, dl_ltRT2, dl_ltRF2, dl_eqRT2, dl_eqRF2, dl_leLT3, dl_leLF3, dl_leRT3, dl_leRF3, dl_ltLT3, dl_ltLF3, dl_ltRT3, dl_ltRF3, dl_eqRT3, dl_eqRF3, dl_leLT8, dl_leLF8, dl_leRT8, dl_leRF8, dl_ltLT8, dl_ltLF8, dl_ltRT8, dl_ltRF8, dl_eqRT8, dl_eqRF8, dl_leLT9, dl_leLF9, dl_leRT9, dl_leRF9, dl_ltLT9, dl_ltLF9, dl_ltRT9, dl_ltRF9, dl_eqRT9, dl_eqRF9, dl_leLT16, dl_leLF16, dl_leRT16, dl_leRF16, dl_ltLT16, dl_ltLF16, dl_ltRT16, dl_ltRF16, dl_eqRT16, dl_eqRF16, dl_leLT64, dl_leLF64, dl_leRT64, dl_leRF64, dl_ltLT64, dl_ltLF64, dl_ltRT64, dl_ltRF64, dl_eqRT64, dl_eqRF64, dl_leLT65, dl_leLF65, dl_leRT65, dl_leRF65, dl_ltLT65, dl_ltLF65, dl_ltRT65, dl_ltRF65, dl_eqRT65, dl_eqRF65]
              refine H0 ?_
              rintro ⟨_, _, _, _, _, k', x1, x2, x3⟩
              exact I k' (by omega) ⟨x2, x3⟩
        simp (disch := omega) only [wpY_precedes, nI_clamp, dl_Ar, dl_Au, dl_leT, dl_leF, dl_ltT, dl_ltF, dl_eqT, dl_eqF, nI_add, nI_1, dl_inT, dl_sub, dl_sub1, dl_subm1, forall_eq, true_implies, false_implies, not_true, not_false_iff, true_and, and_true, dl_leLT0, dl_leLF0, dl_leRT0, dl_leRF0, dl_ltLT0, dl_ltLF0, dl_ltRT0, dl_ltRF0, dl_eqRT0, dl_eqRF0, dl_leLT1, dl_leLF1, dl_leRT1, dl_leRF1, dl_ltLT1, dl_ltLF1, dl_ltRT1, dl_ltRF1, dl_eqRT1, dl_eqRF1, dl_leLT2, dl_leLF2, dl_leRT2, dl_leRF2, dl_ltLT2, dl_ltLF2, dl_ltRT2, dl_ltRF2, dl_eqRT2, dl_eqRF2, dl_leLT3, dl_leLF3, dl_leRT3, dl_leRF3, dl_ltLT3, dl_ltLF3, dl_ltRT3, dl_ltRF3, dl_eqRT3, dl_eqRF3, dl_leLT8, dl_leLF8, dl_leRT8, dl_leRF8, dl_ltLT8, dl_ltLF8, dl_ltRT8, dl_ltRF8, dl_eqRT8, dl_eqRF8, dl_leLT9, dl_leLF9, dl_leRT9, dl_leRF9, dl_ltLT9, dl_ltLF9, dl_ltRT9, dl_ltRF9, dl_eqRT9, dl_eqRF9, dl_leLT16, dl_leLF16, dl_leRT16, dl_leRF16, dl_ltLT16, dl_ltLF16, dl_ltRT16, dl_ltRF16, dl_eqRT16, dl_eqRF16, dl_leLT64, dl_leLF64, dl_leRT64, dl_leRF64, dl_ltLT64, dl_ltLF64, dl_ltRT64, dl_ltRF64, dl_eqRT64, dl_eqRF64, dl_leLT65, dl_leLF65, dl_leRT65, dl_leRF65, dl_ltLT65, dl_ltLF65, dl_ltRT65, dl_ltRF65, dl_eqRT65, dl_eqRF65]
        exact ⟨N i + 1, key _ 0 (by omega) (by omega) (fun k' h => by omega)⟩
      · simp (disch := omega) only [wpY_precedes, nI_clamp, dl_Ar, dl_Au, dl_leT, dl_leF, dl_ltT, dl_ltF, dl_eqT, dl_eqF, nI_add, nI_1, dl_inT, dl_sub, dl_sub1, dl_subm1, forall_eq, true_implies, false_implies, not_true, not_false_iff, true_and, and_true, dl_leLT0, dl_leLF0, dl_leRT0, dl_leRF0, dl_ltLT0, dl_ltLF0, dl_ltRT0, dl_ltRF0, dl_eqRT0, dl_eqRF0, dl_leLT1, dl_leLF1, dl_leRT1, dl_leRF1, dl_ltLT1, dl_ltLF1, dl_ltRT1, dl_ltRF1, dl_eqRT1, dl_eqRF1, dl_leLT2, dl_leLF2, dl_leRT2, dl_leRF2, dl_ltLT2, dl_ltLF2, dl_ltRT2, dl_ltRF2, dl_eqRT2, dl_eqRF2, dl_leLT3, dl_leLF3, dl_leRT3, dl_leRF3, dl_ltLT3, dl_ltLF3, dl_ltRT3, dl_ltRF3, dl_eqRT3, dl_eqRF3, dl_leLT8, dl_leLF8, dl_leRT8, dl_leRF8, dl_ltLT8, dl_ltLF8, dl_ltRT8, dl_ltRF8, dl_eqRT8, dl_eqRF8, dl_leLT9, dl_leLF9, dl_leRT9, dl_leRF9, dl_ltLT9, dl_ltLF9, dl_ltRT9, dl_ltRF9, dl_eqRT9, dl_eqRF9, dl_leLT16, dl_leLF16, dl_leRT16, dl_leRF16, dl_ltLT16, dl_ltLF16, dl_ltRT16, dl_ltRF16, dl_eqRT16, dl_eqRF16, dl_leLT64, dl_leLF64, dl_leRT64, dl_leRF64, dl_ltLT64, dl_ltLF64, dl_ltRT64, dl_ltRF64, dl_eqRT64, dl_eqRF64, dl_leLT65, dl_leLF65, dl_leRT65, dl_leRF65, dl_ltLT65, dl_ltLF65, dl_ltRT65, dl_ltRF65, dl_eqRT65, dl_eqRF65]
        exact H0 (fun r => k2 r.2.2.2.2.1)
    · simp (disch := omega) only [wpY_precedes, nI_clamp, dl_Ar, dl_Au, dl_leT, dl_leF, dl_ltT, dl_ltF, dl_eqT, dl_eqF, nI_add, nI_1, dl_inT, dl_sub, dl_sub1, dl_subm1, forall_eq, true_implies, false_implies, not_true, not_false_iff, true_and, and_true, dl_leLT0, dl_leLF0, dl_leRT0, dl_leRF0, dl_ltLT0, dl_ltLF0, dl_ltRT0, dl_ltRF0, dl_eqRT0, dl_eqRF0, dl_leLT1, dl_leLF1, dl_leRT1, dl_leRF1, dl_ltLT1, dl_ltLF1, dl_ltRT1, dl_ltRF1, dl_eqRT1, dl_eqRF1, dl_leLT2, dl_leLF2, dl_leRT2, dl_leRF2, dl_ltLT2, dl_ltLF2, dl_ltRT2, dl_ltRF2, dl_eqRT2, dl_eqRF2, dl_leLT3, dl_leLF3, dl_leRT3, dl_leRF3, dl_ltLT3, dl_ltLF3, dl_ltRT3, dl_ltRF3, dl_eqRT3, dl_eqRF3, dl_leLT8, dl_leLF8, dl_leRT8, dl_leRF8, dl_ltLT8, dl_ltLF8, dl_ltRT8, dl_ltRF8, dl_eqRT8, dl_eqRF8, dl_leLT9, dl_leLF9, dl_leRT9, dl_leRF9, dl_ltLT9, dl_ltLF9, dl_ltRT9, dl_ltRF9, dl_eqRT9, dl_eqRF9, dl_leLT16, dl_leLF16, dl_leRT16, dl_leRF16, dl_ltLT16, dl_ltLF16, dl_ltRT16, dl_ltRF16, dl_eqRT16, dl_eqRF16, dl_leLT64, dl_leLF64, dl_leRT64, dl_leRF64, dl_ltLT64, dl_ltLF64, dl_ltRT64, dl_ltRF64, dl_eqRT64, dl_eqRF64, dl_leLT65, dl_leLF65, dl_leRT65, dl_leRF65, dl_ltLT65, dl_ltLF65, dl_ltRT65, dl_ltRF65, dl_eqRT65, dl_eqRF65]
      exact H0 (fun r => k1 r.2.2.2.1)
/-- sound marks -/
def dl_Mk (cnt : Nat) (R : Nat → Nat → Prop) (Q : Nat → Prop) (a : Nat) (mk : Nat → Int32) : Prop := ∀ y, y < cnt → ¬ mk y = 0 → dl_Rc R Q a y
theorem dl_yc53 (post : Int32 → SY → Prop) (J29 J41 : Int32 → (Nat → Int32) → (Nat → Int32) → (Nat → Int32) → (Nat → Int32) → (Nat → Int32) → (Nat → Int32) → (Nat → Int32) → (Nat → Int32) → (Nat → Int32) → (Nat → Int32) → Prop) (B : dl_Bs C L ol T cnt K S D N) {a b ko r x : Nat} (ha : a < cnt) (hx : x < cnt) (hko : ko ≤ 1) (hF : ∀ c, c < cnt → F c < 2147483648) {mk0 : Nat → Int32}
    (H : ∀ mk', dl_Mk cnt (dl_R cnt K S D N) (fun y => ko = 0 ∨ F y = 1) a mk' → (∀ y, y < cnt → ¬ mk0 y = 0 → ¬ mk' y = 0) → ((x = a ∨ ¬ mk0 x = 0) → ∀ y, dl_R cnt K S D N x y → (ko = 0 ∨ F y = 1) → ¬ mk' y = 0) → J41 (nI (x + 1)) old nxt (dl_A K) (dl_A S) (dl_A D) (dl_A N) dat (dl_A F) (dl_A P) mk') :
    ∀ f y mk', y ≤ cnt → cnt - y < f → dl_Mk cnt (dl_R cnt K S D N) (fun y => ko = 0 ∨ F y = 1) a mk' → (∀ y, y < cnt → ¬ mk0 y = 0 → ¬ mk' y = 0) → ((x = a ∨ ¬ mk0 x = 0) → ∀ y', y' < y → dl_R cnt K S D N x y' → (ko = 0 ∨ F y' = 1) → ¬ mk' y' = 0) →
      wY_chain_53 post J29 J41 (nI a) (nI b) (nI ko) (nI r) (nI x) (nI C) (nI L) (nI ph) (nI ol) (nI T) (nI cnt) (nI dy) f (nI y) old nxt (dl_A K) (dl_A S) (dl_A D) (dl_A N) dat (dl_A F) (dl_A P) mk' := by
  intro f
  have B' := B
  obtain ⟨b1, b2, b3, b4, b5, b6, b7, b8⟩ := B'
  induction f with
  | zero => intro y mk' _ h; omega
  | succ f ih =>
    intro y mk' h1 h2 G M PP
    rcases Nat.lt_or_ge y cnt with z | z
    · have hf := hF y z
      have skip : (¬ mk' y = 0 ∨ ¬ (ko = 0 ∨ F y = 1) ∨ ¬ (x = a ∨ ¬ mk' x = 0)) → wY_chain_53 post J29 J41 (nI a) (nI b) (nI ko) (nI r) (nI x) (nI C) (nI L) (nI ph) (nI ol) (nI T) (nI cnt) (nI dy) f (nI (y + 1)) old nxt (dl_A K) (dl_A S) (dl_A D) (dl_A N) dat (dl_A F) (dl_A P) mk' := fun o =>
        ih (y + 1) mk' z (by omega) G M (fun c y' hy' rr qq => by
          by_cases e : y' = y
          · subst e
            rcases o with o | o | o
            · exact o
            · exact absurd qq o
            · exact absurd (c.elim Or.inl (fun w => Or.inr (M x hx w))) o
          · exact PP c y' (by omega) rr qq)
      have do78 : (x = a ∨ ¬ mk' x = 0) → wY_chain_78 post J29 J41 (wY_chain_53 post J29 J41 (nI a) (nI b) (nI ko) (nI r) (nI x) (nI C) (nI L) (nI ph) (nI ol) (nI T) (nI cnt) (nI dy) f) (nI a) (nI b) (nI ko) (nI r) (nI x) (nI y) (nI C) (nI L) (nI ph) (nI ol) (nI T) (nI cnt) (nI dy) old nxt (dl_A K) (dl_A S) (dl_A D) (dl_A N) dat (dl_A F) (dl_A P) mk' := fun hxm => by
        by_cases my : mk' y = 0
        · have do103 : (ko = 0 ∨ F y = 1) → wY_chain_103 post J29 J41 (wY_chain_53 post J29 J41 (nI a) (nI b) (nI ko) (nI r) (nI x) (nI C) (nI L) (nI ph) (nI ol) (nI T) (nI cnt) (nI dy) f) (nI a) (nI b) (nI ko) (nI r) (nI x) (nI y) (nI C) (nI L) (nI ph) (nI ol) (nI T) (nI cnt) (nI dy) old nxt (dl_A K) (dl_A S) (dl_A D) (dl_A N) dat (dl_A F) (dl_A P) mk' := fun qy => by
            unfold wY_chain_103
            refine dl_ypr _ B hx z (fun rr => ?_) (fun rr => ?_)
            · try simp (disch := omega) only [nI_clamp, dl_Ar, dl_Au, dl_leT, dl_leF, dl_ltT, dl_ltF, dl_eqT, dl_eqF, nI_add, nI_1, dl_inT, dl_sub, dl_sub1, dl_subm1, forall_eq, true_implies, false_implies, not_true, not_false_iff, true_and, and_true, dl_leLT0, dl_leLF0, dl_leRT0, dl_leRF0, dl_ltLT0, dl_ltLF0, dl_ltRT0, dl_ltRF0, dl_eqRT0, dl_eqRF0, dl_leLT1, dl_leLF1, dl_leRT1, dl_leRF1, dl_ltLT1, dl_ltLF1, dl_ltRT1, dl_ltRF1, dl_eqRT1, dl_eqRF1, dl_leLT2, dl_leLF2, dl_leRT2, dl_leRF2, dl_ltLT2, dl_ltLF2, dl_ltRT2, dl_ltRF2, dl_eqRT2, dl_eqRF2, dl_leLT3, dl_leLF3, dl_leRT3, dl_leRF3, dl_ltLT3, dl_ltLF3, dl_ltRT3, dl_ltRF3, dl_eqRT3, dl_eqRF3, dl_leLT8, dl_leLF8, dl_leRT8, dl_leRF8, dl_ltLT8, dl_ltLF8, dl_ltRT8, dl_ltRF8, dl_eqRT8, dl_eqRF8, dl_leLT9, dl_leLF9, dl_leRT9, dl_leRF9, dl_ltLT9, dl_ltLF9, dl_ltRT9, dl_ltRF9, dl_eqRT9, dl_eqRF9, dl_leLT16, dl_leLF16, dl_leRT16, dl_leRF16, dl_ltLT16, dl_ltLF16, dl_ltRT16, dl_ltRF16, dl_eqRT16, dl_eqRF16, dl_leLT64, dl_leLF64, dl_leRT64, dl_leRF64, dl_ltLT64, dl_ltLF64, dl_ltRT64, dl_ltRF64, dl_eqRT64, dl_eqRF64, dl_leLT65, dl_leLF65, dl_leRT65, dl_leRF65, dl_ltLT65, dl_ltLF65, dl_ltRT65, dl_ltRF65, dl_eqRT65, dl_eqRF65, dl_nb1]
              refine ih (y + 1) _ z (by omega) (fun w hw nw => ?_) (fun w hw nw => ?_) (fun c y' hy' r2 q2 => ?_)
              · by_cases e : w = y
                · subst e
                  exact dl_Rc_c (hxm.elim Or.inl (fun m => Or.inr (G x hx m))) rr qy
                · rw [pk_un e] at nw; exact G w hw nw
              · by_cases e : w = y
                · rw [e, pk_us]; decide
                · rw [pk_un e]; exact M w hw nw
              · by_cases e : y' = y
                · rw [e, pk_us]; decide
                · rw [pk_un e]; exact PP c y' (by omega) r2 q2
            · try simp (disch := omega) only [nI_clamp, dl_Ar, dl_Au, dl_leT, dl_leF, dl_ltT, dl_ltF, dl_eqT, dl_eqF, nI_add, nI_1, dl_inT, dl_sub, dl_sub1, dl_subm1, forall_eq, true_implies, false_implies, not_true, not_false_iff, true_and, and_true, dl_leLT0, dl_leLF0, dl_leRT0, dl_leRF0, dl_ltLT0, dl_ltLF0, dl_ltRT0, dl_ltRF0, dl_eqRT0, dl_eqRF0, dl_leLT1, dl_leLF1, dl_leRT1, dl_leRF1, dl_ltLT1, dl_ltLF1, dl_ltRT1, dl_ltRF1, dl_eqRT1, dl_eqRF1, dl_leLT2, dl_leLF2, dl_leRT2, dl_leRF2, dl_ltLT2, dl_ltLF2, dl_ltRT2, dl_ltRF2, dl_eqRT2, dl_eqRF2, dl_leLT3, dl_leLF3, dl_leRT3, dl_leRF3, dl_ltLT3, dl_ltLF3, dl_ltRT3, dl_ltRF3, dl_eqRT3, dl_eqRF3, dl_leLT8, dl_leLF8, dl_leRT8, dl_leRF8, dl_ltLT8, dl_ltLF8, dl_ltRT8, dl_ltRF8, dl_eqRT8, dl_eqRF8, dl_leLT9, dl_leLF9, dl_leRT9, dl_leRF9, dl_ltLT9, dl_ltLF9, dl_ltRT9, dl_ltRF9, dl_eqRT9, dl_eqRF9, dl_leLT16, dl_leLF16, dl_leRT16, dl_leRF16, dl_ltLT16, dl_ltLF16, dl_ltRT16, dl_ltRF16, dl_eqRT16, dl_eqRF16, dl_leLT64, dl_leLF64, dl_leRT64, dl_leRF64, dl_ltLT64, dl_ltLF64, dl_ltRT64, dl_ltRF64, dl_eqRT64, dl_eqRF64, dl_leLT65, dl_leLF65, dl_leRT65, dl_leRF65, dl_ltLT65, dl_ltLF65, dl_ltRT65, dl_ltRF65, dl_eqRT65, dl_eqRF65, dl_nb0]
              have same : upd mk' y 0 = mk' := by
                funext w
                by_cases e : w = y
                · rw [e, pk_us, my]
                · rw [pk_un e]
              rw [same]
              exact ih (y + 1) mk' z (by omega) G M (fun c y' hy' r2 q2 => by
                by_cases e : y' = y
                · rw [e] at r2; exact absurd r2 rr
                · exact PP c y' (by omega) r2 q2)
          by_cases k0 : ko = 0
          · simp (disch := omega) only [wY_chain_78, nI_clamp, dl_Ar, dl_Au, dl_leT, dl_leF, dl_ltT, dl_ltF, dl_eqT, dl_eqF, nI_add, nI_1, dl_inT, dl_sub, dl_sub1, dl_subm1, forall_eq, true_implies, false_implies, not_true, not_false_iff, true_and, and_true, dl_leLT0, dl_leLF0, dl_leRT0, dl_leRF0, dl_ltLT0, dl_ltLF0, dl_ltRT0, dl_ltRF0, dl_eqRT0, dl_eqRF0, dl_leLT1, dl_leLF1, dl_leRT1, dl_leRF1, dl_ltLT1, dl_ltLF1, dl_ltRT1, dl_ltRF1, dl_eqRT1, dl_eqRF1, dl_leLT2, dl_leLF2, dl_leRT2, dl_leRF2, dl_ltLT2, dl_ltLF2, dl_ltRT2, dl_ltRF2, dl_eqRT2, dl_eqRF2, dl_leLT3, dl_leLF3, dl_leRT3, dl_leRF3, dl_ltLT3, dl_ltLF3, dl_ltRT3, dl_ltRF3, dl_eqRT3, dl_eqRF3, dl_leLT8, dl_leLF8, dl_leRT8, dl_leRF8, dl_ltLT8, dl_ltLF8, dl_ltRT8, dl_ltRF8, dl_eqRT8, dl_eqRF8, dl_leLT9, dl_leLF9, dl_leRT9, dl_leRF9, dl_ltLT9, dl_ltLF9, dl_ltRT9, dl_ltRF9, dl_eqRT9, dl_eqRF9, dl_leLT16, dl_leLF16, dl_leRT16, dl_leRF16, dl_ltLT16, dl_ltLF16, dl_ltRT16, dl_ltRF16, dl_eqRT16, dl_eqRF16, dl_leLT64, dl_leLF64, dl_leRT64, dl_leRF64, dl_ltLT64, dl_ltLF64, dl_ltRT64, dl_ltRF64, dl_eqRT64, dl_eqRF64, dl_leLT65, dl_leLF65, dl_leRT65, dl_leRF65, dl_ltLT65, dl_ltLF65, dl_ltRT65, dl_ltRF65, dl_eqRT65, dl_eqRF65, my]
            exact do103 (Or.inl k0)
          · by_cases f1 : F y = 1
            · simp (disch := omega) only [wY_chain_78, nI_clamp, dl_Ar, dl_Au, dl_leT, dl_leF, dl_ltT, dl_ltF, dl_eqT, dl_eqF, nI_add, nI_1, dl_inT, dl_sub, dl_sub1, dl_subm1, forall_eq, true_implies, false_implies, not_true, not_false_iff, true_and, and_true, dl_leLT0, dl_leLF0, dl_leRT0, dl_leRF0, dl_ltLT0, dl_ltLF0, dl_ltRT0, dl_ltRF0, dl_eqRT0, dl_eqRF0, dl_leLT1, dl_leLF1, dl_leRT1, dl_leRF1, dl_ltLT1, dl_ltLF1, dl_ltRT1, dl_ltRF1, dl_eqRT1, dl_eqRF1, dl_leLT2, dl_leLF2, dl_leRT2, dl_leRF2, dl_ltLT2, dl_ltLF2, dl_ltRT2, dl_ltRF2, dl_eqRT2, dl_eqRF2, dl_leLT3, dl_leLF3, dl_leRT3, dl_leRF3, dl_ltLT3, dl_ltLF3, dl_ltRT3, dl_ltRF3, dl_eqRT3, dl_eqRF3, dl_leLT8, dl_leLF8, dl_leRT8, dl_leRF8, dl_ltLT8, dl_ltLF8, dl_ltRT8, dl_ltRF8, dl_eqRT8, dl_eqRF8, dl_leLT9, dl_leLF9, dl_leRT9, dl_leRF9, dl_ltLT9, dl_ltLF9, dl_ltRT9, dl_ltRF9, dl_eqRT9, dl_eqRF9, dl_leLT16, dl_leLF16, dl_leRT16, dl_leRF16, dl_ltLT16, dl_ltLF16, dl_ltRT16, dl_ltRF16, dl_eqRT16, dl_eqRF16, dl_leLT64, dl_leLF64, dl_leRT64, dl_leRF64, dl_ltLT64, dl_ltLF64, dl_ltRT64, dl_ltRF64, dl_eqRT64, dl_eqRF64, dl_leLT65, dl_leLF65, dl_leRT65, dl_leRF65, dl_ltLT65, dl_ltLF65, dl_ltRT65, dl_ltRF65, dl_eqRT65, dl_eqRF65, my]
              exact do103 (Or.inr f1)
            · simp (disch := omega) only [wY_chain_78, nI_clamp, dl_Ar, dl_Au, dl_leT, dl_leF, dl_ltT, dl_ltF, dl_eqT, dl_eqF, nI_add, nI_1, dl_inT, dl_sub, dl_sub1, dl_subm1, forall_eq, true_implies, false_implies, not_true, not_false_iff, true_and, and_true, dl_leLT0, dl_leLF0, dl_leRT0, dl_leRF0, dl_ltLT0, dl_ltLF0, dl_ltRT0, dl_ltRF0, dl_eqRT0, dl_eqRF0, dl_leLT1, dl_leLF1, dl_leRT1, dl_leRF1, dl_ltLT1, dl_ltLF1, dl_ltRT1, dl_ltRF1, dl_eqRT1, dl_eqRF1, dl_leLT2, dl_leLF2, dl_leRT2, dl_leRF2, dl_ltLT2, dl_ltLF2, dl_ltRT2, dl_ltRF2, dl_eqRT2, dl_eqRF2, dl_leLT3, dl_leLF3, dl_leRT3, dl_leRF3, dl_ltLT3, dl_ltLF3, dl_ltRT3, dl_ltRF3, dl_eqRT3, dl_eqRF3, dl_leLT8, dl_leLF8, dl_leRT8, dl_leRF8, dl_ltLT8, dl_ltLF8, dl_ltRT8, dl_ltRF8, dl_eqRT8, dl_eqRF8, dl_leLT9, dl_leLF9, dl_leRT9, dl_leRF9, dl_ltLT9, dl_ltLF9, dl_ltRT9, dl_ltRF9, dl_eqRT9, dl_eqRF9, dl_leLT16, dl_leLF16, dl_leRT16, dl_leRF16, dl_ltLT16, dl_ltLF16, dl_ltRT16, dl_ltRF16, dl_eqRT16, dl_eqRF16, dl_leLT64, dl_leLF64, dl_leRT64, dl_leRF64, dl_ltLT64, dl_ltLF64, dl_ltRT64, dl_ltRF64, dl_eqRT64, dl_eqRF64, dl_leLT65, dl_leLF65, dl_leRT65, dl_leRF65, dl_ltLT65, dl_ltLF65, dl_ltRT65, dl_ltRF65, dl_eqRT65, dl_eqRF65, my]
              exact skip (Or.inr (Or.inl (fun w => w.elim k0 f1)))
        · simp (disch := omega) only [wY_chain_78, nI_clamp, dl_Ar, dl_Au, dl_leT, dl_leF, dl_ltT, dl_ltF, dl_eqT, dl_eqF, nI_add, nI_1, dl_inT, dl_sub, dl_sub1, dl_subm1, forall_eq, true_implies, false_implies, not_true, not_false_iff, true_and, and_true, dl_leLT0, dl_leLF0, dl_leRT0, dl_leRF0, dl_ltLT0, dl_ltLF0, dl_ltRT0, dl_ltRF0, dl_eqRT0, dl_eqRF0, dl_leLT1, dl_leLF1, dl_leRT1, dl_leRF1, dl_ltLT1, dl_ltLF1, dl_ltRT1, dl_ltRF1, dl_eqRT1, dl_eqRF1, dl_leLT2, dl_leLF2, dl_leRT2, dl_leRF2, dl_ltLT2, dl_ltLF2, dl_ltRT2, dl_ltRF2, dl_eqRT2, dl_eqRF2, dl_leLT3, dl_leLF3, dl_leRT3, dl_leRF3, dl_ltLT3, dl_ltLF3, dl_ltRT3, dl_ltRF3, dl_eqRT3, dl_eqRF3, dl_leLT8, dl_leLF8, dl_leRT8, dl_leRF8, dl_ltLT8, dl_ltLF8, dl_ltRT8, dl_ltRF8, dl_eqRT8, dl_eqRF8, dl_leLT9, dl_leLF9, dl_leRT9, dl_leRF9, dl_ltLT9, dl_ltLF9, dl_ltRT9, dl_ltRF9, dl_eqRT9, dl_eqRF9, dl_leLT16, dl_leLF16, dl_leRT16, dl_leRF16, dl_ltLT16, dl_ltLF16, dl_ltRT16, dl_ltRF16, dl_eqRT16, dl_eqRF16, dl_leLT64, dl_leLF64, dl_leRT64, dl_leRF64, dl_ltLT64, dl_ltLF64, dl_ltRT64, dl_ltRF64, dl_eqRT64, dl_eqRF64, dl_leLT65, dl_leLF65, dl_leRT65, dl_leRF65, dl_ltLT65, dl_ltLF65, dl_ltRT65, dl_ltRF65, dl_eqRT65, dl_eqRF65, my]
          exact skip (Or.inl my)
      by_cases e : x = a
      · simp (disch := omega) only [wY_chain_53, nI_clamp, dl_Ar, dl_Au, dl_leT, dl_leF, dl_ltT, dl_ltF, dl_eqT, dl_eqF, nI_add, nI_1, dl_inT, dl_sub, dl_sub1, dl_subm1, forall_eq, true_implies, false_implies, not_true, not_false_iff, true_and, and_true, dl_leLT0, dl_leLF0, dl_leRT0, dl_leRF0, dl_ltLT0, dl_ltLF0, dl_ltRT0, dl_ltRF0, dl_eqRT0, dl_eqRF0, dl_leLT1, dl_leLF1, dl_leRT1, dl_leRF1, dl_ltLT1, dl_ltLF1, dl_ltRT1, dl_ltRF1, dl_eqRT1, dl_eqRF1, dl_leLT2, dl_leLF2, dl_leRT2, dl_leRF2, dl_ltLT2, dl_ltLF2, dl_ltRT2, dl_ltRF2, dl_eqRT2, dl_eqRF2, dl_leLT3, dl_leLF3, dl_leRT3, dl_leRF3, dl_ltLT3, dl_ltLF3, dl_ltRT3, dl_ltRF3, dl_eqRT3, dl_eqRF3, dl_leLT8, dl_leLF8, dl_leRT8, dl_leRF8, dl_ltLT8, dl_ltLF8, dl_ltRT8, dl_ltRF8, dl_eqRT8, dl_eqRF8, dl_leLT9, dl_leLF9, dl_leRT9, dl_leRF9, dl_ltLT9, dl_ltLF9, dl_ltRT9, dl_ltRF9, dl_eqRT9, dl_eqRF9, dl_leLT16, dl_leLF16, dl_leRT16, dl_leRF16, dl_ltLT16, dl_ltLF16, dl_ltRT16, dl_ltRF16, dl_eqRT16, dl_eqRF16, dl_leLT64, dl_leLF64, dl_leRT64, dl_leRF64, dl_ltLT64, dl_ltLF64, dl_ltRT64, dl_ltRF64, dl_eqRT64, dl_eqRF64, dl_leLT65, dl_leLF65, dl_leRT65, dl_leRF65, dl_ltLT65, dl_ltLF65, dl_ltRT65, dl_ltRF65, dl_eqRT65, dl_eqRF65]
        exact do78 (Or.inl e)
      · by_cases mx : mk' x = 0
        · simp (disch := omega) only [wY_chain_53, nI_clamp, dl_Ar, dl_Au, dl_leT, dl_leF, dl_ltT, dl_ltF, dl_eqT, dl_eqF, nI_add, nI_1, dl_inT, dl_sub, dl_sub1, dl_subm1, forall_eq, true_implies, false_implies, not_true, not_false_iff, true_and, and_true, dl_leLT0, dl_leLF0, dl_leRT0, dl_leRF0, dl_ltLT0, dl_ltLF0, dl_ltRT0, dl_ltRF0, dl_eqRT0, dl_eqRF0, dl_leLT1, dl_leLF1, dl_leRT1, dl_leRF1, dl_ltLT1, dl_ltLF1, dl_ltRT1, dl_ltRF1, dl_eqRT1, dl_eqRF1, dl_leLT2, dl_leLF2, dl_leRT2, dl_leRF2, dl_ltLT2, dl_ltLF2, dl_ltRT2, dl_ltRF2, dl_eqRT2, dl_eqRF2, dl_leLT3, dl_leLF3, dl_leRT3, dl_leRF3, dl_ltLT3, dl_ltLF3, dl_ltRT3, dl_ltRF3, dl_eqRT3, dl_eqRF3, dl_leLT8, dl_leLF8, dl_leRT8, dl_leRF8, dl_ltLT8, dl_ltLF8, dl_ltRT8, dl_ltRF8, dl_eqRT8, dl_eqRF8, dl_leLT9, dl_leLF9, dl_leRT9, dl_leRF9, dl_ltLT9, dl_ltLF9, dl_ltRT9, dl_ltRF9, dl_eqRT9, dl_eqRF9, dl_leLT16, dl_leLF16, dl_leRT16, dl_leRF16, dl_ltLT16, dl_ltLF16, dl_ltRT16, dl_ltRF16, dl_eqRT16, dl_eqRF16, dl_leLT64, dl_leLF64, dl_leRT64, dl_leRF64, dl_ltLT64, dl_ltLF64, dl_ltRT64, dl_ltRF64, dl_eqRT64, dl_eqRF64, dl_leLT65, dl_leLF65, dl_leRT65, dl_leRF65, dl_ltLT65, dl_ltLF65, dl_ltRT65, dl_ltRF65, dl_eqRT65, dl_eqRF65, mx]
          exact skip (Or.inr (Or.inr (fun w => w.elim e (fun w => w mx))))
        · simp (disch := omega) only [wY_chain_53, nI_clamp, dl_Ar, dl_Au, dl_leT, dl_leF, dl_ltT, dl_ltF, dl_eqT, dl_eqF, nI_add, nI_1, dl_inT, dl_sub, dl_sub1, dl_subm1, forall_eq, true_implies, false_implies, not_true, not_false_iff, true_and, and_true, dl_leLT0, dl_leLF0, dl_leRT0, dl_leRF0, dl_ltLT0, dl_ltLF0, dl_ltRT0, dl_ltRF0, dl_eqRT0, dl_eqRF0, dl_leLT1, dl_leLF1, dl_leRT1, dl_leRF1, dl_ltLT1, dl_ltLF1, dl_ltRT1, dl_ltRF1, dl_eqRT1, dl_eqRF1, dl_leLT2, dl_leLF2, dl_leRT2, dl_leRF2, dl_ltLT2, dl_ltLF2, dl_ltRT2, dl_ltRF2, dl_eqRT2, dl_eqRF2, dl_leLT3, dl_leLF3, dl_leRT3, dl_leRF3, dl_ltLT3, dl_ltLF3, dl_ltRT3, dl_ltRF3, dl_eqRT3, dl_eqRF3, dl_leLT8, dl_leLF8, dl_leRT8, dl_leRF8, dl_ltLT8, dl_ltLF8, dl_ltRT8, dl_ltRF8, dl_eqRT8, dl_eqRF8, dl_leLT9, dl_leLF9, dl_leRT9, dl_leRF9, dl_ltLT9, dl_ltLF9, dl_ltRT9, dl_ltRF9, dl_eqRT9, dl_eqRF9, dl_leLT16, dl_leLF16, dl_leRT16, dl_leRF16, dl_ltLT16, dl_ltLF16, dl_ltRT16, dl_ltRF16, dl_eqRT16, dl_eqRF16, dl_leLT64, dl_leLF64, dl_leRT64, dl_leRF64, dl_ltLT64, dl_ltLF64, dl_ltRT64, dl_ltRF64, dl_eqRT64, dl_eqRF64, dl_leLT65, dl_leLF65, dl_leRT65, dl_leRF65, dl_ltLT65, dl_ltLF65, dl_ltRT65, dl_ltRF65, dl_eqRT65, dl_eqRF65, mx]
          exact do78 (Or.inr mx)
    · simp (disch := omega) only [wY_chain_53, nI_clamp, dl_Ar, dl_Au, dl_leT, dl_leF, dl_ltT, dl_ltF, dl_eqT, dl_eqF, nI_add, nI_1, dl_inT, dl_sub, dl_sub1, dl_subm1, forall_eq, true_implies, false_implies, not_true, not_false_iff, true_and, and_true, dl_leLT0, dl_leLF0, dl_leRT0, dl_leRF0, dl_ltLT0, dl_ltLF0, dl_ltRT0, dl_ltRF0, dl_eqRT0, dl_eqRF0, dl_leLT1, dl_leLF1, dl_leRT1, dl_leRF1, dl_ltLT1, dl_ltLF1, dl_ltRT1, dl_ltRF1, dl_eqRT1, dl_eqRF1, dl_leLT2, dl_leLF2, dl_leRT2, dl_leRF2, dl_ltLT2, dl_ltLF2, dl_ltRT2, dl_ltRF2, dl_eqRT2, dl_eqRF2, dl_leLT3, dl_leLF3, dl_leRT3, dl_leRF3, dl_ltLT3, dl_ltLF3, dl_ltRT3, dl_ltRF3, dl_eqRT3, dl_eqRF3, dl_leLT8, dl_leLF8, dl_leRT8, dl_leRF8, dl_ltLT8, dl_ltLF8, dl_ltRT8, dl_ltRF8, dl_eqRT8, dl_eqRF8, dl_leLT9, dl_leLF9, dl_leRT9, dl_leRF9, dl_ltLT9, dl_ltLF9, dl_ltRT9, dl_ltRF9, dl_eqRT9, dl_eqRF9, dl_leLT16, dl_leLF16, dl_leRT16, dl_leRF16, dl_ltLT16, dl_ltLF16, dl_ltRT16, dl_ltRF16, dl_eqRT16, dl_eqRF16, dl_leLT64, dl_leLF64, dl_leRT64, dl_leRF64, dl_ltLT64, dl_ltLF64, dl_ltRT64, dl_ltRF64, dl_eqRT64, dl_eqRF64, dl_leLT65, dl_leLF65, dl_leRT65, dl_leRF65, dl_ltLT65, dl_ltLF65, dl_ltRT65, dl_ltRF65, dl_eqRT65, dl_eqRF65]
      exact H mk' G M (fun c y rr qq => PP c y (by have := rr.2.1; omega) rr qq)
theorem dl_yc41 (post : Int32 → SY → Prop) (J29 : Int32 → (Nat → Int32) → (Nat → Int32) → (Nat → Int32) → (Nat → Int32) → (Nat → Int32) → (Nat → Int32) → (Nat → Int32) → (Nat → Int32) → (Nat → Int32) → (Nat → Int32) → Prop) (B : dl_Bs C L ol T cnt K S D N) {a b ko r : Nat} (ha : a < cnt) (hko : ko ≤ 1) (hF : ∀ c, c < cnt → F c < 2147483648) {mk0 : Nat → Int32}
    (H : ∀ mk', dl_Mk cnt (dl_R cnt K S D N) (fun y => ko = 0 ∨ F y = 1) a mk' → (∀ y, y < cnt → ¬ mk0 y = 0 → ¬ mk' y = 0) → (∀ x y, x < cnt → (x = a ∨ ¬ mk0 x = 0) → dl_R cnt K S D N x y → (ko = 0 ∨ F y = 1) → ¬ mk' y = 0) → J29 (nI (r + 1)) old nxt (dl_A K) (dl_A S) (dl_A D) (dl_A N) dat (dl_A F) (dl_A P) mk') :
    ∀ f x mk', x ≤ cnt → cnt - x < f → dl_Mk cnt (dl_R cnt K S D N) (fun y => ko = 0 ∨ F y = 1) a mk' → (∀ y, y < cnt → ¬ mk0 y = 0 → ¬ mk' y = 0) → (∀ x' y, x' < x → (x' = a ∨ ¬ mk0 x' = 0) → dl_R cnt K S D N x' y → (ko = 0 ∨ F y = 1) → ¬ mk' y = 0) →
      wY_chain_41 post J29 (nI a) (nI b) (nI ko) (nI r) (nI C) (nI L) (nI ph) (nI ol) (nI T) (nI cnt) (nI dy) f (nI x) old nxt (dl_A K) (dl_A S) (dl_A D) (dl_A N) dat (dl_A F) (dl_A P) mk' := by
  intro f
  have B' := B
  obtain ⟨b1, b2, b3, b4, b5, b6, b7, b8⟩ := B'
  induction f with
  | zero => intro x mk' _ h; omega
  | succ f ih =>
    intro x mk' h1 h2 G M PP
    rcases Nat.lt_or_ge x cnt with z | z
    · simp (disch := omega) only [wY_chain_41, nI_clamp, dl_Ar, dl_Au, dl_leT, dl_leF, dl_ltT, dl_ltF, dl_eqT, dl_eqF, nI_add, nI_1, dl_inT, dl_sub, dl_sub1, dl_subm1, forall_eq, true_implies, false_implies, not_true, not_false_iff, true_and, and_true, dl_leLT0, dl_leLF0, dl_leRT0, dl_leRF0, dl_ltLT0, dl_ltLF0, dl_ltRT0, dl_ltRF0, dl_eqRT0, dl_eqRF0, dl_leLT1, dl_leLF1, dl_leRT1, dl_leRF1, dl_ltLT1, dl_ltLF1, dl_ltRT1, dl_ltRF1, dl_eqRT1, dl_eqRF1, dl_leLT2, dl_leLF2, dl_leRT2, dl_leRF2, dl_ltLT2, dl_ltLF2, dl_ltRT2, dl_ltRF2, dl_eqRT2, dl_eqRF2, dl_leLT3, dl_leLF3, dl_leRT3, dl_leRF3, dl_ltLT3, dl_ltLF3, dl_ltRT3, dl_ltRF3, dl_eqRT3, dl_eqRF3, dl_leLT8, dl_leLF8, dl_leRT8, dl_leRF8, dl_ltLT8, dl_ltLF8, dl_ltRT8, dl_ltRF8, dl_eqRT8, dl_eqRF8, dl_leLT9, dl_leLF9, dl_leRT9, dl_leRF9, dl_ltLT9, dl_ltLF9, dl_ltRT9, dl_ltRF9, dl_eqRT9, dl_eqRF9, dl_leLT16, dl_leLF16, dl_leRT16, dl_leRF16, dl_ltLT16, dl_ltLF16, dl_ltRT16, dl_ltRF16, dl_eqRT16, dl_eqRF16, dl_leLT64, dl_leLF64, dl_leRT64, dl_leRF64, dl_ltLT64, dl_ltLF64, dl_ltRT64, dl_ltRF64, dl_eqRT64, dl_eqRF64, dl_leLT65, dl_leLF65, dl_leRT65, dl_leRF65, dl_ltLT65, dl_ltLF65, dl_ltRT65, dl_ltRF65, dl_eqRT65, dl_eqRF65]
      refine ⟨cnt + 1, dl_yc53 post J29 _ B ha z hko hF (mk0 := mk') (fun mk2 G2 M2 P2 => ?_) _ 0 mk' (by omega) (by omega) G (fun _ _ w => w) (fun _ y' h => by omega)⟩
      refine ih (x + 1) mk2 z (by omega) G2 (fun y hy w => M2 y hy (M y hy w)) (fun x' y hx' c rr qq => ?_)
      by_cases e : x' = x
      · subst e
        exact P2 (c.elim Or.inl (fun w => Or.inr (M x' z w))) y rr qq
      · exact M2 y rr.2.1 (PP x' y (by omega) c rr qq)
    · have e : x = cnt := by omega
      subst e
      simp (disch := omega) only [wY_chain_41, nI_clamp, dl_Ar, dl_Au, dl_leT, dl_leF, dl_ltT, dl_ltF, dl_eqT, dl_eqF, nI_add, nI_1, dl_inT, dl_sub, dl_sub1, dl_subm1, forall_eq, true_implies, false_implies, not_true, not_false_iff, true_and, and_true, dl_leLT0, dl_leLF0, dl_leRT0, dl_leRF0, dl_ltLT0, dl_ltLF0, dl_ltRT0, dl_ltRF0, dl_eqRT0, dl_eqRF0, dl_leLT1, dl_leLF1, dl_leRT1, dl_leRF1, dl_ltLT1, dl_ltLF1, dl_ltRT1, dl_ltRF1, dl_eqRT1, dl_eqRF1, dl_leLT2, dl_leLF2, dl_leRT2, dl_leRF2, dl_ltLT2, dl_ltLF2, dl_ltRT2, dl_ltRF2, dl_eqRT2, dl_eqRF2, dl_leLT3, dl_leLF3, dl_leRT3, dl_leRF3, dl_ltLT3, dl_ltLF3, dl_ltRT3, dl_ltRF3, dl_eqRT3, dl_eqRF3, dl_leLT8, dl_leLF8, dl_leRT8, dl_leRF8, dl_ltLT8, dl_ltLF8, dl_ltRT8, dl_ltRF8, dl_eqRT8, dl_eqRF8, dl_leLT9, dl_leLF9, dl_leRT9, dl_leRF9, dl_ltLT9, dl_ltLF9, dl_ltRT9, dl_ltRF9, dl_eqRT9, dl_eqRF9, dl_leLT16, dl_leLF16, dl_leRT16, dl_leRF16, dl_ltLT16, dl_ltLF16, dl_ltRT16, dl_ltRF16, dl_eqRT16, dl_eqRF16, dl_leLT64, dl_leLF64, dl_leRT64, dl_leRF64, dl_ltLT64, dl_ltLF64, dl_ltRT64, dl_ltRF64, dl_eqRT64, dl_eqRF64, dl_leLT65, dl_leLF65, dl_leRT65, dl_leRF65, dl_ltLT65, dl_ltLF65, dl_ltRT65, dl_ltRF65, dl_eqRT65, dl_eqRF65]
      exact H mk' G M PP
/-- closed marks are all that is reached -/
theorem dl_Mk_all {cnt a : Nat} {R : Nat → Nat → Prop} {Q : Nat → Prop} {mk : Nat → Int32} (hR : ∀ x y, R x y → x < cnt ∧ y < cnt) (cl : ∀ x y, (x = a ∨ ¬ mk x = 0) → R x y → Q y → ¬ mk y = 0) {y : Nat} (h : dl_Rc R Q a y) : ¬ mk y = 0 := h (fun y => ¬ mk y = 0) cl
theorem dl_yc139 (post : Int32 → SY → Prop) (B : dl_Bs C L ol T cnt K S D N) {a b : Nat} (ha : a < cnt) (hb : b < cnt) {Q : Nat → Prop} (G : dl_Mk cnt (dl_R cnt K S D N) Q a mk) (Al : ∀ y, dl_Rc (dl_R cnt K S D N) Q a y → ¬ mk y = 0)
    (H1 : dl_Cl (dl_R cnt K S D N) Q a b → post 1 (nI C, nI L, nI ph, nI ol, nI T, nI cnt, nI dy, old, nxt, dl_A K, dl_A S, dl_A D, dl_A N, dat, dl_A F, dl_A P, mk)) (H0 : ¬ dl_Cl (dl_R cnt K S D N) Q a b → post 0 (nI C, nI L, nI ph, nI ol, nI T, nI cnt, nI dy, old, nxt, dl_A K, dl_A S, dl_A D, dl_A N, dat, dl_A F, dl_A P, mk)) :
    ∀ f x, x ≤ cnt → cnt - x < f → (∀ x', x' < x → (x' = a ∨ dl_Rc (dl_R cnt K S D N) Q a x') → ¬ dl_R cnt K S D N x' b) → wY_chain_139 post (nI a) (nI b) (nI C) (nI L) (nI ph) (nI ol) (nI T) (nI cnt) (nI dy) old nxt (dl_A K) (dl_A S) (dl_A D) (dl_A N) dat (dl_A F) (dl_A P) mk f (nI x) := by
  intro f
  have B' := B
  obtain ⟨b1, b2, b3, b4, b5, b6, b7, b8⟩ := B'
  induction f with
  | zero => intro x _ h; omega
  | succ f ih =>
    intro x h1 h2 I
    rcases Nat.lt_or_ge x cnt with z | z
    · have nx : (¬ (x = a ∨ dl_Rc (dl_R cnt K S D N) Q a x) ∨ ¬ dl_R cnt K S D N x b) → wY_chain_139 post (nI a) (nI b) (nI C) (nI L) (nI ph) (nI ol) (nI T) (nI cnt) (nI dy) old nxt (dl_A K) (dl_A S) (dl_A D) (dl_A N) dat (dl_A F) (dl_A P) mk f (nI (x + 1)) := fun o => ih (x + 1) z (by omega) (fun x' hx' c => by
        by_cases e : x' = x
        · subst e
          rcases o with o | o
          · exact absurd c o
          · exact o
        · exact I x' (by omega) c)
      have mm : mk x = 0 ↔ ¬ dl_Rc (dl_R cnt K S D N) Q a x := ⟨fun w c => Al x c w, fun w => Classical.byContradiction (fun v => w (G x z v))⟩
      simp (disch := omega) only [wY_chain_139, nI_clamp, dl_Ar, dl_Au, dl_leT, dl_leF, dl_ltT, dl_ltF, dl_eqT, dl_eqF, nI_add, nI_1, dl_inT, dl_sub, dl_sub1, dl_subm1, forall_eq, true_implies, false_implies, not_true, not_false_iff, true_and, and_true, dl_leLT0, dl_leLF0, dl_leRT0, dl_leRF0, dl_ltLT0, dl_ltLF0, dl_ltRT0, dl_ltRF0, dl_eqRT0, dl_eqRF0, dl_leLT1, dl_leLF1, dl_leRT1, dl_leRF1, dl_ltLT1, dl_ltLF1, dl_ltRT1, dl_ltRF1, dl_eqRT1, dl_eqRF1, dl_leLT2, dl_leLF2, dl_leRT2, dl_leRF2, dl_ltLT2, dl_ltLF2, dl_ltRT2, dl_ltRF2, dl_eqRT2, dl_eqRF2, dl_leLT3, dl_leLF3, dl_leRT3, dl_leRF3, dl_ltLT3, dl_ltLF3, dl_ltRT3, dl_ltRF3, dl_eqRT3, dl_eqRF3, dl_leLT8, dl_leLF8, dl_leRT8, dl_leRF8, dl_ltLT8, dl_ltLF8, dl_ltRT8, dl_ltRF8, dl_eqRT8, dl_eqRF8, dl_leLT9, dl_leLF9, dl_leRT9, dl_leRF9, dl_ltLT9, dl_ltLF9, dl_ltRT9, dl_ltRF9, dl_eqRT9, dl_eqRF9, dl_leLT16, dl_leLF16, dl_leRT16, dl_leRF16, dl_ltLT16, dl_ltLF16, dl_ltRT16, dl_ltRF16, dl_eqRT16, dl_eqRF16, dl_leLT64, dl_leLF64, dl_leRT64, dl_leRF64, dl_ltLT64, dl_ltLF64, dl_ltRT64, dl_ltRF64, dl_eqRT64, dl_eqRF64, dl_leLT65, dl_leLF65, dl_leRT65, dl_leRF65, dl_ltLT65, dl_ltLF65, dl_ltRT65, dl_ltRF65, dl_eqRT65, dl_eqRF65]
      refine dl_ypr _ B z hb (fun rr => ?_) (fun rr => ?_)
      · by_cases e : x = a
        · simp (disch := omega) only [wY_chain_173, nI_clamp, dl_Ar, dl_Au, dl_leT, dl_leF, dl_ltT, dl_ltF, dl_eqT, dl_eqF, nI_add, nI_1, dl_inT, dl_sub, dl_sub1, dl_subm1, forall_eq, true_implies, false_implies, not_true, not_false_iff, true_and, and_true, dl_leLT0, dl_leLF0, dl_leRT0, dl_leRF0, dl_ltLT0, dl_ltLF0, dl_ltRT0, dl_ltRF0, dl_eqRT0, dl_eqRF0, dl_leLT1, dl_leLF1, dl_leRT1, dl_leRF1, dl_ltLT1, dl_ltLF1, dl_ltRT1, dl_ltRF1, dl_eqRT1, dl_eqRF1, dl_leLT2, dl_leLF2, dl_leRT2, dl_leRF2, dl_ltLT2, dl_ltLF2, dl_ltRT2, dl_ltRF2, dl_eqRT2, dl_eqRF2, dl_leLT3, dl_leLF3, dl_leRT3, dl_leRF3, dl_ltLT3, dl_ltLF3, dl_ltRT3, dl_ltRF3, dl_eqRT3, dl_eqRF3, dl_leLT8, dl_leLF8, dl_leRT8, dl_leRF8, dl_ltLT8, dl_ltLF8, dl_ltRT8, dl_ltRF8, dl_eqRT8, dl_eqRF8, dl_leLT9, dl_leLF9, dl_leRT9, dl_leRF9, dl_ltLT9, dl_ltLF9, dl_ltRT9, dl_ltRF9, dl_eqRT9, dl_eqRF9, dl_leLT16, dl_leLF16, dl_leRT16, dl_leRF16, dl_ltLT16, dl_ltLF16, dl_ltRT16, dl_ltRF16, dl_eqRT16, dl_eqRF16, dl_leLT64, dl_leLF64, dl_leRT64, dl_leRF64, dl_ltLT64, dl_ltLF64, dl_ltRT64, dl_ltRF64, dl_eqRT64, dl_eqRF64, dl_leLT65, dl_leLF65, dl_leRT65, dl_leRF65, dl_ltLT65, dl_ltLF65, dl_ltRT65, dl_ltRF65, dl_eqRT65, dl_eqRF65]
          refine br_f (by decide) (H1 ⟨x, Or.inl e, rr⟩)
        · by_cases q : mk x = 0
          · simp (disch := omega) only [wY_chain_173, nI_clamp, dl_Ar, dl_Au, dl_leT, dl_leF, dl_ltT, dl_ltF, dl_eqT, dl_eqF, nI_add, nI_1, dl_inT, dl_sub, dl_sub1, dl_subm1, forall_eq, true_implies, false_implies, not_true, not_false_iff, true_and, and_true, dl_leLT0, dl_leLF0, dl_leRT0, dl_leRF0, dl_ltLT0, dl_ltLF0, dl_ltRT0, dl_ltRF0, dl_eqRT0, dl_eqRF0, dl_leLT1, dl_leLF1, dl_leRT1, dl_leRF1, dl_ltLT1, dl_ltLF1, dl_ltRT1, dl_ltRF1, dl_eqRT1, dl_eqRF1, dl_leLT2, dl_leLF2, dl_leRT2, dl_leRF2, dl_ltLT2, dl_ltLF2, dl_ltRT2, dl_ltRF2, dl_eqRT2, dl_eqRF2, dl_leLT3, dl_leLF3, dl_leRT3, dl_leRF3, dl_ltLT3, dl_ltLF3, dl_ltRT3, dl_ltRF3, dl_eqRT3, dl_eqRF3, dl_leLT8, dl_leLF8, dl_leRT8, dl_leRF8, dl_ltLT8, dl_ltLF8, dl_ltRT8, dl_ltRF8, dl_eqRT8, dl_eqRF8, dl_leLT9, dl_leLF9, dl_leRT9, dl_leRF9, dl_ltLT9, dl_ltLF9, dl_ltRT9, dl_ltRF9, dl_eqRT9, dl_eqRF9, dl_leLT16, dl_leLF16, dl_leRT16, dl_leRF16, dl_ltLT16, dl_ltLF16, dl_ltRT16, dl_ltRF16, dl_eqRT16, dl_eqRF16, dl_leLT64, dl_leLF64, dl_leRT64, dl_leRF64, dl_ltLT64, dl_ltLF64, dl_ltRT64, dl_ltRF64, dl_eqRT64, dl_eqRF64, dl_leLT65, dl_leLF65, dl_leRT65, dl_leRF65, dl_ltLT65, dl_ltLF65, dl_ltRT65, dl_ltRF65, dl_eqRT65, dl_eqRF65, q]
            exact nx (Or.inl (fun w => w.elim e (mm.mp q)))
          · simp (disch := omega) only [wY_chain_173, nI_clamp, dl_Ar, dl_Au, dl_leT, dl_leF, dl_ltT, dl_ltF, dl_eqT, dl_eqF, nI_add, nI_1, dl_inT, dl_sub, dl_sub1, dl_subm1, forall_eq, true_implies, false_implies, not_true, not_false_iff, true_and, and_true, dl_leLT0, dl_leLF0, dl_leRT0, dl_leRF0, dl_ltLT0, dl_ltLF0, dl_ltRT0, dl_ltRF0, dl_eqRT0, dl_eqRF0, dl_leLT1, dl_leLF1, dl_leRT1, dl_leRF1, dl_ltLT1, dl_ltLF1, dl_ltRT1, dl_ltRF1, dl_eqRT1, dl_eqRF1, dl_leLT2, dl_leLF2, dl_leRT2, dl_leRF2, dl_ltLT2, dl_ltLF2, dl_ltRT2, dl_ltRF2, dl_eqRT2, dl_eqRF2, dl_leLT3, dl_leLF3, dl_leRT3, dl_leRF3, dl_ltLT3, dl_ltLF3, dl_ltRT3, dl_ltRF3, dl_eqRT3, dl_eqRF3, dl_leLT8, dl_leLF8, dl_leRT8, dl_leRF8, dl_ltLT8, dl_ltLF8, dl_ltRT8, dl_ltRF8, dl_eqRT8, dl_eqRF8, dl_leLT9, dl_leLF9, dl_leRT9, dl_leRF9, dl_ltLT9, dl_ltLF9, dl_ltRT9, dl_ltRF9, dl_eqRT9, dl_eqRF9, dl_leLT16, dl_leLF16, dl_leRT16, dl_leRF16, dl_ltLT16, dl_ltLF16, dl_ltRT16, dl_ltRF16, dl_eqRT16, dl_eqRF16, dl_leLT64, dl_leLF64, dl_leRT64, dl_leRF64, dl_ltLT64, dl_ltLF64, dl_ltRT64, dl_ltRF64, dl_eqRT64, dl_eqRF64, dl_leLT65, dl_leLF65, dl_leRT65, dl_leRF65, dl_ltLT65, dl_ltLF65, dl_ltRT65, dl_ltRF65, dl_eqRT65, dl_eqRF65, q]
            refine br_f (by decide) (H1 ⟨x, Or.inr (G x z q), rr⟩)
      · by_cases e : x = a
        · simp (disch := omega) only [wY_chain_173, nI_clamp, dl_Ar, dl_Au, dl_leT, dl_leF, dl_ltT, dl_ltF, dl_eqT, dl_eqF, nI_add, nI_1, dl_inT, dl_sub, dl_sub1, dl_subm1, forall_eq, true_implies, false_implies, not_true, not_false_iff, true_and, and_true, dl_leLT0, dl_leLF0, dl_leRT0, dl_leRF0, dl_ltLT0, dl_ltLF0, dl_ltRT0, dl_ltRF0, dl_eqRT0, dl_eqRF0, dl_leLT1, dl_leLF1, dl_leRT1, dl_leRF1, dl_ltLT1, dl_ltLF1, dl_ltRT1, dl_ltRF1, dl_eqRT1, dl_eqRF1, dl_leLT2, dl_leLF2, dl_leRT2, dl_leRF2, dl_ltLT2, dl_ltLF2, dl_ltRT2, dl_ltRF2, dl_eqRT2, dl_eqRF2, dl_leLT3, dl_leLF3, dl_leRT3, dl_leRF3, dl_ltLT3, dl_ltLF3, dl_ltRT3, dl_ltRF3, dl_eqRT3, dl_eqRF3, dl_leLT8, dl_leLF8, dl_leRT8, dl_leRF8, dl_ltLT8, dl_ltLF8, dl_ltRT8, dl_ltRF8, dl_eqRT8, dl_eqRF8, dl_leLT9, dl_leLF9, dl_leRT9, dl_leRF9, dl_ltLT9, dl_ltLF9, dl_ltRT9, dl_ltRF9, dl_eqRT9, dl_eqRF9, dl_leLT16, dl_leLF16, dl_leRT16, dl_leRF16, dl_ltLT16, dl_ltLF16, dl_ltRT16, dl_ltRF16, dl_eqRT16, dl_eqRF16, dl_leLT64, dl_leLF64, dl_leRT64, dl_leRF64, dl_ltLT64, dl_ltLF64, dl_ltRT64, dl_ltRF64, dl_eqRT64, dl_eqRF64, dl_leLT65, dl_leLF65, dl_leRT65, dl_leRF65, dl_ltLT65, dl_ltLF65, dl_ltRT65, dl_ltRF65, dl_eqRT65, dl_eqRF65]
          exact nx (Or.inr rr)
        · by_cases q : mk x = 0
          · simp (disch := omega) only [wY_chain_173, nI_clamp, dl_Ar, dl_Au, dl_leT, dl_leF, dl_ltT, dl_ltF, dl_eqT, dl_eqF, nI_add, nI_1, dl_inT, dl_sub, dl_sub1, dl_subm1, forall_eq, true_implies, false_implies, not_true, not_false_iff, true_and, and_true, dl_leLT0, dl_leLF0, dl_leRT0, dl_leRF0, dl_ltLT0, dl_ltLF0, dl_ltRT0, dl_ltRF0, dl_eqRT0, dl_eqRF0, dl_leLT1, dl_leLF1, dl_leRT1, dl_leRF1, dl_ltLT1, dl_ltLF1, dl_ltRT1, dl_ltRF1, dl_eqRT1, dl_eqRF1, dl_leLT2, dl_leLF2, dl_leRT2, dl_leRF2, dl_ltLT2, dl_ltLF2, dl_ltRT2, dl_ltRF2, dl_eqRT2, dl_eqRF2, dl_leLT3, dl_leLF3, dl_leRT3, dl_leRF3, dl_ltLT3, dl_ltLF3, dl_ltRT3, dl_ltRF3, dl_eqRT3, dl_eqRF3, dl_leLT8, dl_leLF8, dl_leRT8, dl_leRF8, dl_ltLT8, dl_ltLF8, dl_ltRT8, dl_ltRF8, dl_eqRT8, dl_eqRF8, dl_leLT9, dl_leLF9, dl_leRT9, dl_leRF9, dl_ltLT9, dl_ltLF9, dl_ltRT9, dl_ltRF9, dl_eqRT9, dl_eqRF9, dl_leLT16, dl_leLF16, dl_leRT16, dl_leRF16, dl_ltLT16, dl_ltLF16, dl_ltRT16, dl_ltRF16, dl_eqRT16, dl_eqRF16, dl_leLT64, dl_leLF64, dl_leRT64, dl_leRF64, dl_ltLT64, dl_ltLF64, dl_ltRT64, dl_ltRF64, dl_eqRT64, dl_eqRF64, dl_leLT65, dl_leLF65, dl_leRT65, dl_leRF65, dl_ltLT65, dl_ltLF65, dl_ltRT65, dl_ltRF65, dl_eqRT65, dl_eqRF65, q]
            exact nx (Or.inr rr)
          · simp (disch := omega) only [wY_chain_173, nI_clamp, dl_Ar, dl_Au, dl_leT, dl_leF, dl_ltT, dl_ltF, dl_eqT, dl_eqF, nI_add, nI_1, dl_inT, dl_sub, dl_sub1, dl_subm1, forall_eq, true_implies, false_implies, not_true, not_false_iff, true_and, and_true, dl_leLT0, dl_leLF0, dl_leRT0, dl_leRF0, dl_ltLT0, dl_ltLF0, dl_ltRT0, dl_ltRF0, dl_eqRT0, dl_eqRF0, dl_leLT1, dl_leLF1, dl_leRT1, dl_leRF1, dl_ltLT1, dl_ltLF1, dl_ltRT1, dl_ltRF1, dl_eqRT1, dl_eqRF1, dl_leLT2, dl_leLF2, dl_leRT2, dl_leRF2, dl_ltLT2, dl_ltLF2, dl_ltRT2, dl_ltRF2, dl_eqRT2, dl_eqRF2, dl_leLT3, dl_leLF3, dl_leRT3, dl_leRF3, dl_ltLT3, dl_ltLF3, dl_ltRT3, dl_ltRF3, dl_eqRT3, dl_eqRF3, dl_leLT8, dl_leLF8, dl_leRT8, dl_leRF8, dl_ltLT8, dl_ltLF8, dl_ltRT8, dl_ltRF8, dl_eqRT8, dl_eqRF8, dl_leLT9, dl_leLF9, dl_leRT9, dl_leRF9, dl_ltLT9, dl_ltLF9, dl_ltRT9, dl_ltRF9, dl_eqRT9, dl_eqRF9, dl_leLT16, dl_leLF16, dl_leRT16, dl_leRF16, dl_ltLT16, dl_ltLF16, dl_ltRT16, dl_ltRF16, dl_eqRT16, dl_eqRF16, dl_leLT64, dl_leLF64, dl_leRT64, dl_leRF64, dl_ltLT64, dl_ltLF64, dl_ltRT64, dl_ltRF64, dl_eqRT64, dl_eqRF64, dl_leLT65, dl_leLF65, dl_leRT65, dl_leRF65, dl_ltLT65, dl_ltLF65, dl_ltRT65, dl_ltRF65, dl_eqRT65, dl_eqRF65, q]
            exact nx (Or.inr rr)
    · have e : x = cnt := by omega
      subst e
      simp (disch := omega) only [wY_chain_139, nI_clamp, dl_Ar, dl_Au, dl_leT, dl_leF, dl_ltT, dl_ltF, dl_eqT, dl_eqF, nI_add, nI_1, dl_inT, dl_sub, dl_sub1, dl_subm1, forall_eq, true_implies, false_implies, not_true, not_false_iff, true_and, and_true, dl_leLT0, dl_leLF0, dl_leRT0, dl_leRF0, dl_ltLT0, dl_ltLF0, dl_ltRT0, dl_ltRF0, dl_eqRT0, dl_eqRF0, dl_leLT1, dl_leLF1, dl_leRT1, dl_leRF1, dl_ltLT1, dl_ltLF1, dl_ltRT1, dl_ltRF1, dl_eqRT1, dl_eqRF1, dl_leLT2, dl_leLF2, dl_leRT2, dl_leRF2, dl_ltLT2, dl_ltLF2, dl_ltRT2, dl_ltRF2, dl_eqRT2, dl_eqRF2, dl_leLT3, dl_leLF3, dl_leRT3, dl_leRF3, dl_ltLT3, dl_ltLF3, dl_ltRT3, dl_ltRF3, dl_eqRT3, dl_eqRF3, dl_leLT8, dl_leLF8, dl_leRT8, dl_leRF8, dl_ltLT8, dl_ltLF8, dl_ltRT8, dl_ltRF8, dl_eqRT8, dl_eqRF8, dl_leLT9, dl_leLF9, dl_leRT9, dl_leRF9, dl_ltLT9, dl_ltLF9, dl_ltRT9, dl_ltRF9, dl_eqRT9, dl_eqRF9, dl_leLT16, dl_leLF16, dl_leRT16, dl_leRF16, dl_ltLT16, dl_ltLF16, dl_ltRT16, dl_ltRF16, dl_eqRT16, dl_eqRF16, dl_leLT64, dl_leLF64, dl_leRT64, dl_leRF64, dl_ltLT64, dl_ltLF64, dl_ltRT64, dl_ltRF64, dl_eqRT64, dl_eqRF64, dl_leLT65, dl_leLF65, dl_leRT65, dl_leRF65, dl_ltLT65, dl_ltLF65, dl_ltRT65, dl_ltRF65, dl_eqRT65, dl_eqRF65]
      refine H0 ?_
      rintro ⟨x', c, rr⟩
      exact I x' rr.1 c rr
theorem dl_ych (post : Int32 → SY → Prop) (B : dl_Bs C L ol T cnt K S D N) {a b ko : Nat} (ha : a < cnt) (hb : b < cnt) (hko : ko ≤ 1) (hF : ∀ c, c < cnt → F c < 2147483648)
    (H1 : dl_Cl (dl_R cnt K S D N) (fun y => ko = 0 ∨ F y = 1) a b → ∀ mk', post 1 (nI C, nI L, nI ph, nI ol, nI T, nI cnt, nI dy, old, nxt, dl_A K, dl_A S, dl_A D, dl_A N, dat, dl_A F, dl_A P, mk')) (H0 : ¬ dl_Cl (dl_R cnt K S D N) (fun y => ko = 0 ∨ F y = 1) a b → ∀ mk', post 0 (nI C, nI L, nI ph, nI ol, nI T, nI cnt, nI dy, old, nxt, dl_A K, dl_A S, dl_A D, dl_A N, dat, dl_A F, dl_A P, mk')) : wpY_chain post (nI C, nI L, nI ph, nI ol, nI T, nI cnt, nI dy, old, nxt, dl_A K, dl_A S, dl_A D, dl_A N, dat, dl_A F, dl_A P, mk) (nI a) (nI b) (nI ko) := by
  have B' := B
  obtain ⟨b1, b2, b3, b4, b5, b6, b7, b8⟩ := B'
  have k29 : ∀ f r mk', r ≤ cnt → cnt - r < f → dl_Mk cnt (dl_R cnt K S D N) (fun y => ko = 0 ∨ F y = 1) a mk' → ((∀ x y, (x = a ∨ ¬ mk' x = 0) → dl_R cnt K S D N x y → (ko = 0 ∨ F y = 1) → ¬ mk' y = 0) ∨ r ≤ dl_n (fun y => ¬ mk' y = 0) cnt) → wY_chain_29 post (nI a) (nI b) (nI ko) (nI C) (nI L) (nI ph) (nI ol) (nI T) (nI cnt) (nI dy) f (nI r) old nxt (dl_A K) (dl_A S) (dl_A D) (dl_A N) dat (dl_A F) (dl_A P) mk' := by
    intro f
    induction f with
    | zero => intro r mk' _ h; omega
    | succ f ih =>
      intro r mk' h1 h2 G I
      rcases Nat.lt_or_ge r cnt with z | z
      · simp (disch := omega) only [wY_chain_29, nI_clamp, dl_Ar, dl_Au, dl_leT, dl_leF, dl_ltT, dl_ltF, dl_eqT, dl_eqF, nI_add, nI_1, dl_inT, dl_sub, dl_sub1, dl_subm1, forall_eq, true_implies, false_implies, not_true, not_false_iff, true_and, and_true, dl_leLT0, dl_leLF0, dl_leRT0, dl_leRF0, dl_ltLT0, dl_ltLF0, dl_ltRT0, dl_ltRF0, dl_eqRT0, dl_eqRF0, dl_leLT1, dl_leLF1, dl_leRT1, dl_leRF1, dl_ltLT1, dl_ltLF1, dl_ltRT1, dl_ltRF1, dl_eqRT1, dl_eqRF1, dl_leLT2, dl_leLF2, dl_leRT2, dl_leRF2, dl_ltLT2, dl_ltLF2, dl_ltRT2, dl_ltRF2, dl_eqRT2, dl_eqRF2, dl_leLT3, dl_leLF3, dl_leRT3, dl_leRF3, dl_ltLT3, dl_ltLF3, dl_ltRT3, dl_ltRF3, dl_eqRT3, dl_eqRF3, dl_leLT8, dl_leLF8, dl_leRT8, dl_leRF8, dl_ltLT8, dl_ltLF8, dl_ltRT8, dl_ltRF8, dl_eqRT8, dl_eqRF8, dl_leLT9, dl_leLF9, dl_leRT9, dl_leRF9, dl_ltLT9, dl_ltLF9, dl_ltRT9, dl_ltRF9, dl_eqRT9, dl_eqRF9, dl_leLT16, dl_leLF16, dl_leRT16, dl_leRF16, dl_ltLT16, dl_ltLF16, dl_ltRT16, dl_ltRF16, dl_eqRT16, dl_eqRF16, dl_leLT64, dl_leLF64, dl_leRT64, dl_leRF64, dl_ltLT64, dl_ltLF64, dl_ltRT64, dl_ltRF64, dl_eqRT64, dl_eqRF64, dl_leLT65, dl_leLF65, dl_leRT65, dl_leRF65, dl_ltLT65, dl_ltLF65, dl_ltRT65, dl_ltRF65, dl_eqRT65, dl_eqRF65]
        refine ⟨cnt + 1, dl_yc41 post _ B ha hko hF (mk0 := mk') (fun mk2 G2 M2 P2 => ?_) _ 0 mk' (by omega) (by omega) G (fun _ _ w => w) (fun x' y h => by omega)⟩
        refine ih (r + 1) mk2 z (by omega) G2 ?_
        by_cases cl : ∀ x y, (x = a ∨ ¬ mk' x = 0) → dl_R cnt K S D N x y → (ko = 0 ∨ F y = 1) → ¬ mk' y = 0
        · refine Or.inl (fun x y c rr qq => M2 y rr.2.1 (cl x y ?_ rr qq))
          rcases c with c | c
          · exact Or.inl c
          · exact Or.inr (dl_Mk_all (fun x y r => ⟨r.1, r.2.1⟩) cl (G2 x rr.1 c))
        · refine Or.inr ?_
          have hr : r ≤ dl_n (fun y => ¬ mk' y = 0) cnt := I.elim (fun w => absurd w cl) id
          have : ∃ x y, (x = a ∨ ¬ mk' x = 0) ∧ dl_R cnt K S D N x y ∧ (ko = 0 ∨ F y = 1) ∧ mk' y = 0 := by
            refine Classical.byContradiction (fun w => cl (fun x y c rr qq e => w ⟨x, y, c, rr, qq, e⟩))
          obtain ⟨x, y, c, rr, qq, e⟩ := this
          have := dl_n_lt (P := fun y => ¬ mk' y = 0) (Q := fun y => ¬ mk2 y = 0) (n := cnt) (a := y) rr.2.1 (fun w => w e) (P2 x y rr.1 c rr qq) (fun k hk => M2 k hk)
          omega
      · have e : r = cnt := by omega
        subst e
        simp (disch := omega) only [wY_chain_29, nI_clamp, dl_Ar, dl_Au, dl_leT, dl_leF, dl_ltT, dl_ltF, dl_eqT, dl_eqF, nI_add, nI_1, dl_inT, dl_sub, dl_sub1, dl_subm1, forall_eq, true_implies, false_implies, not_true, not_false_iff, true_and, and_true, dl_leLT0, dl_leLF0, dl_leRT0, dl_leRF0, dl_ltLT0, dl_ltLF0, dl_ltRT0, dl_ltRF0, dl_eqRT0, dl_eqRF0, dl_leLT1, dl_leLF1, dl_leRT1, dl_leRF1, dl_ltLT1, dl_ltLF1, dl_ltRT1, dl_ltRF1, dl_eqRT1, dl_eqRF1, dl_leLT2, dl_leLF2, dl_leRT2, dl_leRF2, dl_ltLT2, dl_ltLF2, dl_ltRT2, dl_ltRF2, dl_eqRT2, dl_eqRF2, dl_leLT3, dl_leLF3, dl_leRT3, dl_leRF3, dl_ltLT3, dl_ltLF3, dl_ltRT3, dl_ltRF3, dl_eqRT3, dl_eqRF3, dl_leLT8, dl_leLF8, dl_leRT8, dl_leRF8, dl_ltLT8, dl_ltLF8, dl_ltRT8, dl_ltRF8, dl_eqRT8, dl_eqRF8, dl_leLT9, dl_leLF9, dl_leRT9, dl_leRF9, dl_ltLT9, dl_ltLF9, dl_ltRT9, dl_ltRF9, dl_eqRT9, dl_eqRF9, dl_leLT16, dl_leLF16, dl_leRT16, dl_leRF16, dl_ltLT16, dl_ltLF16, dl_ltRT16, dl_ltRF16, dl_eqRT16, dl_eqRF16, dl_leLT64, dl_leLF64, dl_leRT64, dl_leRF64, dl_ltLT64, dl_ltLF64, dl_ltRT64, dl_ltRF64, dl_eqRT64, dl_eqRF64, dl_leLT65, dl_leLF65, dl_leRT65, dl_leRF65, dl_ltLT65, dl_ltLF65, dl_ltRT65, dl_ltRF65, dl_eqRT65, dl_eqRF65]
        have cl : ∀ x y, (x = a ∨ ¬ mk' x = 0) → dl_R r K S D N x y → (ko = 0 ∨ F y = 1) → ¬ mk' y = 0 := by
          rcases I with I | I
          · exact I
          · exact fun x y _ rr _ => dl_n_all I y rr.2.1
        exact ⟨r + 1, dl_yc139 post B ha hb G (fun y h => dl_Mk_all (fun x y r => ⟨r.1, r.2.1⟩) cl h) (fun w => H1 w mk') (fun w => H0 w mk') _ 0 (by omega) (by omega) (fun x' h => by omega)⟩
  have k3 : ∀ f x mk', x ≤ cnt → cnt - x < f → (∀ y, y < x → mk' y = 0) → wY_chain_3 post (nI a) (nI b) (nI ko) (nI C) (nI L) (nI ph) (nI ol) (nI T) (nI cnt) (nI dy) f (nI x) old nxt (dl_A K) (dl_A S) (dl_A D) (dl_A N) dat (dl_A F) (dl_A P) mk' := by
    intro f
    induction f with
    | zero => intro x mk' _ h; omega
    | succ f ih =>
      intro x mk' h1 h2 I
      rcases Nat.lt_or_ge x cnt with z | z
      · simp (disch := omega) only [wY_chain_3, nI_clamp, dl_Ar, dl_Au, dl_leT, dl_leF, dl_ltT, dl_ltF, dl_eqT, dl_eqF, nI_add, nI_1, dl_inT, dl_sub, dl_sub1, dl_subm1, forall_eq, true_implies, false_implies, not_true, not_false_iff, true_and, and_true, dl_leLT0, dl_leLF0, dl_leRT0, dl_leRF0, dl_ltLT0, dl_ltLF0, dl_ltRT0, dl_ltRF0, dl_eqRT0, dl_eqRF0, dl_leLT1, dl_leLF1, dl_leRT1, dl_leRF1, dl_ltLT1, dl_ltLF1, dl_ltRT1, dl_ltRF1, dl_eqRT1, dl_eqRF1, dl_leLT2, dl_leLF2, dl_leRT2, dl_leRF2, dl_ltLT2, dl_ltLF2, dl_ltRT2, dl_ltRF2, dl_eqRT2, dl_eqRF2, dl_leLT3, dl_leLF3, dl_leRT3, dl_leRF3, dl_ltLT3, dl_ltLF3, dl_ltRT3, dl_ltRF3, dl_eqRT3, dl_eqRF3, dl_leLT8, dl_leLF8, dl_leRT8, dl_leRF8, dl_ltLT8, dl_ltLF8, dl_ltRT8, dl_ltRF8, dl_eqRT8, dl_eqRF8, dl_leLT9, dl_leLF9, dl_leRT9, dl_leRF9, dl_ltLT9, dl_ltLF9, dl_ltRT9, dl_ltRF9, dl_eqRT9, dl_eqRF9, dl_leLT16, dl_leLF16, dl_leRT16, dl_leRF16, dl_ltLT16, dl_ltLF16, dl_ltRT16, dl_ltRF16, dl_eqRT16, dl_eqRF16, dl_leLT64, dl_leLF64, dl_leRT64, dl_leRF64, dl_ltLT64, dl_ltLF64, dl_ltRT64, dl_ltRF64, dl_eqRT64, dl_eqRF64, dl_leLT65, dl_leLF65, dl_leRT65, dl_leRF65, dl_ltLT65, dl_ltLF65, dl_ltRT65, dl_ltRF65, dl_eqRT65, dl_eqRF65, dl_nb0]
        refine ih (x + 1) _ z (by omega) (fun y hy => ?_)
        by_cases e : y = x
        · rw [e, pk_us]
        · rw [pk_un e]; exact I y (by omega)
      · have e : x = cnt := by omega
        subst e
        simp (disch := omega) only [wY_chain_3, nI_clamp, dl_Ar, dl_Au, dl_leT, dl_leF, dl_ltT, dl_ltF, dl_eqT, dl_eqF, nI_add, nI_1, dl_inT, dl_sub, dl_sub1, dl_subm1, forall_eq, true_implies, false_implies, not_true, not_false_iff, true_and, and_true, dl_leLT0, dl_leLF0, dl_leRT0, dl_leRF0, dl_ltLT0, dl_ltLF0, dl_ltRT0, dl_ltRF0, dl_eqRT0, dl_eqRF0, dl_leLT1, dl_leLF1, dl_leRT1, dl_leRF1, dl_ltLT1, dl_ltLF1, dl_ltRT1, dl_ltRF1, dl_eqRT1, dl_eqRF1, dl_leLT2, dl_leLF2, dl_leRT2, dl_leRF2, dl_ltLT2, dl_ltLF2, dl_ltRT2, dl_ltRF2, dl_eqRT2, dl_eqRF2, dl_leLT3, dl_leLF3, dl_leRT3, dl_leRF3, dl_ltLT3, dl_ltLF3, dl_ltRT3, dl_ltRF3, dl_eqRT3, dl_eqRF3, dl_leLT8, dl_leLF8, dl_leRT8, dl_leRF8, dl_ltLT8, dl_ltLF8, dl_ltRT8, dl_ltRF8, dl_eqRT8, dl_eqRF8, dl_leLT9, dl_leLF9, dl_leRT9, dl_leRF9, dl_ltLT9, dl_ltLF9, dl_ltRT9, dl_ltRF9, dl_eqRT9, dl_eqRF9, dl_leLT16, dl_leLF16, dl_leRT16, dl_leRF16, dl_ltLT16, dl_ltLF16, dl_ltRT16, dl_ltRF16, dl_eqRT16, dl_eqRF16, dl_leLT64, dl_leLF64, dl_leRT64, dl_leRF64, dl_ltLT64, dl_ltLF64, dl_ltRT64, dl_ltRF64, dl_eqRT64, dl_eqRF64, dl_leLT65, dl_leLF65, dl_leRT65, dl_leRF65, dl_ltLT65, dl_ltLF65, dl_ltRT65, dl_ltRF65, dl_eqRT65, dl_eqRF65]
        exact ⟨x + 1, k29 _ 0 mk' (by omega) (by omega) (fun y hy w => absurd (I y hy) w) (Or.inr (Nat.zero_le _))⟩
  exact ⟨cnt + 1, k3 _ 0 mk (by omega) (by omega) (fun y h => by omega)⟩
end
end
section
def dl_lsum (K N : Nat → Nat) (n : Nat) : Nat := dl_s (fun c => if K c = 2 then N c else 0) n
section
variable {C L ph ol T cnt ls co dn pl dy : Nat} {kp : Int32} {K S D N A bD sq po ws ss bd F P : Nat → Nat} {bu pool bf af cm ed re old nxt dat mk : Nat → Int32}
theorem dl_ycheap (post : Int32 → Prop) (hN : ∀ i, i < cnt → N i < 2147483648) (hcnt : cnt ≤ 16) {b c : Nat} (hb : b < c) (hc : c < cnt) (H1 : N b < N c → post 1) (H0 : ¬ N b < N c → post 0) : wpY_cheaper post (nI C, nI L, nI ph, nI ol, nI T, nI cnt, nI dy, old, nxt, dl_A K, dl_A S, dl_A D, dl_A N, dat, dl_A F, dl_A P, mk) (nI b) (nI c) := by
  have h1 := hN b (by omega)
  have h2 := hN c hc
  by_cases q : N b < N c
  · simp (disch := omega) only [wpY_cheaper, nI_clamp, dl_Ar, dl_Au, dl_leT, dl_leF, dl_ltT, dl_ltF, dl_eqT, dl_eqF, nI_add, nI_1, dl_inT, dl_sub, dl_sub1, dl_subm1, forall_eq, true_implies, false_implies, not_true, not_false_iff, true_and, and_true, dl_leLT0, dl_leLF0, dl_leRT0, dl_leRF0, dl_ltLT0, dl_ltLF0, dl_ltRT0, dl_ltRF0, dl_eqRT0, dl_eqRF0, dl_leLT1, dl_leLF1, dl_leRT1, dl_leRF1, dl_ltLT1, dl_ltLF1, dl_ltRT1, dl_ltRF1, dl_eqRT1, dl_eqRF1, dl_leLT2, dl_leLF2, dl_leRT2, dl_leRF2, dl_ltLT2, dl_ltLF2, dl_ltRT2, dl_ltRF2, dl_eqRT2, dl_eqRF2, dl_leLT3, dl_leLF3, dl_leRT3, dl_leRF3, dl_ltLT3, dl_ltLF3, dl_ltRT3, dl_ltRF3, dl_eqRT3, dl_eqRF3, dl_leLT8, dl_leLF8, dl_leRT8, dl_leRF8, dl_ltLT8, dl_ltLF8, dl_ltRT8, dl_ltRF8, dl_eqRT8, dl_eqRF8, dl_leLT9, dl_leLF9, dl_leRT9, dl_leRF9, dl_ltLT9, dl_ltLF9, dl_ltRT9, dl_ltRF9, dl_eqRT9, dl_eqRF9, dl_leLT16, dl_leLF16, dl_leRT16, dl_leRF16, dl_ltLT16, dl_ltLF16, dl_ltRT16, dl_ltRF16, dl_eqRT16, dl_eqRF16, dl_leLT64, dl_leLF64, dl_leRT64, dl_leRF64, dl_ltLT64, dl_ltLF64, dl_ltRT64, dl_ltRF64, dl_eqRT64, dl_eqRF64, dl_leLT65, dl_leLF65, dl_leRT65, dl_leRF65, dl_ltLT65, dl_ltLF65, dl_ltRT65, dl_ltRF65, dl_eqRT65, dl_eqRF65]
    exact H1 q
  · by_cases e : N b = N c
    · simp (disch := omega) only [wpY_cheaper, nI_clamp, dl_Ar, dl_Au, dl_leT, dl_leF, dl_ltT, dl_ltF, dl_eqT, dl_eqF, nI_add, nI_1, dl_inT, dl_sub, dl_sub1, dl_subm1, forall_eq, true_implies, false_implies, not_true, not_false_iff, true_and, and_true, dl_leLT0, dl_leLF0, dl_leRT0, dl_leRF0, dl_ltLT0, dl_ltLF0, dl_ltRT0, dl_ltRF0, dl_eqRT0, dl_eqRF0, dl_leLT1, dl_leLF1, dl_leRT1, dl_leRF1, dl_ltLT1, dl_ltLF1, dl_ltRT1, dl_ltRF1, dl_eqRT1, dl_eqRF1, dl_leLT2, dl_leLF2, dl_leRT2, dl_leRF2, dl_ltLT2, dl_ltLF2, dl_ltRT2, dl_ltRF2, dl_eqRT2, dl_eqRF2, dl_leLT3, dl_leLF3, dl_leRT3, dl_leRF3, dl_ltLT3, dl_ltLF3, dl_ltRT3, dl_ltRF3, dl_eqRT3, dl_eqRF3, dl_leLT8, dl_leLF8, dl_leRT8, dl_leRF8, dl_ltLT8, dl_ltLF8, dl_ltRT8, dl_ltRF8, dl_eqRT8, dl_eqRF8, dl_leLT9, dl_leLF9, dl_leRT9, dl_leRF9, dl_ltLT9, dl_ltLF9, dl_ltRT9, dl_ltRF9, dl_eqRT9, dl_eqRF9, dl_leLT16, dl_leLF16, dl_leRT16, dl_leRF16, dl_ltLT16, dl_ltLF16, dl_ltRT16, dl_ltRF16, dl_eqRT16, dl_eqRF16, dl_leLT64, dl_leLF64, dl_leRT64, dl_leRF64, dl_ltLT64, dl_ltLF64, dl_ltRT64, dl_ltRF64, dl_eqRT64, dl_eqRF64, dl_leLT65, dl_leLF65, dl_leRT65, dl_leRF65, dl_ltLT65, dl_ltLF65, dl_ltRT65, dl_ltRF65, dl_eqRT65, dl_eqRF65]
      exact H0 q
    · simp (disch := omega) only [wpY_cheaper, nI_clamp, dl_Ar, dl_Au, dl_leT, dl_leF, dl_ltT, dl_ltF, dl_eqT, dl_eqF, nI_add, nI_1, dl_inT, dl_sub, dl_sub1, dl_subm1, forall_eq, true_implies, false_implies, not_true, not_false_iff, true_and, and_true, dl_leLT0, dl_leLF0, dl_leRT0, dl_leRF0, dl_ltLT0, dl_ltLF0, dl_ltRT0, dl_ltRF0, dl_eqRT0, dl_eqRF0, dl_leLT1, dl_leLF1, dl_leRT1, dl_leRF1, dl_ltLT1, dl_ltLF1, dl_ltRT1, dl_ltRF1, dl_eqRT1, dl_eqRF1, dl_leLT2, dl_leLF2, dl_leRT2, dl_leRF2, dl_ltLT2, dl_ltLF2, dl_ltRT2, dl_ltRF2, dl_eqRT2, dl_eqRF2, dl_leLT3, dl_leLF3, dl_leRT3, dl_leRF3, dl_ltLT3, dl_ltLF3, dl_ltRT3, dl_ltRF3, dl_eqRT3, dl_eqRF3, dl_leLT8, dl_leLF8, dl_leRT8, dl_leRF8, dl_ltLT8, dl_ltLF8, dl_ltRT8, dl_ltRF8, dl_eqRT8, dl_eqRF8, dl_leLT9, dl_leLF9, dl_leRT9, dl_leRF9, dl_ltLT9, dl_ltLF9, dl_ltRT9, dl_ltRF9, dl_eqRT9, dl_eqRF9, dl_leLT16, dl_leLF16, dl_leRT16, dl_leRF16, dl_ltLT16, dl_ltLF16, dl_ltRT16, dl_ltRF16, dl_eqRT16, dl_eqRF16, dl_leLT64, dl_leLF64, dl_leRT64, dl_leRF64, dl_ltLT64, dl_ltLF64, dl_ltRT64, dl_ltRF64, dl_eqRT64, dl_eqRF64, dl_leLT65, dl_leLF65, dl_leRT65, dl_leRF65, dl_ltLT65, dl_ltLF65, dl_ltRT65, dl_ltRF65, dl_eqRT65, dl_eqRF65]
      exact H0 q
theorem dl_yd51 (post : SY → Prop) (J : Int32 → Int32 → Int32 → Int32 → Int32 → Int32 → Int32 → Int32 → (Nat → Int32) → (Nat → Int32) → (Nat → Int32) → (Nat → Int32) → (Nat → Int32) → (Nat → Int32) → (Nat → Int32) → (Nat → Int32) → (Nat → Int32) → (Nat → Int32) → Prop) (B : dl_Bs C L ol T cnt K S D N) (hF : ∀ c, c < cnt → F c < 2147483648) {r : Nat}
    (Hn : (∀ d, d < cnt → ¬ F d = 0) → J (nI (r + 1)) (nI C) (nI L) (nI ph) (nI ol) (nI T) (nI cnt) (nI dy) old nxt (dl_A K) (dl_A S) (dl_A D) (dl_A N) dat (dl_A F) (dl_A P) mk)
    (Hc : ∀ b, b < cnt → F b = 0 → (∀ d, d < cnt → F d = 0 → d = b ∨ dl_G N b d) → dl_Cl (dl_R cnt K S D N) (fun y => F y = 1) b b → ∀ mk', J (nI (r + 1)) (nI C) (nI L) (nI ph) (nI ol) (nI T) (nI cnt) (nI dy) old nxt (dl_A K) (dl_A S) (dl_A D) (dl_A N) dat (dl_A (dl_u F b 3)) (dl_A P) mk')
    (Ho : ∀ b, b < cnt → F b = 0 → (∀ d, d < cnt → F d = 0 → d = b ∨ dl_G N b d) → ¬ dl_Cl (dl_R cnt K S D N) (fun y => F y = 1) b b → ∀ mk', J (nI (r + 1)) (nI C) (nI L) (nI ph) (nI ol) (nI T) (nI cnt) (nI dy) old nxt (dl_A K) (dl_A S) (dl_A D) (dl_A N) dat (dl_A (dl_u F b 1)) (dl_A P) mk') :
    ∀ f c v, c ≤ cnt → cnt - c < f → ((v = -1 ∧ ∀ d, d < c → ¬ F d = 0) ∨ (∃ b, b < c ∧ v = nI b ∧ F b = 0 ∧ ∀ d, d < c → F d = 0 → d = b ∨ dl_G N b d)) → wY_decide_51 post J (nI r) (nI C) (nI L) (nI ph) (nI ol) (nI T) (nI cnt) (nI dy) old nxt (dl_A K) (dl_A S) (dl_A D) (dl_A N) dat (dl_A F) (dl_A P) mk f v (nI c) := by
  intro f
  have B' := B
  obtain ⟨b1, b2, b3, b4, b5, b6, b7, b8⟩ := B'
  have hN : ∀ i, i < cnt → N i < 2147483648 := fun i hi => by have := (b8 i hi).2.1; omega
  have m1 : ((-1 : Int32) < 0) = True := by decide
  induction f with
  | zero => intro c v _ h; omega
  | succ f ih =>
    intro c v h1 h2 I
    rcases Nat.lt_or_ge c cnt with z | z
    · have hf := hF c z
      have hn := hN c z
      by_cases f0 : F c = 0
      · rcases I with ⟨e, I⟩ | ⟨b, hb, e, fb, I⟩
        · subst e
          simp (disch := omega) only [wY_decide_51, nI_clamp, dl_Ar, dl_Au, dl_leT, dl_leF, dl_ltT, dl_ltF, dl_eqT, dl_eqF, nI_add, nI_1, dl_inT, dl_sub, dl_sub1, dl_subm1, forall_eq, true_implies, false_implies, not_true, not_false_iff, true_and, and_true, dl_leLT0, dl_leLF0, dl_leRT0, dl_leRF0, dl_ltLT0, dl_ltLF0, dl_ltRT0, dl_ltRF0, dl_eqRT0, dl_eqRF0, dl_leLT1, dl_leLF1, dl_leRT1, dl_leRF1, dl_ltLT1, dl_ltLF1, dl_ltRT1, dl_ltRF1, dl_eqRT1, dl_eqRF1, dl_leLT2, dl_leLF2, dl_leRT2, dl_leRF2, dl_ltLT2, dl_ltLF2, dl_ltRT2, dl_ltRF2, dl_eqRT2, dl_eqRF2, dl_leLT3, dl_leLF3, dl_leRT3, dl_leRF3, dl_ltLT3, dl_ltLF3, dl_ltRT3, dl_ltRF3, dl_eqRT3, dl_eqRF3, dl_leLT8, dl_leLF8, dl_leRT8, dl_leRF8, dl_ltLT8, dl_ltLF8, dl_ltRT8, dl_ltRF8, dl_eqRT8, dl_eqRF8, dl_leLT9, dl_leLF9, dl_leRT9, dl_leRF9, dl_ltLT9, dl_ltLF9, dl_ltRT9, dl_ltRF9, dl_eqRT9, dl_eqRF9, dl_leLT16, dl_leLF16, dl_leRT16, dl_leRF16, dl_ltLT16, dl_ltLF16, dl_ltRT16, dl_ltRF16, dl_eqRT16, dl_eqRF16, dl_leLT64, dl_leLF64, dl_leRT64, dl_leRF64, dl_ltLT64, dl_ltLF64, dl_ltRT64, dl_ltRF64, dl_eqRT64, dl_eqRF64, dl_leLT65, dl_leLF65, dl_leRT65, dl_leRF65, dl_ltLT65, dl_ltLF65, dl_ltRT65, dl_ltRF65, dl_eqRT65, dl_eqRF65, m1]
          refine ih (c + 1) _ z (by omega) (Or.inr ⟨c, by omega, rfl, f0, fun d hd fd => ?_⟩)
          by_cases e : d = c
          · exact Or.inl e
          · exact absurd fd (I d (by omega))
        · subst e
          have hnb := hN b (by omega)
          simp (disch := omega) only [wY_decide_51, nI_clamp, dl_Ar, dl_Au, dl_leT, dl_leF, dl_ltT, dl_ltF, dl_eqT, dl_eqF, nI_add, nI_1, dl_inT, dl_sub, dl_sub1, dl_subm1, forall_eq, true_implies, false_implies, not_true, not_false_iff, true_and, and_true, dl_leLT0, dl_leLF0, dl_leRT0, dl_leRF0, dl_ltLT0, dl_ltLF0, dl_ltRT0, dl_ltRF0, dl_eqRT0, dl_eqRF0, dl_leLT1, dl_leLF1, dl_leRT1, dl_leRF1, dl_ltLT1, dl_ltLF1, dl_ltRT1, dl_ltRF1, dl_eqRT1, dl_eqRF1, dl_leLT2, dl_leLF2, dl_leRT2, dl_leRF2, dl_ltLT2, dl_ltLF2, dl_ltRT2, dl_ltRF2, dl_eqRT2, dl_eqRF2, dl_leLT3, dl_leLF3, dl_leRT3, dl_leRF3, dl_ltLT3, dl_ltLF3, dl_ltRT3, dl_ltRF3, dl_eqRT3, dl_eqRF3, dl_leLT8, dl_leLF8, dl_leRT8, dl_leRF8, dl_ltLT8, dl_ltLF8, dl_ltRT8, dl_ltRF8, dl_eqRT8, dl_eqRF8, dl_leLT9, dl_leLF9, dl_leRT9, dl_leRF9, dl_ltLT9, dl_ltLF9, dl_ltRT9, dl_ltRF9, dl_eqRT9, dl_eqRF9, dl_leLT16, dl_leLF16, dl_leRT16, dl_leRF16, dl_ltLT16, dl_ltLF16, dl_ltRT16, dl_ltRF16, dl_eqRT16, dl_eqRF16, dl_leLT64, dl_leLF64, dl_leRT64, dl_leRF64, dl_ltLT64, dl_ltLF64, dl_ltRT64, dl_ltRF64, dl_eqRT64, dl_eqRF64, dl_leLT65, dl_leLF65, dl_leRT65, dl_leRF65, dl_ltLT65, dl_ltLF65, dl_ltRT65, dl_ltRF65, dl_eqRT65, dl_eqRF65]
          refine dl_ycheap _ hN (by omega) hb z (fun q => br_f (by decide) ?_) (fun q => br_t rfl ?_)
          · try simp (disch := omega) only [nI_clamp, dl_Ar, dl_Au, dl_leT, dl_leF, dl_ltT, dl_ltF, dl_eqT, dl_eqF, nI_add, nI_1, dl_inT, dl_sub, dl_sub1, dl_subm1, forall_eq, true_implies, false_implies, not_true, not_false_iff, true_and, and_true, dl_leLT0, dl_leLF0, dl_leRT0, dl_leRF0, dl_ltLT0, dl_ltLF0, dl_ltRT0, dl_ltRF0, dl_eqRT0, dl_eqRF0, dl_leLT1, dl_leLF1, dl_leRT1, dl_leRF1, dl_ltLT1, dl_ltLF1, dl_ltRT1, dl_ltRF1, dl_eqRT1, dl_eqRF1, dl_leLT2, dl_leLF2, dl_leRT2, dl_leRF2, dl_ltLT2, dl_ltLF2, dl_ltRT2, dl_ltRF2, dl_eqRT2, dl_eqRF2, dl_leLT3, dl_leLF3, dl_leRT3, dl_leRF3, dl_ltLT3, dl_ltLF3, dl_ltRT3, dl_ltRF3, dl_eqRT3, dl_eqRF3, dl_leLT8, dl_leLF8, dl_leRT8, dl_leRF8, dl_ltLT8, dl_ltLF8, dl_ltRT8, dl_ltRF8, dl_eqRT8, dl_eqRF8, dl_leLT9, dl_leLF9, dl_leRT9, dl_leRF9, dl_ltLT9, dl_ltLF9, dl_ltRT9, dl_ltRF9, dl_eqRT9, dl_eqRF9, dl_leLT16, dl_leLF16, dl_leRT16, dl_leRF16, dl_ltLT16, dl_ltLF16, dl_ltRT16, dl_ltRF16, dl_eqRT16, dl_eqRF16, dl_leLT64, dl_leLF64, dl_leRT64, dl_leRF64, dl_ltLT64, dl_ltLF64, dl_ltRT64, dl_ltRF64, dl_eqRT64, dl_eqRF64, dl_leLT65, dl_leLF65, dl_leRT65, dl_leRF65, dl_ltLT65, dl_ltLF65, dl_ltRT65, dl_ltRF65, dl_eqRT65, dl_eqRF65]
            refine ih (c + 1) _ z (by omega) (Or.inr ⟨c, by omega, rfl, f0, fun d hd fd => ?_⟩)
            by_cases e : d = c
            · exact Or.inl e
            · refine Or.inr ?_
              rcases I d (by omega) fd with w | w
              · rw [w]; exact Or.inl q
              · unfold dl_G at w ⊢; omega
          · try simp (disch := omega) only [nI_clamp, dl_Ar, dl_Au, dl_leT, dl_leF, dl_ltT, dl_ltF, dl_eqT, dl_eqF, nI_add, nI_1, dl_inT, dl_sub, dl_sub1, dl_subm1, forall_eq, true_implies, false_implies, not_true, not_false_iff, true_and, and_true, dl_leLT0, dl_leLF0, dl_leRT0, dl_leRF0, dl_ltLT0, dl_ltLF0, dl_ltRT0, dl_ltRF0, dl_eqRT0, dl_eqRF0, dl_leLT1, dl_leLF1, dl_leRT1, dl_leRF1, dl_ltLT1, dl_ltLF1, dl_ltRT1, dl_ltRF1, dl_eqRT1, dl_eqRF1, dl_leLT2, dl_leLF2, dl_leRT2, dl_leRF2, dl_ltLT2, dl_ltLF2, dl_ltRT2, dl_ltRF2, dl_eqRT2, dl_eqRF2, dl_leLT3, dl_leLF3, dl_leRT3, dl_leRF3, dl_ltLT3, dl_ltLF3, dl_ltRT3, dl_ltRF3, dl_eqRT3, dl_eqRF3, dl_leLT8, dl_leLF8, dl_leRT8, dl_leRF8, dl_ltLT8, dl_ltLF8, dl_ltRT8, dl_ltRF8, dl_eqRT8, dl_eqRF8, dl_leLT9, dl_leLF9, dl_leRT9, dl_leRF9, dl_ltLT9, dl_ltLF9, dl_ltRT9, dl_ltRF9, dl_eqRT9, dl_eqRF9, dl_leLT16, dl_leLF16, dl_leRT16, dl_leRF16, dl_ltLT16, dl_ltLF16, dl_ltRT16, dl_ltRF16, dl_eqRT16, dl_eqRF16, dl_leLT64, dl_leLF64, dl_leRT64, dl_leRF64, dl_ltLT64, dl_ltLF64, dl_ltRT64, dl_ltRF64, dl_eqRT64, dl_eqRF64, dl_leLT65, dl_leLF65, dl_leRT65, dl_leRF65, dl_ltLT65, dl_ltLF65, dl_ltRT65, dl_ltRF65, dl_eqRT65, dl_eqRF65]
            refine ih (c + 1) _ z (by omega) (Or.inr ⟨b, by omega, rfl, fb, fun d hd fd => ?_⟩)
            by_cases e : d = c
            · refine Or.inr ?_
              rw [e]; unfold dl_G; omega
            · exact I d (by omega) fd
      · simp (disch := omega) only [wY_decide_51, nI_clamp, dl_Ar, dl_Au, dl_leT, dl_leF, dl_ltT, dl_ltF, dl_eqT, dl_eqF, nI_add, nI_1, dl_inT, dl_sub, dl_sub1, dl_subm1, forall_eq, true_implies, false_implies, not_true, not_false_iff, true_and, and_true, dl_leLT0, dl_leLF0, dl_leRT0, dl_leRF0, dl_ltLT0, dl_ltLF0, dl_ltRT0, dl_ltRF0, dl_eqRT0, dl_eqRF0, dl_leLT1, dl_leLF1, dl_leRT1, dl_leRF1, dl_ltLT1, dl_ltLF1, dl_ltRT1, dl_ltRF1, dl_eqRT1, dl_eqRF1, dl_leLT2, dl_leLF2, dl_leRT2, dl_leRF2, dl_ltLT2, dl_ltLF2, dl_ltRT2, dl_ltRF2, dl_eqRT2, dl_eqRF2, dl_leLT3, dl_leLF3, dl_leRT3, dl_leRF3, dl_ltLT3, dl_ltLF3, dl_ltRT3, dl_ltRF3, dl_eqRT3, dl_eqRF3, dl_leLT8, dl_leLF8, dl_leRT8, dl_leRF8, dl_ltLT8, dl_ltLF8, dl_ltRT8, dl_ltRF8, dl_eqRT8, dl_eqRF8, dl_leLT9, dl_leLF9, dl_leRT9, dl_leRF9, dl_ltLT9, dl_ltLF9, dl_ltRT9, dl_ltRF9, dl_eqRT9, dl_eqRF9, dl_leLT16, dl_leLF16, dl_leRT16, dl_leRF16, dl_ltLT16, dl_ltLF16, dl_ltRT16, dl_ltRF16, dl_eqRT16, dl_eqRF16, dl_leLT64, dl_leLF64, dl_leRT64, dl_leRF64, dl_ltLT64, dl_ltLF64, dl_ltRT64, dl_ltRF64, dl_eqRT64, dl_eqRF64, dl_leLT65, dl_leLF65, dl_leRT65, dl_leRF65, dl_ltLT65, dl_ltLF65, dl_ltRT65, dl_ltRF65, dl_eqRT65, dl_eqRF65]
        refine ih (c + 1) _ z (by omega) ?_
        rcases I with ⟨e, I⟩ | ⟨b, hb, e, fb, I⟩
        · refine Or.inl ⟨e, fun d hd => ?_⟩
          by_cases w : d = c
          · rw [w]; exact f0
          · exact I d (by omega)
        · refine Or.inr ⟨b, by omega, e, fb, fun d hd fd => ?_⟩
          by_cases w : d = c
          · rw [w] at fd; exact absurd fd f0
          · exact I d (by omega) fd
    · have e : c = cnt := by omega
      subst e
      rcases I with ⟨e, I⟩ | ⟨b, hb, e, fb, I⟩
      · subst e
        simp (disch := omega) only [wY_decide_51, nI_clamp, dl_Ar, dl_Au, dl_leT, dl_leF, dl_ltT, dl_ltF, dl_eqT, dl_eqF, nI_add, nI_1, dl_inT, dl_sub, dl_sub1, dl_subm1, forall_eq, true_implies, false_implies, not_true, not_false_iff, true_and, and_true, dl_leLT0, dl_leLF0, dl_leRT0, dl_leRF0, dl_ltLT0, dl_ltLF0, dl_ltRT0, dl_ltRF0, dl_eqRT0, dl_eqRF0, dl_leLT1, dl_leLF1, dl_leRT1, dl_leRF1, dl_ltLT1, dl_ltLF1, dl_ltRT1, dl_ltRF1, dl_eqRT1, dl_eqRF1, dl_leLT2, dl_leLF2, dl_leRT2, dl_leRF2, dl_ltLT2, dl_ltLF2, dl_ltRT2, dl_ltRF2, dl_eqRT2, dl_eqRF2, dl_leLT3, dl_leLF3, dl_leRT3, dl_leRF3, dl_ltLT3, dl_ltLF3, dl_ltRT3, dl_ltRF3, dl_eqRT3, dl_eqRF3, dl_leLT8, dl_leLF8, dl_leRT8, dl_leRF8, dl_ltLT8, dl_ltLF8, dl_ltRT8, dl_ltRF8, dl_eqRT8, dl_eqRF8, dl_leLT9, dl_leLF9, dl_leRT9, dl_leRF9, dl_ltLT9, dl_ltLF9, dl_ltRT9, dl_ltRF9, dl_eqRT9, dl_eqRF9, dl_leLT16, dl_leLF16, dl_leRT16, dl_leRF16, dl_ltLT16, dl_ltLF16, dl_ltRT16, dl_ltRF16, dl_eqRT16, dl_eqRF16, dl_leLT64, dl_leLF64, dl_leRT64, dl_leRF64, dl_ltLT64, dl_ltLF64, dl_ltRT64, dl_ltRF64, dl_eqRT64, dl_eqRF64, dl_leLT65, dl_leLF65, dl_leRT65, dl_leRF65, dl_ltLT65, dl_ltLF65, dl_ltRT65, dl_ltRF65, dl_eqRT65, dl_eqRF65, m1]
        exact Hn I
      · subst e
        simp (disch := omega) only [wY_decide_51, nI_clamp, dl_Ar, dl_Au, dl_leT, dl_leF, dl_ltT, dl_ltF, dl_eqT, dl_eqF, nI_add, nI_1, dl_inT, dl_sub, dl_sub1, dl_subm1, forall_eq, true_implies, false_implies, not_true, not_false_iff, true_and, and_true, dl_leLT0, dl_leLF0, dl_leRT0, dl_leRF0, dl_ltLT0, dl_ltLF0, dl_ltRT0, dl_ltRF0, dl_eqRT0, dl_eqRF0, dl_leLT1, dl_leLF1, dl_leRT1, dl_leRF1, dl_ltLT1, dl_ltLF1, dl_ltRT1, dl_ltRF1, dl_eqRT1, dl_eqRF1, dl_leLT2, dl_leLF2, dl_leRT2, dl_leRF2, dl_ltLT2, dl_ltLF2, dl_ltRT2, dl_ltRF2, dl_eqRT2, dl_eqRF2, dl_leLT3, dl_leLF3, dl_leRT3, dl_leRF3, dl_ltLT3, dl_ltLF3, dl_ltRT3, dl_ltRF3, dl_eqRT3, dl_eqRF3, dl_leLT8, dl_leLF8, dl_leRT8, dl_leRF8, dl_ltLT8, dl_ltLF8, dl_ltRT8, dl_ltRF8, dl_eqRT8, dl_eqRF8, dl_leLT9, dl_leLF9, dl_leRT9, dl_leRF9, dl_ltLT9, dl_ltLF9, dl_ltRT9, dl_ltRF9, dl_eqRT9, dl_eqRF9, dl_leLT16, dl_leLF16, dl_leRT16, dl_leRF16, dl_ltLT16, dl_ltLF16, dl_ltRT16, dl_ltRF16, dl_eqRT16, dl_eqRF16, dl_leLT64, dl_leLF64, dl_leRT64, dl_leRF64, dl_ltLT64, dl_ltLF64, dl_ltRT64, dl_ltRF64, dl_eqRT64, dl_eqRF64, dl_leLT65, dl_leLF65, dl_leRT65, dl_leRF65, dl_ltLT65, dl_ltLF65, dl_ltRT65, dl_ltRF65, dl_eqRT65, dl_eqRF65]
        have qe : (fun y => 1 = 0 ∨ F y = 1) = (fun y => F y = 1) := by
          funext y
          exact propext ⟨fun w => w.elim (fun q => absurd q (by decide)) id, Or.inr⟩
        refine dl_ych (ko := 1) _ B hb hb (by omega) hF (fun q mk' => ?_) (fun q mk' => ?_)
        · rw [qe] at q
          try simp (disch := omega) only [nI_clamp, dl_Ar, dl_Au, dl_leT, dl_leF, dl_ltT, dl_ltF, dl_eqT, dl_eqF, nI_add, nI_1, dl_inT, dl_sub, dl_sub1, dl_subm1, forall_eq, true_implies, false_implies, not_true, not_false_iff, true_and, and_true, dl_leLT0, dl_leLF0, dl_leRT0, dl_leRF0, dl_ltLT0, dl_ltLF0, dl_ltRT0, dl_ltRF0, dl_eqRT0, dl_eqRF0, dl_leLT1, dl_leLF1, dl_leRT1, dl_leRF1, dl_ltLT1, dl_ltLF1, dl_ltRT1, dl_ltRF1, dl_eqRT1, dl_eqRF1, dl_leLT2, dl_leLF2, dl_leRT2, dl_leRF2, dl_ltLT2, dl_ltLF2, dl_ltRT2, dl_ltRF2, dl_eqRT2, dl_eqRF2, dl_leLT3, dl_leLF3, dl_leRT3, dl_leRF3, dl_ltLT3, dl_ltLF3, dl_ltRT3, dl_ltRF3, dl_eqRT3, dl_eqRF3, dl_leLT8, dl_leLF8, dl_leRT8, dl_leRF8, dl_ltLT8, dl_ltLF8, dl_ltRT8, dl_ltRF8, dl_eqRT8, dl_eqRF8, dl_leLT9, dl_leLF9, dl_leRT9, dl_leRF9, dl_ltLT9, dl_ltLF9, dl_ltRT9, dl_ltRF9, dl_eqRT9, dl_eqRF9, dl_leLT16, dl_leLF16, dl_leRT16, dl_leRF16, dl_ltLT16, dl_ltLF16, dl_ltRT16, dl_ltRF16, dl_eqRT16, dl_eqRF16, dl_leLT64, dl_leLF64, dl_leRT64, dl_leRF64, dl_ltLT64, dl_ltLF64, dl_ltRT64, dl_ltRF64, dl_eqRT64, dl_eqRF64, dl_leLT65, dl_leLF65, dl_leRT65, dl_leRF65, dl_ltLT65, dl_ltLF65, dl_ltRT65, dl_ltRF65, dl_eqRT65, dl_eqRF65]
          refine br_f (by decide) ?_
          have := Hc b hb fb I q mk'
          rw [← dl_Au] at this
          exact this
        · rw [qe] at q
          try simp (disch := omega) only [nI_clamp, dl_Ar, dl_Au, dl_leT, dl_leF, dl_ltT, dl_ltF, dl_eqT, dl_eqF, nI_add, nI_1, dl_inT, dl_sub, dl_sub1, dl_subm1, forall_eq, true_implies, false_implies, not_true, not_false_iff, true_and, and_true, dl_leLT0, dl_leLF0, dl_leRT0, dl_leRF0, dl_ltLT0, dl_ltLF0, dl_ltRT0, dl_ltRF0, dl_eqRT0, dl_eqRF0, dl_leLT1, dl_leLF1, dl_leRT1, dl_leRF1, dl_ltLT1, dl_ltLF1, dl_ltRT1, dl_ltRF1, dl_eqRT1, dl_eqRF1, dl_leLT2, dl_leLF2, dl_leRT2, dl_leRF2, dl_ltLT2, dl_ltLF2, dl_ltRT2, dl_ltRF2, dl_eqRT2, dl_eqRF2, dl_leLT3, dl_leLF3, dl_leRT3, dl_leRF3, dl_ltLT3, dl_ltLF3, dl_ltRT3, dl_ltRF3, dl_eqRT3, dl_eqRF3, dl_leLT8, dl_leLF8, dl_leRT8, dl_leRF8, dl_ltLT8, dl_ltLF8, dl_ltRT8, dl_ltRF8, dl_eqRT8, dl_eqRF8, dl_leLT9, dl_leLF9, dl_leRT9, dl_leRF9, dl_ltLT9, dl_ltLF9, dl_ltRT9, dl_ltRF9, dl_eqRT9, dl_eqRF9, dl_leLT16, dl_leLF16, dl_leRT16, dl_leRF16, dl_ltLT16, dl_ltLF16, dl_ltRT16, dl_ltRF16, dl_eqRT16, dl_eqRF16, dl_leLT64, dl_leLF64, dl_leRT64, dl_leRF64, dl_ltLT64, dl_ltLF64, dl_ltRT64, dl_ltRF64, dl_eqRT64, dl_eqRF64, dl_leLT65, dl_leLF65, dl_leRT65, dl_leRF65, dl_ltLT65, dl_ltLF65, dl_ltRT65, dl_ltRF65, dl_eqRT65, dl_eqRF65]
          have := Ho b hb fb I q mk'
          rw [← dl_Au] at this
          exact this
theorem dl_ydec (post : SY → Prop) (B : dl_Bs C L ol T cnt K S D N) {β : Nat → Nat} {m : Nat} (hm : m ≤ cnt) (Sb : dl_Sb cnt K N β m) {F0 : Nat → Nat} (hF0 : F0 = fun c => if c < cnt then (if K c = 2 then 2 else 0) else F c)
    (H : ∀ mk', post (nI C, nI L, nI ph, nI ol, nI T, nI cnt, nI dy, old, nxt, dl_A K, dl_A S, dl_A D, dl_A N, dat, dl_A (dl_dec (dl_R cnt K S D N) β F0 m), dl_A P, mk')) : wpY_decide post (nI C, nI L, nI ph, nI ol, nI T, nI cnt, nI dy, old, nxt, dl_A K, dl_A S, dl_A D, dl_A N, dat, dl_A F, dl_A P, mk) := by
  have B' := B
  obtain ⟨b1, b2, b3, b4, b5, b6, b7, b8⟩ := B'
  have hK : ∀ c, c < cnt → K c = 1 ∨ K c = 2 := fun c hc => by have := (b8 c hc).2.2; omega
  have hβ : ∀ s, s < m → β s < cnt ∧ K (β s) = 1 := fun s hs => Sb.2.1 s hs
  have hi : ∀ s s', s < m → s' < m → β s = β s' → s = s' := fun s s' a b e => dl_srt_inj Sb (fun a w => by unfold dl_G at w; omega) a b e
  have hF1 : ∀ c, c < cnt → F0 c = if K c = 2 then 2 else 0 := fun c hc => by rw [hF0]; exact if_pos hc
  have Dk := dl_Dk_d (S := S) (D := D) (N := N) hK hF1 hβ hi
  have val : ∀ r c, r ≤ m → c < cnt → (K c = 2 ∧ dl_dec (dl_R cnt K S D N) β F0 r c = 2) ∨ (∃ s, s < m ∧ β s = c ∧ ((s < r ∧ (dl_dec (dl_R cnt K S D N) β F0 r c = 1 ∨ dl_dec (dl_R cnt K S D N) β F0 r c = 3)) ∨ (r ≤ s ∧ dl_dec (dl_R cnt K S D N) β F0 r c = 0))) := fun r c hr hc => by
    obtain ⟨d1, d2, d3, d4⟩ := Dk r hr
    rcases hK c hc with k | k
    · obtain ⟨s, s1, s2⟩ := Sb.2.2 c ⟨hc, k⟩
      refine Or.inr ⟨s, s1, s2, ?_⟩
      rcases Nat.lt_or_ge s r with w | w
      · have := d2 s w; rw [s2] at this; exact Or.inl ⟨w, this⟩
      · have := d3 s w s1; rw [s2] at this; exact Or.inr ⟨w, this⟩
    · exact Or.inl ⟨k, d1 c hc k⟩
  have bnd : ∀ r, r ≤ m → ∀ c, c < cnt → dl_dec (dl_R cnt K S D N) β F0 r c < 2147483648 := fun r hr c hc => by
    rcases val r c hr hc with w | ⟨s, _, _, w | w⟩ <;> omega
  have tail : ∀ f r mk', m ≤ r → r ≤ cnt → cnt - r < f → wY_decide_39 post f (nI r) (nI C) (nI L) (nI ph) (nI ol) (nI T) (nI cnt) (nI dy) old nxt (dl_A K) (dl_A S) (dl_A D) (dl_A N) dat (dl_A (dl_dec (dl_R cnt K S D N) β F0 m)) (dl_A P) mk' := by
    intro f
    induction f with
    | zero => intro r mk' _ _ h; omega
    | succ f ih =>
      intro r mk' hr h1 h2
      rcases Nat.lt_or_ge r cnt with z | z
      · simp (disch := omega) only [wY_decide_39, nI_clamp, dl_Ar, dl_Au, dl_leT, dl_leF, dl_ltT, dl_ltF, dl_eqT, dl_eqF, nI_add, nI_1, dl_inT, dl_sub, dl_sub1, dl_subm1, forall_eq, true_implies, false_implies, not_true, not_false_iff, true_and, and_true, dl_leLT0, dl_leLF0, dl_leRT0, dl_leRF0, dl_ltLT0, dl_ltLF0, dl_ltRT0, dl_ltRF0, dl_eqRT0, dl_eqRF0, dl_leLT1, dl_leLF1, dl_leRT1, dl_leRF1, dl_ltLT1, dl_ltLF1, dl_ltRT1, dl_ltRF1, dl_eqRT1, dl_eqRF1, dl_leLT2, dl_leLF2, dl_leRT2, dl_leRF2, dl_ltLT2, dl_ltLF2, dl_ltRT2, dl_ltRF2, dl_eqRT2, dl_eqRF2, dl_leLT3, dl_leLF3, dl_leRT3, dl_leRF3, dl_ltLT3, dl_ltLF3, dl_ltRT3, dl_ltRF3, dl_eqRT3, dl_eqRF3, dl_leLT8, dl_leLF8, dl_leRT8, dl_leRF8, dl_ltLT8, dl_ltLF8, dl_ltRT8, dl_ltRF8, dl_eqRT8, dl_eqRF8, dl_leLT9, dl_leLF9, dl_leRT9, dl_leRF9, dl_ltLT9, dl_ltLF9, dl_ltRT9, dl_ltRF9, dl_eqRT9, dl_eqRF9, dl_leLT16, dl_leLF16, dl_leRT16, dl_leRF16, dl_ltLT16, dl_ltLF16, dl_ltRT16, dl_ltRF16, dl_eqRT16, dl_eqRF16, dl_leLT64, dl_leLF64, dl_leRT64, dl_leRF64, dl_ltLT64, dl_ltLF64, dl_ltRT64, dl_ltRF64, dl_eqRT64, dl_eqRF64, dl_leLT65, dl_leLF65, dl_leRT65, dl_leRF65, dl_ltLT65, dl_ltLF65, dl_ltRT65, dl_ltRF65, dl_eqRT65, dl_eqRF65]
        have nz : ∀ d, d < cnt → ¬ dl_dec (dl_R cnt K S D N) β F0 m d = 0 := fun d hd => by
          rcases val m d (Nat.le_refl _) hd with w | ⟨s, _, _, w | w⟩ <;> omega
        exact ⟨cnt + 1, dl_yd51 (F := dl_dec (dl_R cnt K S D N) β F0 m) post _ B (bnd m (Nat.le_refl _)) (fun _ => ih (r + 1) mk' (by omega) z (by omega)) (fun b hb fb => absurd fb (nz b hb)) (fun b hb fb => absurd fb (nz b hb)) _ 0 (-1) (by omega) (by omega) (Or.inl ⟨rfl, fun d h => by omega⟩)⟩
      · have e : r = cnt := by omega
        subst e
        simp (disch := omega) only [wY_decide_39, nI_clamp, dl_Ar, dl_Au, dl_leT, dl_leF, dl_ltT, dl_ltF, dl_eqT, dl_eqF, nI_add, nI_1, dl_inT, dl_sub, dl_sub1, dl_subm1, forall_eq, true_implies, false_implies, not_true, not_false_iff, true_and, and_true, dl_leLT0, dl_leLF0, dl_leRT0, dl_leRF0, dl_ltLT0, dl_ltLF0, dl_ltRT0, dl_ltRF0, dl_eqRT0, dl_eqRF0, dl_leLT1, dl_leLF1, dl_leRT1, dl_leRF1, dl_ltLT1, dl_ltLF1, dl_ltRT1, dl_ltRF1, dl_eqRT1, dl_eqRF1, dl_leLT2, dl_leLF2, dl_leRT2, dl_leRF2, dl_ltLT2, dl_ltLF2, dl_ltRT2, dl_ltRF2, dl_eqRT2, dl_eqRF2, dl_leLT3, dl_leLF3, dl_leRT3, dl_leRF3, dl_ltLT3, dl_ltLF3, dl_ltRT3, dl_ltRF3, dl_eqRT3, dl_eqRF3, dl_leLT8, dl_leLF8, dl_leRT8, dl_leRF8, dl_ltLT8, dl_ltLF8, dl_ltRT8, dl_ltRF8, dl_eqRT8, dl_eqRF8, dl_leLT9, dl_leLF9, dl_leRT9, dl_leRF9, dl_ltLT9, dl_ltLF9, dl_ltRT9, dl_ltRF9, dl_eqRT9, dl_eqRF9, dl_leLT16, dl_leLF16, dl_leRT16, dl_leRF16, dl_ltLT16, dl_ltLF16, dl_ltRT16, dl_ltRF16, dl_eqRT16, dl_eqRF16, dl_leLT64, dl_leLF64, dl_leRT64, dl_leRF64, dl_ltLT64, dl_ltLF64, dl_ltRT64, dl_ltRF64, dl_eqRT64, dl_eqRF64, dl_leLT65, dl_leLF65, dl_leRT65, dl_leRF65, dl_ltLT65, dl_ltLF65, dl_ltRT65, dl_ltRF65, dl_eqRT65, dl_eqRF65]
        exact H mk'
  have k39 : ∀ f r mk', r ≤ m → cnt - r < f → wY_decide_39 post f (nI r) (nI C) (nI L) (nI ph) (nI ol) (nI T) (nI cnt) (nI dy) old nxt (dl_A K) (dl_A S) (dl_A D) (dl_A N) dat (dl_A (dl_dec (dl_R cnt K S D N) β F0 r)) (dl_A P) mk' := by
    intro f
    induction f with
    | zero => intro r mk' _ h; omega
    | succ f ih =>
      intro r mk' hr h2
      rcases Nat.lt_or_ge r m with z | z
      · have best : ∀ b, b < cnt → dl_dec (dl_R cnt K S D N) β F0 r b = 0 → (∀ d, d < cnt → dl_dec (dl_R cnt K S D N) β F0 r d = 0 → d = b ∨ dl_G N b d) → b = β r := fun b hb fb mx => by
          have f0 := (Dk r hr).2.2.1 r (Nat.le_refl _) z
          rcases mx (β r) (hβ r z).1 f0 with w | w
          · exact w.symm
          · rcases val r b hr hb with v | ⟨s, s1, s2, v | v⟩
            · omega
            · omega
            · by_cases e : s = r
              · rw [← s2, e]
              · have g := Sb.1 r s (by omega) s1
                rw [s2] at g
                unfold dl_G at g w; omega
        simp (disch := omega) only [wY_decide_39, nI_clamp, dl_Ar, dl_Au, dl_leT, dl_leF, dl_ltT, dl_ltF, dl_eqT, dl_eqF, nI_add, nI_1, dl_inT, dl_sub, dl_sub1, dl_subm1, forall_eq, true_implies, false_implies, not_true, not_false_iff, true_and, and_true, dl_leLT0, dl_leLF0, dl_leRT0, dl_leRF0, dl_ltLT0, dl_ltLF0, dl_ltRT0, dl_ltRF0, dl_eqRT0, dl_eqRF0, dl_leLT1, dl_leLF1, dl_leRT1, dl_leRF1, dl_ltLT1, dl_ltLF1, dl_ltRT1, dl_ltRF1, dl_eqRT1, dl_eqRF1, dl_leLT2, dl_leLF2, dl_leRT2, dl_leRF2, dl_ltLT2, dl_ltLF2, dl_ltRT2, dl_ltRF2, dl_eqRT2, dl_eqRF2, dl_leLT3, dl_leLF3, dl_leRT3, dl_leRF3, dl_ltLT3, dl_ltLF3, dl_ltRT3, dl_ltRF3, dl_eqRT3, dl_eqRF3, dl_leLT8, dl_leLF8, dl_leRT8, dl_leRF8, dl_ltLT8, dl_ltLF8, dl_ltRT8, dl_ltRF8, dl_eqRT8, dl_eqRF8, dl_leLT9, dl_leLF9, dl_leRT9, dl_leRF9, dl_ltLT9, dl_ltLF9, dl_ltRT9, dl_ltRF9, dl_eqRT9, dl_eqRF9, dl_leLT16, dl_leLF16, dl_leRT16, dl_leRF16, dl_ltLT16, dl_ltLF16, dl_ltRT16, dl_ltRF16, dl_eqRT16, dl_eqRF16, dl_leLT64, dl_leLF64, dl_leRT64, dl_leRF64, dl_ltLT64, dl_ltLF64, dl_ltRT64, dl_ltRF64, dl_eqRT64, dl_eqRF64, dl_leLT65, dl_leLF65, dl_leRT65, dl_leRF65, dl_ltLT65, dl_ltLF65, dl_ltRT65, dl_ltRF65, dl_eqRT65, dl_eqRF65]
        refine ⟨cnt + 1, dl_yd51 (F := dl_dec (dl_R cnt K S D N) β F0 r) post _ B (bnd r hr) (fun nz => absurd ((Dk r hr).2.2.1 r (Nat.le_refl _) z) (nz _ (hβ r z).1)) (fun b hb fb mx cl mk2 => ?_) (fun b hb fb mx cl mk2 => ?_) _ 0 (-1) (by omega) (by omega) (Or.inl ⟨rfl, fun d h => by omega⟩)⟩
        · have IH := ih (r + 1) mk2 z (by omega)
          have eb := best b hb fb mx
          subst eb
          have e : dl_dec (dl_R cnt K S D N) β F0 (r + 1) = dl_u (dl_dec (dl_R cnt K S D N) β F0 r) (β r) 3 := by
            show dl_u _ _ _ = _
            rw [dl_b_t cl]
          rw [e] at IH
          exact IH
        · have IH := ih (r + 1) mk2 z (by omega)
          have eb := best b hb fb mx
          subst eb
          have e : dl_dec (dl_R cnt K S D N) β F0 (r + 1) = dl_u (dl_dec (dl_R cnt K S D N) β F0 r) (β r) 1 := by
            show dl_u _ _ _ = _
            rw [dl_b_f cl]
          rw [e] at IH
          exact IH
      · have e : r = m := by omega
        subst e
        exact tail (f + 1) r mk' (Nat.le_refl _) hm h2
  have k2 : ∀ f c, c ≤ cnt → cnt - c < f → wY_decide_2 post (nI C) (nI L) (nI ph) (nI ol) (nI T) (nI cnt) (nI dy) f (nI c) old nxt (dl_A K) (dl_A S) (dl_A D) (dl_A N) dat (dl_A (fun d => if d < c then (if K d = 2 then 2 else 0) else F d)) (dl_A P) mk := by
    intro f
    induction f with
    | zero => intro c _ h; omega
    | succ f ih =>
      intro c h1 h2
      rcases Nat.lt_or_ge c cnt with z | z
      · have hk : K c < 2147483648 := by have := hK c z; omega
        have IH := ih (c + 1) z (by omega)
        have e : ∀ w, w = (if K c = 2 then 2 else 0) → (fun d => if d < c + 1 then (if K d = 2 then 2 else 0) else F d) = dl_u (fun d => if d < c then (if K d = 2 then 2 else 0) else F d) c w := fun w hw => by
          funext d
          by_cases q : d = c
          · rw [q, dl_us, hw, if_pos (by omega)]
          · rw [dl_un q]
            by_cases v : d < c
            · rw [if_pos v, if_pos (by omega)]
            · rw [if_neg v, if_neg (by omega)]
        by_cases k : K c = 2
        · rw [e 2 (by rw [if_pos k]), ← dl_Au] at IH
          simp (disch := omega) only [wY_decide_2, nI_clamp, dl_Ar, dl_Au, dl_leT, dl_leF, dl_ltT, dl_ltF, dl_eqT, dl_eqF, nI_add, nI_1, dl_inT, dl_sub, dl_sub1, dl_subm1, forall_eq, true_implies, false_implies, not_true, not_false_iff, true_and, and_true, dl_leLT0, dl_leLF0, dl_leRT0, dl_leRF0, dl_ltLT0, dl_ltLF0, dl_ltRT0, dl_ltRF0, dl_eqRT0, dl_eqRF0, dl_leLT1, dl_leLF1, dl_leRT1, dl_leRF1, dl_ltLT1, dl_ltLF1, dl_ltRT1, dl_ltRF1, dl_eqRT1, dl_eqRF1, dl_leLT2, dl_leLF2, dl_leRT2, dl_leRF2, dl_ltLT2, dl_ltLF2, dl_ltRT2, dl_ltRF2, dl_eqRT2, dl_eqRF2, dl_leLT3, dl_leLF3, dl_leRT3, dl_leRF3, dl_ltLT3, dl_ltLF3, dl_ltRT3, dl_ltRF3, dl_eqRT3, dl_eqRF3, dl_leLT8, dl_leLF8, dl_leRT8, dl_leRF8, dl_ltLT8, dl_ltLF8, dl_ltRT8, dl_ltRF8, dl_eqRT8, dl_eqRF8, dl_leLT9, dl_leLF9, dl_leRT9, dl_leRF9, dl_ltLT9, dl_ltLF9, dl_ltRT9, dl_ltRF9, dl_eqRT9, dl_eqRF9, dl_leLT16, dl_leLF16, dl_leRT16, dl_leRF16, dl_ltLT16, dl_ltLF16, dl_ltRT16, dl_ltRF16, dl_eqRT16, dl_eqRF16, dl_leLT64, dl_leLF64, dl_leRT64, dl_leRF64, dl_ltLT64, dl_ltLF64, dl_ltRT64, dl_ltRF64, dl_eqRT64, dl_eqRF64, dl_leLT65, dl_leLF65, dl_leRT65, dl_leRF65, dl_ltLT65, dl_ltLF65, dl_ltRT65, dl_ltRF65, dl_eqRT65, dl_eqRF65]
          exact IH
        · rw [e 0 (by rw [if_neg k])] at IH
          simp (disch := omega) only [wY_decide_2, nI_clamp, dl_Ar, dl_Au, dl_leT, dl_leF, dl_ltT, dl_ltF, dl_eqT, dl_eqF, nI_add, nI_1, dl_inT, dl_sub, dl_sub1, dl_subm1, forall_eq, true_implies, false_implies, not_true, not_false_iff, true_and, and_true, dl_leLT0, dl_leLF0, dl_leRT0, dl_leRF0, dl_ltLT0, dl_ltLF0, dl_ltRT0, dl_ltRF0, dl_eqRT0, dl_eqRF0, dl_leLT1, dl_leLF1, dl_leRT1, dl_leRF1, dl_ltLT1, dl_ltLF1, dl_ltRT1, dl_ltRF1, dl_eqRT1, dl_eqRF1, dl_leLT2, dl_leLF2, dl_leRT2, dl_leRF2, dl_ltLT2, dl_ltLF2, dl_ltRT2, dl_ltRF2, dl_eqRT2, dl_eqRF2, dl_leLT3, dl_leLF3, dl_leRT3, dl_leRF3, dl_ltLT3, dl_ltLF3, dl_ltRT3, dl_ltRF3, dl_eqRT3, dl_eqRF3, dl_leLT8, dl_leLF8, dl_leRT8, dl_leRF8, dl_ltLT8, dl_ltLF8, dl_ltRT8, dl_ltRF8, dl_eqRT8, dl_eqRF8, dl_leLT9, dl_leLF9, dl_leRT9, dl_leRF9, dl_ltLT9, dl_ltLF9, dl_ltRT9, dl_ltRF9, dl_eqRT9, dl_eqRF9, dl_leLT16, dl_leLF16, dl_leRT16, dl_leRF16, dl_ltLT16, dl_ltLF16, dl_ltRT16, dl_ltRF16, dl_eqRT16, dl_eqRF16, dl_leLT64, dl_leLF64, dl_leRT64, dl_leRF64, dl_ltLT64, dl_ltLF64, dl_ltRT64, dl_ltRF64, dl_eqRT64, dl_eqRF64, dl_leLT65, dl_leLF65, dl_leRT65, dl_leRF65, dl_ltLT65, dl_ltLF65, dl_ltRT65, dl_ltRF65, dl_eqRT65, dl_eqRF65]
          rw [← dl_Au] at IH
          exact IH
      · have e : c = cnt := by omega
        subst e
        simp (disch := omega) only [wY_decide_2, nI_clamp, dl_Ar, dl_Au, dl_leT, dl_leF, dl_ltT, dl_ltF, dl_eqT, dl_eqF, nI_add, nI_1, dl_inT, dl_sub, dl_sub1, dl_subm1, forall_eq, true_implies, false_implies, not_true, not_false_iff, true_and, and_true, dl_leLT0, dl_leLF0, dl_leRT0, dl_leRF0, dl_ltLT0, dl_ltLF0, dl_ltRT0, dl_ltRF0, dl_eqRT0, dl_eqRF0, dl_leLT1, dl_leLF1, dl_leRT1, dl_leRF1, dl_ltLT1, dl_ltLF1, dl_ltRT1, dl_ltRF1, dl_eqRT1, dl_eqRF1, dl_leLT2, dl_leLF2, dl_leRT2, dl_leRF2, dl_ltLT2, dl_ltLF2, dl_ltRT2, dl_ltRF2, dl_eqRT2, dl_eqRF2, dl_leLT3, dl_leLF3, dl_leRT3, dl_leRF3, dl_ltLT3, dl_ltLF3, dl_ltRT3, dl_ltRF3, dl_eqRT3, dl_eqRF3, dl_leLT8, dl_leLF8, dl_leRT8, dl_leRF8, dl_ltLT8, dl_ltLF8, dl_ltRT8, dl_ltRF8, dl_eqRT8, dl_eqRF8, dl_leLT9, dl_leLF9, dl_leRT9, dl_leRF9, dl_ltLT9, dl_ltLF9, dl_ltRT9, dl_ltRF9, dl_eqRT9, dl_eqRF9, dl_leLT16, dl_leLF16, dl_leRT16, dl_leRF16, dl_ltLT16, dl_ltLF16, dl_ltRT16, dl_ltRF16, dl_eqRT16, dl_eqRF16, dl_leLT64, dl_leLF64, dl_leRT64, dl_leRF64, dl_ltLT64, dl_ltLF64, dl_ltRT64, dl_ltRF64, dl_eqRT64, dl_eqRF64, dl_leLT65, dl_leLF65, dl_leRT65, dl_leRF65, dl_ltLT65, dl_ltLF65, dl_ltRT65, dl_ltRF65, dl_eqRT65, dl_eqRF65]
        have k := k39 (c + 1) 0 mk (by omega) (by omega)
        rw [show dl_dec (dl_R c K S D N) β F0 0 = F0 from rfl, hF0] at k
        exact ⟨c + 1, k⟩
  have k0 := k2 (cnt + 1) 0 (by omega) (by omega)
  have e0 : (fun d => if d < 0 then (if K d = 2 then 2 else 0) else F d) = F := by
    funext d
    exact if_neg (by omega)
  rw [e0] at k0
  exact ⟨cnt + 1, k0⟩
theorem dl_ycost (post : Int32 → Prop) (hcnt : cnt ≤ 16) (hF : ∀ c, c < cnt → F c < 2147483648) (H : post (nI (dl_cst N F cnt))) : wpY_costOfPlan post (nI C, nI L, nI ph, nI ol, nI T, nI cnt, nI dy, old, nxt, dl_A K, dl_A S, dl_A D, dl_A N, dat, dl_A F, dl_A P, mk) := by
  have key : ∀ f c, c ≤ cnt → cnt - c < f → wY_costOfPlan_4 post (nI C) (nI L) (nI ph) (nI ol) (nI T) (nI cnt) (nI dy) old nxt (dl_A K) (dl_A S) (dl_A D) (dl_A N) dat (dl_A F) (dl_A P) mk f (nI (dl_cst N F c)) (nI c) := by
    intro f
    induction f with
    | zero => intro c _ h; omega
    | succ f ih =>
      intro c h1 h2
      rcases Nat.lt_or_ge c cnt with z | z
      · have hf := hF c z
        have IH := ih (c + 1) z (by omega)
        have e : dl_cst N F (c + 1) = dl_cst N F c + if F c = 3 then N c else 0 := rfl
        rw [e] at IH
        by_cases k : F c = 3
        · rw [if_pos k] at IH
          simp (disch := omega) only [wY_costOfPlan_4, nI_clamp, dl_Ar, dl_Au, dl_leT, dl_leF, dl_ltT, dl_ltF, dl_eqT, dl_eqF, nI_add, nI_1, dl_inT, dl_sub, dl_sub1, dl_subm1, forall_eq, true_implies, false_implies, not_true, not_false_iff, true_and, and_true, dl_leLT0, dl_leLF0, dl_leRT0, dl_leRF0, dl_ltLT0, dl_ltLF0, dl_ltRT0, dl_ltRF0, dl_eqRT0, dl_eqRF0, dl_leLT1, dl_leLF1, dl_leRT1, dl_leRF1, dl_ltLT1, dl_ltLF1, dl_ltRT1, dl_ltRF1, dl_eqRT1, dl_eqRF1, dl_leLT2, dl_leLF2, dl_leRT2, dl_leRF2, dl_ltLT2, dl_ltLF2, dl_ltRT2, dl_ltRF2, dl_eqRT2, dl_eqRF2, dl_leLT3, dl_leLF3, dl_leRT3, dl_leRF3, dl_ltLT3, dl_ltLF3, dl_ltRT3, dl_ltRF3, dl_eqRT3, dl_eqRF3, dl_leLT8, dl_leLF8, dl_leRT8, dl_leRF8, dl_ltLT8, dl_ltLF8, dl_ltRT8, dl_ltRF8, dl_eqRT8, dl_eqRF8, dl_leLT9, dl_leLF9, dl_leRT9, dl_leRF9, dl_ltLT9, dl_ltLF9, dl_ltRT9, dl_ltRF9, dl_eqRT9, dl_eqRF9, dl_leLT16, dl_leLF16, dl_leRT16, dl_leRF16, dl_ltLT16, dl_ltLF16, dl_ltRT16, dl_ltRF16, dl_eqRT16, dl_eqRF16, dl_leLT64, dl_leLF64, dl_leRT64, dl_leRF64, dl_ltLT64, dl_ltLF64, dl_ltRT64, dl_ltRF64, dl_eqRT64, dl_eqRF64, dl_leLT65, dl_leLF65, dl_leRT65, dl_leRF65, dl_ltLT65, dl_ltLF65, dl_ltRT65, dl_ltRF65, dl_eqRT65, dl_eqRF65]
          exact IH
        · rw [if_neg k] at IH
          simp (disch := omega) only [wY_costOfPlan_4, nI_clamp, dl_Ar, dl_Au, dl_leT, dl_leF, dl_ltT, dl_ltF, dl_eqT, dl_eqF, nI_add, nI_1, dl_inT, dl_sub, dl_sub1, dl_subm1, forall_eq, true_implies, false_implies, not_true, not_false_iff, true_and, and_true, dl_leLT0, dl_leLF0, dl_leRT0, dl_leRF0, dl_ltLT0, dl_ltLF0, dl_ltRT0, dl_ltRF0, dl_eqRT0, dl_eqRF0, dl_leLT1, dl_leLF1, dl_leRT1, dl_leRF1, dl_ltLT1, dl_ltLF1, dl_ltRT1, dl_ltRF1, dl_eqRT1, dl_eqRF1, dl_leLT2, dl_leLF2, dl_leRT2, dl_leRF2, dl_ltLT2, dl_ltLF2, dl_ltRT2, dl_ltRF2, dl_eqRT2, dl_eqRF2, dl_leLT3, dl_leLF3, dl_leRT3, dl_leRF3, dl_ltLT3, dl_ltLF3, dl_ltRT3, dl_ltRF3, dl_eqRT3, dl_eqRF3, dl_leLT8, dl_leLF8, dl_leRT8, dl_leRF8, dl_ltLT8, dl_ltLF8, dl_ltRT8, dl_ltRF8, dl_eqRT8, dl_eqRF8, dl_leLT9, dl_leLF9, dl_leRT9, dl_leRF9, dl_ltLT9, dl_ltLF9, dl_ltRT9, dl_ltRF9, dl_eqRT9, dl_eqRF9, dl_leLT16, dl_leLF16, dl_leRT16, dl_leRF16, dl_ltLT16, dl_ltLF16, dl_ltRT16, dl_ltRF16, dl_eqRT16, dl_eqRF16, dl_leLT64, dl_leLF64, dl_leRT64, dl_leRF64, dl_ltLT64, dl_ltLF64, dl_ltRT64, dl_ltRF64, dl_eqRT64, dl_eqRF64, dl_leLT65, dl_leLF65, dl_leRT65, dl_leRF65, dl_ltLT65, dl_ltLF65, dl_ltRT65, dl_ltRF65, dl_eqRT65, dl_eqRF65]
          exact IH
      · have e : c = cnt := by omega
        subst e
        simp (disch := omega) only [wY_costOfPlan_4, nI_clamp, dl_Ar, dl_Au, dl_leT, dl_leF, dl_ltT, dl_ltF, dl_eqT, dl_eqF, nI_add, nI_1, dl_inT, dl_sub, dl_sub1, dl_subm1, forall_eq, true_implies, false_implies, not_true, not_false_iff, true_and, and_true, dl_leLT0, dl_leLF0, dl_leRT0, dl_leRF0, dl_ltLT0, dl_ltLF0, dl_ltRT0, dl_ltRF0, dl_eqRT0, dl_eqRF0, dl_leLT1, dl_leLF1, dl_leRT1, dl_leRF1, dl_ltLT1, dl_ltLF1, dl_ltRT1, dl_ltRF1, dl_eqRT1, dl_eqRF1, dl_leLT2, dl_leLF2, dl_leRT2, dl_leRF2, dl_ltLT2, dl_ltLF2, dl_ltRT2, dl_ltRF2, dl_eqRT2, dl_eqRF2, dl_leLT3, dl_leLF3, dl_leRT3, dl_leRF3, dl_ltLT3, dl_ltLF3, dl_ltRT3, dl_ltRF3, dl_eqRT3, dl_eqRF3, dl_leLT8, dl_leLF8, dl_leRT8, dl_leRF8, dl_ltLT8, dl_ltLF8, dl_ltRT8, dl_ltRF8, dl_eqRT8, dl_eqRF8, dl_leLT9, dl_leLF9, dl_leRT9, dl_leRF9, dl_ltLT9, dl_ltLF9, dl_ltRT9, dl_ltRF9, dl_eqRT9, dl_eqRF9, dl_leLT16, dl_leLF16, dl_leRT16, dl_leRF16, dl_ltLT16, dl_ltLF16, dl_ltRT16, dl_ltRF16, dl_eqRT16, dl_eqRF16, dl_leLT64, dl_leLF64, dl_leRT64, dl_leRF64, dl_ltLT64, dl_ltLF64, dl_ltRT64, dl_ltRF64, dl_eqRT64, dl_eqRF64, dl_leLT65, dl_leLF65, dl_leRT65, dl_leRF65, dl_ltLT65, dl_ltLF65, dl_ltRT65, dl_ltRF65, dl_eqRT65, dl_eqRF65]
        exact H
  exact ⟨cnt + 1, key _ 0 (by omega) (by omega)⟩
theorem dl_ylits (post : Int32 → Prop) (hcnt : cnt ≤ 16) (hK : ∀ c, c < cnt → K c < 2147483648) (H : post (nI (dl_lsum K N cnt))) : wpY_literals post (nI C, nI L, nI ph, nI ol, nI T, nI cnt, nI dy, old, nxt, dl_A K, dl_A S, dl_A D, dl_A N, dat, dl_A F, dl_A P, mk) := by
  have key : ∀ f c, c ≤ cnt → cnt - c < f → wY_literals_4 post (nI C) (nI L) (nI ph) (nI ol) (nI T) (nI cnt) (nI dy) old nxt (dl_A K) (dl_A S) (dl_A D) (dl_A N) dat (dl_A F) (dl_A P) mk f (nI (dl_lsum K N c)) (nI c) := by
    intro f
    induction f with
    | zero => intro c _ h; omega
    | succ f ih =>
      intro c h1 h2
      rcases Nat.lt_or_ge c cnt with z | z
      · have hf := hK c z
        have IH := ih (c + 1) z (by omega)
        have e : dl_lsum K N (c + 1) = dl_lsum K N c + if K c = 2 then N c else 0 := rfl
        rw [e] at IH
        by_cases k : K c = 2
        · rw [if_pos k] at IH
          simp (disch := omega) only [wY_literals_4, nI_clamp, dl_Ar, dl_Au, dl_leT, dl_leF, dl_ltT, dl_ltF, dl_eqT, dl_eqF, nI_add, nI_1, dl_inT, dl_sub, dl_sub1, dl_subm1, forall_eq, true_implies, false_implies, not_true, not_false_iff, true_and, and_true, dl_leLT0, dl_leLF0, dl_leRT0, dl_leRF0, dl_ltLT0, dl_ltLF0, dl_ltRT0, dl_ltRF0, dl_eqRT0, dl_eqRF0, dl_leLT1, dl_leLF1, dl_leRT1, dl_leRF1, dl_ltLT1, dl_ltLF1, dl_ltRT1, dl_ltRF1, dl_eqRT1, dl_eqRF1, dl_leLT2, dl_leLF2, dl_leRT2, dl_leRF2, dl_ltLT2, dl_ltLF2, dl_ltRT2, dl_ltRF2, dl_eqRT2, dl_eqRF2, dl_leLT3, dl_leLF3, dl_leRT3, dl_leRF3, dl_ltLT3, dl_ltLF3, dl_ltRT3, dl_ltRF3, dl_eqRT3, dl_eqRF3, dl_leLT8, dl_leLF8, dl_leRT8, dl_leRF8, dl_ltLT8, dl_ltLF8, dl_ltRT8, dl_ltRF8, dl_eqRT8, dl_eqRF8, dl_leLT9, dl_leLF9, dl_leRT9, dl_leRF9, dl_ltLT9, dl_ltLF9, dl_ltRT9, dl_ltRF9, dl_eqRT9, dl_eqRF9, dl_leLT16, dl_leLF16, dl_leRT16, dl_leRF16, dl_ltLT16, dl_ltLF16, dl_ltRT16, dl_ltRF16, dl_eqRT16, dl_eqRF16, dl_leLT64, dl_leLF64, dl_leRT64, dl_leRF64, dl_ltLT64, dl_ltLF64, dl_ltRT64, dl_ltRF64, dl_eqRT64, dl_eqRF64, dl_leLT65, dl_leLF65, dl_leRT65, dl_leRF65, dl_ltLT65, dl_ltLF65, dl_ltRT65, dl_ltRF65, dl_eqRT65, dl_eqRF65]
          exact IH
        · rw [if_neg k] at IH
          simp (disch := omega) only [wY_literals_4, nI_clamp, dl_Ar, dl_Au, dl_leT, dl_leF, dl_ltT, dl_ltF, dl_eqT, dl_eqF, nI_add, nI_1, dl_inT, dl_sub, dl_sub1, dl_subm1, forall_eq, true_implies, false_implies, not_true, not_false_iff, true_and, and_true, dl_leLT0, dl_leLF0, dl_leRT0, dl_leRF0, dl_ltLT0, dl_ltLF0, dl_ltRT0, dl_ltRF0, dl_eqRT0, dl_eqRF0, dl_leLT1, dl_leLF1, dl_leRT1, dl_leRF1, dl_ltLT1, dl_ltLF1, dl_ltRT1, dl_ltRF1, dl_eqRT1, dl_eqRF1, dl_leLT2, dl_leLF2, dl_leRT2, dl_leRF2, dl_ltLT2, dl_ltLF2, dl_ltRT2, dl_ltRF2, dl_eqRT2, dl_eqRF2, dl_leLT3, dl_leLF3, dl_leRT3, dl_leRF3, dl_ltLT3, dl_ltLF3, dl_ltRT3, dl_ltRF3, dl_eqRT3, dl_eqRF3, dl_leLT8, dl_leLF8, dl_leRT8, dl_leRF8, dl_ltLT8, dl_ltLF8, dl_ltRT8, dl_ltRF8, dl_eqRT8, dl_eqRF8, dl_leLT9, dl_leLF9, dl_leRT9, dl_leRF9, dl_ltLT9, dl_ltLF9, dl_ltRT9, dl_ltRF9, dl_eqRT9, dl_eqRF9, dl_leLT16, dl_leLF16, dl_leRT16, dl_leRF16, dl_ltLT16, dl_ltLF16, dl_ltRT16, dl_ltRF16, dl_eqRT16, dl_eqRF16, dl_leLT64, dl_leLF64, dl_leRT64, dl_leRF64, dl_ltLT64, dl_ltLF64, dl_ltRT64, dl_ltRF64, dl_eqRT64, dl_eqRF64, dl_leLT65, dl_leLF65, dl_leRT65, dl_leRF65, dl_ltLT65, dl_ltLF65, dl_ltRT65, dl_ltRF65, dl_eqRT65, dl_eqRF65]
          exact IH
      · have e : c = cnt := by omega
        subst e
        simp (disch := omega) only [wY_literals_4, nI_clamp, dl_Ar, dl_Au, dl_leT, dl_leF, dl_ltT, dl_ltF, dl_eqT, dl_eqF, nI_add, nI_1, dl_inT, dl_sub, dl_sub1, dl_subm1, forall_eq, true_implies, false_implies, not_true, not_false_iff, true_and, and_true, dl_leLT0, dl_leLF0, dl_leRT0, dl_leRF0, dl_ltLT0, dl_ltLF0, dl_ltRT0, dl_ltRF0, dl_eqRT0, dl_eqRF0, dl_leLT1, dl_leLF1, dl_leRT1, dl_leRF1, dl_ltLT1, dl_ltLF1, dl_ltRT1, dl_ltRF1, dl_eqRT1, dl_eqRF1, dl_leLT2, dl_leLF2, dl_leRT2, dl_leRF2, dl_ltLT2, dl_ltLF2, dl_ltRT2, dl_ltRF2, dl_eqRT2, dl_eqRF2, dl_leLT3, dl_leLF3, dl_leRT3, dl_leRF3, dl_ltLT3, dl_ltLF3, dl_ltRT3, dl_ltRF3, dl_eqRT3, dl_eqRF3, dl_leLT8, dl_leLF8, dl_leRT8, dl_leRF8, dl_ltLT8, dl_ltLF8, dl_ltRT8, dl_ltRF8, dl_eqRT8, dl_eqRF8, dl_leLT9, dl_leLF9, dl_leRT9, dl_leRF9, dl_ltLT9, dl_ltLF9, dl_ltRT9, dl_ltRF9, dl_eqRT9, dl_eqRF9, dl_leLT16, dl_leLF16, dl_leRT16, dl_leRF16, dl_ltLT16, dl_ltLF16, dl_ltRT16, dl_ltRF16, dl_eqRT16, dl_eqRF16, dl_leLT64, dl_leLF64, dl_leRT64, dl_leRF64, dl_ltLT64, dl_ltLF64, dl_ltRT64, dl_ltRF64, dl_eqRT64, dl_eqRF64, dl_leLT65, dl_leLF65, dl_leRT65, dl_leRF65, dl_ltLT65, dl_ltLF65, dl_ltRT65, dl_ltRF65, dl_eqRT65, dl_eqRF65]
        exact H
  exact ⟨cnt + 1, key _ 0 (by omega) (by omega)⟩
end
end
section
section
variable {C L ph ol T cnt ls co dn pl dy : Nat} {kp : Int32} {K S D N A bD sq po ws ss bd F P : Nat → Nat} {bu pool bf af cm ed re old nxt dat mk : Nat → Int32}
theorem dl_ya80 (post : SY → Prop) (J27 : Int32 → Int32 → (Nat → Int32) → (Nat → Int32) → (Nat → Int32) → (Nat → Int32) → (Nat → Int32) → (Nat → Int32) → (Nat → Int32) → (Nat → Int32) → (Nat → Int32) → (Nat → Int32) → Prop) (J40 : Int32 → Int32 → Prop) (B : dl_Bs C L ol T cnt K S D N) (hF : ∀ c, c < cnt → F c < 2147483648) {c : Nat} (hc : c < cnt) {x1 x2 x3 : Int32} {fr : Nat}
    (H0 : ¬ (fr = 1 ∧ ∀ x, x < cnt → F x = 1 → mk x = 0 → ¬ dl_R cnt K S D N x c) → J40 x3 (nI (c + 1)))
    (H1 : (fr = 1 ∧ ∀ x, x < cnt → F x = 1 → mk x = 0 → ¬ dl_R cnt K S D N x c) → ((0 ≤ x3 → J40 x3 (nI (c + 1))) ∧ (¬ 0 ≤ x3 → J40 (nI c) (nI (c + 1))))) :
    ∀ f x v, x ≤ cnt → cnt - x < f → v ≤ 1 → (v = 1 ↔ (fr = 1 ∧ ∀ x', x' < x → F x' = 1 → mk x' = 0 → ¬ dl_R cnt K S D N x' c)) → wY_arrange_80 post J27 J40 x1 x2 x3 (nI c) (nI C) (nI L) (nI ph) (nI ol) (nI T) (nI cnt) (nI dy) old nxt (dl_A K) (dl_A S) (dl_A D) (dl_A N) dat (dl_A F) (dl_A P) mk f (nI v) (nI x) := by
  intro f
  have B' := B
  obtain ⟨b1, b2, b3, b4, b5, b6, b7, b8⟩ := B'
  induction f with
  | zero => intro x v _ h; omega
  | succ f ih =>
    intro x v h1 h2 hv I
    rcases Nat.lt_or_ge x cnt with z | z
    · have hf := hF x z
      have keep : ¬ (F x = 1 ∧ mk x = 0 ∧ dl_R cnt K S D N x c) → wY_arrange_80 post J27 J40 x1 x2 x3 (nI c) (nI C) (nI L) (nI ph) (nI ol) (nI T) (nI cnt) (nI dy) old nxt (dl_A K) (dl_A S) (dl_A D) (dl_A N) dat (dl_A F) (dl_A P) mk f (nI v) (nI (x + 1)) := fun o => ih (x + 1) v z (by omega) hv (I.trans ⟨fun w => ⟨w.1, fun x' hx' a b r => by
        by_cases e : x' = x
        · subst e; exact o ⟨a, b, r⟩
        · exact w.2 x' (by omega) a b r⟩, fun w => ⟨w.1, fun x' hx' => w.2 x' (by omega)⟩⟩)
      by_cases f1 : F x = 1
      · by_cases m0 : mk x = 0
        · simp (disch := omega) only [wY_arrange_80, nI_clamp, dl_Ar, dl_Au, dl_leT, dl_leF, dl_ltT, dl_ltF, dl_eqT, dl_eqF, nI_add, nI_1, dl_inT, dl_sub, dl_sub1, dl_subm1, forall_eq, true_implies, false_implies, not_true, not_false_iff, true_and, and_true, dl_leLT0, dl_leLF0, dl_leRT0, dl_leRF0, dl_ltLT0, dl_ltLF0, dl_ltRT0, dl_ltRF0, dl_eqRT0, dl_eqRF0, dl_leLT1, dl_leLF1, dl_leRT1, dl_leRF1, dl_ltLT1, dl_ltLF1, dl_ltRT1, dl_ltRF1, dl_eqRT1, dl_eqRF1, dl_leLT2, dl_leLF2, dl_leRT2, dl_leRF2, dl_ltLT2, dl_ltLF2, dl_ltRT2, dl_ltRF2, dl_eqRT2, dl_eqRF2, dl_leLT3, dl_leLF3, dl_leRT3, dl_leRF3, dl_ltLT3, dl_ltLF3, dl_ltRT3, dl_ltRF3, dl_eqRT3, dl_eqRF3, dl_leLT8, dl_leLF8, dl_leRT8, dl_leRF8, dl_ltLT8, dl_ltLF8, dl_ltRT8, dl_ltRF8, dl_eqRT8, dl_eqRF8, dl_leLT9, dl_leLF9, dl_leRT9, dl_leRF9, dl_ltLT9, dl_ltLF9, dl_ltRT9, dl_ltRF9, dl_eqRT9, dl_eqRF9, dl_leLT16, dl_leLF16, dl_leRT16, dl_leRF16, dl_ltLT16, dl_ltLF16, dl_ltRT16, dl_ltRF16, dl_eqRT16, dl_eqRF16, dl_leLT64, dl_leLF64, dl_leRT64, dl_leRF64, dl_ltLT64, dl_ltLF64, dl_ltRT64, dl_ltRF64, dl_eqRT64, dl_eqRF64, dl_leLT65, dl_leLF65, dl_leRT65, dl_leRF65, dl_ltLT65, dl_ltLF65, dl_ltRT65, dl_ltRF65, dl_eqRT65, dl_eqRF65, m0]
          refine dl_ypr _ B z hc (fun rr => br_f (by decide) ?_) (fun rr => br_t rfl ?_)
          · try simp (disch := omega) only [nI_clamp, dl_Ar, dl_Au, dl_leT, dl_leF, dl_ltT, dl_ltF, dl_eqT, dl_eqF, nI_add, nI_1, dl_inT, dl_sub, dl_sub1, dl_subm1, forall_eq, true_implies, false_implies, not_true, not_false_iff, true_and, and_true, dl_leLT0, dl_leLF0, dl_leRT0, dl_leRF0, dl_ltLT0, dl_ltLF0, dl_ltRT0, dl_ltRF0, dl_eqRT0, dl_eqRF0, dl_leLT1, dl_leLF1, dl_leRT1, dl_leRF1, dl_ltLT1, dl_ltLF1, dl_ltRT1, dl_ltRF1, dl_eqRT1, dl_eqRF1, dl_leLT2, dl_leLF2, dl_leRT2, dl_leRF2, dl_ltLT2, dl_ltLF2, dl_ltRT2, dl_ltRF2, dl_eqRT2, dl_eqRF2, dl_leLT3, dl_leLF3, dl_leRT3, dl_leRF3, dl_ltLT3, dl_ltLF3, dl_ltRT3, dl_ltRF3, dl_eqRT3, dl_eqRF3, dl_leLT8, dl_leLF8, dl_leRT8, dl_leRF8, dl_ltLT8, dl_ltLF8, dl_ltRT8, dl_ltRF8, dl_eqRT8, dl_eqRF8, dl_leLT9, dl_leLF9, dl_leRT9, dl_leRF9, dl_ltLT9, dl_ltLF9, dl_ltRT9, dl_ltRF9, dl_eqRT9, dl_eqRF9, dl_leLT16, dl_leLF16, dl_leRT16, dl_leRF16, dl_ltLT16, dl_ltLF16, dl_ltRT16, dl_ltRF16, dl_eqRT16, dl_eqRF16, dl_leLT64, dl_leLF64, dl_leRT64, dl_leRF64, dl_ltLT64, dl_ltLF64, dl_ltRT64, dl_ltRF64, dl_eqRT64, dl_eqRF64, dl_leLT65, dl_leLF65, dl_leRT65, dl_leRF65, dl_ltLT65, dl_ltLF65, dl_ltRT65, dl_ltRF65, dl_eqRT65, dl_eqRF65]
            refine ih (x + 1) 0 z (by omega) (by omega) ⟨fun w => by omega, fun w => absurd rr (w.2 x (by omega) f1 m0)⟩
          · try simp (disch := omega) only [nI_clamp, dl_Ar, dl_Au, dl_leT, dl_leF, dl_ltT, dl_ltF, dl_eqT, dl_eqF, nI_add, nI_1, dl_inT, dl_sub, dl_sub1, dl_subm1, forall_eq, true_implies, false_implies, not_true, not_false_iff, true_and, and_true, dl_leLT0, dl_leLF0, dl_leRT0, dl_leRF0, dl_ltLT0, dl_ltLF0, dl_ltRT0, dl_ltRF0, dl_eqRT0, dl_eqRF0, dl_leLT1, dl_leLF1, dl_leRT1, dl_leRF1, dl_ltLT1, dl_ltLF1, dl_ltRT1, dl_ltRF1, dl_eqRT1, dl_eqRF1, dl_leLT2, dl_leLF2, dl_leRT2, dl_leRF2, dl_ltLT2, dl_ltLF2, dl_ltRT2, dl_ltRF2, dl_eqRT2, dl_eqRF2, dl_leLT3, dl_leLF3, dl_leRT3, dl_leRF3, dl_ltLT3, dl_ltLF3, dl_ltRT3, dl_ltRF3, dl_eqRT3, dl_eqRF3, dl_leLT8, dl_leLF8, dl_leRT8, dl_leRF8, dl_ltLT8, dl_ltLF8, dl_ltRT8, dl_ltRF8, dl_eqRT8, dl_eqRF8, dl_leLT9, dl_leLF9, dl_leRT9, dl_leRF9, dl_ltLT9, dl_ltLF9, dl_ltRT9, dl_ltRF9, dl_eqRT9, dl_eqRF9, dl_leLT16, dl_leLF16, dl_leRT16, dl_leRF16, dl_ltLT16, dl_ltLF16, dl_ltRT16, dl_ltRF16, dl_eqRT16, dl_eqRF16, dl_leLT64, dl_leLF64, dl_leRT64, dl_leRF64, dl_ltLT64, dl_ltLF64, dl_ltRT64, dl_ltRF64, dl_eqRT64, dl_eqRF64, dl_leLT65, dl_leLF65, dl_leRT65, dl_leRF65, dl_ltLT65, dl_ltLF65, dl_ltRT65, dl_ltRF65, dl_eqRT65, dl_eqRF65]
            exact keep (fun w => rr w.2.2)
        · simp (disch := omega) only [wY_arrange_80, nI_clamp, dl_Ar, dl_Au, dl_leT, dl_leF, dl_ltT, dl_ltF, dl_eqT, dl_eqF, nI_add, nI_1, dl_inT, dl_sub, dl_sub1, dl_subm1, forall_eq, true_implies, false_implies, not_true, not_false_iff, true_and, and_true, dl_leLT0, dl_leLF0, dl_leRT0, dl_leRF0, dl_ltLT0, dl_ltLF0, dl_ltRT0, dl_ltRF0, dl_eqRT0, dl_eqRF0, dl_leLT1, dl_leLF1, dl_leRT1, dl_leRF1, dl_ltLT1, dl_ltLF1, dl_ltRT1, dl_ltRF1, dl_eqRT1, dl_eqRF1, dl_leLT2, dl_leLF2, dl_leRT2, dl_leRF2, dl_ltLT2, dl_ltLF2, dl_ltRT2, dl_ltRF2, dl_eqRT2, dl_eqRF2, dl_leLT3, dl_leLF3, dl_leRT3, dl_leRF3, dl_ltLT3, dl_ltLF3, dl_ltRT3, dl_ltRF3, dl_eqRT3, dl_eqRF3, dl_leLT8, dl_leLF8, dl_leRT8, dl_leRF8, dl_ltLT8, dl_ltLF8, dl_ltRT8, dl_ltRF8, dl_eqRT8, dl_eqRF8, dl_leLT9, dl_leLF9, dl_leRT9, dl_leRF9, dl_ltLT9, dl_ltLF9, dl_ltRT9, dl_ltRF9, dl_eqRT9, dl_eqRF9, dl_leLT16, dl_leLF16, dl_leRT16, dl_leRF16, dl_ltLT16, dl_ltLF16, dl_ltRT16, dl_ltRF16, dl_eqRT16, dl_eqRF16, dl_leLT64, dl_leLF64, dl_leRT64, dl_leRF64, dl_ltLT64, dl_ltLF64, dl_ltRT64, dl_ltRF64, dl_eqRT64, dl_eqRF64, dl_leLT65, dl_leLF65, dl_leRT65, dl_leRF65, dl_ltLT65, dl_ltLF65, dl_ltRT65, dl_ltRF65, dl_eqRT65, dl_eqRF65, m0]
          exact keep (fun w => m0 w.2.1)
      · simp (disch := omega) only [wY_arrange_80, nI_clamp, dl_Ar, dl_Au, dl_leT, dl_leF, dl_ltT, dl_ltF, dl_eqT, dl_eqF, nI_add, nI_1, dl_inT, dl_sub, dl_sub1, dl_subm1, forall_eq, true_implies, false_implies, not_true, not_false_iff, true_and, and_true, dl_leLT0, dl_leLF0, dl_leRT0, dl_leRF0, dl_ltLT0, dl_ltLF0, dl_ltRT0, dl_ltRF0, dl_eqRT0, dl_eqRF0, dl_leLT1, dl_leLF1, dl_leRT1, dl_leRF1, dl_ltLT1, dl_ltLF1, dl_ltRT1, dl_ltRF1, dl_eqRT1, dl_eqRF1, dl_leLT2, dl_leLF2, dl_leRT2, dl_leRF2, dl_ltLT2, dl_ltLF2, dl_ltRT2, dl_ltRF2, dl_eqRT2, dl_eqRF2, dl_leLT3, dl_leLF3, dl_leRT3, dl_leRF3, dl_ltLT3, dl_ltLF3, dl_ltRT3, dl_ltRF3, dl_eqRT3, dl_eqRF3, dl_leLT8, dl_leLF8, dl_leRT8, dl_leRF8, dl_ltLT8, dl_ltLF8, dl_ltRT8, dl_ltRF8, dl_eqRT8, dl_eqRF8, dl_leLT9, dl_leLF9, dl_leRT9, dl_leRF9, dl_ltLT9, dl_ltLF9, dl_ltRT9, dl_ltRF9, dl_eqRT9, dl_eqRF9, dl_leLT16, dl_leLF16, dl_leRT16, dl_leRF16, dl_ltLT16, dl_ltLF16, dl_ltRT16, dl_ltRF16, dl_eqRT16, dl_eqRF16, dl_leLT64, dl_leLF64, dl_leRT64, dl_leRF64, dl_ltLT64, dl_ltLF64, dl_ltRT64, dl_ltRF64, dl_eqRT64, dl_eqRF64, dl_leLT65, dl_leLF65, dl_leRT65, dl_leRF65, dl_ltLT65, dl_ltLF65, dl_ltRT65, dl_ltRF65, dl_eqRT65, dl_eqRF65]
        exact keep (fun w => f1 w.1)
    · have e : x = cnt := by omega
      subst e
      by_cases v0 : v = 0
      · simp (disch := omega) only [wY_arrange_80, nI_clamp, dl_Ar, dl_Au, dl_leT, dl_leF, dl_ltT, dl_ltF, dl_eqT, dl_eqF, nI_add, nI_1, dl_inT, dl_sub, dl_sub1, dl_subm1, forall_eq, true_implies, false_implies, not_true, not_false_iff, true_and, and_true, dl_leLT0, dl_leLF0, dl_leRT0, dl_leRF0, dl_ltLT0, dl_ltLF0, dl_ltRT0, dl_ltRF0, dl_eqRT0, dl_eqRF0, dl_leLT1, dl_leLF1, dl_leRT1, dl_leRF1, dl_ltLT1, dl_ltLF1, dl_ltRT1, dl_ltRF1, dl_eqRT1, dl_eqRF1, dl_leLT2, dl_leLF2, dl_leRT2, dl_leRF2, dl_ltLT2, dl_ltLF2, dl_ltRT2, dl_ltRF2, dl_eqRT2, dl_eqRF2, dl_leLT3, dl_leLF3, dl_leRT3, dl_leRF3, dl_ltLT3, dl_ltLF3, dl_ltRT3, dl_ltRF3, dl_eqRT3, dl_eqRF3, dl_leLT8, dl_leLF8, dl_leRT8, dl_leRF8, dl_ltLT8, dl_ltLF8, dl_ltRT8, dl_ltRF8, dl_eqRT8, dl_eqRF8, dl_leLT9, dl_leLF9, dl_leRT9, dl_leRF9, dl_ltLT9, dl_ltLF9, dl_ltRT9, dl_ltRF9, dl_eqRT9, dl_eqRF9, dl_leLT16, dl_leLF16, dl_leRT16, dl_leRF16, dl_ltLT16, dl_ltLF16, dl_ltRT16, dl_ltRF16, dl_eqRT16, dl_eqRF16, dl_leLT64, dl_leLF64, dl_leRT64, dl_leRF64, dl_ltLT64, dl_ltLF64, dl_ltRT64, dl_ltRF64, dl_eqRT64, dl_eqRF64, dl_leLT65, dl_leLF65, dl_leRT65, dl_leRF65, dl_ltLT65, dl_ltLF65, dl_ltRT65, dl_ltRF65, dl_eqRT65, dl_eqRF65]
        exact H0 (fun w => by have := I.mpr w; omega)
      · simp (disch := omega) only [wY_arrange_80, nI_clamp, dl_Ar, dl_Au, dl_leT, dl_leF, dl_ltT, dl_ltF, dl_eqT, dl_eqF, nI_add, nI_1, dl_inT, dl_sub, dl_sub1, dl_subm1, forall_eq, true_implies, false_implies, not_true, not_false_iff, true_and, and_true, dl_leLT0, dl_leLF0, dl_leRT0, dl_leRF0, dl_ltLT0, dl_ltLF0, dl_ltRT0, dl_ltRF0, dl_eqRT0, dl_eqRF0, dl_leLT1, dl_leLF1, dl_leRT1, dl_leRF1, dl_ltLT1, dl_ltLF1, dl_ltRT1, dl_ltRF1, dl_eqRT1, dl_eqRF1, dl_leLT2, dl_leLF2, dl_leRT2, dl_leRF2, dl_ltLT2, dl_ltLF2, dl_ltRT2, dl_ltRF2, dl_eqRT2, dl_eqRF2, dl_leLT3, dl_leLF3, dl_leRT3, dl_leRF3, dl_ltLT3, dl_ltLF3, dl_ltRT3, dl_ltRF3, dl_eqRT3, dl_eqRF3, dl_leLT8, dl_leLF8, dl_leRT8, dl_leRF8, dl_ltLT8, dl_ltLF8, dl_ltRT8, dl_ltRF8, dl_eqRT8, dl_eqRF8, dl_leLT9, dl_leLF9, dl_leRT9, dl_leRF9, dl_ltLT9, dl_ltLF9, dl_ltRT9, dl_ltRF9, dl_eqRT9, dl_eqRF9, dl_leLT16, dl_leLF16, dl_leRT16, dl_leRF16, dl_ltLT16, dl_ltLF16, dl_ltRT16, dl_ltRF16, dl_eqRT16, dl_eqRF16, dl_leLT64, dl_leLF64, dl_leRT64, dl_leRF64, dl_ltLT64, dl_ltLF64, dl_ltRT64, dl_ltRF64, dl_eqRT64, dl_eqRF64, dl_leLT65, dl_leLF65, dl_leRT65, dl_leRF65, dl_ltLT65, dl_ltLF65, dl_ltRT65, dl_ltRF65, dl_eqRT65, dl_eqRF65]
        exact H1 (I.mp (by omega))
theorem dl_ya40 (post : SY → Prop) (J27 : Int32 → Int32 → (Nat → Int32) → (Nat → Int32) → (Nat → Int32) → (Nat → Int32) → (Nat → Int32) → (Nat → Int32) → (Nat → Int32) → (Nat → Int32) → (Nat → Int32) → (Nat → Int32) → Prop) (B : dl_Bs C L ol T cnt K S D N) (hF : ∀ c, c < cnt → F c < 2147483648) {a r c0 : Nat} (hc0 : c0 ≤ cnt) (ha : a ≤ cnt)
    (h0 : ∀ d, d < c0 → ¬ (F d = 1 ∧ mk d = 0 ∧ ∀ x, x < cnt → F x = 1 → mk x = 0 → ¬ dl_R cnt K S D N x d)) (h1 : c0 < cnt → (F c0 = 1 ∧ mk c0 = 0 ∧ ∀ x, x < cnt → F x = 1 → mk x = 0 → ¬ dl_R cnt K S D N x c0))
    (Hn : c0 = cnt → J27 (nI a) (nI (r + 1)) old nxt (dl_A K) (dl_A S) (dl_A D) (dl_A N) dat (dl_A F) (dl_A P) mk) (Hp : c0 < cnt → a < cnt ∧ J27 (nI (a + 1)) (nI (r + 1)) old nxt (dl_A K) (dl_A S) (dl_A D) (dl_A N) dat (dl_A F) (dl_A (dl_u P a c0)) (upd mk c0 1)) :
    ∀ f c v, c ≤ cnt → cnt - c < f → ((c ≤ c0 ∧ v = -1) ∨ (c0 < c ∧ v = nI c0)) → wY_arrange_40 post J27 (nI a) (nI r) (nI C) (nI L) (nI ph) (nI ol) (nI T) (nI cnt) (nI dy) old nxt (dl_A K) (dl_A S) (dl_A D) (dl_A N) dat (dl_A F) (dl_A P) mk f v (nI c) := by
  intro f
  have B' := B
  obtain ⟨b1, b2, b3, b4, b5, b6, b7, b8⟩ := B'
  have m1 : ((-1 : Int32) < 0) = True := by decide
  induction f with
  | zero => intro c v _ h; omega
  | succ f ih =>
    intro c v k1 k2 I
    rcases Nat.lt_or_ge c cnt with z | z
    · have hf := hF c z
      have nofree : ¬ (F c = 1 ∧ mk c = 0 ∧ ∀ x, x < cnt → F x = 1 → mk x = 0 → ¬ dl_R cnt K S D N x c) → wY_arrange_40 post J27 (nI a) (nI r) (nI C) (nI L) (nI ph) (nI ol) (nI T) (nI cnt) (nI dy) old nxt (dl_A K) (dl_A S) (dl_A D) (dl_A N) dat (dl_A F) (dl_A P) mk f v (nI (c + 1)) := fun o => ih (c + 1) v z (by omega) (by
        rcases I with I | I
        · have ne : c ≠ c0 := fun e => o (by have := h1 (by omega); rw [← e] at this; exact this)
          exact Or.inl ⟨by omega, I.2⟩
        · exact Or.inr ⟨by omega, I.2⟩)
      have free : (F c = 1 ∧ mk c = 0 ∧ ∀ x, x < cnt → F x = 1 → mk x = 0 → ¬ dl_R cnt K S D N x c) → ((0 ≤ v → wY_arrange_40 post J27 (nI a) (nI r) (nI C) (nI L) (nI ph) (nI ol) (nI T) (nI cnt) (nI dy) old nxt (dl_A K) (dl_A S) (dl_A D) (dl_A N) dat (dl_A F) (dl_A P) mk f v (nI (c + 1))) ∧ (¬ 0 ≤ v → wY_arrange_40 post J27 (nI a) (nI r) (nI C) (nI L) (nI ph) (nI ol) (nI T) (nI cnt) (nI dy) old nxt (dl_A K) (dl_A S) (dl_A D) (dl_A N) dat (dl_A F) (dl_A P) mk f (nI c) (nI (c + 1)))) := fun o => by
        rcases I with ⟨I1, I2⟩ | ⟨I1, I2⟩
        · have e : c = c0 := by
            rcases Nat.lt_or_ge c c0 with w | w
            · exact absurd o (h0 c w)
            · omega
          rw [I2]
          refine br_f (by decide) (ih (c + 1) _ z (by omega) (Or.inr ⟨by omega, by rw [e]⟩))
        · rw [I2]
          exact br_t (nI_pos' (by omega)) (ih (c + 1) _ z (by omega) (Or.inr ⟨by omega, rfl⟩))
      by_cases f1 : F c = 1
      · by_cases m0 : mk c = 0
        · simp (disch := omega) only [wY_arrange_40, nI_clamp, dl_Ar, dl_Au, dl_leT, dl_leF, dl_ltT, dl_ltF, dl_eqT, dl_eqF, nI_add, nI_1, dl_inT, dl_sub, dl_sub1, dl_subm1, forall_eq, true_implies, false_implies, not_true, not_false_iff, true_and, and_true, dl_leLT0, dl_leLF0, dl_leRT0, dl_leRF0, dl_ltLT0, dl_ltLF0, dl_ltRT0, dl_ltRF0, dl_eqRT0, dl_eqRF0, dl_leLT1, dl_leLF1, dl_leRT1, dl_leRF1, dl_ltLT1, dl_ltLF1, dl_ltRT1, dl_ltRF1, dl_eqRT1, dl_eqRF1, dl_leLT2, dl_leLF2, dl_leRT2, dl_leRF2, dl_ltLT2, dl_ltLF2, dl_ltRT2, dl_ltRF2, dl_eqRT2, dl_eqRF2, dl_leLT3, dl_leLF3, dl_leRT3, dl_leRF3, dl_ltLT3, dl_ltLF3, dl_ltRT3, dl_ltRF3, dl_eqRT3, dl_eqRF3, dl_leLT8, dl_leLF8, dl_leRT8, dl_leRF8, dl_ltLT8, dl_ltLF8, dl_ltRT8, dl_ltRF8, dl_eqRT8, dl_eqRF8, dl_leLT9, dl_leLF9, dl_leRT9, dl_leRF9, dl_ltLT9, dl_ltLF9, dl_ltRT9, dl_ltRF9, dl_eqRT9, dl_eqRF9, dl_leLT16, dl_leLF16, dl_leRT16, dl_leRF16, dl_ltLT16, dl_ltLF16, dl_ltRT16, dl_ltRF16, dl_eqRT16, dl_eqRF16, dl_leLT64, dl_leLF64, dl_leRT64, dl_leRF64, dl_ltLT64, dl_ltLF64, dl_ltRT64, dl_ltRF64, dl_eqRT64, dl_eqRF64, dl_leLT65, dl_leLF65, dl_leRT65, dl_leRF65, dl_ltLT65, dl_ltLF65, dl_ltRT65, dl_ltRF65, dl_eqRT65, dl_eqRF65, m0]
          refine ⟨cnt + 1, dl_ya80 post J27 _ B hF z (fr := 1) (fun w => nofree (fun o => w ⟨rfl, o.2.2⟩)) (fun w => free ⟨f1, m0, w.2⟩) _ 0 1 (by omega) (by omega) (by omega) ⟨fun _ => ⟨rfl, fun x' h => by omega⟩, fun _ => rfl⟩⟩
        · simp (disch := omega) only [wY_arrange_40, nI_clamp, dl_Ar, dl_Au, dl_leT, dl_leF, dl_ltT, dl_ltF, dl_eqT, dl_eqF, nI_add, nI_1, dl_inT, dl_sub, dl_sub1, dl_subm1, forall_eq, true_implies, false_implies, not_true, not_false_iff, true_and, and_true, dl_leLT0, dl_leLF0, dl_leRT0, dl_leRF0, dl_ltLT0, dl_ltLF0, dl_ltRT0, dl_ltRF0, dl_eqRT0, dl_eqRF0, dl_leLT1, dl_leLF1, dl_leRT1, dl_leRF1, dl_ltLT1, dl_ltLF1, dl_ltRT1, dl_ltRF1, dl_eqRT1, dl_eqRF1, dl_leLT2, dl_leLF2, dl_leRT2, dl_leRF2, dl_ltLT2, dl_ltLF2, dl_ltRT2, dl_ltRF2, dl_eqRT2, dl_eqRF2, dl_leLT3, dl_leLF3, dl_leRT3, dl_leRF3, dl_ltLT3, dl_ltLF3, dl_ltRT3, dl_ltRF3, dl_eqRT3, dl_eqRF3, dl_leLT8, dl_leLF8, dl_leRT8, dl_leRF8, dl_ltLT8, dl_ltLF8, dl_ltRT8, dl_ltRF8, dl_eqRT8, dl_eqRF8, dl_leLT9, dl_leLF9, dl_leRT9, dl_leRF9, dl_ltLT9, dl_ltLF9, dl_ltRT9, dl_ltRF9, dl_eqRT9, dl_eqRF9, dl_leLT16, dl_leLF16, dl_leRT16, dl_leRF16, dl_ltLT16, dl_ltLF16, dl_ltRT16, dl_ltRF16, dl_eqRT16, dl_eqRF16, dl_leLT64, dl_leLF64, dl_leRT64, dl_leRF64, dl_ltLT64, dl_ltLF64, dl_ltRT64, dl_ltRF64, dl_eqRT64, dl_eqRF64, dl_leLT65, dl_leLF65, dl_leRT65, dl_leRF65, dl_ltLT65, dl_ltLF65, dl_ltRT65, dl_ltRF65, dl_eqRT65, dl_eqRF65, m0]
          refine ⟨cnt + 1, dl_ya80 post J27 _ B hF z (fr := 0) (fun w => nofree (fun o => m0 o.2.1)) (fun w => absurd w.1 (by decide)) _ 0 0 (by omega) (by omega) (by omega) ⟨fun w => absurd w (by decide), fun w => absurd w.1 (by decide)⟩⟩
      · simp (disch := omega) only [wY_arrange_40, nI_clamp, dl_Ar, dl_Au, dl_leT, dl_leF, dl_ltT, dl_ltF, dl_eqT, dl_eqF, nI_add, nI_1, dl_inT, dl_sub, dl_sub1, dl_subm1, forall_eq, true_implies, false_implies, not_true, not_false_iff, true_and, and_true, dl_leLT0, dl_leLF0, dl_leRT0, dl_leRF0, dl_ltLT0, dl_ltLF0, dl_ltRT0, dl_ltRF0, dl_eqRT0, dl_eqRF0, dl_leLT1, dl_leLF1, dl_leRT1, dl_leRF1, dl_ltLT1, dl_ltLF1, dl_ltRT1, dl_ltRF1, dl_eqRT1, dl_eqRF1, dl_leLT2, dl_leLF2, dl_leRT2, dl_leRF2, dl_ltLT2, dl_ltLF2, dl_ltRT2, dl_ltRF2, dl_eqRT2, dl_eqRF2, dl_leLT3, dl_leLF3, dl_leRT3, dl_leRF3, dl_ltLT3, dl_ltLF3, dl_ltRT3, dl_ltRF3, dl_eqRT3, dl_eqRF3, dl_leLT8, dl_leLF8, dl_leRT8, dl_leRF8, dl_ltLT8, dl_ltLF8, dl_ltRT8, dl_ltRF8, dl_eqRT8, dl_eqRF8, dl_leLT9, dl_leLF9, dl_leRT9, dl_leRF9, dl_ltLT9, dl_ltLF9, dl_ltRT9, dl_ltRF9, dl_eqRT9, dl_eqRF9, dl_leLT16, dl_leLF16, dl_leRT16, dl_leRF16, dl_ltLT16, dl_ltLF16, dl_ltRT16, dl_ltRF16, dl_eqRT16, dl_eqRF16, dl_leLT64, dl_leLF64, dl_leRT64, dl_leRF64, dl_ltLT64, dl_ltLF64, dl_ltRT64, dl_ltRF64, dl_eqRT64, dl_eqRF64, dl_leLT65, dl_leLF65, dl_leRT65, dl_leRF65, dl_ltLT65, dl_ltLF65, dl_ltRT65, dl_ltRF65, dl_eqRT65, dl_eqRF65]
        refine ⟨cnt + 1, dl_ya80 post J27 _ B hF z (fr := 0) (fun w => nofree (fun o => f1 o.1)) (fun w => absurd w.1 (by decide)) _ 0 0 (by omega) (by omega) (by omega) ⟨fun w => absurd w (by decide), fun w => absurd w.1 (by decide)⟩⟩
    · have e : c = cnt := by omega
      rcases I with ⟨I1, I2⟩ | ⟨I1, I2⟩
      · subst I2
        simp (disch := omega) only [wY_arrange_40, nI_clamp, dl_Ar, dl_Au, dl_leT, dl_leF, dl_ltT, dl_ltF, dl_eqT, dl_eqF, nI_add, nI_1, dl_inT, dl_sub, dl_sub1, dl_subm1, forall_eq, true_implies, false_implies, not_true, not_false_iff, true_and, and_true, dl_leLT0, dl_leLF0, dl_leRT0, dl_leRF0, dl_ltLT0, dl_ltLF0, dl_ltRT0, dl_ltRF0, dl_eqRT0, dl_eqRF0, dl_leLT1, dl_leLF1, dl_leRT1, dl_leRF1, dl_ltLT1, dl_ltLF1, dl_ltRT1, dl_ltRF1, dl_eqRT1, dl_eqRF1, dl_leLT2, dl_leLF2, dl_leRT2, dl_leRF2, dl_ltLT2, dl_ltLF2, dl_ltRT2, dl_ltRF2, dl_eqRT2, dl_eqRF2, dl_leLT3, dl_leLF3, dl_leRT3, dl_leRF3, dl_ltLT3, dl_ltLF3, dl_ltRT3, dl_ltRF3, dl_eqRT3, dl_eqRF3, dl_leLT8, dl_leLF8, dl_leRT8, dl_leRF8, dl_ltLT8, dl_ltLF8, dl_ltRT8, dl_ltRF8, dl_eqRT8, dl_eqRF8, dl_leLT9, dl_leLF9, dl_leRT9, dl_leRF9, dl_ltLT9, dl_ltLF9, dl_ltRT9, dl_ltRF9, dl_eqRT9, dl_eqRF9, dl_leLT16, dl_leLF16, dl_leRT16, dl_leRF16, dl_ltLT16, dl_ltLF16, dl_ltRT16, dl_ltRF16, dl_eqRT16, dl_eqRF16, dl_leLT64, dl_leLF64, dl_leRT64, dl_leRF64, dl_ltLT64, dl_ltLF64, dl_ltRT64, dl_ltRF64, dl_eqRT64, dl_eqRF64, dl_leLT65, dl_leLF65, dl_leRT65, dl_leRF65, dl_ltLT65, dl_ltLF65, dl_ltRT65, dl_ltRF65, dl_eqRT65, dl_eqRF65, m1]
        exact Hn (by omega)
      · subst I2
        have hp := Hp (by omega)
        have := hp.1
        simp (disch := omega) only [wY_arrange_40, nI_clamp, dl_Ar, dl_Au, dl_leT, dl_leF, dl_ltT, dl_ltF, dl_eqT, dl_eqF, nI_add, nI_1, dl_inT, dl_sub, dl_sub1, dl_subm1, forall_eq, true_implies, false_implies, not_true, not_false_iff, true_and, and_true, dl_leLT0, dl_leLF0, dl_leRT0, dl_leRF0, dl_ltLT0, dl_ltLF0, dl_ltRT0, dl_ltRF0, dl_eqRT0, dl_eqRF0, dl_leLT1, dl_leLF1, dl_leRT1, dl_leRF1, dl_ltLT1, dl_ltLF1, dl_ltRT1, dl_ltRF1, dl_eqRT1, dl_eqRF1, dl_leLT2, dl_leLF2, dl_leRT2, dl_leRF2, dl_ltLT2, dl_ltLF2, dl_ltRT2, dl_ltRF2, dl_eqRT2, dl_eqRF2, dl_leLT3, dl_leLF3, dl_leRT3, dl_leRF3, dl_ltLT3, dl_ltLF3, dl_ltRT3, dl_ltRF3, dl_eqRT3, dl_eqRF3, dl_leLT8, dl_leLF8, dl_leRT8, dl_leRF8, dl_ltLT8, dl_ltLF8, dl_ltRT8, dl_ltRF8, dl_eqRT8, dl_eqRF8, dl_leLT9, dl_leLF9, dl_leRT9, dl_leRF9, dl_ltLT9, dl_ltLF9, dl_ltRT9, dl_ltRF9, dl_eqRT9, dl_eqRF9, dl_leLT16, dl_leLF16, dl_leRT16, dl_leRF16, dl_ltLT16, dl_ltLF16, dl_ltRT16, dl_ltRF16, dl_eqRT16, dl_eqRF16, dl_leLT64, dl_leLF64, dl_leRT64, dl_leRF64, dl_ltLT64, dl_ltLF64, dl_ltRT64, dl_ltRF64, dl_eqRT64, dl_eqRF64, dl_leLT65, dl_leLF65, dl_leRT65, dl_leRF65, dl_ltLT65, dl_ltLF65, dl_ltRT65, dl_ltRF65, dl_eqRT65, dl_eqRF65, dl_nb1]
        exact hp.2
theorem dl_ya195 (post : SY → Prop) (J : Int32 → Int32 → (Nat → Int32) → (Nat → Int32) → (Nat → Int32) → (Nat → Int32) → (Nat → Int32) → (Nat → Int32) → (Nat → Int32) → (Nat → Int32) → (Nat → Int32) → (Nat → Int32) → Prop) (B : dl_Bs C L ol T cnt K S D N) (hF : ∀ c, c < cnt → F c < 2147483648) {R : Nat → Nat → Prop} {π ρ : Nat → Nat} {m : Nat} (Pi : dl_Pi cnt R D F π ρ m) {p : Nat} (hp : p < C)
    (H : ∀ a P', m ≤ a → a ≤ cnt → (∀ t, m ≤ t → t < cnt → (t < a ↔ D (π t) < p + 1)) → (∀ t, t < a → P' t = π t) → J (nI a) (nI (p + 1)) old nxt (dl_A K) (dl_A S) (dl_A D) (dl_A N) dat (dl_A F) (dl_A P') mk) :
    ∀ f c a P', c ≤ cnt → cnt - c < f → m ≤ a → a ≤ cnt → (∀ t, m ≤ t → t < cnt → (t < a ↔ (D (π t) < p ∨ (D (π t) = p ∧ π t < c)))) → (∀ t, t < a → P' t = π t) → wY_arrange_195 post J (nI p) (nI C) (nI L) (nI ph) (nI ol) (nI T) (nI cnt) (nI dy) f (nI a) (nI c) old nxt (dl_A K) (dl_A S) (dl_A D) (dl_A N) dat (dl_A F) (dl_A P') mk := by
  intro f
  have B' := B
  obtain ⟨b1, b2, b3, b4, b5, b6, b7, b8⟩ := B'
  obtain ⟨p1, p2, p3, p4, p5, p6⟩ := Pi
  induction f with
  | zero => intro c a P' _ h; omega
  | succ f ih =>
    intro c a P' h1 h2 ma ac I Q
    rcases Nat.lt_or_ge c cnt with z | z
    · have hf := hF c z
      have hd := (b8 c z).2.1
      have skip : (F c = 1 ∨ ¬ D c = p) → wY_arrange_195 post J (nI p) (nI C) (nI L) (nI ph) (nI ol) (nI T) (nI cnt) (nI dy) f (nI a) (nI (c + 1)) old nxt (dl_A K) (dl_A S) (dl_A D) (dl_A N) dat (dl_A F) (dl_A P') mk := fun o => ih (c + 1) a P' z (by omega) ma ac (fun t t1 t2 => (I t t1 t2).trans ⟨fun w => by omega, fun w => by
        by_cases e : π t = c
        · have := p5 t t1 t2
          rw [e] at this w ⊢
          omega
        · omega⟩) Q
      by_cases f1 : F c = 1
      · simp (disch := omega) only [wY_arrange_195, nI_clamp, dl_Ar, dl_Au, dl_leT, dl_leF, dl_ltT, dl_ltF, dl_eqT, dl_eqF, nI_add, nI_1, dl_inT, dl_sub, dl_sub1, dl_subm1, forall_eq, true_implies, false_implies, not_true, not_false_iff, true_and, and_true, dl_leLT0, dl_leLF0, dl_leRT0, dl_leRF0, dl_ltLT0, dl_ltLF0, dl_ltRT0, dl_ltRF0, dl_eqRT0, dl_eqRF0, dl_leLT1, dl_leLF1, dl_leRT1, dl_leRF1, dl_ltLT1, dl_ltLF1, dl_ltRT1, dl_ltRF1, dl_eqRT1, dl_eqRF1, dl_leLT2, dl_leLF2, dl_leRT2, dl_leRF2, dl_ltLT2, dl_ltLF2, dl_ltRT2, dl_ltRF2, dl_eqRT2, dl_eqRF2, dl_leLT3, dl_leLF3, dl_leRT3, dl_leRF3, dl_ltLT3, dl_ltLF3, dl_ltRT3, dl_ltRF3, dl_eqRT3, dl_eqRF3, dl_leLT8, dl_leLF8, dl_leRT8, dl_leRF8, dl_ltLT8, dl_ltLF8, dl_ltRT8, dl_ltRF8, dl_eqRT8, dl_eqRF8, dl_leLT9, dl_leLF9, dl_leRT9, dl_leRF9, dl_ltLT9, dl_ltLF9, dl_ltRT9, dl_ltRF9, dl_eqRT9, dl_eqRF9, dl_leLT16, dl_leLF16, dl_leRT16, dl_leRF16, dl_ltLT16, dl_ltLF16, dl_ltRT16, dl_ltRF16, dl_eqRT16, dl_eqRF16, dl_leLT64, dl_leLF64, dl_leRT64, dl_leRF64, dl_ltLT64, dl_ltLF64, dl_ltRT64, dl_ltRF64, dl_eqRT64, dl_eqRF64, dl_leLT65, dl_leLF65, dl_leRT65, dl_leRF65, dl_ltLT65, dl_ltLF65, dl_ltRT65, dl_ltRF65, dl_eqRT65, dl_eqRF65]
        exact skip (Or.inl f1)
      · by_cases e : D c = p
        · obtain ⟨q1, q2⟩ := p2 c z
          have qm : m ≤ ρ c := by
            rcases Nat.lt_or_ge (ρ c) m with w | w
            · have := (p4 (ρ c) w).1.2.1
              rw [q2] at this; exact absurd this f1
            · exact w
          have ia := I (ρ c) qm q1
          rw [q2] at ia
          have ge : a ≤ ρ c := by omega
          have eq : ρ c = a := by
            rcases Nat.lt_or_ge a (ρ c) with w | w
            · have := p6 a (ρ c) ma w q1
              rw [q2] at this
              have := (I a ma (by omega)).mpr (Or.inl (by omega))
              omega
            · omega
          have lt : a < cnt := by omega
          rw [eq] at q2
          simp (disch := omega) only [wY_arrange_195, nI_clamp, dl_Ar, dl_Au, dl_leT, dl_leF, dl_ltT, dl_ltF, dl_eqT, dl_eqF, nI_add, nI_1, dl_inT, dl_sub, dl_sub1, dl_subm1, forall_eq, true_implies, false_implies, not_true, not_false_iff, true_and, and_true, dl_leLT0, dl_leLF0, dl_leRT0, dl_leRF0, dl_ltLT0, dl_ltLF0, dl_ltRT0, dl_ltRF0, dl_eqRT0, dl_eqRF0, dl_leLT1, dl_leLF1, dl_leRT1, dl_leRF1, dl_ltLT1, dl_ltLF1, dl_ltRT1, dl_ltRF1, dl_eqRT1, dl_eqRF1, dl_leLT2, dl_leLF2, dl_leRT2, dl_leRF2, dl_ltLT2, dl_ltLF2, dl_ltRT2, dl_ltRF2, dl_eqRT2, dl_eqRF2, dl_leLT3, dl_leLF3, dl_leRT3, dl_leRF3, dl_ltLT3, dl_ltLF3, dl_ltRT3, dl_ltRF3, dl_eqRT3, dl_eqRF3, dl_leLT8, dl_leLF8, dl_leRT8, dl_leRF8, dl_ltLT8, dl_ltLF8, dl_ltRT8, dl_ltRF8, dl_eqRT8, dl_eqRF8, dl_leLT9, dl_leLF9, dl_leRT9, dl_leRF9, dl_ltLT9, dl_ltLF9, dl_ltRT9, dl_ltRF9, dl_eqRT9, dl_eqRF9, dl_leLT16, dl_leLF16, dl_leRT16, dl_leRF16, dl_ltLT16, dl_ltLF16, dl_ltRT16, dl_ltRF16, dl_eqRT16, dl_eqRF16, dl_leLT64, dl_leLF64, dl_leRT64, dl_leRF64, dl_ltLT64, dl_ltLF64, dl_ltRT64, dl_ltRF64, dl_eqRT64, dl_eqRF64, dl_leLT65, dl_leLF65, dl_leRT65, dl_leRF65, dl_ltLT65, dl_ltLF65, dl_ltRT65, dl_ltRF65, dl_eqRT65, dl_eqRF65]
          refine ih (c + 1) (a + 1) _ z (by omega) (by omega) lt (fun t t1 t2 => ?_) (fun t ht => ?_)
          · have It := I t t1 t2
            by_cases w : t = a
            · rw [w, q2]; omega
            · have nc : π t ≠ c := fun v => by
                have := (p1 t t2).2
                rw [v, eq] at this; omega
              omega
          · by_cases w : t = a
            · rw [w, dl_us, q2]
            · rw [dl_un w]; exact Q t (by omega)
        · simp (disch := omega) only [wY_arrange_195, nI_clamp, dl_Ar, dl_Au, dl_leT, dl_leF, dl_ltT, dl_ltF, dl_eqT, dl_eqF, nI_add, nI_1, dl_inT, dl_sub, dl_sub1, dl_subm1, forall_eq, true_implies, false_implies, not_true, not_false_iff, true_and, and_true, dl_leLT0, dl_leLF0, dl_leRT0, dl_leRF0, dl_ltLT0, dl_ltLF0, dl_ltRT0, dl_ltRF0, dl_eqRT0, dl_eqRF0, dl_leLT1, dl_leLF1, dl_leRT1, dl_leRF1, dl_ltLT1, dl_ltLF1, dl_ltRT1, dl_ltRF1, dl_eqRT1, dl_eqRF1, dl_leLT2, dl_leLF2, dl_leRT2, dl_leRF2, dl_ltLT2, dl_ltLF2, dl_ltRT2, dl_ltRF2, dl_eqRT2, dl_eqRF2, dl_leLT3, dl_leLF3, dl_leRT3, dl_leRF3, dl_ltLT3, dl_ltLF3, dl_ltRT3, dl_ltRF3, dl_eqRT3, dl_eqRF3, dl_leLT8, dl_leLF8, dl_leRT8, dl_leRF8, dl_ltLT8, dl_ltLF8, dl_ltRT8, dl_ltRF8, dl_eqRT8, dl_eqRF8, dl_leLT9, dl_leLF9, dl_leRT9, dl_leRF9, dl_ltLT9, dl_ltLF9, dl_ltRT9, dl_ltRF9, dl_eqRT9, dl_eqRF9, dl_leLT16, dl_leLF16, dl_leRT16, dl_leRF16, dl_ltLT16, dl_ltLF16, dl_ltRT16, dl_ltRF16, dl_eqRT16, dl_eqRF16, dl_leLT64, dl_leLF64, dl_leRT64, dl_leRF64, dl_ltLT64, dl_ltLF64, dl_ltRT64, dl_ltRF64, dl_eqRT64, dl_eqRF64, dl_leLT65, dl_leLF65, dl_leRT65, dl_leRF65, dl_ltLT65, dl_ltLF65, dl_ltRT65, dl_ltRF65, dl_eqRT65, dl_eqRF65]
          exact skip (Or.inr e)
    · have e : c = cnt := by omega
      simp (disch := omega) only [wY_arrange_195, nI_clamp, dl_Ar, dl_Au, dl_leT, dl_leF, dl_ltT, dl_ltF, dl_eqT, dl_eqF, nI_add, nI_1, dl_inT, dl_sub, dl_sub1, dl_subm1, forall_eq, true_implies, false_implies, not_true, not_false_iff, true_and, and_true, dl_leLT0, dl_leLF0, dl_leRT0, dl_leRF0, dl_ltLT0, dl_ltLF0, dl_ltRT0, dl_ltRF0, dl_eqRT0, dl_eqRF0, dl_leLT1, dl_leLF1, dl_leRT1, dl_leRF1, dl_ltLT1, dl_ltLF1, dl_ltRT1, dl_ltRF1, dl_eqRT1, dl_eqRF1, dl_leLT2, dl_leLF2, dl_leRT2, dl_leRF2, dl_ltLT2, dl_ltLF2, dl_ltRT2, dl_ltRF2, dl_eqRT2, dl_eqRF2, dl_leLT3, dl_leLF3, dl_leRT3, dl_leRF3, dl_ltLT3, dl_ltLF3, dl_ltRT3, dl_ltRF3, dl_eqRT3, dl_eqRF3, dl_leLT8, dl_leLF8, dl_leRT8, dl_leRF8, dl_ltLT8, dl_ltLF8, dl_ltRT8, dl_ltRF8, dl_eqRT8, dl_eqRF8, dl_leLT9, dl_leLF9, dl_leRT9, dl_leRF9, dl_ltLT9, dl_ltLF9, dl_ltRT9, dl_ltRF9, dl_eqRT9, dl_eqRF9, dl_leLT16, dl_leLF16, dl_leRT16, dl_leRF16, dl_ltLT16, dl_ltLF16, dl_ltRT16, dl_ltRF16, dl_eqRT16, dl_eqRF16, dl_leLT64, dl_leLF64, dl_leRT64, dl_leRF64, dl_ltLT64, dl_ltLF64, dl_ltRT64, dl_ltRF64, dl_eqRT64, dl_eqRF64, dl_leLT65, dl_leLF65, dl_leRT65, dl_leRF65, dl_ltLT65, dl_ltLF65, dl_ltRT65, dl_ltRF65, dl_eqRT65, dl_eqRF65]
      refine H a P' ma ac (fun t t1 t2 => (I t t1 t2).trans ?_) Q
      have := (p1 t t2).1
      omega
theorem dl_yar (post : SY → Prop) (B : dl_Bs C L ol T cnt K S D N) (hF : ∀ c, c < cnt → F c < 2147483648) {π ρ : Nat → Nat} {m : Nat} (Pi : dl_Pi cnt (dl_R cnt K S D N) D F π ρ m)
    (H : ∀ P' mk', (∀ t, t < cnt → P' t = π t) → post (nI C, nI L, nI ph, nI ol, nI T, nI cnt, nI dy, old, nxt, dl_A K, dl_A S, dl_A D, dl_A N, dat, dl_A F, dl_A P', mk')) : wpY_arrange post (nI C, nI L, nI ph, nI ol, nI T, nI cnt, nI dy, old, nxt, dl_A K, dl_A S, dl_A D, dl_A N, dat, dl_A F, dl_A P, mk) := by
  have B' := B
  have Pi' := Pi
  obtain ⟨b1, b2, b3, b4, b5, b6, b7, b8⟩ := B'
  obtain ⟨p1, p2, p3, p4, p5, p6⟩ := Pi'
  have k185 : ∀ mk', ∀ f p a P', p ≤ C → C - p < f → m ≤ a → a ≤ cnt → (∀ t, m ≤ t → t < cnt → (t < a ↔ D (π t) < p)) → (∀ t, t < a → P' t = π t) → wY_arrange_185 post (nI C) (nI L) (nI ph) (nI ol) (nI T) (nI cnt) (nI dy) f (nI a) (nI p) old nxt (dl_A K) (dl_A S) (dl_A D) (dl_A N) dat (dl_A F) (dl_A P') mk' := by
    intro mk' f
    induction f with
    | zero => intro p a P' _ h; omega
    | succ f ih =>
      intro p a P' h1 h2 ma ac I Q
      rcases Nat.lt_or_ge p C with z | z
      · simp (disch := omega) only [wY_arrange_185, nI_clamp, dl_Ar, dl_Au, dl_leT, dl_leF, dl_ltT, dl_ltF, dl_eqT, dl_eqF, nI_add, nI_1, dl_inT, dl_sub, dl_sub1, dl_subm1, forall_eq, true_implies, false_implies, not_true, not_false_iff, true_and, and_true, dl_leLT0, dl_leLF0, dl_leRT0, dl_leRF0, dl_ltLT0, dl_ltLF0, dl_ltRT0, dl_ltRF0, dl_eqRT0, dl_eqRF0, dl_leLT1, dl_leLF1, dl_leRT1, dl_leRF1, dl_ltLT1, dl_ltLF1, dl_ltRT1, dl_ltRF1, dl_eqRT1, dl_eqRF1, dl_leLT2, dl_leLF2, dl_leRT2, dl_leRF2, dl_ltLT2, dl_ltLF2, dl_ltRT2, dl_ltRF2, dl_eqRT2, dl_eqRF2, dl_leLT3, dl_leLF3, dl_leRT3, dl_leRF3, dl_ltLT3, dl_ltLF3, dl_ltRT3, dl_ltRF3, dl_eqRT3, dl_eqRF3, dl_leLT8, dl_leLF8, dl_leRT8, dl_leRF8, dl_ltLT8, dl_ltLF8, dl_ltRT8, dl_ltRF8, dl_eqRT8, dl_eqRF8, dl_leLT9, dl_leLF9, dl_leRT9, dl_leRF9, dl_ltLT9, dl_ltLF9, dl_ltRT9, dl_ltRF9, dl_eqRT9, dl_eqRF9, dl_leLT16, dl_leLF16, dl_leRT16, dl_leRF16, dl_ltLT16, dl_ltLF16, dl_ltRT16, dl_ltRF16, dl_eqRT16, dl_eqRF16, dl_leLT64, dl_leLF64, dl_leRT64, dl_leRF64, dl_ltLT64, dl_ltLF64, dl_ltRT64, dl_ltRF64, dl_eqRT64, dl_eqRF64, dl_leLT65, dl_leLF65, dl_leRT65, dl_leRF65, dl_ltLT65, dl_ltLF65, dl_ltRT65, dl_ltRF65, dl_eqRT65, dl_eqRF65]
        refine ⟨cnt + 1, dl_ya195 post _ B hF Pi z (fun a2 P2 m2 c2 I2 Q2 => ih (p + 1) a2 P2 z (by omega) m2 c2 I2 Q2) _ 0 a P' (by omega) (by omega) ma ac (fun t t1 t2 => (I t t1 t2).trans (by omega)) Q⟩
      · have e : p = C := by omega
        simp (disch := omega) only [wY_arrange_185, nI_clamp, dl_Ar, dl_Au, dl_leT, dl_leF, dl_ltT, dl_ltF, dl_eqT, dl_eqF, nI_add, nI_1, dl_inT, dl_sub, dl_sub1, dl_subm1, forall_eq, true_implies, false_implies, not_true, not_false_iff, true_and, and_true, dl_leLT0, dl_leLF0, dl_leRT0, dl_leRF0, dl_ltLT0, dl_ltLF0, dl_ltRT0, dl_ltRF0, dl_eqRT0, dl_eqRF0, dl_leLT1, dl_leLF1, dl_leRT1, dl_leRF1, dl_ltLT1, dl_ltLF1, dl_ltRT1, dl_ltRF1, dl_eqRT1, dl_eqRF1, dl_leLT2, dl_leLF2, dl_leRT2, dl_leRF2, dl_ltLT2, dl_ltLF2, dl_ltRT2, dl_ltRF2, dl_eqRT2, dl_eqRF2, dl_leLT3, dl_leLF3, dl_leRT3, dl_leRF3, dl_ltLT3, dl_ltLF3, dl_ltRT3, dl_ltRF3, dl_eqRT3, dl_eqRF3, dl_leLT8, dl_leLF8, dl_leRT8, dl_leRF8, dl_ltLT8, dl_ltLF8, dl_ltRT8, dl_ltRF8, dl_eqRT8, dl_eqRF8, dl_leLT9, dl_leLF9, dl_leRT9, dl_leRF9, dl_ltLT9, dl_ltLF9, dl_ltRT9, dl_ltRF9, dl_eqRT9, dl_eqRF9, dl_leLT16, dl_leLF16, dl_leRT16, dl_leRF16, dl_ltLT16, dl_ltLF16, dl_ltRT16, dl_ltRF16, dl_eqRT16, dl_eqRF16, dl_leLT64, dl_leLF64, dl_leRT64, dl_leRF64, dl_ltLT64, dl_ltLF64, dl_ltRT64, dl_ltRF64, dl_eqRT64, dl_eqRF64, dl_leLT65, dl_leLF65, dl_leRT65, dl_leRF65, dl_ltLT65, dl_ltLF65, dl_ltRT65, dl_ltRF65, dl_eqRT65, dl_eqRF65]
        have ea : a = cnt := by
          rcases Nat.lt_or_ge a cnt with w | w
          · have g1 := (b8 (π a) (p1 a w).1).1
            have g2 := (b8 (π a) (p1 a w).1).2.1
            have := (I a ma w).mpr (by omega)
            omega
          · omega
        rw [ea] at Q
        exact H P' mk' Q
  have k27 : ∀ f r t P' mk', r ≤ cnt → cnt - r < f → t ≤ m → (t = r ∨ (t = m ∧ m ≤ r)) → (∀ c, c < cnt → (mk' c = 0 ↔ ∀ s, s < t → π s ≠ c)) → (∀ s, s < t → P' s = π s) → wY_arrange_27 post (nI C) (nI L) (nI ph) (nI ol) (nI T) (nI cnt) (nI dy) f (nI t) (nI r) old nxt (dl_A K) (dl_A S) (dl_A D) (dl_A N) dat (dl_A F) (dl_A P') mk' := by
    intro f
    induction f with
    | zero => intro r t P' mk' _ h; omega
    | succ f ih =>
      intro r t P' mk' h1 h2 tm tr I Q
      rcases Nat.lt_or_ge r cnt with z | z
      · simp (disch := omega) only [wY_arrange_27, nI_clamp, dl_Ar, dl_Au, dl_leT, dl_leF, dl_ltT, dl_ltF, dl_eqT, dl_eqF, nI_add, nI_1, dl_inT, dl_sub, dl_sub1, dl_subm1, forall_eq, true_implies, false_implies, not_true, not_false_iff, true_and, and_true, dl_leLT0, dl_leLF0, dl_leRT0, dl_leRF0, dl_ltLT0, dl_ltLF0, dl_ltRT0, dl_ltRF0, dl_eqRT0, dl_eqRF0, dl_leLT1, dl_leLF1, dl_leRT1, dl_leRF1, dl_ltLT1, dl_ltLF1, dl_ltRT1, dl_ltRF1, dl_eqRT1, dl_eqRF1, dl_leLT2, dl_leLF2, dl_leRT2, dl_leRF2, dl_ltLT2, dl_ltLF2, dl_ltRT2, dl_ltRF2, dl_eqRT2, dl_eqRF2, dl_leLT3, dl_leLF3, dl_leRT3, dl_leRF3, dl_ltLT3, dl_ltLF3, dl_ltRT3, dl_ltRF3, dl_eqRT3, dl_eqRF3, dl_leLT8, dl_leLF8, dl_leRT8, dl_leRF8, dl_ltLT8, dl_ltLF8, dl_ltRT8, dl_ltRF8, dl_eqRT8, dl_eqRF8, dl_leLT9, dl_leLF9, dl_leRT9, dl_leRF9, dl_ltLT9, dl_ltLF9, dl_ltRT9, dl_ltRF9, dl_eqRT9, dl_eqRF9, dl_leLT16, dl_leLF16, dl_leRT16, dl_leRF16, dl_ltLT16, dl_ltLF16, dl_ltRT16, dl_ltRF16, dl_eqRT16, dl_eqRF16, dl_leLT64, dl_leLF64, dl_leRT64, dl_leRF64, dl_ltLT64, dl_ltLF64, dl_ltRT64, dl_ltRF64, dl_eqRT64, dl_eqRF64, dl_leLT65, dl_leLF65, dl_leRT65, dl_leRF65, dl_ltLT65, dl_ltLF65, dl_ltRT65, dl_ltRF65, dl_eqRT65, dl_eqRF65]
        rcases Nat.lt_or_ge t m with w | w
        · obtain ⟨⟨l1, l2, l3⟩, l4, l5⟩ := p4 t w
          refine ⟨cnt + 1, dl_ya40 post _ B hF (c0 := π t) (a := t) (by omega) (by omega) (fun d hd o => ?_) (fun _ => ⟨l2, (I _ l1).mpr l3, fun x hx fx mx => l4 x ⟨hx, fx, (I x hx).mp mx⟩⟩) (fun e => by omega) (fun _ => ⟨by omega, ?_⟩) _ 0 (-1) (by omega) (by omega) (Or.inl ⟨Nat.zero_le _, rfl⟩)⟩
          · obtain ⟨x, ⟨x1, x2, x3⟩, x4⟩ := l5 d hd ⟨by omega, o.1, (I d (by omega)).mp o.2.1⟩
            exact o.2.2 x x1 x2 ((I x x1).mpr x3) x4
          · refine ih (r + 1) (t + 1) _ _ z (by omega) w (by omega) (fun c hc => ?_) (fun s hs => ?_)
            · by_cases e : c = π t
              · rw [e, pk_us]
                exact ⟨fun v => absurd v (by decide), fun v => absurd rfl (v t (by omega))⟩
              · rw [pk_un e, I c hc]
                refine ⟨fun v s hs => ?_, fun v s hs => v s (by omega)⟩
                by_cases es : s = t
                · rw [es]; exact fun u => e u.symm
                · exact v s (by omega)
            · by_cases es : s = t
              · rw [es, dl_us]
              · rw [dl_un es]; exact Q s (by omega)
        · have et : t = m := by omega
          refine ⟨cnt + 1, dl_ya40 post _ B hF (c0 := cnt) (a := t) (Nat.le_refl _) (by omega) (fun d hd o => ?_) (fun e => by omega) (fun _ => ?_) (fun e => by omega) _ 0 (-1) (by omega) (by omega) (Or.inl ⟨Nat.zero_le _, rfl⟩)⟩
          · obtain ⟨q1, q2⟩ := p2 d hd
            rcases Nat.lt_or_ge (ρ d) m with v | v
            · exact (I d hd).mp o.2.1 (ρ d) (by omega) q2
            · have := p5 (ρ d) v q1
              rw [q2] at this; exact this o.1
          · exact ih (r + 1) t P' mk' z (by omega) tm (by omega) I Q
      · have e : r = cnt := by omega
        simp (disch := omega) only [wY_arrange_27, nI_clamp, dl_Ar, dl_Au, dl_leT, dl_leF, dl_ltT, dl_ltF, dl_eqT, dl_eqF, nI_add, nI_1, dl_inT, dl_sub, dl_sub1, dl_subm1, forall_eq, true_implies, false_implies, not_true, not_false_iff, true_and, and_true, dl_leLT0, dl_leLF0, dl_leRT0, dl_leRF0, dl_ltLT0, dl_ltLF0, dl_ltRT0, dl_ltRF0, dl_eqRT0, dl_eqRF0, dl_leLT1, dl_leLF1, dl_leRT1, dl_leRF1, dl_ltLT1, dl_ltLF1, dl_ltRT1, dl_ltRF1, dl_eqRT1, dl_eqRF1, dl_leLT2, dl_leLF2, dl_leRT2, dl_leRF2, dl_ltLT2, dl_ltLF2, dl_ltRT2, dl_ltRF2, dl_eqRT2, dl_eqRF2, dl_leLT3, dl_leLF3, dl_leRT3, dl_leRF3, dl_ltLT3, dl_ltLF3, dl_ltRT3, dl_ltRF3, dl_eqRT3, dl_eqRF3, dl_leLT8, dl_leLF8, dl_leRT8, dl_leRF8, dl_ltLT8, dl_ltLF8, dl_ltRT8, dl_ltRF8, dl_eqRT8, dl_eqRF8, dl_leLT9, dl_leLF9, dl_leRT9, dl_leRF9, dl_ltLT9, dl_ltLF9, dl_ltRT9, dl_ltRF9, dl_eqRT9, dl_eqRF9, dl_leLT16, dl_leLF16, dl_leRT16, dl_leRF16, dl_ltLT16, dl_ltLF16, dl_ltRT16, dl_ltRF16, dl_eqRT16, dl_eqRF16, dl_leLT64, dl_leLF64, dl_leRT64, dl_leRF64, dl_ltLT64, dl_ltLF64, dl_ltRT64, dl_ltRF64, dl_eqRT64, dl_eqRF64, dl_leLT65, dl_leLF65, dl_leRT65, dl_leRF65, dl_ltLT65, dl_ltLF65, dl_ltRT65, dl_ltRF65, dl_eqRT65, dl_eqRF65]
        have et : t = m := by omega
        refine ⟨C + 1, k185 mk' _ 0 t P' (by omega) (by omega) (by omega) (by omega) (fun s s1 s2 => by omega) Q⟩
  have k4 : ∀ f c mk', c ≤ cnt → cnt - c < f → (∀ y, y < c → mk' y = 0) → wY_arrange_4 post 0 (nI C) (nI L) (nI ph) (nI ol) (nI T) (nI cnt) (nI dy) f (nI c) old nxt (dl_A K) (dl_A S) (dl_A D) (dl_A N) dat (dl_A F) (dl_A P) mk' := by
    intro f
    induction f with
    | zero => intro c mk' _ h; omega
    | succ f ih =>
      intro c mk' h1 h2 I
      rcases Nat.lt_or_ge c cnt with z | z
      · simp (disch := omega) only [wY_arrange_4, nI_clamp, dl_Ar, dl_Au, dl_leT, dl_leF, dl_ltT, dl_ltF, dl_eqT, dl_eqF, nI_add, nI_1, dl_inT, dl_sub, dl_sub1, dl_subm1, forall_eq, true_implies, false_implies, not_true, not_false_iff, true_and, and_true, dl_leLT0, dl_leLF0, dl_leRT0, dl_leRF0, dl_ltLT0, dl_ltLF0, dl_ltRT0, dl_ltRF0, dl_eqRT0, dl_eqRF0, dl_leLT1, dl_leLF1, dl_leRT1, dl_leRF1, dl_ltLT1, dl_ltLF1, dl_ltRT1, dl_ltRF1, dl_eqRT1, dl_eqRF1, dl_leLT2, dl_leLF2, dl_leRT2, dl_leRF2, dl_ltLT2, dl_ltLF2, dl_ltRT2, dl_ltRF2, dl_eqRT2, dl_eqRF2, dl_leLT3, dl_leLF3, dl_leRT3, dl_leRF3, dl_ltLT3, dl_ltLF3, dl_ltRT3, dl_ltRF3, dl_eqRT3, dl_eqRF3, dl_leLT8, dl_leLF8, dl_leRT8, dl_leRF8, dl_ltLT8, dl_ltLF8, dl_ltRT8, dl_ltRF8, dl_eqRT8, dl_eqRF8, dl_leLT9, dl_leLF9, dl_leRT9, dl_leRF9, dl_ltLT9, dl_ltLF9, dl_ltRT9, dl_ltRF9, dl_eqRT9, dl_eqRF9, dl_leLT16, dl_leLF16, dl_leRT16, dl_leRF16, dl_ltLT16, dl_ltLF16, dl_ltRT16, dl_ltRF16, dl_eqRT16, dl_eqRF16, dl_leLT64, dl_leLF64, dl_leRT64, dl_leRF64, dl_ltLT64, dl_ltLF64, dl_ltRT64, dl_ltRF64, dl_eqRT64, dl_eqRF64, dl_leLT65, dl_leLF65, dl_leRT65, dl_leRF65, dl_ltLT65, dl_ltLF65, dl_ltRT65, dl_ltRF65, dl_eqRT65, dl_eqRF65, dl_nb0]
        refine ih (c + 1) _ z (by omega) (fun y hy => ?_)
        by_cases e : y = c
        · rw [e, pk_us]
        · rw [pk_un e]; exact I y (by omega)
      · have e : c = cnt := by omega
        simp (disch := omega) only [wY_arrange_4, nI_clamp, dl_Ar, dl_Au, dl_leT, dl_leF, dl_ltT, dl_ltF, dl_eqT, dl_eqF, nI_add, nI_1, dl_inT, dl_sub, dl_sub1, dl_subm1, forall_eq, true_implies, false_implies, not_true, not_false_iff, true_and, and_true, dl_leLT0, dl_leLF0, dl_leRT0, dl_leRF0, dl_ltLT0, dl_ltLF0, dl_ltRT0, dl_ltRF0, dl_eqRT0, dl_eqRF0, dl_leLT1, dl_leLF1, dl_leRT1, dl_leRF1, dl_ltLT1, dl_ltLF1, dl_ltRT1, dl_ltRF1, dl_eqRT1, dl_eqRF1, dl_leLT2, dl_leLF2, dl_leRT2, dl_leRF2, dl_ltLT2, dl_ltLF2, dl_ltRT2, dl_ltRF2, dl_eqRT2, dl_eqRF2, dl_leLT3, dl_leLF3, dl_leRT3, dl_leRF3, dl_ltLT3, dl_ltLF3, dl_ltRT3, dl_ltRF3, dl_eqRT3, dl_eqRF3, dl_leLT8, dl_leLF8, dl_leRT8, dl_leRF8, dl_ltLT8, dl_ltLF8, dl_ltRT8, dl_ltRF8, dl_eqRT8, dl_eqRF8, dl_leLT9, dl_leLF9, dl_leRT9, dl_leRF9, dl_ltLT9, dl_ltLF9, dl_ltRT9, dl_ltRF9, dl_eqRT9, dl_eqRF9, dl_leLT16, dl_leLF16, dl_leRT16, dl_leRF16, dl_ltLT16, dl_ltLF16, dl_ltRT16, dl_ltRF16, dl_eqRT16, dl_eqRF16, dl_leLT64, dl_leLF64, dl_leRT64, dl_leRF64, dl_ltLT64, dl_ltLF64, dl_ltRT64, dl_ltRF64, dl_eqRT64, dl_eqRF64, dl_leLT65, dl_leLF65, dl_leRT65, dl_leRF65, dl_ltLT65, dl_ltLF65, dl_ltRT65, dl_ltRF65, dl_eqRT65, dl_eqRF65]
        exact ⟨cnt + 1, k27 _ 0 0 P mk' (by omega) (by omega) (by omega) (Or.inl rfl) (fun d hd => ⟨fun _ s hs => by omega, fun _ => I d (by omega)⟩) (fun s hs => by omega)⟩
  exact ⟨cnt + 1, k4 _ 0 mk (by omega) (by omega) (fun y h => by omega)⟩
end
end
section
/-! the order of writing -/
def dl_W (N π : Nat → Nat) (t : Nat) : Nat := dl_s (fun s => N (π s)) t
def dl_mir (S D N F : Nat → Nat) (c k : Nat) : Nat := if F c = 1 ∧ S c < D c then N c - 1 - k else k
def dl_ps (S D N F π ρ wr : Nat → Nat) (p : Nat) : Nat := dl_W N π (ρ (wr p)) + dl_mir S D N F (wr p) (p - D (wr p))
theorem dl_mir_lt {S D N F : Nat → Nat} {c k : Nat} (h : k < N c) : dl_mir S D N F c k < N c := by unfold dl_mir; split <;> omega
theorem dl_mir_mir {S D N F : Nat → Nat} {c k : Nat} (h : k < N c) : dl_mir S D N F c (dl_mir S D N F c k) = k := by
  unfold dl_mir
  by_cases q : F c = 1 ∧ S c < D c
  · rw [if_pos q, if_pos q]; omega
  · rw [if_neg q, if_neg q]
theorem dl_W_s {N π : Nat → Nat} {t : Nat} : dl_W N π (t + 1) = dl_W N π t + N (π t) := rfl
theorem dl_W_0 {N π : Nat → Nat} : dl_W N π 0 = 0 := rfl
theorem dl_W_mono {N π : Nat → Nat} {s t : Nat} (h : s ≤ t) : dl_W N π s ≤ dl_W N π t := dl_s_mono h
/-- the place of a step -/
theorem dl_W_ex {N π : Nat → Nat} {t : Nat} : ∀ {n : Nat}, t < dl_W N π n → ∃ x, x < n ∧ dl_W N π x ≤ t ∧ t < dl_W N π (x + 1)
  | 0, h => by rw [dl_W_0] at h; omega
  | n + 1, h => by
    rcases Nat.lt_or_ge t (dl_W N π n) with z | z
    · obtain ⟨x, x1, x2⟩ := dl_W_ex (n := n) z
      exact ⟨x, by omega, x2⟩
    · exact ⟨n, by omega, z, h⟩
theorem dl_W_un {N π : Nat → Nat} {t x y : Nat} (x1 : dl_W N π x ≤ t) (x2 : t < dl_W N π (x + 1)) (y1 : dl_W N π y ≤ t) (y2 : t < dl_W N π (y + 1)) : x = y := by
  rcases Nat.lt_trichotomy x y with z | z | z
  · have := dl_W_mono (N := N) (π := π) (s := x + 1) (t := y) z; omega
  · exact z
  · have := dl_W_mono (N := N) (π := π) (s := y + 1) (t := x) z; omega
section
variable {T cnt m : Nat} {K S D N F π ρ wr : Nat → Nat} {R : Nat → Nat → Prop}
theorem dl_W_T (Ti : dl_Til T cnt D N wr) (hn : ∀ c, c < cnt → 1 ≤ N c) (Pi : dl_Pi cnt R D F π ρ m) : dl_W N π cnt = T := by
  have e := dl_s_perm (f := N) Pi.1 Pi.2.1
  have s := dl_til_sum Ti hn
  unfold dl_W; omega
theorem dl_ps_at (Ti : dl_Til T cnt D N wr) (Pi : dl_Pi cnt R D F π ρ m) {x t : Nat} (hx : x < cnt) (h1 : dl_W N π x ≤ t) (h2 : t < dl_W N π (x + 1)) {q : Nat} (hq : q = D (π x) + dl_mir S D N F (π x) (t - dl_W N π x)) :
    q < T ∧ wr q = π x ∧ dl_ps S D N F π ρ wr q = t := by
  rw [dl_W_s] at h2
  obtain ⟨c1, c2⟩ := Pi.1 x hx
  have k := dl_mir_lt (S := S) (D := D) (F := F) (N := N) (c := π x) (k := t - dl_W N π x) (by omega)
  obtain ⟨w1, w2⟩ := Ti.2 (π x) q c1 (by omega) (by omega)
  refine ⟨w1, w2, ?_⟩
  unfold dl_ps
  rw [w2, c2, show q - D (π x) = dl_mir S D N F (π x) (t - dl_W N π x) by omega, dl_mir_mir (by omega)]
  omega
theorem dl_ps_in (Ti : dl_Til T cnt D N wr) (Pi : dl_Pi cnt R D F π ρ m) {q : Nat} (hq : q < T) :
    ρ (wr q) < cnt ∧ π (ρ (wr q)) = wr q ∧ dl_W N π (ρ (wr q)) ≤ dl_ps S D N F π ρ wr q ∧ dl_ps S D N F π ρ wr q < dl_W N π (ρ (wr q) + 1) ∧ q = D (wr q) + dl_mir S D N F (wr q) (dl_ps S D N F π ρ wr q - dl_W N π (ρ (wr q))) := by
  obtain ⟨w1, w2, w3⟩ := Ti.1 q hq
  obtain ⟨c1, c2⟩ := Pi.2.1 _ w1
  have k := dl_mir_lt (S := S) (D := D) (F := F) (N := N) (c := wr q) (k := q - D (wr q)) (by omega)
  refine ⟨c1, c2, by unfold dl_ps; omega, by rw [dl_W_s, c2]; unfold dl_ps; omega, ?_⟩
  have e : dl_ps S D N F π ρ wr q - dl_W N π (ρ (wr q)) = dl_mir S D N F (wr q) (q - D (wr q)) := by unfold dl_ps; omega
  rw [e, dl_mir_mir (by omega)]
  omega
theorem dl_ps_T (Ti : dl_Til T cnt D N wr) (hn : ∀ c, c < cnt → 1 ≤ N c) (Pi : dl_Pi cnt R D F π ρ m) {q : Nat} (hq : q < T) : dl_ps S D N F π ρ wr q < T := by
  obtain ⟨a, b, c, d, e⟩ := dl_ps_in (S := S) Ti Pi hq
  have := dl_W_mono (N := N) (π := π) (s := ρ (wr q) + 1) (t := cnt) a
  have := dl_W_T Ti hn Pi
  omega
theorem dl_ps_inj (Ti : dl_Til T cnt D N wr) (Pi : dl_Pi cnt R D F π ρ m) {p q : Nat} (hp : p < T) (hq : q < T) (e : dl_ps S D N F π ρ wr p = dl_ps S D N F π ρ wr q) : p = q := by
  obtain ⟨a1, a2, a3, a4, a5⟩ := dl_ps_in (S := S) Ti Pi hp
  obtain ⟨b1, b2, b3, b4, b5⟩ := dl_ps_in (S := S) Ti Pi hq
  rw [← e] at b3 b4
  have x := dl_W_un a3 a4 b3 b4
  have w : wr p = wr q := by rw [← a2, ← b2, x]
  rw [e, w] at a5
  exact a5.trans b5.symm
/-- a kept copy is placed before every other writer of a cell that it reads -/
theorem dl_ord (Ti : dl_Til T cnt D N wr) (Pi : dl_Pi cnt (dl_R cnt K S D N) D F π ρ m) (hK : ∀ c, c < cnt → F c = 1 → K c = 1) {c k : Nat} (hc : c < cnt) (fc : F c = 1) (hk : k < N c) (hT : S c + k < T) (ne : wr (S c + k) ≠ c) : ρ c < ρ (wr (S c + k)) := by
  obtain ⟨p1, p2, p3, p4, p5, p6⟩ := Pi
  obtain ⟨w1, w2, w3⟩ := Ti.1 _ hT
  obtain ⟨c1, c2⟩ := p2 c hc
  obtain ⟨j1, j2⟩ := p2 _ w1
  have cm : ρ c < m := by
    rcases Nat.lt_or_ge (ρ c) m with z | z
    · exact z
    · have := p5 _ z c1; rw [c2] at this; exact absurd fc this
  by_cases fj : F (wr (S c + k)) = 1
  · rcases Nat.lt_trichotomy (ρ c) (ρ (wr (S c + k))) with z | z | z
    · exact z
    · rw [← z, c2] at j2
      exact absurd j2.symm ne
    · exfalso
      have q := p4 (ρ (wr (S c + k))) (by omega)
      rw [j2] at q
      refine q.2.1 c ⟨hc, fc, fun s hs e => ?_⟩ ⟨hc, w1, ne.symm, hK c hc fc, hK _ w1 fj, k, hk, w2, w3⟩
      have := (p1 s (by omega)).2
      rw [e] at this; omega
  · rcases Nat.lt_or_ge (ρ (wr (S c + k))) m with z | z
    · have := (p4 _ z).1.2.1
      rw [j2] at this; exact absurd this fj
    · omega
/-- the cell that a kept copy reads isn't written before the cell that it writes -/
theorem dl_safe (Ti : dl_Til T cnt D N wr) (Pi : dl_Pi cnt (dl_R cnt K S D N) D F π ρ m) (hK : ∀ c, c < cnt → F c = 1 → K c = 1) {i : Nat} (hi : i < T) (fc : F (wr i) = 1) (hr : S (wr i) + (i - D (wr i)) < T) :
    dl_ps S D N F π ρ wr i ≤ dl_ps S D N F π ρ wr (S (wr i) + (i - D (wr i))) := by
  obtain ⟨w1, w2, w3⟩ := Ti.1 i hi
  obtain ⟨a1, a2, a3, a4, a5⟩ := dl_ps_in (S := S) Ti Pi hi
  by_cases ne : wr (S (wr i) + (i - D (wr i))) = wr i
  · obtain ⟨v1, v2, v3⟩ := Ti.1 _ hr
    rw [ne] at v2 v3
    unfold dl_ps
    rw [ne]
    unfold dl_mir
    by_cases q : F (wr i) = 1 ∧ S (wr i) < D (wr i)
    · rw [if_pos q, if_pos q]; omega
    · rw [if_neg q, if_neg q]
      have : ¬ S (wr i) < D (wr i) := fun z => q ⟨fc, z⟩
      omega
  · have o := dl_ord Ti Pi hK w1 fc (k := i - D (wr i)) (by omega) hr ne
    obtain ⟨b1, b2, b3, b4, b5⟩ := dl_ps_in (S := S) Ti Pi hr
    have := dl_W_mono (N := N) (π := π) (s := ρ (wr i) + 1) (t := ρ (wr (S (wr i) + (i - D (wr i))))) o
    omega
end
/-- what position p of the new version holds -/
def dl_nv (K S D wr : Nat → Nat) (dat old : Nat → Int32) (p : Nat) : Int32 := if K (wr p) = 2 then dat (wr p * 64 + (p - D (wr p))) else old (S (wr p) + (p - D (wr p)))
end
section
def dl_Z (N F π : Nat → Nat) (t : Nat) : Nat := dl_s (fun s => if F (π s) = 1 then 4 else 3 + N (π s)) t
/-- the data of the adds -/
def dl_Lt (C cnt ls : Nat) (K N A : Nat → Nat) (pool dat : Nat → Int32) : Prop :=
  ls = dl_lsum K N cnt ∧ ls ≤ C ∧ ∀ c, c < cnt → K c = 2 → A c = dl_lsum K N c ∧ ∀ k, k < N c → pool (A c + k) = dat (c * 64 + k)
/-- the plan -/
def dl_Pn (T cnt co : Nat) (kp : Int32) (K S D N A bD sq po ws ss F P wr : Nat → Nat) (m : Nat) (pool bf cm old dat : Nat → Int32) : Prop :=
  dl_Til T cnt D N wr ∧ dl_Sd cnt D bD ∧ (∀ i j, i < cnt → j < cnt → (bt (bf i) j = true ↔ dl_R cnt K S D N i j)) ∧ dl_CC cnt K (dl_R cnt K S D N) cm cnt ∧ dl_KF cnt F kp ∧
  (∀ c, c < cnt → (K c = 1 ∧ (F c = 1 ∨ F c = 3)) ∨ (K c = 2 ∧ F c = 2)) ∧ dl_Pi cnt (dl_R cnt K S D N) D F sq po m ∧ (∀ t, t < cnt → P t = sq t) ∧ (∀ t, t ≤ cnt → ws t = dl_W N sq t ∧ ss t = dl_Z N F sq t) ∧
  co = dl_cst N F cnt ∧ ∀ c, c < cnt → ¬ F c = 1 → A c + N c ≤ 64 ∧ ∀ k, k < N c → pool (A c + k) = if K c = 2 then dat (c * 64 + k) else old (S c + k)
/-- how far it is carried out -/
def dl_Dn (C T cnt dn pl : Nat) (K S D N F sq po wr : Nat → Nat) (bu old dat : Nat → Int32) : Prop :=
  dn ≤ T ∧ (dn < T → pl < cnt ∧ dl_W N sq pl ≤ dn ∧ dn < dl_W N sq (pl + 1)) ∧ ∀ i, i < C → bu i = if i < T ∧ dl_ps S D N F sq po wr i < dn then dl_nv K S D wr dat old i else old i
def dl_Inv (C L ph ol T cnt ls co dn pl dy : Nat) (kp : Int32) (K S D N A bD sq po ws ss F P : Nat → Nat) (bu pool bf cm old dat : Nat → Int32) : Prop :=
  ph ≤ 1 ∧ dl_Bs C L ol T cnt K S D N ∧ dl_Lt C cnt ls K N A pool dat ∧ (ph = 0 → ∀ i, i < C → bu i = old i) ∧ (ph = 1 → dy = dn ∧ ∃ wr m, dl_Pn T cnt co kp K S D N A bD sq po ws ss F P wr m pool bf cm old dat ∧ dl_Dn C T cnt dn pl K S D N F sq po wr bu old dat)
/-- the relation at the head of a turn -/
def i_Rel (k : Nat) (u : SX) (v : SY) : Prop := ∃ (C L ph ol T cnt ls co dn pl dy : Nat) (kp : Int32) (K S D N A bD sq po ws ss bd F P : Nat → Nat) (bu pool bf af cm ed re old nxt dat mk : Nat → Int32), u = (nI C, nI L, nI ph, nI ol, nI T, nI cnt, nI ls, nI co, kp, nI dn, nI pl, bu, dl_A K, dl_A S, dl_A D, dl_A N, dl_A A, pool, dl_A bD, bf, af, cm, dl_A sq, dl_A po, dl_A ws, dl_A ss, ed, re, dl_A bd) ∧ v = (nI C, nI L, nI ph, nI ol, nI T, nI cnt, nI dy, old, nxt, dl_A K, dl_A S, dl_A D, dl_A N, dat, dl_A F, dl_A P, mk) ∧ dl_Inv C L ph ol T cnt ls co dn pl dy kp K S D N A bD sq po ws ss F P bu pool bf cm old dat
theorem i_up {k : Nat} {u : SX} {v : SY} (h : i_Rel k u v) : i_Rel (k + 5) u v := h
theorem dl_el {k : Nat} {Q : SX → SY → Prop} {u : SX} {v : SY} (I : i_Rel k u v) (H : ∀ (C L ph ol T cnt ls co dn pl dy : Nat) (kp : Int32) (K S D N A bD sq po ws ss bd F P : Nat → Nat) (bu pool bf af cm ed re old nxt dat mk : Nat → Int32), dl_Inv C L ph ol T cnt ls co dn pl dy kp K S D N A bD sq po ws ss F P bu pool bf cm old dat → Q (nI C, nI L, nI ph, nI ol, nI T, nI cnt, nI ls, nI co, kp, nI dn, nI pl, bu, dl_A K, dl_A S, dl_A D, dl_A N, dl_A A, pool, dl_A bD, bf, af, cm, dl_A sq, dl_A po, dl_A ws, dl_A ss, ed, re, dl_A bd) (nI C, nI L, nI ph, nI ol, nI T, nI cnt, nI dy, old, nxt, dl_A K, dl_A S, dl_A D, dl_A N, dat, dl_A F, dl_A P, mk)) : Q u v :=
  I.elim fun C h => h.elim fun L h => h.elim fun ph h => h.elim fun ol h => h.elim fun T h => h.elim fun cnt h => h.elim fun ls h => h.elim fun co h => h.elim fun dn h => h.elim fun pl h => h.elim fun dy h => h.elim fun kp h => h.elim fun K h => h.elim fun S h => h.elim fun D h => h.elim fun N h => h.elim fun A h => h.elim fun bD h => h.elim fun sq h => h.elim fun po h => h.elim fun ws h => h.elim fun ss h => h.elim fun bd h => h.elim fun F h => h.elim fun P h => h.elim fun bu h => h.elim fun pool h => h.elim fun bf h => h.elim fun af h => h.elim fun cm h => h.elim fun ed h => h.elim fun re h => h.elim fun old h => h.elim fun nxt h => h.elim fun dat h => h.elim fun mk h => by
    rw [h.1, h.2.1]
    exact H C L ph ol T cnt ls co dn pl dy kp K S D N A bD sq po ws ss bd F P bu pool bf af cm ed re old nxt dat mk h.2.2
section
variable {C L ph ol T cnt ls co dn pl dy : Nat} {kp : Int32} {K S D N A bD sq po ws ss bd F P : Nat → Nat} {bu pool bf af cm ed re old nxt dat mk : Nat → Int32}
theorem dl_mk (k : Nat) (h : dl_Inv C L ph ol T cnt ls co dn pl dy kp K S D N A bD sq po ws ss F P bu pool bf cm old dat) : i_Rel k (nI C, nI L, nI ph, nI ol, nI T, nI cnt, nI ls, nI co, kp, nI dn, nI pl, bu, dl_A K, dl_A S, dl_A D, dl_A N, dl_A A, pool, dl_A bD, bf, af, cm, dl_A sq, dl_A po, dl_A ws, dl_A ss, ed, re, dl_A bd) (nI C, nI L, nI ph, nI ol, nI T, nI cnt, nI dy, old, nxt, dl_A K, dl_A S, dl_A D, dl_A N, dat, dl_A F, dl_A P, mk) := ⟨C, L, ph, ol, T, cnt, ls, co, dn, pl, dy, kp, K, S, D, N, A, bD, sq, po, ws, ss, bd, F, P, bu, pool, bf, af, cm, ed, re, old, nxt, dat, mk, rfl, rfl, h⟩
theorem dl_Bs_0 {C L ol T : Nat} {K S D N : Nat → Nat} (h1 : 8 ≤ C) (h2 : C ≤ 64) (h3 : 2 ≤ L) (h4 : L ≤ 16) (h5 : ol ≤ C) (h6 : T ≤ C) : dl_Bs C L ol T 0 K S D N := ⟨h1, h2, h3, h4, by omega, h5, h6, fun c h => by omega⟩
theorem dl_i0 {C L ol T pl co dn dy : Nat} {kp : Int32} {K S D N A bD sq po ws ss F P : Nat → Nat} {bu pool bf cm old dat : Nat → Int32} (h1 : 8 ≤ C) (h2 : C ≤ 64) (h3 : 2 ≤ L) (h4 : L ≤ 16) (h5 : ol ≤ C) (h6 : T ≤ C) (hb : ∀ i, i < C → bu i = old i) : dl_Inv C L 0 ol T 0 0 co dn pl dy kp K S D N A bD sq po ws ss F P bu pool bf cm old dat :=
  ⟨by omega, dl_Bs_0 h1 h2 h3 h4 h5 h6, ⟨rfl, by omega, fun c h => by omega⟩, fun _ => hb, fun h => by omega⟩
theorem dl_clamp (a b : Nat) (hab : a ≤ b) (hb : b < 2147483648) (x : Int32) : ∃ n, a ≤ n ∧ n ≤ b ∧ (∀ (post : Int32 → Prop) (u : SX), post (nI n) → wpX_clamp post u x (nI a) (nI b)) ∧ (nI n = if nI a ≤ x then (if x ≤ nI b then x else nI b) else nI a) := by
  by_cases h1 : nI a ≤ x
  · by_cases h2 : x ≤ nI b
    · obtain ⟨n, hn, rfl⟩ := nI_of (x := x) (fun z => by
        have h3 := Int32.lt_of_le_of_lt h1 z
        exact nI_pos (n := a) (by omega) h3)
      rw [nI_leI (by omega) hn] at h1
      rw [nI_leI hn (by omega)] at h2
      refine ⟨n, h1, h2, fun post u H => ?_, ?_⟩
      · exact br_t (nI_le h1 hn) (br_t (nI_le h2 hb) H)
      · rw [if_pos (nI_le h1 hn), if_pos (nI_le h2 hb)]
    · refine ⟨b, hab, Nat.le_refl _, fun post u H => br_t h1 (br_f h2 H), ?_⟩
      rw [if_pos h1, if_neg h2]
  · refine ⟨a, Nat.le_refl _, hab, fun post u H => br_f h1 H, ?_⟩
    rw [if_neg h1]
theorem i_vc0 (k0 : Int32) (k1 : Int32) : wpX_init (fun u => wpY_init (fun v => i_Rel 2 u v) k0 k1) k0 k1 := by
  obtain ⟨C, c1, c2, c3, c4⟩ := dl_clamp 8 64 (by omega) (by omega) k0
  obtain ⟨L, l1, l2, l3, l4⟩ := dl_clamp 2 16 (by omega) (by omega) k1
  unfold wpX_init
  refine c3 _ _ (l3 _ _ ?_)
  have fin : i_Rel 2 (nI C, nI L, 0, 0, 0, 0, 0, 0, 0, 0, 0, fun _ => 0, fun _ => 0, fun _ => 0, fun _ => 0, fun _ => 0, fun _ => 0, fun _ => 0, fun _ => 0, fun _ => 0, fun _ => 0, fun _ => 0, fun _ => 0, fun _ => 0, fun _ => 0, fun _ => 0, fun _ => 0, fun _ => 0, fun _ => 0)
      (nI C, nI L, 0, 0, 0, 0, 0, fun _ => 0, fun _ => 0, fun _ => 0, fun _ => 0, fun _ => 0, fun _ => 0, fun _ => 0, fun _ => 0, fun _ => 0, fun _ => 0) :=
    dl_mk (C := C) (L := L) (ph := 0) (ol := 0) (T := 0) (cnt := 0) (ls := 0) (co := 0) (dn := 0) (pl := 0) (dy := 0) (K := fun _ => 0) (S := fun _ => 0) (D := fun _ => 0) (N := fun _ => 0) (A := fun _ => 0) (bD := fun _ => 0) (sq := fun _ => 0) (po := fun _ => 0) (ws := fun _ => 0) (ss := fun _ => 0) (bd := fun _ => 0) (F := fun _ => 0) (P := fun _ => 0) 2 (dl_i0 c1 c2 l1 l2 (by omega) (by omega) (fun _ _ => rfl))
  unfold wpY_init wY_init_109
  rw [c4, l4] at fin
  have e8 : nI 8 = 8 := by decide
  have e64 : nI 64 = 64 := by decide
  have e2 : nI 2 = 2 := by decide
  have e16 : nI 16 = 16 := by decide
  rw [e8, e64, e2, e16] at fin
  by_cases a1 : 8 ≤ k0 <;> by_cases a2 : k0 ≤ 64 <;> by_cases b1 : 2 ≤ k1 <;> by_cases b2 : k1 ≤ 16 <;> simp only [a1, a2, b1, b2, if_true, if_false] at fin <;> simp only [a1, a2, b1, b2, true_implies, false_implies, not_true, not_false_iff, true_and, and_true] <;> (rw [c4, l4, e8, e64, e2, e16]; simp only [a1, a2, b1, b2, if_true, if_false]; exact fin)
end
end
section
theorem dl_subLt {a b c : Nat} (ha : a < 1073741824) (hb : b < 1073741824) (hc : c < 1073741824) : (nI a - nI b < nI c) ↔ a < c + b := by
  rw [Int32.lt_iff_toInt_lt, pk_sub_toInt (by omega) (by omega), nI_toInt (by omega)]
  omega
theorem dl_leSub {a b c : Nat} (ha : a < 1073741824) (hb : b < 1073741824) (hc : c < 2147483648) : (nI c ≤ nI a - nI b) ↔ c + b ≤ a := by
  rw [Int32.le_iff_toInt_le, pk_sub_toInt (by omega) (by omega), nI_toInt (by omega)]
  omega
def dl_fill (b : Nat → Int32) (o n : Nat) (g : Nat → Int32) : Nat → Int32 := fun i => if o ≤ i ∧ i < o + n then g (i - o) else b i
theorem dl_fill_0 {b g : Nat → Int32} {o : Nat} : dl_fill b o 0 g = b := by
  funext i
  exact if_neg (by omega)
theorem dl_fill_s {b g : Nat → Int32} {o n : Nat} : upd (dl_fill b o n g) (o + n) (g n) = dl_fill b o (n + 1) g := by
  funext i
  unfold dl_fill
  by_cases e : i = o + n
  · rw [e, pk_us, if_pos (by omega), show o + n - o = n by omega]
  · rw [pk_un e]
    by_cases q : o ≤ i ∧ i < o + n
    · rw [if_pos q, if_pos (by omega)]
    · rw [if_neg q, if_neg (by omega)]
theorem dl_fill_in {b g : Nat → Int32} {o n i : Nat} (h1 : o ≤ i) (h2 : i < o + n) : dl_fill b o n g i = g (i - o) := if_pos ⟨h1, h2⟩
theorem dl_fill_lo {b g : Nat → Int32} {o n i : Nat} (h : i < o ∨ o + n ≤ i) : dl_fill b o n g i = b i := if_neg (by omega)
section
variable {C L ph ol T cnt ls co dn pl dy : Nat} {kp : Int32} {K S D N A bD sq po ws ss bd F P : Nat → Nat} {bu pool bf af cm ed re old nxt dat mk : Nat → Int32}
theorem dl_xext (post : Int32 → SX → Prop) (hC : C ≤ 64) {n : Nat} {v2 v3 : Int32} (hn : ol + n ≤ C) (H : post (nI (ol + n)) (nI C, nI L, nI ph, nI (ol + n), nI T, nI cnt, nI ls, nI co, kp, nI dn, nI pl, dl_fill bu ol n (fun k => (v2 + nI k * v3) &&& 255), dl_A K, dl_A S, dl_A D, dl_A N, dl_A A, pool, dl_A bD, bf, af, cm, dl_A sq, dl_A po, dl_A ws, dl_A ss, ed, re, dl_A bd)) :
    ∀ f k, k ≤ n → n - k < f → wX_extendOld_36 post (nI n) v2 v3 (nI C) (nI L) (nI ph) (nI ol) (nI T) (nI cnt) (nI ls) (nI co) kp (nI dn) (nI pl) f (nI k) (dl_fill bu ol k (fun k => (v2 + nI k * v3) &&& 255)) (dl_A K) (dl_A S) (dl_A D) (dl_A N) (dl_A A) pool (dl_A bD) bf af cm (dl_A sq) (dl_A po) (dl_A ws) (dl_A ss) ed re (dl_A bd) := by
  intro f
  induction f with
  | zero => intro k _ h; omega
  | succ f ih =>
    intro k h1 h2
    rcases Nat.lt_or_ge k n with z | z
    · have s := dl_fill_s (b := bu) (g := fun k => (v2 + nI k * v3) &&& 255) (o := ol) (n := k)
      try dsimp only at s
      simp (disch := omega) only [wX_extendOld_36, nI_clamp, dl_Ar, dl_Au, dl_leT, dl_leF, dl_ltT, dl_ltF, dl_eqT, dl_eqF, nI_add, nI_1, dl_inT, dl_sub, dl_sub1, dl_subm1, forall_eq, true_implies, false_implies, not_true, not_false_iff, true_and, and_true, dl_leLT0, dl_leLF0, dl_leRT0, dl_leRF0, dl_ltLT0, dl_ltLF0, dl_ltRT0, dl_ltRF0, dl_eqRT0, dl_eqRF0, dl_leLT1, dl_leLF1, dl_leRT1, dl_leRF1, dl_ltLT1, dl_ltLF1, dl_ltRT1, dl_ltRF1, dl_eqRT1, dl_eqRF1, dl_leLT2, dl_leLF2, dl_leRT2, dl_leRF2, dl_ltLT2, dl_ltLF2, dl_ltRT2, dl_ltRF2, dl_eqRT2, dl_eqRF2, dl_leLT3, dl_leLF3, dl_leRT3, dl_leRF3, dl_ltLT3, dl_ltLF3, dl_ltRT3, dl_ltRF3, dl_eqRT3, dl_eqRF3, dl_leLT8, dl_leLF8, dl_leRT8, dl_leRF8, dl_ltLT8, dl_ltLF8, dl_ltRT8, dl_ltRF8, dl_eqRT8, dl_eqRF8, dl_leLT9, dl_leLF9, dl_leRT9, dl_leRF9, dl_ltLT9, dl_ltLF9, dl_ltRT9, dl_ltRF9, dl_eqRT9, dl_eqRF9, dl_leLT16, dl_leLF16, dl_leRT16, dl_leRF16, dl_ltLT16, dl_ltLF16, dl_ltRT16, dl_ltRF16, dl_eqRT16, dl_eqRF16, dl_leLT64, dl_leLF64, dl_leRT64, dl_leRF64, dl_ltLT64, dl_ltLF64, dl_ltRT64, dl_ltRF64, dl_eqRT64, dl_eqRF64, dl_leLT65, dl_leLF65, dl_leRT65, dl_leRF65, dl_ltLT65, dl_ltLF65, dl_ltRT65, dl_ltRF65, dl_eqRT65, dl_eqRF65, s]
      exact ih (k + 1) z (by omega)
    · have e : k = n := by omega
      subst e
      simp (disch := omega) only [wX_extendOld_36, nI_clamp, dl_Ar, dl_Au, dl_leT, dl_leF, dl_ltT, dl_ltF, dl_eqT, dl_eqF, nI_add, nI_1, dl_inT, dl_sub, dl_sub1, dl_subm1, forall_eq, true_implies, false_implies, not_true, not_false_iff, true_and, and_true, dl_leLT0, dl_leLF0, dl_leRT0, dl_leRF0, dl_ltLT0, dl_ltLF0, dl_ltRT0, dl_ltRF0, dl_eqRT0, dl_eqRF0, dl_leLT1, dl_leLF1, dl_leRT1, dl_leRF1, dl_ltLT1, dl_ltLF1, dl_ltRT1, dl_ltRF1, dl_eqRT1, dl_eqRF1, dl_leLT2, dl_leLF2, dl_leRT2, dl_leRF2, dl_ltLT2, dl_ltLF2, dl_ltRT2, dl_ltRF2, dl_eqRT2, dl_eqRF2, dl_leLT3, dl_leLF3, dl_leRT3, dl_leRF3, dl_ltLT3, dl_ltLF3, dl_ltRT3, dl_ltRF3, dl_eqRT3, dl_eqRF3, dl_leLT8, dl_leLF8, dl_leRT8, dl_leRF8, dl_ltLT8, dl_ltLF8, dl_ltRT8, dl_ltRF8, dl_eqRT8, dl_eqRF8, dl_leLT9, dl_leLF9, dl_leRT9, dl_leRF9, dl_ltLT9, dl_ltLF9, dl_ltRT9, dl_ltRF9, dl_eqRT9, dl_eqRF9, dl_leLT16, dl_leLF16, dl_leRT16, dl_leRF16, dl_ltLT16, dl_ltLF16, dl_ltRT16, dl_ltRF16, dl_eqRT16, dl_eqRF16, dl_leLT64, dl_leLF64, dl_leRT64, dl_leRF64, dl_ltLT64, dl_ltLF64, dl_ltRT64, dl_ltRF64, dl_eqRT64, dl_eqRF64, dl_leLT65, dl_leLF65, dl_leRT65, dl_leRF65, dl_ltLT65, dl_ltLF65, dl_ltRT65, dl_ltRF65, dl_eqRT65, dl_eqRF65]
      exact H
theorem dl_yext (post : Int32 → SY → Prop) (hC : C ≤ 64) {n : Nat} {v2 v3 : Int32} (hn : ol + n ≤ C) (H : post (nI (ol + n)) (nI C, nI L, nI ph, nI (ol + n), nI T, nI cnt, nI dy, dl_fill old ol n (fun k => (v2 + nI k * v3) &&& 255), nxt, dl_A K, dl_A S, dl_A D, dl_A N, dat, dl_A F, dl_A P, mk)) :
    ∀ f k, k ≤ n → n - k < f → wY_extendOld_36 post (nI n) v2 v3 (nI C) (nI L) (nI ph) (nI ol) (nI T) (nI cnt) (nI dy) f (nI k) (dl_fill old ol k (fun k => (v2 + nI k * v3) &&& 255)) nxt (dl_A K) (dl_A S) (dl_A D) (dl_A N) dat (dl_A F) (dl_A P) mk := by
  intro f
  induction f with
  | zero => intro k _ h; omega
  | succ f ih =>
    intro k h1 h2
    rcases Nat.lt_or_ge k n with z | z
    · have s := dl_fill_s (b := old) (g := fun k => (v2 + nI k * v3) &&& 255) (o := ol) (n := k)
      try dsimp only at s
      simp (disch := omega) only [wY_extendOld_36, nI_clamp, dl_Ar, dl_Au, dl_leT, dl_leF, dl_ltT, dl_ltF, dl_eqT, dl_eqF, nI_add, nI_1, dl_inT, dl_sub, dl_sub1, dl_subm1, forall_eq, true_implies, false_implies, not_true, not_false_iff, true_and, and_true, dl_leLT0, dl_leLF0, dl_leRT0, dl_leRF0, dl_ltLT0, dl_ltLF0, dl_ltRT0, dl_ltRF0, dl_eqRT0, dl_eqRF0, dl_leLT1, dl_leLF1, dl_leRT1, dl_leRF1, dl_ltLT1, dl_ltLF1, dl_ltRT1, dl_ltRF1, dl_eqRT1, dl_eqRF1, dl_leLT2, dl_leLF2, dl_leRT2, dl_leRF2, dl_ltLT2, dl_ltLF2, dl_ltRT2, dl_ltRF2, dl_eqRT2, dl_eqRF2, dl_leLT3, dl_leLF3, dl_leRT3, dl_leRF3, dl_ltLT3, dl_ltLF3, dl_ltRT3, dl_ltRF3, dl_eqRT3, dl_eqRF3, dl_leLT8, dl_leLF8, dl_leRT8, dl_leRF8, dl_ltLT8, dl_ltLF8, dl_ltRT8, dl_ltRF8, dl_eqRT8, dl_eqRF8, dl_leLT9, dl_leLF9, dl_leRT9, dl_leRF9, dl_ltLT9, dl_ltLF9, dl_ltRT9, dl_ltRF9, dl_eqRT9, dl_eqRF9, dl_leLT16, dl_leLF16, dl_leRT16, dl_leRF16, dl_ltLT16, dl_ltLF16, dl_ltRT16, dl_ltRF16, dl_eqRT16, dl_eqRF16, dl_leLT64, dl_leLF64, dl_leRT64, dl_leRF64, dl_ltLT64, dl_ltLF64, dl_ltRT64, dl_ltRF64, dl_eqRT64, dl_eqRF64, dl_leLT65, dl_leLF65, dl_leRT65, dl_leRF65, dl_ltLT65, dl_ltLF65, dl_ltRT65, dl_ltRF65, dl_eqRT65, dl_eqRF65, s]
      exact ih (k + 1) z (by omega)
    · have e : k = n := by omega
      subst e
      simp (disch := omega) only [wY_extendOld_36, nI_clamp, dl_Ar, dl_Au, dl_leT, dl_leF, dl_ltT, dl_ltF, dl_eqT, dl_eqF, nI_add, nI_1, dl_inT, dl_sub, dl_sub1, dl_subm1, forall_eq, true_implies, false_implies, not_true, not_false_iff, true_and, and_true, dl_leLT0, dl_leLF0, dl_leRT0, dl_leRF0, dl_ltLT0, dl_ltLF0, dl_ltRT0, dl_ltRF0, dl_eqRT0, dl_eqRF0, dl_leLT1, dl_leLF1, dl_leRT1, dl_leRF1, dl_ltLT1, dl_ltLF1, dl_ltRT1, dl_ltRF1, dl_eqRT1, dl_eqRF1, dl_leLT2, dl_leLF2, dl_leRT2, dl_leRF2, dl_ltLT2, dl_ltLF2, dl_ltRT2, dl_ltRF2, dl_eqRT2, dl_eqRF2, dl_leLT3, dl_leLF3, dl_leRT3, dl_leRF3, dl_ltLT3, dl_ltLF3, dl_ltRT3, dl_ltRF3, dl_eqRT3, dl_eqRF3, dl_leLT8, dl_leLF8, dl_leRT8, dl_leRF8, dl_ltLT8, dl_ltLF8, dl_ltRT8, dl_ltRF8, dl_eqRT8, dl_eqRF8, dl_leLT9, dl_leLF9, dl_leRT9, dl_leRF9, dl_ltLT9, dl_ltLF9, dl_ltRT9, dl_ltRF9, dl_eqRT9, dl_eqRF9, dl_leLT16, dl_leLF16, dl_leRT16, dl_leRF16, dl_ltLT16, dl_ltLF16, dl_ltRT16, dl_ltRF16, dl_eqRT16, dl_eqRF16, dl_leLT64, dl_leLF64, dl_leRT64, dl_leRF64, dl_ltLT64, dl_ltLF64, dl_ltRT64, dl_ltRF64, dl_eqRT64, dl_eqRF64, dl_leLT65, dl_leLF65, dl_leRT65, dl_leRF65, dl_ltLT65, dl_ltLF65, dl_ltRT65, dl_ltRF65, dl_eqRT65, dl_eqRF65]
      exact H
end
theorem i_vc_extendOld {k : Nat} {u : SX} {v : SY} (I : i_Rel k u v) (hk : k + 5 ≤ 2562) (v1 : Int32) (v2 : Int32) (v3 : Int32) : wpX_extendOld (fun r u' => wpY_extendOld (fun r' v' => r' = r ∧ i_Rel (k + 5) u' v') v v1 v2 v3) u v1 v2 v3 := by
  refine dl_el (Q := fun u v => wpX_extendOld (fun r u' => wpY_extendOld (fun r' v' => r' = r ∧ i_Rel (k + 5) u' v') v v1 v2 v3) u v1 v2 v3) I ?_
  intro C L ph ol T cnt ls co dn pl dy kp K S D N A bD sq po ws ss bd F P bu pool bf af cm ed re old nxt dat mk hI
  have Rl := dl_mk (af := af) (ed := ed) (re := re) (nxt := nxt) (mk := mk) (bd := bd) (k + 5) hI
  obtain ⟨a1, B, Lt, a4, a5⟩ := hI
  have B' := B
  obtain ⟨b1, b2, b3, b4, b5, b6, b7, b8⟩ := B'
  by_cases p0 : ph = 0
  · by_cases h1 : 1 ≤ v1
    · obtain ⟨n, hn, rfl⟩ := nI_of (x := v1) (fun z => absurd (Int32.lt_of_le_of_lt h1 z) (by decide))
      rw [dl_leLI1 hn] at h1
      by_cases h2 : ol + n ≤ C
      · simp (disch := omega) only [wpX_extendOld, nI_clamp, dl_Ar, dl_Au, dl_leT, dl_leF, dl_ltT, dl_ltF, dl_eqT, dl_eqF, nI_add, nI_1, dl_inT, dl_sub, dl_sub1, dl_subm1, forall_eq, true_implies, false_implies, not_true, not_false_iff, true_and, and_true, dl_leLT0, dl_leLF0, dl_leRT0, dl_leRF0, dl_ltLT0, dl_ltLF0, dl_ltRT0, dl_ltRF0, dl_eqRT0, dl_eqRF0, dl_leLT1, dl_leLF1, dl_leRT1, dl_leRF1, dl_ltLT1, dl_ltLF1, dl_ltRT1, dl_ltRF1, dl_eqRT1, dl_eqRF1, dl_leLT2, dl_leLF2, dl_leRT2, dl_leRF2, dl_ltLT2, dl_ltLF2, dl_ltRT2, dl_ltRF2, dl_eqRT2, dl_eqRF2, dl_leLT3, dl_leLF3, dl_leRT3, dl_leRF3, dl_ltLT3, dl_ltLF3, dl_ltRT3, dl_ltRF3, dl_eqRT3, dl_eqRF3, dl_leLT8, dl_leLF8, dl_leRT8, dl_leRF8, dl_ltLT8, dl_ltLF8, dl_ltRT8, dl_ltRF8, dl_eqRT8, dl_eqRF8, dl_leLT9, dl_leLF9, dl_leRT9, dl_leRF9, dl_ltLT9, dl_ltLF9, dl_ltRT9, dl_ltRF9, dl_eqRT9, dl_eqRF9, dl_leLT16, dl_leLF16, dl_leRT16, dl_leRF16, dl_ltLT16, dl_ltLF16, dl_ltRT16, dl_ltRF16, dl_eqRT16, dl_eqRF16, dl_leLT64, dl_leLF64, dl_leRT64, dl_leRF64, dl_ltLT64, dl_ltLF64, dl_ltRT64, dl_ltRF64, dl_eqRT64, dl_eqRF64, dl_leLT65, dl_leLF65, dl_leRT65, dl_leRF65, dl_ltLT65, dl_ltLF65, dl_ltRT65, dl_ltRF65, dl_eqRT65, dl_eqRF65]
        have x := dl_xext (C := C) (L := L) (ph := ph) (ol := ol) (T := T) (cnt := cnt) (ls := ls) (co := co) (dn := dn) (pl := pl) (kp := kp) (K := K) (S := S) (D := D) (N := N) (A := A) (bD := bD) (sq := sq) (po := po) (ws := ws) (ss := ss) (bd := bd) (bu := bu) (pool := pool) (bf := bf) (af := af) (cm := cm) (ed := ed) (re := re) (n := n) (v2 := v2) (v3 := v3) (fun r u' => wpY_extendOld (fun r' v' => r' = r ∧ i_Rel (k + 5) u' v') (nI C, nI L, nI ph, nI ol, nI T, nI cnt, nI dy, old, nxt, dl_A K, dl_A S, dl_A D, dl_A N, dat, dl_A F, dl_A P, mk) (nI n) v2 v3) b2 h2 ?_ (n + 1) 0 (by omega) (by omega)
        · rw [dl_fill_0] at x
          exact ⟨n + 1, x⟩
        · simp (disch := omega) only [wpY_extendOld, nI_clamp, dl_Ar, dl_Au, dl_leT, dl_leF, dl_ltT, dl_ltF, dl_eqT, dl_eqF, nI_add, nI_1, dl_inT, dl_sub, dl_sub1, dl_subm1, forall_eq, true_implies, false_implies, not_true, not_false_iff, true_and, and_true, dl_leLT0, dl_leLF0, dl_leRT0, dl_leRF0, dl_ltLT0, dl_ltLF0, dl_ltRT0, dl_ltRF0, dl_eqRT0, dl_eqRF0, dl_leLT1, dl_leLF1, dl_leRT1, dl_leRF1, dl_ltLT1, dl_ltLF1, dl_ltRT1, dl_ltRF1, dl_eqRT1, dl_eqRF1, dl_leLT2, dl_leLF2, dl_leRT2, dl_leRF2, dl_ltLT2, dl_ltLF2, dl_ltRT2, dl_ltRF2, dl_eqRT2, dl_eqRF2, dl_leLT3, dl_leLF3, dl_leRT3, dl_leRF3, dl_ltLT3, dl_ltLF3, dl_ltRT3, dl_ltRF3, dl_eqRT3, dl_eqRF3, dl_leLT8, dl_leLF8, dl_leRT8, dl_leRF8, dl_ltLT8, dl_ltLF8, dl_ltRT8, dl_ltRF8, dl_eqRT8, dl_eqRF8, dl_leLT9, dl_leLF9, dl_leRT9, dl_leRF9, dl_ltLT9, dl_ltLF9, dl_ltRT9, dl_ltRF9, dl_eqRT9, dl_eqRF9, dl_leLT16, dl_leLF16, dl_leRT16, dl_leRF16, dl_ltLT16, dl_ltLF16, dl_ltRT16, dl_ltRF16, dl_eqRT16, dl_eqRF16, dl_leLT64, dl_leLF64, dl_leRT64, dl_leRF64, dl_ltLT64, dl_ltLF64, dl_ltRT64, dl_ltRF64, dl_eqRT64, dl_eqRF64, dl_leLT65, dl_leLF65, dl_leRT65, dl_leRF65, dl_ltLT65, dl_ltLF65, dl_ltRT65, dl_ltRF65, dl_eqRT65, dl_eqRF65]
          have y := dl_yext (C := C) (L := L) (ph := ph) (ol := ol) (T := T) (cnt := cnt) (dy := dy) (K := K) (S := S) (D := D) (N := N) (F := F) (P := P) (old := old) (nxt := nxt) (dat := dat) (mk := mk) (n := n) (v2 := v2) (v3 := v3) (fun r' v' => r' = nI (ol + n) ∧ i_Rel (k + 5) (nI C, nI L, nI ph, nI (ol + n), nI T, nI cnt, nI ls, nI co, kp, nI dn, nI pl, dl_fill bu ol n (fun k => (v2 + nI k * v3) &&& 255), dl_A K, dl_A S, dl_A D, dl_A N, dl_A A, pool, dl_A bD, bf, af, cm, dl_A sq, dl_A po, dl_A ws, dl_A ss, ed, re, dl_A bd) v') b2 h2 ?_ (n + 1) 0 (by omega) (by omega)
          · rw [dl_fill_0] at y
            exact ⟨n + 1, y⟩
          · refine ⟨rfl, dl_mk _ ⟨a1, ⟨b1, b2, b3, b4, b5, h2, b7, fun c hc => ?_⟩, Lt, fun _ i hi => ?_, fun h => by omega⟩⟩
            · obtain ⟨c1, c2, c3⟩ := b8 c hc
              exact ⟨c1, c2, by omega⟩
            · unfold dl_fill
              rw [a4 p0 i hi]
      · have q1 := dl_leSub (a := C) (b := ol) (c := n) (by omega) (by omega) hn
        have q2 : ¬ nI n ≤ nI C - nI ol := fun z => h2 (by have := q1.mp z; omega)
        have q3 : ¬ nI n ≤ nI (C - ol) := by rw [dl_sub (by omega)] at q2; exact q2
        simp (disch := omega) only [wpX_extendOld, wpY_extendOld, nI_clamp, dl_Ar, dl_Au, dl_leT, dl_leF, dl_ltT, dl_ltF, dl_eqT, dl_eqF, nI_add, nI_1, dl_inT, dl_sub, dl_sub1, dl_subm1, forall_eq, true_implies, false_implies, not_true, not_false_iff, true_and, and_true, dl_leLT0, dl_leLF0, dl_leRT0, dl_leRF0, dl_ltLT0, dl_ltLF0, dl_ltRT0, dl_ltRF0, dl_eqRT0, dl_eqRF0, dl_leLT1, dl_leLF1, dl_leRT1, dl_leRF1, dl_ltLT1, dl_ltLF1, dl_ltRT1, dl_ltRF1, dl_eqRT1, dl_eqRF1, dl_leLT2, dl_leLF2, dl_leRT2, dl_leRF2, dl_ltLT2, dl_ltLF2, dl_ltRT2, dl_ltRF2, dl_eqRT2, dl_eqRF2, dl_leLT3, dl_leLF3, dl_leRT3, dl_leRF3, dl_ltLT3, dl_ltLF3, dl_ltRT3, dl_ltRF3, dl_eqRT3, dl_eqRF3, dl_leLT8, dl_leLF8, dl_leRT8, dl_leRF8, dl_ltLT8, dl_ltLF8, dl_ltRT8, dl_ltRF8, dl_eqRT8, dl_eqRF8, dl_leLT9, dl_leLF9, dl_leRT9, dl_leRF9, dl_ltLT9, dl_ltLF9, dl_ltRT9, dl_ltRF9, dl_eqRT9, dl_eqRF9, dl_leLT16, dl_leLF16, dl_leRT16, dl_leRF16, dl_ltLT16, dl_ltLF16, dl_ltRT16, dl_ltRF16, dl_eqRT16, dl_eqRF16, dl_leLT64, dl_leLF64, dl_leRT64, dl_leRF64, dl_ltLT64, dl_ltLF64, dl_ltRT64, dl_ltRF64, dl_eqRT64, dl_eqRF64, dl_leLT65, dl_leLF65, dl_leRT65, dl_leRF65, dl_ltLT65, dl_ltLF65, dl_ltRT65, dl_ltRF65, dl_eqRT65, dl_eqRF65, q3]
        first | exact Rl | exact ⟨by trivial, Rl⟩
    · simp (disch := omega) only [wpX_extendOld, wpY_extendOld, nI_clamp, dl_Ar, dl_Au, dl_leT, dl_leF, dl_ltT, dl_ltF, dl_eqT, dl_eqF, nI_add, nI_1, dl_inT, dl_sub, dl_sub1, dl_subm1, forall_eq, true_implies, false_implies, not_true, not_false_iff, true_and, and_true, dl_leLT0, dl_leLF0, dl_leRT0, dl_leRF0, dl_ltLT0, dl_ltLF0, dl_ltRT0, dl_ltRF0, dl_eqRT0, dl_eqRF0, dl_leLT1, dl_leLF1, dl_leRT1, dl_leRF1, dl_ltLT1, dl_ltLF1, dl_ltRT1, dl_ltRF1, dl_eqRT1, dl_eqRF1, dl_leLT2, dl_leLF2, dl_leRT2, dl_leRF2, dl_ltLT2, dl_ltLF2, dl_ltRT2, dl_ltRF2, dl_eqRT2, dl_eqRF2, dl_leLT3, dl_leLF3, dl_leRT3, dl_leRF3, dl_ltLT3, dl_ltLF3, dl_ltRT3, dl_ltRF3, dl_eqRT3, dl_eqRF3, dl_leLT8, dl_leLF8, dl_leRT8, dl_leRF8, dl_ltLT8, dl_ltLF8, dl_ltRT8, dl_ltRF8, dl_eqRT8, dl_eqRF8, dl_leLT9, dl_leLF9, dl_leRT9, dl_leRF9, dl_ltLT9, dl_ltLF9, dl_ltRT9, dl_ltRF9, dl_eqRT9, dl_eqRF9, dl_leLT16, dl_leLF16, dl_leRT16, dl_leRF16, dl_ltLT16, dl_ltLF16, dl_ltRT16, dl_ltRF16, dl_eqRT16, dl_eqRF16, dl_leLT64, dl_leLF64, dl_leRT64, dl_leRF64, dl_ltLT64, dl_ltLF64, dl_ltRT64, dl_ltRF64, dl_eqRT64, dl_eqRF64, dl_leLT65, dl_leLF65, dl_leRT65, dl_leRF65, dl_ltLT65, dl_ltLF65, dl_ltRT65, dl_ltRF65, dl_eqRT65, dl_eqRF65, h1]
      first | exact Rl | exact ⟨by trivial, Rl⟩
  · simp (disch := omega) only [wpX_extendOld, wpY_extendOld, nI_clamp, dl_Ar, dl_Au, dl_leT, dl_leF, dl_ltT, dl_ltF, dl_eqT, dl_eqF, nI_add, nI_1, dl_inT, dl_sub, dl_sub1, dl_subm1, forall_eq, true_implies, false_implies, not_true, not_false_iff, true_and, and_true, dl_leLT0, dl_leLF0, dl_leRT0, dl_leRF0, dl_ltLT0, dl_ltLF0, dl_ltRT0, dl_ltRF0, dl_eqRT0, dl_eqRF0, dl_leLT1, dl_leLF1, dl_leRT1, dl_leRF1, dl_ltLT1, dl_ltLF1, dl_ltRT1, dl_ltRF1, dl_eqRT1, dl_eqRF1, dl_leLT2, dl_leLF2, dl_leRT2, dl_leRF2, dl_ltLT2, dl_ltLF2, dl_ltRT2, dl_ltRF2, dl_eqRT2, dl_eqRF2, dl_leLT3, dl_leLF3, dl_leRT3, dl_leRF3, dl_ltLT3, dl_ltLF3, dl_ltRT3, dl_ltRF3, dl_eqRT3, dl_eqRF3, dl_leLT8, dl_leLF8, dl_leRT8, dl_leRF8, dl_ltLT8, dl_ltLF8, dl_ltRT8, dl_ltRF8, dl_eqRT8, dl_eqRF8, dl_leLT9, dl_leLF9, dl_leRT9, dl_leRF9, dl_ltLT9, dl_ltLF9, dl_ltRT9, dl_ltRF9, dl_eqRT9, dl_eqRF9, dl_leLT16, dl_leLF16, dl_leRT16, dl_leRF16, dl_ltLT16, dl_ltLF16, dl_ltRT16, dl_ltRF16, dl_eqRT16, dl_eqRF16, dl_leLT64, dl_leLF64, dl_leRT64, dl_leRF64, dl_ltLT64, dl_ltLF64, dl_ltRT64, dl_ltRF64, dl_eqRT64, dl_eqRF64, dl_leLT65, dl_leLF65, dl_leRT65, dl_leRF65, dl_ltLT65, dl_ltLF65, dl_ltRT65, dl_ltRF65, dl_eqRT65, dl_eqRF65]
    first | exact Rl | exact ⟨by trivial, Rl⟩
theorem i_vc_setTarget {k : Nat} {u : SX} {v : SY} (I : i_Rel k u v) (hk : k + 5 ≤ 2562) (v1 : Int32) : wpX_setTarget (fun r u' => wpY_setTarget (fun r' v' => r' = r ∧ i_Rel (k + 5) u' v') v v1) u v1 := by
  refine dl_el (Q := fun u v => wpX_setTarget (fun r u' => wpY_setTarget (fun r' v' => r' = r ∧ i_Rel (k + 5) u' v') v v1) u v1) I ?_
  intro C L ph ol T cnt ls co dn pl dy kp K S D N A bD sq po ws ss bd F P bu pool bf af cm ed re old nxt dat mk hI
  have Rl := dl_mk (af := af) (ed := ed) (re := re) (nxt := nxt) (mk := mk) (bd := bd) (k + 5) hI
  obtain ⟨a1, B, Lt, a4, a5⟩ := hI
  have B' := B
  obtain ⟨b1, b2, b3, b4, b5, b6, b7, b8⟩ := B'
  by_cases p0 : ph = 0
  · by_cases h1 : v1 < 0
    · simp (disch := omega) only [wpX_setTarget, wpY_setTarget, nI_clamp, dl_Ar, dl_Au, dl_leT, dl_leF, dl_ltT, dl_ltF, dl_eqT, dl_eqF, nI_add, nI_1, dl_inT, dl_sub, dl_sub1, dl_subm1, forall_eq, true_implies, false_implies, not_true, not_false_iff, true_and, and_true, dl_leLT0, dl_leLF0, dl_leRT0, dl_leRF0, dl_ltLT0, dl_ltLF0, dl_ltRT0, dl_ltRF0, dl_eqRT0, dl_eqRF0, dl_leLT1, dl_leLF1, dl_leRT1, dl_leRF1, dl_ltLT1, dl_ltLF1, dl_ltRT1, dl_ltRF1, dl_eqRT1, dl_eqRF1, dl_leLT2, dl_leLF2, dl_leRT2, dl_leRF2, dl_ltLT2, dl_ltLF2, dl_ltRT2, dl_ltRF2, dl_eqRT2, dl_eqRF2, dl_leLT3, dl_leLF3, dl_leRT3, dl_leRF3, dl_ltLT3, dl_ltLF3, dl_ltRT3, dl_ltRF3, dl_eqRT3, dl_eqRF3, dl_leLT8, dl_leLF8, dl_leRT8, dl_leRF8, dl_ltLT8, dl_ltLF8, dl_ltRT8, dl_ltRF8, dl_eqRT8, dl_eqRF8, dl_leLT9, dl_leLF9, dl_leRT9, dl_leRF9, dl_ltLT9, dl_ltLF9, dl_ltRT9, dl_ltRF9, dl_eqRT9, dl_eqRF9, dl_leLT16, dl_leLF16, dl_leRT16, dl_leRF16, dl_ltLT16, dl_ltLF16, dl_ltRT16, dl_ltRF16, dl_eqRT16, dl_eqRF16, dl_leLT64, dl_leLF64, dl_leRT64, dl_leRF64, dl_ltLT64, dl_ltLF64, dl_ltRT64, dl_ltRF64, dl_eqRT64, dl_eqRF64, dl_leLT65, dl_leLF65, dl_leRT65, dl_leRF65, dl_ltLT65, dl_ltLF65, dl_ltRT65, dl_ltRF65, dl_eqRT65, dl_eqRF65, h1]
      first | exact Rl | exact ⟨by trivial, Rl⟩
    · obtain ⟨n, hn, rfl⟩ := nI_of h1
      by_cases h2 : n ≤ C
      · simp (disch := omega) only [wpX_setTarget, wpY_setTarget, nI_clamp, dl_Ar, dl_Au, dl_leT, dl_leF, dl_ltT, dl_ltF, dl_eqT, dl_eqF, nI_add, nI_1, dl_inT, dl_sub, dl_sub1, dl_subm1, forall_eq, true_implies, false_implies, not_true, not_false_iff, true_and, and_true, dl_leLT0, dl_leLF0, dl_leRT0, dl_leRF0, dl_ltLT0, dl_ltLF0, dl_ltRT0, dl_ltRF0, dl_eqRT0, dl_eqRF0, dl_leLT1, dl_leLF1, dl_leRT1, dl_leRF1, dl_ltLT1, dl_ltLF1, dl_ltRT1, dl_ltRF1, dl_eqRT1, dl_eqRF1, dl_leLT2, dl_leLF2, dl_leRT2, dl_leRF2, dl_ltLT2, dl_ltLF2, dl_ltRT2, dl_ltRF2, dl_eqRT2, dl_eqRF2, dl_leLT3, dl_leLF3, dl_leRT3, dl_leRF3, dl_ltLT3, dl_ltLF3, dl_ltRT3, dl_ltRF3, dl_eqRT3, dl_eqRF3, dl_leLT8, dl_leLF8, dl_leRT8, dl_leRF8, dl_ltLT8, dl_ltLF8, dl_ltRT8, dl_ltRF8, dl_eqRT8, dl_eqRF8, dl_leLT9, dl_leLF9, dl_leRT9, dl_leRF9, dl_ltLT9, dl_ltLF9, dl_ltRT9, dl_ltRF9, dl_eqRT9, dl_eqRF9, dl_leLT16, dl_leLF16, dl_leRT16, dl_leRF16, dl_ltLT16, dl_ltLF16, dl_ltRT16, dl_ltRF16, dl_eqRT16, dl_eqRF16, dl_leLT64, dl_leLF64, dl_leRT64, dl_leRF64, dl_ltLT64, dl_ltLF64, dl_ltRT64, dl_ltRF64, dl_eqRT64, dl_eqRF64, dl_leLT65, dl_leLF65, dl_leRT65, dl_leRF65, dl_ltLT65, dl_ltLF65, dl_ltRT65, dl_ltRF65, dl_eqRT65, dl_eqRF65]
        exact dl_mk _ ⟨a1, ⟨b1, b2, b3, b4, b5, b6, h2, b8⟩, Lt, a4, fun h => by omega⟩
      · simp (disch := omega) only [wpX_setTarget, wpY_setTarget, nI_clamp, dl_Ar, dl_Au, dl_leT, dl_leF, dl_ltT, dl_ltF, dl_eqT, dl_eqF, nI_add, nI_1, dl_inT, dl_sub, dl_sub1, dl_subm1, forall_eq, true_implies, false_implies, not_true, not_false_iff, true_and, and_true, dl_leLT0, dl_leLF0, dl_leRT0, dl_leRF0, dl_ltLT0, dl_ltLF0, dl_ltRT0, dl_ltRF0, dl_eqRT0, dl_eqRF0, dl_leLT1, dl_leLF1, dl_leRT1, dl_leRF1, dl_ltLT1, dl_ltLF1, dl_ltRT1, dl_ltRF1, dl_eqRT1, dl_eqRF1, dl_leLT2, dl_leLF2, dl_leRT2, dl_leRF2, dl_ltLT2, dl_ltLF2, dl_ltRT2, dl_ltRF2, dl_eqRT2, dl_eqRF2, dl_leLT3, dl_leLF3, dl_leRT3, dl_leRF3, dl_ltLT3, dl_ltLF3, dl_ltRT3, dl_ltRF3, dl_eqRT3, dl_eqRF3, dl_leLT8, dl_leLF8, dl_leRT8, dl_leRF8, dl_ltLT8, dl_ltLF8, dl_ltRT8, dl_ltRF8, dl_eqRT8, dl_eqRF8, dl_leLT9, dl_leLF9, dl_leRT9, dl_leRF9, dl_ltLT9, dl_ltLF9, dl_ltRT9, dl_ltRF9, dl_eqRT9, dl_eqRF9, dl_leLT16, dl_leLF16, dl_leRT16, dl_leRF16, dl_ltLT16, dl_ltLF16, dl_ltRT16, dl_ltRF16, dl_eqRT16, dl_eqRF16, dl_leLT64, dl_leLF64, dl_leRT64, dl_leRF64, dl_ltLT64, dl_ltLF64, dl_ltRT64, dl_ltRF64, dl_eqRT64, dl_eqRF64, dl_leLT65, dl_leLF65, dl_leRT65, dl_leRF65, dl_ltLT65, dl_ltLF65, dl_ltRT65, dl_ltRF65, dl_eqRT65, dl_eqRF65]
        first | exact Rl | exact ⟨by trivial, Rl⟩
  · simp (disch := omega) only [wpX_setTarget, wpY_setTarget, nI_clamp, dl_Ar, dl_Au, dl_leT, dl_leF, dl_ltT, dl_ltF, dl_eqT, dl_eqF, nI_add, nI_1, dl_inT, dl_sub, dl_sub1, dl_subm1, forall_eq, true_implies, false_implies, not_true, not_false_iff, true_and, and_true, dl_leLT0, dl_leLF0, dl_leRT0, dl_leRF0, dl_ltLT0, dl_ltLF0, dl_ltRT0, dl_ltRF0, dl_eqRT0, dl_eqRF0, dl_leLT1, dl_leLF1, dl_leRT1, dl_leRF1, dl_ltLT1, dl_ltLF1, dl_ltRT1, dl_ltRF1, dl_eqRT1, dl_eqRF1, dl_leLT2, dl_leLF2, dl_leRT2, dl_leRF2, dl_ltLT2, dl_ltLF2, dl_ltRT2, dl_ltRF2, dl_eqRT2, dl_eqRF2, dl_leLT3, dl_leLF3, dl_leRT3, dl_leRF3, dl_ltLT3, dl_ltLF3, dl_ltRT3, dl_ltRF3, dl_eqRT3, dl_eqRF3, dl_leLT8, dl_leLF8, dl_leRT8, dl_leRF8, dl_ltLT8, dl_ltLF8, dl_ltRT8, dl_ltRF8, dl_eqRT8, dl_eqRF8, dl_leLT9, dl_leLF9, dl_leRT9, dl_leRF9, dl_ltLT9, dl_ltLF9, dl_ltRT9, dl_ltRF9, dl_eqRT9, dl_eqRF9, dl_leLT16, dl_leLF16, dl_leRT16, dl_leRF16, dl_ltLT16, dl_ltLF16, dl_ltRT16, dl_ltRF16, dl_eqRT16, dl_eqRF16, dl_leLT64, dl_leLF64, dl_leRT64, dl_leRF64, dl_ltLT64, dl_ltLF64, dl_ltRT64, dl_ltRF64, dl_eqRT64, dl_eqRF64, dl_leLT65, dl_leLF65, dl_leRT65, dl_leRF65, dl_ltLT65, dl_ltLF65, dl_ltRT65, dl_ltRF65, dl_eqRT65, dl_eqRF65]
    first | exact Rl | exact ⟨by trivial, Rl⟩
theorem i_vc_faultAt {k : Nat} {u : SX} {v : SY} (I : i_Rel k u v) (hk : k + 5 ≤ 2562) : wpX_faultAt (fun r u' => wpY_faultAt (fun r' => r' = r ∧ i_Rel (k + 5) u' v) v) u := by
  refine dl_el (Q := fun u v => wpX_faultAt (fun r u' => wpY_faultAt (fun r' => r' = r ∧ i_Rel (k + 5) u' v) v) u) I ?_
  intro C L ph ol T cnt ls co dn pl dy kp K S D N A bD sq po ws ss bd F P bu pool bf af cm ed re old nxt dat mk hI
  have B := hI.2.1
  obtain ⟨p, p1, p2, p3⟩ := dl_first (fun p => dl_flt T p (dl_wc cnt D N p) ≠ 0) C
  have p2' : ∀ q, q < p → dl_flt T q (dl_wc cnt D N q) = 0 := fun q hq => Classical.byContradiction (p2 q hq)
  refine dl_xfaultAt _ B p1 p2' p3 (fun E => ?_)
  exact dl_yfaultAt _ B p1 p2' p3 ⟨by trivial, dl_mk _ hI⟩
theorem i_vc_faultKind {k : Nat} {u : SX} {v : SY} (I : i_Rel k u v) (hk : k + 5 ≤ 2562) : wpX_faultKind (fun r u' => wpY_faultKind (fun r' => r' = r ∧ i_Rel (k + 5) u' v) v) u := by
  refine dl_el (Q := fun u v => wpX_faultKind (fun r u' => wpY_faultKind (fun r' => r' = r ∧ i_Rel (k + 5) u' v) v) u) I ?_
  intro C L ph ol T cnt ls co dn pl dy kp K S D N A bD sq po ws ss bd F P bu pool bf af cm ed re old nxt dat mk hI
  have B := hI.2.1
  obtain ⟨p, p1, p2, p3⟩ := dl_first (fun p => dl_flt T p (dl_wc cnt D N p) ≠ 0) C
  have p2' : ∀ q, q < p → dl_flt T q (dl_wc cnt D N q) = 0 := fun q hq => Classical.byContradiction (p2 q hq)
  refine dl_xfaultKind _ B p1 p2' p3 (fun E => ?_)
  exact dl_yfaultKind _ B p1 p2' p3 ⟨by trivial, dl_mk _ hI⟩
end
section
theorem dl_Au1 (f : Nat → Nat) (k : Nat) : upd (dl_A f) k 1 = dl_A (dl_u f k 1) := dl_Au f k 1
theorem dl_Au2 (f : Nat → Nat) (k : Nat) : upd (dl_A f) k 2 = dl_A (dl_u f k 2) := dl_Au f k 2
theorem dl_Aum (f : Nat → Nat) (k : Nat) : upd (dl_A f) k (-1) = dl_A (dl_u f k 4294967295) := dl_Au f k 4294967295
theorem dl_lsum_c {K N K' N' : Nat → Nat} {n : Nat} (h : ∀ c, c < n → K' c = K c ∧ N' c = N c) : dl_lsum K' N' n = dl_lsum K N n := dl_s_c (fun i hi => by rw [(h i hi).1, (h i hi).2])
theorem dl_lsum_s {K N : Nat → Nat} {c : Nat} : dl_lsum K N (c + 1) = dl_lsum K N c + if K c = 2 then N c else 0 := rfl
theorem dl_lsum_u {K N : Nat → Nat} {c n t v : Nat} (h : c ≤ n) : dl_lsum (dl_u K n t) (dl_u N n v) c = dl_lsum K N c := dl_lsum_c (fun i hi => ⟨dl_un (by omega), dl_un (by omega)⟩)
theorem dl_lsum_get {K N : Nat → Nat} {c n : Nat} (h : c < n) (k : K c = 2) : dl_lsum K N c + N c ≤ dl_lsum K N n := by
  have := dl_s_get (f := fun c => if K c = 2 then N c else 0) h
  rw [if_pos k] at this
  exact this
theorem dl_Bs_app {C L ol T cnt t s d n : Nat} {K S D N : Nat → Nat} (B : dl_Bs C L ol T cnt K S D N) (hl : cnt < L) (hn : 1 ≤ n) (hd : d + n ≤ C) (hk : (t = 1 ∧ s + n ≤ ol) ∨ (t = 2 ∧ s = 4294967295)) : dl_Bs C L ol T (cnt + 1) (dl_u K cnt t) (dl_u S cnt s) (dl_u D cnt d) (dl_u N cnt n) := by
  obtain ⟨b1, b2, b3, b4, b5, b6, b7, b8⟩ := B
  refine ⟨b1, b2, b3, b4, hl, b6, b7, fun c hc => ?_⟩
  unfold dl_Cm
  by_cases e : c = cnt
  · subst e
    rw [dl_us, dl_us, dl_us, dl_us]; exact ⟨hn, hd, hk⟩
  · rw [dl_un e, dl_un e, dl_un e, dl_un e]; exact b8 c (by omega)
theorem i_vc_copy {k : Nat} {u : SX} {v : SY} (I : i_Rel k u v) (hk : k + 5 ≤ 2562) (v1 : Int32) (v2 : Int32) (v3 : Int32) : wpX_copy (fun r u' => wpY_copy (fun r' v' => r' = r ∧ i_Rel (k + 5) u' v') v v1 v2 v3) u v1 v2 v3 := by
  refine dl_el (Q := fun u v => wpX_copy (fun r u' => wpY_copy (fun r' v' => r' = r ∧ i_Rel (k + 5) u' v') v v1 v2 v3) u v1 v2 v3) I ?_
  intro C L ph ol T cnt ls co dn pl dy kp K S D N A bD sq po ws ss bd F P bu pool bf af cm ed re old nxt dat mk hI
  have Rl := dl_mk (af := af) (ed := ed) (re := re) (nxt := nxt) (mk := mk) (bd := bd) (k + 5) hI
  obtain ⟨a1, B, Lt, a4, a5⟩ := hI
  have B' := B
  obtain ⟨b1, b2, b3, b4, b5, b6, b7, b8⟩ := B'
  by_cases p0 : ph = 0
  · by_cases hl : cnt < L
    · by_cases h1 : v3 < 1
      · simp (disch := omega) only [wpX_copy, wpY_copy, nI_clamp, dl_Ar, dl_Au, dl_leT, dl_leF, dl_ltT, dl_ltF, dl_eqT, dl_eqF, nI_add, nI_1, dl_inT, dl_sub, dl_sub1, dl_subm1, forall_eq, true_implies, false_implies, not_true, not_false_iff, true_and, and_true, dl_leLT0, dl_leLF0, dl_leRT0, dl_leRF0, dl_ltLT0, dl_ltLF0, dl_ltRT0, dl_ltRF0, dl_eqRT0, dl_eqRF0, dl_leLT1, dl_leLF1, dl_leRT1, dl_leRF1, dl_ltLT1, dl_ltLF1, dl_ltRT1, dl_ltRF1, dl_eqRT1, dl_eqRF1, dl_leLT2, dl_leLF2, dl_leRT2, dl_leRF2, dl_ltLT2, dl_ltLF2, dl_ltRT2, dl_ltRF2, dl_eqRT2, dl_eqRF2, dl_leLT3, dl_leLF3, dl_leRT3, dl_leRF3, dl_ltLT3, dl_ltLF3, dl_ltRT3, dl_ltRF3, dl_eqRT3, dl_eqRF3, dl_leLT8, dl_leLF8, dl_leRT8, dl_leRF8, dl_ltLT8, dl_ltLF8, dl_ltRT8, dl_ltRF8, dl_eqRT8, dl_eqRF8, dl_leLT9, dl_leLF9, dl_leRT9, dl_leRF9, dl_ltLT9, dl_ltLF9, dl_ltRT9, dl_ltRF9, dl_eqRT9, dl_eqRF9, dl_leLT16, dl_leLF16, dl_leRT16, dl_leRF16, dl_ltLT16, dl_ltLF16, dl_ltRT16, dl_ltRF16, dl_eqRT16, dl_eqRF16, dl_leLT64, dl_leLF64, dl_leRT64, dl_leRF64, dl_ltLT64, dl_ltLF64, dl_ltRT64, dl_ltRF64, dl_eqRT64, dl_eqRF64, dl_leLT65, dl_leLF65, dl_leRT65, dl_leRF65, dl_ltLT65, dl_ltLF65, dl_ltRT65, dl_ltRF65, dl_eqRT65, dl_eqRF65, h1]
        first | exact Rl | exact ⟨by trivial, Rl⟩
      · obtain ⟨n, hn, rfl⟩ := nI_of (x := v3) (fun z => h1 (Int32.lt_of_lt_of_le z (by decide)))
        rw [dl_ltRI1 hn] at h1
        by_cases h2 : C < n
        · simp (disch := omega) only [wpX_copy, wpY_copy, nI_clamp, dl_Ar, dl_Au, dl_leT, dl_leF, dl_ltT, dl_ltF, dl_eqT, dl_eqF, nI_add, nI_1, dl_inT, dl_sub, dl_sub1, dl_subm1, forall_eq, true_implies, false_implies, not_true, not_false_iff, true_and, and_true, dl_leLT0, dl_leLF0, dl_leRT0, dl_leRF0, dl_ltLT0, dl_ltLF0, dl_ltRT0, dl_ltRF0, dl_eqRT0, dl_eqRF0, dl_leLT1, dl_leLF1, dl_leRT1, dl_leRF1, dl_ltLT1, dl_ltLF1, dl_ltRT1, dl_ltRF1, dl_eqRT1, dl_eqRF1, dl_leLT2, dl_leLF2, dl_leRT2, dl_leRF2, dl_ltLT2, dl_ltLF2, dl_ltRT2, dl_ltRF2, dl_eqRT2, dl_eqRF2, dl_leLT3, dl_leLF3, dl_leRT3, dl_leRF3, dl_ltLT3, dl_ltLF3, dl_ltRT3, dl_ltRF3, dl_eqRT3, dl_eqRF3, dl_leLT8, dl_leLF8, dl_leRT8, dl_leRF8, dl_ltLT8, dl_ltLF8, dl_ltRT8, dl_ltRF8, dl_eqRT8, dl_eqRF8, dl_leLT9, dl_leLF9, dl_leRT9, dl_leRF9, dl_ltLT9, dl_ltLF9, dl_ltRT9, dl_ltRF9, dl_eqRT9, dl_eqRF9, dl_leLT16, dl_leLF16, dl_leRT16, dl_leRF16, dl_ltLT16, dl_ltLF16, dl_ltRT16, dl_ltRF16, dl_eqRT16, dl_eqRF16, dl_leLT64, dl_leLF64, dl_leRT64, dl_leRF64, dl_ltLT64, dl_ltLF64, dl_ltRT64, dl_ltRF64, dl_eqRT64, dl_eqRF64, dl_leLT65, dl_leLF65, dl_leRT65, dl_leRF65, dl_ltLT65, dl_ltLF65, dl_ltRT65, dl_ltRF65, dl_eqRT65, dl_eqRF65]
          first | exact Rl | exact ⟨by trivial, Rl⟩
        · by_cases h3 : v1 < 0
          · simp (disch := omega) only [wpX_copy, wpY_copy, nI_clamp, dl_Ar, dl_Au, dl_leT, dl_leF, dl_ltT, dl_ltF, dl_eqT, dl_eqF, nI_add, nI_1, dl_inT, dl_sub, dl_sub1, dl_subm1, forall_eq, true_implies, false_implies, not_true, not_false_iff, true_and, and_true, dl_leLT0, dl_leLF0, dl_leRT0, dl_leRF0, dl_ltLT0, dl_ltLF0, dl_ltRT0, dl_ltRF0, dl_eqRT0, dl_eqRF0, dl_leLT1, dl_leLF1, dl_leRT1, dl_leRF1, dl_ltLT1, dl_ltLF1, dl_ltRT1, dl_ltRF1, dl_eqRT1, dl_eqRF1, dl_leLT2, dl_leLF2, dl_leRT2, dl_leRF2, dl_ltLT2, dl_ltLF2, dl_ltRT2, dl_ltRF2, dl_eqRT2, dl_eqRF2, dl_leLT3, dl_leLF3, dl_leRT3, dl_leRF3, dl_ltLT3, dl_ltLF3, dl_ltRT3, dl_ltRF3, dl_eqRT3, dl_eqRF3, dl_leLT8, dl_leLF8, dl_leRT8, dl_leRF8, dl_ltLT8, dl_ltLF8, dl_ltRT8, dl_ltRF8, dl_eqRT8, dl_eqRF8, dl_leLT9, dl_leLF9, dl_leRT9, dl_leRF9, dl_ltLT9, dl_ltLF9, dl_ltRT9, dl_ltRF9, dl_eqRT9, dl_eqRF9, dl_leLT16, dl_leLF16, dl_leRT16, dl_leRF16, dl_ltLT16, dl_ltLF16, dl_ltRT16, dl_ltRF16, dl_eqRT16, dl_eqRF16, dl_leLT64, dl_leLF64, dl_leRT64, dl_leRF64, dl_ltLT64, dl_ltLF64, dl_ltRT64, dl_ltRF64, dl_eqRT64, dl_eqRF64, dl_leLT65, dl_leLF65, dl_leRT65, dl_leRF65, dl_ltLT65, dl_ltLF65, dl_ltRT65, dl_ltRF65, dl_eqRT65, dl_eqRF65, h3]
            first | exact Rl | exact ⟨by trivial, Rl⟩
          · obtain ⟨s, hs, rfl⟩ := nI_of h3
            have q4 : (nI ol - nI n < nI s) ↔ ol < s + n := by
              by_cases z : s < 1073741824
              · exact dl_subLt (by omega) (by omega) z
              · rw [Int32.lt_iff_toInt_lt, pk_sub_toInt (by omega) (by omega), nI_toInt (by omega)]
                omega
            by_cases h4 : ol < s + n
            · have q5 := q4.mpr h4
              simp (disch := omega) only [wpX_copy, wpY_copy, nI_clamp, dl_eqRT0, dl_ltT, dl_ltF, dl_ltRF0, dl_ltRF1, q5, true_implies, false_implies, not_true, not_false_iff, true_and, and_true]
              first | exact Rl | exact ⟨by trivial, Rl⟩
            · by_cases h5 : v2 < 0
              · simp (disch := omega) only [wpX_copy, wpY_copy, nI_clamp, dl_Ar, dl_Au, dl_leT, dl_leF, dl_ltT, dl_ltF, dl_eqT, dl_eqF, nI_add, nI_1, dl_inT, dl_sub, dl_sub1, dl_subm1, forall_eq, true_implies, false_implies, not_true, not_false_iff, true_and, and_true, dl_leLT0, dl_leLF0, dl_leRT0, dl_leRF0, dl_ltLT0, dl_ltLF0, dl_ltRT0, dl_ltRF0, dl_eqRT0, dl_eqRF0, dl_leLT1, dl_leLF1, dl_leRT1, dl_leRF1, dl_ltLT1, dl_ltLF1, dl_ltRT1, dl_ltRF1, dl_eqRT1, dl_eqRF1, dl_leLT2, dl_leLF2, dl_leRT2, dl_leRF2, dl_ltLT2, dl_ltLF2, dl_ltRT2, dl_ltRF2, dl_eqRT2, dl_eqRF2, dl_leLT3, dl_leLF3, dl_leRT3, dl_leRF3, dl_ltLT3, dl_ltLF3, dl_ltRT3, dl_ltRF3, dl_eqRT3, dl_eqRF3, dl_leLT8, dl_leLF8, dl_leRT8, dl_leRF8, dl_ltLT8, dl_ltLF8, dl_ltRT8, dl_ltRF8, dl_eqRT8, dl_eqRF8, dl_leLT9, dl_leLF9, dl_leRT9, dl_leRF9, dl_ltLT9, dl_ltLF9, dl_ltRT9, dl_ltRF9, dl_eqRT9, dl_eqRF9, dl_leLT16, dl_leLF16, dl_leRT16, dl_leRF16, dl_ltLT16, dl_ltLF16, dl_ltRT16, dl_ltRF16, dl_eqRT16, dl_eqRF16, dl_leLT64, dl_leLF64, dl_leRT64, dl_leRF64, dl_ltLT64, dl_ltLF64, dl_ltRT64, dl_ltRF64, dl_eqRT64, dl_eqRF64, dl_leLT65, dl_leLF65, dl_leRT65, dl_leRF65, dl_ltLT65, dl_ltLF65, dl_ltRT65, dl_ltRF65, dl_eqRT65, dl_eqRF65, h5]
                first | exact Rl | exact ⟨by trivial, Rl⟩
              · obtain ⟨d, hd, rfl⟩ := nI_of h5
                by_cases h6 : d + n ≤ C
                · simp (disch := omega) only [wpX_copy, wpX_append, wpY_copy, nI_clamp, dl_Ar, dl_Au, dl_leT, dl_leF, dl_ltT, dl_ltF, dl_eqT, dl_eqF, nI_add, nI_1, dl_inT, dl_sub, dl_sub1, dl_subm1, forall_eq, true_implies, false_implies, not_true, not_false_iff, true_and, and_true, dl_leLT0, dl_leLF0, dl_leRT0, dl_leRF0, dl_ltLT0, dl_ltLF0, dl_ltRT0, dl_ltRF0, dl_eqRT0, dl_eqRF0, dl_leLT1, dl_leLF1, dl_leRT1, dl_leRF1, dl_ltLT1, dl_ltLF1, dl_ltRT1, dl_ltRF1, dl_eqRT1, dl_eqRF1, dl_leLT2, dl_leLF2, dl_leRT2, dl_leRF2, dl_ltLT2, dl_ltLF2, dl_ltRT2, dl_ltRF2, dl_eqRT2, dl_eqRF2, dl_leLT3, dl_leLF3, dl_leRT3, dl_leRF3, dl_ltLT3, dl_ltLF3, dl_ltRT3, dl_ltRF3, dl_eqRT3, dl_eqRF3, dl_leLT8, dl_leLF8, dl_leRT8, dl_leRF8, dl_ltLT8, dl_ltLF8, dl_ltRT8, dl_ltRF8, dl_eqRT8, dl_eqRF8, dl_leLT9, dl_leLF9, dl_leRT9, dl_leRF9, dl_ltLT9, dl_ltLF9, dl_ltRT9, dl_ltRF9, dl_eqRT9, dl_eqRF9, dl_leLT16, dl_leLF16, dl_leRT16, dl_leRF16, dl_ltLT16, dl_ltLF16, dl_ltRT16, dl_ltRF16, dl_eqRT16, dl_eqRF16, dl_leLT64, dl_leLF64, dl_leRT64, dl_leRF64, dl_ltLT64, dl_ltLF64, dl_ltRT64, dl_ltRF64, dl_eqRT64, dl_eqRF64, dl_leLT65, dl_leLF65, dl_leRT65, dl_leRF65, dl_ltLT65, dl_ltLF65, dl_ltRT65, dl_ltRF65, dl_eqRT65, dl_eqRF65, dl_Au1, Nat.add_sub_cancel]
                  refine dl_mk _ ⟨a1, dl_Bs_app B hl (by omega) h6 (Or.inl ⟨rfl, by omega⟩), ⟨?_, Lt.2.1, fun c hc k2 => ?_⟩, a4, fun h => by omega⟩
                  · rw [dl_lsum_s, dl_lsum_u (Nat.le_refl _), dl_us, if_neg (by omega)]; exact Lt.1
                  · by_cases e : c = cnt
                    · rw [e, dl_us] at k2; omega
                    · rw [dl_un e] at k2 ⊢
                      rw [dl_lsum_u (by omega), dl_un e]
                      exact Lt.2.2 c (by omega) k2
                · simp (disch := omega) only [wpX_copy, wpY_copy, nI_clamp, dl_Ar, dl_Au, dl_leT, dl_leF, dl_ltT, dl_ltF, dl_eqT, dl_eqF, nI_add, nI_1, dl_inT, dl_sub, dl_sub1, dl_subm1, forall_eq, true_implies, false_implies, not_true, not_false_iff, true_and, and_true, dl_leLT0, dl_leLF0, dl_leRT0, dl_leRF0, dl_ltLT0, dl_ltLF0, dl_ltRT0, dl_ltRF0, dl_eqRT0, dl_eqRF0, dl_leLT1, dl_leLF1, dl_leRT1, dl_leRF1, dl_ltLT1, dl_ltLF1, dl_ltRT1, dl_ltRF1, dl_eqRT1, dl_eqRF1, dl_leLT2, dl_leLF2, dl_leRT2, dl_leRF2, dl_ltLT2, dl_ltLF2, dl_ltRT2, dl_ltRF2, dl_eqRT2, dl_eqRF2, dl_leLT3, dl_leLF3, dl_leRT3, dl_leRF3, dl_ltLT3, dl_ltLF3, dl_ltRT3, dl_ltRF3, dl_eqRT3, dl_eqRF3, dl_leLT8, dl_leLF8, dl_leRT8, dl_leRF8, dl_ltLT8, dl_ltLF8, dl_ltRT8, dl_ltRF8, dl_eqRT8, dl_eqRF8, dl_leLT9, dl_leLF9, dl_leRT9, dl_leRF9, dl_ltLT9, dl_ltLF9, dl_ltRT9, dl_ltRF9, dl_eqRT9, dl_eqRF9, dl_leLT16, dl_leLF16, dl_leRT16, dl_leRF16, dl_ltLT16, dl_ltLF16, dl_ltRT16, dl_ltRF16, dl_eqRT16, dl_eqRF16, dl_leLT64, dl_leLF64, dl_leRT64, dl_leRF64, dl_ltLT64, dl_ltLF64, dl_ltRT64, dl_ltRF64, dl_eqRT64, dl_eqRF64, dl_leLT65, dl_leLF65, dl_leRT65, dl_leRF65, dl_ltLT65, dl_ltLF65, dl_ltRT65, dl_ltRF65, dl_eqRT65, dl_eqRF65]
                  first | exact Rl | exact ⟨by trivial, Rl⟩
    · simp (disch := omega) only [wpX_copy, wpY_copy, nI_clamp, dl_Ar, dl_Au, dl_leT, dl_leF, dl_ltT, dl_ltF, dl_eqT, dl_eqF, nI_add, nI_1, dl_inT, dl_sub, dl_sub1, dl_subm1, forall_eq, true_implies, false_implies, not_true, not_false_iff, true_and, and_true, dl_leLT0, dl_leLF0, dl_leRT0, dl_leRF0, dl_ltLT0, dl_ltLF0, dl_ltRT0, dl_ltRF0, dl_eqRT0, dl_eqRF0, dl_leLT1, dl_leLF1, dl_leRT1, dl_leRF1, dl_ltLT1, dl_ltLF1, dl_ltRT1, dl_ltRF1, dl_eqRT1, dl_eqRF1, dl_leLT2, dl_leLF2, dl_leRT2, dl_leRF2, dl_ltLT2, dl_ltLF2, dl_ltRT2, dl_ltRF2, dl_eqRT2, dl_eqRF2, dl_leLT3, dl_leLF3, dl_leRT3, dl_leRF3, dl_ltLT3, dl_ltLF3, dl_ltRT3, dl_ltRF3, dl_eqRT3, dl_eqRF3, dl_leLT8, dl_leLF8, dl_leRT8, dl_leRF8, dl_ltLT8, dl_ltLF8, dl_ltRT8, dl_ltRF8, dl_eqRT8, dl_eqRF8, dl_leLT9, dl_leLF9, dl_leRT9, dl_leRF9, dl_ltLT9, dl_ltLF9, dl_ltRT9, dl_ltRF9, dl_eqRT9, dl_eqRF9, dl_leLT16, dl_leLF16, dl_leRT16, dl_leRF16, dl_ltLT16, dl_ltLF16, dl_ltRT16, dl_ltRF16, dl_eqRT16, dl_eqRF16, dl_leLT64, dl_leLF64, dl_leRT64, dl_leRF64, dl_ltLT64, dl_ltLF64, dl_ltRT64, dl_ltRF64, dl_eqRT64, dl_eqRF64, dl_leLT65, dl_leLF65, dl_leRT65, dl_leRF65, dl_ltLT65, dl_ltLF65, dl_ltRT65, dl_ltRF65, dl_eqRT65, dl_eqRF65]
      first | exact Rl | exact ⟨by trivial, Rl⟩
  · simp (disch := omega) only [wpX_copy, wpY_copy, nI_clamp, dl_Ar, dl_Au, dl_leT, dl_leF, dl_ltT, dl_ltF, dl_eqT, dl_eqF, nI_add, nI_1, dl_inT, dl_sub, dl_sub1, dl_subm1, forall_eq, true_implies, false_implies, not_true, not_false_iff, true_and, and_true, dl_leLT0, dl_leLF0, dl_leRT0, dl_leRF0, dl_ltLT0, dl_ltLF0, dl_ltRT0, dl_ltRF0, dl_eqRT0, dl_eqRF0, dl_leLT1, dl_leLF1, dl_leRT1, dl_leRF1, dl_ltLT1, dl_ltLF1, dl_ltRT1, dl_ltRF1, dl_eqRT1, dl_eqRF1, dl_leLT2, dl_leLF2, dl_leRT2, dl_leRF2, dl_ltLT2, dl_ltLF2, dl_ltRT2, dl_ltRF2, dl_eqRT2, dl_eqRF2, dl_leLT3, dl_leLF3, dl_leRT3, dl_leRF3, dl_ltLT3, dl_ltLF3, dl_ltRT3, dl_ltRF3, dl_eqRT3, dl_eqRF3, dl_leLT8, dl_leLF8, dl_leRT8, dl_leRF8, dl_ltLT8, dl_ltLF8, dl_ltRT8, dl_ltRF8, dl_eqRT8, dl_eqRF8, dl_leLT9, dl_leLF9, dl_leRT9, dl_leRF9, dl_ltLT9, dl_ltLF9, dl_ltRT9, dl_ltRF9, dl_eqRT9, dl_eqRF9, dl_leLT16, dl_leLF16, dl_leRT16, dl_leRF16, dl_ltLT16, dl_ltLF16, dl_ltRT16, dl_ltRF16, dl_eqRT16, dl_eqRF16, dl_leLT64, dl_leLF64, dl_leRT64, dl_leRF64, dl_ltLT64, dl_ltLF64, dl_ltRT64, dl_ltRF64, dl_eqRT64, dl_eqRF64, dl_leLT65, dl_leLF65, dl_leRT65, dl_leRF65, dl_ltLT65, dl_ltLF65, dl_ltRT65, dl_ltRF65, dl_eqRT65, dl_eqRF65]
    first | exact Rl | exact ⟨by trivial, Rl⟩
section
variable {C L ph ol T cnt ls co dn pl dy : Nat} {kp : Int32} {K S D N A bD sq po ws ss bd F P : Nat → Nat} {bu pool bf af cm ed re old nxt dat mk : Nat → Int32}
theorem dl_xadd (post : Int32 → SX → Prop) (hC : C ≤ 64) (hc : cnt < 16) {d n : Nat} {v3 v4 : Int32} (hn : ls + n ≤ C)
    (H : post (nI cnt) (nI C, nI L, nI ph, nI ol, nI T, nI (cnt + 1), nI (ls + n), nI co, kp, nI dn, nI pl, bu, dl_A (dl_u K cnt 2), dl_A (dl_u S cnt 4294967295), dl_A (dl_u D cnt d), dl_A (dl_u N cnt n), dl_A (dl_u A cnt ls), dl_fill pool ls n (fun k => (v3 + nI k * v4) &&& 255), dl_A bD, bf, af, cm, dl_A sq, dl_A po, dl_A ws, dl_A ss, ed, re, dl_A bd)) :
    ∀ f k, k ≤ n → n - k < f → wX_add_72 post (nI d) (nI n) v3 v4 (nI C) (nI L) (nI ph) (nI ol) (nI T) (nI cnt) (nI ls) (nI co) kp (nI dn) (nI pl) f (nI k) bu (dl_A K) (dl_A S) (dl_A D) (dl_A N) (dl_A A) (dl_fill pool ls k (fun k => (v3 + nI k * v4) &&& 255)) (dl_A bD) bf af cm (dl_A sq) (dl_A po) (dl_A ws) (dl_A ss) ed re (dl_A bd) := by
  intro f
  induction f with
  | zero => intro k _ h; omega
  | succ f ih =>
    intro k h1 h2
    rcases Nat.lt_or_ge k n with z | z
    · have s := dl_fill_s (b := pool) (g := fun k => (v3 + nI k * v4) &&& 255) (o := ls) (n := k)
      try dsimp only at s
      simp (disch := omega) only [wX_add_72, nI_clamp, dl_Ar, dl_Au, dl_leT, dl_leF, dl_ltT, dl_ltF, dl_eqT, dl_eqF, nI_add, nI_1, dl_inT, dl_sub, dl_sub1, dl_subm1, forall_eq, true_implies, false_implies, not_true, not_false_iff, true_and, and_true, dl_leLT0, dl_leLF0, dl_leRT0, dl_leRF0, dl_ltLT0, dl_ltLF0, dl_ltRT0, dl_ltRF0, dl_eqRT0, dl_eqRF0, dl_leLT1, dl_leLF1, dl_leRT1, dl_leRF1, dl_ltLT1, dl_ltLF1, dl_ltRT1, dl_ltRF1, dl_eqRT1, dl_eqRF1, dl_leLT2, dl_leLF2, dl_leRT2, dl_leRF2, dl_ltLT2, dl_ltLF2, dl_ltRT2, dl_ltRF2, dl_eqRT2, dl_eqRF2, dl_leLT3, dl_leLF3, dl_leRT3, dl_leRF3, dl_ltLT3, dl_ltLF3, dl_ltRT3, dl_ltRF3, dl_eqRT3, dl_eqRF3, dl_leLT8, dl_leLF8, dl_leRT8, dl_leRF8, dl_ltLT8, dl_ltLF8, dl_ltRT8, dl_ltRF8, dl_eqRT8, dl_eqRF8, dl_leLT9, dl_leLF9, dl_leRT9, dl_leRF9, dl_ltLT9, dl_ltLF9, dl_ltRT9, dl_ltRF9, dl_eqRT9, dl_eqRF9, dl_leLT16, dl_leLF16, dl_leRT16, dl_leRF16, dl_ltLT16, dl_ltLF16, dl_ltRT16, dl_ltRF16, dl_eqRT16, dl_eqRF16, dl_leLT64, dl_leLF64, dl_leRT64, dl_leRF64, dl_ltLT64, dl_ltLF64, dl_ltRT64, dl_ltRF64, dl_eqRT64, dl_eqRF64, dl_leLT65, dl_leLF65, dl_leRT65, dl_leRF65, dl_ltLT65, dl_ltLF65, dl_ltRT65, dl_ltRF65, dl_eqRT65, dl_eqRF65, s]
      exact ih (k + 1) z (by omega)
    · have e : k = n := by omega
      subst e
      simp (disch := omega) only [wX_add_72, wpX_append, nI_clamp, dl_Ar, dl_Au, dl_leT, dl_leF, dl_ltT, dl_ltF, dl_eqT, dl_eqF, nI_add, nI_1, dl_inT, dl_sub, dl_sub1, dl_subm1, forall_eq, true_implies, false_implies, not_true, not_false_iff, true_and, and_true, dl_leLT0, dl_leLF0, dl_leRT0, dl_leRF0, dl_ltLT0, dl_ltLF0, dl_ltRT0, dl_ltRF0, dl_eqRT0, dl_eqRF0, dl_leLT1, dl_leLF1, dl_leRT1, dl_leRF1, dl_ltLT1, dl_ltLF1, dl_ltRT1, dl_ltRF1, dl_eqRT1, dl_eqRF1, dl_leLT2, dl_leLF2, dl_leRT2, dl_leRF2, dl_ltLT2, dl_ltLF2, dl_ltRT2, dl_ltRF2, dl_eqRT2, dl_eqRF2, dl_leLT3, dl_leLF3, dl_leRT3, dl_leRF3, dl_ltLT3, dl_ltLF3, dl_ltRT3, dl_ltRF3, dl_eqRT3, dl_eqRF3, dl_leLT8, dl_leLF8, dl_leRT8, dl_leRF8, dl_ltLT8, dl_ltLF8, dl_ltRT8, dl_ltRF8, dl_eqRT8, dl_eqRF8, dl_leLT9, dl_leLF9, dl_leRT9, dl_leRF9, dl_ltLT9, dl_ltLF9, dl_ltRT9, dl_ltRF9, dl_eqRT9, dl_eqRF9, dl_leLT16, dl_leLF16, dl_leRT16, dl_leRF16, dl_ltLT16, dl_ltLF16, dl_ltRT16, dl_ltRF16, dl_eqRT16, dl_eqRF16, dl_leLT64, dl_leLF64, dl_leRT64, dl_leRF64, dl_ltLT64, dl_ltLF64, dl_ltRT64, dl_ltRF64, dl_eqRT64, dl_eqRF64, dl_leLT65, dl_leLF65, dl_leRT65, dl_leRF65, dl_ltLT65, dl_ltLF65, dl_ltRT65, dl_ltRF65, dl_eqRT65, dl_eqRF65, dl_Au2, dl_Aum]
      exact H
theorem dl_yadd (post : Int32 → SY → Prop) (hc : cnt < 16) {n : Nat} {v3 v4 : Int32} (hn : n ≤ 64)
    (H : post (nI cnt) (nI C, nI L, nI ph, nI ol, nI T, nI (cnt + 1), nI dy, old, nxt, dl_A K, dl_A S, dl_A D, dl_A N, dl_fill dat (cnt * 64) n (fun k => (v3 + nI k * v4) &&& 255), dl_A F, dl_A P, mk)) :
    ∀ f k, k ≤ n → n - k < f → wY_add_116 post (nI n) v3 v4 (nI C) (nI L) (nI ph) (nI ol) (nI T) (nI cnt) (nI dy) f (nI k) old nxt (dl_A K) (dl_A S) (dl_A D) (dl_A N) (dl_fill dat (cnt * 64) k (fun k => (v3 + nI k * v4) &&& 255)) (dl_A F) (dl_A P) mk := by
  intro f
  induction f with
  | zero => intro k _ h; omega
  | succ f ih =>
    intro k h1 h2
    rcases Nat.lt_or_ge k n with z | z
    · have s := dl_fill_s (b := dat) (g := fun k => (v3 + nI k * v4) &&& 255) (o := cnt * 64) (n := k)
      try dsimp only at s
      simp (disch := omega) only [wY_add_116, nI_clamp, dl_Ar, dl_Au, dl_leT, dl_leF, dl_ltT, dl_ltF, dl_eqT, dl_eqF, nI_add, nI_1, dl_inT, dl_sub, dl_sub1, dl_subm1, forall_eq, true_implies, false_implies, not_true, not_false_iff, true_and, and_true, dl_leLT0, dl_leLF0, dl_leRT0, dl_leRF0, dl_ltLT0, dl_ltLF0, dl_ltRT0, dl_ltRF0, dl_eqRT0, dl_eqRF0, dl_leLT1, dl_leLF1, dl_leRT1, dl_leRF1, dl_ltLT1, dl_ltLF1, dl_ltRT1, dl_ltRF1, dl_eqRT1, dl_eqRF1, dl_leLT2, dl_leLF2, dl_leRT2, dl_leRF2, dl_ltLT2, dl_ltLF2, dl_ltRT2, dl_ltRF2, dl_eqRT2, dl_eqRF2, dl_leLT3, dl_leLF3, dl_leRT3, dl_leRF3, dl_ltLT3, dl_ltLF3, dl_ltRT3, dl_ltRF3, dl_eqRT3, dl_eqRF3, dl_leLT8, dl_leLF8, dl_leRT8, dl_leRF8, dl_ltLT8, dl_ltLF8, dl_ltRT8, dl_ltRF8, dl_eqRT8, dl_eqRF8, dl_leLT9, dl_leLF9, dl_leRT9, dl_leRF9, dl_ltLT9, dl_ltLF9, dl_ltRT9, dl_ltRF9, dl_eqRT9, dl_eqRF9, dl_leLT16, dl_leLF16, dl_leRT16, dl_leRF16, dl_ltLT16, dl_ltLF16, dl_ltRT16, dl_ltRF16, dl_eqRT16, dl_eqRF16, dl_leLT64, dl_leLF64, dl_leRT64, dl_leRF64, dl_ltLT64, dl_ltLF64, dl_ltRT64, dl_ltRF64, dl_eqRT64, dl_eqRF64, dl_leLT65, dl_leLF65, dl_leRT65, dl_leRF65, dl_ltLT65, dl_ltLF65, dl_ltRT65, dl_ltRF65, dl_eqRT65, dl_eqRF65, dl_mul64, s]
      exact ih (k + 1) z (by omega)
    · have e : k = n := by omega
      subst e
      simp (disch := omega) only [wY_add_116, nI_clamp, dl_Ar, dl_Au, dl_leT, dl_leF, dl_ltT, dl_ltF, dl_eqT, dl_eqF, nI_add, nI_1, dl_inT, dl_sub, dl_sub1, dl_subm1, forall_eq, true_implies, false_implies, not_true, not_false_iff, true_and, and_true, dl_leLT0, dl_leLF0, dl_leRT0, dl_leRF0, dl_ltLT0, dl_ltLF0, dl_ltRT0, dl_ltRF0, dl_eqRT0, dl_eqRF0, dl_leLT1, dl_leLF1, dl_leRT1, dl_leRF1, dl_ltLT1, dl_ltLF1, dl_ltRT1, dl_ltRF1, dl_eqRT1, dl_eqRF1, dl_leLT2, dl_leLF2, dl_leRT2, dl_leRF2, dl_ltLT2, dl_ltLF2, dl_ltRT2, dl_ltRF2, dl_eqRT2, dl_eqRF2, dl_leLT3, dl_leLF3, dl_leRT3, dl_leRF3, dl_ltLT3, dl_ltLF3, dl_ltRT3, dl_ltRF3, dl_eqRT3, dl_eqRF3, dl_leLT8, dl_leLF8, dl_leRT8, dl_leRF8, dl_ltLT8, dl_ltLF8, dl_ltRT8, dl_ltRF8, dl_eqRT8, dl_eqRF8, dl_leLT9, dl_leLF9, dl_leRT9, dl_leRF9, dl_ltLT9, dl_ltLF9, dl_ltRT9, dl_ltRF9, dl_eqRT9, dl_eqRF9, dl_leLT16, dl_leLF16, dl_leRT16, dl_leRF16, dl_ltLT16, dl_ltLF16, dl_ltRT16, dl_ltRF16, dl_eqRT16, dl_eqRF16, dl_leLT64, dl_leLF64, dl_leRT64, dl_leRF64, dl_ltLT64, dl_ltLF64, dl_ltRT64, dl_ltRF64, dl_eqRT64, dl_eqRF64, dl_leLT65, dl_leLF65, dl_leRT65, dl_leRF65, dl_ltLT65, dl_ltLF65, dl_ltRT65, dl_ltRF65, dl_eqRT65, dl_eqRF65, Nat.add_sub_cancel]
      exact H
end
theorem i_vc_add {k : Nat} {u : SX} {v : SY} (I : i_Rel k u v) (hk : k + 5 ≤ 2562) (v1 : Int32) (v2 : Int32) (v3 : Int32) (v4 : Int32) : wpX_add (fun r u' => wpY_add (fun r' v' => r' = r ∧ i_Rel (k + 5) u' v') v v1 v2 v3 v4) u v1 v2 v3 v4 := by
  refine dl_el (Q := fun u v => wpX_add (fun r u' => wpY_add (fun r' v' => r' = r ∧ i_Rel (k + 5) u' v') v v1 v2 v3 v4) u v1 v2 v3 v4) I ?_
  intro C L ph ol T cnt ls co dn pl dy kp K S D N A bD sq po ws ss bd F P bu pool bf af cm ed re old nxt dat mk hI
  have Rl := dl_mk (af := af) (ed := ed) (re := re) (nxt := nxt) (mk := mk) (bd := bd) (k + 5) hI
  obtain ⟨a1, B, Lt, a4, a5⟩ := hI
  have B' := B
  obtain ⟨b1, b2, b3, b4, b5, b6, b7, b8⟩ := B'
  have hK : ∀ c, c < cnt → K c < 2147483648 := fun c hc => by have := (b8 c hc).2.2; omega
  have l1 := Lt.1
  have l2 := Lt.2.1
  by_cases p0 : ph = 0
  · by_cases hl : cnt < L
    · by_cases h1 : v2 < 1
      · simp (disch := omega) only [wpX_add, wpY_add, nI_clamp, dl_Ar, dl_Au, dl_leT, dl_leF, dl_ltT, dl_ltF, dl_eqT, dl_eqF, nI_add, nI_1, dl_inT, dl_sub, dl_sub1, dl_subm1, forall_eq, true_implies, false_implies, not_true, not_false_iff, true_and, and_true, dl_leLT0, dl_leLF0, dl_leRT0, dl_leRF0, dl_ltLT0, dl_ltLF0, dl_ltRT0, dl_ltRF0, dl_eqRT0, dl_eqRF0, dl_leLT1, dl_leLF1, dl_leRT1, dl_leRF1, dl_ltLT1, dl_ltLF1, dl_ltRT1, dl_ltRF1, dl_eqRT1, dl_eqRF1, dl_leLT2, dl_leLF2, dl_leRT2, dl_leRF2, dl_ltLT2, dl_ltLF2, dl_ltRT2, dl_ltRF2, dl_eqRT2, dl_eqRF2, dl_leLT3, dl_leLF3, dl_leRT3, dl_leRF3, dl_ltLT3, dl_ltLF3, dl_ltRT3, dl_ltRF3, dl_eqRT3, dl_eqRF3, dl_leLT8, dl_leLF8, dl_leRT8, dl_leRF8, dl_ltLT8, dl_ltLF8, dl_ltRT8, dl_ltRF8, dl_eqRT8, dl_eqRF8, dl_leLT9, dl_leLF9, dl_leRT9, dl_leRF9, dl_ltLT9, dl_ltLF9, dl_ltRT9, dl_ltRF9, dl_eqRT9, dl_eqRF9, dl_leLT16, dl_leLF16, dl_leRT16, dl_leRF16, dl_ltLT16, dl_ltLF16, dl_ltRT16, dl_ltRF16, dl_eqRT16, dl_eqRF16, dl_leLT64, dl_leLF64, dl_leRT64, dl_leRF64, dl_ltLT64, dl_ltLF64, dl_ltRT64, dl_ltRF64, dl_eqRT64, dl_eqRF64, dl_leLT65, dl_leLF65, dl_leRT65, dl_leRF65, dl_ltLT65, dl_ltLF65, dl_ltRT65, dl_ltRF65, dl_eqRT65, dl_eqRF65, h1]
        first | exact Rl | exact ⟨by trivial, Rl⟩
      · obtain ⟨n, hn, rfl⟩ := nI_of (x := v2) (fun z => h1 (Int32.lt_of_lt_of_le z (by decide)))
        rw [dl_ltRI1 hn] at h1
        by_cases h2 : C < n
        · simp (disch := omega) only [wpX_add, wpY_add, nI_clamp, dl_Ar, dl_Au, dl_leT, dl_leF, dl_ltT, dl_ltF, dl_eqT, dl_eqF, nI_add, nI_1, dl_inT, dl_sub, dl_sub1, dl_subm1, forall_eq, true_implies, false_implies, not_true, not_false_iff, true_and, and_true, dl_leLT0, dl_leLF0, dl_leRT0, dl_leRF0, dl_ltLT0, dl_ltLF0, dl_ltRT0, dl_ltRF0, dl_eqRT0, dl_eqRF0, dl_leLT1, dl_leLF1, dl_leRT1, dl_leRF1, dl_ltLT1, dl_ltLF1, dl_ltRT1, dl_ltRF1, dl_eqRT1, dl_eqRF1, dl_leLT2, dl_leLF2, dl_leRT2, dl_leRF2, dl_ltLT2, dl_ltLF2, dl_ltRT2, dl_ltRF2, dl_eqRT2, dl_eqRF2, dl_leLT3, dl_leLF3, dl_leRT3, dl_leRF3, dl_ltLT3, dl_ltLF3, dl_ltRT3, dl_ltRF3, dl_eqRT3, dl_eqRF3, dl_leLT8, dl_leLF8, dl_leRT8, dl_leRF8, dl_ltLT8, dl_ltLF8, dl_ltRT8, dl_ltRF8, dl_eqRT8, dl_eqRF8, dl_leLT9, dl_leLF9, dl_leRT9, dl_leRF9, dl_ltLT9, dl_ltLF9, dl_ltRT9, dl_ltRF9, dl_eqRT9, dl_eqRF9, dl_leLT16, dl_leLF16, dl_leRT16, dl_leRF16, dl_ltLT16, dl_ltLF16, dl_ltRT16, dl_ltRF16, dl_eqRT16, dl_eqRF16, dl_leLT64, dl_leLF64, dl_leRT64, dl_leRF64, dl_ltLT64, dl_ltLF64, dl_ltRT64, dl_ltRF64, dl_eqRT64, dl_eqRF64, dl_leLT65, dl_leLF65, dl_leRT65, dl_leRF65, dl_ltLT65, dl_ltLF65, dl_ltRT65, dl_ltRF65, dl_eqRT65, dl_eqRF65]
          first | exact Rl | exact ⟨by trivial, Rl⟩
        · by_cases h5 : v1 < 0
          · simp (disch := omega) only [wpX_add, wpY_add, nI_clamp, dl_Ar, dl_Au, dl_leT, dl_leF, dl_ltT, dl_ltF, dl_eqT, dl_eqF, nI_add, nI_1, dl_inT, dl_sub, dl_sub1, dl_subm1, forall_eq, true_implies, false_implies, not_true, not_false_iff, true_and, and_true, dl_leLT0, dl_leLF0, dl_leRT0, dl_leRF0, dl_ltLT0, dl_ltLF0, dl_ltRT0, dl_ltRF0, dl_eqRT0, dl_eqRF0, dl_leLT1, dl_leLF1, dl_leRT1, dl_leRF1, dl_ltLT1, dl_ltLF1, dl_ltRT1, dl_ltRF1, dl_eqRT1, dl_eqRF1, dl_leLT2, dl_leLF2, dl_leRT2, dl_leRF2, dl_ltLT2, dl_ltLF2, dl_ltRT2, dl_ltRF2, dl_eqRT2, dl_eqRF2, dl_leLT3, dl_leLF3, dl_leRT3, dl_leRF3, dl_ltLT3, dl_ltLF3, dl_ltRT3, dl_ltRF3, dl_eqRT3, dl_eqRF3, dl_leLT8, dl_leLF8, dl_leRT8, dl_leRF8, dl_ltLT8, dl_ltLF8, dl_ltRT8, dl_ltRF8, dl_eqRT8, dl_eqRF8, dl_leLT9, dl_leLF9, dl_leRT9, dl_leRF9, dl_ltLT9, dl_ltLF9, dl_ltRT9, dl_ltRF9, dl_eqRT9, dl_eqRF9, dl_leLT16, dl_leLF16, dl_leRT16, dl_leRF16, dl_ltLT16, dl_ltLF16, dl_ltRT16, dl_ltRF16, dl_eqRT16, dl_eqRF16, dl_leLT64, dl_leLF64, dl_leRT64, dl_leRF64, dl_ltLT64, dl_ltLF64, dl_ltRT64, dl_ltRF64, dl_eqRT64, dl_eqRF64, dl_leLT65, dl_leLF65, dl_leRT65, dl_leRF65, dl_ltLT65, dl_ltLF65, dl_ltRT65, dl_ltRF65, dl_eqRT65, dl_eqRF65, h5]
            first | exact Rl | exact ⟨by trivial, Rl⟩
          · obtain ⟨d, hd, rfl⟩ := nI_of h5
            by_cases h6 : d + n ≤ C
            · by_cases h7 : ls + n ≤ C
              · simp (disch := omega) only [wpX_add, nI_clamp, dl_Ar, dl_Au, dl_leT, dl_leF, dl_ltT, dl_ltF, dl_eqT, dl_eqF, nI_add, nI_1, dl_inT, dl_sub, dl_sub1, dl_subm1, forall_eq, true_implies, false_implies, not_true, not_false_iff, true_and, and_true, dl_leLT0, dl_leLF0, dl_leRT0, dl_leRF0, dl_ltLT0, dl_ltLF0, dl_ltRT0, dl_ltRF0, dl_eqRT0, dl_eqRF0, dl_leLT1, dl_leLF1, dl_leRT1, dl_leRF1, dl_ltLT1, dl_ltLF1, dl_ltRT1, dl_ltRF1, dl_eqRT1, dl_eqRF1, dl_leLT2, dl_leLF2, dl_leRT2, dl_leRF2, dl_ltLT2, dl_ltLF2, dl_ltRT2, dl_ltRF2, dl_eqRT2, dl_eqRF2, dl_leLT3, dl_leLF3, dl_leRT3, dl_leRF3, dl_ltLT3, dl_ltLF3, dl_ltRT3, dl_ltRF3, dl_eqRT3, dl_eqRF3, dl_leLT8, dl_leLF8, dl_leRT8, dl_leRF8, dl_ltLT8, dl_ltLF8, dl_ltRT8, dl_ltRF8, dl_eqRT8, dl_eqRF8, dl_leLT9, dl_leLF9, dl_leRT9, dl_leRF9, dl_ltLT9, dl_ltLF9, dl_ltRT9, dl_ltRF9, dl_eqRT9, dl_eqRF9, dl_leLT16, dl_leLF16, dl_leRT16, dl_leRF16, dl_ltLT16, dl_ltLF16, dl_ltRT16, dl_ltRF16, dl_eqRT16, dl_eqRF16, dl_leLT64, dl_leLF64, dl_leRT64, dl_leRF64, dl_ltLT64, dl_ltLF64, dl_ltRT64, dl_ltRF64, dl_eqRT64, dl_eqRF64, dl_leLT65, dl_leLF65, dl_leRT65, dl_leRF65, dl_ltLT65, dl_ltLF65, dl_ltRT65, dl_ltRF65, dl_eqRT65, dl_eqRF65]
                have x := dl_xadd (C := C) (L := L) (ph := ph) (ol := ol) (T := T) (cnt := cnt) (ls := ls) (co := co) (dn := dn) (pl := pl) (kp := kp) (K := K) (S := S) (D := D) (N := N) (A := A) (bD := bD) (sq := sq) (po := po) (ws := ws) (ss := ss) (bd := bd) (bu := bu) (pool := pool) (bf := bf) (af := af) (cm := cm) (ed := ed) (re := re) (d := d) (n := n) (v3 := v3) (v4 := v4) (fun r u' => wpY_add (fun r' v' => r' = r ∧ i_Rel (k + 5) u' v') (nI C, nI L, nI ph, nI ol, nI T, nI cnt, nI dy, old, nxt, dl_A K, dl_A S, dl_A D, dl_A N, dat, dl_A F, dl_A P, mk) (nI d) (nI n) v3 v4) b2 (by omega) h7 ?_ (n + 1) 0 (by omega) (by omega)
                · rw [dl_fill_0] at x
                  exact ⟨n + 1, x⟩
                · simp (disch := omega) only [wpY_add, nI_clamp, dl_Ar, dl_Au, dl_leT, dl_leF, dl_ltT, dl_ltF, dl_eqT, dl_eqF, nI_add, nI_1, dl_inT, dl_sub, dl_sub1, dl_subm1, forall_eq, true_implies, false_implies, not_true, not_false_iff, true_and, and_true, dl_leLT0, dl_leLF0, dl_leRT0, dl_leRF0, dl_ltLT0, dl_ltLF0, dl_ltRT0, dl_ltRF0, dl_eqRT0, dl_eqRF0, dl_leLT1, dl_leLF1, dl_leRT1, dl_leRF1, dl_ltLT1, dl_ltLF1, dl_ltRT1, dl_ltRF1, dl_eqRT1, dl_eqRF1, dl_leLT2, dl_leLF2, dl_leRT2, dl_leRF2, dl_ltLT2, dl_ltLF2, dl_ltRT2, dl_ltRF2, dl_eqRT2, dl_eqRF2, dl_leLT3, dl_leLF3, dl_leRT3, dl_leRF3, dl_ltLT3, dl_ltLF3, dl_ltRT3, dl_ltRF3, dl_eqRT3, dl_eqRF3, dl_leLT8, dl_leLF8, dl_leRT8, dl_leRF8, dl_ltLT8, dl_ltLF8, dl_ltRT8, dl_ltRF8, dl_eqRT8, dl_eqRF8, dl_leLT9, dl_leLF9, dl_leRT9, dl_leRF9, dl_ltLT9, dl_ltLF9, dl_ltRT9, dl_ltRF9, dl_eqRT9, dl_eqRF9, dl_leLT16, dl_leLF16, dl_leRT16, dl_leRF16, dl_ltLT16, dl_ltLF16, dl_ltRT16, dl_ltRF16, dl_eqRT16, dl_eqRF16, dl_leLT64, dl_leLF64, dl_leRT64, dl_leRF64, dl_ltLT64, dl_ltLF64, dl_ltRT64, dl_ltRF64, dl_eqRT64, dl_eqRF64, dl_leLT65, dl_leLF65, dl_leRT65, dl_leRF65, dl_ltLT65, dl_ltLF65, dl_ltRT65, dl_ltRF65, dl_eqRT65, dl_eqRF65]
                  refine dl_ylits _ (by omega) hK ?_
                  rw [← l1]
                  simp (disch := omega) only [nI_clamp, dl_Ar, dl_Au, dl_leT, dl_leF, dl_ltT, dl_ltF, dl_eqT, dl_eqF, nI_add, nI_1, dl_inT, dl_sub, dl_sub1, dl_subm1, forall_eq, true_implies, false_implies, not_true, not_false_iff, true_and, and_true, dl_leLT0, dl_leLF0, dl_leRT0, dl_leRF0, dl_ltLT0, dl_ltLF0, dl_ltRT0, dl_ltRF0, dl_eqRT0, dl_eqRF0, dl_leLT1, dl_leLF1, dl_leRT1, dl_leRF1, dl_ltLT1, dl_ltLF1, dl_ltRT1, dl_ltRF1, dl_eqRT1, dl_eqRF1, dl_leLT2, dl_leLF2, dl_leRT2, dl_leRF2, dl_ltLT2, dl_ltLF2, dl_ltRT2, dl_ltRF2, dl_eqRT2, dl_eqRF2, dl_leLT3, dl_leLF3, dl_leRT3, dl_leRF3, dl_ltLT3, dl_ltLF3, dl_ltRT3, dl_ltRF3, dl_eqRT3, dl_eqRF3, dl_leLT8, dl_leLF8, dl_leRT8, dl_leRF8, dl_ltLT8, dl_ltLF8, dl_ltRT8, dl_ltRF8, dl_eqRT8, dl_eqRF8, dl_leLT9, dl_leLF9, dl_leRT9, dl_leRF9, dl_ltLT9, dl_ltLF9, dl_ltRT9, dl_ltRF9, dl_eqRT9, dl_eqRF9, dl_leLT16, dl_leLF16, dl_leRT16, dl_leRF16, dl_ltLT16, dl_ltLF16, dl_ltRT16, dl_ltRF16, dl_eqRT16, dl_eqRF16, dl_leLT64, dl_leLF64, dl_leRT64, dl_leRF64, dl_ltLT64, dl_ltLF64, dl_ltRT64, dl_ltRF64, dl_eqRT64, dl_eqRF64, dl_leLT65, dl_leLF65, dl_leRT65, dl_leRF65, dl_ltLT65, dl_ltLF65, dl_ltRT65, dl_ltRF65, dl_eqRT65, dl_eqRF65, dl_Au2, dl_Aum]
                  have y := dl_yadd (C := C) (L := L) (ph := ph) (ol := ol) (T := T) (cnt := cnt) (dy := dy) (K := dl_u K cnt 2) (S := dl_u S cnt 4294967295) (D := dl_u D cnt d) (N := dl_u N cnt n) (F := F) (P := P) (old := old) (nxt := nxt) (dat := dat) (mk := mk) (n := n) (v3 := v3) (v4 := v4) (fun r' v' => r' = nI cnt ∧ i_Rel (k + 5) (nI C, nI L, nI ph, nI ol, nI T, nI (cnt + 1), nI (ls + n), nI co, kp, nI dn, nI pl, bu, dl_A (dl_u K cnt 2), dl_A (dl_u S cnt 4294967295), dl_A (dl_u D cnt d), dl_A (dl_u N cnt n), dl_A (dl_u A cnt ls), dl_fill pool ls n (fun k => (v3 + nI k * v4) &&& 255), dl_A bD, bf, af, cm, dl_A sq, dl_A po, dl_A ws, dl_A ss, ed, re, dl_A bd) v') (by omega) (by omega) ?_ (n + 1) 0 (by omega) (by omega)
                  · rw [dl_fill_0] at y
                    exact ⟨n + 1, y⟩
                  · refine ⟨rfl, dl_mk _ ⟨a1, dl_Bs_app B hl (by omega) h6 (Or.inr ⟨rfl, rfl⟩), ⟨?_, h7, fun c hc k2 => ?_⟩, a4, fun h => by omega⟩⟩
                    · rw [dl_lsum_s, dl_lsum_u (Nat.le_refl _), dl_us, if_pos rfl, dl_us, ← l1]
                    · by_cases e : c = cnt
                      · rw [e, dl_us, dl_us, dl_lsum_u (Nat.le_refl _)]
                        refine ⟨l1, fun j hj => ?_⟩
                        rw [dl_fill_in (by omega) (by omega), dl_fill_in (by omega) (by omega), show ls + j - ls = j by omega, show cnt * 64 + j - cnt * 64 = j by omega]
                      · rw [dl_un e] at k2
                        rw [dl_un e, dl_un e, dl_lsum_u (by omega)]
                        obtain ⟨g1, g2⟩ := Lt.2.2 c (by omega) k2
                        have g3 := dl_lsum_get (N := N) (show c < cnt by omega) k2
                        have g4 := (b8 c (by omega)).2.1
                        refine ⟨g1, fun j hj => ?_⟩
                        rw [dl_fill_lo (by omega), dl_fill_lo (by omega)]
                        exact g2 j hj
              · simp (disch := omega) only [wpX_add, wpY_add, nI_clamp, dl_Ar, dl_Au, dl_leT, dl_leF, dl_ltT, dl_ltF, dl_eqT, dl_eqF, nI_add, nI_1, dl_inT, dl_sub, dl_sub1, dl_subm1, forall_eq, true_implies, false_implies, not_true, not_false_iff, true_and, and_true, dl_leLT0, dl_leLF0, dl_leRT0, dl_leRF0, dl_ltLT0, dl_ltLF0, dl_ltRT0, dl_ltRF0, dl_eqRT0, dl_eqRF0, dl_leLT1, dl_leLF1, dl_leRT1, dl_leRF1, dl_ltLT1, dl_ltLF1, dl_ltRT1, dl_ltRF1, dl_eqRT1, dl_eqRF1, dl_leLT2, dl_leLF2, dl_leRT2, dl_leRF2, dl_ltLT2, dl_ltLF2, dl_ltRT2, dl_ltRF2, dl_eqRT2, dl_eqRF2, dl_leLT3, dl_leLF3, dl_leRT3, dl_leRF3, dl_ltLT3, dl_ltLF3, dl_ltRT3, dl_ltRF3, dl_eqRT3, dl_eqRF3, dl_leLT8, dl_leLF8, dl_leRT8, dl_leRF8, dl_ltLT8, dl_ltLF8, dl_ltRT8, dl_ltRF8, dl_eqRT8, dl_eqRF8, dl_leLT9, dl_leLF9, dl_leRT9, dl_leRF9, dl_ltLT9, dl_ltLF9, dl_ltRT9, dl_ltRF9, dl_eqRT9, dl_eqRF9, dl_leLT16, dl_leLF16, dl_leRT16, dl_leRF16, dl_ltLT16, dl_ltLF16, dl_ltRT16, dl_ltRF16, dl_eqRT16, dl_eqRF16, dl_leLT64, dl_leLF64, dl_leRT64, dl_leRF64, dl_ltLT64, dl_ltLF64, dl_ltRT64, dl_ltRF64, dl_eqRT64, dl_eqRF64, dl_leLT65, dl_leLF65, dl_leRT65, dl_leRF65, dl_ltLT65, dl_ltLF65, dl_ltRT65, dl_ltRF65, dl_eqRT65, dl_eqRF65]
                refine dl_ylits _ (by omega) hK ?_
                rw [← l1]
                simp (disch := omega) only [nI_clamp, dl_Ar, dl_Au, dl_leT, dl_leF, dl_ltT, dl_ltF, dl_eqT, dl_eqF, nI_add, nI_1, dl_inT, dl_sub, dl_sub1, dl_subm1, forall_eq, true_implies, false_implies, not_true, not_false_iff, true_and, and_true, dl_leLT0, dl_leLF0, dl_leRT0, dl_leRF0, dl_ltLT0, dl_ltLF0, dl_ltRT0, dl_ltRF0, dl_eqRT0, dl_eqRF0, dl_leLT1, dl_leLF1, dl_leRT1, dl_leRF1, dl_ltLT1, dl_ltLF1, dl_ltRT1, dl_ltRF1, dl_eqRT1, dl_eqRF1, dl_leLT2, dl_leLF2, dl_leRT2, dl_leRF2, dl_ltLT2, dl_ltLF2, dl_ltRT2, dl_ltRF2, dl_eqRT2, dl_eqRF2, dl_leLT3, dl_leLF3, dl_leRT3, dl_leRF3, dl_ltLT3, dl_ltLF3, dl_ltRT3, dl_ltRF3, dl_eqRT3, dl_eqRF3, dl_leLT8, dl_leLF8, dl_leRT8, dl_leRF8, dl_ltLT8, dl_ltLF8, dl_ltRT8, dl_ltRF8, dl_eqRT8, dl_eqRF8, dl_leLT9, dl_leLF9, dl_leRT9, dl_leRF9, dl_ltLT9, dl_ltLF9, dl_ltRT9, dl_ltRF9, dl_eqRT9, dl_eqRF9, dl_leLT16, dl_leLF16, dl_leRT16, dl_leRF16, dl_ltLT16, dl_ltLF16, dl_ltRT16, dl_ltRF16, dl_eqRT16, dl_eqRF16, dl_leLT64, dl_leLF64, dl_leRT64, dl_leRF64, dl_ltLT64, dl_ltLF64, dl_ltRT64, dl_ltRF64, dl_eqRT64, dl_eqRF64, dl_leLT65, dl_leLF65, dl_leRT65, dl_leRF65, dl_ltLT65, dl_ltLF65, dl_ltRT65, dl_ltRF65, dl_eqRT65, dl_eqRF65]
                first | exact Rl | exact ⟨by trivial, Rl⟩
            · simp (disch := omega) only [wpX_add, wpY_add, nI_clamp, dl_Ar, dl_Au, dl_leT, dl_leF, dl_ltT, dl_ltF, dl_eqT, dl_eqF, nI_add, nI_1, dl_inT, dl_sub, dl_sub1, dl_subm1, forall_eq, true_implies, false_implies, not_true, not_false_iff, true_and, and_true, dl_leLT0, dl_leLF0, dl_leRT0, dl_leRF0, dl_ltLT0, dl_ltLF0, dl_ltRT0, dl_ltRF0, dl_eqRT0, dl_eqRF0, dl_leLT1, dl_leLF1, dl_leRT1, dl_leRF1, dl_ltLT1, dl_ltLF1, dl_ltRT1, dl_ltRF1, dl_eqRT1, dl_eqRF1, dl_leLT2, dl_leLF2, dl_leRT2, dl_leRF2, dl_ltLT2, dl_ltLF2, dl_ltRT2, dl_ltRF2, dl_eqRT2, dl_eqRF2, dl_leLT3, dl_leLF3, dl_leRT3, dl_leRF3, dl_ltLT3, dl_ltLF3, dl_ltRT3, dl_ltRF3, dl_eqRT3, dl_eqRF3, dl_leLT8, dl_leLF8, dl_leRT8, dl_leRF8, dl_ltLT8, dl_ltLF8, dl_ltRT8, dl_ltRF8, dl_eqRT8, dl_eqRF8, dl_leLT9, dl_leLF9, dl_leRT9, dl_leRF9, dl_ltLT9, dl_ltLF9, dl_ltRT9, dl_ltRF9, dl_eqRT9, dl_eqRF9, dl_leLT16, dl_leLF16, dl_leRT16, dl_leRF16, dl_ltLT16, dl_ltLF16, dl_ltRT16, dl_ltRF16, dl_eqRT16, dl_eqRF16, dl_leLT64, dl_leLF64, dl_leRT64, dl_leRF64, dl_ltLT64, dl_ltLF64, dl_ltRT64, dl_ltRF64, dl_eqRT64, dl_eqRF64, dl_leLT65, dl_leLF65, dl_leRT65, dl_leRF65, dl_ltLT65, dl_ltLF65, dl_ltRT65, dl_ltRF65, dl_eqRT65, dl_eqRF65]
              first | exact Rl | exact ⟨by trivial, Rl⟩
    · simp (disch := omega) only [wpX_add, wpY_add, nI_clamp, dl_Ar, dl_Au, dl_leT, dl_leF, dl_ltT, dl_ltF, dl_eqT, dl_eqF, nI_add, nI_1, dl_inT, dl_sub, dl_sub1, dl_subm1, forall_eq, true_implies, false_implies, not_true, not_false_iff, true_and, and_true, dl_leLT0, dl_leLF0, dl_leRT0, dl_leRF0, dl_ltLT0, dl_ltLF0, dl_ltRT0, dl_ltRF0, dl_eqRT0, dl_eqRF0, dl_leLT1, dl_leLF1, dl_leRT1, dl_leRF1, dl_ltLT1, dl_ltLF1, dl_ltRT1, dl_ltRF1, dl_eqRT1, dl_eqRF1, dl_leLT2, dl_leLF2, dl_leRT2, dl_leRF2, dl_ltLT2, dl_ltLF2, dl_ltRT2, dl_ltRF2, dl_eqRT2, dl_eqRF2, dl_leLT3, dl_leLF3, dl_leRT3, dl_leRF3, dl_ltLT3, dl_ltLF3, dl_ltRT3, dl_ltRF3, dl_eqRT3, dl_eqRF3, dl_leLT8, dl_leLF8, dl_leRT8, dl_leRF8, dl_ltLT8, dl_ltLF8, dl_ltRT8, dl_ltRF8, dl_eqRT8, dl_eqRF8, dl_leLT9, dl_leLF9, dl_leRT9, dl_leRF9, dl_ltLT9, dl_ltLF9, dl_ltRT9, dl_ltRF9, dl_eqRT9, dl_eqRF9, dl_leLT16, dl_leLF16, dl_leRT16, dl_leRF16, dl_ltLT16, dl_ltLF16, dl_ltRT16, dl_ltRF16, dl_eqRT16, dl_eqRF16, dl_leLT64, dl_leLF64, dl_leRT64, dl_leRF64, dl_ltLT64, dl_ltLF64, dl_ltRT64, dl_ltRF64, dl_eqRT64, dl_eqRF64, dl_leLT65, dl_leLF65, dl_leRT65, dl_leRF65, dl_ltLT65, dl_ltLF65, dl_ltRT65, dl_ltRF65, dl_eqRT65, dl_eqRF65]
      first | exact Rl | exact ⟨by trivial, Rl⟩
  · simp (disch := omega) only [wpX_add, wpY_add, nI_clamp, dl_Ar, dl_Au, dl_leT, dl_leF, dl_ltT, dl_ltF, dl_eqT, dl_eqF, nI_add, nI_1, dl_inT, dl_sub, dl_sub1, dl_subm1, forall_eq, true_implies, false_implies, not_true, not_false_iff, true_and, and_true, dl_leLT0, dl_leLF0, dl_leRT0, dl_leRF0, dl_ltLT0, dl_ltLF0, dl_ltRT0, dl_ltRF0, dl_eqRT0, dl_eqRF0, dl_leLT1, dl_leLF1, dl_leRT1, dl_leRF1, dl_ltLT1, dl_ltLF1, dl_ltRT1, dl_ltRF1, dl_eqRT1, dl_eqRF1, dl_leLT2, dl_leLF2, dl_leRT2, dl_leRF2, dl_ltLT2, dl_ltLF2, dl_ltRT2, dl_ltRF2, dl_eqRT2, dl_eqRF2, dl_leLT3, dl_leLF3, dl_leRT3, dl_leRF3, dl_ltLT3, dl_ltLF3, dl_ltRT3, dl_ltRF3, dl_eqRT3, dl_eqRF3, dl_leLT8, dl_leLF8, dl_leRT8, dl_leRF8, dl_ltLT8, dl_ltLF8, dl_ltRT8, dl_ltRF8, dl_eqRT8, dl_eqRF8, dl_leLT9, dl_leLF9, dl_leRT9, dl_leRF9, dl_ltLT9, dl_ltLF9, dl_ltRT9, dl_ltRF9, dl_eqRT9, dl_eqRF9, dl_leLT16, dl_leLF16, dl_leRT16, dl_leRF16, dl_ltLT16, dl_ltLF16, dl_ltRT16, dl_ltRF16, dl_eqRT16, dl_eqRF16, dl_leLT64, dl_leLF64, dl_leRT64, dl_leRF64, dl_ltLT64, dl_ltLF64, dl_ltRT64, dl_ltRF64, dl_eqRT64, dl_eqRF64, dl_leLT65, dl_leLF65, dl_leRT65, dl_leRF65, dl_ltLT65, dl_ltLF65, dl_ltRT65, dl_ltRF65, dl_eqRT65, dl_eqRF65]
    first | exact Rl | exact ⟨by trivial, Rl⟩
end
section
section
variable {C L ph ol T cnt ls co dn pl dy : Nat} {kp : Int32} {K S D N A bD sq po ws ss bd F P : Nat → Nat} {bu pool bf af cm ed re old nxt dat mk : Nat → Int32}
theorem dl_xic1 (post : Int32 → Prop) (hcnt : cnt ≤ 16) {j : Nat} (hj : j < cnt) (H : post 1) : wpX_isCommand post (nI C, nI L, nI ph, nI ol, nI T, nI cnt, nI ls, nI co, kp, nI dn, nI pl, bu, dl_A K, dl_A S, dl_A D, dl_A N, dl_A A, pool, dl_A bD, bf, af, cm, dl_A sq, dl_A po, dl_A ws, dl_A ss, ed, re, dl_A bd) (nI j) := by
  simp (disch := omega) only [wpX_isCommand, nI_clamp, dl_Ar, dl_Au, dl_leT, dl_leF, dl_ltT, dl_ltF, dl_eqT, dl_eqF, nI_add, nI_1, dl_inT, dl_sub, dl_sub1, dl_subm1, forall_eq, true_implies, false_implies, not_true, not_false_iff, true_and, and_true, dl_leLT0, dl_leLF0, dl_leRT0, dl_leRF0, dl_ltLT0, dl_ltLF0, dl_ltRT0, dl_ltRF0, dl_eqRT0, dl_eqRF0, dl_leLT1, dl_leLF1, dl_leRT1, dl_leRF1, dl_ltLT1, dl_ltLF1, dl_ltRT1, dl_ltRF1, dl_eqRT1, dl_eqRF1, dl_leLT2, dl_leLF2, dl_leRT2, dl_leRF2, dl_ltLT2, dl_ltLF2, dl_ltRT2, dl_ltRF2, dl_eqRT2, dl_eqRF2, dl_leLT3, dl_leLF3, dl_leRT3, dl_leRF3, dl_ltLT3, dl_ltLF3, dl_ltRT3, dl_ltRF3, dl_eqRT3, dl_eqRF3, dl_leLT8, dl_leLF8, dl_leRT8, dl_leRF8, dl_ltLT8, dl_ltLF8, dl_ltRT8, dl_ltRF8, dl_eqRT8, dl_eqRF8, dl_leLT9, dl_leLF9, dl_leRT9, dl_leRF9, dl_ltLT9, dl_ltLF9, dl_ltRT9, dl_ltRF9, dl_eqRT9, dl_eqRF9, dl_leLT16, dl_leLF16, dl_leRT16, dl_leRF16, dl_ltLT16, dl_ltLF16, dl_ltRT16, dl_ltRF16, dl_eqRT16, dl_eqRF16, dl_leLT64, dl_leLF64, dl_leRT64, dl_leRF64, dl_ltLT64, dl_ltLF64, dl_ltRT64, dl_ltRF64, dl_eqRT64, dl_eqRF64, dl_leLT65, dl_leLF65, dl_leRT65, dl_leRF65, dl_ltLT65, dl_ltLF65, dl_ltRT65, dl_ltRF65, dl_eqRT65, dl_eqRF65]
  exact H
theorem dl_xic0 (post : Int32 → Prop) (hcnt : cnt ≤ 16) {x : Int32} (hx : x < 0 ∨ nI cnt ≤ x) (H : post 0) : wpX_isCommand post (nI C, nI L, nI ph, nI ol, nI T, nI cnt, nI ls, nI co, kp, nI dn, nI pl, bu, dl_A K, dl_A S, dl_A D, dl_A N, dl_A A, pool, dl_A bD, bf, af, cm, dl_A sq, dl_A po, dl_A ws, dl_A ss, ed, re, dl_A bd) x := by
  by_cases h : x < 0
  · exact br_t h H
  · exact br_f h (br_t (hx.elim (fun z => absurd z h) id) H)
end
theorem dl_nlt {a b : Int32} (h : a ≤ b) : ¬ b < a := Int32.not_lt.mpr h
theorem i_vc_setLiteral {k : Nat} {u : SX} {v : SY} (I : i_Rel k u v) (hk : k + 5 ≤ 2562) (v1 : Int32) (v2 : Int32) (v3 : Int32) : wpX_setLiteral (fun r u' => wpY_setLiteral (fun r' v' => r' = r ∧ i_Rel (k + 5) u' v') v v1 v2 v3) u v1 v2 v3 := by
  refine dl_el (Q := fun u v => wpX_setLiteral (fun r u' => wpY_setLiteral (fun r' v' => r' = r ∧ i_Rel (k + 5) u' v') v v1 v2 v3) u v1 v2 v3) I ?_
  intro C L ph ol T cnt ls co dn pl dy kp K S D N A bD sq po ws ss bd F P bu pool bf af cm ed re old nxt dat mk hI
  have Rl := dl_mk (af := af) (ed := ed) (re := re) (nxt := nxt) (mk := mk) (bd := bd) (k + 5) hI
  obtain ⟨a1, B, Lt, a4, a5⟩ := hI
  have B' := B
  obtain ⟨b1, b2, b3, b4, b5, b6, b7, b8⟩ := B'
  by_cases p0 : ph = 0
  · rcases pk_ix v1 (n := cnt) (by omega) with h | h | ⟨c, hc, rfl⟩
    · simp (disch := omega) only [wpX_setLiteral, nI_clamp, dl_Ar, dl_Au, dl_leT, dl_leF, dl_ltT, dl_ltF, dl_eqT, dl_eqF, nI_add, nI_1, dl_inT, dl_sub, dl_sub1, dl_subm1, forall_eq, true_implies, false_implies, not_true, not_false_iff, true_and, and_true, dl_leLT0, dl_leLF0, dl_leRT0, dl_leRF0, dl_ltLT0, dl_ltLF0, dl_ltRT0, dl_ltRF0, dl_eqRT0, dl_eqRF0, dl_leLT1, dl_leLF1, dl_leRT1, dl_leRF1, dl_ltLT1, dl_ltLF1, dl_ltRT1, dl_ltRF1, dl_eqRT1, dl_eqRF1, dl_leLT2, dl_leLF2, dl_leRT2, dl_leRF2, dl_ltLT2, dl_ltLF2, dl_ltRT2, dl_ltRF2, dl_eqRT2, dl_eqRF2, dl_leLT3, dl_leLF3, dl_leRT3, dl_leRF3, dl_ltLT3, dl_ltLF3, dl_ltRT3, dl_ltRF3, dl_eqRT3, dl_eqRF3, dl_leLT8, dl_leLF8, dl_leRT8, dl_leRF8, dl_ltLT8, dl_ltLF8, dl_ltRT8, dl_ltRF8, dl_eqRT8, dl_eqRF8, dl_leLT9, dl_leLF9, dl_leRT9, dl_leRF9, dl_ltLT9, dl_ltLF9, dl_ltRT9, dl_ltRF9, dl_eqRT9, dl_eqRF9, dl_leLT16, dl_leLF16, dl_leRT16, dl_leRF16, dl_ltLT16, dl_ltLF16, dl_ltRT16, dl_ltRF16, dl_eqRT16, dl_eqRF16, dl_leLT64, dl_leLF64, dl_leRT64, dl_leRF64, dl_ltLT64, dl_ltLF64, dl_ltRT64, dl_ltRF64, dl_eqRT64, dl_eqRF64, dl_leLT65, dl_leLF65, dl_leRT65, dl_leRF65, dl_ltLT65, dl_ltLF65, dl_ltRT65, dl_ltRF65, dl_eqRT65, dl_eqRF65]
      refine dl_xic0 _ (by omega) (Or.inl h) (br_t rfl ?_)
      simp (disch := omega) only [wpY_setLiteral, nI_clamp, dl_Ar, dl_Au, dl_leT, dl_leF, dl_ltT, dl_ltF, dl_eqT, dl_eqF, nI_add, nI_1, dl_inT, dl_sub, dl_sub1, dl_subm1, forall_eq, true_implies, false_implies, not_true, not_false_iff, true_and, and_true, dl_leLT0, dl_leLF0, dl_leRT0, dl_leRF0, dl_ltLT0, dl_ltLF0, dl_ltRT0, dl_ltRF0, dl_eqRT0, dl_eqRF0, dl_leLT1, dl_leLF1, dl_leRT1, dl_leRF1, dl_ltLT1, dl_ltLF1, dl_ltRT1, dl_ltRF1, dl_eqRT1, dl_eqRF1, dl_leLT2, dl_leLF2, dl_leRT2, dl_leRF2, dl_ltLT2, dl_ltLF2, dl_ltRT2, dl_ltRF2, dl_eqRT2, dl_eqRF2, dl_leLT3, dl_leLF3, dl_leRT3, dl_leRF3, dl_ltLT3, dl_ltLF3, dl_ltRT3, dl_ltRF3, dl_eqRT3, dl_eqRF3, dl_leLT8, dl_leLF8, dl_leRT8, dl_leRF8, dl_ltLT8, dl_ltLF8, dl_ltRT8, dl_ltRF8, dl_eqRT8, dl_eqRF8, dl_leLT9, dl_leLF9, dl_leRT9, dl_leRF9, dl_ltLT9, dl_ltLF9, dl_ltRT9, dl_ltRF9, dl_eqRT9, dl_eqRF9, dl_leLT16, dl_leLF16, dl_leRT16, dl_leRF16, dl_ltLT16, dl_ltLF16, dl_ltRT16, dl_ltRF16, dl_eqRT16, dl_eqRF16, dl_leLT64, dl_leLF64, dl_leRT64, dl_leRF64, dl_ltLT64, dl_ltLF64, dl_ltRT64, dl_ltRF64, dl_eqRT64, dl_eqRF64, dl_leLT65, dl_leLF65, dl_leRT65, dl_leRF65, dl_ltLT65, dl_ltLF65, dl_ltRT65, dl_ltRF65, dl_eqRT65, dl_eqRF65, h]
      first | exact Rl | exact ⟨by trivial, Rl⟩
    · have h0 : ¬ v1 < 0 := fun z => nI_pos (n := cnt) (by omega) (Int32.lt_of_le_of_lt h z)
      have h1 := dl_nlt h
      simp (disch := omega) only [wpX_setLiteral, nI_clamp, dl_Ar, dl_Au, dl_leT, dl_leF, dl_ltT, dl_ltF, dl_eqT, dl_eqF, nI_add, nI_1, dl_inT, dl_sub, dl_sub1, dl_subm1, forall_eq, true_implies, false_implies, not_true, not_false_iff, true_and, and_true, dl_leLT0, dl_leLF0, dl_leRT0, dl_leRF0, dl_ltLT0, dl_ltLF0, dl_ltRT0, dl_ltRF0, dl_eqRT0, dl_eqRF0, dl_leLT1, dl_leLF1, dl_leRT1, dl_leRF1, dl_ltLT1, dl_ltLF1, dl_ltRT1, dl_ltRF1, dl_eqRT1, dl_eqRF1, dl_leLT2, dl_leLF2, dl_leRT2, dl_leRF2, dl_ltLT2, dl_ltLF2, dl_ltRT2, dl_ltRF2, dl_eqRT2, dl_eqRF2, dl_leLT3, dl_leLF3, dl_leRT3, dl_leRF3, dl_ltLT3, dl_ltLF3, dl_ltRT3, dl_ltRF3, dl_eqRT3, dl_eqRF3, dl_leLT8, dl_leLF8, dl_leRT8, dl_leRF8, dl_ltLT8, dl_ltLF8, dl_ltRT8, dl_ltRF8, dl_eqRT8, dl_eqRF8, dl_leLT9, dl_leLF9, dl_leRT9, dl_leRF9, dl_ltLT9, dl_ltLF9, dl_ltRT9, dl_ltRF9, dl_eqRT9, dl_eqRF9, dl_leLT16, dl_leLF16, dl_leRT16, dl_leRF16, dl_ltLT16, dl_ltLF16, dl_ltRT16, dl_ltRF16, dl_eqRT16, dl_eqRF16, dl_leLT64, dl_leLF64, dl_leRT64, dl_leRF64, dl_ltLT64, dl_ltLF64, dl_ltRT64, dl_ltRF64, dl_eqRT64, dl_eqRF64, dl_leLT65, dl_leLF65, dl_leRT65, dl_leRF65, dl_ltLT65, dl_ltLF65, dl_ltRT65, dl_ltRF65, dl_eqRT65, dl_eqRF65]
      refine dl_xic0 _ (by omega) (Or.inr h) (br_t rfl ?_)
      simp (disch := omega) only [wpY_setLiteral, nI_clamp, dl_Ar, dl_Au, dl_leT, dl_leF, dl_ltT, dl_ltF, dl_eqT, dl_eqF, nI_add, nI_1, dl_inT, dl_sub, dl_sub1, dl_subm1, forall_eq, true_implies, false_implies, not_true, not_false_iff, true_and, and_true, dl_leLT0, dl_leLF0, dl_leRT0, dl_leRF0, dl_ltLT0, dl_ltLF0, dl_ltRT0, dl_ltRF0, dl_eqRT0, dl_eqRF0, dl_leLT1, dl_leLF1, dl_leRT1, dl_leRF1, dl_ltLT1, dl_ltLF1, dl_ltRT1, dl_ltRF1, dl_eqRT1, dl_eqRF1, dl_leLT2, dl_leLF2, dl_leRT2, dl_leRF2, dl_ltLT2, dl_ltLF2, dl_ltRT2, dl_ltRF2, dl_eqRT2, dl_eqRF2, dl_leLT3, dl_leLF3, dl_leRT3, dl_leRF3, dl_ltLT3, dl_ltLF3, dl_ltRT3, dl_ltRF3, dl_eqRT3, dl_eqRF3, dl_leLT8, dl_leLF8, dl_leRT8, dl_leRF8, dl_ltLT8, dl_ltLF8, dl_ltRT8, dl_ltRF8, dl_eqRT8, dl_eqRF8, dl_leLT9, dl_leLF9, dl_leRT9, dl_leRF9, dl_ltLT9, dl_ltLF9, dl_ltRT9, dl_ltRF9, dl_eqRT9, dl_eqRF9, dl_leLT16, dl_leLF16, dl_leRT16, dl_leRF16, dl_ltLT16, dl_ltLF16, dl_ltRT16, dl_ltRF16, dl_eqRT16, dl_eqRF16, dl_leLT64, dl_leLF64, dl_leRT64, dl_leRF64, dl_ltLT64, dl_ltLF64, dl_ltRT64, dl_ltRF64, dl_eqRT64, dl_eqRF64, dl_leLT65, dl_leLF65, dl_leRT65, dl_leRF65, dl_ltLT65, dl_ltLF65, dl_ltRT65, dl_ltRF65, dl_eqRT65, dl_eqRF65, h0, h1]
      first | exact Rl | exact ⟨by trivial, Rl⟩
    · obtain ⟨c1, c2, c3⟩ := b8 c hc
      simp (disch := omega) only [wpX_setLiteral, nI_clamp, dl_Ar, dl_Au, dl_leT, dl_leF, dl_ltT, dl_ltF, dl_eqT, dl_eqF, nI_add, nI_1, dl_inT, dl_sub, dl_sub1, dl_subm1, forall_eq, true_implies, false_implies, not_true, not_false_iff, true_and, and_true, dl_leLT0, dl_leLF0, dl_leRT0, dl_leRF0, dl_ltLT0, dl_ltLF0, dl_ltRT0, dl_ltRF0, dl_eqRT0, dl_eqRF0, dl_leLT1, dl_leLF1, dl_leRT1, dl_leRF1, dl_ltLT1, dl_ltLF1, dl_ltRT1, dl_ltRF1, dl_eqRT1, dl_eqRF1, dl_leLT2, dl_leLF2, dl_leRT2, dl_leRF2, dl_ltLT2, dl_ltLF2, dl_ltRT2, dl_ltRF2, dl_eqRT2, dl_eqRF2, dl_leLT3, dl_leLF3, dl_leRT3, dl_leRF3, dl_ltLT3, dl_ltLF3, dl_ltRT3, dl_ltRF3, dl_eqRT3, dl_eqRF3, dl_leLT8, dl_leLF8, dl_leRT8, dl_leRF8, dl_ltLT8, dl_ltLF8, dl_ltRT8, dl_ltRF8, dl_eqRT8, dl_eqRF8, dl_leLT9, dl_leLF9, dl_leRT9, dl_leRF9, dl_ltLT9, dl_ltLF9, dl_ltRT9, dl_ltRF9, dl_eqRT9, dl_eqRF9, dl_leLT16, dl_leLF16, dl_leRT16, dl_leRF16, dl_ltLT16, dl_ltLF16, dl_ltRT16, dl_ltRF16, dl_eqRT16, dl_eqRF16, dl_leLT64, dl_leLF64, dl_leRT64, dl_leRF64, dl_ltLT64, dl_ltLF64, dl_ltRT64, dl_ltRF64, dl_eqRT64, dl_eqRF64, dl_leLT65, dl_leLF65, dl_leRT65, dl_leRF65, dl_ltLT65, dl_ltLF65, dl_ltRT65, dl_ltRF65, dl_eqRT65, dl_eqRF65]
      refine dl_xic1 _ (by omega) hc (br_f (by decide) ?_)
      by_cases k2 : K c = 2
      · by_cases h1 : v2 < 0
        · simp (disch := omega) only [wpY_setLiteral, nI_clamp, dl_Ar, dl_Au, dl_leT, dl_leF, dl_ltT, dl_ltF, dl_eqT, dl_eqF, nI_add, nI_1, dl_inT, dl_sub, dl_sub1, dl_subm1, forall_eq, true_implies, false_implies, not_true, not_false_iff, true_and, and_true, dl_leLT0, dl_leLF0, dl_leRT0, dl_leRF0, dl_ltLT0, dl_ltLF0, dl_ltRT0, dl_ltRF0, dl_eqRT0, dl_eqRF0, dl_leLT1, dl_leLF1, dl_leRT1, dl_leRF1, dl_ltLT1, dl_ltLF1, dl_ltRT1, dl_ltRF1, dl_eqRT1, dl_eqRF1, dl_leLT2, dl_leLF2, dl_leRT2, dl_leRF2, dl_ltLT2, dl_ltLF2, dl_ltRT2, dl_ltRF2, dl_eqRT2, dl_eqRF2, dl_leLT3, dl_leLF3, dl_leRT3, dl_leRF3, dl_ltLT3, dl_ltLF3, dl_ltRT3, dl_ltRF3, dl_eqRT3, dl_eqRF3, dl_leLT8, dl_leLF8, dl_leRT8, dl_leRF8, dl_ltLT8, dl_ltLF8, dl_ltRT8, dl_ltRF8, dl_eqRT8, dl_eqRF8, dl_leLT9, dl_leLF9, dl_leRT9, dl_leRF9, dl_ltLT9, dl_ltLF9, dl_ltRT9, dl_ltRF9, dl_eqRT9, dl_eqRF9, dl_leLT16, dl_leLF16, dl_leRT16, dl_leRF16, dl_ltLT16, dl_ltLF16, dl_ltRT16, dl_ltRF16, dl_eqRT16, dl_eqRF16, dl_leLT64, dl_leLF64, dl_leRT64, dl_leRF64, dl_ltLT64, dl_ltLF64, dl_ltRT64, dl_ltRF64, dl_eqRT64, dl_eqRF64, dl_leLT65, dl_leLF65, dl_leRT65, dl_leRF65, dl_ltLT65, dl_ltLF65, dl_ltRT65, dl_ltRF65, dl_eqRT65, dl_eqRF65, h1]
          first | exact Rl | exact ⟨by trivial, Rl⟩
        · obtain ⟨j, hj, rfl⟩ := nI_of h1
          by_cases h2 : j < N c
          · obtain ⟨g1, g2⟩ := Lt.2.2 c hc k2
            have g3 := dl_lsum_get (N := N) hc k2
            have l1 := Lt.1
            have l2 := Lt.2.1
            simp (disch := omega) only [wpY_setLiteral, nI_clamp, dl_Ar, dl_Au, dl_leT, dl_leF, dl_ltT, dl_ltF, dl_eqT, dl_eqF, nI_add, nI_1, dl_inT, dl_sub, dl_sub1, dl_subm1, forall_eq, true_implies, false_implies, not_true, not_false_iff, true_and, and_true, dl_leLT0, dl_leLF0, dl_leRT0, dl_leRF0, dl_ltLT0, dl_ltLF0, dl_ltRT0, dl_ltRF0, dl_eqRT0, dl_eqRF0, dl_leLT1, dl_leLF1, dl_leRT1, dl_leRF1, dl_ltLT1, dl_ltLF1, dl_ltRT1, dl_ltRF1, dl_eqRT1, dl_eqRF1, dl_leLT2, dl_leLF2, dl_leRT2, dl_leRF2, dl_ltLT2, dl_ltLF2, dl_ltRT2, dl_ltRF2, dl_eqRT2, dl_eqRF2, dl_leLT3, dl_leLF3, dl_leRT3, dl_leRF3, dl_ltLT3, dl_ltLF3, dl_ltRT3, dl_ltRF3, dl_eqRT3, dl_eqRF3, dl_leLT8, dl_leLF8, dl_leRT8, dl_leRF8, dl_ltLT8, dl_ltLF8, dl_ltRT8, dl_ltRF8, dl_eqRT8, dl_eqRF8, dl_leLT9, dl_leLF9, dl_leRT9, dl_leRF9, dl_ltLT9, dl_ltLF9, dl_ltRT9, dl_ltRF9, dl_eqRT9, dl_eqRF9, dl_leLT16, dl_leLF16, dl_leRT16, dl_leRF16, dl_ltLT16, dl_ltLF16, dl_ltRT16, dl_ltRF16, dl_eqRT16, dl_eqRF16, dl_leLT64, dl_leLF64, dl_leRT64, dl_leRF64, dl_ltLT64, dl_ltLF64, dl_ltRT64, dl_ltRF64, dl_eqRT64, dl_eqRF64, dl_leLT65, dl_leLF65, dl_leRT65, dl_leRF65, dl_ltLT65, dl_ltLF65, dl_ltRT65, dl_ltRF65, dl_eqRT65, dl_eqRF65, dl_mul64]
            refine dl_mk _ ⟨a1, B, ⟨l1, l2, fun c' hc' k2' => ?_⟩, a4, fun h => by omega⟩
            obtain ⟨f1, f2⟩ := Lt.2.2 c' hc' k2'
            refine ⟨f1, fun j' hj' => ?_⟩
            have d2 := (b8 c' hc').2.1
            by_cases e : c' = c
            · subst e
              by_cases e2 : j' = j
              · rw [e2, pk_us, pk_us]
              · rw [pk_un (by omega), pk_un (by omega)]; exact f2 j' hj'
            · have ne : A c' + j' ≠ A c + j := by
                rcases Nat.lt_or_ge c' c with w | w
                · have := dl_lsum_get (N := N) w k2'
                  omega
                · have := dl_lsum_get (N := N) (show c < c' by omega) k2
                  omega
              rw [pk_un ne, pk_un (by omega)]; exact f2 j' hj'
          · simp (disch := omega) only [wpY_setLiteral, nI_clamp, dl_Ar, dl_Au, dl_leT, dl_leF, dl_ltT, dl_ltF, dl_eqT, dl_eqF, nI_add, nI_1, dl_inT, dl_sub, dl_sub1, dl_subm1, forall_eq, true_implies, false_implies, not_true, not_false_iff, true_and, and_true, dl_leLT0, dl_leLF0, dl_leRT0, dl_leRF0, dl_ltLT0, dl_ltLF0, dl_ltRT0, dl_ltRF0, dl_eqRT0, dl_eqRF0, dl_leLT1, dl_leLF1, dl_leRT1, dl_leRF1, dl_ltLT1, dl_ltLF1, dl_ltRT1, dl_ltRF1, dl_eqRT1, dl_eqRF1, dl_leLT2, dl_leLF2, dl_leRT2, dl_leRF2, dl_ltLT2, dl_ltLF2, dl_ltRT2, dl_ltRF2, dl_eqRT2, dl_eqRF2, dl_leLT3, dl_leLF3, dl_leRT3, dl_leRF3, dl_ltLT3, dl_ltLF3, dl_ltRT3, dl_ltRF3, dl_eqRT3, dl_eqRF3, dl_leLT8, dl_leLF8, dl_leRT8, dl_leRF8, dl_ltLT8, dl_ltLF8, dl_ltRT8, dl_ltRF8, dl_eqRT8, dl_eqRF8, dl_leLT9, dl_leLF9, dl_leRT9, dl_leRF9, dl_ltLT9, dl_ltLF9, dl_ltRT9, dl_ltRF9, dl_eqRT9, dl_eqRF9, dl_leLT16, dl_leLF16, dl_leRT16, dl_leRF16, dl_ltLT16, dl_ltLF16, dl_ltRT16, dl_ltRF16, dl_eqRT16, dl_eqRF16, dl_leLT64, dl_leLF64, dl_leRT64, dl_leRF64, dl_ltLT64, dl_ltLF64, dl_ltRT64, dl_ltRF64, dl_eqRT64, dl_eqRF64, dl_leLT65, dl_leLF65, dl_leRT65, dl_leRF65, dl_ltLT65, dl_ltLF65, dl_ltRT65, dl_ltRF65, dl_eqRT65, dl_eqRF65]
            first | exact Rl | exact ⟨by trivial, Rl⟩
      · simp (disch := omega) only [wpY_setLiteral, nI_clamp, dl_Ar, dl_Au, dl_leT, dl_leF, dl_ltT, dl_ltF, dl_eqT, dl_eqF, nI_add, nI_1, dl_inT, dl_sub, dl_sub1, dl_subm1, forall_eq, true_implies, false_implies, not_true, not_false_iff, true_and, and_true, dl_leLT0, dl_leLF0, dl_leRT0, dl_leRF0, dl_ltLT0, dl_ltLF0, dl_ltRT0, dl_ltRF0, dl_eqRT0, dl_eqRF0, dl_leLT1, dl_leLF1, dl_leRT1, dl_leRF1, dl_ltLT1, dl_ltLF1, dl_ltRT1, dl_ltRF1, dl_eqRT1, dl_eqRF1, dl_leLT2, dl_leLF2, dl_leRT2, dl_leRF2, dl_ltLT2, dl_ltLF2, dl_ltRT2, dl_ltRF2, dl_eqRT2, dl_eqRF2, dl_leLT3, dl_leLF3, dl_leRT3, dl_leRF3, dl_ltLT3, dl_ltLF3, dl_ltRT3, dl_ltRF3, dl_eqRT3, dl_eqRF3, dl_leLT8, dl_leLF8, dl_leRT8, dl_leRF8, dl_ltLT8, dl_ltLF8, dl_ltRT8, dl_ltRF8, dl_eqRT8, dl_eqRF8, dl_leLT9, dl_leLF9, dl_leRT9, dl_leRF9, dl_ltLT9, dl_ltLF9, dl_ltRT9, dl_ltRF9, dl_eqRT9, dl_eqRF9, dl_leLT16, dl_leLF16, dl_leRT16, dl_leRF16, dl_ltLT16, dl_ltLF16, dl_ltRT16, dl_ltRF16, dl_eqRT16, dl_eqRF16, dl_leLT64, dl_leLF64, dl_leRT64, dl_leRF64, dl_ltLT64, dl_ltLF64, dl_ltRT64, dl_ltRF64, dl_eqRT64, dl_eqRF64, dl_leLT65, dl_leLF65, dl_leRT65, dl_leRF65, dl_ltLT65, dl_ltLF65, dl_ltRT65, dl_ltRF65, dl_eqRT65, dl_eqRF65]
        first | exact Rl | exact ⟨by trivial, Rl⟩
  · simp (disch := omega) only [wpX_setLiteral, wpY_setLiteral, nI_clamp, dl_Ar, dl_Au, dl_leT, dl_leF, dl_ltT, dl_ltF, dl_eqT, dl_eqF, nI_add, nI_1, dl_inT, dl_sub, dl_sub1, dl_subm1, forall_eq, true_implies, false_implies, not_true, not_false_iff, true_and, and_true, dl_leLT0, dl_leLF0, dl_leRT0, dl_leRF0, dl_ltLT0, dl_ltLF0, dl_ltRT0, dl_ltRF0, dl_eqRT0, dl_eqRF0, dl_leLT1, dl_leLF1, dl_leRT1, dl_leRF1, dl_ltLT1, dl_ltLF1, dl_ltRT1, dl_ltRF1, dl_eqRT1, dl_eqRF1, dl_leLT2, dl_leLF2, dl_leRT2, dl_leRF2, dl_ltLT2, dl_ltLF2, dl_ltRT2, dl_ltRF2, dl_eqRT2, dl_eqRF2, dl_leLT3, dl_leLF3, dl_leRT3, dl_leRF3, dl_ltLT3, dl_ltLF3, dl_ltRT3, dl_ltRF3, dl_eqRT3, dl_eqRF3, dl_leLT8, dl_leLF8, dl_leRT8, dl_leRF8, dl_ltLT8, dl_ltLF8, dl_ltRT8, dl_ltRF8, dl_eqRT8, dl_eqRF8, dl_leLT9, dl_leLF9, dl_leRT9, dl_leRF9, dl_ltLT9, dl_ltLF9, dl_ltRT9, dl_ltRF9, dl_eqRT9, dl_eqRF9, dl_leLT16, dl_leLF16, dl_leRT16, dl_leRF16, dl_ltLT16, dl_ltLF16, dl_ltRT16, dl_ltRF16, dl_eqRT16, dl_eqRF16, dl_leLT64, dl_leLF64, dl_leRT64, dl_leRF64, dl_ltLT64, dl_ltLF64, dl_ltRT64, dl_ltRF64, dl_eqRT64, dl_eqRF64, dl_leLT65, dl_leLF65, dl_leRT65, dl_leRF65, dl_ltLT65, dl_ltLF65, dl_ltRT65, dl_ltRF65, dl_eqRT65, dl_eqRF65]
    first | exact Rl | exact ⟨by trivial, Rl⟩
theorem i_vc_dropLast {k : Nat} {u : SX} {v : SY} (I : i_Rel k u v) (hk : k + 5 ≤ 2562) : wpX_dropLast (fun r u' => wpY_dropLast (fun r' v' => r' = r ∧ i_Rel (k + 5) u' v') v) u := by
  refine dl_el (Q := fun u v => wpX_dropLast (fun r u' => wpY_dropLast (fun r' v' => r' = r ∧ i_Rel (k + 5) u' v') v) u) I ?_
  intro C L ph ol T cnt ls co dn pl dy kp K S D N A bD sq po ws ss bd F P bu pool bf af cm ed re old nxt dat mk hI
  have Rl := dl_mk (af := af) (ed := ed) (re := re) (nxt := nxt) (mk := mk) (bd := bd) (k + 5) hI
  obtain ⟨a1, B, Lt, a4, a5⟩ := hI
  have B' := B
  obtain ⟨b1, b2, b3, b4, b5, b6, b7, b8⟩ := B'
  by_cases p0 : ph = 0
  · by_cases h0 : cnt = 0
    · simp (disch := omega) only [wpX_dropLast, wpY_dropLast, nI_clamp, dl_Ar, dl_Au, dl_leT, dl_leF, dl_ltT, dl_ltF, dl_eqT, dl_eqF, nI_add, nI_1, dl_inT, dl_sub, dl_sub1, dl_subm1, forall_eq, true_implies, false_implies, not_true, not_false_iff, true_and, and_true, dl_leLT0, dl_leLF0, dl_leRT0, dl_leRF0, dl_ltLT0, dl_ltLF0, dl_ltRT0, dl_ltRF0, dl_eqRT0, dl_eqRF0, dl_leLT1, dl_leLF1, dl_leRT1, dl_leRF1, dl_ltLT1, dl_ltLF1, dl_ltRT1, dl_ltRF1, dl_eqRT1, dl_eqRF1, dl_leLT2, dl_leLF2, dl_leRT2, dl_leRF2, dl_ltLT2, dl_ltLF2, dl_ltRT2, dl_ltRF2, dl_eqRT2, dl_eqRF2, dl_leLT3, dl_leLF3, dl_leRT3, dl_leRF3, dl_ltLT3, dl_ltLF3, dl_ltRT3, dl_ltRF3, dl_eqRT3, dl_eqRF3, dl_leLT8, dl_leLF8, dl_leRT8, dl_leRF8, dl_ltLT8, dl_ltLF8, dl_ltRT8, dl_ltRF8, dl_eqRT8, dl_eqRF8, dl_leLT9, dl_leLF9, dl_leRT9, dl_leRF9, dl_ltLT9, dl_ltLF9, dl_ltRT9, dl_ltRF9, dl_eqRT9, dl_eqRF9, dl_leLT16, dl_leLF16, dl_leRT16, dl_leRF16, dl_ltLT16, dl_ltLF16, dl_ltRT16, dl_ltRF16, dl_eqRT16, dl_eqRF16, dl_leLT64, dl_leLF64, dl_leRT64, dl_leRF64, dl_ltLT64, dl_ltLF64, dl_ltRT64, dl_ltRF64, dl_eqRT64, dl_eqRF64, dl_leLT65, dl_leLF65, dl_leRT65, dl_leRF65, dl_ltLT65, dl_ltLF65, dl_ltRT65, dl_ltRF65, dl_eqRT65, dl_eqRF65]
      first | exact Rl | exact ⟨by trivial, Rl⟩
    · obtain ⟨c, rfl⟩ : ∃ c, cnt = c + 1 := ⟨cnt - 1, by omega⟩
      obtain ⟨c1, c2, c3⟩ := b8 c (by omega)
      have l1 := Lt.1
      rw [dl_lsum_s] at l1
      have Bn : dl_Bs C L ol T c K S D N := ⟨b1, b2, b3, b4, by omega, b6, b7, fun d hd => b8 d (by omega)⟩
      by_cases k2 : K c = 2
      · rw [if_pos k2] at l1
        have e : ls - N c = dl_lsum K N c := by omega
        simp (disch := omega) only [wpX_dropLast, wpY_dropLast, nI_clamp, dl_Ar, dl_Au, dl_leT, dl_leF, dl_ltT, dl_ltF, dl_eqT, dl_eqF, nI_add, nI_1, dl_inT, dl_sub, dl_sub1, dl_subm1, forall_eq, true_implies, false_implies, not_true, not_false_iff, true_and, and_true, dl_leLT0, dl_leLF0, dl_leRT0, dl_leRF0, dl_ltLT0, dl_ltLF0, dl_ltRT0, dl_ltRF0, dl_eqRT0, dl_eqRF0, dl_leLT1, dl_leLF1, dl_leRT1, dl_leRF1, dl_ltLT1, dl_ltLF1, dl_ltRT1, dl_ltRF1, dl_eqRT1, dl_eqRF1, dl_leLT2, dl_leLF2, dl_leRT2, dl_leRF2, dl_ltLT2, dl_ltLF2, dl_ltRT2, dl_ltRF2, dl_eqRT2, dl_eqRF2, dl_leLT3, dl_leLF3, dl_leRT3, dl_leRF3, dl_ltLT3, dl_ltLF3, dl_ltRT3, dl_ltRF3, dl_eqRT3, dl_eqRF3, dl_leLT8, dl_leLF8, dl_leRT8, dl_leRF8, dl_ltLT8, dl_ltLF8, dl_ltRT8, dl_ltRF8, dl_eqRT8, dl_eqRF8, dl_leLT9, dl_leLF9, dl_leRT9, dl_leRF9, dl_ltLT9, dl_ltLF9, dl_ltRT9, dl_ltRF9, dl_eqRT9, dl_eqRF9, dl_leLT16, dl_leLF16, dl_leRT16, dl_leRF16, dl_ltLT16, dl_ltLF16, dl_ltRT16, dl_ltRF16, dl_eqRT16, dl_eqRF16, dl_leLT64, dl_leLF64, dl_leRT64, dl_leRF64, dl_ltLT64, dl_ltLF64, dl_ltRT64, dl_ltRF64, dl_eqRT64, dl_eqRF64, dl_leLT65, dl_leLF65, dl_leRT65, dl_leRF65, dl_ltLT65, dl_ltLF65, dl_ltRT65, dl_ltRF65, dl_eqRT65, dl_eqRF65, Nat.add_sub_cancel]
        exact dl_mk _ ⟨a1, Bn, ⟨e, by have := Lt.2.1; omega, fun d hd => Lt.2.2 d (by omega)⟩, a4, fun h => by omega⟩
      · rw [if_neg k2] at l1
        simp (disch := omega) only [wpX_dropLast, wpY_dropLast, nI_clamp, dl_Ar, dl_Au, dl_leT, dl_leF, dl_ltT, dl_ltF, dl_eqT, dl_eqF, nI_add, nI_1, dl_inT, dl_sub, dl_sub1, dl_subm1, forall_eq, true_implies, false_implies, not_true, not_false_iff, true_and, and_true, dl_leLT0, dl_leLF0, dl_leRT0, dl_leRF0, dl_ltLT0, dl_ltLF0, dl_ltRT0, dl_ltRF0, dl_eqRT0, dl_eqRF0, dl_leLT1, dl_leLF1, dl_leRT1, dl_leRF1, dl_ltLT1, dl_ltLF1, dl_ltRT1, dl_ltRF1, dl_eqRT1, dl_eqRF1, dl_leLT2, dl_leLF2, dl_leRT2, dl_leRF2, dl_ltLT2, dl_ltLF2, dl_ltRT2, dl_ltRF2, dl_eqRT2, dl_eqRF2, dl_leLT3, dl_leLF3, dl_leRT3, dl_leRF3, dl_ltLT3, dl_ltLF3, dl_ltRT3, dl_ltRF3, dl_eqRT3, dl_eqRF3, dl_leLT8, dl_leLF8, dl_leRT8, dl_leRF8, dl_ltLT8, dl_ltLF8, dl_ltRT8, dl_ltRF8, dl_eqRT8, dl_eqRF8, dl_leLT9, dl_leLF9, dl_leRT9, dl_leRF9, dl_ltLT9, dl_ltLF9, dl_ltRT9, dl_ltRF9, dl_eqRT9, dl_eqRF9, dl_leLT16, dl_leLF16, dl_leRT16, dl_leRF16, dl_ltLT16, dl_ltLF16, dl_ltRT16, dl_ltRF16, dl_eqRT16, dl_eqRF16, dl_leLT64, dl_leLF64, dl_leRT64, dl_leRF64, dl_ltLT64, dl_ltLF64, dl_ltRT64, dl_ltRF64, dl_eqRT64, dl_eqRF64, dl_leLT65, dl_leLF65, dl_leRT65, dl_leRF65, dl_ltLT65, dl_ltLF65, dl_ltRT65, dl_ltRF65, dl_eqRT65, dl_eqRF65, Nat.add_sub_cancel]
        exact dl_mk _ ⟨a1, Bn, ⟨l1, Lt.2.1, fun d hd => Lt.2.2 d (by omega)⟩, a4, fun h => by omega⟩
  · simp (disch := omega) only [wpX_dropLast, wpY_dropLast, nI_clamp, dl_Ar, dl_Au, dl_leT, dl_leF, dl_ltT, dl_ltF, dl_eqT, dl_eqF, nI_add, nI_1, dl_inT, dl_sub, dl_sub1, dl_subm1, forall_eq, true_implies, false_implies, not_true, not_false_iff, true_and, and_true, dl_leLT0, dl_leLF0, dl_leRT0, dl_leRF0, dl_ltLT0, dl_ltLF0, dl_ltRT0, dl_ltRF0, dl_eqRT0, dl_eqRF0, dl_leLT1, dl_leLF1, dl_leRT1, dl_leRF1, dl_ltLT1, dl_ltLF1, dl_ltRT1, dl_ltRF1, dl_eqRT1, dl_eqRF1, dl_leLT2, dl_leLF2, dl_leRT2, dl_leRF2, dl_ltLT2, dl_ltLF2, dl_ltRT2, dl_ltRF2, dl_eqRT2, dl_eqRF2, dl_leLT3, dl_leLF3, dl_leRT3, dl_leRF3, dl_ltLT3, dl_ltLF3, dl_ltRT3, dl_ltRF3, dl_eqRT3, dl_eqRF3, dl_leLT8, dl_leLF8, dl_leRT8, dl_leRF8, dl_ltLT8, dl_ltLF8, dl_ltRT8, dl_ltRF8, dl_eqRT8, dl_eqRF8, dl_leLT9, dl_leLF9, dl_leRT9, dl_leRF9, dl_ltLT9, dl_ltLF9, dl_ltRT9, dl_ltRF9, dl_eqRT9, dl_eqRF9, dl_leLT16, dl_leLF16, dl_leRT16, dl_leRF16, dl_ltLT16, dl_ltLF16, dl_ltRT16, dl_ltRF16, dl_eqRT16, dl_eqRF16, dl_leLT64, dl_leLF64, dl_leRT64, dl_leRF64, dl_ltLT64, dl_ltLF64, dl_ltRT64, dl_ltRF64, dl_eqRT64, dl_eqRF64, dl_leLT65, dl_leLF65, dl_leRT65, dl_leRF65, dl_ltLT65, dl_ltLF65, dl_ltRT65, dl_ltRF65, dl_eqRT65, dl_eqRF65]
    first | exact Rl | exact ⟨by trivial, Rl⟩
theorem i_vc_abandon {k : Nat} {u : SX} {v : SY} (I : i_Rel k u v) (hk : k + 5 ≤ 2562) : wpX_abandon (fun r u' => wpY_abandon (fun r' v' => r' = r ∧ i_Rel (k + 5) u' v') v) u := by
  refine dl_el (Q := fun u v => wpX_abandon (fun r u' => wpY_abandon (fun r' v' => r' = r ∧ i_Rel (k + 5) u' v') v) u) I ?_
  intro C L ph ol T cnt ls co dn pl dy kp K S D N A bD sq po ws ss bd F P bu pool bf af cm ed re old nxt dat mk hI
  have Rl := dl_mk (af := af) (ed := ed) (re := re) (nxt := nxt) (mk := mk) (bd := bd) (k + 5) hI
  obtain ⟨a1, B, Lt, a4, a5⟩ := hI
  have B' := B
  obtain ⟨b1, b2, b3, b4, b5, b6, b7, b8⟩ := B'
  by_cases p1 : ph = 1
  · obtain ⟨e, wr, m, Pn, d1, d2, d3⟩ := a5 p1
    subst e
    by_cases h0 : dy = 0
    · simp (disch := omega) only [wpX_abandon, wpY_abandon, nI_clamp, dl_Ar, dl_Au, dl_leT, dl_leF, dl_ltT, dl_ltF, dl_eqT, dl_eqF, nI_add, nI_1, dl_inT, dl_sub, dl_sub1, dl_subm1, forall_eq, true_implies, false_implies, not_true, not_false_iff, true_and, and_true, dl_leLT0, dl_leLF0, dl_leRT0, dl_leRF0, dl_ltLT0, dl_ltLF0, dl_ltRT0, dl_ltRF0, dl_eqRT0, dl_eqRF0, dl_leLT1, dl_leLF1, dl_leRT1, dl_leRF1, dl_ltLT1, dl_ltLF1, dl_ltRT1, dl_ltRF1, dl_eqRT1, dl_eqRF1, dl_leLT2, dl_leLF2, dl_leRT2, dl_leRF2, dl_ltLT2, dl_ltLF2, dl_ltRT2, dl_ltRF2, dl_eqRT2, dl_eqRF2, dl_leLT3, dl_leLF3, dl_leRT3, dl_leRF3, dl_ltLT3, dl_ltLF3, dl_ltRT3, dl_ltRF3, dl_eqRT3, dl_eqRF3, dl_leLT8, dl_leLF8, dl_leRT8, dl_leRF8, dl_ltLT8, dl_ltLF8, dl_ltRT8, dl_ltRF8, dl_eqRT8, dl_eqRF8, dl_leLT9, dl_leLF9, dl_leRT9, dl_leRF9, dl_ltLT9, dl_ltLF9, dl_ltRT9, dl_ltRF9, dl_eqRT9, dl_eqRF9, dl_leLT16, dl_leLF16, dl_leRT16, dl_leRF16, dl_ltLT16, dl_ltLF16, dl_ltRT16, dl_ltRF16, dl_eqRT16, dl_eqRF16, dl_leLT64, dl_leLF64, dl_leRT64, dl_leRF64, dl_ltLT64, dl_ltLF64, dl_ltRT64, dl_ltRF64, dl_eqRT64, dl_eqRF64, dl_leLT65, dl_leLF65, dl_leRT65, dl_leRF65, dl_ltLT65, dl_ltLF65, dl_ltRT65, dl_ltRF65, dl_eqRT65, dl_eqRF65]
      refine dl_mk (ph := 0) _ ⟨by omega, B, Lt, fun _ i hi => ?_, fun h => by omega⟩
      rw [d3 i hi, if_neg (by omega)]
    · simp (disch := omega) only [wpX_abandon, wpY_abandon, nI_clamp, dl_Ar, dl_Au, dl_leT, dl_leF, dl_ltT, dl_ltF, dl_eqT, dl_eqF, nI_add, nI_1, dl_inT, dl_sub, dl_sub1, dl_subm1, forall_eq, true_implies, false_implies, not_true, not_false_iff, true_and, and_true, dl_leLT0, dl_leLF0, dl_leRT0, dl_leRF0, dl_ltLT0, dl_ltLF0, dl_ltRT0, dl_ltRF0, dl_eqRT0, dl_eqRF0, dl_leLT1, dl_leLF1, dl_leRT1, dl_leRF1, dl_ltLT1, dl_ltLF1, dl_ltRT1, dl_ltRF1, dl_eqRT1, dl_eqRF1, dl_leLT2, dl_leLF2, dl_leRT2, dl_leRF2, dl_ltLT2, dl_ltLF2, dl_ltRT2, dl_ltRF2, dl_eqRT2, dl_eqRF2, dl_leLT3, dl_leLF3, dl_leRT3, dl_leRF3, dl_ltLT3, dl_ltLF3, dl_ltRT3, dl_ltRF3, dl_eqRT3, dl_eqRF3, dl_leLT8, dl_leLF8, dl_leRT8, dl_leRF8, dl_ltLT8, dl_ltLF8, dl_ltRT8, dl_ltRF8, dl_eqRT8, dl_eqRF8, dl_leLT9, dl_leLF9, dl_leRT9, dl_leRF9, dl_ltLT9, dl_ltLF9, dl_ltRT9, dl_ltRF9, dl_eqRT9, dl_eqRF9, dl_leLT16, dl_leLF16, dl_leRT16, dl_leRF16, dl_ltLT16, dl_ltLF16, dl_ltRT16, dl_ltRF16, dl_eqRT16, dl_eqRF16, dl_leLT64, dl_leLF64, dl_leRT64, dl_leRF64, dl_ltLT64, dl_ltLF64, dl_ltRT64, dl_ltRF64, dl_eqRT64, dl_eqRF64, dl_leLT65, dl_leLF65, dl_leRT65, dl_leRF65, dl_ltLT65, dl_ltLF65, dl_ltRT65, dl_ltRF65, dl_eqRT65, dl_eqRF65]
      first | exact Rl | exact ⟨by trivial, Rl⟩
  · simp (disch := omega) only [wpX_abandon, wpY_abandon, nI_clamp, dl_Ar, dl_Au, dl_leT, dl_leF, dl_ltT, dl_ltF, dl_eqT, dl_eqF, nI_add, nI_1, dl_inT, dl_sub, dl_sub1, dl_subm1, forall_eq, true_implies, false_implies, not_true, not_false_iff, true_and, and_true, dl_leLT0, dl_leLF0, dl_leRT0, dl_leRF0, dl_ltLT0, dl_ltLF0, dl_ltRT0, dl_ltRF0, dl_eqRT0, dl_eqRF0, dl_leLT1, dl_leLF1, dl_leRT1, dl_leRF1, dl_ltLT1, dl_ltLF1, dl_ltRT1, dl_ltRF1, dl_eqRT1, dl_eqRF1, dl_leLT2, dl_leLF2, dl_leRT2, dl_leRF2, dl_ltLT2, dl_ltLF2, dl_ltRT2, dl_ltRF2, dl_eqRT2, dl_eqRF2, dl_leLT3, dl_leLF3, dl_leRT3, dl_leRF3, dl_ltLT3, dl_ltLF3, dl_ltRT3, dl_ltRF3, dl_eqRT3, dl_eqRF3, dl_leLT8, dl_leLF8, dl_leRT8, dl_leRF8, dl_ltLT8, dl_ltLF8, dl_ltRT8, dl_ltRF8, dl_eqRT8, dl_eqRF8, dl_leLT9, dl_leLF9, dl_leRT9, dl_leRF9, dl_ltLT9, dl_ltLF9, dl_ltRT9, dl_ltRF9, dl_eqRT9, dl_eqRF9, dl_leLT16, dl_leLF16, dl_leRT16, dl_leRF16, dl_ltLT16, dl_ltLF16, dl_ltRT16, dl_ltRF16, dl_eqRT16, dl_eqRF16, dl_leLT64, dl_leLF64, dl_leRT64, dl_leRF64, dl_ltLT64, dl_ltLF64, dl_ltRT64, dl_ltRF64, dl_eqRT64, dl_eqRF64, dl_leLT65, dl_leLF65, dl_leRT65, dl_leRF65, dl_ltLT65, dl_ltLF65, dl_ltRT65, dl_ltRF65, dl_eqRT65, dl_eqRF65]
    first | exact Rl | exact ⟨by trivial, Rl⟩
end
section
/-- the fates when all is decided -/
theorem dl_fin {cnt m : Nat} {K S D N β F0 : Nat → Nat} (hK : ∀ c, c < cnt → K c = 1 ∨ K c = 2) (hF : ∀ c, c < cnt → F0 c = if K c = 2 then 2 else 0) (Sb : dl_Sb cnt K N β m) :
    (∀ c, c < cnt → (K c = 1 ∧ (dl_dec (dl_R cnt K S D N) β F0 m c = 1 ∨ dl_dec (dl_R cnt K S D N) β F0 m c = 3)) ∨ (K c = 2 ∧ dl_dec (dl_R cnt K S D N) β F0 m c = 2)) ∧ dl_Ac (dl_R cnt K S D N) (fun y => dl_dec (dl_R cnt K S D N) β F0 m y = 1) := by
  have hβ : ∀ s, s < m → β s < cnt ∧ K (β s) = 1 := fun s hs => Sb.2.1 s hs
  have hi : ∀ s s', s < m → s' < m → β s = β s' → s = s' := fun s s' a b e => dl_srt_inj Sb (fun a w => by unfold dl_G at w; omega) a b e
  obtain ⟨d1, d2, d3, d4⟩ := dl_Dk_d (S := S) (D := D) (N := N) hK hF hβ hi m (Nat.le_refl _)
  refine ⟨fun c hc => ?_, d4⟩
  rcases hK c hc with k | k
  · obtain ⟨s, s1, s2⟩ := Sb.2.2 c ⟨hc, k⟩
    have := d2 s s1
    rw [s2] at this
    exact Or.inl ⟨k, this⟩
  · exact Or.inr ⟨k, d1 c hc k⟩
theorem dl_room {T cnt : Nat} {K D N F wr : Nat → Nat} (Ti : dl_Til T cnt D N wr) (hn : ∀ c, c < cnt → 1 ≤ N c) (hF : ∀ c, c < cnt → (K c = 1 ∧ (F c = 1 ∨ F c = 3)) ∨ (K c = 2 ∧ F c = 2)) : dl_lsum K N cnt + dl_cst N F cnt ≤ T := by
  have e := dl_til_sum Ti hn
  have a := dl_s_add (f := fun c => if K c = 2 then N c else 0) (g := fun c => if F c = 3 then N c else 0) (n := cnt)
  have b := dl_s_le (f := fun c => (if K c = 2 then N c else 0) + (if F c = 3 then N c else 0)) (g := N) (n := cnt) (fun c hc => by
    have := hF c hc
    by_cases k : K c = 2
    · rw [if_pos k, if_neg (by omega)]; omega
    · rw [if_neg k]; split <;> omega)
  unfold dl_lsum dl_cst
  omega
section
variable {C L ph ol T cnt ls co dn pl dy : Nat} {kp : Int32} {K S D N A bD sq po ws ss bd F P : Nat → Nat} {bu pool bf af cm ed re old nxt dat mk : Nat → Int32}
theorem dl_yplan (post : Int32 → SY → Prop) (B : dl_Bs C L ol T cnt K S D N) (p0 : ph = 0) (hf : ∀ p, p < C → dl_flt T p (dl_wc cnt D N p) = 0) {β F0 : Nat → Nat} {m : Nat} (hm : m ≤ cnt) (Sb : dl_Sb cnt K N β m) (hF0 : F0 = fun c => if c < cnt then (if K c = 2 then 2 else 0) else F c) {v1 : Int32}
    (H6 : ¬ nI (dl_cst N (dl_dec (dl_R cnt K S D N) β F0 m) cnt) ≤ v1 → ∀ mk', post (-6) (nI C, nI L, nI ph, nI ol, nI T, nI cnt, nI dy, old, nxt, dl_A K, dl_A S, dl_A D, dl_A N, dat, dl_A (dl_dec (dl_R cnt K S D N) β F0 m), dl_A P, mk'))
    (H1 : nI (dl_cst N (dl_dec (dl_R cnt K S D N) β F0 m) cnt) ≤ v1 → ∃ π ρ n, dl_Pi cnt (dl_R cnt K S D N) D (dl_dec (dl_R cnt K S D N) β F0 m) π ρ n ∧ ∀ P' mk', (∀ t, t < cnt → P' t = π t) → post (nI (dl_cst N (dl_dec (dl_R cnt K S D N) β F0 m) cnt)) (nI C, nI L, 1, nI ol, nI T, nI cnt, 0, old, nxt, dl_A K, dl_A S, dl_A D, dl_A N, dat, dl_A (dl_dec (dl_R cnt K S D N) β F0 m), dl_A P', mk')) : wpY_plan post (nI C, nI L, nI ph, nI ol, nI T, nI cnt, nI dy, old, nxt, dl_A K, dl_A S, dl_A D, dl_A N, dat, dl_A F, dl_A P, mk) v1 := by
  have B' := B
  obtain ⟨b1, b2, b3, b4, b5, b6, b7, b8⟩ := B'
  have hK : ∀ c, c < cnt → K c = 1 ∨ K c = 2 := fun c hc => by have := (b8 c hc).2.2; omega
  have hF1 : ∀ c, c < cnt → F0 c = if K c = 2 then 2 else 0 := fun c hc => by rw [hF0]; exact if_pos hc
  obtain ⟨f1, f2⟩ := dl_fin (S := S) (D := D) hK hF1 Sb
  have bnd : ∀ c, c < cnt → dl_dec (dl_R cnt K S D N) β F0 m c < 2147483648 := fun c hc => by have := f1 c hc; omega
  unfold wpY_plan
  refine br_t (by rw [p0]; rfl) ?_
  refine dl_yfaultAt _ B (p := C) (Nat.le_refl _) hf (fun h => by omega) ?_
  rw [if_neg (by omega)]
  refine br_t (by decide) ?_
  refine dl_ydec _ B hm Sb hF0 (fun mk1 => ?_)
  refine dl_ycost _ (by omega) bnd ?_
  refine br_c (fun h => ?_) (fun h => H6 h mk1)
  obtain ⟨π, ρ, n, Pi, Hp⟩ := H1 h
  exact dl_yar _ B bnd Pi (fun P' mk' e => Hp P' mk' e)
end
theorem i_vc_plan {k : Nat} {u : SX} {v : SY} (I : i_Rel k u v) (hk : k + 5 ≤ 2562) (v1 : Int32) : wpX_plan (fun r u' => wpY_plan (fun r' v' => r' = r ∧ i_Rel (k + 5) u' v') v v1) u v1 := by
  refine dl_el (Q := fun u v => wpX_plan (fun r u' => wpY_plan (fun r' v' => r' = r ∧ i_Rel (k + 5) u' v') v v1) u v1) I ?_
  intro C L ph ol T cnt ls co dn pl dy kp K S D N A bD sq po ws ss bd F P bu pool bf af cm ed re old nxt dat mk hI
  have Rl := fun E => dl_mk (af := af) (ed := E) (re := re) (nxt := nxt) (mk := mk) (bd := bd) (k + 5) hI
  obtain ⟨a1, B, Lt, a4, a5⟩ := hI
  have B' := B
  obtain ⟨b1, b2, b3, b4, b5, b6, b7, b8⟩ := B'
  by_cases p0 : ph = 0
  · unfold wpX_plan
    refine br_t (by rw [p0]; rfl) ?_
    obtain ⟨p, p1, p2, p3⟩ := dl_first (fun p => dl_flt T p (dl_wc cnt D N p) ≠ 0) C
    have p2' : ∀ q, q < p → dl_flt T q (dl_wc cnt D N q) = 0 := fun q hq => Classical.byContradiction (p2 q hq)
    refine dl_xff _ B p1 p2' p3 (fun E => ?_)
    by_cases pc : p < C
    · have fl := dl_flt_lt T p (dl_wc cnt D N p)
      have := p3 pc
      rw [if_pos pc]
      refine br_f (nI_ne0 (by omega) (by omega)) ?_
      unfold wpY_plan
      refine br_t (by rw [p0]; rfl) ?_
      refine dl_yfaultAt _ B p1 p2' p3 ?_
      rw [if_pos pc]
      refine br_f (nI_pos (by omega)) ?_
      exact ⟨rfl, Rl E⟩
    · have ep : p = C := by omega
      rw [ep] at p2'
      obtain ⟨wr, Ti⟩ := dl_til_of B p2'
      have hn : ∀ c, c < cnt → 1 ≤ N c := fun c hc => (b8 c hc).1
      have hN : ∀ c, c < cnt → N c < 2147483648 := fun c hc => by have := (b8 c hc).2.1; omega
      have hK : ∀ c, c < cnt → K c = 1 ∨ K c = 2 := fun c hc => by have := (b8 c hc).2.2; omega
      have hcnt : cnt ≤ 16 := by omega
      rw [if_neg pc]
      refine br_t rfl ?_
      refine dl_xsd _ hcnt (fun i hi => by have := (b8 i hi).2.1; omega) (fun a b ha hb e => dl_dd Ti hn ha hb e) (fun σ Sd => ?_)
      refine dl_xfp _ B Ti Sd (fun bf1 af1 G => ?_)
      refine dl_xfc _ B G (fun re1 cm1 CC => ?_)
      have hF1 : ∀ c, c < cnt → (fun c => if c < cnt then (if K c = 2 then 2 else 0) else F c) c = if K c = 2 then 2 else 0 := fun c hc => if_pos hc
      refine dl_xck _ B G CC hF1 (fun β m kp1 hm Sb KF => ?_)
      obtain ⟨f1, f2⟩ := dl_fin (S := S) (D := D) hK hF1 Sb
      have hF0 : (fun c => if c < cnt then (if K c = 2 then 2 else 0) else F c) = (fun c => if c < cnt then (if K c = 2 then 2 else 0) else F c) := rfl
      have yp := fun post => dl_yplan (C := C) (L := L) (ph := ph) (ol := ol) (T := T) (cnt := cnt) (dy := dy) (P := P) (old := old) (nxt := nxt) (dat := dat) (mk := mk) (v1 := v1) post B p0 p2' hm Sb hF0
      generalize hF : dl_dec (dl_R cnt K S D N) β (fun c => if c < cnt then (if K c = 2 then 2 else 0) else F c) m = F1 at *
      refine br_c (fun hle => ?_) (fun hgt => ?_)
      · have rm := dl_room Ti hn f1
        have l1 := Lt.1
        refine dl_xsv _ B KF (fun c hc => by have := f1 c hc; omega) (by omega) (fun A1 pool1 x1 x2 x3 => ?_)
        refine dl_xpk _ hcnt G KF f2 (fun n π ρ hnn Kq hall hρ => ?_)
        refine dl_xpl _ hcnt KF Sd hnn Kq hall hρ (fun π1 ρ1 Pi => ?_)
        refine dl_xlo _ hcnt hN KF (fun t ht => (Pi.1 t ht).1) (fun ws1 ss1 hw => ?_)
        refine yp _ (fun z => absurd hle z) (fun _ => ⟨π1, ρ1, n, Pi, fun P1 mk1 hP => ?_⟩)
        refine ⟨rfl, dl_mk (ph := 1) (dn := 0) (pl := 0) (dy := 0) _ ⟨by omega, B, ⟨l1, Lt.2.1, fun c hc k2 => ?_⟩, fun h => by omega, fun _ => ⟨rfl, wr, n, ⟨Ti, Sd, fun i j hi hj => G.1 i j (by omega) (by omega), CC, KF, f1, Pi, hP, hw, rfl, fun c hc nf => ?_⟩, ⟨Nat.zero_le _, fun hT => ?_, fun i hi => ?_⟩⟩⟩⟩
        · obtain ⟨g1, g2⟩ := Lt.2.2 c hc k2
          have g3 := dl_lsum_get (N := N) hc k2
          have g4 := f1 c hc
          rw [x1 c hc (by omega)]
          exact ⟨g1, fun j hj => by rw [x2 _ (by omega)]; exact g2 j hj⟩
        · by_cases k2 : K c = 2
          · obtain ⟨g1, g2⟩ := Lt.2.2 c hc k2
            have g3 := dl_lsum_get (N := N) hc k2
            have g4 := f1 c hc
            rw [x1 c hc (by omega)]
            refine ⟨by have := Lt.2.1; omega, fun j hj => ?_⟩
            rw [if_pos k2, x2 _ (by omega)]; exact g2 j hj
          · have g4 := f1 c hc
            obtain ⟨y1, y2⟩ := x3 c hc (by omega)
            refine ⟨y1, fun j hj => ?_⟩
            rw [if_neg k2, y2 j hj]
            have := (b8 c hc).2.2
            exact a4 p0 _ (by omega)
        · have w0 := (Ti.1 0 hT).1
          have c0 := (Pi.1 0 (by omega)).1
          have := hn _ c0
          refine ⟨by omega, Nat.le_refl _, ?_⟩
          rw [dl_W_s, dl_W_0]; omega
        · rw [if_neg (by omega)]; exact a4 p0 i hi
      · refine yp _ (fun _ mk1 => ?_) (fun z => absurd z hgt)
        exact ⟨rfl, dl_mk _ ⟨a1, B, Lt, a4, fun h => by omega⟩⟩
  · have e : ¬ nI ph = 0 := nI_ne0 (by omega) (by omega)
    unfold wpX_plan wpY_plan
    exact br_f e (br_f e ⟨rfl, Rl ed⟩)
end
section
section
variable {C L ph ol T cnt ls co dn pl dy : Nat} {kp : Int32} {K S D N A bD sq po ws ss bd F P : Nat → Nat} {bu pool bf af cm ed re old nxt dat mk : Nat → Int32}
theorem dl_xmir (post : Int32 → Prop) (B : dl_Bs C L ol T cnt K S D N) (KF : dl_KF cnt F kp) (hF : ∀ c, c < cnt → F c = 1 → K c = 1) {c s : Nat} (hc : c < cnt) (hs : s < N c) (H : post (nI (dl_mir S D N F c s))) : wpX_mirror post (nI C, nI L, nI ph, nI ol, nI T, nI cnt, nI ls, nI co, kp, nI dn, nI pl, bu, dl_A K, dl_A S, dl_A D, dl_A N, dl_A A, pool, dl_A bD, bf, af, cm, dl_A sq, dl_A po, dl_A ws, dl_A ss, ed, re, dl_A bd) (nI c) (nI s) := by
  obtain ⟨b1, b2, b3, b4, b5, b6, b7, b8⟩ := B
  obtain ⟨c1, c2, c3⟩ := b8 c hc
  unfold wpX_mirror
  unfold dl_mir at H
  refine dl_xik _ (by omega) KF hc (fun q => br_f (by decide) ?_) (fun q => br_t rfl ?_)
  · have k1 := hF c hc q
    by_cases z : S c < D c
    · rw [if_pos ⟨q, z⟩] at H
      simp (disch := omega) only [nI_clamp, dl_Ar, dl_Au, dl_leT, dl_leF, dl_ltT, dl_ltF, dl_eqT, dl_eqF, nI_add, nI_1, dl_inT, dl_sub, dl_sub1, dl_subm1, forall_eq, true_implies, false_implies, not_true, not_false_iff, true_and, and_true, dl_leLT0, dl_leLF0, dl_leRT0, dl_leRF0, dl_ltLT0, dl_ltLF0, dl_ltRT0, dl_ltRF0, dl_eqRT0, dl_eqRF0, dl_leLT1, dl_leLF1, dl_leRT1, dl_leRF1, dl_ltLT1, dl_ltLF1, dl_ltRT1, dl_ltRF1, dl_eqRT1, dl_eqRF1, dl_leLT2, dl_leLF2, dl_leRT2, dl_leRF2, dl_ltLT2, dl_ltLF2, dl_ltRT2, dl_ltRF2, dl_eqRT2, dl_eqRF2, dl_leLT3, dl_leLF3, dl_leRT3, dl_leRF3, dl_ltLT3, dl_ltLF3, dl_ltRT3, dl_ltRF3, dl_eqRT3, dl_eqRF3, dl_leLT8, dl_leLF8, dl_leRT8, dl_leRF8, dl_ltLT8, dl_ltLF8, dl_ltRT8, dl_ltRF8, dl_eqRT8, dl_eqRF8, dl_leLT9, dl_leLF9, dl_leRT9, dl_leRF9, dl_ltLT9, dl_ltLF9, dl_ltRT9, dl_ltRF9, dl_eqRT9, dl_eqRF9, dl_leLT16, dl_leLF16, dl_leRT16, dl_leRF16, dl_ltLT16, dl_ltLF16, dl_ltRT16, dl_ltRF16, dl_eqRT16, dl_eqRF16, dl_leLT64, dl_leLF64, dl_leRT64, dl_leRF64, dl_ltLT64, dl_ltLF64, dl_ltRT64, dl_ltRF64, dl_eqRT64, dl_eqRF64, dl_leLT65, dl_leLF65, dl_leRT65, dl_leRF65, dl_ltLT65, dl_ltLF65, dl_ltRT65, dl_ltRF65, dl_eqRT65, dl_eqRF65]
      exact H
    · rw [if_neg (fun w => z w.2)] at H
      simp (disch := omega) only [nI_clamp, dl_Ar, dl_Au, dl_leT, dl_leF, dl_ltT, dl_ltF, dl_eqT, dl_eqF, nI_add, nI_1, dl_inT, dl_sub, dl_sub1, dl_subm1, forall_eq, true_implies, false_implies, not_true, not_false_iff, true_and, and_true, dl_leLT0, dl_leLF0, dl_leRT0, dl_leRF0, dl_ltLT0, dl_ltLF0, dl_ltRT0, dl_ltRF0, dl_eqRT0, dl_eqRF0, dl_leLT1, dl_leLF1, dl_leRT1, dl_leRF1, dl_ltLT1, dl_ltLF1, dl_ltRT1, dl_ltRF1, dl_eqRT1, dl_eqRF1, dl_leLT2, dl_leLF2, dl_leRT2, dl_leRF2, dl_ltLT2, dl_ltLF2, dl_ltRT2, dl_ltRF2, dl_eqRT2, dl_eqRF2, dl_leLT3, dl_leLF3, dl_leRT3, dl_leRF3, dl_ltLT3, dl_ltLF3, dl_ltRT3, dl_ltRF3, dl_eqRT3, dl_eqRF3, dl_leLT8, dl_leLF8, dl_leRT8, dl_leRF8, dl_ltLT8, dl_ltLF8, dl_ltRT8, dl_ltRF8, dl_eqRT8, dl_eqRF8, dl_leLT9, dl_leLF9, dl_leRT9, dl_leRF9, dl_ltLT9, dl_ltLF9, dl_ltRT9, dl_ltRF9, dl_eqRT9, dl_eqRF9, dl_leLT16, dl_leLF16, dl_leRT16, dl_leRF16, dl_ltLT16, dl_ltLF16, dl_ltRT16, dl_ltRF16, dl_eqRT16, dl_eqRF16, dl_leLT64, dl_leLF64, dl_leRT64, dl_leRF64, dl_ltLT64, dl_ltLF64, dl_ltRT64, dl_ltRF64, dl_eqRT64, dl_eqRF64, dl_leLT65, dl_leLF65, dl_leRT65, dl_leRF65, dl_ltLT65, dl_ltLF65, dl_ltRT65, dl_ltRF65, dl_eqRT65, dl_eqRF65]
      exact H
  · rw [if_neg (fun w => q w.1)] at H
    exact H
theorem dl_hK {wr : Nat → Nat} {m : Nat} (Pn : dl_Pn T cnt co kp K S D N A bD sq po ws ss F P wr m pool bf cm old dat) : ∀ c, c < cnt → F c = 1 → K c = 1 := fun c hc q => by have := Pn.2.2.2.2.2.1 c hc; omega
/-- one step of the order of writing -/
theorem dl_step {wr : Nat → Nat} {m : Nat} (B : dl_Bs C L ol T cnt K S D N) (Pn : dl_Pn T cnt co kp K S D N A bD sq po ws ss F P wr m pool bf cm old dat) (Dn : dl_Dn C T cnt dn pl K S D N F sq po wr bu old dat) (hlt : dn < T) :
    pl < cnt ∧ sq pl < cnt ∧ dl_W N sq pl ≤ dn ∧ dn - dl_W N sq pl < N (sq pl) ∧ D (sq pl) + dl_mir S D N F (sq pl) (dn - dl_W N sq pl) < T ∧ wr (D (sq pl) + dl_mir S D N F (sq pl) (dn - dl_W N sq pl)) = sq pl ∧ dl_ps S D N F sq po wr (D (sq pl) + dl_mir S D N F (sq pl) (dn - dl_W N sq pl)) = dn := by
  obtain ⟨d1, d2, d3⟩ := Dn
  obtain ⟨l1, l2, l3⟩ := d2 hlt
  have Pi := Pn.2.2.2.2.2.2.1
  obtain ⟨q1, q2, q3⟩ := dl_ps_at (S := S) Pn.1 Pi l1 l2 l3 rfl
  rw [dl_W_s] at l3
  exact ⟨l1, (Pi.1 pl l1).1, l2, by omega, q1, q2, q3⟩
theorem dl_wr1 {wr : Nat → Nat} {m : Nat} (B : dl_Bs C L ol T cnt K S D N) (Pn : dl_Pn T cnt co kp K S D N A bD sq po ws ss F P wr m pool bf cm old dat) (Dn : dl_Dn C T cnt dn pl K S D N F sq po wr bu old dat) (hlt : dn < T) {q : Nat} (hq : q = D (sq pl) + dl_mir S D N F (sq pl) (dn - dl_W N sq pl)) {x : Int32} (hx : x = dl_nv K S D wr dat old q) :
    ∀ pl', (dn + 1 < dl_W N sq (pl + 1) → pl' = pl) → (dl_W N sq (pl + 1) ≤ dn + 1 → pl' = pl + 1) → dl_Dn C T cnt (dn + 1) pl' K S D N F sq po wr (upd bu q x) old dat := by
  intro pl' e1 e2
  obtain ⟨s1, s2, s3, s4, s5, s6, s7⟩ := dl_step B Pn Dn hlt
  rw [← hq] at s5 s6 s7
  have Ti := Pn.1
  have Pi := Pn.2.2.2.2.2.2.1
  have hn : ∀ c, c < cnt → 1 ≤ N c := fun c hc => (B.2.2.2.2.2.2.2 c hc).1
  obtain ⟨d1, d2, d3⟩ := Dn
  obtain ⟨l1, l2, l3⟩ := d2 hlt
  refine ⟨hlt, fun h => ?_, fun i hi => ?_⟩
  · rcases Nat.lt_or_ge (dn + 1) (dl_W N sq (pl + 1)) with z | z
    · rw [e1 z]; exact ⟨l1, by omega, z⟩
    · rw [e2 z]
      have wT := dl_W_T Ti hn Pi
      have lt : pl + 1 < cnt := by
        rcases Nat.lt_or_ge (pl + 1) cnt with w | w
        · exact w
        · have : pl + 1 = cnt := by omega
          rw [this] at z; omega
      have := hn _ (Pi.1 (pl + 1) lt).1
      refine ⟨lt, z, ?_⟩
      rw [dl_W_s]; omega
  · by_cases e : i = q
    · rw [e, pk_us, if_pos ⟨s5, by omega⟩]; exact hx
    · rw [pk_un e, d3 i hi]
      by_cases c1 : i < T ∧ dl_ps S D N F sq po wr i < dn
      · rw [if_pos c1, if_pos ⟨c1.1, by omega⟩]
      · rw [if_neg c1, if_neg (fun c2 => ?_)]
        have : dl_ps S D N F sq po wr i ≠ dn := fun w => e (dl_ps_inj Ti Pi c2.1 s5 (w.trans s7.symm))
        exact c1 ⟨c2.1, by omega⟩
theorem dl_xwo (post : SX → Prop) {wr : Nat → Nat} {m : Nat} (B : dl_Bs C L ol T cnt K S D N) (Pn : dl_Pn T cnt co kp K S D N A bD sq po ws ss F P wr m pool bf cm old dat) (Dn : dl_Dn C T cnt dn pl K S D N F sq po wr bu old dat) (hlt : dn < T) (H : ∀ bu' pl', dl_Dn C T cnt (dn + 1) pl' K S D N F sq po wr bu' old dat → post (nI C, nI L, nI ph, nI ol, nI T, nI cnt, nI ls, nI co, kp, nI (dn + 1), nI pl', bu', dl_A K, dl_A S, dl_A D, dl_A N, dl_A A, pool, dl_A bD, bf, af, cm, dl_A sq, dl_A po, dl_A ws, dl_A ss, ed, re, dl_A bd)) : wpX_writeOne post (nI C, nI L, nI ph, nI ol, nI T, nI cnt, nI ls, nI co, kp, nI dn, nI pl, bu, dl_A K, dl_A S, dl_A D, dl_A N, dl_A A, pool, dl_A bD, bf, af, cm, dl_A sq, dl_A po, dl_A ws, dl_A ss, ed, re, dl_A bd) := by
  obtain ⟨s1, s2, s3, s4, s5, s6, s7⟩ := dl_step B Pn Dn hlt
  have hK := dl_hK Pn
  have Ti := Pn.1
  have KF := Pn.2.2.2.2.1
  have Pi := Pn.2.2.2.2.2.2.1
  have hw := Pn.2.2.2.2.2.2.2.2.1
  have hp := Pn.2.2.2.2.2.2.2.2.2.2
  have B' := B
  obtain ⟨b1, b2, b3, b4, b5, b6, b7, b8⟩ := B'
  obtain ⟨c1, c2, c3⟩ := b8 _ s2
  have w1 := (hw pl (by omega)).1
  have w2 := (hw (pl + 1) (by omega)).1
  have wT := dl_W_T Ti (fun c hc => (b8 c hc).1) Pi
  have wm := dl_W_mono (N := N) (π := sq) (s := pl + 1) (t := cnt) s1
  have ml := dl_mir_lt (S := S) (D := D) (F := F) s4
  have fin : ∀ x, x = dl_nv K S D wr dat old (D (sq pl) + dl_mir S D N F (sq pl) (dn - dl_W N sq pl)) → wX_writeOne_93 post (nI C) (nI L) (nI ph) (nI ol) (nI T) (nI cnt) (nI ls) (nI co) kp (nI dn) (nI pl) (upd bu (D (sq pl) + dl_mir S D N F (sq pl) (dn - dl_W N sq pl)) x) (dl_A K) (dl_A S) (dl_A D) (dl_A N) (dl_A A) pool (dl_A bD) bf af cm (dl_A sq) (dl_A po) (dl_A ws) (dl_A ss) ed re (dl_A bd) := fun x hx => by
    have nx := dl_wr1 B Pn Dn hlt rfl hx
    rw [← w2] at nx wm
    rcases Nat.lt_or_ge (dn + 1) (ws (pl + 1)) with z | z
    · simp (disch := omega) only [wX_writeOne_93, nI_clamp, dl_Ar, dl_Au, dl_leT, dl_leF, dl_ltT, dl_ltF, dl_eqT, dl_eqF, nI_add, nI_1, dl_inT, dl_sub, dl_sub1, dl_subm1, forall_eq, true_implies, false_implies, not_true, not_false_iff, true_and, and_true, dl_leLT0, dl_leLF0, dl_leRT0, dl_leRF0, dl_ltLT0, dl_ltLF0, dl_ltRT0, dl_ltRF0, dl_eqRT0, dl_eqRF0, dl_leLT1, dl_leLF1, dl_leRT1, dl_leRF1, dl_ltLT1, dl_ltLF1, dl_ltRT1, dl_ltRF1, dl_eqRT1, dl_eqRF1, dl_leLT2, dl_leLF2, dl_leRT2, dl_leRF2, dl_ltLT2, dl_ltLF2, dl_ltRT2, dl_ltRF2, dl_eqRT2, dl_eqRF2, dl_leLT3, dl_leLF3, dl_leRT3, dl_leRF3, dl_ltLT3, dl_ltLF3, dl_ltRT3, dl_ltRF3, dl_eqRT3, dl_eqRF3, dl_leLT8, dl_leLF8, dl_leRT8, dl_leRF8, dl_ltLT8, dl_ltLF8, dl_ltRT8, dl_ltRF8, dl_eqRT8, dl_eqRF8, dl_leLT9, dl_leLF9, dl_leRT9, dl_leRF9, dl_ltLT9, dl_ltLF9, dl_ltRT9, dl_ltRF9, dl_eqRT9, dl_eqRF9, dl_leLT16, dl_leLF16, dl_leRT16, dl_leRF16, dl_ltLT16, dl_ltLF16, dl_ltRT16, dl_ltRF16, dl_eqRT16, dl_eqRF16, dl_leLT64, dl_leLF64, dl_leRT64, dl_leRF64, dl_ltLT64, dl_ltLF64, dl_ltRT64, dl_ltRF64, dl_eqRT64, dl_eqRF64, dl_leLT65, dl_leLF65, dl_leRT65, dl_leRF65, dl_ltLT65, dl_ltLF65, dl_ltRT65, dl_ltRF65, dl_eqRT65, dl_eqRF65]
      exact H _ pl (nx pl (fun _ => rfl) (fun h => by omega))
    · simp (disch := omega) only [wX_writeOne_93, nI_clamp, dl_Ar, dl_Au, dl_leT, dl_leF, dl_ltT, dl_ltF, dl_eqT, dl_eqF, nI_add, nI_1, dl_inT, dl_sub, dl_sub1, dl_subm1, forall_eq, true_implies, false_implies, not_true, not_false_iff, true_and, and_true, dl_leLT0, dl_leLF0, dl_leRT0, dl_leRF0, dl_ltLT0, dl_ltLF0, dl_ltRT0, dl_ltRF0, dl_eqRT0, dl_eqRF0, dl_leLT1, dl_leLF1, dl_leRT1, dl_leRF1, dl_ltLT1, dl_ltLF1, dl_ltRT1, dl_ltRF1, dl_eqRT1, dl_eqRF1, dl_leLT2, dl_leLF2, dl_leRT2, dl_leRF2, dl_ltLT2, dl_ltLF2, dl_ltRT2, dl_ltRF2, dl_eqRT2, dl_eqRF2, dl_leLT3, dl_leLF3, dl_leRT3, dl_leRF3, dl_ltLT3, dl_ltLF3, dl_ltRT3, dl_ltRF3, dl_eqRT3, dl_eqRF3, dl_leLT8, dl_leLF8, dl_leRT8, dl_leRF8, dl_ltLT8, dl_ltLF8, dl_ltRT8, dl_ltRF8, dl_eqRT8, dl_eqRF8, dl_leLT9, dl_leLF9, dl_leRT9, dl_leRF9, dl_ltLT9, dl_ltLF9, dl_ltRT9, dl_ltRF9, dl_eqRT9, dl_eqRF9, dl_leLT16, dl_leLF16, dl_leRT16, dl_leRF16, dl_ltLT16, dl_ltLF16, dl_ltRT16, dl_ltRF16, dl_eqRT16, dl_eqRF16, dl_leLT64, dl_leLF64, dl_leRT64, dl_leRF64, dl_ltLT64, dl_ltLF64, dl_ltRT64, dl_ltRF64, dl_eqRT64, dl_eqRF64, dl_leLT65, dl_leLF65, dl_leRT65, dl_leRF65, dl_ltLT65, dl_ltLF65, dl_ltRT65, dl_ltRF65, dl_eqRT65, dl_eqRF65]
      exact H _ (pl + 1) (nx (pl + 1) (fun h => by omega) (fun _ => rfl))
  have e1 : nI dn - nI (ws pl) = nI (dn - dl_W N sq pl) := by rw [w1, dl_sub (by omega)]
  simp (disch := omega) only [wpX_writeOne, nI_clamp, dl_Ar, dl_inT, forall_eq, true_and, e1]
  refine dl_xmir _ B KF hK s2 s4 ?_
  refine dl_xik _ (by omega) KF s2 (fun q => br_f (by decide) ?_) (fun q => br_t rfl ?_)
  · have k1 := hK _ s2 q
    have sb : S (sq pl) + N (sq pl) ≤ ol := by omega
    simp (disch := omega) only [nI_clamp, dl_Ar, dl_Au, dl_leT, dl_leF, dl_ltT, dl_ltF, dl_eqT, dl_eqF, nI_add, nI_1, dl_inT, dl_sub, dl_sub1, dl_subm1, forall_eq, true_implies, false_implies, not_true, not_false_iff, true_and, and_true, dl_leLT0, dl_leLF0, dl_leRT0, dl_leRF0, dl_ltLT0, dl_ltLF0, dl_ltRT0, dl_ltRF0, dl_eqRT0, dl_eqRF0, dl_leLT1, dl_leLF1, dl_leRT1, dl_leRF1, dl_ltLT1, dl_ltLF1, dl_ltRT1, dl_ltRF1, dl_eqRT1, dl_eqRF1, dl_leLT2, dl_leLF2, dl_leRT2, dl_leRF2, dl_ltLT2, dl_ltLF2, dl_ltRT2, dl_ltRF2, dl_eqRT2, dl_eqRF2, dl_leLT3, dl_leLF3, dl_leRT3, dl_leRF3, dl_ltLT3, dl_ltLF3, dl_ltRT3, dl_ltRF3, dl_eqRT3, dl_eqRF3, dl_leLT8, dl_leLF8, dl_leRT8, dl_leRF8, dl_ltLT8, dl_ltLF8, dl_ltRT8, dl_ltRF8, dl_eqRT8, dl_eqRF8, dl_leLT9, dl_leLF9, dl_leRT9, dl_leRF9, dl_ltLT9, dl_ltLF9, dl_ltRT9, dl_ltRF9, dl_eqRT9, dl_eqRF9, dl_leLT16, dl_leLF16, dl_leRT16, dl_leRF16, dl_ltLT16, dl_ltLF16, dl_ltRT16, dl_ltRF16, dl_eqRT16, dl_eqRF16, dl_leLT64, dl_leLF64, dl_leRT64, dl_leRF64, dl_ltLT64, dl_ltLF64, dl_ltRT64, dl_ltRF64, dl_eqRT64, dl_eqRF64, dl_leLT65, dl_leLF65, dl_leRT65, dl_leRF65, dl_ltLT65, dl_ltLF65, dl_ltRT65, dl_ltRF65, dl_eqRT65, dl_eqRF65]
    refine fin _ ?_
    unfold dl_nv
    rw [s6, if_neg (by omega), Nat.add_sub_cancel_left, Dn.2.2 _ (by omega), if_neg]
    rintro ⟨z1, z2⟩
    have sf := dl_safe (S := S) Ti Pi hK s5 (by rw [s6]; exact q) (by rw [s6, Nat.add_sub_cancel_left]; exact z1)
    rw [s6, s7, Nat.add_sub_cancel_left] at sf
    omega
  · obtain ⟨p1, p2⟩ := hp _ s2 q
    simp (disch := omega) only [nI_clamp, dl_Ar, dl_Au, dl_leT, dl_leF, dl_ltT, dl_ltF, dl_eqT, dl_eqF, nI_add, nI_1, dl_inT, dl_sub, dl_sub1, dl_subm1, forall_eq, true_implies, false_implies, not_true, not_false_iff, true_and, and_true, dl_leLT0, dl_leLF0, dl_leRT0, dl_leRF0, dl_ltLT0, dl_ltLF0, dl_ltRT0, dl_ltRF0, dl_eqRT0, dl_eqRF0, dl_leLT1, dl_leLF1, dl_leRT1, dl_leRF1, dl_ltLT1, dl_ltLF1, dl_ltRT1, dl_ltRF1, dl_eqRT1, dl_eqRF1, dl_leLT2, dl_leLF2, dl_leRT2, dl_leRF2, dl_ltLT2, dl_ltLF2, dl_ltRT2, dl_ltRF2, dl_eqRT2, dl_eqRF2, dl_leLT3, dl_leLF3, dl_leRT3, dl_leRF3, dl_ltLT3, dl_ltLF3, dl_ltRT3, dl_ltRF3, dl_eqRT3, dl_eqRF3, dl_leLT8, dl_leLF8, dl_leRT8, dl_leRF8, dl_ltLT8, dl_ltLF8, dl_ltRT8, dl_ltRF8, dl_eqRT8, dl_eqRF8, dl_leLT9, dl_leLF9, dl_leRT9, dl_leRF9, dl_ltLT9, dl_ltLF9, dl_ltRT9, dl_ltRF9, dl_eqRT9, dl_eqRF9, dl_leLT16, dl_leLF16, dl_leRT16, dl_leRF16, dl_ltLT16, dl_ltLF16, dl_ltRT16, dl_ltRF16, dl_eqRT16, dl_eqRF16, dl_leLT64, dl_leLF64, dl_leRT64, dl_leRF64, dl_ltLT64, dl_ltLF64, dl_ltRT64, dl_ltRF64, dl_eqRT64, dl_eqRF64, dl_leLT65, dl_leLF65, dl_leRT65, dl_leRF65, dl_ltLT65, dl_ltLF65, dl_ltRT65, dl_ltRF65, dl_eqRT65, dl_eqRF65]
    refine fin _ ?_
    unfold dl_nv
    rw [s6, Nat.add_sub_cancel_left]
    exact p2 _ ml
theorem dl_xapp (post : Int32 → SX → Prop) {wr : Nat → Nat} {m : Nat} (B : dl_Bs C L ol T cnt K S D N) (Pn : dl_Pn T cnt co kp K S D N A bD sq po ws ss F P wr m pool bf cm old dat) {n d0 : Nat} (hn : d0 + n ≤ T) (H : ∀ bu' pl', dl_Dn C T cnt (d0 + n) pl' K S D N F sq po wr bu' old dat → post (nI n) (nI C, nI L, nI ph, nI ol, nI T, nI cnt, nI ls, nI co, kp, nI (d0 + n), nI pl', bu', dl_A K, dl_A S, dl_A D, dl_A N, dl_A A, pool, dl_A bD, bf, af, cm, dl_A sq, dl_A po, dl_A ws, dl_A ss, ed, re, dl_A bd)) :
    ∀ f i bu' pl', i ≤ n → n - i < f → dl_Dn C T cnt (d0 + i) pl' K S D N F sq po wr bu' old dat → wX_apply_36 post (nI n) f (nI i) (nI C) (nI L) (nI ph) (nI ol) (nI T) (nI cnt) (nI ls) (nI co) kp (nI (d0 + i)) (nI pl') bu' (dl_A K) (dl_A S) (dl_A D) (dl_A N) (dl_A A) pool (dl_A bD) bf af cm (dl_A sq) (dl_A po) (dl_A ws) (dl_A ss) ed re (dl_A bd) := by
  intro f
  have hT : T ≤ 64 := by have := B.2.1; have := B.2.2.2.2.2.2.1; omega
  induction f with
  | zero => intro i bu' pl' _ h; omega
  | succ f ih =>
    intro i bu' pl' h1 h2 Dn
    rcases Nat.lt_or_ge i n with z | z
    · simp (disch := omega) only [wX_apply_36, dl_leF, false_implies, not_false_iff, true_implies, true_and]
      refine dl_xwo _ B Pn Dn (by omega) (fun bu2 pl2 Dn2 => ?_)
      refine nm_r (nI_1 i) ?_
      exact ih (i + 1) bu2 pl2 z (by omega) Dn2
    · have e : i = n := by omega
      subst e
      simp (disch := omega) only [wX_apply_36, nI_clamp, dl_Ar, dl_Au, dl_leT, dl_leF, dl_ltT, dl_ltF, dl_eqT, dl_eqF, nI_add, nI_1, dl_inT, dl_sub, dl_sub1, dl_subm1, forall_eq, true_implies, false_implies, not_true, not_false_iff, true_and, and_true, dl_leLT0, dl_leLF0, dl_leRT0, dl_leRF0, dl_ltLT0, dl_ltLF0, dl_ltRT0, dl_ltRF0, dl_eqRT0, dl_eqRF0, dl_leLT1, dl_leLF1, dl_leRT1, dl_leRF1, dl_ltLT1, dl_ltLF1, dl_ltRT1, dl_ltRF1, dl_eqRT1, dl_eqRF1, dl_leLT2, dl_leLF2, dl_leRT2, dl_leRF2, dl_ltLT2, dl_ltLF2, dl_ltRT2, dl_ltRF2, dl_eqRT2, dl_eqRF2, dl_leLT3, dl_leLF3, dl_leRT3, dl_leRF3, dl_ltLT3, dl_ltLF3, dl_ltRT3, dl_ltRF3, dl_eqRT3, dl_eqRF3, dl_leLT8, dl_leLF8, dl_leRT8, dl_leRF8, dl_ltLT8, dl_ltLF8, dl_ltRT8, dl_ltRF8, dl_eqRT8, dl_eqRF8, dl_leLT9, dl_leLF9, dl_leRT9, dl_leRF9, dl_ltLT9, dl_ltLF9, dl_ltRT9, dl_ltRF9, dl_eqRT9, dl_eqRF9, dl_leLT16, dl_leLF16, dl_leRT16, dl_leRF16, dl_ltLT16, dl_ltLF16, dl_ltRT16, dl_ltRF16, dl_eqRT16, dl_eqRF16, dl_leLT64, dl_leLF64, dl_leRT64, dl_leRF64, dl_ltLT64, dl_ltLF64, dl_ltRT64, dl_ltRF64, dl_eqRT64, dl_eqRF64, dl_leLT65, dl_leLF65, dl_leRT65, dl_leRF65, dl_ltLT65, dl_ltLF65, dl_ltRT65, dl_ltRF65, dl_eqRT65, dl_eqRF65]
      exact H bu' pl' Dn
theorem dl_ywr (post : Int32 → Prop) (B : dl_Bs C L ol T cnt K S D N) {wr : Nat → Nat} (Ti : dl_Til T cnt D N wr) {p : Nat} (hp : p < T) (H : post (nI (wr p))) : wpY_writer post (nI C, nI L, nI ph, nI ol, nI T, nI cnt, nI dy, old, nxt, dl_A K, dl_A S, dl_A D, dl_A N, dat, dl_A F, dl_A P, mk) (nI p) := by
  obtain ⟨b1, b2, b3, b4, b5, b6, b7, b8⟩ := B
  obtain ⟨w1, w2, w3⟩ := Ti.1 p hp
  have key : ∀ f c, c ≤ wr p → wr p - c < f → wY_writer_2 post (nI p) (nI C) (nI L) (nI ph) (nI ol) (nI T) (nI cnt) (nI dy) old nxt (dl_A K) (dl_A S) (dl_A D) (dl_A N) dat (dl_A F) (dl_A P) mk f (nI c) := by
    intro f
    induction f with
    | zero => intro c _ h; omega
    | succ f ih =>
      intro c h1 h2
      have cc := (b8 c (by omega)).2.1
      simp (disch := omega) only [wY_writer_2, nI_clamp, dl_Ar, dl_Au, dl_leT, dl_leF, dl_ltT, dl_ltF, dl_eqT, dl_eqF, nI_add, nI_1, dl_inT, dl_sub, dl_sub1, dl_subm1, forall_eq, true_implies, false_implies, not_true, not_false_iff, true_and, and_true, dl_leLT0, dl_leLF0, dl_leRT0, dl_leRF0, dl_ltLT0, dl_ltLF0, dl_ltRT0, dl_ltRF0, dl_eqRT0, dl_eqRF0, dl_leLT1, dl_leLF1, dl_leRT1, dl_leRF1, dl_ltLT1, dl_ltLF1, dl_ltRT1, dl_ltRF1, dl_eqRT1, dl_eqRF1, dl_leLT2, dl_leLF2, dl_leRT2, dl_leRF2, dl_ltLT2, dl_ltLF2, dl_ltRT2, dl_ltRF2, dl_eqRT2, dl_eqRF2, dl_leLT3, dl_leLF3, dl_leRT3, dl_leRF3, dl_ltLT3, dl_ltLF3, dl_ltRT3, dl_ltRF3, dl_eqRT3, dl_eqRF3, dl_leLT8, dl_leLF8, dl_leRT8, dl_leRF8, dl_ltLT8, dl_ltLF8, dl_ltRT8, dl_ltRF8, dl_eqRT8, dl_eqRF8, dl_leLT9, dl_leLF9, dl_leRT9, dl_leRF9, dl_ltLT9, dl_ltLF9, dl_ltRT9, dl_ltRF9, dl_eqRT9, dl_eqRF9, dl_leLT16, dl_leLF16, dl_leRT16, dl_leRF16, dl_ltLT16, dl_ltLF16, dl_ltRT16, dl_ltRF16, dl_eqRT16, dl_eqRF16, dl_leLT64, dl_leLF64, dl_leRT64, dl_leRF64, dl_ltLT64, dl_ltLF64, dl_ltRT64, dl_ltRF64, dl_eqRT64, dl_eqRF64, dl_leLT65, dl_leLF65, dl_leRT65, dl_leRF65, dl_ltLT65, dl_ltLF65, dl_ltRT65, dl_ltRF65, dl_eqRT65, dl_eqRF65]
      refine dl_yw _ (by omega) (by omega) (by omega) (fun q1 q2 => br_f (by decide) ?_) (fun q => br_t rfl ?_)
      · have := (Ti.2 c p (by omega) q1 q2).2
        rw [this] at H; exact H
      · have ne : c ≠ wr p := fun e => q (by rw [e]; exact ⟨w2, w3⟩)
        exact ih (c + 1) (by omega) (by omega)
  exact ⟨wr p + 1, key _ 0 (by omega) (by omega)⟩
theorem dl_ynv (post : Int32 → Prop) (B : dl_Bs C L ol T cnt K S D N) {wr : Nat → Nat} (Ti : dl_Til T cnt D N wr) {p : Nat} (hp : p < T) (H : post (dl_nv K S D wr dat old p)) : wpY_newValue post (nI C, nI L, nI ph, nI ol, nI T, nI cnt, nI dy, old, nxt, dl_A K, dl_A S, dl_A D, dl_A N, dat, dl_A F, dl_A P, mk) (nI p) := by
  have B' := B
  obtain ⟨b1, b2, b3, b4, b5, b6, b7, b8⟩ := B'
  obtain ⟨w1, w2, w3⟩ := Ti.1 p hp
  obtain ⟨c1, c2, c3⟩ := b8 _ w1
  unfold wpY_newValue
  refine dl_ywr _ B Ti hp ?_
  unfold dl_nv at H
  by_cases k : K (wr p) = 2
  · rw [if_pos k] at H
    simp (disch := omega) only [nI_clamp, dl_Ar, dl_Au, dl_leT, dl_leF, dl_ltT, dl_ltF, dl_eqT, dl_eqF, nI_add, nI_1, dl_inT, dl_sub, dl_sub1, dl_subm1, forall_eq, true_implies, false_implies, not_true, not_false_iff, true_and, and_true, dl_leLT0, dl_leLF0, dl_leRT0, dl_leRF0, dl_ltLT0, dl_ltLF0, dl_ltRT0, dl_ltRF0, dl_eqRT0, dl_eqRF0, dl_leLT1, dl_leLF1, dl_leRT1, dl_leRF1, dl_ltLT1, dl_ltLF1, dl_ltRT1, dl_ltRF1, dl_eqRT1, dl_eqRF1, dl_leLT2, dl_leLF2, dl_leRT2, dl_leRF2, dl_ltLT2, dl_ltLF2, dl_ltRT2, dl_ltRF2, dl_eqRT2, dl_eqRF2, dl_leLT3, dl_leLF3, dl_leRT3, dl_leRF3, dl_ltLT3, dl_ltLF3, dl_ltRT3, dl_ltRF3, dl_eqRT3, dl_eqRF3, dl_leLT8, dl_leLF8, dl_leRT8, dl_leRF8, dl_ltLT8, dl_ltLF8, dl_ltRT8, dl_ltRF8, dl_eqRT8, dl_eqRF8, dl_leLT9, dl_leLF9, dl_leRT9, dl_leRF9, dl_ltLT9, dl_ltLF9, dl_ltRT9, dl_ltRF9, dl_eqRT9, dl_eqRF9, dl_leLT16, dl_leLF16, dl_leRT16, dl_leRF16, dl_ltLT16, dl_ltLF16, dl_ltRT16, dl_ltRF16, dl_eqRT16, dl_eqRF16, dl_leLT64, dl_leLF64, dl_leRT64, dl_leRF64, dl_ltLT64, dl_ltLF64, dl_ltRT64, dl_ltRF64, dl_eqRT64, dl_eqRF64, dl_leLT65, dl_leLF65, dl_leRT65, dl_leRF65, dl_ltLT65, dl_ltLF65, dl_ltRT65, dl_ltRF65, dl_eqRT65, dl_eqRF65, dl_mul64]
    exact H
  · rw [if_neg k] at H
    have : S (wr p) + N (wr p) ≤ ol := by omega
    simp (disch := omega) only [nI_clamp, dl_Ar, dl_Au, dl_leT, dl_leF, dl_ltT, dl_ltF, dl_eqT, dl_eqF, nI_add, nI_1, dl_inT, dl_sub, dl_sub1, dl_subm1, forall_eq, true_implies, false_implies, not_true, not_false_iff, true_and, and_true, dl_leLT0, dl_leLF0, dl_leRT0, dl_leRF0, dl_ltLT0, dl_ltLF0, dl_ltRT0, dl_ltRF0, dl_eqRT0, dl_eqRF0, dl_leLT1, dl_leLF1, dl_leRT1, dl_leRF1, dl_ltLT1, dl_ltLF1, dl_ltRT1, dl_ltRF1, dl_eqRT1, dl_eqRF1, dl_leLT2, dl_leLF2, dl_leRT2, dl_leRF2, dl_ltLT2, dl_ltLF2, dl_ltRT2, dl_ltRF2, dl_eqRT2, dl_eqRF2, dl_leLT3, dl_leLF3, dl_leRT3, dl_leRF3, dl_ltLT3, dl_ltLF3, dl_ltRT3, dl_ltRF3, dl_eqRT3, dl_eqRF3, dl_leLT8, dl_leLF8, dl_leRT8, dl_leRF8, dl_ltLT8, dl_ltLF8, dl_ltRT8, dl_ltRF8, dl_eqRT8, dl_eqRF8, dl_leLT9, dl_leLF9, dl_leRT9, dl_leRF9, dl_ltLT9, dl_ltLF9, dl_ltRT9, dl_ltRF9, dl_eqRT9, dl_eqRF9, dl_leLT16, dl_leLF16, dl_leRT16, dl_leRF16, dl_ltLT16, dl_ltLF16, dl_ltRT16, dl_ltRF16, dl_eqRT16, dl_eqRF16, dl_leLT64, dl_leLF64, dl_leRT64, dl_leRF64, dl_ltLT64, dl_ltLF64, dl_ltRT64, dl_ltRF64, dl_eqRT64, dl_eqRF64, dl_leLT65, dl_leLF65, dl_leRT65, dl_leRF65, dl_ltLT65, dl_ltLF65, dl_ltRT65, dl_ltRF65, dl_eqRT65, dl_eqRF65, dl_mul64]
    exact H
theorem dl_xcm (post : Int32 → SX → Prop) (hC : C ≤ 64) (hT : T ≤ C) (H : ∀ bu', (∀ i, i < T → bu' i = bu i) → (∀ i, T ≤ i → i < C → bu' i = 0) → post (nI ol) (nI C, nI L, 0, nI ol, 0, 0, 0, nI co, kp, nI dn, nI pl, bu', dl_A K, dl_A S, dl_A D, dl_A N, dl_A A, pool, dl_A bD, bf, af, cm, dl_A sq, dl_A po, dl_A ws, dl_A ss, ed, re, dl_A bd)) :
    ∀ f i bu', T ≤ i → i ≤ C → C - i < f → (∀ j, j < T → bu' j = bu j) → (∀ j, T ≤ j → j < i → bu' j = 0) → wX_commit_37 post (nI C) (nI L) (nI ph) (nI ol) (nI T) (nI cnt) (nI ls) (nI co) kp (nI dn) (nI pl) f (nI i) bu' (dl_A K) (dl_A S) (dl_A D) (dl_A N) (dl_A A) pool (dl_A bD) bf af cm (dl_A sq) (dl_A po) (dl_A ws) (dl_A ss) ed re (dl_A bd) := by
  intro f
  induction f with
  | zero => intro i bu' _ _ h; omega
  | succ f ih =>
    intro i bu' h0 h1 h2 P1 P2
    rcases Nat.lt_or_ge i C with z | z
    · simp (disch := omega) only [wX_commit_37, nI_clamp, dl_Ar, dl_Au, dl_leT, dl_leF, dl_ltT, dl_ltF, dl_eqT, dl_eqF, nI_add, nI_1, dl_inT, dl_sub, dl_sub1, dl_subm1, forall_eq, true_implies, false_implies, not_true, not_false_iff, true_and, and_true, dl_leLT0, dl_leLF0, dl_leRT0, dl_leRF0, dl_ltLT0, dl_ltLF0, dl_ltRT0, dl_ltRF0, dl_eqRT0, dl_eqRF0, dl_leLT1, dl_leLF1, dl_leRT1, dl_leRF1, dl_ltLT1, dl_ltLF1, dl_ltRT1, dl_ltRF1, dl_eqRT1, dl_eqRF1, dl_leLT2, dl_leLF2, dl_leRT2, dl_leRF2, dl_ltLT2, dl_ltLF2, dl_ltRT2, dl_ltRF2, dl_eqRT2, dl_eqRF2, dl_leLT3, dl_leLF3, dl_leRT3, dl_leRF3, dl_ltLT3, dl_ltLF3, dl_ltRT3, dl_ltRF3, dl_eqRT3, dl_eqRF3, dl_leLT8, dl_leLF8, dl_leRT8, dl_leRF8, dl_ltLT8, dl_ltLF8, dl_ltRT8, dl_ltRF8, dl_eqRT8, dl_eqRF8, dl_leLT9, dl_leLF9, dl_leRT9, dl_leRF9, dl_ltLT9, dl_ltLF9, dl_ltRT9, dl_ltRF9, dl_eqRT9, dl_eqRF9, dl_leLT16, dl_leLF16, dl_leRT16, dl_leRF16, dl_ltLT16, dl_ltLF16, dl_ltRT16, dl_ltRF16, dl_eqRT16, dl_eqRF16, dl_leLT64, dl_leLF64, dl_leRT64, dl_leRF64, dl_ltLT64, dl_ltLF64, dl_ltRT64, dl_ltRF64, dl_eqRT64, dl_eqRF64, dl_leLT65, dl_leLF65, dl_leRT65, dl_leRF65, dl_ltLT65, dl_ltLF65, dl_ltRT65, dl_ltRF65, dl_eqRT65, dl_eqRF65]
      refine ih (i + 1) _ (by omega) z (by omega) (fun j hj => ?_) (fun j j1 j2 => ?_)
      · rw [pk_un (by omega)]; exact P1 j hj
      · by_cases e : j = i
        · rw [e, pk_us]
        · rw [pk_un e]; exact P2 j j1 (by omega)
    · have e : i = C := by omega
      simp (disch := omega) only [wX_commit_37, nI_clamp, dl_Ar, dl_Au, dl_leT, dl_leF, dl_ltT, dl_ltF, dl_eqT, dl_eqF, nI_add, nI_1, dl_inT, dl_sub, dl_sub1, dl_subm1, forall_eq, true_implies, false_implies, not_true, not_false_iff, true_and, and_true, dl_leLT0, dl_leLF0, dl_leRT0, dl_leRF0, dl_ltLT0, dl_ltLF0, dl_ltRT0, dl_ltRF0, dl_eqRT0, dl_eqRF0, dl_leLT1, dl_leLF1, dl_leRT1, dl_leRF1, dl_ltLT1, dl_ltLF1, dl_ltRT1, dl_ltRF1, dl_eqRT1, dl_eqRF1, dl_leLT2, dl_leLF2, dl_leRT2, dl_leRF2, dl_ltLT2, dl_ltLF2, dl_ltRT2, dl_ltRF2, dl_eqRT2, dl_eqRF2, dl_leLT3, dl_leLF3, dl_leRT3, dl_leRF3, dl_ltLT3, dl_ltLF3, dl_ltRT3, dl_ltRF3, dl_eqRT3, dl_eqRF3, dl_leLT8, dl_leLF8, dl_leRT8, dl_leRF8, dl_ltLT8, dl_ltLF8, dl_ltRT8, dl_ltRF8, dl_eqRT8, dl_eqRF8, dl_leLT9, dl_leLF9, dl_leRT9, dl_leRF9, dl_ltLT9, dl_ltLF9, dl_ltRT9, dl_ltRF9, dl_eqRT9, dl_eqRF9, dl_leLT16, dl_leLF16, dl_leRT16, dl_leRF16, dl_ltLT16, dl_ltLF16, dl_ltRT16, dl_ltRF16, dl_eqRT16, dl_eqRF16, dl_leLT64, dl_leLF64, dl_leRT64, dl_leRF64, dl_ltLT64, dl_ltLF64, dl_ltRT64, dl_ltRF64, dl_eqRT64, dl_eqRF64, dl_leLT65, dl_leLF65, dl_leRT65, dl_leRF65, dl_ltLT65, dl_ltLF65, dl_ltRT65, dl_ltRF65, dl_eqRT65, dl_eqRF65]
      exact H bu' P1 (fun j j1 j2 => P2 j j1 (by omega))
theorem dl_ycm (post : Int32 → SY → Prop) (B : dl_Bs C L ol T cnt K S D N) {wr : Nat → Nat} (Ti : dl_Til T cnt D N wr)
    (H : ∀ old' nxt', (∀ i, i < C → old' i = if i < T then dl_nv K S D wr dat old i else 0) → post (nI T) (nI C, nI L, 0, nI T, 0, 0, 0, old', nxt', dl_A K, dl_A S, dl_A D, dl_A N, dat, dl_A F, dl_A P, mk)) :
    ∃ n, wY_commit_26 post (nI C) (nI L) (nI ph) (nI ol) (nI T) (nI cnt) (nI dy) n 0 old nxt (dl_A K) (dl_A S) (dl_A D) (dl_A N) dat (dl_A F) (dl_A P) mk := by
  have B' := B
  obtain ⟨b1, b2, b3, b4, b5, b6, b7, b8⟩ := B'
  have k65 : ∀ nxt', (∀ i, i < C → nxt' i = if i < T then dl_nv K S D wr dat old i else 0) → ∀ f i old', i ≤ C → C - i < f → (∀ j, j < i → old' j = nxt' j) → wY_commit_65 post (nI C) (nI L) (nI ph) (nI ol) (nI T) (nI cnt) (nI dy) f (nI i) old' nxt' (dl_A K) (dl_A S) (dl_A D) (dl_A N) dat (dl_A F) (dl_A P) mk := by
    intro nxt' hn f
    induction f with
    | zero => intro i old' _ h; omega
    | succ f ih =>
      intro i old' h1 h2 P1
      rcases Nat.lt_or_ge i C with z | z
      · simp (disch := omega) only [wY_commit_65, nI_clamp, dl_Ar, dl_Au, dl_leT, dl_leF, dl_ltT, dl_ltF, dl_eqT, dl_eqF, nI_add, nI_1, dl_inT, dl_sub, dl_sub1, dl_subm1, forall_eq, true_implies, false_implies, not_true, not_false_iff, true_and, and_true, dl_leLT0, dl_leLF0, dl_leRT0, dl_leRF0, dl_ltLT0, dl_ltLF0, dl_ltRT0, dl_ltRF0, dl_eqRT0, dl_eqRF0, dl_leLT1, dl_leLF1, dl_leRT1, dl_leRF1, dl_ltLT1, dl_ltLF1, dl_ltRT1, dl_ltRF1, dl_eqRT1, dl_eqRF1, dl_leLT2, dl_leLF2, dl_leRT2, dl_leRF2, dl_ltLT2, dl_ltLF2, dl_ltRT2, dl_ltRF2, dl_eqRT2, dl_eqRF2, dl_leLT3, dl_leLF3, dl_leRT3, dl_leRF3, dl_ltLT3, dl_ltLF3, dl_ltRT3, dl_ltRF3, dl_eqRT3, dl_eqRF3, dl_leLT8, dl_leLF8, dl_leRT8, dl_leRF8, dl_ltLT8, dl_ltLF8, dl_ltRT8, dl_ltRF8, dl_eqRT8, dl_eqRF8, dl_leLT9, dl_leLF9, dl_leRT9, dl_leRF9, dl_ltLT9, dl_ltLF9, dl_ltRT9, dl_ltRF9, dl_eqRT9, dl_eqRF9, dl_leLT16, dl_leLF16, dl_leRT16, dl_leRF16, dl_ltLT16, dl_ltLF16, dl_ltRT16, dl_ltRF16, dl_eqRT16, dl_eqRF16, dl_leLT64, dl_leLF64, dl_leRT64, dl_leRF64, dl_ltLT64, dl_ltLF64, dl_ltRT64, dl_ltRF64, dl_eqRT64, dl_eqRF64, dl_leLT65, dl_leLF65, dl_leRT65, dl_leRF65, dl_ltLT65, dl_ltLF65, dl_ltRT65, dl_ltRF65, dl_eqRT65, dl_eqRF65]
        refine ih (i + 1) _ z (by omega) (fun j hj => ?_)
        by_cases e : j = i
        · rw [e, pk_us]
        · rw [pk_un e]; exact P1 j (by omega)
      · have e : i = C := by omega
        simp (disch := omega) only [wY_commit_65, nI_clamp, dl_Ar, dl_Au, dl_leT, dl_leF, dl_ltT, dl_ltF, dl_eqT, dl_eqF, nI_add, nI_1, dl_inT, dl_sub, dl_sub1, dl_subm1, forall_eq, true_implies, false_implies, not_true, not_false_iff, true_and, and_true, dl_leLT0, dl_leLF0, dl_leRT0, dl_leRF0, dl_ltLT0, dl_ltLF0, dl_ltRT0, dl_ltRF0, dl_eqRT0, dl_eqRF0, dl_leLT1, dl_leLF1, dl_leRT1, dl_leRF1, dl_ltLT1, dl_ltLF1, dl_ltRT1, dl_ltRF1, dl_eqRT1, dl_eqRF1, dl_leLT2, dl_leLF2, dl_leRT2, dl_leRF2, dl_ltLT2, dl_ltLF2, dl_ltRT2, dl_ltRF2, dl_eqRT2, dl_eqRF2, dl_leLT3, dl_leLF3, dl_leRT3, dl_leRF3, dl_ltLT3, dl_ltLF3, dl_ltRT3, dl_ltRF3, dl_eqRT3, dl_eqRF3, dl_leLT8, dl_leLF8, dl_leRT8, dl_leRF8, dl_ltLT8, dl_ltLF8, dl_ltRT8, dl_ltRF8, dl_eqRT8, dl_eqRF8, dl_leLT9, dl_leLF9, dl_leRT9, dl_leRF9, dl_ltLT9, dl_ltLF9, dl_ltRT9, dl_ltRF9, dl_eqRT9, dl_eqRF9, dl_leLT16, dl_leLF16, dl_leRT16, dl_leRF16, dl_ltLT16, dl_ltLF16, dl_ltRT16, dl_ltRF16, dl_eqRT16, dl_eqRF16, dl_leLT64, dl_leLF64, dl_leRT64, dl_leRF64, dl_ltLT64, dl_ltLF64, dl_ltRT64, dl_ltRF64, dl_eqRT64, dl_eqRF64, dl_leLT65, dl_leLF65, dl_leRT65, dl_leRF65, dl_ltLT65, dl_ltLF65, dl_ltRT65, dl_ltRF65, dl_eqRT65, dl_eqRF65]
        exact H old' nxt' (fun j hj => by rw [P1 j (by omega)]; exact hn j hj)
  have k26 : ∀ f i nxt', i ≤ C → C - i < f → (∀ j, j < i → nxt' j = if j < T then dl_nv K S D wr dat old j else 0) → wY_commit_26 post (nI C) (nI L) (nI ph) (nI ol) (nI T) (nI cnt) (nI dy) f (nI i) old nxt' (dl_A K) (dl_A S) (dl_A D) (dl_A N) dat (dl_A F) (dl_A P) mk := by
    intro f
    induction f with
    | zero => intro i nxt' _ h; omega
    | succ f ih =>
      intro i nxt' h1 h2 P1
      rcases Nat.lt_or_ge i C with z | z
      · rcases Nat.lt_or_ge i T with w | w
        · simp (disch := omega) only [wY_commit_26, nI_clamp, dl_Ar, dl_Au, dl_leT, dl_leF, dl_ltT, dl_ltF, dl_eqT, dl_eqF, nI_add, nI_1, dl_inT, dl_sub, dl_sub1, dl_subm1, forall_eq, true_implies, false_implies, not_true, not_false_iff, true_and, and_true, dl_leLT0, dl_leLF0, dl_leRT0, dl_leRF0, dl_ltLT0, dl_ltLF0, dl_ltRT0, dl_ltRF0, dl_eqRT0, dl_eqRF0, dl_leLT1, dl_leLF1, dl_leRT1, dl_leRF1, dl_ltLT1, dl_ltLF1, dl_ltRT1, dl_ltRF1, dl_eqRT1, dl_eqRF1, dl_leLT2, dl_leLF2, dl_leRT2, dl_leRF2, dl_ltLT2, dl_ltLF2, dl_ltRT2, dl_ltRF2, dl_eqRT2, dl_eqRF2, dl_leLT3, dl_leLF3, dl_leRT3, dl_leRF3, dl_ltLT3, dl_ltLF3, dl_ltRT3, dl_ltRF3, dl_eqRT3, dl_eqRF3, dl_leLT8, dl_leLF8, dl_leRT8, dl_leRF8, dl_ltLT8, dl_ltLF8, dl_ltRT8, dl_ltRF8, dl_eqRT8, dl_eqRF8, dl_leLT9, dl_leLF9, dl_leRT9, dl_leRF9, dl_ltLT9, dl_ltLF9, dl_ltRT9, dl_ltRF9, dl_eqRT9, dl_eqRF9, dl_leLT16, dl_leLF16, dl_leRT16, dl_leRF16, dl_ltLT16, dl_ltLF16, dl_ltRT16, dl_ltRF16, dl_eqRT16, dl_eqRF16, dl_leLT64, dl_leLF64, dl_leRT64, dl_leRF64, dl_ltLT64, dl_ltLF64, dl_ltRT64, dl_ltRF64, dl_eqRT64, dl_eqRF64, dl_leLT65, dl_leLF65, dl_leRT65, dl_leRF65, dl_ltLT65, dl_ltLF65, dl_ltRT65, dl_ltRF65, dl_eqRT65, dl_eqRF65]
          refine dl_ynv _ B Ti w ?_
          refine ih (i + 1) _ z (by omega) (fun j hj => ?_)
          by_cases e : j = i
          · rw [e, pk_us, if_pos w]
          · rw [pk_un e]; exact P1 j (by omega)
        · simp (disch := omega) only [wY_commit_26, nI_clamp, dl_Ar, dl_Au, dl_leT, dl_leF, dl_ltT, dl_ltF, dl_eqT, dl_eqF, nI_add, nI_1, dl_inT, dl_sub, dl_sub1, dl_subm1, forall_eq, true_implies, false_implies, not_true, not_false_iff, true_and, and_true, dl_leLT0, dl_leLF0, dl_leRT0, dl_leRF0, dl_ltLT0, dl_ltLF0, dl_ltRT0, dl_ltRF0, dl_eqRT0, dl_eqRF0, dl_leLT1, dl_leLF1, dl_leRT1, dl_leRF1, dl_ltLT1, dl_ltLF1, dl_ltRT1, dl_ltRF1, dl_eqRT1, dl_eqRF1, dl_leLT2, dl_leLF2, dl_leRT2, dl_leRF2, dl_ltLT2, dl_ltLF2, dl_ltRT2, dl_ltRF2, dl_eqRT2, dl_eqRF2, dl_leLT3, dl_leLF3, dl_leRT3, dl_leRF3, dl_ltLT3, dl_ltLF3, dl_ltRT3, dl_ltRF3, dl_eqRT3, dl_eqRF3, dl_leLT8, dl_leLF8, dl_leRT8, dl_leRF8, dl_ltLT8, dl_ltLF8, dl_ltRT8, dl_ltRF8, dl_eqRT8, dl_eqRF8, dl_leLT9, dl_leLF9, dl_leRT9, dl_leRF9, dl_ltLT9, dl_ltLF9, dl_ltRT9, dl_ltRF9, dl_eqRT9, dl_eqRF9, dl_leLT16, dl_leLF16, dl_leRT16, dl_leRF16, dl_ltLT16, dl_ltLF16, dl_ltRT16, dl_ltRF16, dl_eqRT16, dl_eqRF16, dl_leLT64, dl_leLF64, dl_leRT64, dl_leRF64, dl_ltLT64, dl_ltLF64, dl_ltRT64, dl_ltRF64, dl_eqRT64, dl_eqRF64, dl_leLT65, dl_leLF65, dl_leRT65, dl_leRF65, dl_ltLT65, dl_ltLF65, dl_ltRT65, dl_ltRF65, dl_eqRT65, dl_eqRF65]
          refine ih (i + 1) _ z (by omega) (fun j hj => ?_)
          by_cases e : j = i
          · rw [e, pk_us, if_neg (by omega)]
          · rw [pk_un e]; exact P1 j (by omega)
      · have e : i = C := by omega
        simp (disch := omega) only [wY_commit_26, nI_clamp, dl_Ar, dl_Au, dl_leT, dl_leF, dl_ltT, dl_ltF, dl_eqT, dl_eqF, nI_add, nI_1, dl_inT, dl_sub, dl_sub1, dl_subm1, forall_eq, true_implies, false_implies, not_true, not_false_iff, true_and, and_true, dl_leLT0, dl_leLF0, dl_leRT0, dl_leRF0, dl_ltLT0, dl_ltLF0, dl_ltRT0, dl_ltRF0, dl_eqRT0, dl_eqRF0, dl_leLT1, dl_leLF1, dl_leRT1, dl_leRF1, dl_ltLT1, dl_ltLF1, dl_ltRT1, dl_ltRF1, dl_eqRT1, dl_eqRF1, dl_leLT2, dl_leLF2, dl_leRT2, dl_leRF2, dl_ltLT2, dl_ltLF2, dl_ltRT2, dl_ltRF2, dl_eqRT2, dl_eqRF2, dl_leLT3, dl_leLF3, dl_leRT3, dl_leRF3, dl_ltLT3, dl_ltLF3, dl_ltRT3, dl_ltRF3, dl_eqRT3, dl_eqRF3, dl_leLT8, dl_leLF8, dl_leRT8, dl_leRF8, dl_ltLT8, dl_ltLF8, dl_ltRT8, dl_ltRF8, dl_eqRT8, dl_eqRF8, dl_leLT9, dl_leLF9, dl_leRT9, dl_leRF9, dl_ltLT9, dl_ltLF9, dl_ltRT9, dl_ltRF9, dl_eqRT9, dl_eqRF9, dl_leLT16, dl_leLF16, dl_leRT16, dl_leRF16, dl_ltLT16, dl_ltLF16, dl_ltRT16, dl_ltRF16, dl_eqRT16, dl_eqRF16, dl_leLT64, dl_leLF64, dl_leRT64, dl_leRF64, dl_ltLT64, dl_ltLF64, dl_ltRT64, dl_ltRF64, dl_eqRT64, dl_eqRF64, dl_leLT65, dl_leLF65, dl_leRT65, dl_leRF65, dl_ltLT65, dl_ltLF65, dl_ltRT65, dl_ltRF65, dl_eqRT65, dl_eqRF65]
        exact ⟨C + 1, k65 nxt' (fun j hj => P1 j (by omega)) _ 0 old (by omega) (by omega) (fun j h => by omega)⟩
  exact ⟨C + 1, k26 _ 0 nxt (by omega) (by omega) (fun j h => by omega)⟩
end
end
section
theorem i_vc_apply {k : Nat} {u : SX} {v : SY} (I : i_Rel k u v) (hk : k + 5 ≤ 2562) (v1 : Int32) : wpX_apply (fun r u' => wpY_apply (fun r' v' => r' = r ∧ i_Rel (k + 5) u' v') v v1) u v1 := by
  refine dl_el (Q := fun u v => wpX_apply (fun r u' => wpY_apply (fun r' v' => r' = r ∧ i_Rel (k + 5) u' v') v v1) u v1) I ?_
  intro C L ph ol T cnt ls co dn pl dy kp K S D N A bD sq po ws ss bd F P bu pool bf af cm ed re old nxt dat mk hI
  have Rl := dl_mk (af := af) (ed := ed) (re := re) (nxt := nxt) (mk := mk) (bd := bd) (k + 5) hI
  obtain ⟨a1, B, Lt, a4, a5⟩ := hI
  have B' := B
  obtain ⟨b1, b2, b3, b4, b5, b6, b7, b8⟩ := B'
  by_cases p1 : ph = 1
  · obtain ⟨ed0, wr, m, Pn, Dn⟩ := a5 p1
    subst ed0
    have d1 := Dn.1
    by_cases h1 : v1 < 0
    · have h0 : ¬ 0 ≤ v1 := fun z => absurd (Int32.lt_of_le_of_lt z h1) (by decide)
      simp (disch := omega) only [wpX_apply, wpY_apply, nI_clamp, dl_Ar, dl_Au, dl_leT, dl_leF, dl_ltT, dl_ltF, dl_eqT, dl_eqF, nI_add, nI_1, dl_inT, dl_sub, dl_sub1, dl_subm1, forall_eq, true_implies, false_implies, not_true, not_false_iff, true_and, and_true, dl_leLT0, dl_leLF0, dl_leRT0, dl_leRF0, dl_ltLT0, dl_ltLF0, dl_ltRT0, dl_ltRF0, dl_eqRT0, dl_eqRF0, dl_leLT1, dl_leLF1, dl_leRT1, dl_leRF1, dl_ltLT1, dl_ltLF1, dl_ltRT1, dl_ltRF1, dl_eqRT1, dl_eqRF1, dl_leLT2, dl_leLF2, dl_leRT2, dl_leRF2, dl_ltLT2, dl_ltLF2, dl_ltRT2, dl_ltRF2, dl_eqRT2, dl_eqRF2, dl_leLT3, dl_leLF3, dl_leRT3, dl_leRF3, dl_ltLT3, dl_ltLF3, dl_ltRT3, dl_ltRF3, dl_eqRT3, dl_eqRF3, dl_leLT8, dl_leLF8, dl_leRT8, dl_leRF8, dl_ltLT8, dl_ltLF8, dl_ltRT8, dl_ltRF8, dl_eqRT8, dl_eqRF8, dl_leLT9, dl_leLF9, dl_leRT9, dl_leRF9, dl_ltLT9, dl_ltLF9, dl_ltRT9, dl_ltRF9, dl_eqRT9, dl_eqRF9, dl_leLT16, dl_leLF16, dl_leRT16, dl_leRF16, dl_ltLT16, dl_ltLF16, dl_ltRT16, dl_ltRF16, dl_eqRT16, dl_eqRF16, dl_leLT64, dl_leLF64, dl_leRT64, dl_leRF64, dl_ltLT64, dl_ltLF64, dl_ltRT64, dl_ltRF64, dl_eqRT64, dl_eqRF64, dl_leLT65, dl_leLF65, dl_leRT65, dl_leRF65, dl_ltLT65, dl_ltLF65, dl_ltRT65, dl_ltRF65, dl_eqRT65, dl_eqRF65, h0]
      first | exact Rl | exact ⟨by trivial, Rl⟩
    · obtain ⟨n, hn, rfl⟩ := nI_of h1
      have go : ∀ q, dy + q ≤ T → (∀ bu' pl', dl_Dn C T cnt (dy + q) pl' K S D N F sq po wr bu' old dat → wpY_apply (fun r' v' => r' = nI q ∧ i_Rel (k + 5) (nI C, nI L, nI ph, nI ol, nI T, nI cnt, nI ls, nI co, kp, nI (dy + q), nI pl', bu', dl_A K, dl_A S, dl_A D, dl_A N, dl_A A, pool, dl_A bD, bf, af, cm, dl_A sq, dl_A po, dl_A ws, dl_A ss, ed, re, dl_A bd) v') (nI C, nI L, nI ph, nI ol, nI T, nI cnt, nI dy, old, nxt, dl_A K, dl_A S, dl_A D, dl_A N, dat, dl_A F, dl_A P, mk) (nI n)) → ∃ f, wX_apply_36 (fun r u' => wpY_apply (fun r' v' => r' = r ∧ i_Rel (k + 5) u' v') (nI C, nI L, nI ph, nI ol, nI T, nI cnt, nI dy, old, nxt, dl_A K, dl_A S, dl_A D, dl_A N, dat, dl_A F, dl_A P, mk) (nI n)) (nI q) f 0 (nI C) (nI L) (nI ph) (nI ol) (nI T) (nI cnt) (nI ls) (nI co) kp (nI dy) (nI pl) bu (dl_A K) (dl_A S) (dl_A D) (dl_A N) (dl_A A) pool (dl_A bD) bf af cm (dl_A sq) (dl_A po) (dl_A ws) (dl_A ss) ed re (dl_A bd) := fun q hq Hq =>
        ⟨q + 1, dl_xapp (n := q) (d0 := dy) _ B Pn hq Hq (q + 1) 0 bu pl (by omega) (by omega) Dn⟩
      have fin : ∀ q bu' pl', dl_Dn C T cnt (dy + q) pl' K S D N F sq po wr bu' old dat → i_Rel (k + 5) (nI C, nI L, nI ph, nI ol, nI T, nI cnt, nI ls, nI co, kp, nI (dy + q), nI pl', bu', dl_A K, dl_A S, dl_A D, dl_A N, dl_A A, pool, dl_A bD, bf, af, cm, dl_A sq, dl_A po, dl_A ws, dl_A ss, ed, re, dl_A bd) (nI C, nI L, nI ph, nI ol, nI T, nI cnt, nI (dy + q), old, nxt, dl_A K, dl_A S, dl_A D, dl_A N, dat, dl_A F, dl_A P, mk) := fun q bu' pl' Dn' =>
        dl_mk _ ⟨a1, B, Lt, fun h => by omega, fun _ => ⟨rfl, wr, m, Pn, Dn'⟩⟩
      by_cases h2 : T - dy ≤ n
      · simp (disch := omega) only [wpX_apply, nI_clamp, dl_Ar, dl_Au, dl_leT, dl_leF, dl_ltT, dl_ltF, dl_eqT, dl_eqF, nI_add, nI_1, dl_inT, dl_sub, dl_sub1, dl_subm1, forall_eq, true_implies, false_implies, not_true, not_false_iff, true_and, and_true, dl_leLT0, dl_leLF0, dl_leRT0, dl_leRF0, dl_ltLT0, dl_ltLF0, dl_ltRT0, dl_ltRF0, dl_eqRT0, dl_eqRF0, dl_leLT1, dl_leLF1, dl_leRT1, dl_leRF1, dl_ltLT1, dl_ltLF1, dl_ltRT1, dl_ltRF1, dl_eqRT1, dl_eqRF1, dl_leLT2, dl_leLF2, dl_leRT2, dl_leRF2, dl_ltLT2, dl_ltLF2, dl_ltRT2, dl_ltRF2, dl_eqRT2, dl_eqRF2, dl_leLT3, dl_leLF3, dl_leRT3, dl_leRF3, dl_ltLT3, dl_ltLF3, dl_ltRT3, dl_ltRF3, dl_eqRT3, dl_eqRF3, dl_leLT8, dl_leLF8, dl_leRT8, dl_leRF8, dl_ltLT8, dl_ltLF8, dl_ltRT8, dl_ltRF8, dl_eqRT8, dl_eqRF8, dl_leLT9, dl_leLF9, dl_leRT9, dl_leRF9, dl_ltLT9, dl_ltLF9, dl_ltRT9, dl_ltRF9, dl_eqRT9, dl_eqRF9, dl_leLT16, dl_leLF16, dl_leRT16, dl_leRF16, dl_ltLT16, dl_ltLF16, dl_ltRT16, dl_ltRF16, dl_eqRT16, dl_eqRF16, dl_leLT64, dl_leLF64, dl_leRT64, dl_leRF64, dl_ltLT64, dl_ltLF64, dl_ltRT64, dl_ltRF64, dl_eqRT64, dl_eqRF64, dl_leLT65, dl_leLF65, dl_leRT65, dl_leRF65, dl_ltLT65, dl_ltLF65, dl_ltRT65, dl_ltRF65, dl_eqRT65, dl_eqRF65]
        refine go (T - dy) (by omega) (fun bu' pl' Dn' => ?_)
        simp (disch := omega) only [wpY_apply, wY_apply_43, nI_clamp, dl_Ar, dl_Au, dl_leT, dl_leF, dl_ltT, dl_ltF, dl_eqT, dl_eqF, nI_add, nI_1, dl_inT, dl_sub, dl_sub1, dl_subm1, forall_eq, true_implies, false_implies, not_true, not_false_iff, true_and, and_true, dl_leLT0, dl_leLF0, dl_leRT0, dl_leRF0, dl_ltLT0, dl_ltLF0, dl_ltRT0, dl_ltRF0, dl_eqRT0, dl_eqRF0, dl_leLT1, dl_leLF1, dl_leRT1, dl_leRF1, dl_ltLT1, dl_ltLF1, dl_ltRT1, dl_ltRF1, dl_eqRT1, dl_eqRF1, dl_leLT2, dl_leLF2, dl_leRT2, dl_leRF2, dl_ltLT2, dl_ltLF2, dl_ltRT2, dl_ltRF2, dl_eqRT2, dl_eqRF2, dl_leLT3, dl_leLF3, dl_leRT3, dl_leRF3, dl_ltLT3, dl_ltLF3, dl_ltRT3, dl_ltRF3, dl_eqRT3, dl_eqRF3, dl_leLT8, dl_leLF8, dl_leRT8, dl_leRF8, dl_ltLT8, dl_ltLF8, dl_ltRT8, dl_ltRF8, dl_eqRT8, dl_eqRF8, dl_leLT9, dl_leLF9, dl_leRT9, dl_leRF9, dl_ltLT9, dl_ltLF9, dl_ltRT9, dl_ltRF9, dl_eqRT9, dl_eqRF9, dl_leLT16, dl_leLF16, dl_leRT16, dl_leRF16, dl_ltLT16, dl_ltLF16, dl_ltRT16, dl_ltRF16, dl_eqRT16, dl_eqRF16, dl_leLT64, dl_leLF64, dl_leRT64, dl_leRF64, dl_ltLT64, dl_ltLF64, dl_ltRT64, dl_ltRF64, dl_eqRT64, dl_eqRF64, dl_leLT65, dl_leLF65, dl_leRT65, dl_leRF65, dl_ltLT65, dl_ltLF65, dl_ltRT65, dl_ltRF65, dl_eqRT65, dl_eqRF65]
        exact fin _ bu' pl' Dn'
      · simp (disch := omega) only [wpX_apply, nI_clamp, dl_Ar, dl_Au, dl_leT, dl_leF, dl_ltT, dl_ltF, dl_eqT, dl_eqF, nI_add, nI_1, dl_inT, dl_sub, dl_sub1, dl_subm1, forall_eq, true_implies, false_implies, not_true, not_false_iff, true_and, and_true, dl_leLT0, dl_leLF0, dl_leRT0, dl_leRF0, dl_ltLT0, dl_ltLF0, dl_ltRT0, dl_ltRF0, dl_eqRT0, dl_eqRF0, dl_leLT1, dl_leLF1, dl_leRT1, dl_leRF1, dl_ltLT1, dl_ltLF1, dl_ltRT1, dl_ltRF1, dl_eqRT1, dl_eqRF1, dl_leLT2, dl_leLF2, dl_leRT2, dl_leRF2, dl_ltLT2, dl_ltLF2, dl_ltRT2, dl_ltRF2, dl_eqRT2, dl_eqRF2, dl_leLT3, dl_leLF3, dl_leRT3, dl_leRF3, dl_ltLT3, dl_ltLF3, dl_ltRT3, dl_ltRF3, dl_eqRT3, dl_eqRF3, dl_leLT8, dl_leLF8, dl_leRT8, dl_leRF8, dl_ltLT8, dl_ltLF8, dl_ltRT8, dl_ltRF8, dl_eqRT8, dl_eqRF8, dl_leLT9, dl_leLF9, dl_leRT9, dl_leRF9, dl_ltLT9, dl_ltLF9, dl_ltRT9, dl_ltRF9, dl_eqRT9, dl_eqRF9, dl_leLT16, dl_leLF16, dl_leRT16, dl_leRF16, dl_ltLT16, dl_ltLF16, dl_ltRT16, dl_ltRF16, dl_eqRT16, dl_eqRF16, dl_leLT64, dl_leLF64, dl_leRT64, dl_leRF64, dl_ltLT64, dl_ltLF64, dl_ltRT64, dl_ltRF64, dl_eqRT64, dl_eqRF64, dl_leLT65, dl_leLF65, dl_leRT65, dl_leRF65, dl_ltLT65, dl_ltLF65, dl_ltRT65, dl_ltRF65, dl_eqRT65, dl_eqRF65]
        refine go n (by omega) (fun bu' pl' Dn' => ?_)
        simp (disch := omega) only [wpY_apply, wY_apply_43, nI_clamp, dl_Ar, dl_Au, dl_leT, dl_leF, dl_ltT, dl_ltF, dl_eqT, dl_eqF, nI_add, nI_1, dl_inT, dl_sub, dl_sub1, dl_subm1, forall_eq, true_implies, false_implies, not_true, not_false_iff, true_and, and_true, dl_leLT0, dl_leLF0, dl_leRT0, dl_leRF0, dl_ltLT0, dl_ltLF0, dl_ltRT0, dl_ltRF0, dl_eqRT0, dl_eqRF0, dl_leLT1, dl_leLF1, dl_leRT1, dl_leRF1, dl_ltLT1, dl_ltLF1, dl_ltRT1, dl_ltRF1, dl_eqRT1, dl_eqRF1, dl_leLT2, dl_leLF2, dl_leRT2, dl_leRF2, dl_ltLT2, dl_ltLF2, dl_ltRT2, dl_ltRF2, dl_eqRT2, dl_eqRF2, dl_leLT3, dl_leLF3, dl_leRT3, dl_leRF3, dl_ltLT3, dl_ltLF3, dl_ltRT3, dl_ltRF3, dl_eqRT3, dl_eqRF3, dl_leLT8, dl_leLF8, dl_leRT8, dl_leRF8, dl_ltLT8, dl_ltLF8, dl_ltRT8, dl_ltRF8, dl_eqRT8, dl_eqRF8, dl_leLT9, dl_leLF9, dl_leRT9, dl_leRF9, dl_ltLT9, dl_ltLF9, dl_ltRT9, dl_ltRF9, dl_eqRT9, dl_eqRF9, dl_leLT16, dl_leLF16, dl_leRT16, dl_leRF16, dl_ltLT16, dl_ltLF16, dl_ltRT16, dl_ltRF16, dl_eqRT16, dl_eqRF16, dl_leLT64, dl_leLF64, dl_leRT64, dl_leRF64, dl_ltLT64, dl_ltLF64, dl_ltRT64, dl_ltRF64, dl_eqRT64, dl_eqRF64, dl_leLT65, dl_leLF65, dl_leRT65, dl_leRF65, dl_ltLT65, dl_ltLF65, dl_ltRT65, dl_ltRF65, dl_eqRT65, dl_eqRF65]
        exact fin _ bu' pl' Dn'
  · simp (disch := omega) only [wpX_apply, wpY_apply, nI_clamp, dl_Ar, dl_Au, dl_leT, dl_leF, dl_ltT, dl_ltF, dl_eqT, dl_eqF, nI_add, nI_1, dl_inT, dl_sub, dl_sub1, dl_subm1, forall_eq, true_implies, false_implies, not_true, not_false_iff, true_and, and_true, dl_leLT0, dl_leLF0, dl_leRT0, dl_leRF0, dl_ltLT0, dl_ltLF0, dl_ltRT0, dl_ltRF0, dl_eqRT0, dl_eqRF0, dl_leLT1, dl_leLF1, dl_leRT1, dl_leRF1, dl_ltLT1, dl_ltLF1, dl_ltRT1, dl_ltRF1, dl_eqRT1, dl_eqRF1, dl_leLT2, dl_leLF2, dl_leRT2, dl_leRF2, dl_ltLT2, dl_ltLF2, dl_ltRT2, dl_ltRF2, dl_eqRT2, dl_eqRF2, dl_leLT3, dl_leLF3, dl_leRT3, dl_leRF3, dl_ltLT3, dl_ltLF3, dl_ltRT3, dl_ltRF3, dl_eqRT3, dl_eqRF3, dl_leLT8, dl_leLF8, dl_leRT8, dl_leRF8, dl_ltLT8, dl_ltLF8, dl_ltRT8, dl_ltRF8, dl_eqRT8, dl_eqRF8, dl_leLT9, dl_leLF9, dl_leRT9, dl_leRF9, dl_ltLT9, dl_ltLF9, dl_ltRT9, dl_ltRF9, dl_eqRT9, dl_eqRF9, dl_leLT16, dl_leLF16, dl_leRT16, dl_leRF16, dl_ltLT16, dl_ltLF16, dl_ltRT16, dl_ltRF16, dl_eqRT16, dl_eqRF16, dl_leLT64, dl_leLF64, dl_leRT64, dl_leRF64, dl_ltLT64, dl_ltLF64, dl_ltRT64, dl_ltRF64, dl_eqRT64, dl_eqRF64, dl_leLT65, dl_leLF65, dl_leRT65, dl_leRF65, dl_ltLT65, dl_ltLF65, dl_ltRT65, dl_ltRF65, dl_eqRT65, dl_eqRF65]
    first | exact Rl | exact ⟨by trivial, Rl⟩
theorem i_vc_commit {k : Nat} {u : SX} {v : SY} (I : i_Rel k u v) (hk : k + 5 ≤ 2562) : wpX_commit (fun r u' => wpY_commit (fun r' v' => r' = r ∧ i_Rel (k + 5) u' v') v) u := by
  refine dl_el (Q := fun u v => wpX_commit (fun r u' => wpY_commit (fun r' v' => r' = r ∧ i_Rel (k + 5) u' v') v) u) I ?_
  intro C L ph ol T cnt ls co dn pl dy kp K S D N A bD sq po ws ss bd F P bu pool bf af cm ed re old nxt dat mk hI
  have Rl := dl_mk (af := af) (ed := ed) (re := re) (nxt := nxt) (mk := mk) (bd := bd) (k + 5) hI
  obtain ⟨a1, B, Lt, a4, a5⟩ := hI
  have B' := B
  obtain ⟨b1, b2, b3, b4, b5, b6, b7, b8⟩ := B'
  by_cases p1 : ph = 1
  · obtain ⟨ed0, wr, m, Pn, Dn⟩ := a5 p1
    subst ed0
    have d1 := Dn.1
    by_cases h1 : dy = T
    · have Ti := Pn.1
      have Pi := Pn.2.2.2.2.2.2.1
      have hn : ∀ c, c < cnt → 1 ≤ N c := fun c hc => (b8 c hc).1
      simp (disch := omega) only [wpX_commit, nI_clamp, dl_Ar, dl_Au, dl_leT, dl_leF, dl_ltT, dl_ltF, dl_eqT, dl_eqF, nI_add, nI_1, dl_inT, dl_sub, dl_sub1, dl_subm1, forall_eq, true_implies, false_implies, not_true, not_false_iff, true_and, and_true, dl_leLT0, dl_leLF0, dl_leRT0, dl_leRF0, dl_ltLT0, dl_ltLF0, dl_ltRT0, dl_ltRF0, dl_eqRT0, dl_eqRF0, dl_leLT1, dl_leLF1, dl_leRT1, dl_leRF1, dl_ltLT1, dl_ltLF1, dl_ltRT1, dl_ltRF1, dl_eqRT1, dl_eqRF1, dl_leLT2, dl_leLF2, dl_leRT2, dl_leRF2, dl_ltLT2, dl_ltLF2, dl_ltRT2, dl_ltRF2, dl_eqRT2, dl_eqRF2, dl_leLT3, dl_leLF3, dl_leRT3, dl_leRF3, dl_ltLT3, dl_ltLF3, dl_ltRT3, dl_ltRF3, dl_eqRT3, dl_eqRF3, dl_leLT8, dl_leLF8, dl_leRT8, dl_leRF8, dl_ltLT8, dl_ltLF8, dl_ltRT8, dl_ltRF8, dl_eqRT8, dl_eqRF8, dl_leLT9, dl_leLF9, dl_leRT9, dl_leRF9, dl_ltLT9, dl_ltLF9, dl_ltRT9, dl_ltRF9, dl_eqRT9, dl_eqRF9, dl_leLT16, dl_leLF16, dl_leRT16, dl_leRF16, dl_ltLT16, dl_ltLF16, dl_ltRT16, dl_ltRF16, dl_eqRT16, dl_eqRF16, dl_leLT64, dl_leLF64, dl_leRT64, dl_leRF64, dl_ltLT64, dl_ltLF64, dl_ltRT64, dl_ltRF64, dl_eqRT64, dl_eqRF64, dl_leLT65, dl_leLF65, dl_leRT65, dl_leRF65, dl_ltLT65, dl_ltLF65, dl_ltRT65, dl_ltRF65, dl_eqRT65, dl_eqRF65]
      refine ⟨C + 1, dl_xcm (ol := T) (T := T) (bu := bu) _ b2 b7 (fun bu' x1 x2 => ?_) _ T bu (Nat.le_refl _) b7 (by omega) (fun _ _ => rfl) (fun j j1 j2 => by omega)⟩
      simp (disch := omega) only [wpY_commit, nI_clamp, dl_Ar, dl_Au, dl_leT, dl_leF, dl_ltT, dl_ltF, dl_eqT, dl_eqF, nI_add, nI_1, dl_inT, dl_sub, dl_sub1, dl_subm1, forall_eq, true_implies, false_implies, not_true, not_false_iff, true_and, and_true, dl_leLT0, dl_leLF0, dl_leRT0, dl_leRF0, dl_ltLT0, dl_ltLF0, dl_ltRT0, dl_ltRF0, dl_eqRT0, dl_eqRF0, dl_leLT1, dl_leLF1, dl_leRT1, dl_leRF1, dl_ltLT1, dl_ltLF1, dl_ltRT1, dl_ltRF1, dl_eqRT1, dl_eqRF1, dl_leLT2, dl_leLF2, dl_leRT2, dl_leRF2, dl_ltLT2, dl_ltLF2, dl_ltRT2, dl_ltRF2, dl_eqRT2, dl_eqRF2, dl_leLT3, dl_leLF3, dl_leRT3, dl_leRF3, dl_ltLT3, dl_ltLF3, dl_ltRT3, dl_ltRF3, dl_eqRT3, dl_eqRF3, dl_leLT8, dl_leLF8, dl_leRT8, dl_leRF8, dl_ltLT8, dl_ltLF8, dl_ltRT8, dl_ltRF8, dl_eqRT8, dl_eqRF8, dl_leLT9, dl_leLF9, dl_leRT9, dl_leRF9, dl_ltLT9, dl_ltLF9, dl_ltRT9, dl_ltRF9, dl_eqRT9, dl_eqRF9, dl_leLT16, dl_leLF16, dl_leRT16, dl_leRF16, dl_ltLT16, dl_ltLF16, dl_ltRT16, dl_ltRF16, dl_eqRT16, dl_eqRF16, dl_leLT64, dl_leLF64, dl_leRT64, dl_leRF64, dl_ltLT64, dl_ltLF64, dl_ltRT64, dl_ltRF64, dl_eqRT64, dl_eqRF64, dl_leLT65, dl_leLF65, dl_leRT65, dl_leRF65, dl_ltLT65, dl_ltLF65, dl_ltRT65, dl_ltRF65, dl_eqRT65, dl_eqRF65]
      refine dl_ycm _ B Ti (fun old' nxt' y1 => ?_)
      refine ⟨rfl, dl_mk (ph := 0) (ol := T) (T := 0) (cnt := 0) (ls := 0) (dy := 0) _ (dl_i0 b1 b2 b3 b4 b7 (by omega) (fun i hi => ?_))⟩
      rw [y1 i hi]
      by_cases z : i < T
      · rw [if_pos z, x1 i z, Dn.2.2 i hi, if_pos ⟨z, by rw [h1]; exact dl_ps_T Ti hn Pi z⟩]
      · rw [if_neg z]; exact x2 i (by omega) hi
    · simp (disch := omega) only [wpX_commit, wpY_commit, nI_clamp, dl_Ar, dl_Au, dl_leT, dl_leF, dl_ltT, dl_ltF, dl_eqT, dl_eqF, nI_add, nI_1, dl_inT, dl_sub, dl_sub1, dl_subm1, forall_eq, true_implies, false_implies, not_true, not_false_iff, true_and, and_true, dl_leLT0, dl_leLF0, dl_leRT0, dl_leRF0, dl_ltLT0, dl_ltLF0, dl_ltRT0, dl_ltRF0, dl_eqRT0, dl_eqRF0, dl_leLT1, dl_leLF1, dl_leRT1, dl_leRF1, dl_ltLT1, dl_ltLF1, dl_ltRT1, dl_ltRF1, dl_eqRT1, dl_eqRF1, dl_leLT2, dl_leLF2, dl_leRT2, dl_leRF2, dl_ltLT2, dl_ltLF2, dl_ltRT2, dl_ltRF2, dl_eqRT2, dl_eqRF2, dl_leLT3, dl_leLF3, dl_leRT3, dl_leRF3, dl_ltLT3, dl_ltLF3, dl_ltRT3, dl_ltRF3, dl_eqRT3, dl_eqRF3, dl_leLT8, dl_leLF8, dl_leRT8, dl_leRF8, dl_ltLT8, dl_ltLF8, dl_ltRT8, dl_ltRF8, dl_eqRT8, dl_eqRF8, dl_leLT9, dl_leLF9, dl_leRT9, dl_leRF9, dl_ltLT9, dl_ltLF9, dl_ltRT9, dl_ltRF9, dl_eqRT9, dl_eqRF9, dl_leLT16, dl_leLF16, dl_leRT16, dl_leRF16, dl_ltLT16, dl_ltLF16, dl_ltRT16, dl_ltRF16, dl_eqRT16, dl_eqRF16, dl_leLT64, dl_leLF64, dl_leRT64, dl_leRF64, dl_ltLT64, dl_ltLF64, dl_ltRT64, dl_ltRF64, dl_eqRT64, dl_eqRF64, dl_leLT65, dl_leLF65, dl_leRT65, dl_leRF65, dl_ltLT65, dl_ltLF65, dl_ltRT65, dl_ltRF65, dl_eqRT65, dl_eqRF65]
      first | exact Rl | exact ⟨by trivial, Rl⟩
  · simp (disch := omega) only [wpX_commit, wpY_commit, nI_clamp, dl_Ar, dl_Au, dl_leT, dl_leF, dl_ltT, dl_ltF, dl_eqT, dl_eqF, nI_add, nI_1, dl_inT, dl_sub, dl_sub1, dl_subm1, forall_eq, true_implies, false_implies, not_true, not_false_iff, true_and, and_true, dl_leLT0, dl_leLF0, dl_leRT0, dl_leRF0, dl_ltLT0, dl_ltLF0, dl_ltRT0, dl_ltRF0, dl_eqRT0, dl_eqRF0, dl_leLT1, dl_leLF1, dl_leRT1, dl_leRF1, dl_ltLT1, dl_ltLF1, dl_ltRT1, dl_ltRF1, dl_eqRT1, dl_eqRF1, dl_leLT2, dl_leLF2, dl_leRT2, dl_leRF2, dl_ltLT2, dl_ltLF2, dl_ltRT2, dl_ltRF2, dl_eqRT2, dl_eqRF2, dl_leLT3, dl_leLF3, dl_leRT3, dl_leRF3, dl_ltLT3, dl_ltLF3, dl_ltRT3, dl_ltRF3, dl_eqRT3, dl_eqRF3, dl_leLT8, dl_leLF8, dl_leRT8, dl_leRF8, dl_ltLT8, dl_ltLF8, dl_ltRT8, dl_ltRF8, dl_eqRT8, dl_eqRF8, dl_leLT9, dl_leLF9, dl_leRT9, dl_leRF9, dl_ltLT9, dl_ltLF9, dl_ltRT9, dl_ltRF9, dl_eqRT9, dl_eqRF9, dl_leLT16, dl_leLF16, dl_leRT16, dl_leRF16, dl_ltLT16, dl_ltLF16, dl_ltRT16, dl_ltRF16, dl_eqRT16, dl_eqRF16, dl_leLT64, dl_leLF64, dl_leRT64, dl_leRF64, dl_ltLT64, dl_ltLF64, dl_ltRT64, dl_ltRF64, dl_eqRT64, dl_eqRF64, dl_leLT65, dl_leLF65, dl_leRT65, dl_leRF65, dl_ltLT65, dl_ltLF65, dl_ltRT65, dl_ltRF65, dl_eqRT65, dl_eqRF65]
    first | exact Rl | exact ⟨by trivial, Rl⟩
end
section
theorem dl_ix {x : Int32} {n : Nat} (hn : n ≤ 16) : (x < 0) ∨ (¬ x < 0 ∧ nI n ≤ x ∧ ¬ x < nI n) ∨ ∃ j : Nat, j < n ∧ x = nI j := by
  rcases pk_ix x (n := n) (by omega) with h | h | h
  · exact Or.inl h
  · exact Or.inr (Or.inl ⟨fun z => nI_pos (n := n) (by omega) (Int32.lt_of_le_of_lt h z), h, dl_nlt h⟩)
  · exact Or.inr (Or.inr h)
theorem i_vc_order {k : Nat} {u : SX} {v : SY} (I : i_Rel k u v) (hk : k + 5 ≤ 2562) (v1 : Int32) : wpX_order (fun r => wpY_order (fun r' => r' = r ∧ i_Rel (k + 5) u v) v v1) u v1 := by
  refine dl_el (Q := fun u v => wpX_order (fun r => wpY_order (fun r' => r' = r ∧ i_Rel (k + 5) u v) v v1) u v1) I ?_
  intro C L ph ol T cnt ls co dn pl dy kp K S D N A bD sq po ws ss bd F P bu pool bf af cm ed re old nxt dat mk hI
  have Rl := dl_mk (af := af) (ed := ed) (re := re) (nxt := nxt) (mk := mk) (bd := bd) (k + 5) hI
  obtain ⟨a1, B, Lt, a4, a5⟩ := hI
  obtain ⟨b1, b2, b3, b4, b5, b6, b7, b8⟩ := B
  have hcnt : cnt ≤ 16 := by omega
  by_cases p1 : ph = 1
  · obtain ⟨ed0, wr, m, Pn, Dn⟩ := a5 p1
    rcases dl_ix (x := v1) hcnt with h | ⟨h0, h1, h2⟩ | ⟨c, hc, rfl⟩
    · simp (disch := omega) only [wpX_order, nI_clamp, dl_Ar, dl_Au, dl_leT, dl_leF, dl_ltT, dl_ltF, dl_eqT, dl_eqF, nI_add, nI_1, dl_inT, dl_sub, dl_sub1, dl_subm1, forall_eq, true_implies, false_implies, not_true, not_false_iff, true_and, and_true, dl_leLT0, dl_leLF0, dl_leRT0, dl_leRF0, dl_ltLT0, dl_ltLF0, dl_ltRT0, dl_ltRF0, dl_eqRT0, dl_eqRF0, dl_leLT1, dl_leLF1, dl_leRT1, dl_leRF1, dl_ltLT1, dl_ltLF1, dl_ltRT1, dl_ltRF1, dl_eqRT1, dl_eqRF1, dl_leLT2, dl_leLF2, dl_leRT2, dl_leRF2, dl_ltLT2, dl_ltLF2, dl_ltRT2, dl_ltRF2, dl_eqRT2, dl_eqRF2, dl_leLT3, dl_leLF3, dl_leRT3, dl_leRF3, dl_ltLT3, dl_ltLF3, dl_ltRT3, dl_ltRF3, dl_eqRT3, dl_eqRF3, dl_leLT8, dl_leLF8, dl_leRT8, dl_leRF8, dl_ltLT8, dl_ltLF8, dl_ltRT8, dl_ltRF8, dl_eqRT8, dl_eqRF8, dl_leLT9, dl_leLF9, dl_leRT9, dl_leRF9, dl_ltLT9, dl_ltLF9, dl_ltRT9, dl_ltRF9, dl_eqRT9, dl_eqRF9, dl_leLT16, dl_leLF16, dl_leRT16, dl_leRF16, dl_ltLT16, dl_ltLF16, dl_ltRT16, dl_ltRF16, dl_eqRT16, dl_eqRF16, dl_leLT64, dl_leLF64, dl_leRT64, dl_leRF64, dl_ltLT64, dl_ltLF64, dl_ltRT64, dl_ltRF64, dl_eqRT64, dl_eqRF64, dl_leLT65, dl_leLF65, dl_leRT65, dl_leRF65, dl_ltLT65, dl_ltLF65, dl_ltRT65, dl_ltRF65, dl_eqRT65, dl_eqRF65]
      refine dl_xic0 _ hcnt (Or.inl h) (br_t rfl ?_)
      simp (disch := omega) only [wpY_order, nI_clamp, dl_Ar, dl_Au, dl_leT, dl_leF, dl_ltT, dl_ltF, dl_eqT, dl_eqF, nI_add, nI_1, dl_inT, dl_sub, dl_sub1, dl_subm1, forall_eq, true_implies, false_implies, not_true, not_false_iff, true_and, and_true, dl_leLT0, dl_leLF0, dl_leRT0, dl_leRF0, dl_ltLT0, dl_ltLF0, dl_ltRT0, dl_ltRF0, dl_eqRT0, dl_eqRF0, dl_leLT1, dl_leLF1, dl_leRT1, dl_leRF1, dl_ltLT1, dl_ltLF1, dl_ltRT1, dl_ltRF1, dl_eqRT1, dl_eqRF1, dl_leLT2, dl_leLF2, dl_leRT2, dl_leRF2, dl_ltLT2, dl_ltLF2, dl_ltRT2, dl_ltRF2, dl_eqRT2, dl_eqRF2, dl_leLT3, dl_leLF3, dl_leRT3, dl_leRF3, dl_ltLT3, dl_ltLF3, dl_ltRT3, dl_ltRF3, dl_eqRT3, dl_eqRF3, dl_leLT8, dl_leLF8, dl_leRT8, dl_leRF8, dl_ltLT8, dl_ltLF8, dl_ltRT8, dl_ltRF8, dl_eqRT8, dl_eqRF8, dl_leLT9, dl_leLF9, dl_leRT9, dl_leRF9, dl_ltLT9, dl_ltLF9, dl_ltRT9, dl_ltRF9, dl_eqRT9, dl_eqRF9, dl_leLT16, dl_leLF16, dl_leRT16, dl_leRF16, dl_ltLT16, dl_ltLF16, dl_ltRT16, dl_ltRF16, dl_eqRT16, dl_eqRF16, dl_leLT64, dl_leLF64, dl_leRT64, dl_leRF64, dl_ltLT64, dl_ltLF64, dl_ltRT64, dl_ltRF64, dl_eqRT64, dl_eqRF64, dl_leLT65, dl_leLF65, dl_leRT65, dl_leRF65, dl_ltLT65, dl_ltLF65, dl_ltRT65, dl_ltRF65, dl_eqRT65, dl_eqRF65, h]
      first | exact Rl | exact ⟨by trivial, Rl⟩
    · simp (disch := omega) only [wpX_order, nI_clamp, dl_Ar, dl_Au, dl_leT, dl_leF, dl_ltT, dl_ltF, dl_eqT, dl_eqF, nI_add, nI_1, dl_inT, dl_sub, dl_sub1, dl_subm1, forall_eq, true_implies, false_implies, not_true, not_false_iff, true_and, and_true, dl_leLT0, dl_leLF0, dl_leRT0, dl_leRF0, dl_ltLT0, dl_ltLF0, dl_ltRT0, dl_ltRF0, dl_eqRT0, dl_eqRF0, dl_leLT1, dl_leLF1, dl_leRT1, dl_leRF1, dl_ltLT1, dl_ltLF1, dl_ltRT1, dl_ltRF1, dl_eqRT1, dl_eqRF1, dl_leLT2, dl_leLF2, dl_leRT2, dl_leRF2, dl_ltLT2, dl_ltLF2, dl_ltRT2, dl_ltRF2, dl_eqRT2, dl_eqRF2, dl_leLT3, dl_leLF3, dl_leRT3, dl_leRF3, dl_ltLT3, dl_ltLF3, dl_ltRT3, dl_ltRF3, dl_eqRT3, dl_eqRF3, dl_leLT8, dl_leLF8, dl_leRT8, dl_leRF8, dl_ltLT8, dl_ltLF8, dl_ltRT8, dl_ltRF8, dl_eqRT8, dl_eqRF8, dl_leLT9, dl_leLF9, dl_leRT9, dl_leRF9, dl_ltLT9, dl_ltLF9, dl_ltRT9, dl_ltRF9, dl_eqRT9, dl_eqRF9, dl_leLT16, dl_leLF16, dl_leRT16, dl_leRF16, dl_ltLT16, dl_ltLF16, dl_ltRT16, dl_ltRF16, dl_eqRT16, dl_eqRF16, dl_leLT64, dl_leLF64, dl_leRT64, dl_leRF64, dl_ltLT64, dl_ltLF64, dl_ltRT64, dl_ltRF64, dl_eqRT64, dl_eqRF64, dl_leLT65, dl_leLF65, dl_leRT65, dl_leRF65, dl_ltLT65, dl_ltLF65, dl_ltRT65, dl_ltRF65, dl_eqRT65, dl_eqRF65]
      refine dl_xic0 _ hcnt (Or.inr h1) (br_t rfl ?_)
      simp (disch := omega) only [wpY_order, nI_clamp, dl_Ar, dl_Au, dl_leT, dl_leF, dl_ltT, dl_ltF, dl_eqT, dl_eqF, nI_add, nI_1, dl_inT, dl_sub, dl_sub1, dl_subm1, forall_eq, true_implies, false_implies, not_true, not_false_iff, true_and, and_true, dl_leLT0, dl_leLF0, dl_leRT0, dl_leRF0, dl_ltLT0, dl_ltLF0, dl_ltRT0, dl_ltRF0, dl_eqRT0, dl_eqRF0, dl_leLT1, dl_leLF1, dl_leRT1, dl_leRF1, dl_ltLT1, dl_ltLF1, dl_ltRT1, dl_ltRF1, dl_eqRT1, dl_eqRF1, dl_leLT2, dl_leLF2, dl_leRT2, dl_leRF2, dl_ltLT2, dl_ltLF2, dl_ltRT2, dl_ltRF2, dl_eqRT2, dl_eqRF2, dl_leLT3, dl_leLF3, dl_leRT3, dl_leRF3, dl_ltLT3, dl_ltLF3, dl_ltRT3, dl_ltRF3, dl_eqRT3, dl_eqRF3, dl_leLT8, dl_leLF8, dl_leRT8, dl_leRF8, dl_ltLT8, dl_ltLF8, dl_ltRT8, dl_ltRF8, dl_eqRT8, dl_eqRF8, dl_leLT9, dl_leLF9, dl_leRT9, dl_leRF9, dl_ltLT9, dl_ltLF9, dl_ltRT9, dl_ltRF9, dl_eqRT9, dl_eqRF9, dl_leLT16, dl_leLF16, dl_leRT16, dl_leRF16, dl_ltLT16, dl_ltLF16, dl_ltRT16, dl_ltRF16, dl_eqRT16, dl_eqRF16, dl_leLT64, dl_leLF64, dl_leRT64, dl_leRF64, dl_ltLT64, dl_ltLF64, dl_ltRT64, dl_ltRF64, dl_eqRT64, dl_eqRF64, dl_leLT65, dl_leLF65, dl_leRT65, dl_leRF65, dl_ltLT65, dl_ltLF65, dl_ltRT65, dl_ltRF65, dl_eqRT65, dl_eqRF65, h0, h2]
      first | exact Rl | exact ⟨by trivial, Rl⟩
    · have hP := Pn.2.2.2.2.2.2.2.1 c hc
      simp (disch := omega) only [wpX_order, nI_clamp, dl_Ar, dl_Au, dl_leT, dl_leF, dl_ltT, dl_ltF, dl_eqT, dl_eqF, nI_add, nI_1, dl_inT, dl_sub, dl_sub1, dl_subm1, forall_eq, true_implies, false_implies, not_true, not_false_iff, true_and, and_true, dl_leLT0, dl_leLF0, dl_leRT0, dl_leRF0, dl_ltLT0, dl_ltLF0, dl_ltRT0, dl_ltRF0, dl_eqRT0, dl_eqRF0, dl_leLT1, dl_leLF1, dl_leRT1, dl_leRF1, dl_ltLT1, dl_ltLF1, dl_ltRT1, dl_ltRF1, dl_eqRT1, dl_eqRF1, dl_leLT2, dl_leLF2, dl_leRT2, dl_leRF2, dl_ltLT2, dl_ltLF2, dl_ltRT2, dl_ltRF2, dl_eqRT2, dl_eqRF2, dl_leLT3, dl_leLF3, dl_leRT3, dl_leRF3, dl_ltLT3, dl_ltLF3, dl_ltRT3, dl_ltRF3, dl_eqRT3, dl_eqRF3, dl_leLT8, dl_leLF8, dl_leRT8, dl_leRF8, dl_ltLT8, dl_ltLF8, dl_ltRT8, dl_ltRF8, dl_eqRT8, dl_eqRF8, dl_leLT9, dl_leLF9, dl_leRT9, dl_leRF9, dl_ltLT9, dl_ltLF9, dl_ltRT9, dl_ltRF9, dl_eqRT9, dl_eqRF9, dl_leLT16, dl_leLF16, dl_leRT16, dl_leRF16, dl_ltLT16, dl_ltLF16, dl_ltRT16, dl_ltRF16, dl_eqRT16, dl_eqRF16, dl_leLT64, dl_leLF64, dl_leRT64, dl_leRF64, dl_ltLT64, dl_ltLF64, dl_ltRT64, dl_ltRF64, dl_eqRT64, dl_eqRF64, dl_leLT65, dl_leLF65, dl_leRT65, dl_leRF65, dl_ltLT65, dl_ltLF65, dl_ltRT65, dl_ltRF65, dl_eqRT65, dl_eqRF65]
      refine dl_xic1 _ hcnt hc (br_f (by decide) ?_)
      simp (disch := omega) only [wpY_order, nI_clamp, dl_Ar, dl_Au, dl_leT, dl_leF, dl_ltT, dl_ltF, dl_eqT, dl_eqF, nI_add, nI_1, dl_inT, dl_sub, dl_sub1, dl_subm1, forall_eq, true_implies, false_implies, not_true, not_false_iff, true_and, and_true, dl_leLT0, dl_leLF0, dl_leRT0, dl_leRF0, dl_ltLT0, dl_ltLF0, dl_ltRT0, dl_ltRF0, dl_eqRT0, dl_eqRF0, dl_leLT1, dl_leLF1, dl_leRT1, dl_leRF1, dl_ltLT1, dl_ltLF1, dl_ltRT1, dl_ltRF1, dl_eqRT1, dl_eqRF1, dl_leLT2, dl_leLF2, dl_leRT2, dl_leRF2, dl_ltLT2, dl_ltLF2, dl_ltRT2, dl_ltRF2, dl_eqRT2, dl_eqRF2, dl_leLT3, dl_leLF3, dl_leRT3, dl_leRF3, dl_ltLT3, dl_ltLF3, dl_ltRT3, dl_ltRF3, dl_eqRT3, dl_eqRF3, dl_leLT8, dl_leLF8, dl_leRT8, dl_leRF8, dl_ltLT8, dl_ltLF8, dl_ltRT8, dl_ltRF8, dl_eqRT8, dl_eqRF8, dl_leLT9, dl_leLF9, dl_leRT9, dl_leRF9, dl_ltLT9, dl_ltLF9, dl_ltRT9, dl_ltRF9, dl_eqRT9, dl_eqRF9, dl_leLT16, dl_leLF16, dl_leRT16, dl_leRF16, dl_ltLT16, dl_ltLF16, dl_ltRT16, dl_ltRF16, dl_eqRT16, dl_eqRF16, dl_leLT64, dl_leLF64, dl_leRT64, dl_leRF64, dl_ltLT64, dl_ltLF64, dl_ltRT64, dl_ltRF64, dl_eqRT64, dl_eqRF64, dl_leLT65, dl_leLF65, dl_leRT65, dl_leRF65, dl_ltLT65, dl_ltLF65, dl_ltRT65, dl_ltRF65, dl_eqRT65, dl_eqRF65, hP]
      first | exact Rl | exact ⟨by trivial, Rl⟩
  · simp (disch := omega) only [wpX_order, wpY_order, nI_clamp, dl_Ar, dl_Au, dl_leT, dl_leF, dl_ltT, dl_ltF, dl_eqT, dl_eqF, nI_add, nI_1, dl_inT, dl_sub, dl_sub1, dl_subm1, forall_eq, true_implies, false_implies, not_true, not_false_iff, true_and, and_true, dl_leLT0, dl_leLF0, dl_leRT0, dl_leRF0, dl_ltLT0, dl_ltLF0, dl_ltRT0, dl_ltRF0, dl_eqRT0, dl_eqRF0, dl_leLT1, dl_leLF1, dl_leRT1, dl_leRF1, dl_ltLT1, dl_ltLF1, dl_ltRT1, dl_ltRF1, dl_eqRT1, dl_eqRF1, dl_leLT2, dl_leLF2, dl_leRT2, dl_leRF2, dl_ltLT2, dl_ltLF2, dl_ltRT2, dl_ltRF2, dl_eqRT2, dl_eqRF2, dl_leLT3, dl_leLF3, dl_leRT3, dl_leRF3, dl_ltLT3, dl_ltLF3, dl_ltRT3, dl_ltRF3, dl_eqRT3, dl_eqRF3, dl_leLT8, dl_leLF8, dl_leRT8, dl_leRF8, dl_ltLT8, dl_ltLF8, dl_ltRT8, dl_ltRF8, dl_eqRT8, dl_eqRF8, dl_leLT9, dl_leLF9, dl_leRT9, dl_leRF9, dl_ltLT9, dl_ltLF9, dl_ltRT9, dl_ltRF9, dl_eqRT9, dl_eqRF9, dl_leLT16, dl_leLF16, dl_leRT16, dl_leRF16, dl_ltLT16, dl_ltLF16, dl_ltRT16, dl_ltRF16, dl_eqRT16, dl_eqRF16, dl_leLT64, dl_leLF64, dl_leRT64, dl_leRF64, dl_ltLT64, dl_ltLF64, dl_ltRT64, dl_ltRF64, dl_eqRT64, dl_eqRF64, dl_leLT65, dl_leLF65, dl_leRT65, dl_leRF65, dl_ltLT65, dl_ltLF65, dl_ltRT65, dl_ltRF65, dl_eqRT65, dl_eqRF65]
    first | exact Rl | exact ⟨by trivial, Rl⟩
theorem i_vc_mustPrecede {k : Nat} {u : SX} {v : SY} (I : i_Rel k u v) (hk : k + 5 ≤ 2562) (v1 : Int32) (v2 : Int32) : wpX_mustPrecede (fun r => wpY_mustPrecede (fun r' => r' = r ∧ i_Rel (k + 5) u v) v v1 v2) u v1 v2 := by
  refine dl_el (Q := fun u v => wpX_mustPrecede (fun r => wpY_mustPrecede (fun r' => r' = r ∧ i_Rel (k + 5) u v) v v1 v2) u v1 v2) I ?_
  intro C L ph ol T cnt ls co dn pl dy kp K S D N A bD sq po ws ss bd F P bu pool bf af cm ed re old nxt dat mk hI
  have Rl := dl_mk (af := af) (ed := ed) (re := re) (nxt := nxt) (mk := mk) (bd := bd) (k + 5) hI
  obtain ⟨a1, B, Lt, a4, a5⟩ := hI
  have B' := B
  obtain ⟨b1, b2, b3, b4, b5, b6, b7, b8⟩ := B'
  have hcnt : cnt ≤ 16 := by omega
  by_cases p1 : ph = 1
  · obtain ⟨ed0, wr, m, Pn, Dn⟩ := a5 p1
    rcases dl_ix (x := v1) hcnt with h | ⟨h0, h1, h2⟩ | ⟨c, hc, rfl⟩
    · simp (disch := omega) only [wpX_mustPrecede, nI_clamp, dl_Ar, dl_Au, dl_leT, dl_leF, dl_ltT, dl_ltF, dl_eqT, dl_eqF, nI_add, nI_1, dl_inT, dl_sub, dl_sub1, dl_subm1, forall_eq, true_implies, false_implies, not_true, not_false_iff, true_and, and_true, dl_leLT0, dl_leLF0, dl_leRT0, dl_leRF0, dl_ltLT0, dl_ltLF0, dl_ltRT0, dl_ltRF0, dl_eqRT0, dl_eqRF0, dl_leLT1, dl_leLF1, dl_leRT1, dl_leRF1, dl_ltLT1, dl_ltLF1, dl_ltRT1, dl_ltRF1, dl_eqRT1, dl_eqRF1, dl_leLT2, dl_leLF2, dl_leRT2, dl_leRF2, dl_ltLT2, dl_ltLF2, dl_ltRT2, dl_ltRF2, dl_eqRT2, dl_eqRF2, dl_leLT3, dl_leLF3, dl_leRT3, dl_leRF3, dl_ltLT3, dl_ltLF3, dl_ltRT3, dl_ltRF3, dl_eqRT3, dl_eqRF3, dl_leLT8, dl_leLF8, dl_leRT8, dl_leRF8, dl_ltLT8, dl_ltLF8, dl_ltRT8, dl_ltRF8, dl_eqRT8, dl_eqRF8, dl_leLT9, dl_leLF9, dl_leRT9, dl_leRF9, dl_ltLT9, dl_ltLF9, dl_ltRT9, dl_ltRF9, dl_eqRT9, dl_eqRF9, dl_leLT16, dl_leLF16, dl_leRT16, dl_leRF16, dl_ltLT16, dl_ltLF16, dl_ltRT16, dl_ltRF16, dl_eqRT16, dl_eqRF16, dl_leLT64, dl_leLF64, dl_leRT64, dl_leRF64, dl_ltLT64, dl_ltLF64, dl_ltRT64, dl_ltRF64, dl_eqRT64, dl_eqRF64, dl_leLT65, dl_leLF65, dl_leRT65, dl_leRF65, dl_ltLT65, dl_ltLF65, dl_ltRT65, dl_ltRF65, dl_eqRT65, dl_eqRF65]
      refine dl_xic0 _ hcnt (Or.inl h) (br_t rfl ?_)
      simp (disch := omega) only [wpY_mustPrecede, nI_clamp, dl_Ar, dl_Au, dl_leT, dl_leF, dl_ltT, dl_ltF, dl_eqT, dl_eqF, nI_add, nI_1, dl_inT, dl_sub, dl_sub1, dl_subm1, forall_eq, true_implies, false_implies, not_true, not_false_iff, true_and, and_true, dl_leLT0, dl_leLF0, dl_leRT0, dl_leRF0, dl_ltLT0, dl_ltLF0, dl_ltRT0, dl_ltRF0, dl_eqRT0, dl_eqRF0, dl_leLT1, dl_leLF1, dl_leRT1, dl_leRF1, dl_ltLT1, dl_ltLF1, dl_ltRT1, dl_ltRF1, dl_eqRT1, dl_eqRF1, dl_leLT2, dl_leLF2, dl_leRT2, dl_leRF2, dl_ltLT2, dl_ltLF2, dl_ltRT2, dl_ltRF2, dl_eqRT2, dl_eqRF2, dl_leLT3, dl_leLF3, dl_leRT3, dl_leRF3, dl_ltLT3, dl_ltLF3, dl_ltRT3, dl_ltRF3, dl_eqRT3, dl_eqRF3, dl_leLT8, dl_leLF8, dl_leRT8, dl_leRF8, dl_ltLT8, dl_ltLF8, dl_ltRT8, dl_ltRF8, dl_eqRT8, dl_eqRF8, dl_leLT9, dl_leLF9, dl_leRT9, dl_leRF9, dl_ltLT9, dl_ltLF9, dl_ltRT9, dl_ltRF9, dl_eqRT9, dl_eqRF9, dl_leLT16, dl_leLF16, dl_leRT16, dl_leRF16, dl_ltLT16, dl_ltLF16, dl_ltRT16, dl_ltRF16, dl_eqRT16, dl_eqRF16, dl_leLT64, dl_leLF64, dl_leRT64, dl_leRF64, dl_ltLT64, dl_ltLF64, dl_ltRT64, dl_ltRF64, dl_eqRT64, dl_eqRF64, dl_leLT65, dl_leLF65, dl_leRT65, dl_leRF65, dl_ltLT65, dl_ltLF65, dl_ltRT65, dl_ltRF65, dl_eqRT65, dl_eqRF65, h]
      first | exact Rl | exact ⟨by trivial, Rl⟩
    · simp (disch := omega) only [wpX_mustPrecede, nI_clamp, dl_Ar, dl_Au, dl_leT, dl_leF, dl_ltT, dl_ltF, dl_eqT, dl_eqF, nI_add, nI_1, dl_inT, dl_sub, dl_sub1, dl_subm1, forall_eq, true_implies, false_implies, not_true, not_false_iff, true_and, and_true, dl_leLT0, dl_leLF0, dl_leRT0, dl_leRF0, dl_ltLT0, dl_ltLF0, dl_ltRT0, dl_ltRF0, dl_eqRT0, dl_eqRF0, dl_leLT1, dl_leLF1, dl_leRT1, dl_leRF1, dl_ltLT1, dl_ltLF1, dl_ltRT1, dl_ltRF1, dl_eqRT1, dl_eqRF1, dl_leLT2, dl_leLF2, dl_leRT2, dl_leRF2, dl_ltLT2, dl_ltLF2, dl_ltRT2, dl_ltRF2, dl_eqRT2, dl_eqRF2, dl_leLT3, dl_leLF3, dl_leRT3, dl_leRF3, dl_ltLT3, dl_ltLF3, dl_ltRT3, dl_ltRF3, dl_eqRT3, dl_eqRF3, dl_leLT8, dl_leLF8, dl_leRT8, dl_leRF8, dl_ltLT8, dl_ltLF8, dl_ltRT8, dl_ltRF8, dl_eqRT8, dl_eqRF8, dl_leLT9, dl_leLF9, dl_leRT9, dl_leRF9, dl_ltLT9, dl_ltLF9, dl_ltRT9, dl_ltRF9, dl_eqRT9, dl_eqRF9, dl_leLT16, dl_leLF16, dl_leRT16, dl_leRF16, dl_ltLT16, dl_ltLF16, dl_ltRT16, dl_ltRF16, dl_eqRT16, dl_eqRF16, dl_leLT64, dl_leLF64, dl_leRT64, dl_leRF64, dl_ltLT64, dl_ltLF64, dl_ltRT64, dl_ltRF64, dl_eqRT64, dl_eqRF64, dl_leLT65, dl_leLF65, dl_leRT65, dl_leRF65, dl_ltLT65, dl_ltLF65, dl_ltRT65, dl_ltRF65, dl_eqRT65, dl_eqRF65]
      refine dl_xic0 _ hcnt (Or.inr h1) (br_t rfl ?_)
      simp (disch := omega) only [wpY_mustPrecede, nI_clamp, dl_Ar, dl_Au, dl_leT, dl_leF, dl_ltT, dl_ltF, dl_eqT, dl_eqF, nI_add, nI_1, dl_inT, dl_sub, dl_sub1, dl_subm1, forall_eq, true_implies, false_implies, not_true, not_false_iff, true_and, and_true, dl_leLT0, dl_leLF0, dl_leRT0, dl_leRF0, dl_ltLT0, dl_ltLF0, dl_ltRT0, dl_ltRF0, dl_eqRT0, dl_eqRF0, dl_leLT1, dl_leLF1, dl_leRT1, dl_leRF1, dl_ltLT1, dl_ltLF1, dl_ltRT1, dl_ltRF1, dl_eqRT1, dl_eqRF1, dl_leLT2, dl_leLF2, dl_leRT2, dl_leRF2, dl_ltLT2, dl_ltLF2, dl_ltRT2, dl_ltRF2, dl_eqRT2, dl_eqRF2, dl_leLT3, dl_leLF3, dl_leRT3, dl_leRF3, dl_ltLT3, dl_ltLF3, dl_ltRT3, dl_ltRF3, dl_eqRT3, dl_eqRF3, dl_leLT8, dl_leLF8, dl_leRT8, dl_leRF8, dl_ltLT8, dl_ltLF8, dl_ltRT8, dl_ltRF8, dl_eqRT8, dl_eqRF8, dl_leLT9, dl_leLF9, dl_leRT9, dl_leRF9, dl_ltLT9, dl_ltLF9, dl_ltRT9, dl_ltRF9, dl_eqRT9, dl_eqRF9, dl_leLT16, dl_leLF16, dl_leRT16, dl_leRF16, dl_ltLT16, dl_ltLF16, dl_ltRT16, dl_ltRF16, dl_eqRT16, dl_eqRF16, dl_leLT64, dl_leLF64, dl_leRT64, dl_leRF64, dl_ltLT64, dl_ltLF64, dl_ltRT64, dl_ltRF64, dl_eqRT64, dl_eqRF64, dl_leLT65, dl_leLF65, dl_leRT65, dl_leRF65, dl_ltLT65, dl_ltLF65, dl_ltRT65, dl_ltRF65, dl_eqRT65, dl_eqRF65, h0, h1]
      first | exact Rl | exact ⟨by trivial, Rl⟩
    · simp (disch := omega) only [wpX_mustPrecede, nI_clamp, dl_Ar, dl_Au, dl_leT, dl_leF, dl_ltT, dl_ltF, dl_eqT, dl_eqF, nI_add, nI_1, dl_inT, dl_sub, dl_sub1, dl_subm1, forall_eq, true_implies, false_implies, not_true, not_false_iff, true_and, and_true, dl_leLT0, dl_leLF0, dl_leRT0, dl_leRF0, dl_ltLT0, dl_ltLF0, dl_ltRT0, dl_ltRF0, dl_eqRT0, dl_eqRF0, dl_leLT1, dl_leLF1, dl_leRT1, dl_leRF1, dl_ltLT1, dl_ltLF1, dl_ltRT1, dl_ltRF1, dl_eqRT1, dl_eqRF1, dl_leLT2, dl_leLF2, dl_leRT2, dl_leRF2, dl_ltLT2, dl_ltLF2, dl_ltRT2, dl_ltRF2, dl_eqRT2, dl_eqRF2, dl_leLT3, dl_leLF3, dl_leRT3, dl_leRF3, dl_ltLT3, dl_ltLF3, dl_ltRT3, dl_ltRF3, dl_eqRT3, dl_eqRF3, dl_leLT8, dl_leLF8, dl_leRT8, dl_leRF8, dl_ltLT8, dl_ltLF8, dl_ltRT8, dl_ltRF8, dl_eqRT8, dl_eqRF8, dl_leLT9, dl_leLF9, dl_leRT9, dl_leRF9, dl_ltLT9, dl_ltLF9, dl_ltRT9, dl_ltRF9, dl_eqRT9, dl_eqRF9, dl_leLT16, dl_leLF16, dl_leRT16, dl_leRF16, dl_ltLT16, dl_ltLF16, dl_ltRT16, dl_ltRF16, dl_eqRT16, dl_eqRF16, dl_leLT64, dl_leLF64, dl_leRT64, dl_leRF64, dl_ltLT64, dl_ltLF64, dl_ltRT64, dl_ltRF64, dl_eqRT64, dl_eqRF64, dl_leLT65, dl_leLF65, dl_leRT65, dl_leRF65, dl_ltLT65, dl_ltLF65, dl_ltRT65, dl_ltRF65, dl_eqRT65, dl_eqRF65]
      refine dl_xic1 _ hcnt hc (br_f (by decide) ?_)
      rcases dl_ix (x := v2) hcnt with h | ⟨h0, h1, h2⟩ | ⟨d, hd, rfl⟩
      · refine dl_xic0 _ hcnt (Or.inl h) (br_t rfl ?_)
        simp (disch := omega) only [wpY_mustPrecede, nI_clamp, dl_Ar, dl_Au, dl_leT, dl_leF, dl_ltT, dl_ltF, dl_eqT, dl_eqF, nI_add, nI_1, dl_inT, dl_sub, dl_sub1, dl_subm1, forall_eq, true_implies, false_implies, not_true, not_false_iff, true_and, and_true, dl_leLT0, dl_leLF0, dl_leRT0, dl_leRF0, dl_ltLT0, dl_ltLF0, dl_ltRT0, dl_ltRF0, dl_eqRT0, dl_eqRF0, dl_leLT1, dl_leLF1, dl_leRT1, dl_leRF1, dl_ltLT1, dl_ltLF1, dl_ltRT1, dl_ltRF1, dl_eqRT1, dl_eqRF1, dl_leLT2, dl_leLF2, dl_leRT2, dl_leRF2, dl_ltLT2, dl_ltLF2, dl_ltRT2, dl_ltRF2, dl_eqRT2, dl_eqRF2, dl_leLT3, dl_leLF3, dl_leRT3, dl_leRF3, dl_ltLT3, dl_ltLF3, dl_ltRT3, dl_ltRF3, dl_eqRT3, dl_eqRF3, dl_leLT8, dl_leLF8, dl_leRT8, dl_leRF8, dl_ltLT8, dl_ltLF8, dl_ltRT8, dl_ltRF8, dl_eqRT8, dl_eqRF8, dl_leLT9, dl_leLF9, dl_leRT9, dl_leRF9, dl_ltLT9, dl_ltLF9, dl_ltRT9, dl_ltRF9, dl_eqRT9, dl_eqRF9, dl_leLT16, dl_leLF16, dl_leRT16, dl_leRF16, dl_ltLT16, dl_ltLF16, dl_ltRT16, dl_ltRF16, dl_eqRT16, dl_eqRF16, dl_leLT64, dl_leLF64, dl_leRT64, dl_leRF64, dl_ltLT64, dl_ltLF64, dl_ltRT64, dl_ltRF64, dl_eqRT64, dl_eqRF64, dl_leLT65, dl_leLF65, dl_leRT65, dl_leRF65, dl_ltLT65, dl_ltLF65, dl_ltRT65, dl_ltRF65, dl_eqRT65, dl_eqRF65, h]
        first | exact Rl | exact ⟨by trivial, Rl⟩
      · refine dl_xic0 _ hcnt (Or.inr h1) (br_t rfl ?_)
        simp (disch := omega) only [wpY_mustPrecede, nI_clamp, dl_Ar, dl_Au, dl_leT, dl_leF, dl_ltT, dl_ltF, dl_eqT, dl_eqF, nI_add, nI_1, dl_inT, dl_sub, dl_sub1, dl_subm1, forall_eq, true_implies, false_implies, not_true, not_false_iff, true_and, and_true, dl_leLT0, dl_leLF0, dl_leRT0, dl_leRF0, dl_ltLT0, dl_ltLF0, dl_ltRT0, dl_ltRF0, dl_eqRT0, dl_eqRF0, dl_leLT1, dl_leLF1, dl_leRT1, dl_leRF1, dl_ltLT1, dl_ltLF1, dl_ltRT1, dl_ltRF1, dl_eqRT1, dl_eqRF1, dl_leLT2, dl_leLF2, dl_leRT2, dl_leRF2, dl_ltLT2, dl_ltLF2, dl_ltRT2, dl_ltRF2, dl_eqRT2, dl_eqRF2, dl_leLT3, dl_leLF3, dl_leRT3, dl_leRF3, dl_ltLT3, dl_ltLF3, dl_ltRT3, dl_ltRF3, dl_eqRT3, dl_eqRF3, dl_leLT8, dl_leLF8, dl_leRT8, dl_leRF8, dl_ltLT8, dl_ltLF8, dl_ltRT8, dl_ltRF8, dl_eqRT8, dl_eqRF8, dl_leLT9, dl_leLF9, dl_leRT9, dl_leRF9, dl_ltLT9, dl_ltLF9, dl_ltRT9, dl_ltRF9, dl_eqRT9, dl_eqRF9, dl_leLT16, dl_leLF16, dl_leRT16, dl_leRF16, dl_ltLT16, dl_ltLF16, dl_ltRT16, dl_ltRF16, dl_eqRT16, dl_eqRF16, dl_leLT64, dl_leLF64, dl_leRT64, dl_leRF64, dl_ltLT64, dl_ltLF64, dl_ltRT64, dl_ltRF64, dl_eqRT64, dl_eqRF64, dl_leLT65, dl_leLF65, dl_leRT65, dl_leRF65, dl_ltLT65, dl_ltLF65, dl_ltRT65, dl_ltRF65, dl_eqRT65, dl_eqRF65, h0, h2]
        first | exact Rl | exact ⟨by trivial, Rl⟩
      · refine dl_xic1 _ hcnt hd (br_f (by decide) ?_)
        have hb := Pn.2.2.1 c d hc hd
        simp (disch := omega) only [wpY_mustPrecede, nI_clamp, dl_Ar, dl_Au, dl_leT, dl_leF, dl_ltT, dl_ltF, dl_eqT, dl_eqF, nI_add, nI_1, dl_inT, dl_sub, dl_sub1, dl_subm1, forall_eq, true_implies, false_implies, not_true, not_false_iff, true_and, and_true, dl_leLT0, dl_leLF0, dl_leRT0, dl_leRF0, dl_ltLT0, dl_ltLF0, dl_ltRT0, dl_ltRF0, dl_eqRT0, dl_eqRF0, dl_leLT1, dl_leLF1, dl_leRT1, dl_leRF1, dl_ltLT1, dl_ltLF1, dl_ltRT1, dl_ltRF1, dl_eqRT1, dl_eqRF1, dl_leLT2, dl_leLF2, dl_leRT2, dl_leRF2, dl_ltLT2, dl_ltLF2, dl_ltRT2, dl_ltRF2, dl_eqRT2, dl_eqRF2, dl_leLT3, dl_leLF3, dl_leRT3, dl_leRF3, dl_ltLT3, dl_ltLF3, dl_ltRT3, dl_ltRF3, dl_eqRT3, dl_eqRF3, dl_leLT8, dl_leLF8, dl_leRT8, dl_leRF8, dl_ltLT8, dl_ltLF8, dl_ltRT8, dl_ltRF8, dl_eqRT8, dl_eqRF8, dl_leLT9, dl_leLF9, dl_leRT9, dl_leRF9, dl_ltLT9, dl_ltLF9, dl_ltRT9, dl_ltRF9, dl_eqRT9, dl_eqRF9, dl_leLT16, dl_leLF16, dl_leRT16, dl_leRF16, dl_ltLT16, dl_ltLF16, dl_ltRT16, dl_ltRF16, dl_eqRT16, dl_eqRF16, dl_leLT64, dl_leLF64, dl_leRT64, dl_leRF64, dl_ltLT64, dl_ltLF64, dl_ltRT64, dl_ltRF64, dl_eqRT64, dl_eqRF64, dl_leLT65, dl_leLF65, dl_leRT65, dl_leRF65, dl_ltLT65, dl_ltLF65, dl_ltRT65, dl_ltRF65, dl_eqRT65, dl_eqRF65]
        refine dl_ypr _ B hc hd (fun r => br_f (by decide) ⟨?_, Rl⟩) (fun r => br_t rfl ⟨?_, Rl⟩)
        · rw [dl_bit1 (by omega), if_pos (hb.mpr r)]; rfl
        · rw [dl_bit1 (by omega), if_neg (fun z => r (hb.mp z))]; rfl
  · simp (disch := omega) only [wpX_mustPrecede, wpY_mustPrecede, nI_clamp, dl_Ar, dl_Au, dl_leT, dl_leF, dl_ltT, dl_ltF, dl_eqT, dl_eqF, nI_add, nI_1, dl_inT, dl_sub, dl_sub1, dl_subm1, forall_eq, true_implies, false_implies, not_true, not_false_iff, true_and, and_true, dl_leLT0, dl_leLF0, dl_leRT0, dl_leRF0, dl_ltLT0, dl_ltLF0, dl_ltRT0, dl_ltRF0, dl_eqRT0, dl_eqRF0, dl_leLT1, dl_leLF1, dl_leRT1, dl_leRF1, dl_ltLT1, dl_ltLF1, dl_ltRT1, dl_ltRF1, dl_eqRT1, dl_eqRF1, dl_leLT2, dl_leLF2, dl_leRT2, dl_leRF2, dl_ltLT2, dl_ltLF2, dl_ltRT2, dl_ltRF2, dl_eqRT2, dl_eqRF2, dl_leLT3, dl_leLF3, dl_leRT3, dl_leRF3, dl_ltLT3, dl_ltLF3, dl_ltRT3, dl_ltRF3, dl_eqRT3, dl_eqRF3, dl_leLT8, dl_leLF8, dl_leRT8, dl_leRF8, dl_ltLT8, dl_ltLF8, dl_ltRT8, dl_ltRF8, dl_eqRT8, dl_eqRF8, dl_leLT9, dl_leLF9, dl_leRT9, dl_leRF9, dl_ltLT9, dl_ltLF9, dl_ltRT9, dl_ltRF9, dl_eqRT9, dl_eqRF9, dl_leLT16, dl_leLF16, dl_leRT16, dl_leRF16, dl_ltLT16, dl_ltLF16, dl_ltRT16, dl_ltRF16, dl_eqRT16, dl_eqRF16, dl_leLT64, dl_leLF64, dl_leRT64, dl_leRF64, dl_ltLT64, dl_ltLF64, dl_ltRT64, dl_ltRF64, dl_eqRT64, dl_eqRF64, dl_leLT65, dl_leLF65, dl_leRT65, dl_leRF65, dl_ltLT65, dl_ltLF65, dl_ltRT65, dl_ltRF65, dl_eqRT65, dl_eqRF65]
    first | exact Rl | exact ⟨by trivial, Rl⟩
theorem i_vc_field {k : Nat} {u : SX} {v : SY} (I : i_Rel k u v) (hk : k + 5 ≤ 2562) (v1 : Int32) (v2 : Int32) : wpX_field (fun r => wpY_field (fun r' => r' = r ∧ i_Rel (k + 5) u v) v v1 v2) u v1 v2 := by
  refine dl_el (Q := fun u v => wpX_field (fun r => wpY_field (fun r' => r' = r ∧ i_Rel (k + 5) u v) v v1 v2) u v1 v2) I ?_
  intro C L ph ol T cnt ls co dn pl dy kp K S D N A bD sq po ws ss bd F P bu pool bf af cm ed re old nxt dat mk hI
  have Rl := dl_mk (af := af) (ed := ed) (re := re) (nxt := nxt) (mk := mk) (bd := bd) (k + 5) hI
  obtain ⟨a1, B, Lt, a4, a5⟩ := hI
  obtain ⟨b1, b2, b3, b4, b5, b6, b7, b8⟩ := B
  have hcnt : cnt ≤ 16 := by omega
  unfold wpX_field
  rcases dl_ix (x := v1) hcnt with h | ⟨h0, h1, h2⟩ | ⟨c, hc, rfl⟩
  · refine dl_xic0 _ hcnt (Or.inl h) (br_t rfl ?_)
    exact br_t h ⟨rfl, Rl⟩
  · refine dl_xic0 _ hcnt (Or.inr h1) (br_t rfl ?_)
    exact br_f h0 (br_f h2 ⟨rfl, Rl⟩)
  · obtain ⟨c1, c2, c3⟩ := b8 c hc
    have hk2 : K c < 2147483648 := by omega
    refine dl_xic1 _ hcnt hc (br_f (by decide) ?_)
    have ycn : ¬ nI c < 0 := nI_pos (by omega)
    have ycl : nI c < nI cnt := nI_lt hc (by omega)
    by_cases n0 : v2 < 0
    · refine br_t n0 (br_f ycn (br_t ycl ?_))
      refine br_f (fun e => absurd n0 (by rw [e]; decide)) (br_f (fun e => absurd n0 (by rw [e]; decide)) (br_f (fun e => absurd n0 (by rw [e]; decide)) (br_f (fun e => absurd n0 (by rw [e]; decide)) ⟨rfl, Rl⟩)))
    · refine br_f n0 ?_
      by_cases n3 : 3 < v2
      · refine br_t n3 (br_f ycn (br_t ycl ?_))
        refine br_f (fun e => absurd n3 (by rw [e]; decide)) (br_f (fun e => absurd n3 (by rw [e]; decide)) (br_f (fun e => absurd n3 (by rw [e]; decide)) (br_f (fun e => absurd n3 (by rw [e]; decide)) ⟨rfl, Rl⟩)))
      · refine br_f n3 ?_
        by_cases e0 : v2 = 0
        · refine br_t e0 ?_
          by_cases p1 : ph = 1
          · obtain ⟨ed0, wr, m, Pn, Dn⟩ := a5 p1
            have KF := Pn.2.2.2.2.1
            have hf := Pn.2.2.2.2.2.1 c hc
            by_cases k1 : K c = 1
            · simp (disch := omega) only [nI_clamp, dl_Ar, dl_Au, dl_leT, dl_leF, dl_ltT, dl_ltF, dl_eqT, dl_eqF, nI_add, nI_1, dl_inT, dl_sub, dl_sub1, dl_subm1, forall_eq, true_implies, false_implies, not_true, not_false_iff, true_and, and_true, dl_leLT0, dl_leLF0, dl_leRT0, dl_leRF0, dl_ltLT0, dl_ltLF0, dl_ltRT0, dl_ltRF0, dl_eqRT0, dl_eqRF0, dl_leLT1, dl_leLF1, dl_leRT1, dl_leRF1, dl_ltLT1, dl_ltLF1, dl_ltRT1, dl_ltRF1, dl_eqRT1, dl_eqRF1, dl_leLT2, dl_leLF2, dl_leRT2, dl_leRF2, dl_ltLT2, dl_ltLF2, dl_ltRT2, dl_ltRF2, dl_eqRT2, dl_eqRF2, dl_leLT3, dl_leLF3, dl_leRT3, dl_leRF3, dl_ltLT3, dl_ltLF3, dl_ltRT3, dl_ltRF3, dl_eqRT3, dl_eqRF3, dl_leLT8, dl_leLF8, dl_leRT8, dl_leRF8, dl_ltLT8, dl_ltLF8, dl_ltRT8, dl_ltRF8, dl_eqRT8, dl_eqRF8, dl_leLT9, dl_leLF9, dl_leRT9, dl_leRF9, dl_ltLT9, dl_ltLF9, dl_ltRT9, dl_ltRF9, dl_eqRT9, dl_eqRF9, dl_leLT16, dl_leLF16, dl_leRT16, dl_leRF16, dl_ltLT16, dl_ltLF16, dl_ltRT16, dl_ltRF16, dl_eqRT16, dl_eqRF16, dl_leLT64, dl_leLF64, dl_leRT64, dl_leRF64, dl_ltLT64, dl_ltLF64, dl_ltRT64, dl_ltRF64, dl_eqRT64, dl_eqRF64, dl_leLT65, dl_leLF65, dl_leRT65, dl_leRF65, dl_ltLT65, dl_ltLF65, dl_ltRT65, dl_ltRF65, dl_eqRT65, dl_eqRF65]
              refine dl_xik _ hcnt KF hc (fun q => br_f (by decide) ?_) (fun q => br_t rfl ?_)
              · simp (disch := omega) only [wpY_field, nI_clamp, dl_Ar, dl_Au, dl_leT, dl_leF, dl_ltT, dl_ltF, dl_eqT, dl_eqF, nI_add, nI_1, dl_inT, dl_sub, dl_sub1, dl_subm1, forall_eq, true_implies, false_implies, not_true, not_false_iff, true_and, and_true, dl_leLT0, dl_leLF0, dl_leRT0, dl_leRF0, dl_ltLT0, dl_ltLF0, dl_ltRT0, dl_ltRF0, dl_eqRT0, dl_eqRF0, dl_leLT1, dl_leLF1, dl_leRT1, dl_leRF1, dl_ltLT1, dl_ltLF1, dl_ltRT1, dl_ltRF1, dl_eqRT1, dl_eqRF1, dl_leLT2, dl_leLF2, dl_leRT2, dl_leRF2, dl_ltLT2, dl_ltLF2, dl_ltRT2, dl_ltRF2, dl_eqRT2, dl_eqRF2, dl_leLT3, dl_leLF3, dl_leRT3, dl_leRF3, dl_ltLT3, dl_ltLF3, dl_ltRT3, dl_ltRF3, dl_eqRT3, dl_eqRF3, dl_leLT8, dl_leLF8, dl_leRT8, dl_leRF8, dl_ltLT8, dl_ltLF8, dl_ltRT8, dl_ltRF8, dl_eqRT8, dl_eqRF8, dl_leLT9, dl_leLF9, dl_leRT9, dl_leRF9, dl_ltLT9, dl_ltLF9, dl_ltRT9, dl_ltRF9, dl_eqRT9, dl_eqRF9, dl_leLT16, dl_leLF16, dl_leRT16, dl_leRF16, dl_ltLT16, dl_ltLF16, dl_ltRT16, dl_ltRF16, dl_eqRT16, dl_eqRF16, dl_leLT64, dl_leLF64, dl_leRT64, dl_leRF64, dl_ltLT64, dl_ltLF64, dl_ltRT64, dl_ltRF64, dl_eqRT64, dl_eqRF64, dl_leLT65, dl_leLF65, dl_leRT65, dl_leRF65, dl_ltLT65, dl_ltLF65, dl_ltRT65, dl_ltRF65, dl_eqRT65, dl_eqRF65, e0, q, k1]
                first | exact Rl | exact ⟨by trivial, Rl⟩
              · have q3 : F c = 3 := by omega
                simp (disch := omega) only [wpY_field, nI_clamp, dl_Ar, dl_Au, dl_leT, dl_leF, dl_ltT, dl_ltF, dl_eqT, dl_eqF, nI_add, nI_1, dl_inT, dl_sub, dl_sub1, dl_subm1, forall_eq, true_implies, false_implies, not_true, not_false_iff, true_and, and_true, dl_leLT0, dl_leLF0, dl_leRT0, dl_leRF0, dl_ltLT0, dl_ltLF0, dl_ltRT0, dl_ltRF0, dl_eqRT0, dl_eqRF0, dl_leLT1, dl_leLF1, dl_leRT1, dl_leRF1, dl_ltLT1, dl_ltLF1, dl_ltRT1, dl_ltRF1, dl_eqRT1, dl_eqRF1, dl_leLT2, dl_leLF2, dl_leRT2, dl_leRF2, dl_ltLT2, dl_ltLF2, dl_ltRT2, dl_ltRF2, dl_eqRT2, dl_eqRF2, dl_leLT3, dl_leLF3, dl_leRT3, dl_leRF3, dl_ltLT3, dl_ltLF3, dl_ltRT3, dl_ltRF3, dl_eqRT3, dl_eqRF3, dl_leLT8, dl_leLF8, dl_leRT8, dl_leRF8, dl_ltLT8, dl_ltLF8, dl_ltRT8, dl_ltRF8, dl_eqRT8, dl_eqRF8, dl_leLT9, dl_leLF9, dl_leRT9, dl_leRF9, dl_ltLT9, dl_ltLF9, dl_ltRT9, dl_ltRF9, dl_eqRT9, dl_eqRF9, dl_leLT16, dl_leLF16, dl_leRT16, dl_leRF16, dl_ltLT16, dl_ltLF16, dl_ltRT16, dl_ltRF16, dl_eqRT16, dl_eqRF16, dl_leLT64, dl_leLF64, dl_leRT64, dl_leRF64, dl_ltLT64, dl_ltLF64, dl_ltRT64, dl_ltRF64, dl_eqRT64, dl_eqRF64, dl_leLT65, dl_leLF65, dl_leRT65, dl_leRF65, dl_ltLT65, dl_ltLF65, dl_ltRT65, dl_ltRF65, dl_eqRT65, dl_eqRF65, e0, q3]
                first | exact Rl | exact ⟨by trivial, Rl⟩
            · have k2 : K c = 2 := by omega
              have q2 : F c = 2 := by omega
              simp (disch := omega) only [wpY_field, nI_clamp, dl_Ar, dl_Au, dl_leT, dl_leF, dl_ltT, dl_ltF, dl_eqT, dl_eqF, nI_add, nI_1, dl_inT, dl_sub, dl_sub1, dl_subm1, forall_eq, true_implies, false_implies, not_true, not_false_iff, true_and, and_true, dl_leLT0, dl_leLF0, dl_leRT0, dl_leRF0, dl_ltLT0, dl_ltLF0, dl_ltRT0, dl_ltRF0, dl_eqRT0, dl_eqRF0, dl_leLT1, dl_leLF1, dl_leRT1, dl_leRF1, dl_ltLT1, dl_ltLF1, dl_ltRT1, dl_ltRF1, dl_eqRT1, dl_eqRF1, dl_leLT2, dl_leLF2, dl_leRT2, dl_leRF2, dl_ltLT2, dl_ltLF2, dl_ltRT2, dl_ltRF2, dl_eqRT2, dl_eqRF2, dl_leLT3, dl_leLF3, dl_leRT3, dl_leRF3, dl_ltLT3, dl_ltLF3, dl_ltRT3, dl_ltRF3, dl_eqRT3, dl_eqRF3, dl_leLT8, dl_leLF8, dl_leRT8, dl_leRF8, dl_ltLT8, dl_ltLF8, dl_ltRT8, dl_ltRF8, dl_eqRT8, dl_eqRF8, dl_leLT9, dl_leLF9, dl_leRT9, dl_leRF9, dl_ltLT9, dl_ltLF9, dl_ltRT9, dl_ltRF9, dl_eqRT9, dl_eqRF9, dl_leLT16, dl_leLF16, dl_leRT16, dl_leRF16, dl_ltLT16, dl_ltLF16, dl_ltRT16, dl_ltRF16, dl_eqRT16, dl_eqRF16, dl_leLT64, dl_leLF64, dl_leRT64, dl_leRF64, dl_ltLT64, dl_ltLF64, dl_ltRT64, dl_ltRF64, dl_eqRT64, dl_eqRF64, dl_leLT65, dl_leLF65, dl_leRT65, dl_leRF65, dl_ltLT65, dl_ltLF65, dl_ltRT65, dl_ltRF65, dl_eqRT65, dl_eqRF65, e0, k2, q2]
              first | exact Rl | exact ⟨by trivial, Rl⟩
          · by_cases k1 : K c = 1
            · simp (disch := omega) only [wpY_field, nI_clamp, dl_Ar, dl_Au, dl_leT, dl_leF, dl_ltT, dl_ltF, dl_eqT, dl_eqF, nI_add, nI_1, dl_inT, dl_sub, dl_sub1, dl_subm1, forall_eq, true_implies, false_implies, not_true, not_false_iff, true_and, and_true, dl_leLT0, dl_leLF0, dl_leRT0, dl_leRF0, dl_ltLT0, dl_ltLF0, dl_ltRT0, dl_ltRF0, dl_eqRT0, dl_eqRF0, dl_leLT1, dl_leLF1, dl_leRT1, dl_leRF1, dl_ltLT1, dl_ltLF1, dl_ltRT1, dl_ltRF1, dl_eqRT1, dl_eqRF1, dl_leLT2, dl_leLF2, dl_leRT2, dl_leRF2, dl_ltLT2, dl_ltLF2, dl_ltRT2, dl_ltRF2, dl_eqRT2, dl_eqRF2, dl_leLT3, dl_leLF3, dl_leRT3, dl_leRF3, dl_ltLT3, dl_ltLF3, dl_ltRT3, dl_ltRF3, dl_eqRT3, dl_eqRF3, dl_leLT8, dl_leLF8, dl_leRT8, dl_leRF8, dl_ltLT8, dl_ltLF8, dl_ltRT8, dl_ltRF8, dl_eqRT8, dl_eqRF8, dl_leLT9, dl_leLF9, dl_leRT9, dl_leRF9, dl_ltLT9, dl_ltLF9, dl_ltRT9, dl_ltRF9, dl_eqRT9, dl_eqRF9, dl_leLT16, dl_leLF16, dl_leRT16, dl_leRF16, dl_ltLT16, dl_ltLF16, dl_ltRT16, dl_ltRF16, dl_eqRT16, dl_eqRF16, dl_leLT64, dl_leLF64, dl_leRT64, dl_leRF64, dl_ltLT64, dl_ltLF64, dl_ltRT64, dl_ltRF64, dl_eqRT64, dl_eqRF64, dl_leLT65, dl_leLF65, dl_leRT65, dl_leRF65, dl_ltLT65, dl_ltLF65, dl_ltRT65, dl_ltRF65, dl_eqRT65, dl_eqRF65, e0]
              first | exact Rl | exact ⟨by trivial, Rl⟩
            · simp (disch := omega) only [wpY_field, nI_clamp, dl_Ar, dl_Au, dl_leT, dl_leF, dl_ltT, dl_ltF, dl_eqT, dl_eqF, nI_add, nI_1, dl_inT, dl_sub, dl_sub1, dl_subm1, forall_eq, true_implies, false_implies, not_true, not_false_iff, true_and, and_true, dl_leLT0, dl_leLF0, dl_leRT0, dl_leRF0, dl_ltLT0, dl_ltLF0, dl_ltRT0, dl_ltRF0, dl_eqRT0, dl_eqRF0, dl_leLT1, dl_leLF1, dl_leRT1, dl_leRF1, dl_ltLT1, dl_ltLF1, dl_ltRT1, dl_ltRF1, dl_eqRT1, dl_eqRF1, dl_leLT2, dl_leLF2, dl_leRT2, dl_leRF2, dl_ltLT2, dl_ltLF2, dl_ltRT2, dl_ltRF2, dl_eqRT2, dl_eqRF2, dl_leLT3, dl_leLF3, dl_leRT3, dl_leRF3, dl_ltLT3, dl_ltLF3, dl_ltRT3, dl_ltRF3, dl_eqRT3, dl_eqRF3, dl_leLT8, dl_leLF8, dl_leRT8, dl_leRF8, dl_ltLT8, dl_ltLF8, dl_ltRT8, dl_ltRF8, dl_eqRT8, dl_eqRF8, dl_leLT9, dl_leLF9, dl_leRT9, dl_leRF9, dl_ltLT9, dl_ltLF9, dl_ltRT9, dl_ltRF9, dl_eqRT9, dl_eqRF9, dl_leLT16, dl_leLF16, dl_leRT16, dl_leRF16, dl_ltLT16, dl_ltLF16, dl_ltRT16, dl_ltRF16, dl_eqRT16, dl_eqRF16, dl_leLT64, dl_leLF64, dl_leRT64, dl_leRF64, dl_ltLT64, dl_ltLF64, dl_ltRT64, dl_ltRF64, dl_eqRT64, dl_eqRF64, dl_leLT65, dl_leLF65, dl_leRT65, dl_leRF65, dl_ltLT65, dl_ltLF65, dl_ltRT65, dl_ltRF65, dl_eqRT65, dl_eqRF65, e0]
              first | exact Rl | exact ⟨by trivial, Rl⟩
        · refine br_f e0 ?_
          by_cases e1 : v2 = 1
          · refine br_t e1 ?_
            simp (disch := omega) only [nI_clamp, dl_Ar, dl_Au, dl_leT, dl_leF, dl_ltT, dl_ltF, dl_eqT, dl_eqF, nI_add, nI_1, dl_inT, dl_sub, dl_sub1, dl_subm1, forall_eq, true_implies, false_implies, not_true, not_false_iff, true_and, and_true, dl_leLT0, dl_leLF0, dl_leRT0, dl_leRF0, dl_ltLT0, dl_ltLF0, dl_ltRT0, dl_ltRF0, dl_eqRT0, dl_eqRF0, dl_leLT1, dl_leLF1, dl_leRT1, dl_leRF1, dl_ltLT1, dl_ltLF1, dl_ltRT1, dl_ltRF1, dl_eqRT1, dl_eqRF1, dl_leLT2, dl_leLF2, dl_leRT2, dl_leRF2, dl_ltLT2, dl_ltLF2, dl_ltRT2, dl_ltRF2, dl_eqRT2, dl_eqRF2, dl_leLT3, dl_leLF3, dl_leRT3, dl_leRF3, dl_ltLT3, dl_ltLF3, dl_ltRT3, dl_ltRF3, dl_eqRT3, dl_eqRF3, dl_leLT8, dl_leLF8, dl_leRT8, dl_leRF8, dl_ltLT8, dl_ltLF8, dl_ltRT8, dl_ltRF8, dl_eqRT8, dl_eqRF8, dl_leLT9, dl_leLF9, dl_leRT9, dl_leRF9, dl_ltLT9, dl_ltLF9, dl_ltRT9, dl_ltRF9, dl_eqRT9, dl_eqRF9, dl_leLT16, dl_leLF16, dl_leRT16, dl_leRF16, dl_ltLT16, dl_ltLF16, dl_ltRT16, dl_ltRF16, dl_eqRT16, dl_eqRF16, dl_leLT64, dl_leLF64, dl_leRT64, dl_leRF64, dl_ltLT64, dl_ltLF64, dl_ltRT64, dl_ltRF64, dl_eqRT64, dl_eqRF64, dl_leLT65, dl_leLF65, dl_leRT65, dl_leRF65, dl_ltLT65, dl_ltLF65, dl_ltRT65, dl_ltRF65, dl_eqRT65, dl_eqRF65]
            refine br_f ycn (br_t ycl (br_f e0 (br_t e1 ?_)))
            by_cases k1 : K c = 1
            · simp (disch := omega) only [nI_clamp, dl_Ar, dl_Au, dl_leT, dl_leF, dl_ltT, dl_ltF, dl_eqT, dl_eqF, nI_add, nI_1, dl_inT, dl_sub, dl_sub1, dl_subm1, forall_eq, true_implies, false_implies, not_true, not_false_iff, true_and, and_true, dl_leLT0, dl_leLF0, dl_leRT0, dl_leRF0, dl_ltLT0, dl_ltLF0, dl_ltRT0, dl_ltRF0, dl_eqRT0, dl_eqRF0, dl_leLT1, dl_leLF1, dl_leRT1, dl_leRF1, dl_ltLT1, dl_ltLF1, dl_ltRT1, dl_ltRF1, dl_eqRT1, dl_eqRF1, dl_leLT2, dl_leLF2, dl_leRT2, dl_leRF2, dl_ltLT2, dl_ltLF2, dl_ltRT2, dl_ltRF2, dl_eqRT2, dl_eqRF2, dl_leLT3, dl_leLF3, dl_leRT3, dl_leRF3, dl_ltLT3, dl_ltLF3, dl_ltRT3, dl_ltRF3, dl_eqRT3, dl_eqRF3, dl_leLT8, dl_leLF8, dl_leRT8, dl_leRF8, dl_ltLT8, dl_ltLF8, dl_ltRT8, dl_ltRF8, dl_eqRT8, dl_eqRF8, dl_leLT9, dl_leLF9, dl_leRT9, dl_leRF9, dl_ltLT9, dl_ltLF9, dl_ltRT9, dl_ltRF9, dl_eqRT9, dl_eqRF9, dl_leLT16, dl_leLF16, dl_leRT16, dl_leRF16, dl_ltLT16, dl_ltLF16, dl_ltRT16, dl_ltRF16, dl_eqRT16, dl_eqRF16, dl_leLT64, dl_leLF64, dl_leRT64, dl_leRF64, dl_ltLT64, dl_ltLF64, dl_ltRT64, dl_ltRF64, dl_eqRT64, dl_eqRF64, dl_leLT65, dl_leLF65, dl_leRT65, dl_leRF65, dl_ltLT65, dl_ltLF65, dl_ltRT65, dl_ltRF65, dl_eqRT65, dl_eqRF65]
              first | exact Rl | exact ⟨by trivial, Rl⟩
            · have s1 : S c = 4294967295 := by omega
              simp (disch := omega) only [nI_clamp, dl_Ar, dl_Au, dl_leT, dl_leF, dl_ltT, dl_ltF, dl_eqT, dl_eqF, nI_add, nI_1, dl_inT, dl_sub, dl_sub1, dl_subm1, forall_eq, true_implies, false_implies, not_true, not_false_iff, true_and, and_true, dl_leLT0, dl_leLF0, dl_leRT0, dl_leRF0, dl_ltLT0, dl_ltLF0, dl_ltRT0, dl_ltRF0, dl_eqRT0, dl_eqRF0, dl_leLT1, dl_leLF1, dl_leRT1, dl_leRF1, dl_ltLT1, dl_ltLF1, dl_ltRT1, dl_ltRF1, dl_eqRT1, dl_eqRF1, dl_leLT2, dl_leLF2, dl_leRT2, dl_leRF2, dl_ltLT2, dl_ltLF2, dl_ltRT2, dl_ltRF2, dl_eqRT2, dl_eqRF2, dl_leLT3, dl_leLF3, dl_leRT3, dl_leRF3, dl_ltLT3, dl_ltLF3, dl_ltRT3, dl_ltRF3, dl_eqRT3, dl_eqRF3, dl_leLT8, dl_leLF8, dl_leRT8, dl_leRF8, dl_ltLT8, dl_ltLF8, dl_ltRT8, dl_ltRF8, dl_eqRT8, dl_eqRF8, dl_leLT9, dl_leLF9, dl_leRT9, dl_leRF9, dl_ltLT9, dl_ltLF9, dl_ltRT9, dl_ltRF9, dl_eqRT9, dl_eqRF9, dl_leLT16, dl_leLF16, dl_leRT16, dl_leRF16, dl_ltLT16, dl_ltLF16, dl_ltRT16, dl_ltRF16, dl_eqRT16, dl_eqRF16, dl_leLT64, dl_leLF64, dl_leRT64, dl_leRF64, dl_ltLT64, dl_ltLF64, dl_ltRT64, dl_ltRF64, dl_eqRT64, dl_eqRF64, dl_leLT65, dl_leLF65, dl_leRT65, dl_leRF65, dl_ltLT65, dl_ltLF65, dl_ltRT65, dl_ltRF65, dl_eqRT65, dl_eqRF65, s1]
              exact ⟨rfl, Rl⟩
          · refine br_f e1 ?_
            by_cases e2 : v2 = 2
            · refine br_t e2 ?_
              simp (disch := omega) only [nI_clamp, dl_Ar, dl_Au, dl_leT, dl_leF, dl_ltT, dl_ltF, dl_eqT, dl_eqF, nI_add, nI_1, dl_inT, dl_sub, dl_sub1, dl_subm1, forall_eq, true_implies, false_implies, not_true, not_false_iff, true_and, and_true, dl_leLT0, dl_leLF0, dl_leRT0, dl_leRF0, dl_ltLT0, dl_ltLF0, dl_ltRT0, dl_ltRF0, dl_eqRT0, dl_eqRF0, dl_leLT1, dl_leLF1, dl_leRT1, dl_leRF1, dl_ltLT1, dl_ltLF1, dl_ltRT1, dl_ltRF1, dl_eqRT1, dl_eqRF1, dl_leLT2, dl_leLF2, dl_leRT2, dl_leRF2, dl_ltLT2, dl_ltLF2, dl_ltRT2, dl_ltRF2, dl_eqRT2, dl_eqRF2, dl_leLT3, dl_leLF3, dl_leRT3, dl_leRF3, dl_ltLT3, dl_ltLF3, dl_ltRT3, dl_ltRF3, dl_eqRT3, dl_eqRF3, dl_leLT8, dl_leLF8, dl_leRT8, dl_leRF8, dl_ltLT8, dl_ltLF8, dl_ltRT8, dl_ltRF8, dl_eqRT8, dl_eqRF8, dl_leLT9, dl_leLF9, dl_leRT9, dl_leRF9, dl_ltLT9, dl_ltLF9, dl_ltRT9, dl_ltRF9, dl_eqRT9, dl_eqRF9, dl_leLT16, dl_leLF16, dl_leRT16, dl_leRF16, dl_ltLT16, dl_ltLF16, dl_ltRT16, dl_ltRF16, dl_eqRT16, dl_eqRF16, dl_leLT64, dl_leLF64, dl_leRT64, dl_leRF64, dl_ltLT64, dl_ltLF64, dl_ltRT64, dl_ltRF64, dl_eqRT64, dl_eqRF64, dl_leLT65, dl_leLF65, dl_leRT65, dl_leRF65, dl_ltLT65, dl_ltLF65, dl_ltRT65, dl_ltRF65, dl_eqRT65, dl_eqRF65]
              refine br_f ycn (br_t ycl (br_f e0 (br_f e1 (br_t e2 ?_))))
              simp (disch := omega) only [nI_clamp, dl_Ar, dl_Au, dl_leT, dl_leF, dl_ltT, dl_ltF, dl_eqT, dl_eqF, nI_add, nI_1, dl_inT, dl_sub, dl_sub1, dl_subm1, forall_eq, true_implies, false_implies, not_true, not_false_iff, true_and, and_true, dl_leLT0, dl_leLF0, dl_leRT0, dl_leRF0, dl_ltLT0, dl_ltLF0, dl_ltRT0, dl_ltRF0, dl_eqRT0, dl_eqRF0, dl_leLT1, dl_leLF1, dl_leRT1, dl_leRF1, dl_ltLT1, dl_ltLF1, dl_ltRT1, dl_ltRF1, dl_eqRT1, dl_eqRF1, dl_leLT2, dl_leLF2, dl_leRT2, dl_leRF2, dl_ltLT2, dl_ltLF2, dl_ltRT2, dl_ltRF2, dl_eqRT2, dl_eqRF2, dl_leLT3, dl_leLF3, dl_leRT3, dl_leRF3, dl_ltLT3, dl_ltLF3, dl_ltRT3, dl_ltRF3, dl_eqRT3, dl_eqRF3, dl_leLT8, dl_leLF8, dl_leRT8, dl_leRF8, dl_ltLT8, dl_ltLF8, dl_ltRT8, dl_ltRF8, dl_eqRT8, dl_eqRF8, dl_leLT9, dl_leLF9, dl_leRT9, dl_leRF9, dl_ltLT9, dl_ltLF9, dl_ltRT9, dl_ltRF9, dl_eqRT9, dl_eqRF9, dl_leLT16, dl_leLF16, dl_leRT16, dl_leRF16, dl_ltLT16, dl_ltLF16, dl_ltRT16, dl_ltRF16, dl_eqRT16, dl_eqRF16, dl_leLT64, dl_leLF64, dl_leRT64, dl_leRF64, dl_ltLT64, dl_ltLF64, dl_ltRT64, dl_ltRF64, dl_eqRT64, dl_eqRF64, dl_leLT65, dl_leLF65, dl_leRT65, dl_leRF65, dl_ltLT65, dl_ltLF65, dl_ltRT65, dl_ltRF65, dl_eqRT65, dl_eqRF65]
              first | exact Rl | exact ⟨by trivial, Rl⟩
            · refine br_f e2 ?_
              by_cases e3 : v2 = 3
              · refine br_t e3 ?_
                simp (disch := omega) only [nI_clamp, dl_Ar, dl_Au, dl_leT, dl_leF, dl_ltT, dl_ltF, dl_eqT, dl_eqF, nI_add, nI_1, dl_inT, dl_sub, dl_sub1, dl_subm1, forall_eq, true_implies, false_implies, not_true, not_false_iff, true_and, and_true, dl_leLT0, dl_leLF0, dl_leRT0, dl_leRF0, dl_ltLT0, dl_ltLF0, dl_ltRT0, dl_ltRF0, dl_eqRT0, dl_eqRF0, dl_leLT1, dl_leLF1, dl_leRT1, dl_leRF1, dl_ltLT1, dl_ltLF1, dl_ltRT1, dl_ltRF1, dl_eqRT1, dl_eqRF1, dl_leLT2, dl_leLF2, dl_leRT2, dl_leRF2, dl_ltLT2, dl_ltLF2, dl_ltRT2, dl_ltRF2, dl_eqRT2, dl_eqRF2, dl_leLT3, dl_leLF3, dl_leRT3, dl_leRF3, dl_ltLT3, dl_ltLF3, dl_ltRT3, dl_ltRF3, dl_eqRT3, dl_eqRF3, dl_leLT8, dl_leLF8, dl_leRT8, dl_leRF8, dl_ltLT8, dl_ltLF8, dl_ltRT8, dl_ltRF8, dl_eqRT8, dl_eqRF8, dl_leLT9, dl_leLF9, dl_leRT9, dl_leRF9, dl_ltLT9, dl_ltLF9, dl_ltRT9, dl_ltRF9, dl_eqRT9, dl_eqRF9, dl_leLT16, dl_leLF16, dl_leRT16, dl_leRF16, dl_ltLT16, dl_ltLF16, dl_ltRT16, dl_ltRF16, dl_eqRT16, dl_eqRF16, dl_leLT64, dl_leLF64, dl_leRT64, dl_leRF64, dl_ltLT64, dl_ltLF64, dl_ltRT64, dl_ltRF64, dl_eqRT64, dl_eqRF64, dl_leLT65, dl_leLF65, dl_leRT65, dl_leRF65, dl_ltLT65, dl_ltLF65, dl_ltRT65, dl_ltRF65, dl_eqRT65, dl_eqRF65]
                refine br_f ycn (br_t ycl (br_f e0 (br_f e1 (br_f e2 (br_t e3 ?_)))))
                simp (disch := omega) only [nI_clamp, dl_Ar, dl_Au, dl_leT, dl_leF, dl_ltT, dl_ltF, dl_eqT, dl_eqF, nI_add, nI_1, dl_inT, dl_sub, dl_sub1, dl_subm1, forall_eq, true_implies, false_implies, not_true, not_false_iff, true_and, and_true, dl_leLT0, dl_leLF0, dl_leRT0, dl_leRF0, dl_ltLT0, dl_ltLF0, dl_ltRT0, dl_ltRF0, dl_eqRT0, dl_eqRF0, dl_leLT1, dl_leLF1, dl_leRT1, dl_leRF1, dl_ltLT1, dl_ltLF1, dl_ltRT1, dl_ltRF1, dl_eqRT1, dl_eqRF1, dl_leLT2, dl_leLF2, dl_leRT2, dl_leRF2, dl_ltLT2, dl_ltLF2, dl_ltRT2, dl_ltRF2, dl_eqRT2, dl_eqRF2, dl_leLT3, dl_leLF3, dl_leRT3, dl_leRF3, dl_ltLT3, dl_ltLF3, dl_ltRT3, dl_ltRF3, dl_eqRT3, dl_eqRF3, dl_leLT8, dl_leLF8, dl_leRT8, dl_leRF8, dl_ltLT8, dl_ltLF8, dl_ltRT8, dl_ltRF8, dl_eqRT8, dl_eqRF8, dl_leLT9, dl_leLF9, dl_leRT9, dl_leRF9, dl_ltLT9, dl_ltLF9, dl_ltRT9, dl_ltRF9, dl_eqRT9, dl_eqRF9, dl_leLT16, dl_leLF16, dl_leRT16, dl_leRF16, dl_ltLT16, dl_ltLF16, dl_ltRT16, dl_ltRF16, dl_eqRT16, dl_eqRF16, dl_leLT64, dl_leLF64, dl_leRT64, dl_leRF64, dl_ltLT64, dl_ltLF64, dl_ltRT64, dl_ltRF64, dl_eqRT64, dl_eqRF64, dl_leLT65, dl_leLF65, dl_leRT65, dl_leRF65, dl_ltLT65, dl_ltLF65, dl_ltRT65, dl_ltRF65, dl_eqRT65, dl_eqRF65]
                first | exact Rl | exact ⟨by trivial, Rl⟩
              · exact br_f e3 trivial
end
section
theorem i_vc_literal {k : Nat} {u : SX} {v : SY} (I : i_Rel k u v) (hk : k + 5 ≤ 2562) (v1 : Int32) (v2 : Int32) : wpX_literal (fun r => wpY_literal (fun r' => r' = r ∧ i_Rel (k + 5) u v) v v1 v2) u v1 v2 := by
  refine dl_el (Q := fun u v => wpX_literal (fun r => wpY_literal (fun r' => r' = r ∧ i_Rel (k + 5) u v) v v1 v2) u v1 v2) I ?_
  intro C L ph ol T cnt ls co dn pl dy kp K S D N A bD sq po ws ss bd F P bu pool bf af cm ed re old nxt dat mk hI
  have Rl := dl_mk (af := af) (ed := ed) (re := re) (nxt := nxt) (mk := mk) (bd := bd) (k + 5) hI
  obtain ⟨a1, B, Lt, a4, a5⟩ := hI
  obtain ⟨b1, b2, b3, b4, b5, b6, b7, b8⟩ := B
  have hcnt : cnt ≤ 16 := by omega
  unfold wpX_literal
  rcases dl_ix (x := v1) hcnt with h | ⟨h0, h1, h2⟩ | ⟨c, hc, rfl⟩
  · refine dl_xic0 _ hcnt (Or.inl h) (br_t rfl ?_)
    exact br_t h ⟨rfl, Rl⟩
  · refine dl_xic0 _ hcnt (Or.inr h1) (br_t rfl ?_)
    exact br_f h0 (br_f h2 ⟨rfl, Rl⟩)
  · obtain ⟨c1, c2, c3⟩ := b8 c hc
    have hk2 : K c < 2147483648 := by omega
    refine dl_xic1 _ hcnt hc (br_f (by decide) ?_)
    by_cases n0 : v2 < 0
    · simp (disch := omega) only [wpY_literal, nI_clamp, dl_Ar, dl_Au, dl_leT, dl_leF, dl_ltT, dl_ltF, dl_eqT, dl_eqF, nI_add, nI_1, dl_inT, dl_sub, dl_sub1, dl_subm1, forall_eq, true_implies, false_implies, not_true, not_false_iff, true_and, and_true, dl_leLT0, dl_leLF0, dl_leRT0, dl_leRF0, dl_ltLT0, dl_ltLF0, dl_ltRT0, dl_ltRF0, dl_eqRT0, dl_eqRF0, dl_leLT1, dl_leLF1, dl_leRT1, dl_leRF1, dl_ltLT1, dl_ltLF1, dl_ltRT1, dl_ltRF1, dl_eqRT1, dl_eqRF1, dl_leLT2, dl_leLF2, dl_leRT2, dl_leRF2, dl_ltLT2, dl_ltLF2, dl_ltRT2, dl_ltRF2, dl_eqRT2, dl_eqRF2, dl_leLT3, dl_leLF3, dl_leRT3, dl_leRF3, dl_ltLT3, dl_ltLF3, dl_ltRT3, dl_ltRF3, dl_eqRT3, dl_eqRF3, dl_leLT8, dl_leLF8, dl_leRT8, dl_leRF8, dl_ltLT8, dl_ltLF8, dl_ltRT8, dl_ltRF8, dl_eqRT8, dl_eqRF8, dl_leLT9, dl_leLF9, dl_leRT9, dl_leRF9, dl_ltLT9, dl_ltLF9, dl_ltRT9, dl_ltRF9, dl_eqRT9, dl_eqRF9, dl_leLT16, dl_leLF16, dl_leRT16, dl_leRF16, dl_ltLT16, dl_ltLF16, dl_ltRT16, dl_ltRF16, dl_eqRT16, dl_eqRF16, dl_leLT64, dl_leLF64, dl_leRT64, dl_leRF64, dl_ltLT64, dl_ltLF64, dl_ltRT64, dl_ltRF64, dl_eqRT64, dl_eqRF64, dl_leLT65, dl_leLF65, dl_leRT65, dl_leRF65, dl_ltLT65, dl_ltLF65, dl_ltRT65, dl_ltRF65, dl_eqRT65, dl_eqRF65, n0]
      first | exact Rl | exact ⟨by trivial, Rl⟩
    · obtain ⟨j, hj, rfl⟩ := nI_of n0
      by_cases h2 : j < N c
      · by_cases k1 : K c = 1
        · by_cases p1 : ph = 1
          · obtain ⟨ed0, wr, m, Pn, Dn⟩ := a5 p1
            have KF := Pn.2.2.2.2.1
            have hf := Pn.2.2.2.2.2.1 c hc
            have hp := Pn.2.2.2.2.2.2.2.2.2.2 c hc
            simp (disch := omega) only [nI_clamp, dl_Ar, dl_Au, dl_leT, dl_leF, dl_ltT, dl_ltF, dl_eqT, dl_eqF, nI_add, nI_1, dl_inT, dl_sub, dl_sub1, dl_subm1, forall_eq, true_implies, false_implies, not_true, not_false_iff, true_and, and_true, dl_leLT0, dl_leLF0, dl_leRT0, dl_leRF0, dl_ltLT0, dl_ltLF0, dl_ltRT0, dl_ltRF0, dl_eqRT0, dl_eqRF0, dl_leLT1, dl_leLF1, dl_leRT1, dl_leRF1, dl_ltLT1, dl_ltLF1, dl_ltRT1, dl_ltRF1, dl_eqRT1, dl_eqRF1, dl_leLT2, dl_leLF2, dl_leRT2, dl_leRF2, dl_ltLT2, dl_ltLF2, dl_ltRT2, dl_ltRF2, dl_eqRT2, dl_eqRF2, dl_leLT3, dl_leLF3, dl_leRT3, dl_leRF3, dl_ltLT3, dl_ltLF3, dl_ltRT3, dl_ltRF3, dl_eqRT3, dl_eqRF3, dl_leLT8, dl_leLF8, dl_leRT8, dl_leRF8, dl_ltLT8, dl_ltLF8, dl_ltRT8, dl_ltRF8, dl_eqRT8, dl_eqRF8, dl_leLT9, dl_leLF9, dl_leRT9, dl_leRF9, dl_ltLT9, dl_ltLF9, dl_ltRT9, dl_ltRF9, dl_eqRT9, dl_eqRF9, dl_leLT16, dl_leLF16, dl_leRT16, dl_leRF16, dl_ltLT16, dl_ltLF16, dl_ltRT16, dl_ltRF16, dl_eqRT16, dl_eqRF16, dl_leLT64, dl_leLF64, dl_leRT64, dl_leRF64, dl_ltLT64, dl_ltLF64, dl_ltRT64, dl_ltRF64, dl_eqRT64, dl_eqRF64, dl_leLT65, dl_leLF65, dl_leRT65, dl_leRF65, dl_ltLT65, dl_ltLF65, dl_ltRT65, dl_ltRF65, dl_eqRT65, dl_eqRF65]
            refine dl_xik _ hcnt KF hc (fun q => br_f (by decide) ?_) (fun q => br_t rfl ?_)
            · simp (disch := omega) only [wpY_literal, nI_clamp, dl_Ar, dl_Au, dl_leT, dl_leF, dl_ltT, dl_ltF, dl_eqT, dl_eqF, nI_add, nI_1, dl_inT, dl_sub, dl_sub1, dl_subm1, forall_eq, true_implies, false_implies, not_true, not_false_iff, true_and, and_true, dl_leLT0, dl_leLF0, dl_leRT0, dl_leRF0, dl_ltLT0, dl_ltLF0, dl_ltRT0, dl_ltRF0, dl_eqRT0, dl_eqRF0, dl_leLT1, dl_leLF1, dl_leRT1, dl_leRF1, dl_ltLT1, dl_ltLF1, dl_ltRT1, dl_ltRF1, dl_eqRT1, dl_eqRF1, dl_leLT2, dl_leLF2, dl_leRT2, dl_leRF2, dl_ltLT2, dl_ltLF2, dl_ltRT2, dl_ltRF2, dl_eqRT2, dl_eqRF2, dl_leLT3, dl_leLF3, dl_leRT3, dl_leRF3, dl_ltLT3, dl_ltLF3, dl_ltRT3, dl_ltRF3, dl_eqRT3, dl_eqRF3, dl_leLT8, dl_leLF8, dl_leRT8, dl_leRF8, dl_ltLT8, dl_ltLF8, dl_ltRT8, dl_ltRF8, dl_eqRT8, dl_eqRF8, dl_leLT9, dl_leLF9, dl_leRT9, dl_leRF9, dl_ltLT9, dl_ltLF9, dl_ltRT9, dl_ltRF9, dl_eqRT9, dl_eqRF9, dl_leLT16, dl_leLF16, dl_leRT16, dl_leRF16, dl_ltLT16, dl_ltLF16, dl_ltRT16, dl_ltRF16, dl_eqRT16, dl_eqRF16, dl_leLT64, dl_leLF64, dl_leRT64, dl_leRF64, dl_ltLT64, dl_ltLF64, dl_ltRT64, dl_ltRF64, dl_eqRT64, dl_eqRF64, dl_leLT65, dl_leLF65, dl_leRT65, dl_leRF65, dl_ltLT65, dl_ltLF65, dl_ltRT65, dl_ltRF65, dl_eqRT65, dl_eqRF65]
              first | exact Rl | exact ⟨by trivial, Rl⟩
            · obtain ⟨g1, g2⟩ := hp q
              have g3 := g2 j h2
              rw [if_neg (by omega)] at g3
              have q3 : F c = 3 := by omega
              simp (disch := omega) only [wX_literal_54, wpY_literal, nI_clamp, dl_Ar, dl_Au, dl_leT, dl_leF, dl_ltT, dl_ltF, dl_eqT, dl_eqF, nI_add, nI_1, dl_inT, dl_sub, dl_sub1, dl_subm1, forall_eq, true_implies, false_implies, not_true, not_false_iff, true_and, and_true, dl_leLT0, dl_leLF0, dl_leRT0, dl_leRF0, dl_ltLT0, dl_ltLF0, dl_ltRT0, dl_ltRF0, dl_eqRT0, dl_eqRF0, dl_leLT1, dl_leLF1, dl_leRT1, dl_leRF1, dl_ltLT1, dl_ltLF1, dl_ltRT1, dl_ltRF1, dl_eqRT1, dl_eqRF1, dl_leLT2, dl_leLF2, dl_leRT2, dl_leRF2, dl_ltLT2, dl_ltLF2, dl_ltRT2, dl_ltRF2, dl_eqRT2, dl_eqRF2, dl_leLT3, dl_leLF3, dl_leRT3, dl_leRF3, dl_ltLT3, dl_ltLF3, dl_ltRT3, dl_ltRF3, dl_eqRT3, dl_eqRF3, dl_leLT8, dl_leLF8, dl_leRT8, dl_leRF8, dl_ltLT8, dl_ltLF8, dl_ltRT8, dl_ltRF8, dl_eqRT8, dl_eqRF8, dl_leLT9, dl_leLF9, dl_leRT9, dl_leRF9, dl_ltLT9, dl_ltLF9, dl_ltRT9, dl_ltRF9, dl_eqRT9, dl_eqRF9, dl_leLT16, dl_leLF16, dl_leRT16, dl_leRF16, dl_ltLT16, dl_ltLF16, dl_ltRT16, dl_ltRF16, dl_eqRT16, dl_eqRF16, dl_leLT64, dl_leLF64, dl_leRT64, dl_leRF64, dl_ltLT64, dl_ltLF64, dl_ltRT64, dl_ltRF64, dl_eqRT64, dl_eqRF64, dl_leLT65, dl_leLF65, dl_leRT65, dl_leRF65, dl_ltLT65, dl_ltLF65, dl_ltRT65, dl_ltRF65, dl_eqRT65, dl_eqRF65, g3]
              first | exact Rl | exact ⟨by trivial, Rl⟩
          · simp (disch := omega) only [wpY_literal, nI_clamp, dl_Ar, dl_Au, dl_leT, dl_leF, dl_ltT, dl_ltF, dl_eqT, dl_eqF, nI_add, nI_1, dl_inT, dl_sub, dl_sub1, dl_subm1, forall_eq, true_implies, false_implies, not_true, not_false_iff, true_and, and_true, dl_leLT0, dl_leLF0, dl_leRT0, dl_leRF0, dl_ltLT0, dl_ltLF0, dl_ltRT0, dl_ltRF0, dl_eqRT0, dl_eqRF0, dl_leLT1, dl_leLF1, dl_leRT1, dl_leRF1, dl_ltLT1, dl_ltLF1, dl_ltRT1, dl_ltRF1, dl_eqRT1, dl_eqRF1, dl_leLT2, dl_leLF2, dl_leRT2, dl_leRF2, dl_ltLT2, dl_ltLF2, dl_ltRT2, dl_ltRF2, dl_eqRT2, dl_eqRF2, dl_leLT3, dl_leLF3, dl_leRT3, dl_leRF3, dl_ltLT3, dl_ltLF3, dl_ltRT3, dl_ltRF3, dl_eqRT3, dl_eqRF3, dl_leLT8, dl_leLF8, dl_leRT8, dl_leRF8, dl_ltLT8, dl_ltLF8, dl_ltRT8, dl_ltRF8, dl_eqRT8, dl_eqRF8, dl_leLT9, dl_leLF9, dl_leRT9, dl_leRF9, dl_ltLT9, dl_ltLF9, dl_ltRT9, dl_ltRF9, dl_eqRT9, dl_eqRF9, dl_leLT16, dl_leLF16, dl_leRT16, dl_leRF16, dl_ltLT16, dl_ltLF16, dl_ltRT16, dl_ltRF16, dl_eqRT16, dl_eqRF16, dl_leLT64, dl_leLF64, dl_leRT64, dl_leRF64, dl_ltLT64, dl_ltLF64, dl_ltRT64, dl_ltRF64, dl_eqRT64, dl_eqRF64, dl_leLT65, dl_leLF65, dl_leRT65, dl_leRF65, dl_ltLT65, dl_ltLF65, dl_ltRT65, dl_ltRF65, dl_eqRT65, dl_eqRF65]
            first | exact Rl | exact ⟨by trivial, Rl⟩
        · have k2 : K c = 2 := by omega
          obtain ⟨g1, g2⟩ := Lt.2.2 c hc k2
          have g3 := dl_lsum_get (N := N) hc k2
          have g4 := g2 j h2
          have l1 := Lt.1
          have l2 := Lt.2.1
          simp (disch := omega) only [wX_literal_54, wpY_literal, nI_clamp, dl_Ar, dl_Au, dl_leT, dl_leF, dl_ltT, dl_ltF, dl_eqT, dl_eqF, nI_add, nI_1, dl_inT, dl_sub, dl_sub1, dl_subm1, forall_eq, true_implies, false_implies, not_true, not_false_iff, true_and, and_true, dl_leLT0, dl_leLF0, dl_leRT0, dl_leRF0, dl_ltLT0, dl_ltLF0, dl_ltRT0, dl_ltRF0, dl_eqRT0, dl_eqRF0, dl_leLT1, dl_leLF1, dl_leRT1, dl_leRF1, dl_ltLT1, dl_ltLF1, dl_ltRT1, dl_ltRF1, dl_eqRT1, dl_eqRF1, dl_leLT2, dl_leLF2, dl_leRT2, dl_leRF2, dl_ltLT2, dl_ltLF2, dl_ltRT2, dl_ltRF2, dl_eqRT2, dl_eqRF2, dl_leLT3, dl_leLF3, dl_leRT3, dl_leRF3, dl_ltLT3, dl_ltLF3, dl_ltRT3, dl_ltRF3, dl_eqRT3, dl_eqRF3, dl_leLT8, dl_leLF8, dl_leRT8, dl_leRF8, dl_ltLT8, dl_ltLF8, dl_ltRT8, dl_ltRF8, dl_eqRT8, dl_eqRF8, dl_leLT9, dl_leLF9, dl_leRT9, dl_leRF9, dl_ltLT9, dl_ltLF9, dl_ltRT9, dl_ltRF9, dl_eqRT9, dl_eqRF9, dl_leLT16, dl_leLF16, dl_leRT16, dl_leRF16, dl_ltLT16, dl_ltLF16, dl_ltRT16, dl_ltRF16, dl_eqRT16, dl_eqRF16, dl_leLT64, dl_leLF64, dl_leRT64, dl_leRF64, dl_ltLT64, dl_ltLF64, dl_ltRT64, dl_ltRF64, dl_eqRT64, dl_eqRF64, dl_leLT65, dl_leLF65, dl_leRT65, dl_leRF65, dl_ltLT65, dl_ltLF65, dl_ltRT65, dl_ltRF65, dl_eqRT65, dl_eqRF65, dl_mul64, g4]
          first | exact Rl | exact ⟨by trivial, Rl⟩
      · simp (disch := omega) only [wpY_literal, nI_clamp, dl_Ar, dl_Au, dl_leT, dl_leF, dl_ltT, dl_ltF, dl_eqT, dl_eqF, nI_add, nI_1, dl_inT, dl_sub, dl_sub1, dl_subm1, forall_eq, true_implies, false_implies, not_true, not_false_iff, true_and, and_true, dl_leLT0, dl_leLF0, dl_leRT0, dl_leRF0, dl_ltLT0, dl_ltLF0, dl_ltRT0, dl_ltRF0, dl_eqRT0, dl_eqRF0, dl_leLT1, dl_leLF1, dl_leRT1, dl_leRF1, dl_ltLT1, dl_ltLF1, dl_ltRT1, dl_ltRF1, dl_eqRT1, dl_eqRF1, dl_leLT2, dl_leLF2, dl_leRT2, dl_leRF2, dl_ltLT2, dl_ltLF2, dl_ltRT2, dl_ltRF2, dl_eqRT2, dl_eqRF2, dl_leLT3, dl_leLF3, dl_leRT3, dl_leRF3, dl_ltLT3, dl_ltLF3, dl_ltRT3, dl_ltRF3, dl_eqRT3, dl_eqRF3, dl_leLT8, dl_leLF8, dl_leRT8, dl_leRF8, dl_ltLT8, dl_ltLF8, dl_ltRT8, dl_ltRF8, dl_eqRT8, dl_eqRF8, dl_leLT9, dl_leLF9, dl_leRT9, dl_leRF9, dl_ltLT9, dl_ltLF9, dl_ltRT9, dl_ltRF9, dl_eqRT9, dl_eqRF9, dl_leLT16, dl_leLF16, dl_leRT16, dl_leRF16, dl_ltLT16, dl_ltLF16, dl_ltRT16, dl_ltRF16, dl_eqRT16, dl_eqRF16, dl_leLT64, dl_leLF64, dl_leRT64, dl_leRF64, dl_ltLT64, dl_ltLF64, dl_ltRT64, dl_ltRF64, dl_eqRT64, dl_eqRF64, dl_leLT65, dl_leLF65, dl_leRT65, dl_leRF65, dl_ltLT65, dl_ltLF65, dl_ltRT65, dl_ltRF65, dl_eqRT65, dl_eqRF65]
        first | exact Rl | exact ⟨by trivial, Rl⟩
section
variable {C L ph ol T cnt ls co dn pl dy : Nat} {kp : Int32} {K S D N A bD sq po ws ss bd F P : Nat → Nat} {bu pool bf af cm ed re old nxt dat mk : Nat → Int32}
theorem dl_yslen (post : Int32 → Prop) (hcnt : cnt ≤ 16) (hF : ∀ c, c < cnt → F c < 2147483648) (H : post (nI (1 + dl_s (fun c => if F c = 1 then 4 else 3 + N c) cnt))) : ∃ n, wY_status_141 post (nI C) (nI L) (nI ph) (nI ol) (nI T) (nI cnt) (nI dy) old nxt (dl_A K) (dl_A S) (dl_A D) (dl_A N) dat (dl_A F) (dl_A P) mk n 1 0 := by
  have key : ∀ f c, c ≤ cnt → cnt - c < f → wY_status_141 post (nI C) (nI L) (nI ph) (nI ol) (nI T) (nI cnt) (nI dy) old nxt (dl_A K) (dl_A S) (dl_A D) (dl_A N) dat (dl_A F) (dl_A P) mk f (nI (1 + dl_s (fun c => if F c = 1 then 4 else 3 + N c) c)) (nI c) := by
    intro f
    induction f with
    | zero => intro c _ h; omega
    | succ f ih =>
      intro c h1 h2
      rcases Nat.lt_or_ge c cnt with z | z
      · have hf := hF c z
        have IH := ih (c + 1) z (by omega)
        have e : dl_s (fun c => if F c = 1 then 4 else 3 + N c) (c + 1) = dl_s (fun c => if F c = 1 then 4 else 3 + N c) c + if F c = 1 then 4 else 3 + N c := rfl
        rw [e] at IH
        by_cases q : F c = 1
        · rw [if_pos q, ← Nat.add_assoc] at IH
          simp (disch := omega) only [wY_status_141, nI_clamp, dl_Ar, dl_Au, dl_leT, dl_leF, dl_ltT, dl_ltF, dl_eqT, dl_eqF, nI_add, nI_1, dl_inT, dl_sub, dl_sub1, dl_subm1, forall_eq, true_implies, false_implies, not_true, not_false_iff, true_and, and_true, dl_leLT0, dl_leLF0, dl_leRT0, dl_leRF0, dl_ltLT0, dl_ltLF0, dl_ltRT0, dl_ltRF0, dl_eqRT0, dl_eqRF0, dl_leLT1, dl_leLF1, dl_leRT1, dl_leRF1, dl_ltLT1, dl_ltLF1, dl_ltRT1, dl_ltRF1, dl_eqRT1, dl_eqRF1, dl_leLT2, dl_leLF2, dl_leRT2, dl_leRF2, dl_ltLT2, dl_ltLF2, dl_ltRT2, dl_ltRF2, dl_eqRT2, dl_eqRF2, dl_leLT3, dl_leLF3, dl_leRT3, dl_leRF3, dl_ltLT3, dl_ltLF3, dl_ltRT3, dl_ltRF3, dl_eqRT3, dl_eqRF3, dl_leLT8, dl_leLF8, dl_leRT8, dl_leRF8, dl_ltLT8, dl_ltLF8, dl_ltRT8, dl_ltRF8, dl_eqRT8, dl_eqRF8, dl_leLT9, dl_leLF9, dl_leRT9, dl_leRF9, dl_ltLT9, dl_ltLF9, dl_ltRT9, dl_ltRF9, dl_eqRT9, dl_eqRF9, dl_leLT16, dl_leLF16, dl_leRT16, dl_leRF16, dl_ltLT16, dl_ltLF16, dl_ltRT16, dl_ltRF16, dl_eqRT16, dl_eqRF16, dl_leLT64, dl_leLF64, dl_leRT64, dl_leRF64, dl_ltLT64, dl_ltLF64, dl_ltRT64, dl_ltRF64, dl_eqRT64, dl_eqRF64, dl_leLT65, dl_leLF65, dl_leRT65, dl_leRF65, dl_ltLT65, dl_ltLF65, dl_ltRT65, dl_ltRF65, dl_eqRT65, dl_eqRF65, dl_add4]
          exact IH
        · rw [if_neg q, ← Nat.add_assoc] at IH
          simp (disch := omega) only [wY_status_141, nI_clamp, dl_Ar, dl_Au, dl_leT, dl_leF, dl_ltT, dl_ltF, dl_eqT, dl_eqF, nI_add, nI_1, dl_inT, dl_sub, dl_sub1, dl_subm1, forall_eq, true_implies, false_implies, not_true, not_false_iff, true_and, and_true, dl_leLT0, dl_leLF0, dl_leRT0, dl_leRF0, dl_ltLT0, dl_ltLF0, dl_ltRT0, dl_ltRF0, dl_eqRT0, dl_eqRF0, dl_leLT1, dl_leLF1, dl_leRT1, dl_leRF1, dl_ltLT1, dl_ltLF1, dl_ltRT1, dl_ltRF1, dl_eqRT1, dl_eqRF1, dl_leLT2, dl_leLF2, dl_leRT2, dl_leRF2, dl_ltLT2, dl_ltLF2, dl_ltRT2, dl_ltRF2, dl_eqRT2, dl_eqRF2, dl_leLT3, dl_leLF3, dl_leRT3, dl_leRF3, dl_ltLT3, dl_ltLF3, dl_ltRT3, dl_ltRF3, dl_eqRT3, dl_eqRF3, dl_leLT8, dl_leLF8, dl_leRT8, dl_leRF8, dl_ltLT8, dl_ltLF8, dl_ltRT8, dl_ltRF8, dl_eqRT8, dl_eqRF8, dl_leLT9, dl_leLF9, dl_leRT9, dl_leRF9, dl_ltLT9, dl_ltLF9, dl_ltRT9, dl_ltRF9, dl_eqRT9, dl_eqRF9, dl_leLT16, dl_leLF16, dl_leRT16, dl_leRF16, dl_ltLT16, dl_ltLF16, dl_ltRT16, dl_ltRF16, dl_eqRT16, dl_eqRF16, dl_leLT64, dl_leLF64, dl_leRT64, dl_leRF64, dl_ltLT64, dl_ltLF64, dl_ltRT64, dl_ltRF64, dl_eqRT64, dl_eqRF64, dl_leLT65, dl_leLF65, dl_leRT65, dl_leRF65, dl_ltLT65, dl_ltLF65, dl_ltRT65, dl_ltRF65, dl_eqRT65, dl_eqRF65, dl_3add]
          exact IH
      · have e : c = cnt := by omega
        subst e
        simp (disch := omega) only [wY_status_141, nI_clamp, dl_Ar, dl_Au, dl_leT, dl_leF, dl_ltT, dl_ltF, dl_eqT, dl_eqF, nI_add, nI_1, dl_inT, dl_sub, dl_sub1, dl_subm1, forall_eq, true_implies, false_implies, not_true, not_false_iff, true_and, and_true, dl_leLT0, dl_leLF0, dl_leRT0, dl_leRF0, dl_ltLT0, dl_ltLF0, dl_ltRT0, dl_ltRF0, dl_eqRT0, dl_eqRF0, dl_leLT1, dl_leLF1, dl_leRT1, dl_leRF1, dl_ltLT1, dl_ltLF1, dl_ltRT1, dl_ltRF1, dl_eqRT1, dl_eqRF1, dl_leLT2, dl_leLF2, dl_leRT2, dl_leRF2, dl_ltLT2, dl_ltLF2, dl_ltRT2, dl_ltRF2, dl_eqRT2, dl_eqRF2, dl_leLT3, dl_leLF3, dl_leRT3, dl_leRF3, dl_ltLT3, dl_ltLF3, dl_ltRT3, dl_ltRF3, dl_eqRT3, dl_eqRF3, dl_leLT8, dl_leLF8, dl_leRT8, dl_leRF8, dl_ltLT8, dl_ltLF8, dl_ltRT8, dl_ltRF8, dl_eqRT8, dl_eqRF8, dl_leLT9, dl_leLF9, dl_leRT9, dl_leRF9, dl_ltLT9, dl_ltLF9, dl_ltRT9, dl_ltRF9, dl_eqRT9, dl_eqRF9, dl_leLT16, dl_leLF16, dl_leRT16, dl_leRF16, dl_ltLT16, dl_ltLF16, dl_ltRT16, dl_ltRF16, dl_eqRT16, dl_eqRF16, dl_leLT64, dl_leLF64, dl_leRT64, dl_leRF64, dl_ltLT64, dl_ltLF64, dl_ltRT64, dl_ltRF64, dl_eqRT64, dl_eqRF64, dl_leLT65, dl_leLF65, dl_leRT65, dl_leRF65, dl_ltLT65, dl_ltLF65, dl_ltRT65, dl_ltRF65, dl_eqRT65, dl_eqRF65]
        exact H
  exact ⟨cnt + 1, key _ 0 (by omega) (by omega)⟩
theorem dl_xcb (post : Int32 → Prop) {x : Int32} (H : post (nI (dl_s (fun j => if bt x j = true then 1 else 0) 16))) : wpX_countBits post (nI C, nI L, nI ph, nI ol, nI T, nI cnt, nI ls, nI co, kp, nI dn, nI pl, bu, dl_A K, dl_A S, dl_A D, dl_A N, dl_A A, pool, dl_A bD, bf, af, cm, dl_A sq, dl_A po, dl_A ws, dl_A ss, ed, re, dl_A bd) x := by
  have key : ∀ f b, b ≤ 16 → 16 - b < f → wX_countBits_4 post x (nI C) (nI L) (nI ph) (nI ol) (nI T) (nI cnt) (nI ls) (nI co) kp (nI dn) (nI pl) bu (dl_A K) (dl_A S) (dl_A D) (dl_A N) (dl_A A) pool (dl_A bD) bf af cm (dl_A sq) (dl_A po) (dl_A ws) (dl_A ss) ed re (dl_A bd) f (nI (dl_s (fun j => if bt x j = true then 1 else 0) b)) (nI b) := by
    intro f
    induction f with
    | zero => intro b _ h; omega
    | succ f ih =>
      intro b h1 h2
      rcases Nat.lt_or_ge b 16 with z | z
      · simp (disch := omega) only [wX_countBits_4, nI_clamp, dl_Ar, dl_Au, dl_leT, dl_leF, dl_ltT, dl_ltF, dl_eqT, dl_eqF, nI_add, nI_1, dl_inT, dl_sub, dl_sub1, dl_subm1, forall_eq, true_implies, false_implies, not_true, not_false_iff, true_and, and_true, dl_leLT0, dl_leLF0, dl_leRT0, dl_leRF0, dl_ltLT0, dl_ltLF0, dl_ltRT0, dl_ltRF0, dl_eqRT0, dl_eqRF0, dl_leLT1, dl_leLF1, dl_leRT1, dl_leRF1, dl_ltLT1, dl_ltLF1, dl_ltRT1, dl_ltRF1, dl_eqRT1, dl_eqRF1, dl_leLT2, dl_leLF2, dl_leRT2, dl_leRF2, dl_ltLT2, dl_ltLF2, dl_ltRT2, dl_ltRF2, dl_eqRT2, dl_eqRF2, dl_leLT3, dl_leLF3, dl_leRT3, dl_leRF3, dl_ltLT3, dl_ltLF3, dl_ltRT3, dl_ltRF3, dl_eqRT3, dl_eqRF3, dl_leLT8, dl_leLF8, dl_leRT8, dl_leRF8, dl_ltLT8, dl_ltLF8, dl_ltRT8, dl_ltRF8, dl_eqRT8, dl_eqRF8, dl_leLT9, dl_leLF9, dl_leRT9, dl_leRF9, dl_ltLT9, dl_ltLF9, dl_ltRT9, dl_ltRF9, dl_eqRT9, dl_eqRF9, dl_leLT16, dl_leLF16, dl_leRT16, dl_leRF16, dl_ltLT16, dl_ltLF16, dl_ltRT16, dl_ltRF16, dl_eqRT16, dl_eqRF16, dl_leLT64, dl_leLF64, dl_leRT64, dl_leRF64, dl_ltLT64, dl_ltLF64, dl_ltRT64, dl_ltRF64, dl_eqRT64, dl_eqRF64, dl_leLT65, dl_leLF65, dl_leRT65, dl_leRF65, dl_ltLT65, dl_ltLF65, dl_ltRT65, dl_ltRF65, dl_eqRT65, dl_eqRF65, dl_bit1]
        exact ih (b + 1) z (by omega)
      · have e : b = 16 := by omega
        subst e
        simp (disch := omega) only [wX_countBits_4, nI_clamp, dl_Ar, dl_Au, dl_leT, dl_leF, dl_ltT, dl_ltF, dl_eqT, dl_eqF, nI_add, nI_1, dl_inT, dl_sub, dl_sub1, dl_subm1, forall_eq, true_implies, false_implies, not_true, not_false_iff, true_and, and_true, dl_leLT0, dl_leLF0, dl_leRT0, dl_leRF0, dl_ltLT0, dl_ltLF0, dl_ltRT0, dl_ltRF0, dl_eqRT0, dl_eqRF0, dl_leLT1, dl_leLF1, dl_leRT1, dl_leRF1, dl_ltLT1, dl_ltLF1, dl_ltRT1, dl_ltRF1, dl_eqRT1, dl_eqRF1, dl_leLT2, dl_leLF2, dl_leRT2, dl_leRF2, dl_ltLT2, dl_ltLF2, dl_ltRT2, dl_ltRF2, dl_eqRT2, dl_eqRF2, dl_leLT3, dl_leLF3, dl_leRT3, dl_leRF3, dl_ltLT3, dl_ltLF3, dl_ltRT3, dl_ltRF3, dl_eqRT3, dl_eqRF3, dl_leLT8, dl_leLF8, dl_leRT8, dl_leRF8, dl_ltLT8, dl_ltLF8, dl_ltRT8, dl_ltRF8, dl_eqRT8, dl_eqRF8, dl_leLT9, dl_leLF9, dl_leRT9, dl_leRF9, dl_ltLT9, dl_ltLF9, dl_ltRT9, dl_ltRF9, dl_eqRT9, dl_eqRF9, dl_leLT16, dl_leLF16, dl_leRT16, dl_leRF16, dl_ltLT16, dl_ltLF16, dl_ltRT16, dl_ltRF16, dl_eqRT16, dl_eqRF16, dl_leLT64, dl_leLF64, dl_leRT64, dl_leRF64, dl_ltLT64, dl_ltLF64, dl_ltRT64, dl_ltRF64, dl_eqRT64, dl_eqRF64, dl_leLT65, dl_leLF65, dl_leRT65, dl_leRF65, dl_ltLT65, dl_ltLF65, dl_ltRT65, dl_ltRF65, dl_eqRT65, dl_eqRF65]
        exact H
  exact ⟨17, key _ 0 (by omega) (by omega)⟩
end
theorem i_vc_status {k : Nat} {u : SX} {v : SY} (I : i_Rel k u v) (hk : k + 5 ≤ 2562) (v1 : Int32) : wpX_status (fun r => wpY_status (fun r' => r' = r ∧ i_Rel (k + 5) u v) v v1) u v1 := by
  refine dl_el (Q := fun u v => wpX_status (fun r => wpY_status (fun r' => r' = r ∧ i_Rel (k + 5) u v) v v1) u v1) I ?_
  intro C L ph ol T cnt ls co dn pl dy kp K S D N A bD sq po ws ss bd F P bu pool bf af cm ed re old nxt dat mk hI
  have Rl := dl_mk (af := af) (ed := ed) (re := re) (nxt := nxt) (mk := mk) (bd := bd) (k + 5) hI
  obtain ⟨a1, B, Lt, a4, a5⟩ := hI
  have B' := B
  obtain ⟨b1, b2, b3, b4, b5, b6, b7, b8⟩ := B'
  have hcnt : cnt ≤ 16 := by omega
  have hK : ∀ c, c < cnt → K c < 2147483648 := fun c hc => by have := (b8 c hc).2.2; omega
  have l1 := Lt.1
  have ylit : ∀ (post : Int32 → Prop), post (nI ls) → wpY_literals post (nI C, nI L, nI ph, nI ol, nI T, nI cnt, nI dy, old, nxt, dl_A K, dl_A S, dl_A D, dl_A N, dat, dl_A F, dl_A P, mk) := fun post h => dl_ylits post hcnt hK (by rw [← l1]; exact h)
  have main : ∀ z, ((ph = 1 ∧ z = 1) ∨ (ph = 0 ∧ z = 0)) → wX_status_13 (fun r => wpY_status (fun r' => r' = r ∧ i_Rel (k + 5) (nI C, nI L, nI ph, nI ol, nI T, nI cnt, nI ls, nI co, kp, nI dn, nI pl, bu, dl_A K, dl_A S, dl_A D, dl_A N, dl_A A, pool, dl_A bD, bf, af, cm, dl_A sq, dl_A po, dl_A ws, dl_A ss, ed, re, dl_A bd) (nI C, nI L, nI ph, nI ol, nI T, nI cnt, nI dy, old, nxt, dl_A K, dl_A S, dl_A D, dl_A N, dat, dl_A F, dl_A P, mk)) (nI C, nI L, nI ph, nI ol, nI T, nI cnt, nI dy, old, nxt, dl_A K, dl_A S, dl_A D, dl_A N, dat, dl_A F, dl_A P, mk) v1) v1 (nI z) (nI C) (nI L) (nI ph) (nI ol) (nI T) (nI cnt) (nI ls) (nI co) kp (nI dn) (nI pl) bu (dl_A K) (dl_A S) (dl_A D) (dl_A N) (dl_A A) pool (dl_A bD) bf af cm (dl_A sq) (dl_A po) (dl_A ws) (dl_A ss) ed re (dl_A bd) := fun z hz => by
    unfold wX_status_13 wpY_status
    by_cases n0 : v1 < 0
    · refine br_t n0 ?_
      have g : ∀ c : Int32, 0 ≤ c → ¬ v1 = c := fun c hc e => absurd (Int32.lt_of_le_of_lt hc (e ▸ n0)) (by decide)
      exact br_f (g 0 (by decide)) (br_f (g 1 (by decide)) (br_f (g 2 (by decide)) (br_f (g 3 (by decide)) (br_f (g 4 (by decide)) (br_f (g 5 (by decide)) (br_f (g 6 (by decide)) (br_f (g 7 (by decide)) (br_f (g 8 (by decide)) (br_f (g 9 (by decide)) ⟨rfl, Rl⟩)))))))))
    · refine br_f n0 ?_
      by_cases n9 : 9 < v1
      · refine br_t n9 ?_
        have g : ∀ c : Int32, ¬ 9 < c → ¬ v1 = c := fun c hc e => hc (e ▸ n9)
        exact br_f (g 0 (by decide)) (br_f (g 1 (by decide)) (br_f (g 2 (by decide)) (br_f (g 3 (by decide)) (br_f (g 4 (by decide)) (br_f (g 5 (by decide)) (br_f (g 6 (by decide)) (br_f (g 7 (by decide)) (br_f (g 8 (by decide)) (br_f (g 9 (by decide)) ⟨rfl, Rl⟩)))))))))
      · refine br_f n9 ?_
        by_cases e0 : v1 = 0
        · exact br_t e0 (br_t e0 ⟨rfl, Rl⟩)
        refine br_f e0 ?_
        by_cases e1 : v1 = 1
        · exact br_t e1 (br_f e0 (br_t e1 ⟨rfl, Rl⟩))
        refine br_f e1 ?_
        by_cases e2 : v1 = 2
        · exact br_t e2 (br_f e0 (br_f e1 (br_t e2 ⟨rfl, Rl⟩)))
        refine br_f e2 ?_
        by_cases e3 : v1 = 3
        · exact br_t e3 (br_f e0 (br_f e1 (br_f e2 (br_t e3 ⟨rfl, Rl⟩))))
        refine br_f e3 ?_
        by_cases e4 : v1 = 4
        · exact br_t e4 (br_f e0 (br_f e1 (br_f e2 (br_f e3 (br_t e4 ⟨rfl, Rl⟩)))))
        refine br_f e4 ?_
        by_cases e5 : v1 = 5
        · exact br_t e5 (br_f e0 (br_f e1 (br_f e2 (br_f e3 (br_f e4 (br_t e5 ⟨rfl, Rl⟩))))))
        refine br_f e5 ?_
        by_cases e6 : v1 = 6
        · exact br_t e6 (br_f e0 (br_f e1 (br_f e2 (br_f e3 (br_f e4 (br_f e5 (br_t e6 (ylit _ ⟨rfl, Rl⟩))))))))
        refine br_f e6 ?_
        have yp : ∀ {Q : Prop}, Q → Q := fun q => q
        rcases hz with ⟨p1, hz⟩ | ⟨p0, hz⟩
        · subst hz
          obtain ⟨ed0, wr, m, Pn, Dn⟩ := a5 p1
          subst ed0
          have hF : ∀ c, c < cnt → F c < 2147483648 := fun c hc => by have := Pn.2.2.2.2.2.1 c hc; omega
          have Pi := Pn.2.2.2.2.2.2.1
          have hph : nI ph = 1 := by rw [p1]; rfl
          by_cases e7 : v1 = 7
          · refine br_t e7 (br_f (by decide) (br_f e0 (br_f e1 (br_f e2 (br_f e3 (br_f e4 (br_f e5 (br_f e6 (br_t e7 (br_t hph ?_)))))))))) 
            refine dl_ycost _ hcnt hF ⟨?_, Rl⟩
            rw [Pn.2.2.2.2.2.2.2.2.2.1]
          refine br_f e7 ?_
          by_cases e8 : v1 = 8
          · exact br_t e8 (br_f (by decide) (br_f e0 (br_f e1 (br_f e2 (br_f e3 (br_f e4 (br_f e5 (br_f e6 (br_f e7 (br_t e8 (br_t hph ⟨rfl, Rl⟩)))))))))))
          refine br_f e8 ?_
          by_cases e9 : v1 = 9
          · refine br_t e9 (br_f (by decide) ⟨vp_in_nI (by omega) (by omega), (br_f e0 (br_f e1 (br_f e2 (br_f e3 (br_f e4 (br_f e5 (br_f e6 (br_f e7 (br_f e8 (br_t e9 (br_t hph ?_)))))))))))⟩)
            refine dl_yslen _ hcnt hF ⟨?_, Rl⟩
            rw [nI_clamp (by omega), dl_Ar, nI_1, (Pn.2.2.2.2.2.2.2.2.1 cnt (Nat.le_refl _)).2]
            unfold dl_Z
            rw [dl_s_perm (f := fun c => if F c = 1 then 4 else 3 + N c) Pi.1 Pi.2.1, Nat.add_comm]
          exact br_f e9 trivial
        · subst hz
          have hph : ¬ nI ph = 1 := by rw [p0]; decide
          by_cases e7 : v1 = 7
          · exact br_t e7 (br_t rfl (br_f e0 (br_f e1 (br_f e2 (br_f e3 (br_f e4 (br_f e5 (br_f e6 (br_t e7 (br_f hph ⟨rfl, Rl⟩))))))))))
          refine br_f e7 ?_
          by_cases e8 : v1 = 8
          · exact br_t e8 (br_t rfl (br_f e0 (br_f e1 (br_f e2 (br_f e3 (br_f e4 (br_f e5 (br_f e6 (br_f e7 (br_t e8 (br_f hph ⟨rfl, Rl⟩)))))))))))
          refine br_f e8 ?_
          by_cases e9 : v1 = 9
          · exact br_t e9 (br_t rfl (br_f e0 (br_f e1 (br_f e2 (br_f e3 (br_f e4 (br_f e5 (br_f e6 (br_f e7 (br_f e8 (br_t e9 (br_f hph ⟨rfl, Rl⟩))))))))))))
          exact br_f e9 trivial
  unfold wpX_status
  by_cases p1 : ph = 1
  · exact br_t (by rw [p1]; rfl) (main 1 (Or.inl ⟨p1, rfl⟩))
  · exact br_f (by rw [show ph = 0 by omega]; decide) (main 0 (Or.inr ⟨by omega, rfl⟩))
end
section
theorem dl_n_ext {P : Nat → Prop} {n : Nat} : ∀ {d : Nat}, (∀ k, n ≤ k → k < n + d → ¬ P k) → dl_n P (n + d) = dl_n P n
  | 0, _ => rfl
  | d + 1, h => by
    have a := dl_n_ext (P := P) (n := n) (d := d) (fun k h1 h2 => h k h1 (by omega))
    show dl_n P (n + d) + dl_b (P (n + d)) = dl_n P n
    rw [a, dl_b_f (h (n + d) (by omega) (by omega)), Nat.add_zero]
theorem dl_Tr_K {cnt : Nat} {K S D N : Nat → Nat} {Q : Nat → Prop} {a b : Nat} (h : dl_Rc (dl_R cnt K S D N) Q a b) : K b = 1 := (dl_Rc_e h).elim fun _ r => r.2.2.2.2.1
section
variable {C L ph ol T cnt ls co dn pl dy : Nat} {kp : Int32} {K S D N A bD sq po ws ss bd F P : Nat → Nat} {bu pool bf af cm ed re old nxt dat mk : Nat → Int32}
theorem dl_yk38 (post : Int32 → SY → Prop) (B : dl_Bs C L ol T cnt K S D N) (hF : ∀ c, c < cnt → F c < 2147483648) {c : Nat} (hc : c < cnt)
    (H : ∀ mk', post (nI (1 + dl_n (fun j => j ≠ c ∧ dl_Tr (dl_R cnt K S D N) c j ∧ dl_Tr (dl_R cnt K S D N) j c) cnt)) (nI C, nI L, nI ph, nI ol, nI T, nI cnt, nI dy, old, nxt, dl_A K, dl_A S, dl_A D, dl_A N, dat, dl_A F, dl_A P, mk')) :
    ∀ f x mk', x ≤ cnt → cnt - x < f → wY_knot_38 post (nI c) f (nI (1 + dl_n (fun j => j ≠ c ∧ dl_Tr (dl_R cnt K S D N) c j ∧ dl_Tr (dl_R cnt K S D N) j c) x)) (nI x) (nI C) (nI L) (nI ph) (nI ol) (nI T) (nI cnt) (nI dy) old nxt (dl_A K) (dl_A S) (dl_A D) (dl_A N) dat (dl_A F) (dl_A P) mk' := by
  intro f
  have B' := B
  obtain ⟨b1, b2, b3, b4, b5, b6, b7, b8⟩ := B'
  induction f with
  | zero => intro x mk' _ h; omega
  | succ f ih =>
    intro x mk' h1 h2
    rcases Nat.lt_or_ge x cnt with z | z
    · have hk : K x < 2147483648 := by have := (b8 x z).2.2; omega
      have no : ¬ (x ≠ c ∧ dl_Tr (dl_R cnt K S D N) c x ∧ dl_Tr (dl_R cnt K S D N) x c) → ∀ mk', wY_knot_38 post (nI c) f (nI (1 + dl_n (fun j => j ≠ c ∧ dl_Tr (dl_R cnt K S D N) c j ∧ dl_Tr (dl_R cnt K S D N) j c) x)) (nI (x + 1)) (nI C) (nI L) (nI ph) (nI ol) (nI T) (nI cnt) (nI dy) old nxt (dl_A K) (dl_A S) (dl_A D) (dl_A N) dat (dl_A F) (dl_A P) mk' := fun o mk' => by
        have IH := ih (x + 1) mk' z (by omega)
        rw [dl_n_succ, dl_b_f o] at IH
        exact IH
      by_cases e : x = c
      · simp (disch := omega) only [wY_knot_38, nI_clamp, dl_Ar, dl_Au, dl_leT, dl_leF, dl_ltT, dl_ltF, dl_eqT, dl_eqF, nI_add, nI_1, dl_inT, dl_sub, dl_sub1, dl_subm1, forall_eq, true_implies, false_implies, not_true, not_false_iff, true_and, and_true, dl_leLT0, dl_leLF0, dl_leRT0, dl_leRF0, dl_ltLT0, dl_ltLF0, dl_ltRT0, dl_ltRF0, dl_eqRT0, dl_eqRF0, dl_leLT1, dl_leLF1, dl_leRT1, dl_leRF1, dl_ltLT1, dl_ltLF1, dl_ltRT1, dl_ltRF1, dl_eqRT1, dl_eqRF1, dl_leLT2, dl_leLF2, dl_leRT2, dl_leRF2, dl_ltLT2, dl_ltLF2, dl_ltRT2, dl_ltRF2, dl_eqRT2, dl_eqRF2, dl_leLT3, dl_leLF3, dl_leRT3, dl_leRF3, dl_ltLT3, dl_ltLF3, dl_ltRT3, dl_ltRF3, dl_eqRT3, dl_eqRF3, dl_leLT8, dl_leLF8, dl_leRT8, dl_leRF8, dl_ltLT8, dl_ltLF8, dl_ltRT8, dl_ltRF8, dl_eqRT8, dl_eqRF8, dl_leLT9, dl_leLF9, dl_leRT9, dl_leRF9, dl_ltLT9, dl_ltLF9, dl_ltRT9, dl_ltRF9, dl_eqRT9, dl_eqRF9, dl_leLT16, dl_leLF16, dl_leRT16, dl_leRF16, dl_ltLT16, dl_ltLF16, dl_ltRT16, dl_ltRF16, dl_eqRT16, dl_eqRF16, dl_leLT64, dl_leLF64, dl_leRT64, dl_leRF64, dl_ltLT64, dl_ltLF64, dl_ltRT64, dl_ltRF64, dl_eqRT64, dl_eqRF64, dl_leLT65, dl_leLF65, dl_leRT65, dl_leRF65, dl_ltLT65, dl_ltLF65, dl_ltRT65, dl_ltRF65, dl_eqRT65, dl_eqRF65]
        exact no (fun w => w.1 e) mk'
      · by_cases k1 : K x = 1
        · simp (disch := omega) only [wY_knot_38, nI_clamp, dl_Ar, dl_Au, dl_leT, dl_leF, dl_ltT, dl_ltF, dl_eqT, dl_eqF, nI_add, nI_1, dl_inT, dl_sub, dl_sub1, dl_subm1, forall_eq, true_implies, false_implies, not_true, not_false_iff, true_and, and_true, dl_leLT0, dl_leLF0, dl_leRT0, dl_leRF0, dl_ltLT0, dl_ltLF0, dl_ltRT0, dl_ltRF0, dl_eqRT0, dl_eqRF0, dl_leLT1, dl_leLF1, dl_leRT1, dl_leRF1, dl_ltLT1, dl_ltLF1, dl_ltRT1, dl_ltRF1, dl_eqRT1, dl_eqRF1, dl_leLT2, dl_leLF2, dl_leRT2, dl_leRF2, dl_ltLT2, dl_ltLF2, dl_ltRT2, dl_ltRF2, dl_eqRT2, dl_eqRF2, dl_leLT3, dl_leLF3, dl_leRT3, dl_leRF3, dl_ltLT3, dl_ltLF3, dl_ltRT3, dl_ltRF3, dl_eqRT3, dl_eqRF3, dl_leLT8, dl_leLF8, dl_leRT8, dl_leRF8, dl_ltLT8, dl_ltLF8, dl_ltRT8, dl_ltRF8, dl_eqRT8, dl_eqRF8, dl_leLT9, dl_leLF9, dl_leRT9, dl_leRF9, dl_ltLT9, dl_ltLF9, dl_ltRT9, dl_ltRF9, dl_eqRT9, dl_eqRF9, dl_leLT16, dl_leLF16, dl_leRT16, dl_leRF16, dl_ltLT16, dl_ltLF16, dl_ltRT16, dl_ltRF16, dl_eqRT16, dl_eqRF16, dl_leLT64, dl_leLF64, dl_leRT64, dl_leRF64, dl_ltLT64, dl_ltLF64, dl_ltRT64, dl_ltRF64, dl_eqRT64, dl_eqRF64, dl_leLT65, dl_leLF65, dl_leRT65, dl_leRF65, dl_ltLT65, dl_ltLF65, dl_ltRT65, dl_ltRF65, dl_eqRT65, dl_eqRF65]
          have cl : ∀ a b, dl_Cl (dl_R cnt K S D N) (fun y => 0 = 0 ∨ F y = 1) a b ↔ dl_Tr (dl_R cnt K S D N) a b := fun a b => dl_Cl_Tr (fun y => Or.inl rfl)
          refine dl_ych (ko := 0) _ B hc z (by omega) hF (fun q1 mk1 => ?_) (fun q1 mk1 => ?_)
          · refine dl_ych (ko := 0) _ B z hc (by omega) hF (fun q2 mk2 => ?_) (fun q2 mk2 => ?_)
            · refine br_f (by decide) (br_f (by decide) ?_)
              have IH := ih (x + 1) mk2 z (by omega)
              rw [dl_n_succ, dl_b_t ⟨e, (cl _ _).mp q1, (cl _ _).mp q2⟩, ← Nat.add_assoc] at IH
              exact IH
            · refine br_f (by decide) (br_t rfl ?_)
              exact no (fun w => q2 ((cl _ _).mpr w.2.2)) mk2
          · refine dl_ych (ko := 0) _ B z hc (by omega) hF (fun q2 mk2 => ?_) (fun q2 mk2 => ?_)
            · exact br_t rfl (no (fun w => q1 ((cl _ _).mpr w.2.1)) mk2)
            · exact br_t rfl (no (fun w => q1 ((cl _ _).mpr w.2.1)) mk2)
        · simp (disch := omega) only [wY_knot_38, nI_clamp, dl_Ar, dl_Au, dl_leT, dl_leF, dl_ltT, dl_ltF, dl_eqT, dl_eqF, nI_add, nI_1, dl_inT, dl_sub, dl_sub1, dl_subm1, forall_eq, true_implies, false_implies, not_true, not_false_iff, true_and, and_true, dl_leLT0, dl_leLF0, dl_leRT0, dl_leRF0, dl_ltLT0, dl_ltLF0, dl_ltRT0, dl_ltRF0, dl_eqRT0, dl_eqRF0, dl_leLT1, dl_leLF1, dl_leRT1, dl_leRF1, dl_ltLT1, dl_ltLF1, dl_ltRT1, dl_ltRF1, dl_eqRT1, dl_eqRF1, dl_leLT2, dl_leLF2, dl_leRT2, dl_leRF2, dl_ltLT2, dl_ltLF2, dl_ltRT2, dl_ltRF2, dl_eqRT2, dl_eqRF2, dl_leLT3, dl_leLF3, dl_leRT3, dl_leRF3, dl_ltLT3, dl_ltLF3, dl_ltRT3, dl_ltRF3, dl_eqRT3, dl_eqRF3, dl_leLT8, dl_leLF8, dl_leRT8, dl_leRF8, dl_ltLT8, dl_ltLF8, dl_ltRT8, dl_ltRF8, dl_eqRT8, dl_eqRF8, dl_leLT9, dl_leLF9, dl_leRT9, dl_leRF9, dl_ltLT9, dl_ltLF9, dl_ltRT9, dl_ltRF9, dl_eqRT9, dl_eqRF9, dl_leLT16, dl_leLF16, dl_leRT16, dl_leRF16, dl_ltLT16, dl_ltLF16, dl_ltRT16, dl_ltRF16, dl_eqRT16, dl_eqRF16, dl_leLT64, dl_leLF64, dl_leRT64, dl_leRF64, dl_ltLT64, dl_ltLF64, dl_ltRT64, dl_ltRF64, dl_eqRT64, dl_eqRF64, dl_leLT65, dl_leLF65, dl_leRT65, dl_leRF65, dl_ltLT65, dl_ltLF65, dl_ltRT65, dl_ltRF65, dl_eqRT65, dl_eqRF65]
          exact no (fun w => k1 (dl_Tr_K w.2.1)) mk'
    · have e : x = cnt := by omega
      subst e
      simp (disch := omega) only [wY_knot_38, nI_clamp, dl_Ar, dl_Au, dl_leT, dl_leF, dl_ltT, dl_ltF, dl_eqT, dl_eqF, nI_add, nI_1, dl_inT, dl_sub, dl_sub1, dl_subm1, forall_eq, true_implies, false_implies, not_true, not_false_iff, true_and, and_true, dl_leLT0, dl_leLF0, dl_leRT0, dl_leRF0, dl_ltLT0, dl_ltLF0, dl_ltRT0, dl_ltRF0, dl_eqRT0, dl_eqRF0, dl_leLT1, dl_leLF1, dl_leRT1, dl_leRF1, dl_ltLT1, dl_ltLF1, dl_ltRT1, dl_ltRF1, dl_eqRT1, dl_eqRF1, dl_leLT2, dl_leLF2, dl_leRT2, dl_leRF2, dl_ltLT2, dl_ltLF2, dl_ltRT2, dl_ltRF2, dl_eqRT2, dl_eqRF2, dl_leLT3, dl_leLF3, dl_leRT3, dl_leRF3, dl_ltLT3, dl_ltLF3, dl_ltRT3, dl_ltRF3, dl_eqRT3, dl_eqRF3, dl_leLT8, dl_leLF8, dl_leRT8, dl_leRF8, dl_ltLT8, dl_ltLF8, dl_ltRT8, dl_ltRF8, dl_eqRT8, dl_eqRF8, dl_leLT9, dl_leLF9, dl_leRT9, dl_leRF9, dl_ltLT9, dl_ltLF9, dl_ltRT9, dl_ltRF9, dl_eqRT9, dl_eqRF9, dl_leLT16, dl_leLF16, dl_leRT16, dl_leRF16, dl_ltLT16, dl_ltLF16, dl_ltRT16, dl_ltRF16, dl_eqRT16, dl_eqRF16, dl_leLT64, dl_leLF64, dl_leRT64, dl_leRF64, dl_ltLT64, dl_ltLF64, dl_ltRT64, dl_ltRF64, dl_eqRT64, dl_eqRF64, dl_leLT65, dl_leLF65, dl_leRT65, dl_leRF65, dl_ltLT65, dl_ltLF65, dl_ltRT65, dl_ltRF65, dl_eqRT65, dl_eqRF65]
      exact H mk'
end
theorem i_vc_knot {k : Nat} {u : SX} {v : SY} (I : i_Rel k u v) (hk : k + 5 ≤ 2562) (v1 : Int32) : wpX_knot (fun r => wpY_knot (fun r' v' => r' = r ∧ i_Rel (k + 5) u v') v v1) u v1 := by
  refine dl_el (Q := fun u v => wpX_knot (fun r => wpY_knot (fun r' v' => r' = r ∧ i_Rel (k + 5) u v') v v1) u v1) I ?_
  intro C L ph ol T cnt ls co dn pl dy kp K S D N A bD sq po ws ss bd F P bu pool bf af cm ed re old nxt dat mk hI
  have Rl := fun mk' => dl_mk (af := af) (ed := ed) (re := re) (nxt := nxt) (mk := mk') (bd := bd) (k + 5) hI
  obtain ⟨a1, B, Lt, a4, a5⟩ := hI
  have B' := B
  obtain ⟨b1, b2, b3, b4, b5, b6, b7, b8⟩ := B'
  have hcnt : cnt ≤ 16 := by omega
  by_cases p1 : ph = 1
  · obtain ⟨ed0, wr, m, Pn, Dn⟩ := a5 p1
    have hph : nI ph = 1 := by rw [p1]; rfl
    unfold wpX_knot
    refine br_t hph ?_
    rcases dl_ix (x := v1) hcnt with h | ⟨h0, h1, h2⟩ | ⟨c, hc, rfl⟩
    · refine dl_xic0 _ hcnt (Or.inl h) (br_t rfl ?_)
      exact br_t hph (br_t h ⟨rfl, Rl mk⟩)
    · refine dl_xic0 _ hcnt (Or.inr h1) (br_t rfl ?_)
      exact br_t hph (br_f h0 (br_f h2 ⟨rfl, Rl mk⟩))
    · have hf := Pn.2.2.2.2.2.1
      have hF : ∀ c, c < cnt → F c < 2147483648 := fun c hc => by have := hf c hc; omega
      have CC := Pn.2.2.2.1
      refine dl_xic1 _ hcnt hc (br_f (by decide) ⟨vp_in_nI (by omega) (by omega), ?_⟩)
      rw [nI_clamp (by omega)]
      refine dl_xcb _ ?_
      have kc := hf c hc
      unfold wpY_knot
      refine br_t hph (br_f (nI_pos (by omega)) (br_t (nI_lt hc (by omega)) ?_))
      by_cases k2 : K c = 2
      · simp (disch := omega) only [nI_clamp, dl_Ar, dl_Au, dl_leT, dl_leF, dl_ltT, dl_ltF, dl_eqT, dl_eqF, nI_add, nI_1, dl_inT, dl_sub, dl_sub1, dl_subm1, forall_eq, true_implies, false_implies, not_true, not_false_iff, true_and, and_true, dl_leLT0, dl_leLF0, dl_leRT0, dl_leRF0, dl_ltLT0, dl_ltLF0, dl_ltRT0, dl_ltRF0, dl_eqRT0, dl_eqRF0, dl_leLT1, dl_leLF1, dl_leRT1, dl_leRF1, dl_ltLT1, dl_ltLF1, dl_ltRT1, dl_ltRF1, dl_eqRT1, dl_eqRF1, dl_leLT2, dl_leLF2, dl_leRT2, dl_leRF2, dl_ltLT2, dl_ltLF2, dl_ltRT2, dl_ltRF2, dl_eqRT2, dl_eqRF2, dl_leLT3, dl_leLF3, dl_leRT3, dl_leRF3, dl_ltLT3, dl_ltLF3, dl_ltRT3, dl_ltRF3, dl_eqRT3, dl_eqRF3, dl_leLT8, dl_leLF8, dl_leRT8, dl_leRF8, dl_ltLT8, dl_ltLF8, dl_ltRT8, dl_ltRF8, dl_eqRT8, dl_eqRF8, dl_leLT9, dl_leLF9, dl_leRT9, dl_leRF9, dl_ltLT9, dl_ltLF9, dl_ltRT9, dl_ltRF9, dl_eqRT9, dl_eqRF9, dl_leLT16, dl_leLF16, dl_leRT16, dl_leRF16, dl_ltLT16, dl_ltLF16, dl_ltRT16, dl_ltRF16, dl_eqRT16, dl_eqRF16, dl_leLT64, dl_leLF64, dl_leRT64, dl_leRF64, dl_ltLT64, dl_ltLF64, dl_ltRT64, dl_ltRF64, dl_eqRT64, dl_eqRF64, dl_leLT65, dl_leLF65, dl_leRT65, dl_leRF65, dl_ltLT65, dl_ltLF65, dl_ltRT65, dl_ltRF65, dl_eqRT65, dl_eqRF65]
        refine ⟨?_, Rl mk⟩
        rw [dl_s_0 (fun j hj => if_neg (fun z => by have := ((CC c j hc (by omega)).mp z).1; omega))]
        rfl
      · simp (disch := omega) only [nI_clamp, dl_Ar, dl_Au, dl_leT, dl_leF, dl_ltT, dl_ltF, dl_eqT, dl_eqF, nI_add, nI_1, dl_inT, dl_sub, dl_sub1, dl_subm1, forall_eq, true_implies, false_implies, not_true, not_false_iff, true_and, and_true, dl_leLT0, dl_leLF0, dl_leRT0, dl_leRF0, dl_ltLT0, dl_ltLF0, dl_ltRT0, dl_ltRF0, dl_eqRT0, dl_eqRF0, dl_leLT1, dl_leLF1, dl_leRT1, dl_leRF1, dl_ltLT1, dl_ltLF1, dl_ltRT1, dl_ltRF1, dl_eqRT1, dl_eqRF1, dl_leLT2, dl_leLF2, dl_leRT2, dl_leRF2, dl_ltLT2, dl_ltLF2, dl_ltRT2, dl_ltRF2, dl_eqRT2, dl_eqRF2, dl_leLT3, dl_leLF3, dl_leRT3, dl_leRF3, dl_ltLT3, dl_ltLF3, dl_ltRT3, dl_ltRF3, dl_eqRT3, dl_eqRF3, dl_leLT8, dl_leLF8, dl_leRT8, dl_leRF8, dl_ltLT8, dl_ltLF8, dl_ltRT8, dl_ltRF8, dl_eqRT8, dl_eqRF8, dl_leLT9, dl_leLF9, dl_leRT9, dl_leRF9, dl_ltLT9, dl_ltLF9, dl_ltRT9, dl_ltRF9, dl_eqRT9, dl_eqRF9, dl_leLT16, dl_leLF16, dl_leRT16, dl_leRF16, dl_ltLT16, dl_ltLF16, dl_ltRT16, dl_ltRF16, dl_eqRT16, dl_eqRF16, dl_leLT64, dl_leLF64, dl_leRT64, dl_leRF64, dl_ltLT64, dl_ltLF64, dl_ltRT64, dl_ltRF64, dl_eqRT64, dl_eqRF64, dl_leLT65, dl_leLF65, dl_leRT65, dl_leRF65, dl_ltLT65, dl_ltLF65, dl_ltRT65, dl_ltRF65, dl_eqRT65, dl_eqRF65]
        refine ⟨cnt + 1, dl_yk38 _ B hF hc (fun mk' => ⟨congrArg nI ?_, Rl mk'⟩) _ 0 mk (by omega) (by omega)⟩
        have k1 : K c = 1 := by omega
        have e1 : dl_s (fun j => if bt (cm c) j = true then 1 else 0) 16 = dl_n (fun j => j = c ∨ (dl_Tr (dl_R cnt K S D N) c j ∧ dl_Tr (dl_R cnt K S D N) j c)) 16 := by
          refine dl_s_c (fun j hj => ?_)
          have q := CC c j hc (by omega)
          by_cases z : j = c ∨ (dl_Tr (dl_R cnt K S D N) c j ∧ dl_Tr (dl_R cnt K S D N) j c)
          · rw [if_pos (q.mpr ⟨k1, z⟩), dl_b_t z]
          · rw [if_neg (fun w => z (q.mp w).2), dl_b_f z]
        have e2 := dl_n_ext (P := fun j => j = c ∨ (dl_Tr (dl_R cnt K S D N) c j ∧ dl_Tr (dl_R cnt K S D N) j c)) (n := cnt) (d := 16 - cnt) (fun j h1 _ w => by
          rcases w with w | w
          · omega
          · have := dl_Tr_lt w.1; omega)
        rw [show cnt + (16 - cnt) = 16 by omega] at e2
        have e3 := dl_n_add (P := fun j => j ≠ c ∧ dl_Tr (dl_R cnt K S D N) c j ∧ dl_Tr (dl_R cnt K S D N) j c) (Q := fun j => j = c ∨ (dl_Tr (dl_R cnt K S D N) c j ∧ dl_Tr (dl_R cnt K S D N) j c)) hc (fun w => w.1 rfl) (Or.inl rfl) (fun j _ ne => ⟨fun w => ⟨ne, w.elim (fun e => absurd e ne) id⟩, fun w => Or.inr w.2⟩)
        omega
  · have hph : ¬ nI ph = 1 := by rw [show ph = 0 by omega]; decide
    unfold wpX_knot wpY_knot
    exact br_f hph (br_f hph ⟨rfl, Rl mk⟩)
end
section
section
variable {C L ph ol T cnt ls co dn pl dy : Nat} {kp : Int32} {K S D N A bD sq po ws ss bd F P : Nat → Nat} {bu pool bf af cm ed re old nxt dat mk : Nat → Int32}
theorem dl_ywa (post : Int32 → Prop) {wr : Nat → Nat} {m : Nat} (B : dl_Bs C L ol T cnt K S D N) (Pn : dl_Pn T cnt co kp K S D N A bD sq po ws ss F P wr m pool bf cm old dat) {x t : Nat} (hx : x < cnt) (h1 : dl_W N sq x ≤ t) (h2 : t < dl_W N sq (x + 1)) (H : post (nI (D (sq x) + dl_mir S D N F (sq x) (t - dl_W N sq x)))) : wpY_writeAt post (nI C, nI L, nI ph, nI ol, nI T, nI cnt, nI dy, old, nxt, dl_A K, dl_A S, dl_A D, dl_A N, dat, dl_A F, dl_A P, mk) (nI t) := by
  have hK := dl_hK Pn
  have Ti := Pn.1
  have hf := Pn.2.2.2.2.2.1
  have Pi := Pn.2.2.2.2.2.2.1
  have hP := Pn.2.2.2.2.2.2.2.1
  obtain ⟨b1, b2, b3, b4, b5, b6, b7, b8⟩ := B
  have wT := dl_W_T Ti (fun c hc => (b8 c hc).1) Pi
  have wm := dl_W_mono (N := N) (π := sq) (s := x + 1) (t := cnt) hx
  have key : ∀ f y, y ≤ x → x - y < f → wY_writeAt_4 post (nI C) (nI L) (nI ph) (nI ol) (nI T) (nI cnt) (nI dy) old nxt (dl_A K) (dl_A S) (dl_A D) (dl_A N) dat (dl_A F) (dl_A P) mk f (nI (t - dl_W N sq y)) (nI y) := by
    intro f
    induction f with
    | zero => intro y _ h; omega
    | succ f ih =>
      intro y k1 k2
      have hy : y < cnt := by omega
      have ep := hP y hy
      have hs := (Pi.1 y hy).1
      obtain ⟨c1, c2, c3⟩ := b8 _ hs
      have hfy := hf _ hs
      have hFb : F (sq y) < 2147483648 := by omega
      rcases Nat.lt_or_ge y x with z | z
      · have w1 := dl_W_mono (N := N) (π := sq) (s := y + 1) (t := x) z
        rw [dl_W_s] at w1
        simp (disch := omega) only [wY_writeAt_4, nI_clamp, dl_Ar, dl_Au, dl_leT, dl_leF, dl_ltT, dl_ltF, dl_eqT, dl_eqF, nI_add, nI_1, dl_inT, dl_sub, dl_sub1, dl_subm1, forall_eq, true_implies, false_implies, not_true, not_false_iff, true_and, and_true, dl_leLT0, dl_leLF0, dl_leRT0, dl_leRF0, dl_ltLT0, dl_ltLF0, dl_ltRT0, dl_ltRF0, dl_eqRT0, dl_eqRF0, dl_leLT1, dl_leLF1, dl_leRT1, dl_leRF1, dl_ltLT1, dl_ltLF1, dl_ltRT1, dl_ltRF1, dl_eqRT1, dl_eqRF1, dl_leLT2, dl_leLF2, dl_leRT2, dl_leRF2, dl_ltLT2, dl_ltLF2, dl_ltRT2, dl_ltRF2, dl_eqRT2, dl_eqRF2, dl_leLT3, dl_leLF3, dl_leRT3, dl_leRF3, dl_ltLT3, dl_ltLF3, dl_ltRT3, dl_ltRF3, dl_eqRT3, dl_eqRF3, dl_leLT8, dl_leLF8, dl_leRT8, dl_leRF8, dl_ltLT8, dl_ltLF8, dl_ltRT8, dl_ltRF8, dl_eqRT8, dl_eqRF8, dl_leLT9, dl_leLF9, dl_leRT9, dl_leRF9, dl_ltLT9, dl_ltLF9, dl_ltRT9, dl_ltRF9, dl_eqRT9, dl_eqRF9, dl_leLT16, dl_leLF16, dl_leRT16, dl_leRF16, dl_ltLT16, dl_ltLF16, dl_ltRT16, dl_ltRF16, dl_eqRT16, dl_eqRF16, dl_leLT64, dl_leLF64, dl_leRT64, dl_leRF64, dl_ltLT64, dl_ltLF64, dl_ltRT64, dl_ltRF64, dl_eqRT64, dl_eqRF64, dl_leLT65, dl_leLF65, dl_leRT65, dl_leRF65, dl_ltLT65, dl_ltLF65, dl_ltRT65, dl_ltRF65, dl_eqRT65, dl_eqRF65, ep]
        have IH := ih (y + 1) z (by omega)
        rw [dl_W_s, ← Nat.sub_sub] at IH
        exact IH
      · have e : y = x := by omega
        subst e
        rw [dl_W_s] at h2
        have lt : t - dl_W N sq y < N (sq y) := by omega
        unfold dl_mir at H
        by_cases f1 : F (sq y) = 1
        · have k1 := hK _ hs f1
          by_cases q : S (sq y) < D (sq y)
          · rw [if_pos ⟨f1, q⟩] at H
            simp (disch := omega) only [wY_writeAt_4, wY_writeAt_64, nI_clamp, dl_Ar, dl_Au, dl_leT, dl_leF, dl_ltT, dl_ltF, dl_eqT, dl_eqF, nI_add, nI_1, dl_inT, dl_sub, dl_sub1, dl_subm1, forall_eq, true_implies, false_implies, not_true, not_false_iff, true_and, and_true, dl_leLT0, dl_leLF0, dl_leRT0, dl_leRF0, dl_ltLT0, dl_ltLF0, dl_ltRT0, dl_ltRF0, dl_eqRT0, dl_eqRF0, dl_leLT1, dl_leLF1, dl_leRT1, dl_leRF1, dl_ltLT1, dl_ltLF1, dl_ltRT1, dl_ltRF1, dl_eqRT1, dl_eqRF1, dl_leLT2, dl_leLF2, dl_leRT2, dl_leRF2, dl_ltLT2, dl_ltLF2, dl_ltRT2, dl_ltRF2, dl_eqRT2, dl_eqRF2, dl_leLT3, dl_leLF3, dl_leRT3, dl_leRF3, dl_ltLT3, dl_ltLF3, dl_ltRT3, dl_ltRF3, dl_eqRT3, dl_eqRF3, dl_leLT8, dl_leLF8, dl_leRT8, dl_leRF8, dl_ltLT8, dl_ltLF8, dl_ltRT8, dl_ltRF8, dl_eqRT8, dl_eqRF8, dl_leLT9, dl_leLF9, dl_leRT9, dl_leRF9, dl_ltLT9, dl_ltLF9, dl_ltRT9, dl_ltRF9, dl_eqRT9, dl_eqRF9, dl_leLT16, dl_leLF16, dl_leRT16, dl_leRF16, dl_ltLT16, dl_ltLF16, dl_ltRT16, dl_ltRF16, dl_eqRT16, dl_eqRF16, dl_leLT64, dl_leLF64, dl_leRT64, dl_leRF64, dl_ltLT64, dl_ltLF64, dl_ltRT64, dl_ltRF64, dl_eqRT64, dl_eqRF64, dl_leLT65, dl_leLF65, dl_leRT65, dl_leRF65, dl_ltLT65, dl_ltLF65, dl_ltRT65, dl_ltRF65, dl_eqRT65, dl_eqRF65, ep]
            refine br_f (by decide) ?_
            try simp (disch := omega) only [nI_clamp, dl_Ar, dl_Au, dl_leT, dl_leF, dl_ltT, dl_ltF, dl_eqT, dl_eqF, nI_add, nI_1, dl_inT, dl_sub, dl_sub1, dl_subm1, forall_eq, true_implies, false_implies, not_true, not_false_iff, true_and, and_true, dl_leLT0, dl_leLF0, dl_leRT0, dl_leRF0, dl_ltLT0, dl_ltLF0, dl_ltRT0, dl_ltRF0, dl_eqRT0, dl_eqRF0, dl_leLT1, dl_leLF1, dl_leRT1, dl_leRF1, dl_ltLT1, dl_ltLF1, dl_ltRT1, dl_ltRF1, dl_eqRT1, dl_eqRF1, dl_leLT2, dl_leLF2, dl_leRT2, dl_leRF2, dl_ltLT2, dl_ltLF2, dl_ltRT2, dl_ltRF2, dl_eqRT2, dl_eqRF2, dl_leLT3, dl_leLF3, dl_leRT3, dl_leRF3, dl_ltLT3, dl_ltLF3, dl_ltRT3, dl_ltRF3, dl_eqRT3, dl_eqRF3, dl_leLT8, dl_leLF8, dl_leRT8, dl_leRF8, dl_ltLT8, dl_ltLF8, dl_ltRT8, dl_ltRF8, dl_eqRT8, dl_eqRF8, dl_leLT9, dl_leLF9, dl_leRT9, dl_leRF9, dl_ltLT9, dl_ltLF9, dl_ltRT9, dl_ltRF9, dl_eqRT9, dl_eqRF9, dl_leLT16, dl_leLF16, dl_leRT16, dl_leRF16, dl_ltLT16, dl_ltLF16, dl_ltRT16, dl_ltRF16, dl_eqRT16, dl_eqRF16, dl_leLT64, dl_leLF64, dl_leRT64, dl_leRF64, dl_ltLT64, dl_ltLF64, dl_ltRT64, dl_ltRF64, dl_eqRT64, dl_eqRF64, dl_leLT65, dl_leLF65, dl_leRT65, dl_leRF65, dl_ltLT65, dl_ltLF65, dl_ltRT65, dl_ltRF65, dl_eqRT65, dl_eqRF65]
            exact H
          · rw [if_neg (fun w => q w.2)] at H
            simp (disch := omega) only [wY_writeAt_4, wY_writeAt_63, wY_writeAt_64, nI_clamp, dl_Ar, dl_Au, dl_leT, dl_leF, dl_ltT, dl_ltF, dl_eqT, dl_eqF, nI_add, nI_1, dl_inT, dl_sub, dl_sub1, dl_subm1, forall_eq, true_implies, false_implies, not_true, not_false_iff, true_and, and_true, dl_leLT0, dl_leLF0, dl_leRT0, dl_leRF0, dl_ltLT0, dl_ltLF0, dl_ltRT0, dl_ltRF0, dl_eqRT0, dl_eqRF0, dl_leLT1, dl_leLF1, dl_leRT1, dl_leRF1, dl_ltLT1, dl_ltLF1, dl_ltRT1, dl_ltRF1, dl_eqRT1, dl_eqRF1, dl_leLT2, dl_leLF2, dl_leRT2, dl_leRF2, dl_ltLT2, dl_ltLF2, dl_ltRT2, dl_ltRF2, dl_eqRT2, dl_eqRF2, dl_leLT3, dl_leLF3, dl_leRT3, dl_leRF3, dl_ltLT3, dl_ltLF3, dl_ltRT3, dl_ltRF3, dl_eqRT3, dl_eqRF3, dl_leLT8, dl_leLF8, dl_leRT8, dl_leRF8, dl_ltLT8, dl_ltLF8, dl_ltRT8, dl_ltRF8, dl_eqRT8, dl_eqRF8, dl_leLT9, dl_leLF9, dl_leRT9, dl_leRF9, dl_ltLT9, dl_ltLF9, dl_ltRT9, dl_ltRF9, dl_eqRT9, dl_eqRF9, dl_leLT16, dl_leLF16, dl_leRT16, dl_leRF16, dl_ltLT16, dl_ltLF16, dl_ltRT16, dl_ltRF16, dl_eqRT16, dl_eqRF16, dl_leLT64, dl_leLF64, dl_leRT64, dl_leRF64, dl_ltLT64, dl_ltLF64, dl_ltRT64, dl_ltRF64, dl_eqRT64, dl_eqRF64, dl_leLT65, dl_leLF65, dl_leRT65, dl_leRF65, dl_ltLT65, dl_ltLF65, dl_ltRT65, dl_ltRF65, dl_eqRT65, dl_eqRF65, ep]
            exact H
        · rw [if_neg (fun w => f1 w.1)] at H
          simp (disch := omega) only [wY_writeAt_4, wY_writeAt_63, wY_writeAt_64, nI_clamp, dl_Ar, dl_Au, dl_leT, dl_leF, dl_ltT, dl_ltF, dl_eqT, dl_eqF, nI_add, nI_1, dl_inT, dl_sub, dl_sub1, dl_subm1, forall_eq, true_implies, false_implies, not_true, not_false_iff, true_and, and_true, dl_leLT0, dl_leLF0, dl_leRT0, dl_leRF0, dl_ltLT0, dl_ltLF0, dl_ltRT0, dl_ltRF0, dl_eqRT0, dl_eqRF0, dl_leLT1, dl_leLF1, dl_leRT1, dl_leRF1, dl_ltLT1, dl_ltLF1, dl_ltRT1, dl_ltRF1, dl_eqRT1, dl_eqRF1, dl_leLT2, dl_leLF2, dl_leRT2, dl_leRF2, dl_ltLT2, dl_ltLF2, dl_ltRT2, dl_ltRF2, dl_eqRT2, dl_eqRF2, dl_leLT3, dl_leLF3, dl_leRT3, dl_leRF3, dl_ltLT3, dl_ltLF3, dl_ltRT3, dl_ltRF3, dl_eqRT3, dl_eqRF3, dl_leLT8, dl_leLF8, dl_leRT8, dl_leRF8, dl_ltLT8, dl_ltLF8, dl_ltRT8, dl_ltRF8, dl_eqRT8, dl_eqRF8, dl_leLT9, dl_leLF9, dl_leRT9, dl_leRF9, dl_ltLT9, dl_ltLF9, dl_ltRT9, dl_ltRF9, dl_eqRT9, dl_eqRF9, dl_leLT16, dl_leLF16, dl_leRT16, dl_leRF16, dl_ltLT16, dl_ltLF16, dl_ltRT16, dl_ltRF16, dl_eqRT16, dl_eqRF16, dl_leLT64, dl_leLF64, dl_leRT64, dl_leRF64, dl_ltLT64, dl_ltLF64, dl_ltRT64, dl_ltRF64, dl_eqRT64, dl_eqRF64, dl_leLT65, dl_leLF65, dl_leRT65, dl_leRF65, dl_ltLT65, dl_ltLF65, dl_ltRT65, dl_ltRF65, dl_eqRT65, dl_eqRF65, ep]
          exact H
  have k0 := key (x + 1) 0 (by omega) (by omega)
  exact ⟨x + 1, k0⟩
theorem dl_ywn (post : Int32 → Prop) {wr : Nat → Nat} {m : Nat} (B : dl_Bs C L ol T cnt K S D N) (Pn : dl_Pn T cnt co kp K S D N A bD sq po ws ss F P wr m pool bf cm old dat) (p1 : ph = 1) (hd : dy ≤ T) {i : Nat} (hi : i < C) (H1 : i < T → dl_ps S D N F sq po wr i < dy → post 1) (H0 : ¬ (i < T ∧ dl_ps S D N F sq po wr i < dy) → post 0) : wpY_written post (nI C, nI L, nI ph, nI ol, nI T, nI cnt, nI dy, old, nxt, dl_A K, dl_A S, dl_A D, dl_A N, dat, dl_A F, dl_A P, mk) (nI i) := by
  have Ti := Pn.1
  have Pi := Pn.2.2.2.2.2.2.1
  have B' := B
  obtain ⟨b1, b2, b3, b4, b5, b6, b7, b8⟩ := B'
  have wT := dl_W_T Ti (fun c hc => (b8 c hc).1) Pi
  have key : ∀ f t, t ≤ dy → dy - t < f → (∀ t', t' < t → ¬ (i < T ∧ dl_ps S D N F sq po wr i = t')) → wY_written_24 post (nI i) (nI C) (nI L) (nI ph) (nI ol) (nI T) (nI cnt) (nI dy) old nxt (dl_A K) (dl_A S) (dl_A D) (dl_A N) dat (dl_A F) (dl_A P) mk f (nI t) := by
    intro f
    induction f with
    | zero => intro t _ h; omega
    | succ f ih =>
      intro t h1 h2 I
      rcases Nat.lt_or_ge t dy with z | z
      · obtain ⟨x, x1, x2, x3⟩ := dl_W_ex (N := N) (π := sq) (t := t) (n := cnt) (by omega)
        obtain ⟨q1, q2, q3⟩ := dl_ps_at (S := S) Ti Pi x1 x2 x3 rfl
        simp (disch := omega) only [wY_written_24, nI_clamp, dl_Ar, dl_Au, dl_leT, dl_leF, dl_ltT, dl_ltF, dl_eqT, dl_eqF, nI_add, nI_1, dl_inT, dl_sub, dl_sub1, dl_subm1, forall_eq, true_implies, false_implies, not_true, not_false_iff, true_and, and_true, dl_leLT0, dl_leLF0, dl_leRT0, dl_leRF0, dl_ltLT0, dl_ltLF0, dl_ltRT0, dl_ltRF0, dl_eqRT0, dl_eqRF0, dl_leLT1, dl_leLF1, dl_leRT1, dl_leRF1, dl_ltLT1, dl_ltLF1, dl_ltRT1, dl_ltRF1, dl_eqRT1, dl_eqRF1, dl_leLT2, dl_leLF2, dl_leRT2, dl_leRF2, dl_ltLT2, dl_ltLF2, dl_ltRT2, dl_ltRF2, dl_eqRT2, dl_eqRF2, dl_leLT3, dl_leLF3, dl_leRT3, dl_leRF3, dl_ltLT3, dl_ltLF3, dl_ltRT3, dl_ltRF3, dl_eqRT3, dl_eqRF3, dl_leLT8, dl_leLF8, dl_leRT8, dl_leRF8, dl_ltLT8, dl_ltLF8, dl_ltRT8, dl_ltRF8, dl_eqRT8, dl_eqRF8, dl_leLT9, dl_leLF9, dl_leRT9, dl_leRF9, dl_ltLT9, dl_ltLF9, dl_ltRT9, dl_ltRF9, dl_eqRT9, dl_eqRF9, dl_leLT16, dl_leLF16, dl_leRT16, dl_leRF16, dl_ltLT16, dl_ltLF16, dl_ltRT16, dl_ltRF16, dl_eqRT16, dl_eqRF16, dl_leLT64, dl_leLF64, dl_leRT64, dl_leRF64, dl_ltLT64, dl_ltLF64, dl_ltRT64, dl_ltRF64, dl_eqRT64, dl_eqRF64, dl_leLT65, dl_leLF65, dl_leRT65, dl_leRF65, dl_ltLT65, dl_ltLF65, dl_ltRT65, dl_ltRF65, dl_eqRT65, dl_eqRF65]
        refine dl_ywa _ B Pn x1 x2 x3 ?_
        by_cases e : D (sq x) + dl_mir S D N F (sq x) (t - dl_W N sq x) = i
        · refine br_t (congrArg nI e) ?_
          rw [e] at q1 q3
          exact H1 q1 (by omega)
        · refine br_f (fun w => e ((nI_eq (by omega) (by omega)).mp w)) ?_
          refine ih (t + 1) z (by omega) (fun t' ht w => ?_)
          by_cases et : t' = t
          · subst et
            exact e (dl_ps_inj Ti Pi q1 w.1 (q3.trans w.2.symm))
          · exact I t' (by omega) w
      · have e : t = dy := by omega
        subst e
        simp (disch := omega) only [wY_written_24, nI_clamp, dl_Ar, dl_Au, dl_leT, dl_leF, dl_ltT, dl_ltF, dl_eqT, dl_eqF, nI_add, nI_1, dl_inT, dl_sub, dl_sub1, dl_subm1, forall_eq, true_implies, false_implies, not_true, not_false_iff, true_and, and_true, dl_leLT0, dl_leLF0, dl_leRT0, dl_leRF0, dl_ltLT0, dl_ltLF0, dl_ltRT0, dl_ltRF0, dl_eqRT0, dl_eqRF0, dl_leLT1, dl_leLF1, dl_leRT1, dl_leRF1, dl_ltLT1, dl_ltLF1, dl_ltRT1, dl_ltRF1, dl_eqRT1, dl_eqRF1, dl_leLT2, dl_leLF2, dl_leRT2, dl_leRF2, dl_ltLT2, dl_ltLF2, dl_ltRT2, dl_ltRF2, dl_eqRT2, dl_eqRF2, dl_leLT3, dl_leLF3, dl_leRT3, dl_leRF3, dl_ltLT3, dl_ltLF3, dl_ltRT3, dl_ltRF3, dl_eqRT3, dl_eqRF3, dl_leLT8, dl_leLF8, dl_leRT8, dl_leRF8, dl_ltLT8, dl_ltLF8, dl_ltRT8, dl_ltRF8, dl_eqRT8, dl_eqRF8, dl_leLT9, dl_leLF9, dl_leRT9, dl_leRF9, dl_ltLT9, dl_ltLF9, dl_ltRT9, dl_ltRF9, dl_eqRT9, dl_eqRF9, dl_leLT16, dl_leLF16, dl_leRT16, dl_leRF16, dl_ltLT16, dl_ltLF16, dl_ltRT16, dl_ltRF16, dl_eqRT16, dl_eqRF16, dl_leLT64, dl_leLF64, dl_leRT64, dl_leRF64, dl_ltLT64, dl_ltLF64, dl_ltRT64, dl_ltRF64, dl_eqRT64, dl_eqRF64, dl_leLT65, dl_leLF65, dl_leRT65, dl_leRF65, dl_ltLT65, dl_ltLF65, dl_ltRT65, dl_ltRF65, dl_eqRT65, dl_eqRF65]
        exact H0 (fun w => I _ w.2 ⟨w.1, rfl⟩)
  simp (disch := omega) only [wpY_written, nI_clamp, dl_Ar, dl_Au, dl_leT, dl_leF, dl_ltT, dl_ltF, dl_eqT, dl_eqF, nI_add, nI_1, dl_inT, dl_sub, dl_sub1, dl_subm1, forall_eq, true_implies, false_implies, not_true, not_false_iff, true_and, and_true, dl_leLT0, dl_leLF0, dl_leRT0, dl_leRF0, dl_ltLT0, dl_ltLF0, dl_ltRT0, dl_ltRF0, dl_eqRT0, dl_eqRF0, dl_leLT1, dl_leLF1, dl_leRT1, dl_leRF1, dl_ltLT1, dl_ltLF1, dl_ltRT1, dl_ltRF1, dl_eqRT1, dl_eqRF1, dl_leLT2, dl_leLF2, dl_leRT2, dl_leRF2, dl_ltLT2, dl_ltLF2, dl_ltRT2, dl_ltRF2, dl_eqRT2, dl_eqRF2, dl_leLT3, dl_leLF3, dl_leRT3, dl_leRF3, dl_ltLT3, dl_ltLF3, dl_ltRT3, dl_ltRF3, dl_eqRT3, dl_eqRF3, dl_leLT8, dl_leLF8, dl_leRT8, dl_leRF8, dl_ltLT8, dl_ltLF8, dl_ltRT8, dl_ltRF8, dl_eqRT8, dl_eqRF8, dl_leLT9, dl_leLF9, dl_leRT9, dl_leRF9, dl_ltLT9, dl_ltLF9, dl_ltRT9, dl_ltRF9, dl_eqRT9, dl_eqRF9, dl_leLT16, dl_leLF16, dl_leRT16, dl_leRF16, dl_ltLT16, dl_ltLF16, dl_ltRT16, dl_ltRF16, dl_eqRT16, dl_eqRF16, dl_leLT64, dl_leLF64, dl_leRT64, dl_leRF64, dl_ltLT64, dl_ltLF64, dl_ltRT64, dl_ltRF64, dl_eqRT64, dl_eqRF64, dl_leLT65, dl_leLF65, dl_leRT65, dl_leRF65, dl_ltLT65, dl_ltLF65, dl_ltRT65, dl_ltRF65, dl_eqRT65, dl_eqRF65]
  exact ⟨dy + 1, key _ 0 (by omega) (by omega) (fun t' h => by omega)⟩
theorem dl_xiw (post : Int32 → Prop) {wr : Nat → Nat} {m : Nat} (B : dl_Bs C L ol T cnt K S D N) (Pn : dl_Pn T cnt co kp K S D N A bD sq po ws ss F P wr m pool bf cm old dat) (hd : dn ≤ T) {i : Nat} (hi : i < C) (H1 : i < T → dl_ps S D N F sq po wr i < dn → post 1) (H0 : ¬ (i < T ∧ dl_ps S D N F sq po wr i < dn) → post 0) : wpX_isWritten post (nI C, nI L, nI ph, nI ol, nI T, nI cnt, nI ls, nI co, kp, nI dn, nI pl, bu, dl_A K, dl_A S, dl_A D, dl_A N, dl_A A, pool, dl_A bD, bf, af, cm, dl_A sq, dl_A po, dl_A ws, dl_A ss, ed, re, dl_A bd) (nI i) := by
  have Ti := Pn.1
  have Sd := Pn.2.1
  have KF := Pn.2.2.2.2.1
  have hK := dl_hK Pn
  have Pi := Pn.2.2.2.2.2.2.1
  have hw := Pn.2.2.2.2.2.2.2.2.1
  have B' := B
  obtain ⟨b1, b2, b3, b4, b5, b6, b7, b8⟩ := B'
  have hn : ∀ c, c < cnt → 1 ≤ N c := fun c hc => (b8 c hc).1
  rcases Nat.lt_or_ge i T with z | z
  · obtain ⟨w1, w2, w3⟩ := Ti.1 i z
    obtain ⟨c1, c2, c3⟩ := b8 _ w1
    obtain ⟨r1, r2⟩ := Pi.2.1 _ w1
    have pT := dl_ps_T (S := S) Ti hn Pi z
    have ew := (hw _ (Nat.le_of_lt r1)).1
    have ep : dl_W N sq (po (wr i)) + dl_mir S D N F (wr i) (i - D (wr i)) = dl_ps S D N F sq po wr i := rfl
    simp (disch := omega) only [wpX_isWritten, dl_ltT, true_implies, not_true, false_implies, and_true]
    refine dl_xslot _ (by omega) hn (by omega) Ti Sd z (fun s s1 s2 => ?_)
    try simp (disch := omega) only [nI_clamp, dl_Ar, dl_Au, dl_leT, dl_leF, dl_ltT, dl_ltF, dl_eqT, dl_eqF, nI_add, nI_1, dl_inT, dl_sub, dl_sub1, dl_subm1, forall_eq, true_implies, false_implies, not_true, not_false_iff, true_and, and_true, dl_leLT0, dl_leLF0, dl_leRT0, dl_leRF0, dl_ltLT0, dl_ltLF0, dl_ltRT0, dl_ltRF0, dl_eqRT0, dl_eqRF0, dl_leLT1, dl_leLF1, dl_leRT1, dl_leRF1, dl_ltLT1, dl_ltLF1, dl_ltRT1, dl_ltRF1, dl_eqRT1, dl_eqRF1, dl_leLT2, dl_leLF2, dl_leRT2, dl_leRF2, dl_ltLT2, dl_ltLF2, dl_ltRT2, dl_ltRF2, dl_eqRT2, dl_eqRF2, dl_leLT3, dl_leLF3, dl_leRT3, dl_leRF3, dl_ltLT3, dl_ltLF3, dl_ltRT3, dl_ltRF3, dl_eqRT3, dl_eqRF3, dl_leLT8, dl_leLF8, dl_leRT8, dl_leRF8, dl_ltLT8, dl_ltLF8, dl_ltRT8, dl_ltRF8, dl_eqRT8, dl_eqRF8, dl_leLT9, dl_leLF9, dl_leRT9, dl_leRF9, dl_ltLT9, dl_ltLF9, dl_ltRT9, dl_ltRF9, dl_eqRT9, dl_eqRF9, dl_leLT16, dl_leLF16, dl_leRT16, dl_leRF16, dl_ltLT16, dl_ltLF16, dl_ltRT16, dl_ltRF16, dl_eqRT16, dl_eqRF16, dl_leLT64, dl_leLF64, dl_leRT64, dl_leRF64, dl_ltLT64, dl_ltLF64, dl_ltRT64, dl_ltRF64, dl_eqRT64, dl_eqRF64, dl_leLT65, dl_leLF65, dl_leRT65, dl_leRF65, dl_ltLT65, dl_ltLF65, dl_ltRT65, dl_ltRF65, dl_eqRT65, dl_eqRF65, s2]
    refine dl_xmir _ B KF hK w1 (by omega) ?_
    rcases Nat.lt_or_ge (dl_ps S D N F sq po wr i) dn with q | q
    · try simp (disch := omega) only [nI_clamp, dl_Ar, dl_Au, dl_leT, dl_leF, dl_ltT, dl_ltF, dl_eqT, dl_eqF, nI_add, nI_1, dl_inT, dl_sub, dl_sub1, dl_subm1, forall_eq, true_implies, false_implies, not_true, not_false_iff, true_and, and_true, dl_leLT0, dl_leLF0, dl_leRT0, dl_leRF0, dl_ltLT0, dl_ltLF0, dl_ltRT0, dl_ltRF0, dl_eqRT0, dl_eqRF0, dl_leLT1, dl_leLF1, dl_leRT1, dl_leRF1, dl_ltLT1, dl_ltLF1, dl_ltRT1, dl_ltRF1, dl_eqRT1, dl_eqRF1, dl_leLT2, dl_leLF2, dl_leRT2, dl_leRF2, dl_ltLT2, dl_ltLF2, dl_ltRT2, dl_ltRF2, dl_eqRT2, dl_eqRF2, dl_leLT3, dl_leLF3, dl_leRT3, dl_leRF3, dl_ltLT3, dl_ltLF3, dl_ltRT3, dl_ltRF3, dl_eqRT3, dl_eqRF3, dl_leLT8, dl_leLF8, dl_leRT8, dl_leRF8, dl_ltLT8, dl_ltLF8, dl_ltRT8, dl_ltRF8, dl_eqRT8, dl_eqRF8, dl_leLT9, dl_leLF9, dl_leRT9, dl_leRF9, dl_ltLT9, dl_ltLF9, dl_ltRT9, dl_ltRF9, dl_eqRT9, dl_eqRF9, dl_leLT16, dl_leLF16, dl_leRT16, dl_leRF16, dl_ltLT16, dl_ltLF16, dl_ltRT16, dl_ltRF16, dl_eqRT16, dl_eqRF16, dl_leLT64, dl_leLF64, dl_leRT64, dl_leRF64, dl_ltLT64, dl_ltLF64, dl_ltRT64, dl_ltRF64, dl_eqRT64, dl_eqRF64, dl_leLT65, dl_leLF65, dl_leRT65, dl_leRF65, dl_ltLT65, dl_ltLF65, dl_ltRT65, dl_ltRF65, dl_eqRT65, dl_eqRF65, ew, ep]
      exact H1 z q
    · try simp (disch := omega) only [nI_clamp, dl_Ar, dl_Au, dl_leT, dl_leF, dl_ltT, dl_ltF, dl_eqT, dl_eqF, nI_add, nI_1, dl_inT, dl_sub, dl_sub1, dl_subm1, forall_eq, true_implies, false_implies, not_true, not_false_iff, true_and, and_true, dl_leLT0, dl_leLF0, dl_leRT0, dl_leRF0, dl_ltLT0, dl_ltLF0, dl_ltRT0, dl_ltRF0, dl_eqRT0, dl_eqRF0, dl_leLT1, dl_leLF1, dl_leRT1, dl_leRF1, dl_ltLT1, dl_ltLF1, dl_ltRT1, dl_ltRF1, dl_eqRT1, dl_eqRF1, dl_leLT2, dl_leLF2, dl_leRT2, dl_leRF2, dl_ltLT2, dl_ltLF2, dl_ltRT2, dl_ltRF2, dl_eqRT2, dl_eqRF2, dl_leLT3, dl_leLF3, dl_leRT3, dl_leRF3, dl_ltLT3, dl_ltLF3, dl_ltRT3, dl_ltRF3, dl_eqRT3, dl_eqRF3, dl_leLT8, dl_leLF8, dl_leRT8, dl_leRF8, dl_ltLT8, dl_ltLF8, dl_ltRT8, dl_ltRF8, dl_eqRT8, dl_eqRF8, dl_leLT9, dl_leLF9, dl_leRT9, dl_leRF9, dl_ltLT9, dl_ltLF9, dl_ltRT9, dl_ltRF9, dl_eqRT9, dl_eqRF9, dl_leLT16, dl_leLF16, dl_leRT16, dl_leRF16, dl_ltLT16, dl_ltLF16, dl_ltRT16, dl_ltRF16, dl_eqRT16, dl_eqRF16, dl_leLT64, dl_leLF64, dl_leRT64, dl_leRF64, dl_ltLT64, dl_ltLF64, dl_ltRT64, dl_ltRF64, dl_eqRT64, dl_eqRF64, dl_leLT65, dl_leLF65, dl_leRT65, dl_leRF65, dl_ltLT65, dl_ltLF65, dl_ltRT65, dl_ltRF65, dl_eqRT65, dl_eqRF65, ew, ep]
      exact H0 (fun w => by omega)
  · simp (disch := omega) only [wpX_isWritten, dl_ltF, true_implies, not_false_iff, false_implies, true_and]
    exact H0 (fun w => by omega)
end
theorem i_vc_nextWrite {k : Nat} {u : SX} {v : SY} (I : i_Rel k u v) (hk : k + 5 ≤ 2562) : wpX_nextWrite (fun r => wpY_nextWrite (fun r' => r' = r ∧ i_Rel (k + 5) u v) v) u := by
  refine dl_el (Q := fun u v => wpX_nextWrite (fun r => wpY_nextWrite (fun r' => r' = r ∧ i_Rel (k + 5) u v) v) u) I ?_
  intro C L ph ol T cnt ls co dn pl dy kp K S D N A bD sq po ws ss bd F P bu pool bf af cm ed re old nxt dat mk hI
  have Rl := dl_mk (af := af) (ed := ed) (re := re) (nxt := nxt) (mk := mk) (bd := bd) (k + 5) hI
  obtain ⟨a1, B, Lt, a4, a5⟩ := hI
  have B' := B
  obtain ⟨b1, b2, b3, b4, b5, b6, b7, b8⟩ := B'
  by_cases p1 : ph = 1
  · obtain ⟨ed0, wr, m, Pn, Dn⟩ := a5 p1
    subst ed0
    have d1 := Dn.1
    rcases Nat.lt_or_ge dy T with z | z
    · obtain ⟨s1, s2, s3, s4, s5, s6, s7⟩ := dl_step B Pn Dn z
      obtain ⟨l1, l2, l3⟩ := Dn.2.1 z
      have KF := Pn.2.2.2.2.1
      have hK := dl_hK Pn
      have ew := (Pn.2.2.2.2.2.2.2.2.1 pl (by omega)).1
      simp (disch := omega) only [wpX_nextWrite, nI_clamp, dl_Ar, dl_Au, dl_leT, dl_leF, dl_ltT, dl_ltF, dl_eqT, dl_eqF, nI_add, nI_1, dl_inT, dl_sub, dl_sub1, dl_subm1, forall_eq, true_implies, false_implies, not_true, not_false_iff, true_and, and_true, dl_leLT0, dl_leLF0, dl_leRT0, dl_leRF0, dl_ltLT0, dl_ltLF0, dl_ltRT0, dl_ltRF0, dl_eqRT0, dl_eqRF0, dl_leLT1, dl_leLF1, dl_leRT1, dl_leRF1, dl_ltLT1, dl_ltLF1, dl_ltRT1, dl_ltRF1, dl_eqRT1, dl_eqRF1, dl_leLT2, dl_leLF2, dl_leRT2, dl_leRF2, dl_ltLT2, dl_ltLF2, dl_ltRT2, dl_ltRF2, dl_eqRT2, dl_eqRF2, dl_leLT3, dl_leLF3, dl_leRT3, dl_leRF3, dl_ltLT3, dl_ltLF3, dl_ltRT3, dl_ltRF3, dl_eqRT3, dl_eqRF3, dl_leLT8, dl_leLF8, dl_leRT8, dl_leRF8, dl_ltLT8, dl_ltLF8, dl_ltRT8, dl_ltRF8, dl_eqRT8, dl_eqRF8, dl_leLT9, dl_leLF9, dl_leRT9, dl_leRF9, dl_ltLT9, dl_ltLF9, dl_ltRT9, dl_ltRF9, dl_eqRT9, dl_eqRF9, dl_leLT16, dl_leLF16, dl_leRT16, dl_leRF16, dl_ltLT16, dl_ltLF16, dl_ltRT16, dl_ltRF16, dl_eqRT16, dl_eqRF16, dl_leLT64, dl_leLF64, dl_leRT64, dl_leRF64, dl_ltLT64, dl_ltLF64, dl_ltRT64, dl_ltRF64, dl_eqRT64, dl_eqRF64, dl_leLT65, dl_leLF65, dl_leRT65, dl_leRF65, dl_ltLT65, dl_ltLF65, dl_ltRT65, dl_ltRF65, dl_eqRT65, dl_eqRF65, ew]
      refine dl_xmir _ B KF hK s2 s4 ?_
      simp (disch := omega) only [wpY_nextWrite, nI_clamp, dl_Ar, dl_Au, dl_leT, dl_leF, dl_ltT, dl_ltF, dl_eqT, dl_eqF, nI_add, nI_1, dl_inT, dl_sub, dl_sub1, dl_subm1, forall_eq, true_implies, false_implies, not_true, not_false_iff, true_and, and_true, dl_leLT0, dl_leLF0, dl_leRT0, dl_leRF0, dl_ltLT0, dl_ltLF0, dl_ltRT0, dl_ltRF0, dl_eqRT0, dl_eqRF0, dl_leLT1, dl_leLF1, dl_leRT1, dl_leRF1, dl_ltLT1, dl_ltLF1, dl_ltRT1, dl_ltRF1, dl_eqRT1, dl_eqRF1, dl_leLT2, dl_leLF2, dl_leRT2, dl_leRF2, dl_ltLT2, dl_ltLF2, dl_ltRT2, dl_ltRF2, dl_eqRT2, dl_eqRF2, dl_leLT3, dl_leLF3, dl_leRT3, dl_leRF3, dl_ltLT3, dl_ltLF3, dl_ltRT3, dl_ltRF3, dl_eqRT3, dl_eqRF3, dl_leLT8, dl_leLF8, dl_leRT8, dl_leRF8, dl_ltLT8, dl_ltLF8, dl_ltRT8, dl_ltRF8, dl_eqRT8, dl_eqRF8, dl_leLT9, dl_leLF9, dl_leRT9, dl_leRF9, dl_ltLT9, dl_ltLF9, dl_ltRT9, dl_ltRF9, dl_eqRT9, dl_eqRF9, dl_leLT16, dl_leLF16, dl_leRT16, dl_leRF16, dl_ltLT16, dl_ltLF16, dl_ltRT16, dl_ltRF16, dl_eqRT16, dl_eqRF16, dl_leLT64, dl_leLF64, dl_leRT64, dl_leRF64, dl_ltLT64, dl_ltLF64, dl_ltRT64, dl_ltRF64, dl_eqRT64, dl_eqRF64, dl_leLT65, dl_leLF65, dl_leRT65, dl_leRF65, dl_ltLT65, dl_ltLF65, dl_ltRT65, dl_ltRF65, dl_eqRT65, dl_eqRF65]
      refine dl_ywa _ B Pn l1 l2 l3 ?_
      first | exact Rl | exact ⟨rfl, Rl⟩
    · simp (disch := omega) only [wpX_nextWrite, wpY_nextWrite, nI_clamp, dl_Ar, dl_Au, dl_leT, dl_leF, dl_ltT, dl_ltF, dl_eqT, dl_eqF, nI_add, nI_1, dl_inT, dl_sub, dl_sub1, dl_subm1, forall_eq, true_implies, false_implies, not_true, not_false_iff, true_and, and_true, dl_leLT0, dl_leLF0, dl_leRT0, dl_leRF0, dl_ltLT0, dl_ltLF0, dl_ltRT0, dl_ltRF0, dl_eqRT0, dl_eqRF0, dl_leLT1, dl_leLF1, dl_leRT1, dl_leRF1, dl_ltLT1, dl_ltLF1, dl_ltRT1, dl_ltRF1, dl_eqRT1, dl_eqRF1, dl_leLT2, dl_leLF2, dl_leRT2, dl_leRF2, dl_ltLT2, dl_ltLF2, dl_ltRT2, dl_ltRF2, dl_eqRT2, dl_eqRF2, dl_leLT3, dl_leLF3, dl_leRT3, dl_leRF3, dl_ltLT3, dl_ltLF3, dl_ltRT3, dl_ltRF3, dl_eqRT3, dl_eqRF3, dl_leLT8, dl_leLF8, dl_leRT8, dl_leRF8, dl_ltLT8, dl_ltLF8, dl_ltRT8, dl_ltRF8, dl_eqRT8, dl_eqRF8, dl_leLT9, dl_leLF9, dl_leRT9, dl_leRF9, dl_ltLT9, dl_ltLF9, dl_ltRT9, dl_ltRF9, dl_eqRT9, dl_eqRF9, dl_leLT16, dl_leLF16, dl_leRT16, dl_leRF16, dl_ltLT16, dl_ltLF16, dl_ltRT16, dl_ltRF16, dl_eqRT16, dl_eqRF16, dl_leLT64, dl_leLF64, dl_leRT64, dl_leRF64, dl_ltLT64, dl_ltLF64, dl_ltRT64, dl_ltRF64, dl_eqRT64, dl_eqRF64, dl_leLT65, dl_leLF65, dl_leRT65, dl_leRF65, dl_ltLT65, dl_ltLF65, dl_ltRT65, dl_ltRF65, dl_eqRT65, dl_eqRF65]
      first | exact Rl | exact ⟨by trivial, Rl⟩
  · simp (disch := omega) only [wpX_nextWrite, wpY_nextWrite, nI_clamp, dl_Ar, dl_Au, dl_leT, dl_leF, dl_ltT, dl_ltF, dl_eqT, dl_eqF, nI_add, nI_1, dl_inT, dl_sub, dl_sub1, dl_subm1, forall_eq, true_implies, false_implies, not_true, not_false_iff, true_and, and_true, dl_leLT0, dl_leLF0, dl_leRT0, dl_leRF0, dl_ltLT0, dl_ltLF0, dl_ltRT0, dl_ltRF0, dl_eqRT0, dl_eqRF0, dl_leLT1, dl_leLF1, dl_leRT1, dl_leRF1, dl_ltLT1, dl_ltLF1, dl_ltRT1, dl_ltRF1, dl_eqRT1, dl_eqRF1, dl_leLT2, dl_leLF2, dl_leRT2, dl_leRF2, dl_ltLT2, dl_ltLF2, dl_ltRT2, dl_ltRF2, dl_eqRT2, dl_eqRF2, dl_leLT3, dl_leLF3, dl_leRT3, dl_leRF3, dl_ltLT3, dl_ltLF3, dl_ltRT3, dl_ltRF3, dl_eqRT3, dl_eqRF3, dl_leLT8, dl_leLF8, dl_leRT8, dl_leRF8, dl_ltLT8, dl_ltLF8, dl_ltRT8, dl_ltRF8, dl_eqRT8, dl_eqRF8, dl_leLT9, dl_leLF9, dl_leRT9, dl_leRF9, dl_ltLT9, dl_ltLF9, dl_ltRT9, dl_ltRF9, dl_eqRT9, dl_eqRF9, dl_leLT16, dl_leLF16, dl_leRT16, dl_leRF16, dl_ltLT16, dl_ltLF16, dl_ltRT16, dl_ltRF16, dl_eqRT16, dl_eqRF16, dl_leLT64, dl_leLF64, dl_leRT64, dl_leRF64, dl_ltLT64, dl_ltLF64, dl_ltRT64, dl_ltRF64, dl_eqRT64, dl_eqRF64, dl_leLT65, dl_leLF65, dl_leRT65, dl_leRF65, dl_ltLT65, dl_ltLF65, dl_ltRT65, dl_ltRF65, dl_eqRT65, dl_eqRF65]
    first | exact Rl | exact ⟨by trivial, Rl⟩
theorem i_vc_nextRead {k : Nat} {u : SX} {v : SY} (I : i_Rel k u v) (hk : k + 5 ≤ 2562) : wpX_nextRead (fun r => wpY_nextRead (fun r' => r' = r ∧ i_Rel (k + 5) u v) v) u := by
  refine dl_el (Q := fun u v => wpX_nextRead (fun r => wpY_nextRead (fun r' => r' = r ∧ i_Rel (k + 5) u v) v) u) I ?_
  intro C L ph ol T cnt ls co dn pl dy kp K S D N A bD sq po ws ss bd F P bu pool bf af cm ed re old nxt dat mk hI
  have Rl := dl_mk (af := af) (ed := ed) (re := re) (nxt := nxt) (mk := mk) (bd := bd) (k + 5) hI
  obtain ⟨a1, B, Lt, a4, a5⟩ := hI
  have B' := B
  obtain ⟨b1, b2, b3, b4, b5, b6, b7, b8⟩ := B'
  have m1 : ¬ (0 : Int32) ≤ -1 := by decide
  by_cases p1 : ph = 1
  · obtain ⟨ed0, wr, m, Pn, Dn⟩ := a5 p1
    subst ed0
    have d1 := Dn.1
    rcases Nat.lt_or_ge dy T with z | z
    · obtain ⟨s1, s2, s3, s4, s5, s6, s7⟩ := dl_step B Pn Dn z
      obtain ⟨l1, l2, l3⟩ := Dn.2.1 z
      obtain ⟨c1, c2, c3⟩ := b8 _ s2
      have KF := Pn.2.2.2.2.1
      have hK := dl_hK Pn
      have hf := Pn.2.2.2.2.2.1 _ s2
      have ew := (Pn.2.2.2.2.2.2.2.2.1 pl (by omega)).1
      have ml := dl_mir_lt (S := S) (D := D) (F := F) s4
      simp (disch := omega) only [wpX_nextRead, nI_clamp, dl_Ar, dl_Au, dl_leT, dl_leF, dl_ltT, dl_ltF, dl_eqT, dl_eqF, nI_add, nI_1, dl_inT, dl_sub, dl_sub1, dl_subm1, forall_eq, true_implies, false_implies, not_true, not_false_iff, true_and, and_true, dl_leLT0, dl_leLF0, dl_leRT0, dl_leRF0, dl_ltLT0, dl_ltLF0, dl_ltRT0, dl_ltRF0, dl_eqRT0, dl_eqRF0, dl_leLT1, dl_leLF1, dl_leRT1, dl_leRF1, dl_ltLT1, dl_ltLF1, dl_ltRT1, dl_ltRF1, dl_eqRT1, dl_eqRF1, dl_leLT2, dl_leLF2, dl_leRT2, dl_leRF2, dl_ltLT2, dl_ltLF2, dl_ltRT2, dl_ltRF2, dl_eqRT2, dl_eqRF2, dl_leLT3, dl_leLF3, dl_leRT3, dl_leRF3, dl_ltLT3, dl_ltLF3, dl_ltRT3, dl_ltRF3, dl_eqRT3, dl_eqRF3, dl_leLT8, dl_leLF8, dl_leRT8, dl_leRF8, dl_ltLT8, dl_ltLF8, dl_ltRT8, dl_ltRF8, dl_eqRT8, dl_eqRF8, dl_leLT9, dl_leLF9, dl_leRT9, dl_leRF9, dl_ltLT9, dl_ltLF9, dl_ltRT9, dl_ltRF9, dl_eqRT9, dl_eqRF9, dl_leLT16, dl_leLF16, dl_leRT16, dl_leRF16, dl_ltLT16, dl_ltLF16, dl_ltRT16, dl_ltRF16, dl_eqRT16, dl_eqRF16, dl_leLT64, dl_leLF64, dl_leRT64, dl_leRF64, dl_ltLT64, dl_ltLF64, dl_ltRT64, dl_ltRF64, dl_eqRT64, dl_eqRF64, dl_leLT65, dl_leLF65, dl_leRT65, dl_leRF65, dl_ltLT65, dl_ltLF65, dl_ltRT65, dl_ltRF65, dl_eqRT65, dl_eqRF65, ew]
      refine dl_xik _ (by omega) KF s2 (fun q => br_f (by decide) ?_) (fun q => br_t rfl ?_)
      · have k1 := hK _ s2 q
        try simp (disch := omega) only [nI_clamp, dl_Ar, dl_Au, dl_leT, dl_leF, dl_ltT, dl_ltF, dl_eqT, dl_eqF, nI_add, nI_1, dl_inT, dl_sub, dl_sub1, dl_subm1, forall_eq, true_implies, false_implies, not_true, not_false_iff, true_and, and_true, dl_leLT0, dl_leLF0, dl_leRT0, dl_leRF0, dl_ltLT0, dl_ltLF0, dl_ltRT0, dl_ltRF0, dl_eqRT0, dl_eqRF0, dl_leLT1, dl_leLF1, dl_leRT1, dl_leRF1, dl_ltLT1, dl_ltLF1, dl_ltRT1, dl_ltRF1, dl_eqRT1, dl_eqRF1, dl_leLT2, dl_leLF2, dl_leRT2, dl_leRF2, dl_ltLT2, dl_ltLF2, dl_ltRT2, dl_ltRF2, dl_eqRT2, dl_eqRF2, dl_leLT3, dl_leLF3, dl_leRT3, dl_leRF3, dl_ltLT3, dl_ltLF3, dl_ltRT3, dl_ltRF3, dl_eqRT3, dl_eqRF3, dl_leLT8, dl_leLF8, dl_leRT8, dl_leRF8, dl_ltLT8, dl_ltLF8, dl_ltRT8, dl_ltRF8, dl_eqRT8, dl_eqRF8, dl_leLT9, dl_leLF9, dl_leRT9, dl_leRF9, dl_ltLT9, dl_ltLF9, dl_ltRT9, dl_ltRF9, dl_eqRT9, dl_eqRF9, dl_leLT16, dl_leLF16, dl_leRT16, dl_leRF16, dl_ltLT16, dl_ltLF16, dl_ltRT16, dl_ltRF16, dl_eqRT16, dl_eqRF16, dl_leLT64, dl_leLF64, dl_leRT64, dl_leRF64, dl_ltLT64, dl_ltLF64, dl_ltRT64, dl_ltRF64, dl_eqRT64, dl_eqRF64, dl_leLT65, dl_leLF65, dl_leRT65, dl_leRF65, dl_ltLT65, dl_ltLF65, dl_ltRT65, dl_ltRF65, dl_eqRT65, dl_eqRF65]
        refine dl_xmir _ B KF hK s2 s4 ?_
        simp (disch := omega) only [wpY_nextRead, wpY_nextWrite, nI_clamp, dl_Ar, dl_Au, dl_leT, dl_leF, dl_ltT, dl_ltF, dl_eqT, dl_eqF, nI_add, nI_1, dl_inT, dl_sub, dl_sub1, dl_subm1, forall_eq, true_implies, false_implies, not_true, not_false_iff, true_and, and_true, dl_leLT0, dl_leLF0, dl_leRT0, dl_leRF0, dl_ltLT0, dl_ltLF0, dl_ltRT0, dl_ltRF0, dl_eqRT0, dl_eqRF0, dl_leLT1, dl_leLF1, dl_leRT1, dl_leRF1, dl_ltLT1, dl_ltLF1, dl_ltRT1, dl_ltRF1, dl_eqRT1, dl_eqRF1, dl_leLT2, dl_leLF2, dl_leRT2, dl_leRF2, dl_ltLT2, dl_ltLF2, dl_ltRT2, dl_ltRF2, dl_eqRT2, dl_eqRF2, dl_leLT3, dl_leLF3, dl_leRT3, dl_leRF3, dl_ltLT3, dl_ltLF3, dl_ltRT3, dl_ltRF3, dl_eqRT3, dl_eqRF3, dl_leLT8, dl_leLF8, dl_leRT8, dl_leRF8, dl_ltLT8, dl_ltLF8, dl_ltRT8, dl_ltRF8, dl_eqRT8, dl_eqRF8, dl_leLT9, dl_leLF9, dl_leRT9, dl_leRF9, dl_ltLT9, dl_ltLF9, dl_ltRT9, dl_ltRF9, dl_eqRT9, dl_eqRF9, dl_leLT16, dl_leLF16, dl_leRT16, dl_leRF16, dl_ltLT16, dl_ltLF16, dl_ltRT16, dl_ltRF16, dl_eqRT16, dl_eqRF16, dl_leLT64, dl_leLF64, dl_leRT64, dl_leRF64, dl_ltLT64, dl_ltLF64, dl_ltRT64, dl_ltRF64, dl_eqRT64, dl_eqRF64, dl_leLT65, dl_leLF65, dl_leRT65, dl_leRF65, dl_ltLT65, dl_ltLF65, dl_ltRT65, dl_ltRF65, dl_eqRT65, dl_eqRF65]
        refine dl_ywa _ B Pn l1 l2 l3 ?_
        try simp (disch := omega) only [nI_clamp, dl_Ar, dl_Au, dl_leT, dl_leF, dl_ltT, dl_ltF, dl_eqT, dl_eqF, nI_add, nI_1, dl_inT, dl_sub, dl_sub1, dl_subm1, forall_eq, true_implies, false_implies, not_true, not_false_iff, true_and, and_true, dl_leLT0, dl_leLF0, dl_leRT0, dl_leRF0, dl_ltLT0, dl_ltLF0, dl_ltRT0, dl_ltRF0, dl_eqRT0, dl_eqRF0, dl_leLT1, dl_leLF1, dl_leRT1, dl_leRF1, dl_ltLT1, dl_ltLF1, dl_ltRT1, dl_ltRF1, dl_eqRT1, dl_eqRF1, dl_leLT2, dl_leLF2, dl_leRT2, dl_leRF2, dl_ltLT2, dl_ltLF2, dl_ltRT2, dl_ltRF2, dl_eqRT2, dl_eqRF2, dl_leLT3, dl_leLF3, dl_leRT3, dl_leRF3, dl_ltLT3, dl_ltLF3, dl_ltRT3, dl_ltRF3, dl_eqRT3, dl_eqRF3, dl_leLT8, dl_leLF8, dl_leRT8, dl_leRF8, dl_ltLT8, dl_ltLF8, dl_ltRT8, dl_ltRF8, dl_eqRT8, dl_eqRF8, dl_leLT9, dl_leLF9, dl_leRT9, dl_leRF9, dl_ltLT9, dl_ltLF9, dl_ltRT9, dl_ltRF9, dl_eqRT9, dl_eqRF9, dl_leLT16, dl_leLF16, dl_leRT16, dl_leRF16, dl_ltLT16, dl_ltLF16, dl_ltRT16, dl_ltRF16, dl_eqRT16, dl_eqRF16, dl_leLT64, dl_leLF64, dl_leRT64, dl_leRF64, dl_ltLT64, dl_ltLF64, dl_ltRT64, dl_ltRF64, dl_eqRT64, dl_eqRF64, dl_leLT65, dl_leLF65, dl_leRT65, dl_leRF65, dl_ltLT65, dl_ltLF65, dl_ltRT65, dl_ltRF65, dl_eqRT65, dl_eqRF65]
        refine dl_ywr _ B Pn.1 s5 ?_
        rw [s6]
        try simp (disch := omega) only [nI_clamp, dl_Ar, dl_Au, dl_leT, dl_leF, dl_ltT, dl_ltF, dl_eqT, dl_eqF, nI_add, nI_1, dl_inT, dl_sub, dl_sub1, dl_subm1, forall_eq, true_implies, false_implies, not_true, not_false_iff, true_and, and_true, dl_leLT0, dl_leLF0, dl_leRT0, dl_leRF0, dl_ltLT0, dl_ltLF0, dl_ltRT0, dl_ltRF0, dl_eqRT0, dl_eqRF0, dl_leLT1, dl_leLF1, dl_leRT1, dl_leRF1, dl_ltLT1, dl_ltLF1, dl_ltRT1, dl_ltRF1, dl_eqRT1, dl_eqRF1, dl_leLT2, dl_leLF2, dl_leRT2, dl_leRF2, dl_ltLT2, dl_ltLF2, dl_ltRT2, dl_ltRF2, dl_eqRT2, dl_eqRF2, dl_leLT3, dl_leLF3, dl_leRT3, dl_leRF3, dl_ltLT3, dl_ltLF3, dl_ltRT3, dl_ltRF3, dl_eqRT3, dl_eqRF3, dl_leLT8, dl_leLF8, dl_leRT8, dl_leRF8, dl_ltLT8, dl_ltLF8, dl_ltRT8, dl_ltRF8, dl_eqRT8, dl_eqRF8, dl_leLT9, dl_leLF9, dl_leRT9, dl_leRF9, dl_ltLT9, dl_ltLF9, dl_ltRT9, dl_ltRF9, dl_eqRT9, dl_eqRF9, dl_leLT16, dl_leLF16, dl_leRT16, dl_leRF16, dl_ltLT16, dl_ltLF16, dl_ltRT16, dl_ltRF16, dl_eqRT16, dl_eqRF16, dl_leLT64, dl_leLF64, dl_leRT64, dl_leRF64, dl_ltLT64, dl_ltLF64, dl_ltRT64, dl_ltRF64, dl_eqRT64, dl_eqRF64, dl_leLT65, dl_leLF65, dl_leRT65, dl_leRF65, dl_ltLT65, dl_ltLF65, dl_ltRT65, dl_ltRF65, dl_eqRT65, dl_eqRF65, Nat.add_sub_cancel_left]
        first | exact Rl | exact ⟨by trivial, Rl⟩
      · simp (disch := omega) only [wpY_nextRead, wpY_nextWrite, nI_clamp, dl_Ar, dl_Au, dl_leT, dl_leF, dl_ltT, dl_ltF, dl_eqT, dl_eqF, nI_add, nI_1, dl_inT, dl_sub, dl_sub1, dl_subm1, forall_eq, true_implies, false_implies, not_true, not_false_iff, true_and, and_true, dl_leLT0, dl_leLF0, dl_leRT0, dl_leRF0, dl_ltLT0, dl_ltLF0, dl_ltRT0, dl_ltRF0, dl_eqRT0, dl_eqRF0, dl_leLT1, dl_leLF1, dl_leRT1, dl_leRF1, dl_ltLT1, dl_ltLF1, dl_ltRT1, dl_ltRF1, dl_eqRT1, dl_eqRF1, dl_leLT2, dl_leLF2, dl_leRT2, dl_leRF2, dl_ltLT2, dl_ltLF2, dl_ltRT2, dl_ltRF2, dl_eqRT2, dl_eqRF2, dl_leLT3, dl_leLF3, dl_leRT3, dl_leRF3, dl_ltLT3, dl_ltLF3, dl_ltRT3, dl_ltRF3, dl_eqRT3, dl_eqRF3, dl_leLT8, dl_leLF8, dl_leRT8, dl_leRF8, dl_ltLT8, dl_ltLF8, dl_ltRT8, dl_ltRF8, dl_eqRT8, dl_eqRF8, dl_leLT9, dl_leLF9, dl_leRT9, dl_leRF9, dl_ltLT9, dl_ltLF9, dl_ltRT9, dl_ltRF9, dl_eqRT9, dl_eqRF9, dl_leLT16, dl_leLF16, dl_leRT16, dl_leRF16, dl_ltLT16, dl_ltLF16, dl_ltRT16, dl_ltRF16, dl_eqRT16, dl_eqRF16, dl_leLT64, dl_leLF64, dl_leRT64, dl_leRF64, dl_ltLT64, dl_ltLF64, dl_ltRT64, dl_ltRF64, dl_eqRT64, dl_eqRF64, dl_leLT65, dl_leLF65, dl_leRT65, dl_leRF65, dl_ltLT65, dl_ltLF65, dl_ltRT65, dl_ltRF65, dl_eqRT65, dl_eqRF65]
        refine dl_ywa _ B Pn l1 l2 l3 ?_
        try simp (disch := omega) only [nI_clamp, dl_Ar, dl_Au, dl_leT, dl_leF, dl_ltT, dl_ltF, dl_eqT, dl_eqF, nI_add, nI_1, dl_inT, dl_sub, dl_sub1, dl_subm1, forall_eq, true_implies, false_implies, not_true, not_false_iff, true_and, and_true, dl_leLT0, dl_leLF0, dl_leRT0, dl_leRF0, dl_ltLT0, dl_ltLF0, dl_ltRT0, dl_ltRF0, dl_eqRT0, dl_eqRF0, dl_leLT1, dl_leLF1, dl_leRT1, dl_leRF1, dl_ltLT1, dl_ltLF1, dl_ltRT1, dl_ltRF1, dl_eqRT1, dl_eqRF1, dl_leLT2, dl_leLF2, dl_leRT2, dl_leRF2, dl_ltLT2, dl_ltLF2, dl_ltRT2, dl_ltRF2, dl_eqRT2, dl_eqRF2, dl_leLT3, dl_leLF3, dl_leRT3, dl_leRF3, dl_ltLT3, dl_ltLF3, dl_ltRT3, dl_ltRF3, dl_eqRT3, dl_eqRF3, dl_leLT8, dl_leLF8, dl_leRT8, dl_leRF8, dl_ltLT8, dl_ltLF8, dl_ltRT8, dl_ltRF8, dl_eqRT8, dl_eqRF8, dl_leLT9, dl_leLF9, dl_leRT9, dl_leRF9, dl_ltLT9, dl_ltLF9, dl_ltRT9, dl_ltRF9, dl_eqRT9, dl_eqRF9, dl_leLT16, dl_leLF16, dl_leRT16, dl_leRF16, dl_ltLT16, dl_ltLF16, dl_ltRT16, dl_ltRF16, dl_eqRT16, dl_eqRF16, dl_leLT64, dl_leLF64, dl_leRT64, dl_leRF64, dl_ltLT64, dl_ltLF64, dl_ltRT64, dl_ltRF64, dl_eqRT64, dl_eqRF64, dl_leLT65, dl_leLF65, dl_leRT65, dl_leRF65, dl_ltLT65, dl_ltLF65, dl_ltRT65, dl_ltRF65, dl_eqRT65, dl_eqRF65]
        refine dl_ywr _ B Pn.1 s5 ?_
        rw [s6]
        try simp (disch := omega) only [nI_clamp, dl_Ar, dl_Au, dl_leT, dl_leF, dl_ltT, dl_ltF, dl_eqT, dl_eqF, nI_add, nI_1, dl_inT, dl_sub, dl_sub1, dl_subm1, forall_eq, true_implies, false_implies, not_true, not_false_iff, true_and, and_true, dl_leLT0, dl_leLF0, dl_leRT0, dl_leRF0, dl_ltLT0, dl_ltLF0, dl_ltRT0, dl_ltRF0, dl_eqRT0, dl_eqRF0, dl_leLT1, dl_leLF1, dl_leRT1, dl_leRF1, dl_ltLT1, dl_ltLF1, dl_ltRT1, dl_ltRF1, dl_eqRT1, dl_eqRF1, dl_leLT2, dl_leLF2, dl_leRT2, dl_leRF2, dl_ltLT2, dl_ltLF2, dl_ltRT2, dl_ltRF2, dl_eqRT2, dl_eqRF2, dl_leLT3, dl_leLF3, dl_leRT3, dl_leRF3, dl_ltLT3, dl_ltLF3, dl_ltRT3, dl_ltRF3, dl_eqRT3, dl_eqRF3, dl_leLT8, dl_leLF8, dl_leRT8, dl_leRF8, dl_ltLT8, dl_ltLF8, dl_ltRT8, dl_ltRF8, dl_eqRT8, dl_eqRF8, dl_leLT9, dl_leLF9, dl_leRT9, dl_leRF9, dl_ltLT9, dl_ltLF9, dl_ltRT9, dl_ltRF9, dl_eqRT9, dl_eqRF9, dl_leLT16, dl_leLF16, dl_leRT16, dl_leRF16, dl_ltLT16, dl_ltLF16, dl_ltRT16, dl_ltRF16, dl_eqRT16, dl_eqRF16, dl_leLT64, dl_leLF64, dl_leRT64, dl_leRF64, dl_ltLT64, dl_ltLF64, dl_ltRT64, dl_ltRF64, dl_eqRT64, dl_eqRF64, dl_leLT65, dl_leLF65, dl_leRT65, dl_leRF65, dl_ltLT65, dl_ltLF65, dl_ltRT65, dl_ltRF65, dl_eqRT65, dl_eqRF65]
        first | exact Rl | exact ⟨by trivial, Rl⟩
    · simp (disch := omega) only [wpX_nextRead, wpY_nextRead, wpY_nextWrite, nI_clamp, dl_Ar, dl_Au, dl_leT, dl_leF, dl_ltT, dl_ltF, dl_eqT, dl_eqF, nI_add, nI_1, dl_inT, dl_sub, dl_sub1, dl_subm1, forall_eq, true_implies, false_implies, not_true, not_false_iff, true_and, and_true, dl_leLT0, dl_leLF0, dl_leRT0, dl_leRF0, dl_ltLT0, dl_ltLF0, dl_ltRT0, dl_ltRF0, dl_eqRT0, dl_eqRF0, dl_leLT1, dl_leLF1, dl_leRT1, dl_leRF1, dl_ltLT1, dl_ltLF1, dl_ltRT1, dl_ltRF1, dl_eqRT1, dl_eqRF1, dl_leLT2, dl_leLF2, dl_leRT2, dl_leRF2, dl_ltLT2, dl_ltLF2, dl_ltRT2, dl_ltRF2, dl_eqRT2, dl_eqRF2, dl_leLT3, dl_leLF3, dl_leRT3, dl_leRF3, dl_ltLT3, dl_ltLF3, dl_ltRT3, dl_ltRF3, dl_eqRT3, dl_eqRF3, dl_leLT8, dl_leLF8, dl_leRT8, dl_leRF8, dl_ltLT8, dl_ltLF8, dl_ltRT8, dl_ltRF8, dl_eqRT8, dl_eqRF8, dl_leLT9, dl_leLF9, dl_leRT9, dl_leRF9, dl_ltLT9, dl_ltLF9, dl_ltRT9, dl_ltRF9, dl_eqRT9, dl_eqRF9, dl_leLT16, dl_leLF16, dl_leRT16, dl_leRF16, dl_ltLT16, dl_ltLF16, dl_ltRT16, dl_ltRF16, dl_eqRT16, dl_eqRF16, dl_leLT64, dl_leLF64, dl_leRT64, dl_leRF64, dl_ltLT64, dl_ltLF64, dl_ltRT64, dl_ltRF64, dl_eqRT64, dl_eqRF64, dl_leLT65, dl_leLF65, dl_leRT65, dl_leRF65, dl_ltLT65, dl_ltLF65, dl_ltRT65, dl_ltRF65, dl_eqRT65, dl_eqRF65, m1]
      first | exact Rl | exact ⟨by trivial, Rl⟩
  · simp (disch := omega) only [wpX_nextRead, wpY_nextRead, wpY_nextWrite, nI_clamp, dl_Ar, dl_Au, dl_leT, dl_leF, dl_ltT, dl_ltF, dl_eqT, dl_eqF, nI_add, nI_1, dl_inT, dl_sub, dl_sub1, dl_subm1, forall_eq, true_implies, false_implies, not_true, not_false_iff, true_and, and_true, dl_leLT0, dl_leLF0, dl_leRT0, dl_leRF0, dl_ltLT0, dl_ltLF0, dl_ltRT0, dl_ltRF0, dl_eqRT0, dl_eqRF0, dl_leLT1, dl_leLF1, dl_leRT1, dl_leRF1, dl_ltLT1, dl_ltLF1, dl_ltRT1, dl_ltRF1, dl_eqRT1, dl_eqRF1, dl_leLT2, dl_leLF2, dl_leRT2, dl_leRF2, dl_ltLT2, dl_ltLF2, dl_ltRT2, dl_ltRF2, dl_eqRT2, dl_eqRF2, dl_leLT3, dl_leLF3, dl_leRT3, dl_leRF3, dl_ltLT3, dl_ltLF3, dl_ltRT3, dl_ltRF3, dl_eqRT3, dl_eqRF3, dl_leLT8, dl_leLF8, dl_leRT8, dl_leRF8, dl_ltLT8, dl_ltLF8, dl_ltRT8, dl_ltRF8, dl_eqRT8, dl_eqRF8, dl_leLT9, dl_leLF9, dl_leRT9, dl_leRF9, dl_ltLT9, dl_ltLF9, dl_ltRT9, dl_ltRF9, dl_eqRT9, dl_eqRF9, dl_leLT16, dl_leLF16, dl_leRT16, dl_leRF16, dl_ltLT16, dl_ltLF16, dl_ltRT16, dl_ltRF16, dl_eqRT16, dl_eqRF16, dl_leLT64, dl_leLF64, dl_leRT64, dl_leRF64, dl_ltLT64, dl_ltLF64, dl_ltRT64, dl_ltRF64, dl_eqRT64, dl_eqRF64, dl_leLT65, dl_leLF65, dl_leRT65, dl_leRF65, dl_ltLT65, dl_ltLF65, dl_ltRT65, dl_ltRF65, dl_eqRT65, dl_eqRF65, m1]
    first | exact Rl | exact ⟨by trivial, Rl⟩
theorem dl_ixC {x : Int32} {n : Nat} (hn : n ≤ 64) : (x < 0) ∨ (¬ x < 0 ∧ ¬ x < nI n) ∨ ∃ j : Nat, j < n ∧ x = nI j := by
  rcases pk_ix x (n := n) (by omega) with h | h | h
  · exact Or.inl h
  · exact Or.inr (Or.inl ⟨fun z => nI_pos (n := n) (by omega) (Int32.lt_of_le_of_lt h z), dl_nlt h⟩)
  · exact Or.inr (Or.inr h)
theorem i_vc_cell {k : Nat} {u : SX} {v : SY} (I : i_Rel k u v) (hk : k + 5 ≤ 2562) (v1 : Int32) : wpX_cell (fun r => wpY_cell (fun r' => r' = r ∧ i_Rel (k + 5) u v) v v1) u v1 := by
  refine dl_el (Q := fun u v => wpX_cell (fun r => wpY_cell (fun r' => r' = r ∧ i_Rel (k + 5) u v) v v1) u v1) I ?_
  intro C L ph ol T cnt ls co dn pl dy kp K S D N A bD sq po ws ss bd F P bu pool bf af cm ed re old nxt dat mk hI
  have Rl := dl_mk (af := af) (ed := ed) (re := re) (nxt := nxt) (mk := mk) (bd := bd) (k + 5) hI
  obtain ⟨a1, B, Lt, a4, a5⟩ := hI
  have B' := B
  obtain ⟨b1, b2, b3, b4, b5, b6, b7, b8⟩ := B'
  rcases dl_ixC (x := v1) (n := C) b2 with h | ⟨h0, h1⟩ | ⟨i, hi, rfl⟩
  · simp (disch := omega) only [wpX_cell, wpY_cell, nI_clamp, dl_Ar, dl_Au, dl_leT, dl_leF, dl_ltT, dl_ltF, dl_eqT, dl_eqF, nI_add, nI_1, dl_inT, dl_sub, dl_sub1, dl_subm1, forall_eq, true_implies, false_implies, not_true, not_false_iff, true_and, and_true, dl_leLT0, dl_leLF0, dl_leRT0, dl_leRF0, dl_ltLT0, dl_ltLF0, dl_ltRT0, dl_ltRF0, dl_eqRT0, dl_eqRF0, dl_leLT1, dl_leLF1, dl_leRT1, dl_leRF1, dl_ltLT1, dl_ltLF1, dl_ltRT1, dl_ltRF1, dl_eqRT1, dl_eqRF1, dl_leLT2, dl_leLF2, dl_leRT2, dl_leRF2, dl_ltLT2, dl_ltLF2, dl_ltRT2, dl_ltRF2, dl_eqRT2, dl_eqRF2, dl_leLT3, dl_leLF3, dl_leRT3, dl_leRF3, dl_ltLT3, dl_ltLF3, dl_ltRT3, dl_ltRF3, dl_eqRT3, dl_eqRF3, dl_leLT8, dl_leLF8, dl_leRT8, dl_leRF8, dl_ltLT8, dl_ltLF8, dl_ltRT8, dl_ltRF8, dl_eqRT8, dl_eqRF8, dl_leLT9, dl_leLF9, dl_leRT9, dl_leRF9, dl_ltLT9, dl_ltLF9, dl_ltRT9, dl_ltRF9, dl_eqRT9, dl_eqRF9, dl_leLT16, dl_leLF16, dl_leRT16, dl_leRF16, dl_ltLT16, dl_ltLF16, dl_ltRT16, dl_ltRF16, dl_eqRT16, dl_eqRF16, dl_leLT64, dl_leLF64, dl_leRT64, dl_leRF64, dl_ltLT64, dl_ltLF64, dl_ltRT64, dl_ltRF64, dl_eqRT64, dl_eqRF64, dl_leLT65, dl_leLF65, dl_leRT65, dl_leRF65, dl_ltLT65, dl_ltLF65, dl_ltRT65, dl_ltRF65, dl_eqRT65, dl_eqRF65, h]
    first | exact Rl | exact ⟨by trivial, Rl⟩
  · simp (disch := omega) only [wpX_cell, wpY_cell, nI_clamp, dl_Ar, dl_Au, dl_leT, dl_leF, dl_ltT, dl_ltF, dl_eqT, dl_eqF, nI_add, nI_1, dl_inT, dl_sub, dl_sub1, dl_subm1, forall_eq, true_implies, false_implies, not_true, not_false_iff, true_and, and_true, dl_leLT0, dl_leLF0, dl_leRT0, dl_leRF0, dl_ltLT0, dl_ltLF0, dl_ltRT0, dl_ltRF0, dl_eqRT0, dl_eqRF0, dl_leLT1, dl_leLF1, dl_leRT1, dl_leRF1, dl_ltLT1, dl_ltLF1, dl_ltRT1, dl_ltRF1, dl_eqRT1, dl_eqRF1, dl_leLT2, dl_leLF2, dl_leRT2, dl_leRF2, dl_ltLT2, dl_ltLF2, dl_ltRT2, dl_ltRF2, dl_eqRT2, dl_eqRF2, dl_leLT3, dl_leLF3, dl_leRT3, dl_leRF3, dl_ltLT3, dl_ltLF3, dl_ltRT3, dl_ltRF3, dl_eqRT3, dl_eqRF3, dl_leLT8, dl_leLF8, dl_leRT8, dl_leRF8, dl_ltLT8, dl_ltLF8, dl_ltRT8, dl_ltRF8, dl_eqRT8, dl_eqRF8, dl_leLT9, dl_leLF9, dl_leRT9, dl_leRF9, dl_ltLT9, dl_ltLF9, dl_ltRT9, dl_ltRF9, dl_eqRT9, dl_eqRF9, dl_leLT16, dl_leLF16, dl_leRT16, dl_leRF16, dl_ltLT16, dl_ltLF16, dl_ltRT16, dl_ltRF16, dl_eqRT16, dl_eqRF16, dl_leLT64, dl_leLF64, dl_leRT64, dl_leRF64, dl_ltLT64, dl_ltLF64, dl_ltRT64, dl_ltRF64, dl_eqRT64, dl_eqRF64, dl_leLT65, dl_leLF65, dl_leRT65, dl_leRF65, dl_ltLT65, dl_ltLF65, dl_ltRT65, dl_ltRF65, dl_eqRT65, dl_eqRF65, h0, h1]
    first | exact Rl | exact ⟨by trivial, Rl⟩
  · by_cases p1 : ph = 1
    · obtain ⟨ed0, wr, m, Pn, Dn⟩ := a5 p1
      subst ed0
      have eb := Dn.2.2 i hi
      simp (disch := omega) only [wpX_cell, wpY_cell, nI_clamp, dl_Ar, dl_Au, dl_leT, dl_leF, dl_ltT, dl_ltF, dl_eqT, dl_eqF, nI_add, nI_1, dl_inT, dl_sub, dl_sub1, dl_subm1, forall_eq, true_implies, false_implies, not_true, not_false_iff, true_and, and_true, dl_leLT0, dl_leLF0, dl_leRT0, dl_leRF0, dl_ltLT0, dl_ltLF0, dl_ltRT0, dl_ltRF0, dl_eqRT0, dl_eqRF0, dl_leLT1, dl_leLF1, dl_leRT1, dl_leRF1, dl_ltLT1, dl_ltLF1, dl_ltRT1, dl_ltRF1, dl_eqRT1, dl_eqRF1, dl_leLT2, dl_leLF2, dl_leRT2, dl_leRF2, dl_ltLT2, dl_ltLF2, dl_ltRT2, dl_ltRF2, dl_eqRT2, dl_eqRF2, dl_leLT3, dl_leLF3, dl_leRT3, dl_leRF3, dl_ltLT3, dl_ltLF3, dl_ltRT3, dl_ltRF3, dl_eqRT3, dl_eqRF3, dl_leLT8, dl_leLF8, dl_leRT8, dl_leRF8, dl_ltLT8, dl_ltLF8, dl_ltRT8, dl_ltRF8, dl_eqRT8, dl_eqRF8, dl_leLT9, dl_leLF9, dl_leRT9, dl_leRF9, dl_ltLT9, dl_ltLF9, dl_ltRT9, dl_ltRF9, dl_eqRT9, dl_eqRF9, dl_leLT16, dl_leLF16, dl_leRT16, dl_leRF16, dl_ltLT16, dl_ltLF16, dl_ltRT16, dl_ltRF16, dl_eqRT16, dl_eqRF16, dl_leLT64, dl_leLF64, dl_leRT64, dl_leRF64, dl_ltLT64, dl_ltLF64, dl_ltRT64, dl_ltRF64, dl_eqRT64, dl_eqRF64, dl_leLT65, dl_leLF65, dl_leRT65, dl_leRF65, dl_ltLT65, dl_ltLF65, dl_ltRT65, dl_ltRF65, dl_eqRT65, dl_eqRF65]
      refine dl_ywn _ B Pn p1 Dn.1 hi (fun q1 q2 => br_t rfl ?_) (fun q => br_f (by decide) ?_)
      · rw [if_pos ⟨q1, q2⟩] at eb
        exact dl_ynv _ B Pn.1 q1 ⟨eb.symm, Rl⟩
      · rw [if_neg q] at eb
        first | exact ⟨eb.symm, Rl⟩ | exact ⟨vp_in_nI (by omega) (by omega), by rw [nI_clamp (by omega)]; exact ⟨eb.symm, Rl⟩⟩
    · have eb := a4 (by omega) i hi
      have m1 : ¬ (-1 : Int32) = 1 := by decide
      simp (disch := omega) only [wpX_cell, wpY_cell, wpY_written, nI_clamp, dl_Ar, dl_Au, dl_leT, dl_leF, dl_ltT, dl_ltF, dl_eqT, dl_eqF, nI_add, nI_1, dl_inT, dl_sub, dl_sub1, dl_subm1, forall_eq, true_implies, false_implies, not_true, not_false_iff, true_and, and_true, dl_leLT0, dl_leLF0, dl_leRT0, dl_leRF0, dl_ltLT0, dl_ltLF0, dl_ltRT0, dl_ltRF0, dl_eqRT0, dl_eqRF0, dl_leLT1, dl_leLF1, dl_leRT1, dl_leRF1, dl_ltLT1, dl_ltLF1, dl_ltRT1, dl_ltRF1, dl_eqRT1, dl_eqRF1, dl_leLT2, dl_leLF2, dl_leRT2, dl_leRF2, dl_ltLT2, dl_ltLF2, dl_ltRT2, dl_ltRF2, dl_eqRT2, dl_eqRF2, dl_leLT3, dl_leLF3, dl_leRT3, dl_leRF3, dl_ltLT3, dl_ltLF3, dl_ltRT3, dl_ltRF3, dl_eqRT3, dl_eqRF3, dl_leLT8, dl_leLF8, dl_leRT8, dl_leRF8, dl_ltLT8, dl_ltLF8, dl_ltRT8, dl_ltRF8, dl_eqRT8, dl_eqRF8, dl_leLT9, dl_leLF9, dl_leRT9, dl_leRF9, dl_ltLT9, dl_ltLF9, dl_ltRT9, dl_ltRF9, dl_eqRT9, dl_eqRF9, dl_leLT16, dl_leLF16, dl_leRT16, dl_leRF16, dl_ltLT16, dl_ltLF16, dl_ltRT16, dl_ltRF16, dl_eqRT16, dl_eqRF16, dl_leLT64, dl_leLF64, dl_leRT64, dl_leRF64, dl_ltLT64, dl_ltLF64, dl_ltRT64, dl_ltRF64, dl_eqRT64, dl_eqRF64, dl_leLT65, dl_leLF65, dl_leRT65, dl_leRF65, dl_ltLT65, dl_ltLF65, dl_ltRT65, dl_ltRF65, dl_eqRT65, dl_eqRF65, m1, eb]
      first | exact Rl | exact ⟨by trivial, Rl⟩
theorem i_vc_written {k : Nat} {u : SX} {v : SY} (I : i_Rel k u v) (hk : k + 5 ≤ 2562) (v1 : Int32) : wpX_written (fun r => wpY_written (fun r' => r' = r ∧ i_Rel (k + 5) u v) v v1) u v1 := by
  refine dl_el (Q := fun u v => wpX_written (fun r => wpY_written (fun r' => r' = r ∧ i_Rel (k + 5) u v) v v1) u v1) I ?_
  intro C L ph ol T cnt ls co dn pl dy kp K S D N A bD sq po ws ss bd F P bu pool bf af cm ed re old nxt dat mk hI
  have Rl := dl_mk (af := af) (ed := ed) (re := re) (nxt := nxt) (mk := mk) (bd := bd) (k + 5) hI
  obtain ⟨a1, B, Lt, a4, a5⟩ := hI
  have B' := B
  obtain ⟨b1, b2, b3, b4, b5, b6, b7, b8⟩ := B'
  by_cases p1 : ph = 1
  · obtain ⟨ed0, wr, m, Pn, Dn⟩ := a5 p1
    subst ed0
    rcases dl_ixC (x := v1) (n := C) b2 with h | ⟨h0, h1⟩ | ⟨i, hi, rfl⟩
    · simp (disch := omega) only [wpX_written, wpY_written, nI_clamp, dl_Ar, dl_Au, dl_leT, dl_leF, dl_ltT, dl_ltF, dl_eqT, dl_eqF, nI_add, nI_1, dl_inT, dl_sub, dl_sub1, dl_subm1, forall_eq, true_implies, false_implies, not_true, not_false_iff, true_and, and_true, dl_leLT0, dl_leLF0, dl_leRT0, dl_leRF0, dl_ltLT0, dl_ltLF0, dl_ltRT0, dl_ltRF0, dl_eqRT0, dl_eqRF0, dl_leLT1, dl_leLF1, dl_leRT1, dl_leRF1, dl_ltLT1, dl_ltLF1, dl_ltRT1, dl_ltRF1, dl_eqRT1, dl_eqRF1, dl_leLT2, dl_leLF2, dl_leRT2, dl_leRF2, dl_ltLT2, dl_ltLF2, dl_ltRT2, dl_ltRF2, dl_eqRT2, dl_eqRF2, dl_leLT3, dl_leLF3, dl_leRT3, dl_leRF3, dl_ltLT3, dl_ltLF3, dl_ltRT3, dl_ltRF3, dl_eqRT3, dl_eqRF3, dl_leLT8, dl_leLF8, dl_leRT8, dl_leRF8, dl_ltLT8, dl_ltLF8, dl_ltRT8, dl_ltRF8, dl_eqRT8, dl_eqRF8, dl_leLT9, dl_leLF9, dl_leRT9, dl_leRF9, dl_ltLT9, dl_ltLF9, dl_ltRT9, dl_ltRF9, dl_eqRT9, dl_eqRF9, dl_leLT16, dl_leLF16, dl_leRT16, dl_leRF16, dl_ltLT16, dl_ltLF16, dl_ltRT16, dl_ltRF16, dl_eqRT16, dl_eqRF16, dl_leLT64, dl_leLF64, dl_leRT64, dl_leRF64, dl_ltLT64, dl_ltLF64, dl_ltRT64, dl_ltRF64, dl_eqRT64, dl_eqRF64, dl_leLT65, dl_leLF65, dl_leRT65, dl_leRF65, dl_ltLT65, dl_ltLF65, dl_ltRT65, dl_ltRF65, dl_eqRT65, dl_eqRF65, h]
      first | exact Rl | exact ⟨by trivial, Rl⟩
    · simp (disch := omega) only [wpX_written, wpY_written, nI_clamp, dl_Ar, dl_Au, dl_leT, dl_leF, dl_ltT, dl_ltF, dl_eqT, dl_eqF, nI_add, nI_1, dl_inT, dl_sub, dl_sub1, dl_subm1, forall_eq, true_implies, false_implies, not_true, not_false_iff, true_and, and_true, dl_leLT0, dl_leLF0, dl_leRT0, dl_leRF0, dl_ltLT0, dl_ltLF0, dl_ltRT0, dl_ltRF0, dl_eqRT0, dl_eqRF0, dl_leLT1, dl_leLF1, dl_leRT1, dl_leRF1, dl_ltLT1, dl_ltLF1, dl_ltRT1, dl_ltRF1, dl_eqRT1, dl_eqRF1, dl_leLT2, dl_leLF2, dl_leRT2, dl_leRF2, dl_ltLT2, dl_ltLF2, dl_ltRT2, dl_ltRF2, dl_eqRT2, dl_eqRF2, dl_leLT3, dl_leLF3, dl_leRT3, dl_leRF3, dl_ltLT3, dl_ltLF3, dl_ltRT3, dl_ltRF3, dl_eqRT3, dl_eqRF3, dl_leLT8, dl_leLF8, dl_leRT8, dl_leRF8, dl_ltLT8, dl_ltLF8, dl_ltRT8, dl_ltRF8, dl_eqRT8, dl_eqRF8, dl_leLT9, dl_leLF9, dl_leRT9, dl_leRF9, dl_ltLT9, dl_ltLF9, dl_ltRT9, dl_ltRF9, dl_eqRT9, dl_eqRF9, dl_leLT16, dl_leLF16, dl_leRT16, dl_leRF16, dl_ltLT16, dl_ltLF16, dl_ltRT16, dl_ltRF16, dl_eqRT16, dl_eqRF16, dl_leLT64, dl_leLF64, dl_leRT64, dl_leRF64, dl_ltLT64, dl_ltLF64, dl_ltRT64, dl_ltRF64, dl_eqRT64, dl_eqRF64, dl_leLT65, dl_leLF65, dl_leRT65, dl_leRF65, dl_ltLT65, dl_ltLF65, dl_ltRT65, dl_ltRF65, dl_eqRT65, dl_eqRF65, h0, h1]
      first | exact Rl | exact ⟨by trivial, Rl⟩
    · simp (disch := omega) only [wpX_written, nI_clamp, dl_Ar, dl_Au, dl_leT, dl_leF, dl_ltT, dl_ltF, dl_eqT, dl_eqF, nI_add, nI_1, dl_inT, dl_sub, dl_sub1, dl_subm1, forall_eq, true_implies, false_implies, not_true, not_false_iff, true_and, and_true, dl_leLT0, dl_leLF0, dl_leRT0, dl_leRF0, dl_ltLT0, dl_ltLF0, dl_ltRT0, dl_ltRF0, dl_eqRT0, dl_eqRF0, dl_leLT1, dl_leLF1, dl_leRT1, dl_leRF1, dl_ltLT1, dl_ltLF1, dl_ltRT1, dl_ltRF1, dl_eqRT1, dl_eqRF1, dl_leLT2, dl_leLF2, dl_leRT2, dl_leRF2, dl_ltLT2, dl_ltLF2, dl_ltRT2, dl_ltRF2, dl_eqRT2, dl_eqRF2, dl_leLT3, dl_leLF3, dl_leRT3, dl_leRF3, dl_ltLT3, dl_ltLF3, dl_ltRT3, dl_ltRF3, dl_eqRT3, dl_eqRF3, dl_leLT8, dl_leLF8, dl_leRT8, dl_leRF8, dl_ltLT8, dl_ltLF8, dl_ltRT8, dl_ltRF8, dl_eqRT8, dl_eqRF8, dl_leLT9, dl_leLF9, dl_leRT9, dl_leRF9, dl_ltLT9, dl_ltLF9, dl_ltRT9, dl_ltRF9, dl_eqRT9, dl_eqRF9, dl_leLT16, dl_leLF16, dl_leRT16, dl_leRF16, dl_ltLT16, dl_ltLF16, dl_ltRT16, dl_ltRF16, dl_eqRT16, dl_eqRF16, dl_leLT64, dl_leLF64, dl_leRT64, dl_leRF64, dl_ltLT64, dl_ltLF64, dl_ltRT64, dl_ltRF64, dl_eqRT64, dl_eqRF64, dl_leLT65, dl_leLF65, dl_leRT65, dl_leRF65, dl_ltLT65, dl_ltLF65, dl_ltRT65, dl_ltRF65, dl_eqRT65, dl_eqRF65]
      refine dl_xiw _ B Pn Dn.1 hi (fun q1 q2 => br_f (by decide) ?_) (fun q => br_t rfl ?_)
      · exact dl_ywn _ B Pn p1 Dn.1 hi (fun _ _ => ⟨rfl, Rl⟩) (fun w => absurd ⟨q1, q2⟩ w)
      · exact dl_ywn _ B Pn p1 Dn.1 hi (fun w1 w2 => absurd ⟨w1, w2⟩ q) (fun _ => ⟨rfl, Rl⟩)
  · simp (disch := omega) only [wpX_written, wpY_written, nI_clamp, dl_Ar, dl_Au, dl_leT, dl_leF, dl_ltT, dl_ltF, dl_eqT, dl_eqF, nI_add, nI_1, dl_inT, dl_sub, dl_sub1, dl_subm1, forall_eq, true_implies, false_implies, not_true, not_false_iff, true_and, and_true, dl_leLT0, dl_leLF0, dl_leRT0, dl_leRF0, dl_ltLT0, dl_ltLF0, dl_ltRT0, dl_ltRF0, dl_eqRT0, dl_eqRF0, dl_leLT1, dl_leLF1, dl_leRT1, dl_leRF1, dl_ltLT1, dl_ltLF1, dl_ltRT1, dl_ltRF1, dl_eqRT1, dl_eqRF1, dl_leLT2, dl_leLF2, dl_leRT2, dl_leRF2, dl_ltLT2, dl_ltLF2, dl_ltRT2, dl_ltRF2, dl_eqRT2, dl_eqRF2, dl_leLT3, dl_leLF3, dl_leRT3, dl_leRF3, dl_ltLT3, dl_ltLF3, dl_ltRT3, dl_ltRF3, dl_eqRT3, dl_eqRF3, dl_leLT8, dl_leLF8, dl_leRT8, dl_leRF8, dl_ltLT8, dl_ltLF8, dl_ltRT8, dl_ltRF8, dl_eqRT8, dl_eqRF8, dl_leLT9, dl_leLF9, dl_leRT9, dl_leRF9, dl_ltLT9, dl_ltLF9, dl_ltRT9, dl_ltRF9, dl_eqRT9, dl_eqRF9, dl_leLT16, dl_leLF16, dl_leRT16, dl_leRF16, dl_ltLT16, dl_ltLF16, dl_ltRT16, dl_ltRF16, dl_eqRT16, dl_eqRF16, dl_leLT64, dl_leLF64, dl_leRT64, dl_leRF64, dl_ltLT64, dl_ltLF64, dl_ltRT64, dl_ltRF64, dl_eqRT64, dl_eqRF64, dl_leLT65, dl_leLF65, dl_leRT65, dl_leRF65, dl_ltLT65, dl_ltLF65, dl_ltRT65, dl_ltRF65, dl_eqRT65, dl_eqRF65]
    first | exact Rl | exact ⟨by trivial, Rl⟩
theorem i_vc_want {k : Nat} {u : SX} {v : SY} (I : i_Rel k u v) (hk : k + 5 ≤ 2562) (v1 : Int32) : wpX_want (fun r => wpY_want (fun r' => r' = r ∧ i_Rel (k + 5) u v) v v1) u v1 := by
  refine dl_el (Q := fun u v => wpX_want (fun r => wpY_want (fun r' => r' = r ∧ i_Rel (k + 5) u v) v v1) u v1) I ?_
  intro C L ph ol T cnt ls co dn pl dy kp K S D N A bD sq po ws ss bd F P bu pool bf af cm ed re old nxt dat mk hI
  have Rl := dl_mk (af := af) (ed := ed) (re := re) (nxt := nxt) (mk := mk) (bd := bd) (k + 5) hI
  obtain ⟨a1, B, Lt, a4, a5⟩ := hI
  have B' := B
  obtain ⟨b1, b2, b3, b4, b5, b6, b7, b8⟩ := B'
  by_cases p1 : ph = 1
  · obtain ⟨ed0, wr, m, Pn, Dn⟩ := a5 p1
    subst ed0
    rcases dl_ixC (x := v1) (n := T) (by omega) with h | ⟨h0, h1⟩ | ⟨i, hi, rfl⟩
    · simp (disch := omega) only [wpX_want, wpY_want, nI_clamp, dl_Ar, dl_Au, dl_leT, dl_leF, dl_ltT, dl_ltF, dl_eqT, dl_eqF, nI_add, nI_1, dl_inT, dl_sub, dl_sub1, dl_subm1, forall_eq, true_implies, false_implies, not_true, not_false_iff, true_and, and_true, dl_leLT0, dl_leLF0, dl_leRT0, dl_leRF0, dl_ltLT0, dl_ltLF0, dl_ltRT0, dl_ltRF0, dl_eqRT0, dl_eqRF0, dl_leLT1, dl_leLF1, dl_leRT1, dl_leRF1, dl_ltLT1, dl_ltLF1, dl_ltRT1, dl_ltRF1, dl_eqRT1, dl_eqRF1, dl_leLT2, dl_leLF2, dl_leRT2, dl_leRF2, dl_ltLT2, dl_ltLF2, dl_ltRT2, dl_ltRF2, dl_eqRT2, dl_eqRF2, dl_leLT3, dl_leLF3, dl_leRT3, dl_leRF3, dl_ltLT3, dl_ltLF3, dl_ltRT3, dl_ltRF3, dl_eqRT3, dl_eqRF3, dl_leLT8, dl_leLF8, dl_leRT8, dl_leRF8, dl_ltLT8, dl_ltLF8, dl_ltRT8, dl_ltRF8, dl_eqRT8, dl_eqRF8, dl_leLT9, dl_leLF9, dl_leRT9, dl_leRF9, dl_ltLT9, dl_ltLF9, dl_ltRT9, dl_ltRF9, dl_eqRT9, dl_eqRF9, dl_leLT16, dl_leLF16, dl_leRT16, dl_leRF16, dl_ltLT16, dl_ltLF16, dl_ltRT16, dl_ltRF16, dl_eqRT16, dl_eqRF16, dl_leLT64, dl_leLF64, dl_leRT64, dl_leRF64, dl_ltLT64, dl_ltLF64, dl_ltRT64, dl_ltRF64, dl_eqRT64, dl_eqRF64, dl_leLT65, dl_leLF65, dl_leRT65, dl_leRF65, dl_ltLT65, dl_ltLF65, dl_ltRT65, dl_ltRF65, dl_eqRT65, dl_eqRF65, h]
      first | exact Rl | exact ⟨by trivial, Rl⟩
    · simp (disch := omega) only [wpX_want, wpY_want, nI_clamp, dl_Ar, dl_Au, dl_leT, dl_leF, dl_ltT, dl_ltF, dl_eqT, dl_eqF, nI_add, nI_1, dl_inT, dl_sub, dl_sub1, dl_subm1, forall_eq, true_implies, false_implies, not_true, not_false_iff, true_and, and_true, dl_leLT0, dl_leLF0, dl_leRT0, dl_leRF0, dl_ltLT0, dl_ltLF0, dl_ltRT0, dl_ltRF0, dl_eqRT0, dl_eqRF0, dl_leLT1, dl_leLF1, dl_leRT1, dl_leRF1, dl_ltLT1, dl_ltLF1, dl_ltRT1, dl_ltRF1, dl_eqRT1, dl_eqRF1, dl_leLT2, dl_leLF2, dl_leRT2, dl_leRF2, dl_ltLT2, dl_ltLF2, dl_ltRT2, dl_ltRF2, dl_eqRT2, dl_eqRF2, dl_leLT3, dl_leLF3, dl_leRT3, dl_leRF3, dl_ltLT3, dl_ltLF3, dl_ltRT3, dl_ltRF3, dl_eqRT3, dl_eqRF3, dl_leLT8, dl_leLF8, dl_leRT8, dl_leRF8, dl_ltLT8, dl_ltLF8, dl_ltRT8, dl_ltRF8, dl_eqRT8, dl_eqRF8, dl_leLT9, dl_leLF9, dl_leRT9, dl_leRF9, dl_ltLT9, dl_ltLF9, dl_ltRT9, dl_ltRF9, dl_eqRT9, dl_eqRF9, dl_leLT16, dl_leLF16, dl_leRT16, dl_leRF16, dl_ltLT16, dl_ltLF16, dl_ltRT16, dl_ltRF16, dl_eqRT16, dl_eqRF16, dl_leLT64, dl_leLF64, dl_leRT64, dl_leRF64, dl_ltLT64, dl_ltLF64, dl_ltRT64, dl_ltRF64, dl_eqRT64, dl_eqRF64, dl_leLT65, dl_leLF65, dl_leRT65, dl_leRF65, dl_ltLT65, dl_ltLF65, dl_ltRT65, dl_ltRF65, dl_eqRT65, dl_eqRF65, h0, h1]
      first | exact Rl | exact ⟨by trivial, Rl⟩
    · have Ti := Pn.1
      have Sd := Pn.2.1
      have KF := Pn.2.2.2.2.1
      have hK := dl_hK Pn
      have Pi := Pn.2.2.2.2.2.2.1
      have hp := Pn.2.2.2.2.2.2.2.2.2.2
      have hn : ∀ c, c < cnt → 1 ≤ N c := fun c hc => (b8 c hc).1
      obtain ⟨w1, w2, w3⟩ := Ti.1 i hi
      obtain ⟨c1, c2, c3⟩ := b8 _ w1
      have fin : ∀ x, x = dl_nv K S D wr dat old i → wpY_want (fun r' => r' = x ∧ i_Rel (k + 5) (nI C, nI L, nI ph, nI ol, nI T, nI cnt, nI ls, nI co, kp, nI dy, nI pl, bu, dl_A K, dl_A S, dl_A D, dl_A N, dl_A A, pool, dl_A bD, bf, af, cm, dl_A sq, dl_A po, dl_A ws, dl_A ss, ed, re, dl_A bd) (nI C, nI L, nI ph, nI ol, nI T, nI cnt, nI dy, old, nxt, dl_A K, dl_A S, dl_A D, dl_A N, dat, dl_A F, dl_A P, mk)) (nI C, nI L, nI ph, nI ol, nI T, nI cnt, nI dy, old, nxt, dl_A K, dl_A S, dl_A D, dl_A N, dat, dl_A F, dl_A P, mk) (nI i) := fun x hx => by
        simp (disch := omega) only [wpY_want, nI_clamp, dl_Ar, dl_Au, dl_leT, dl_leF, dl_ltT, dl_ltF, dl_eqT, dl_eqF, nI_add, nI_1, dl_inT, dl_sub, dl_sub1, dl_subm1, forall_eq, true_implies, false_implies, not_true, not_false_iff, true_and, and_true, dl_leLT0, dl_leLF0, dl_leRT0, dl_leRF0, dl_ltLT0, dl_ltLF0, dl_ltRT0, dl_ltRF0, dl_eqRT0, dl_eqRF0, dl_leLT1, dl_leLF1, dl_leRT1, dl_leRF1, dl_ltLT1, dl_ltLF1, dl_ltRT1, dl_ltRF1, dl_eqRT1, dl_eqRF1, dl_leLT2, dl_leLF2, dl_leRT2, dl_leRF2, dl_ltLT2, dl_ltLF2, dl_ltRT2, dl_ltRF2, dl_eqRT2, dl_eqRF2, dl_leLT3, dl_leLF3, dl_leRT3, dl_leRF3, dl_ltLT3, dl_ltLF3, dl_ltRT3, dl_ltRF3, dl_eqRT3, dl_eqRF3, dl_leLT8, dl_leLF8, dl_leRT8, dl_leRF8, dl_ltLT8, dl_ltLF8, dl_ltRT8, dl_ltRF8, dl_eqRT8, dl_eqRF8, dl_leLT9, dl_leLF9, dl_leRT9, dl_leRF9, dl_ltLT9, dl_ltLF9, dl_ltRT9, dl_ltRF9, dl_eqRT9, dl_eqRF9, dl_leLT16, dl_leLF16, dl_leRT16, dl_leRF16, dl_ltLT16, dl_ltLF16, dl_ltRT16, dl_ltRF16, dl_eqRT16, dl_eqRF16, dl_leLT64, dl_leLF64, dl_leRT64, dl_leRF64, dl_ltLT64, dl_ltLF64, dl_ltRT64, dl_ltRF64, dl_eqRT64, dl_eqRF64, dl_leLT65, dl_leLF65, dl_leRT65, dl_leRF65, dl_ltLT65, dl_ltLF65, dl_ltRT65, dl_ltRF65, dl_eqRT65, dl_eqRF65]
        exact dl_ynv _ B Ti hi ⟨hx.symm, Rl⟩
      simp (disch := omega) only [wpX_want, dl_eqRT1, dl_ltRF0, dl_ltT, true_implies, not_true, not_false_iff, false_implies, and_true, true_and]
      refine dl_xslot _ (by omega) hn (by omega) Ti Sd hi (fun s s1 s2 => ?_)
      try simp (disch := omega) only [nI_clamp, dl_Ar, dl_Au, dl_leT, dl_leF, dl_ltT, dl_ltF, dl_eqT, dl_eqF, nI_add, nI_1, dl_inT, dl_sub, dl_sub1, dl_subm1, forall_eq, true_implies, false_implies, not_true, not_false_iff, true_and, and_true, dl_leLT0, dl_leLF0, dl_leRT0, dl_leRF0, dl_ltLT0, dl_ltLF0, dl_ltRT0, dl_ltRF0, dl_eqRT0, dl_eqRF0, dl_leLT1, dl_leLF1, dl_leRT1, dl_leRF1, dl_ltLT1, dl_ltLF1, dl_ltRT1, dl_ltRF1, dl_eqRT1, dl_eqRF1, dl_leLT2, dl_leLF2, dl_leRT2, dl_leRF2, dl_ltLT2, dl_ltLF2, dl_ltRT2, dl_ltRF2, dl_eqRT2, dl_eqRF2, dl_leLT3, dl_leLF3, dl_leRT3, dl_leRF3, dl_ltLT3, dl_ltLF3, dl_ltRT3, dl_ltRF3, dl_eqRT3, dl_eqRF3, dl_leLT8, dl_leLF8, dl_leRT8, dl_leRF8, dl_ltLT8, dl_ltLF8, dl_ltRT8, dl_ltRF8, dl_eqRT8, dl_eqRF8, dl_leLT9, dl_leLF9, dl_leRT9, dl_leRF9, dl_ltLT9, dl_ltLF9, dl_ltRT9, dl_ltRF9, dl_eqRT9, dl_eqRF9, dl_leLT16, dl_leLF16, dl_leRT16, dl_leRF16, dl_ltLT16, dl_ltLF16, dl_ltRT16, dl_ltRF16, dl_eqRT16, dl_eqRF16, dl_leLT64, dl_leLF64, dl_leRT64, dl_leRF64, dl_ltLT64, dl_ltLF64, dl_ltRT64, dl_ltRF64, dl_eqRT64, dl_eqRF64, dl_leLT65, dl_leLF65, dl_leRT65, dl_leRF65, dl_ltLT65, dl_ltLF65, dl_ltRT65, dl_ltRF65, dl_eqRT65, dl_eqRF65, s2]
      refine dl_xik _ (by omega) KF w1 (fun q => br_f (by decide) ?_) (fun q => br_t rfl ?_)
      · have k1 := hK _ w1 q
        refine dl_xiw _ B Pn Dn.1 (by omega) (fun q1 q2 => br_f (by decide) ?_) (fun nq => br_t rfl ?_)
        · have eb := Dn.2.2 i (by omega)
          rw [if_pos ⟨q1, q2⟩] at eb
          try simp (disch := omega) only [nI_clamp, dl_Ar, dl_Au, dl_leT, dl_leF, dl_ltT, dl_ltF, dl_eqT, dl_eqF, nI_add, nI_1, dl_inT, dl_sub, dl_sub1, dl_subm1, forall_eq, true_implies, false_implies, not_true, not_false_iff, true_and, and_true, dl_leLT0, dl_leLF0, dl_leRT0, dl_leRF0, dl_ltLT0, dl_ltLF0, dl_ltRT0, dl_ltRF0, dl_eqRT0, dl_eqRF0, dl_leLT1, dl_leLF1, dl_leRT1, dl_leRF1, dl_ltLT1, dl_ltLF1, dl_ltRT1, dl_ltRF1, dl_eqRT1, dl_eqRF1, dl_leLT2, dl_leLF2, dl_leRT2, dl_leRF2, dl_ltLT2, dl_ltLF2, dl_ltRT2, dl_ltRF2, dl_eqRT2, dl_eqRF2, dl_leLT3, dl_leLF3, dl_leRT3, dl_leRF3, dl_ltLT3, dl_ltLF3, dl_ltRT3, dl_ltRF3, dl_eqRT3, dl_eqRF3, dl_leLT8, dl_leLF8, dl_leRT8, dl_leRF8, dl_ltLT8, dl_ltLF8, dl_ltRT8, dl_ltRF8, dl_eqRT8, dl_eqRF8, dl_leLT9, dl_leLF9, dl_leRT9, dl_leRF9, dl_ltLT9, dl_ltLF9, dl_ltRT9, dl_ltRF9, dl_eqRT9, dl_eqRF9, dl_leLT16, dl_leLF16, dl_leRT16, dl_leRF16, dl_ltLT16, dl_ltLF16, dl_ltRT16, dl_ltRF16, dl_eqRT16, dl_eqRF16, dl_leLT64, dl_leLF64, dl_leRT64, dl_leRF64, dl_ltLT64, dl_ltLF64, dl_ltRT64, dl_ltRF64, dl_eqRT64, dl_eqRF64, dl_leLT65, dl_leLF65, dl_leRT65, dl_leRF65, dl_ltLT65, dl_ltLF65, dl_ltRT65, dl_ltRF65, dl_eqRT65, dl_eqRF65]
          exact fin _ eb
        · have eb := Dn.2.2 (S (wr i) + (i - D (wr i))) (by omega)
          rw [if_neg (fun w => nq ⟨hi, by
            have := dl_safe (S := S) Ti Pi hK hi q w.1
            omega⟩)] at eb
          try simp (disch := omega) only [nI_clamp, dl_Ar, dl_Au, dl_leT, dl_leF, dl_ltT, dl_ltF, dl_eqT, dl_eqF, nI_add, nI_1, dl_inT, dl_sub, dl_sub1, dl_subm1, forall_eq, true_implies, false_implies, not_true, not_false_iff, true_and, and_true, dl_leLT0, dl_leLF0, dl_leRT0, dl_leRF0, dl_ltLT0, dl_ltLF0, dl_ltRT0, dl_ltRF0, dl_eqRT0, dl_eqRF0, dl_leLT1, dl_leLF1, dl_leRT1, dl_leRF1, dl_ltLT1, dl_ltLF1, dl_ltRT1, dl_ltRF1, dl_eqRT1, dl_eqRF1, dl_leLT2, dl_leLF2, dl_leRT2, dl_leRF2, dl_ltLT2, dl_ltLF2, dl_ltRT2, dl_ltRF2, dl_eqRT2, dl_eqRF2, dl_leLT3, dl_leLF3, dl_leRT3, dl_leRF3, dl_ltLT3, dl_ltLF3, dl_ltRT3, dl_ltRF3, dl_eqRT3, dl_eqRF3, dl_leLT8, dl_leLF8, dl_leRT8, dl_leRF8, dl_ltLT8, dl_ltLF8, dl_ltRT8, dl_ltRF8, dl_eqRT8, dl_eqRF8, dl_leLT9, dl_leLF9, dl_leRT9, dl_leRF9, dl_ltLT9, dl_ltLF9, dl_ltRT9, dl_ltRF9, dl_eqRT9, dl_eqRF9, dl_leLT16, dl_leLF16, dl_leRT16, dl_leRF16, dl_ltLT16, dl_ltLF16, dl_ltRT16, dl_ltRF16, dl_eqRT16, dl_eqRF16, dl_leLT64, dl_leLF64, dl_leRT64, dl_leRF64, dl_ltLT64, dl_ltLF64, dl_ltRT64, dl_ltRF64, dl_eqRT64, dl_eqRF64, dl_leLT65, dl_leLF65, dl_leRT65, dl_leRF65, dl_ltLT65, dl_ltLF65, dl_ltRT65, dl_ltRF65, dl_eqRT65, dl_eqRF65]
          refine fin _ ?_
          unfold dl_nv
          rw [if_neg (by omega)]
          exact eb
      · obtain ⟨g1, g2⟩ := hp _ w1 q
        try simp (disch := omega) only [nI_clamp, dl_Ar, dl_Au, dl_leT, dl_leF, dl_ltT, dl_ltF, dl_eqT, dl_eqF, nI_add, nI_1, dl_inT, dl_sub, dl_sub1, dl_subm1, forall_eq, true_implies, false_implies, not_true, not_false_iff, true_and, and_true, dl_leLT0, dl_leLF0, dl_leRT0, dl_leRF0, dl_ltLT0, dl_ltLF0, dl_ltRT0, dl_ltRF0, dl_eqRT0, dl_eqRF0, dl_leLT1, dl_leLF1, dl_leRT1, dl_leRF1, dl_ltLT1, dl_ltLF1, dl_ltRT1, dl_ltRF1, dl_eqRT1, dl_eqRF1, dl_leLT2, dl_leLF2, dl_leRT2, dl_leRF2, dl_ltLT2, dl_ltLF2, dl_ltRT2, dl_ltRF2, dl_eqRT2, dl_eqRF2, dl_leLT3, dl_leLF3, dl_leRT3, dl_leRF3, dl_ltLT3, dl_ltLF3, dl_ltRT3, dl_ltRF3, dl_eqRT3, dl_eqRF3, dl_leLT8, dl_leLF8, dl_leRT8, dl_leRF8, dl_ltLT8, dl_ltLF8, dl_ltRT8, dl_ltRF8, dl_eqRT8, dl_eqRF8, dl_leLT9, dl_leLF9, dl_leRT9, dl_leRF9, dl_ltLT9, dl_ltLF9, dl_ltRT9, dl_ltRF9, dl_eqRT9, dl_eqRF9, dl_leLT16, dl_leLF16, dl_leRT16, dl_leRF16, dl_ltLT16, dl_ltLF16, dl_ltRT16, dl_ltRF16, dl_eqRT16, dl_eqRF16, dl_leLT64, dl_leLF64, dl_leRT64, dl_leRF64, dl_ltLT64, dl_ltLF64, dl_ltRT64, dl_ltRF64, dl_eqRT64, dl_eqRF64, dl_leLT65, dl_leLF65, dl_leRT65, dl_leRF65, dl_ltLT65, dl_ltLF65, dl_ltRT65, dl_ltRF65, dl_eqRT65, dl_eqRF65]
        refine fin _ ?_
        unfold dl_nv
        exact g2 _ (by omega)
  · simp (disch := omega) only [wpX_want, wpY_want, nI_clamp, dl_Ar, dl_Au, dl_leT, dl_leF, dl_ltT, dl_ltF, dl_eqT, dl_eqF, nI_add, nI_1, dl_inT, dl_sub, dl_sub1, dl_subm1, forall_eq, true_implies, false_implies, not_true, not_false_iff, true_and, and_true, dl_leLT0, dl_leLF0, dl_leRT0, dl_leRF0, dl_ltLT0, dl_ltLF0, dl_ltRT0, dl_ltRF0, dl_eqRT0, dl_eqRF0, dl_leLT1, dl_leLF1, dl_leRT1, dl_leRF1, dl_ltLT1, dl_ltLF1, dl_ltRT1, dl_ltRF1, dl_eqRT1, dl_eqRF1, dl_leLT2, dl_leLF2, dl_leRT2, dl_leRF2, dl_ltLT2, dl_ltLF2, dl_ltRT2, dl_ltRF2, dl_eqRT2, dl_eqRF2, dl_leLT3, dl_leLF3, dl_leRT3, dl_leRF3, dl_ltLT3, dl_ltLF3, dl_ltRT3, dl_ltRF3, dl_eqRT3, dl_eqRF3, dl_leLT8, dl_leLF8, dl_leRT8, dl_leRF8, dl_ltLT8, dl_ltLF8, dl_ltRT8, dl_ltRF8, dl_eqRT8, dl_eqRF8, dl_leLT9, dl_leLF9, dl_leRT9, dl_leRF9, dl_ltLT9, dl_ltLF9, dl_ltRT9, dl_ltRF9, dl_eqRT9, dl_eqRF9, dl_leLT16, dl_leLF16, dl_leRT16, dl_leRF16, dl_ltLT16, dl_ltLF16, dl_ltRT16, dl_ltRF16, dl_eqRT16, dl_eqRF16, dl_leLT64, dl_leLF64, dl_leRT64, dl_leRF64, dl_ltLT64, dl_ltLF64, dl_ltRT64, dl_ltRF64, dl_eqRT64, dl_eqRF64, dl_leLT65, dl_leLF65, dl_leRT65, dl_leRF65, dl_ltLT65, dl_ltLF65, dl_ltRT65, dl_ltRF65, dl_eqRT65, dl_eqRF65]
    first | exact Rl | exact ⟨by trivial, Rl⟩
end
section
theorem dl_Z_s {N F π : Nat → Nat} {t : Nat} : dl_Z N F π (t + 1) = dl_Z N F π t + if F (π t) = 1 then 4 else 3 + N (π t) := rfl
theorem dl_Z_mono {N F π : Nat → Nat} {s t : Nat} (h : s ≤ t) : dl_Z N F π s ≤ dl_Z N F π t := dl_s_mono h
theorem dl_Z_le {N F π : Nat → Nat} {n : Nat} (h : ∀ t, t < n → N (π t) ≤ 64) : dl_Z N F π n ≤ n * 67 := by
  have a := dl_s_le (f := fun s => if F (π s) = 1 then 4 else 3 + N (π s)) (g := fun _ => 67) (n := n) (fun i hi => by
    have := h i hi
    split <;> omega)
  have b := dl_s_const (k := 67) (n := n)
  unfold dl_Z; omega
theorem dl_Z_ex {N F π : Nat → Nat} {k : Nat} : ∀ n : Nat, ∃ s, s ≤ n ∧ dl_Z N F π s ≤ k ∧ (s < n → k < dl_Z N F π (s + 1))
  | 0 => ⟨0, Nat.le_refl _, Nat.zero_le _, fun h => by omega⟩
  | n + 1 => by
    obtain ⟨s, s1, s2, s3⟩ := dl_Z_ex (N := N) (F := F) (π := π) (k := k) n
    rcases Nat.lt_or_ge s n with z | z
    · exact ⟨s, by omega, s2, fun _ => s3 z⟩
    · have e : s = n := by omega
      subst e
      rcases Nat.lt_or_ge k (dl_Z N F π (s + 1)) with w | w
      · exact ⟨s, by omega, s2, fun _ => w⟩
      · exact ⟨s + 1, Nat.le_refl _, w, fun h => by omega⟩
/-- value o of command c in the stream -/
def dl_sv (K S D N F : Nat → Nat) (dat old : Nat → Int32) (c o : Nat) : Int32 :=
  if F c = 1 then (if o = 0 then 1 else if o = 1 then nI (S c) else if o = 2 then nI (D c) else nI (N c))
  else (if o = 0 then 2 else if o = 1 then nI (D c) else if o = 2 then nI (N c) else (if K c = 2 then dat (c * 64 + (o - 3)) else old (S c + (o - 3))))
def dl_Iz (cnt : Nat) (Z : Nat → Nat) (k s b : Nat) : Prop := s ≤ cnt ∧ Z s ≤ k ∧ ∀ s', s + b ≤ s' → s' ≤ cnt → k < Z s'
section
variable {C L ph ol T cnt ls co dn pl dy : Nat} {kp : Int32} {K S D N A bD sq po ws ss bd F P : Nat → Nat} {bu pool bf af cm ed re old nxt dat mk : Nat → Int32}
theorem dl_xsp (post : Int32 → Prop) (hcnt : cnt ≤ 16) (hz : ∀ t, t ≤ cnt → ss t < 2147483648) (hm : ∀ s t, s ≤ t → t ≤ cnt → ss s ≤ ss t) {k : Nat} (hk : k < 2147483648) {f s j : Nat} (hj : 0 < j) (hj16 : j ≤ 16) (I : dl_Iz cnt ss k s (2 * j))
    (H : ∀ s', dl_Iz cnt ss k s' j → wX_streamPlace_5 post (nI k) (nI C) (nI L) (nI ph) (nI ol) (nI T) (nI cnt) (nI ls) (nI co) kp (nI dn) (nI pl) bu (dl_A K) (dl_A S) (dl_A D) (dl_A N) (dl_A A) pool (dl_A bD) bf af cm (dl_A sq) (dl_A po) (dl_A ws) (dl_A ss) ed re (dl_A bd) f (nI s') (nI (j / 2))) : wX_streamPlace_5 post (nI k) (nI C) (nI L) (nI ph) (nI ol) (nI T) (nI cnt) (nI ls) (nI co) kp (nI dn) (nI pl) bu (dl_A K) (dl_A S) (dl_A D) (dl_A N) (dl_A A) pool (dl_A bD) bf af cm (dl_A sq) (dl_A po) (dl_A ws) (dl_A ss) ed re (dl_A bd) (f + 1) (nI s) (nI j) := by
  obtain ⟨i1, i2, i3⟩ := I
  rcases Nat.lt_or_ge cnt (s + j) with z | z
  · simp (disch := omega) only [wX_streamPlace_5, nI_clamp, dl_Ar, dl_Au, dl_leT, dl_leF, dl_ltT, dl_ltF, dl_eqT, dl_eqF, nI_add, nI_1, dl_inT, dl_sub, dl_sub1, dl_subm1, forall_eq, true_implies, false_implies, not_true, not_false_iff, true_and, and_true, dl_leLT0, dl_leLF0, dl_leRT0, dl_leRF0, dl_ltLT0, dl_ltLF0, dl_ltRT0, dl_ltRF0, dl_eqRT0, dl_eqRF0, dl_leLT1, dl_leLF1, dl_leRT1, dl_leRF1, dl_ltLT1, dl_ltLF1, dl_ltRT1, dl_ltRF1, dl_eqRT1, dl_eqRF1, dl_leLT2, dl_leLF2, dl_leRT2, dl_leRF2, dl_ltLT2, dl_ltLF2, dl_ltRT2, dl_ltRF2, dl_eqRT2, dl_eqRF2, dl_leLT3, dl_leLF3, dl_leRT3, dl_leRF3, dl_ltLT3, dl_ltLF3, dl_ltRT3, dl_ltRF3, dl_eqRT3, dl_eqRF3, dl_leLT8, dl_leLF8, dl_leRT8, dl_leRF8, dl_ltLT8, dl_ltLF8, dl_ltRT8, dl_ltRF8, dl_eqRT8, dl_eqRF8, dl_leLT9, dl_leLF9, dl_leRT9, dl_leRF9, dl_ltLT9, dl_ltLF9, dl_ltRT9, dl_ltRF9, dl_eqRT9, dl_eqRF9, dl_leLT16, dl_leLF16, dl_leRT16, dl_leRF16, dl_ltLT16, dl_ltLF16, dl_ltRT16, dl_ltRF16, dl_eqRT16, dl_eqRF16, dl_leLT64, dl_leLF64, dl_leRT64, dl_leRF64, dl_ltLT64, dl_ltLF64, dl_ltRT64, dl_ltRF64, dl_eqRT64, dl_eqRF64, dl_leLT65, dl_leLF65, dl_leRT65, dl_leRF65, dl_ltLT65, dl_ltLF65, dl_ltRT65, dl_ltRF65, dl_eqRT65, dl_eqRF65, dl_shr1]
    exact H s ⟨i1, i2, fun s' h1 h2 => by omega⟩
  · have hd := hz (s + j) z
    rcases Nat.lt_or_ge k (ss (s + j)) with q | q
    · simp (disch := omega) only [wX_streamPlace_5, nI_clamp, dl_Ar, dl_Au, dl_leT, dl_leF, dl_ltT, dl_ltF, dl_eqT, dl_eqF, nI_add, nI_1, dl_inT, dl_sub, dl_sub1, dl_subm1, forall_eq, true_implies, false_implies, not_true, not_false_iff, true_and, and_true, dl_leLT0, dl_leLF0, dl_leRT0, dl_leRF0, dl_ltLT0, dl_ltLF0, dl_ltRT0, dl_ltRF0, dl_eqRT0, dl_eqRF0, dl_leLT1, dl_leLF1, dl_leRT1, dl_leRF1, dl_ltLT1, dl_ltLF1, dl_ltRT1, dl_ltRF1, dl_eqRT1, dl_eqRF1, dl_leLT2, dl_leLF2, dl_leRT2, dl_leRF2, dl_ltLT2, dl_ltLF2, dl_ltRT2, dl_ltRF2, dl_eqRT2, dl_eqRF2, dl_leLT3, dl_leLF3, dl_leRT3, dl_leRF3, dl_ltLT3, dl_ltLF3, dl_ltRT3, dl_ltRF3, dl_eqRT3, dl_eqRF3, dl_leLT8, dl_leLF8, dl_leRT8, dl_leRF8, dl_ltLT8, dl_ltLF8, dl_ltRT8, dl_ltRF8, dl_eqRT8, dl_eqRF8, dl_leLT9, dl_leLF9, dl_leRT9, dl_leRF9, dl_ltLT9, dl_ltLF9, dl_ltRT9, dl_ltRF9, dl_eqRT9, dl_eqRF9, dl_leLT16, dl_leLF16, dl_leRT16, dl_leRF16, dl_ltLT16, dl_ltLF16, dl_ltRT16, dl_ltRF16, dl_eqRT16, dl_eqRF16, dl_leLT64, dl_leLF64, dl_leRT64, dl_leRF64, dl_ltLT64, dl_ltLF64, dl_ltRT64, dl_ltRF64, dl_eqRT64, dl_eqRF64, dl_leLT65, dl_leLF65, dl_leRT65, dl_leRF65, dl_ltLT65, dl_ltLF65, dl_ltRT65, dl_ltRF65, dl_eqRT65, dl_eqRF65, dl_shr1]
      exact H s ⟨i1, i2, fun s' h1 h2 => Nat.lt_of_lt_of_le q (hm _ _ h1 h2)⟩
    · simp (disch := omega) only [wX_streamPlace_5, nI_clamp, dl_Ar, dl_Au, dl_leT, dl_leF, dl_ltT, dl_ltF, dl_eqT, dl_eqF, nI_add, nI_1, dl_inT, dl_sub, dl_sub1, dl_subm1, forall_eq, true_implies, false_implies, not_true, not_false_iff, true_and, and_true, dl_leLT0, dl_leLF0, dl_leRT0, dl_leRF0, dl_ltLT0, dl_ltLF0, dl_ltRT0, dl_ltRF0, dl_eqRT0, dl_eqRF0, dl_leLT1, dl_leLF1, dl_leRT1, dl_leRF1, dl_ltLT1, dl_ltLF1, dl_ltRT1, dl_ltRF1, dl_eqRT1, dl_eqRF1, dl_leLT2, dl_leLF2, dl_leRT2, dl_leRF2, dl_ltLT2, dl_ltLF2, dl_ltRT2, dl_ltRF2, dl_eqRT2, dl_eqRF2, dl_leLT3, dl_leLF3, dl_leRT3, dl_leRF3, dl_ltLT3, dl_ltLF3, dl_ltRT3, dl_ltRF3, dl_eqRT3, dl_eqRF3, dl_leLT8, dl_leLF8, dl_leRT8, dl_leRF8, dl_ltLT8, dl_ltLF8, dl_ltRT8, dl_ltRF8, dl_eqRT8, dl_eqRF8, dl_leLT9, dl_leLF9, dl_leRT9, dl_leRF9, dl_ltLT9, dl_ltLF9, dl_ltRT9, dl_ltRF9, dl_eqRT9, dl_eqRF9, dl_leLT16, dl_leLF16, dl_leRT16, dl_leRF16, dl_ltLT16, dl_ltLF16, dl_ltRT16, dl_ltRF16, dl_eqRT16, dl_eqRF16, dl_leLT64, dl_leLF64, dl_leRT64, dl_leRF64, dl_ltLT64, dl_ltLF64, dl_ltRT64, dl_ltRF64, dl_eqRT64, dl_eqRF64, dl_leLT65, dl_leLF65, dl_leRT65, dl_leRF65, dl_ltLT65, dl_ltLF65, dl_ltRT65, dl_ltRF65, dl_eqRT65, dl_eqRF65, dl_shr1]
      exact H (s + j) ⟨z, q, fun s' h1 h2 => i3 s' (by omega) h2⟩
theorem dl_xstp (post : Int32 → Prop) (hcnt : cnt ≤ 16) (hz : ∀ t, t ≤ cnt → ss t < 2147483648) (hm : ∀ s t, s ≤ t → t ≤ cnt → ss s ≤ ss t) (h0 : ss 0 = 0) {k : Nat} (hk : k < 2147483648) (H : ∀ s, dl_Iz cnt ss k s 1 → post (nI s)) : wpX_streamPlace post (nI C, nI L, nI ph, nI ol, nI T, nI cnt, nI ls, nI co, kp, nI dn, nI pl, bu, dl_A K, dl_A S, dl_A D, dl_A N, dl_A A, pool, dl_A bD, bf, af, cm, dl_A sq, dl_A po, dl_A ws, dl_A ss, ed, re, dl_A bd) (nI k) := by
  have i0 : dl_Iz cnt ss k 0 (2 * 16) := ⟨by omega, by omega, fun s' h1 h2 => by omega⟩
  refine ⟨6, dl_xsp post hcnt hz hm hk (by decide) (by decide) i0 (fun s1 i1 => ?_)⟩
  refine dl_xsp post hcnt hz hm hk (j := 8) (by decide) (by decide) i1 (fun s1 i1 => ?_)
  refine dl_xsp post hcnt hz hm hk (j := 4) (by decide) (by decide) i1 (fun s2 i2 => ?_)
  refine dl_xsp post hcnt hz hm hk (j := 2) (by decide) (by decide) i2 (fun s3 i3 => ?_)
  refine dl_xsp post hcnt hz hm hk (j := 1) (by decide) (by decide) i3 (fun s4 i4 => ?_)
  exact br_t (by decide) (H s4 i4)
theorem dl_xcv (post : Int32 → Prop) {c o : Nat} (hc : c < 16) (ho : o < 2147483648) (f1 : F c = 1) (H : post (dl_sv K S D N F dat old c o)) : wpX_copyValue post (nI C, nI L, nI ph, nI ol, nI T, nI cnt, nI ls, nI co, kp, nI dn, nI pl, bu, dl_A K, dl_A S, dl_A D, dl_A N, dl_A A, pool, dl_A bD, bf, af, cm, dl_A sq, dl_A po, dl_A ws, dl_A ss, ed, re, dl_A bd) (nI c) (nI o) := by
  unfold dl_sv at H
  rw [if_pos f1] at H
  by_cases o0 : o = 0
  · rw [if_pos o0] at H
    simp (disch := omega) only [wpX_copyValue, nI_clamp, dl_Ar, dl_Au, dl_leT, dl_leF, dl_ltT, dl_ltF, dl_eqT, dl_eqF, nI_add, nI_1, dl_inT, dl_sub, dl_sub1, dl_subm1, forall_eq, true_implies, false_implies, not_true, not_false_iff, true_and, and_true, dl_leLT0, dl_leLF0, dl_leRT0, dl_leRF0, dl_ltLT0, dl_ltLF0, dl_ltRT0, dl_ltRF0, dl_eqRT0, dl_eqRF0, dl_leLT1, dl_leLF1, dl_leRT1, dl_leRF1, dl_ltLT1, dl_ltLF1, dl_ltRT1, dl_ltRF1, dl_eqRT1, dl_eqRF1, dl_leLT2, dl_leLF2, dl_leRT2, dl_leRF2, dl_ltLT2, dl_ltLF2, dl_ltRT2, dl_ltRF2, dl_eqRT2, dl_eqRF2, dl_leLT3, dl_leLF3, dl_leRT3, dl_leRF3, dl_ltLT3, dl_ltLF3, dl_ltRT3, dl_ltRF3, dl_eqRT3, dl_eqRF3, dl_leLT8, dl_leLF8, dl_leRT8, dl_leRF8, dl_ltLT8, dl_ltLF8, dl_ltRT8, dl_ltRF8, dl_eqRT8, dl_eqRF8, dl_leLT9, dl_leLF9, dl_leRT9, dl_leRF9, dl_ltLT9, dl_ltLF9, dl_ltRT9, dl_ltRF9, dl_eqRT9, dl_eqRF9, dl_leLT16, dl_leLF16, dl_leRT16, dl_leRF16, dl_ltLT16, dl_ltLF16, dl_ltRT16, dl_ltRF16, dl_eqRT16, dl_eqRF16, dl_leLT64, dl_leLF64, dl_leRT64, dl_leRF64, dl_ltLT64, dl_ltLF64, dl_ltRT64, dl_ltRF64, dl_eqRT64, dl_eqRF64, dl_leLT65, dl_leLF65, dl_leRT65, dl_leRF65, dl_ltLT65, dl_ltLF65, dl_ltRT65, dl_ltRF65, dl_eqRT65, dl_eqRF65]
    exact H
  · rw [if_neg o0] at H
    by_cases o1 : o = 1
    · rw [if_pos o1] at H
      simp (disch := omega) only [wpX_copyValue, nI_clamp, dl_Ar, dl_Au, dl_leT, dl_leF, dl_ltT, dl_ltF, dl_eqT, dl_eqF, nI_add, nI_1, dl_inT, dl_sub, dl_sub1, dl_subm1, forall_eq, true_implies, false_implies, not_true, not_false_iff, true_and, and_true, dl_leLT0, dl_leLF0, dl_leRT0, dl_leRF0, dl_ltLT0, dl_ltLF0, dl_ltRT0, dl_ltRF0, dl_eqRT0, dl_eqRF0, dl_leLT1, dl_leLF1, dl_leRT1, dl_leRF1, dl_ltLT1, dl_ltLF1, dl_ltRT1, dl_ltRF1, dl_eqRT1, dl_eqRF1, dl_leLT2, dl_leLF2, dl_leRT2, dl_leRF2, dl_ltLT2, dl_ltLF2, dl_ltRT2, dl_ltRF2, dl_eqRT2, dl_eqRF2, dl_leLT3, dl_leLF3, dl_leRT3, dl_leRF3, dl_ltLT3, dl_ltLF3, dl_ltRT3, dl_ltRF3, dl_eqRT3, dl_eqRF3, dl_leLT8, dl_leLF8, dl_leRT8, dl_leRF8, dl_ltLT8, dl_ltLF8, dl_ltRT8, dl_ltRF8, dl_eqRT8, dl_eqRF8, dl_leLT9, dl_leLF9, dl_leRT9, dl_leRF9, dl_ltLT9, dl_ltLF9, dl_ltRT9, dl_ltRF9, dl_eqRT9, dl_eqRF9, dl_leLT16, dl_leLF16, dl_leRT16, dl_leRF16, dl_ltLT16, dl_ltLF16, dl_ltRT16, dl_ltRF16, dl_eqRT16, dl_eqRF16, dl_leLT64, dl_leLF64, dl_leRT64, dl_leRF64, dl_ltLT64, dl_ltLF64, dl_ltRT64, dl_ltRF64, dl_eqRT64, dl_eqRF64, dl_leLT65, dl_leLF65, dl_leRT65, dl_leRF65, dl_ltLT65, dl_ltLF65, dl_ltRT65, dl_ltRF65, dl_eqRT65, dl_eqRF65]
      exact H
    · rw [if_neg o1] at H
      by_cases o2 : o = 2
      · rw [if_pos o2] at H
        simp (disch := omega) only [wpX_copyValue, nI_clamp, dl_Ar, dl_Au, dl_leT, dl_leF, dl_ltT, dl_ltF, dl_eqT, dl_eqF, nI_add, nI_1, dl_inT, dl_sub, dl_sub1, dl_subm1, forall_eq, true_implies, false_implies, not_true, not_false_iff, true_and, and_true, dl_leLT0, dl_leLF0, dl_leRT0, dl_leRF0, dl_ltLT0, dl_ltLF0, dl_ltRT0, dl_ltRF0, dl_eqRT0, dl_eqRF0, dl_leLT1, dl_leLF1, dl_leRT1, dl_leRF1, dl_ltLT1, dl_ltLF1, dl_ltRT1, dl_ltRF1, dl_eqRT1, dl_eqRF1, dl_leLT2, dl_leLF2, dl_leRT2, dl_leRF2, dl_ltLT2, dl_ltLF2, dl_ltRT2, dl_ltRF2, dl_eqRT2, dl_eqRF2, dl_leLT3, dl_leLF3, dl_leRT3, dl_leRF3, dl_ltLT3, dl_ltLF3, dl_ltRT3, dl_ltRF3, dl_eqRT3, dl_eqRF3, dl_leLT8, dl_leLF8, dl_leRT8, dl_leRF8, dl_ltLT8, dl_ltLF8, dl_ltRT8, dl_ltRF8, dl_eqRT8, dl_eqRF8, dl_leLT9, dl_leLF9, dl_leRT9, dl_leRF9, dl_ltLT9, dl_ltLF9, dl_ltRT9, dl_ltRF9, dl_eqRT9, dl_eqRF9, dl_leLT16, dl_leLF16, dl_leRT16, dl_leRF16, dl_ltLT16, dl_ltLF16, dl_ltRT16, dl_ltRF16, dl_eqRT16, dl_eqRF16, dl_leLT64, dl_leLF64, dl_leRT64, dl_leRF64, dl_ltLT64, dl_ltLF64, dl_ltRT64, dl_ltRF64, dl_eqRT64, dl_eqRF64, dl_leLT65, dl_leLF65, dl_leRT65, dl_leRF65, dl_ltLT65, dl_ltLF65, dl_ltRT65, dl_ltRF65, dl_eqRT65, dl_eqRF65]
        exact H
      · rw [if_neg o2] at H
        simp (disch := omega) only [wpX_copyValue, nI_clamp, dl_Ar, dl_Au, dl_leT, dl_leF, dl_ltT, dl_ltF, dl_eqT, dl_eqF, nI_add, nI_1, dl_inT, dl_sub, dl_sub1, dl_subm1, forall_eq, true_implies, false_implies, not_true, not_false_iff, true_and, and_true, dl_leLT0, dl_leLF0, dl_leRT0, dl_leRF0, dl_ltLT0, dl_ltLF0, dl_ltRT0, dl_ltRF0, dl_eqRT0, dl_eqRF0, dl_leLT1, dl_leLF1, dl_leRT1, dl_leRF1, dl_ltLT1, dl_ltLF1, dl_ltRT1, dl_ltRF1, dl_eqRT1, dl_eqRF1, dl_leLT2, dl_leLF2, dl_leRT2, dl_leRF2, dl_ltLT2, dl_ltLF2, dl_ltRT2, dl_ltRF2, dl_eqRT2, dl_eqRF2, dl_leLT3, dl_leLF3, dl_leRT3, dl_leRF3, dl_ltLT3, dl_ltLF3, dl_ltRT3, dl_ltRF3, dl_eqRT3, dl_eqRF3, dl_leLT8, dl_leLF8, dl_leRT8, dl_leRF8, dl_ltLT8, dl_ltLF8, dl_ltRT8, dl_ltRF8, dl_eqRT8, dl_eqRF8, dl_leLT9, dl_leLF9, dl_leRT9, dl_leRF9, dl_ltLT9, dl_ltLF9, dl_ltRT9, dl_ltRF9, dl_eqRT9, dl_eqRF9, dl_leLT16, dl_leLF16, dl_leRT16, dl_leRF16, dl_ltLT16, dl_ltLF16, dl_ltRT16, dl_ltRF16, dl_eqRT16, dl_eqRF16, dl_leLT64, dl_leLF64, dl_leRT64, dl_leRF64, dl_ltLT64, dl_ltLF64, dl_ltRT64, dl_ltRF64, dl_eqRT64, dl_eqRF64, dl_leLT65, dl_leLF65, dl_leRT65, dl_leRF65, dl_ltLT65, dl_ltLF65, dl_ltRT65, dl_ltRF65, dl_eqRT65, dl_eqRF65]
        exact H
theorem dl_xav (post : Int32 → Prop) {c o : Nat} (hc : c < 16) (ho : o < 3 + N c) (f1 : ¬ F c = 1) (hA : A c + N c ≤ 64) (hp : ∀ k, k < N c → pool (A c + k) = if K c = 2 then dat (c * 64 + k) else old (S c + k)) (H : post (dl_sv K S D N F dat old c o)) : wpX_addValue post (nI C, nI L, nI ph, nI ol, nI T, nI cnt, nI ls, nI co, kp, nI dn, nI pl, bu, dl_A K, dl_A S, dl_A D, dl_A N, dl_A A, pool, dl_A bD, bf, af, cm, dl_A sq, dl_A po, dl_A ws, dl_A ss, ed, re, dl_A bd) (nI c) (nI o) := by
  unfold dl_sv at H
  rw [if_neg f1] at H
  by_cases o0 : o = 0
  · rw [if_pos o0] at H
    simp (disch := omega) only [wpX_addValue, nI_clamp, dl_Ar, dl_Au, dl_leT, dl_leF, dl_ltT, dl_ltF, dl_eqT, dl_eqF, nI_add, nI_1, dl_inT, dl_sub, dl_sub1, dl_subm1, forall_eq, true_implies, false_implies, not_true, not_false_iff, true_and, and_true, dl_leLT0, dl_leLF0, dl_leRT0, dl_leRF0, dl_ltLT0, dl_ltLF0, dl_ltRT0, dl_ltRF0, dl_eqRT0, dl_eqRF0, dl_leLT1, dl_leLF1, dl_leRT1, dl_leRF1, dl_ltLT1, dl_ltLF1, dl_ltRT1, dl_ltRF1, dl_eqRT1, dl_eqRF1, dl_leLT2, dl_leLF2, dl_leRT2, dl_leRF2, dl_ltLT2, dl_ltLF2, dl_ltRT2, dl_ltRF2, dl_eqRT2, dl_eqRF2, dl_leLT3, dl_leLF3, dl_leRT3, dl_leRF3, dl_ltLT3, dl_ltLF3, dl_ltRT3, dl_ltRF3, dl_eqRT3, dl_eqRF3, dl_leLT8, dl_leLF8, dl_leRT8, dl_leRF8, dl_ltLT8, dl_ltLF8, dl_ltRT8, dl_ltRF8, dl_eqRT8, dl_eqRF8, dl_leLT9, dl_leLF9, dl_leRT9, dl_leRF9, dl_ltLT9, dl_ltLF9, dl_ltRT9, dl_ltRF9, dl_eqRT9, dl_eqRF9, dl_leLT16, dl_leLF16, dl_leRT16, dl_leRF16, dl_ltLT16, dl_ltLF16, dl_ltRT16, dl_ltRF16, dl_eqRT16, dl_eqRF16, dl_leLT64, dl_leLF64, dl_leRT64, dl_leRF64, dl_ltLT64, dl_ltLF64, dl_ltRT64, dl_ltRF64, dl_eqRT64, dl_eqRF64, dl_leLT65, dl_leLF65, dl_leRT65, dl_leRF65, dl_ltLT65, dl_ltLF65, dl_ltRT65, dl_ltRF65, dl_eqRT65, dl_eqRF65]
    exact H
  · rw [if_neg o0] at H
    by_cases o1 : o = 1
    · rw [if_pos o1] at H
      simp (disch := omega) only [wpX_addValue, nI_clamp, dl_Ar, dl_Au, dl_leT, dl_leF, dl_ltT, dl_ltF, dl_eqT, dl_eqF, nI_add, nI_1, dl_inT, dl_sub, dl_sub1, dl_subm1, forall_eq, true_implies, false_implies, not_true, not_false_iff, true_and, and_true, dl_leLT0, dl_leLF0, dl_leRT0, dl_leRF0, dl_ltLT0, dl_ltLF0, dl_ltRT0, dl_ltRF0, dl_eqRT0, dl_eqRF0, dl_leLT1, dl_leLF1, dl_leRT1, dl_leRF1, dl_ltLT1, dl_ltLF1, dl_ltRT1, dl_ltRF1, dl_eqRT1, dl_eqRF1, dl_leLT2, dl_leLF2, dl_leRT2, dl_leRF2, dl_ltLT2, dl_ltLF2, dl_ltRT2, dl_ltRF2, dl_eqRT2, dl_eqRF2, dl_leLT3, dl_leLF3, dl_leRT3, dl_leRF3, dl_ltLT3, dl_ltLF3, dl_ltRT3, dl_ltRF3, dl_eqRT3, dl_eqRF3, dl_leLT8, dl_leLF8, dl_leRT8, dl_leRF8, dl_ltLT8, dl_ltLF8, dl_ltRT8, dl_ltRF8, dl_eqRT8, dl_eqRF8, dl_leLT9, dl_leLF9, dl_leRT9, dl_leRF9, dl_ltLT9, dl_ltLF9, dl_ltRT9, dl_ltRF9, dl_eqRT9, dl_eqRF9, dl_leLT16, dl_leLF16, dl_leRT16, dl_leRF16, dl_ltLT16, dl_ltLF16, dl_ltRT16, dl_ltRF16, dl_eqRT16, dl_eqRF16, dl_leLT64, dl_leLF64, dl_leRT64, dl_leRF64, dl_ltLT64, dl_ltLF64, dl_ltRT64, dl_ltRF64, dl_eqRT64, dl_eqRF64, dl_leLT65, dl_leLF65, dl_leRT65, dl_leRF65, dl_ltLT65, dl_ltLF65, dl_ltRT65, dl_ltRF65, dl_eqRT65, dl_eqRF65]
      exact H
    · rw [if_neg o1] at H
      by_cases o2 : o = 2
      · rw [if_pos o2] at H
        simp (disch := omega) only [wpX_addValue, nI_clamp, dl_Ar, dl_Au, dl_leT, dl_leF, dl_ltT, dl_ltF, dl_eqT, dl_eqF, nI_add, nI_1, dl_inT, dl_sub, dl_sub1, dl_subm1, forall_eq, true_implies, false_implies, not_true, not_false_iff, true_and, and_true, dl_leLT0, dl_leLF0, dl_leRT0, dl_leRF0, dl_ltLT0, dl_ltLF0, dl_ltRT0, dl_ltRF0, dl_eqRT0, dl_eqRF0, dl_leLT1, dl_leLF1, dl_leRT1, dl_leRF1, dl_ltLT1, dl_ltLF1, dl_ltRT1, dl_ltRF1, dl_eqRT1, dl_eqRF1, dl_leLT2, dl_leLF2, dl_leRT2, dl_leRF2, dl_ltLT2, dl_ltLF2, dl_ltRT2, dl_ltRF2, dl_eqRT2, dl_eqRF2, dl_leLT3, dl_leLF3, dl_leRT3, dl_leRF3, dl_ltLT3, dl_ltLF3, dl_ltRT3, dl_ltRF3, dl_eqRT3, dl_eqRF3, dl_leLT8, dl_leLF8, dl_leRT8, dl_leRF8, dl_ltLT8, dl_ltLF8, dl_ltRT8, dl_ltRF8, dl_eqRT8, dl_eqRF8, dl_leLT9, dl_leLF9, dl_leRT9, dl_leRF9, dl_ltLT9, dl_ltLF9, dl_ltRT9, dl_ltRF9, dl_eqRT9, dl_eqRF9, dl_leLT16, dl_leLF16, dl_leRT16, dl_leRF16, dl_ltLT16, dl_ltLF16, dl_ltRT16, dl_ltRF16, dl_eqRT16, dl_eqRF16, dl_leLT64, dl_leLF64, dl_leRT64, dl_leRF64, dl_ltLT64, dl_ltLF64, dl_ltRT64, dl_ltRF64, dl_eqRT64, dl_eqRF64, dl_leLT65, dl_leLF65, dl_leRT65, dl_leRF65, dl_ltLT65, dl_ltLF65, dl_ltRT65, dl_ltRF65, dl_eqRT65, dl_eqRF65]
        exact H
      · rw [if_neg o2] at H
        have e := hp (o - 3) (by omega)
        rw [show A c + (o - 3) = A c + o - 3 by omega] at e
        rw [← e] at H
        simp (disch := omega) only [wpX_addValue, nI_clamp, dl_Ar, dl_Au, dl_leT, dl_leF, dl_ltT, dl_ltF, dl_eqT, dl_eqF, nI_add, nI_1, dl_inT, dl_sub, dl_sub1, dl_subm1, forall_eq, true_implies, false_implies, not_true, not_false_iff, true_and, and_true, dl_leLT0, dl_leLF0, dl_leRT0, dl_leRF0, dl_ltLT0, dl_ltLF0, dl_ltRT0, dl_ltRF0, dl_eqRT0, dl_eqRF0, dl_leLT1, dl_leLF1, dl_leRT1, dl_leRF1, dl_ltLT1, dl_ltLF1, dl_ltRT1, dl_ltRF1, dl_eqRT1, dl_eqRF1, dl_leLT2, dl_leLF2, dl_leRT2, dl_leRF2, dl_ltLT2, dl_ltLF2, dl_ltRT2, dl_ltRF2, dl_eqRT2, dl_eqRF2, dl_leLT3, dl_leLF3, dl_leRT3, dl_leRF3, dl_ltLT3, dl_ltLF3, dl_ltRT3, dl_ltRF3, dl_eqRT3, dl_eqRF3, dl_leLT8, dl_leLF8, dl_leRT8, dl_leRF8, dl_ltLT8, dl_ltLF8, dl_ltRT8, dl_ltRF8, dl_eqRT8, dl_eqRF8, dl_leLT9, dl_leLF9, dl_leRT9, dl_leRF9, dl_ltLT9, dl_ltLF9, dl_ltRT9, dl_ltRF9, dl_eqRT9, dl_eqRF9, dl_leLT16, dl_leLF16, dl_leRT16, dl_leRF16, dl_ltLT16, dl_ltLF16, dl_ltRT16, dl_ltRF16, dl_eqRT16, dl_eqRF16, dl_leLT64, dl_leLF64, dl_leRT64, dl_leRF64, dl_ltLT64, dl_ltLF64, dl_ltRT64, dl_ltRF64, dl_eqRT64, dl_eqRF64, dl_leLT65, dl_leLF65, dl_leRT65, dl_leRF65, dl_ltLT65, dl_ltLF65, dl_ltRT65, dl_ltRF65, dl_eqRT65, dl_eqRF65, dl_sub3]
        exact H
theorem dl_ylit (post : Int32 → Prop) (hcnt : cnt ≤ 16) (p1 : ph = 1) (B : dl_Bs C L ol T cnt K S D N) (hf : ∀ c, c < cnt → (K c = 1 ∧ (F c = 1 ∨ F c = 3)) ∨ (K c = 2 ∧ F c = 2)) {c j : Nat} (hc : c < cnt) (hj : j < N c) (f1 : ¬ F c = 1) (H : post (if K c = 2 then dat (c * 64 + j) else old (S c + j))) : wpY_literal post (nI C, nI L, nI ph, nI ol, nI T, nI cnt, nI dy, old, nxt, dl_A K, dl_A S, dl_A D, dl_A N, dat, dl_A F, dl_A P, mk) (nI c) (nI j) := by
  obtain ⟨b1, b2, b3, b4, b5, b6, b7, b8⟩ := B
  obtain ⟨c1, c2, c3⟩ := b8 c hc
  have hfc := hf c hc
  by_cases k2 : K c = 2
  · rw [if_pos k2] at H
    simp (disch := omega) only [wpY_literal, nI_clamp, dl_Ar, dl_Au, dl_leT, dl_leF, dl_ltT, dl_ltF, dl_eqT, dl_eqF, nI_add, nI_1, dl_inT, dl_sub, dl_sub1, dl_subm1, forall_eq, true_implies, false_implies, not_true, not_false_iff, true_and, and_true, dl_leLT0, dl_leLF0, dl_leRT0, dl_leRF0, dl_ltLT0, dl_ltLF0, dl_ltRT0, dl_ltRF0, dl_eqRT0, dl_eqRF0, dl_leLT1, dl_leLF1, dl_leRT1, dl_leRF1, dl_ltLT1, dl_ltLF1, dl_ltRT1, dl_ltRF1, dl_eqRT1, dl_eqRF1, dl_leLT2, dl_leLF2, dl_leRT2, dl_leRF2, dl_ltLT2, dl_ltLF2, dl_ltRT2, dl_ltRF2, dl_eqRT2, dl_eqRF2, dl_leLT3, dl_leLF3, dl_leRT3, dl_leRF3, dl_ltLT3, dl_ltLF3, dl_ltRT3, dl_ltRF3, dl_eqRT3, dl_eqRF3, dl_leLT8, dl_leLF8, dl_leRT8, dl_leRF8, dl_ltLT8, dl_ltLF8, dl_ltRT8, dl_ltRF8, dl_eqRT8, dl_eqRF8, dl_leLT9, dl_leLF9, dl_leRT9, dl_leRF9, dl_ltLT9, dl_ltLF9, dl_ltRT9, dl_ltRF9, dl_eqRT9, dl_eqRF9, dl_leLT16, dl_leLF16, dl_leRT16, dl_leRF16, dl_ltLT16, dl_ltLF16, dl_ltRT16, dl_ltRF16, dl_eqRT16, dl_eqRF16, dl_leLT64, dl_leLF64, dl_leRT64, dl_leRF64, dl_ltLT64, dl_ltLF64, dl_ltRT64, dl_ltRF64, dl_eqRT64, dl_eqRF64, dl_leLT65, dl_leLF65, dl_leRT65, dl_leRF65, dl_ltLT65, dl_ltLF65, dl_ltRT65, dl_ltRF65, dl_eqRT65, dl_eqRF65, dl_mul64]
    exact H
  · rw [if_neg k2] at H
    simp (disch := omega) only [wpY_literal, nI_clamp, dl_Ar, dl_Au, dl_leT, dl_leF, dl_ltT, dl_ltF, dl_eqT, dl_eqF, nI_add, nI_1, dl_inT, dl_sub, dl_sub1, dl_subm1, forall_eq, true_implies, false_implies, not_true, not_false_iff, true_and, and_true, dl_leLT0, dl_leLF0, dl_leRT0, dl_leRF0, dl_ltLT0, dl_ltLF0, dl_ltRT0, dl_ltRF0, dl_eqRT0, dl_eqRF0, dl_leLT1, dl_leLF1, dl_leRT1, dl_leRF1, dl_ltLT1, dl_ltLF1, dl_ltRT1, dl_ltRF1, dl_eqRT1, dl_eqRF1, dl_leLT2, dl_leLF2, dl_leRT2, dl_leRF2, dl_ltLT2, dl_ltLF2, dl_ltRT2, dl_ltRF2, dl_eqRT2, dl_eqRF2, dl_leLT3, dl_leLF3, dl_leRT3, dl_leRF3, dl_ltLT3, dl_ltLF3, dl_ltRT3, dl_ltRF3, dl_eqRT3, dl_eqRF3, dl_leLT8, dl_leLF8, dl_leRT8, dl_leRF8, dl_ltLT8, dl_ltLF8, dl_ltRT8, dl_ltRF8, dl_eqRT8, dl_eqRF8, dl_leLT9, dl_leLF9, dl_leRT9, dl_leRF9, dl_ltLT9, dl_ltLF9, dl_ltRT9, dl_ltRF9, dl_eqRT9, dl_eqRF9, dl_leLT16, dl_leLF16, dl_leRT16, dl_leRF16, dl_ltLT16, dl_ltLF16, dl_ltRT16, dl_ltRF16, dl_eqRT16, dl_eqRF16, dl_leLT64, dl_leLF64, dl_leRT64, dl_leRF64, dl_ltLT64, dl_ltLF64, dl_ltRT64, dl_ltRF64, dl_eqRT64, dl_eqRF64, dl_leLT65, dl_leLF65, dl_leRT65, dl_leRF65, dl_ltLT65, dl_ltLF65, dl_ltRT65, dl_ltRF65, dl_eqRT65, dl_eqRF65]
    exact H
theorem dl_yst (post : Int32 → Prop) (p1 : ph = 1) (B : dl_Bs C L ol T cnt K S D N) (hf : ∀ c, c < cnt → (K c = 1 ∧ (F c = 1 ∨ F c = 3)) ∨ (K c = 2 ∧ F c = 2)) (hq : ∀ t, t < cnt → sq t < cnt) (hP : ∀ t, t < cnt → P t = sq t) {k s : Nat} (hk : k < 2147483648) (hs : s ≤ cnt) (h1 : dl_Z N F sq s ≤ k) (h2 : s < cnt → k < dl_Z N F sq (s + 1))
    (H0 : s = cnt → k = dl_Z N F sq cnt → post 0) (Hm : s = cnt → dl_Z N F sq cnt < k → post (-1)) (Hv : s < cnt → post (dl_sv K S D N F dat old (sq s) (k - dl_Z N F sq s))) : wpY_streamAt post (nI C, nI L, nI ph, nI ol, nI T, nI cnt, nI dy, old, nxt, dl_A K, dl_A S, dl_A D, dl_A N, dat, dl_A F, dl_A P, mk) (nI k) := by
  have B' := B
  obtain ⟨b1, b2, b3, b4, b5, b6, b7, b8⟩ := B'
  have key : ∀ f y, y ≤ s → s - y < f → wY_streamAt_18 post (nI C) (nI L) (nI ph) (nI ol) (nI T) (nI cnt) (nI dy) old nxt (dl_A K) (dl_A S) (dl_A D) (dl_A N) dat (dl_A F) (dl_A P) mk f (nI (k - dl_Z N F sq y)) (nI y) := by
    intro f
    induction f with
    | zero => intro y _ h; omega
    | succ f ih =>
      intro y k1 k2
      rcases Nat.lt_or_ge y cnt with hy | hy
      · have ep := hP y hy
        have hs2 := hq y hy
        obtain ⟨c1, c2, c3⟩ := b8 _ hs2
        have hfy := hf _ hs2
        have hFb : F (sq y) < 2147483648 := by omega
        rcases Nat.lt_or_ge y s with z | z
        · have w1 := dl_Z_mono (N := N) (F := F) (π := sq) (s := y + 1) (t := s) z
          have IH := ih (y + 1) z (by omega)
          rw [dl_Z_s] at w1 IH
          by_cases f1 : F (sq y) = 1
          · rw [if_pos f1] at w1 IH
            have e4 : nI (k - dl_Z N F sq y) - 4 = nI (k - (dl_Z N F sq y + 4)) := by
              rw [← Nat.sub_sub]; exact pk_sub (b := 4) (by omega)
            have l4 : (4 : Int32) ≤ nI (k - dl_Z N F sq y) := nI_le (a := 4) (by omega) (by omega)
            have n1 : ¬ (1 : Int32) = 0 := by decide
            simp (disch := omega) only [wY_streamAt_18, wY_streamAt_50, wY_streamAt_70, nI_clamp, dl_Ar, dl_Au, dl_leT, dl_leF, dl_ltT, dl_ltF, dl_eqT, dl_eqF, nI_add, nI_1, dl_inT, dl_sub, dl_sub1, dl_subm1, forall_eq, true_implies, false_implies, not_true, not_false_iff, true_and, and_true, dl_leLT0, dl_leLF0, dl_leRT0, dl_leRF0, dl_ltLT0, dl_ltLF0, dl_ltRT0, dl_ltRF0, dl_eqRT0, dl_eqRF0, dl_leLT1, dl_leLF1, dl_leRT1, dl_leRF1, dl_ltLT1, dl_ltLF1, dl_ltRT1, dl_ltRF1, dl_eqRT1, dl_eqRF1, dl_leLT2, dl_leLF2, dl_leRT2, dl_leRF2, dl_ltLT2, dl_ltLF2, dl_ltRT2, dl_ltRF2, dl_eqRT2, dl_eqRF2, dl_leLT3, dl_leLF3, dl_leRT3, dl_leRF3, dl_ltLT3, dl_ltLF3, dl_ltRT3, dl_ltRF3, dl_eqRT3, dl_eqRF3, dl_leLT8, dl_leLF8, dl_leRT8, dl_leRF8, dl_ltLT8, dl_ltLF8, dl_ltRT8, dl_ltRF8, dl_eqRT8, dl_eqRF8, dl_leLT9, dl_leLF9, dl_leRT9, dl_leRF9, dl_ltLT9, dl_ltLF9, dl_ltRT9, dl_ltRF9, dl_eqRT9, dl_eqRF9, dl_leLT16, dl_leLF16, dl_leRT16, dl_leRF16, dl_ltLT16, dl_ltLF16, dl_ltRT16, dl_ltRF16, dl_eqRT16, dl_eqRF16, dl_leLT64, dl_leLF64, dl_leRT64, dl_leRF64, dl_ltLT64, dl_ltLF64, dl_ltRT64, dl_ltRF64, dl_eqRT64, dl_eqRF64, dl_leLT65, dl_leLF65, dl_leRT65, dl_leRF65, dl_ltLT65, dl_ltLF65, dl_ltRT65, dl_ltRF65, dl_eqRT65, dl_eqRF65, ep, e4, l4, n1]
            exact IH
          · rw [if_neg f1] at w1 IH
            simp (disch := omega) only [wY_streamAt_18, wY_streamAt_50, wY_streamAt_70, nI_clamp, dl_Ar, dl_Au, dl_leT, dl_leF, dl_ltT, dl_ltF, dl_eqT, dl_eqF, nI_add, nI_1, dl_inT, dl_sub, dl_sub1, dl_subm1, forall_eq, true_implies, false_implies, not_true, not_false_iff, true_and, and_true, dl_leLT0, dl_leLF0, dl_leRT0, dl_leRF0, dl_ltLT0, dl_ltLF0, dl_ltRT0, dl_ltRF0, dl_eqRT0, dl_eqRF0, dl_leLT1, dl_leLF1, dl_leRT1, dl_leRF1, dl_ltLT1, dl_ltLF1, dl_ltRT1, dl_ltRF1, dl_eqRT1, dl_eqRF1, dl_leLT2, dl_leLF2, dl_leRT2, dl_leRF2, dl_ltLT2, dl_ltLF2, dl_ltRT2, dl_ltRF2, dl_eqRT2, dl_eqRF2, dl_leLT3, dl_leLF3, dl_leRT3, dl_leRF3, dl_ltLT3, dl_ltLF3, dl_ltRT3, dl_ltRF3, dl_eqRT3, dl_eqRF3, dl_leLT8, dl_leLF8, dl_leRT8, dl_leRF8, dl_ltLT8, dl_ltLF8, dl_ltRT8, dl_ltRF8, dl_eqRT8, dl_eqRF8, dl_leLT9, dl_leLF9, dl_leRT9, dl_leRF9, dl_ltLT9, dl_ltLF9, dl_ltRT9, dl_ltRF9, dl_eqRT9, dl_eqRF9, dl_leLT16, dl_leLF16, dl_leRT16, dl_leRF16, dl_ltLT16, dl_ltLF16, dl_ltRT16, dl_ltRF16, dl_eqRT16, dl_eqRF16, dl_leLT64, dl_leLF64, dl_leRT64, dl_leRF64, dl_ltLT64, dl_ltLF64, dl_ltRT64, dl_ltRF64, dl_eqRT64, dl_eqRF64, dl_leLT65, dl_leLF65, dl_leRT65, dl_leRF65, dl_ltLT65, dl_ltLF65, dl_ltRT65, dl_ltRF65, dl_eqRT65, dl_eqRF65, dl_3add, ep]
            rw [← Nat.sub_sub] at IH
            exact IH
        · have e : y = s := by omega
          subst e
          have hv := Hv hy
          have h2' := h2 hy
          rw [dl_Z_s] at h2'
          unfold dl_sv at hv
          by_cases f1 : F (sq y) = 1
          · rw [if_pos f1] at h2' hv
            have n4 : ¬ (4 : Int32) ≤ nI (k - dl_Z N F sq y) := nI_ge (b := 4) (by omega) (by omega)
            have n1 : ¬ (1 : Int32) = 0 := by decide
            by_cases o0 : k - dl_Z N F sq y = 0
            · rw [if_pos o0] at hv
              simp (disch := omega) only [wY_streamAt_18, wY_streamAt_50, wY_streamAt_70, nI_clamp, dl_Ar, dl_Au, dl_leT, dl_leF, dl_ltT, dl_ltF, dl_eqT, dl_eqF, nI_add, nI_1, dl_inT, dl_sub, dl_sub1, dl_subm1, forall_eq, true_implies, false_implies, not_true, not_false_iff, true_and, and_true, dl_leLT0, dl_leLF0, dl_leRT0, dl_leRF0, dl_ltLT0, dl_ltLF0, dl_ltRT0, dl_ltRF0, dl_eqRT0, dl_eqRF0, dl_leLT1, dl_leLF1, dl_leRT1, dl_leRF1, dl_ltLT1, dl_ltLF1, dl_ltRT1, dl_ltRF1, dl_eqRT1, dl_eqRF1, dl_leLT2, dl_leLF2, dl_leRT2, dl_leRF2, dl_ltLT2, dl_ltLF2, dl_ltRT2, dl_ltRF2, dl_eqRT2, dl_eqRF2, dl_leLT3, dl_leLF3, dl_leRT3, dl_leRF3, dl_ltLT3, dl_ltLF3, dl_ltRT3, dl_ltRF3, dl_eqRT3, dl_eqRF3, dl_leLT8, dl_leLF8, dl_leRT8, dl_leRF8, dl_ltLT8, dl_ltLF8, dl_ltRT8, dl_ltRF8, dl_eqRT8, dl_eqRF8, dl_leLT9, dl_leLF9, dl_leRT9, dl_leRF9, dl_ltLT9, dl_ltLF9, dl_ltRT9, dl_ltRF9, dl_eqRT9, dl_eqRF9, dl_leLT16, dl_leLF16, dl_leRT16, dl_leRF16, dl_ltLT16, dl_ltLF16, dl_ltRT16, dl_ltRF16, dl_eqRT16, dl_eqRF16, dl_leLT64, dl_leLF64, dl_leRT64, dl_leRF64, dl_ltLT64, dl_ltLF64, dl_ltRT64, dl_ltRF64, dl_eqRT64, dl_eqRF64, dl_leLT65, dl_leLF65, dl_leRT65, dl_leRF65, dl_ltLT65, dl_ltLF65, dl_ltRT65, dl_ltRF65, dl_eqRT65, dl_eqRF65, ep, n4, n1]
              exact hv
            · rw [if_neg o0] at hv
              by_cases o1 : k - dl_Z N F sq y = 1
              · rw [if_pos o1] at hv
                simp (disch := omega) only [wY_streamAt_18, wY_streamAt_50, wY_streamAt_70, nI_clamp, dl_Ar, dl_Au, dl_leT, dl_leF, dl_ltT, dl_ltF, dl_eqT, dl_eqF, nI_add, nI_1, dl_inT, dl_sub, dl_sub1, dl_subm1, forall_eq, true_implies, false_implies, not_true, not_false_iff, true_and, and_true, dl_leLT0, dl_leLF0, dl_leRT0, dl_leRF0, dl_ltLT0, dl_ltLF0, dl_ltRT0, dl_ltRF0, dl_eqRT0, dl_eqRF0, dl_leLT1, dl_leLF1, dl_leRT1, dl_leRF1, dl_ltLT1, dl_ltLF1, dl_ltRT1, dl_ltRF1, dl_eqRT1, dl_eqRF1, dl_leLT2, dl_leLF2, dl_leRT2, dl_leRF2, dl_ltLT2, dl_ltLF2, dl_ltRT2, dl_ltRF2, dl_eqRT2, dl_eqRF2, dl_leLT3, dl_leLF3, dl_leRT3, dl_leRF3, dl_ltLT3, dl_ltLF3, dl_ltRT3, dl_ltRF3, dl_eqRT3, dl_eqRF3, dl_leLT8, dl_leLF8, dl_leRT8, dl_leRF8, dl_ltLT8, dl_ltLF8, dl_ltRT8, dl_ltRF8, dl_eqRT8, dl_eqRF8, dl_leLT9, dl_leLF9, dl_leRT9, dl_leRF9, dl_ltLT9, dl_ltLF9, dl_ltRT9, dl_ltRF9, dl_eqRT9, dl_eqRF9, dl_leLT16, dl_leLF16, dl_leRT16, dl_leRF16, dl_ltLT16, dl_ltLF16, dl_ltRT16, dl_ltRF16, dl_eqRT16, dl_eqRF16, dl_leLT64, dl_leLF64, dl_leRT64, dl_leRF64, dl_ltLT64, dl_ltLF64, dl_ltRT64, dl_ltRF64, dl_eqRT64, dl_eqRF64, dl_leLT65, dl_leLF65, dl_leRT65, dl_leRF65, dl_ltLT65, dl_ltLF65, dl_ltRT65, dl_ltRF65, dl_eqRT65, dl_eqRF65, ep, n4, n1]
                exact hv
              · rw [if_neg o1] at hv
                by_cases o2 : k - dl_Z N F sq y = 2
                · rw [if_pos o2] at hv
                  simp (disch := omega) only [wY_streamAt_18, wY_streamAt_50, wY_streamAt_70, nI_clamp, dl_Ar, dl_Au, dl_leT, dl_leF, dl_ltT, dl_ltF, dl_eqT, dl_eqF, nI_add, nI_1, dl_inT, dl_sub, dl_sub1, dl_subm1, forall_eq, true_implies, false_implies, not_true, not_false_iff, true_and, and_true, dl_leLT0, dl_leLF0, dl_leRT0, dl_leRF0, dl_ltLT0, dl_ltLF0, dl_ltRT0, dl_ltRF0, dl_eqRT0, dl_eqRF0, dl_leLT1, dl_leLF1, dl_leRT1, dl_leRF1, dl_ltLT1, dl_ltLF1, dl_ltRT1, dl_ltRF1, dl_eqRT1, dl_eqRF1, dl_leLT2, dl_leLF2, dl_leRT2, dl_leRF2, dl_ltLT2, dl_ltLF2, dl_ltRT2, dl_ltRF2, dl_eqRT2, dl_eqRF2, dl_leLT3, dl_leLF3, dl_leRT3, dl_leRF3, dl_ltLT3, dl_ltLF3, dl_ltRT3, dl_ltRF3, dl_eqRT3, dl_eqRF3, dl_leLT8, dl_leLF8, dl_leRT8, dl_leRF8, dl_ltLT8, dl_ltLF8, dl_ltRT8, dl_ltRF8, dl_eqRT8, dl_eqRF8, dl_leLT9, dl_leLF9, dl_leRT9, dl_leRF9, dl_ltLT9, dl_ltLF9, dl_ltRT9, dl_ltRF9, dl_eqRT9, dl_eqRF9, dl_leLT16, dl_leLF16, dl_leRT16, dl_leRF16, dl_ltLT16, dl_ltLF16, dl_ltRT16, dl_ltRF16, dl_eqRT16, dl_eqRF16, dl_leLT64, dl_leLF64, dl_leRT64, dl_leRF64, dl_ltLT64, dl_ltLF64, dl_ltRT64, dl_ltRF64, dl_eqRT64, dl_eqRF64, dl_leLT65, dl_leLF65, dl_leRT65, dl_leRF65, dl_ltLT65, dl_ltLF65, dl_ltRT65, dl_ltRF65, dl_eqRT65, dl_eqRF65, ep, n4, n1]
                  exact hv
                · rw [if_neg o2] at hv
                  simp (disch := omega) only [wY_streamAt_18, wY_streamAt_50, wY_streamAt_70, nI_clamp, dl_Ar, dl_Au, dl_leT, dl_leF, dl_ltT, dl_ltF, dl_eqT, dl_eqF, nI_add, nI_1, dl_inT, dl_sub, dl_sub1, dl_subm1, forall_eq, true_implies, false_implies, not_true, not_false_iff, true_and, and_true, dl_leLT0, dl_leLF0, dl_leRT0, dl_leRF0, dl_ltLT0, dl_ltLF0, dl_ltRT0, dl_ltRF0, dl_eqRT0, dl_eqRF0, dl_leLT1, dl_leLF1, dl_leRT1, dl_leRF1, dl_ltLT1, dl_ltLF1, dl_ltRT1, dl_ltRF1, dl_eqRT1, dl_eqRF1, dl_leLT2, dl_leLF2, dl_leRT2, dl_leRF2, dl_ltLT2, dl_ltLF2, dl_ltRT2, dl_ltRF2, dl_eqRT2, dl_eqRF2, dl_leLT3, dl_leLF3, dl_leRT3, dl_leRF3, dl_ltLT3, dl_ltLF3, dl_ltRT3, dl_ltRF3, dl_eqRT3, dl_eqRF3, dl_leLT8, dl_leLF8, dl_leRT8, dl_leRF8, dl_ltLT8, dl_ltLF8, dl_ltRT8, dl_ltRF8, dl_eqRT8, dl_eqRF8, dl_leLT9, dl_leLF9, dl_leRT9, dl_leRF9, dl_ltLT9, dl_ltLF9, dl_ltRT9, dl_ltRF9, dl_eqRT9, dl_eqRF9, dl_leLT16, dl_leLF16, dl_leRT16, dl_leRF16, dl_ltLT16, dl_ltLF16, dl_ltRT16, dl_ltRF16, dl_eqRT16, dl_eqRF16, dl_leLT64, dl_leLF64, dl_leRT64, dl_leRF64, dl_ltLT64, dl_ltLF64, dl_ltRT64, dl_ltRF64, dl_eqRT64, dl_eqRF64, dl_leLT65, dl_leLF65, dl_leRT65, dl_leRF65, dl_ltLT65, dl_ltLF65, dl_ltRT65, dl_ltRF65, dl_eqRT65, dl_eqRF65, ep, n4, n1]
                  exact hv
          · rw [if_neg f1] at h2' hv
            by_cases o0 : k - dl_Z N F sq y = 0
            · rw [if_pos o0] at hv
              simp (disch := omega) only [wY_streamAt_18, wY_streamAt_50, wY_streamAt_70, nI_clamp, dl_Ar, dl_Au, dl_leT, dl_leF, dl_ltT, dl_ltF, dl_eqT, dl_eqF, nI_add, nI_1, dl_inT, dl_sub, dl_sub1, dl_subm1, forall_eq, true_implies, false_implies, not_true, not_false_iff, true_and, and_true, dl_leLT0, dl_leLF0, dl_leRT0, dl_leRF0, dl_ltLT0, dl_ltLF0, dl_ltRT0, dl_ltRF0, dl_eqRT0, dl_eqRF0, dl_leLT1, dl_leLF1, dl_leRT1, dl_leRF1, dl_ltLT1, dl_ltLF1, dl_ltRT1, dl_ltRF1, dl_eqRT1, dl_eqRF1, dl_leLT2, dl_leLF2, dl_leRT2, dl_leRF2, dl_ltLT2, dl_ltLF2, dl_ltRT2, dl_ltRF2, dl_eqRT2, dl_eqRF2, dl_leLT3, dl_leLF3, dl_leRT3, dl_leRF3, dl_ltLT3, dl_ltLF3, dl_ltRT3, dl_ltRF3, dl_eqRT3, dl_eqRF3, dl_leLT8, dl_leLF8, dl_leRT8, dl_leRF8, dl_ltLT8, dl_ltLF8, dl_ltRT8, dl_ltRF8, dl_eqRT8, dl_eqRF8, dl_leLT9, dl_leLF9, dl_leRT9, dl_leRF9, dl_ltLT9, dl_ltLF9, dl_ltRT9, dl_ltRF9, dl_eqRT9, dl_eqRF9, dl_leLT16, dl_leLF16, dl_leRT16, dl_leRF16, dl_ltLT16, dl_ltLF16, dl_ltRT16, dl_ltRF16, dl_eqRT16, dl_eqRF16, dl_leLT64, dl_leLF64, dl_leRT64, dl_leRF64, dl_ltLT64, dl_ltLF64, dl_ltRT64, dl_ltRF64, dl_eqRT64, dl_eqRF64, dl_leLT65, dl_leLF65, dl_leRT65, dl_leRF65, dl_ltLT65, dl_ltLF65, dl_ltRT65, dl_ltRF65, dl_eqRT65, dl_eqRF65, dl_3add, ep]
              exact hv
            · rw [if_neg o0] at hv
              by_cases o1 : k - dl_Z N F sq y = 1
              · rw [if_pos o1] at hv
                simp (disch := omega) only [wY_streamAt_18, wY_streamAt_50, wY_streamAt_70, nI_clamp, dl_Ar, dl_Au, dl_leT, dl_leF, dl_ltT, dl_ltF, dl_eqT, dl_eqF, nI_add, nI_1, dl_inT, dl_sub, dl_sub1, dl_subm1, forall_eq, true_implies, false_implies, not_true, not_false_iff, true_and, and_true, dl_leLT0, dl_leLF0, dl_leRT0, dl_leRF0, dl_ltLT0, dl_ltLF0, dl_ltRT0, dl_ltRF0, dl_eqRT0, dl_eqRF0, dl_leLT1, dl_leLF1, dl_leRT1, dl_leRF1, dl_ltLT1, dl_ltLF1, dl_ltRT1, dl_ltRF1, dl_eqRT1, dl_eqRF1, dl_leLT2, dl_leLF2, dl_leRT2, dl_leRF2, dl_ltLT2, dl_ltLF2, dl_ltRT2, dl_ltRF2, dl_eqRT2, dl_eqRF2, dl_leLT3, dl_leLF3, dl_leRT3, dl_leRF3, dl_ltLT3, dl_ltLF3, dl_ltRT3, dl_ltRF3, dl_eqRT3, dl_eqRF3, dl_leLT8, dl_leLF8, dl_leRT8, dl_leRF8, dl_ltLT8, dl_ltLF8, dl_ltRT8, dl_ltRF8, dl_eqRT8, dl_eqRF8, dl_leLT9, dl_leLF9, dl_leRT9, dl_leRF9, dl_ltLT9, dl_ltLF9, dl_ltRT9, dl_ltRF9, dl_eqRT9, dl_eqRF9, dl_leLT16, dl_leLF16, dl_leRT16, dl_leRF16, dl_ltLT16, dl_ltLF16, dl_ltRT16, dl_ltRF16, dl_eqRT16, dl_eqRF16, dl_leLT64, dl_leLF64, dl_leRT64, dl_leRF64, dl_ltLT64, dl_ltLF64, dl_ltRT64, dl_ltRF64, dl_eqRT64, dl_eqRF64, dl_leLT65, dl_leLF65, dl_leRT65, dl_leRF65, dl_ltLT65, dl_ltLF65, dl_ltRT65, dl_ltRF65, dl_eqRT65, dl_eqRF65, dl_3add, ep]
                exact hv
              · rw [if_neg o1] at hv
                by_cases o2 : k - dl_Z N F sq y = 2
                · rw [if_pos o2] at hv
                  simp (disch := omega) only [wY_streamAt_18, wY_streamAt_50, wY_streamAt_70, nI_clamp, dl_Ar, dl_Au, dl_leT, dl_leF, dl_ltT, dl_ltF, dl_eqT, dl_eqF, nI_add, nI_1, dl_inT, dl_sub, dl_sub1, dl_subm1, forall_eq, true_implies, false_implies, not_true, not_false_iff, true_and, and_true, dl_leLT0, dl_leLF0, dl_leRT0, dl_leRF0, dl_ltLT0, dl_ltLF0, dl_ltRT0, dl_ltRF0, dl_eqRT0, dl_eqRF0, dl_leLT1, dl_leLF1, dl_leRT1, dl_leRF1, dl_ltLT1, dl_ltLF1, dl_ltRT1, dl_ltRF1, dl_eqRT1, dl_eqRF1, dl_leLT2, dl_leLF2, dl_leRT2, dl_leRF2, dl_ltLT2, dl_ltLF2, dl_ltRT2, dl_ltRF2, dl_eqRT2, dl_eqRF2, dl_leLT3, dl_leLF3, dl_leRT3, dl_leRF3, dl_ltLT3, dl_ltLF3, dl_ltRT3, dl_ltRF3, dl_eqRT3, dl_eqRF3, dl_leLT8, dl_leLF8, dl_leRT8, dl_leRF8, dl_ltLT8, dl_ltLF8, dl_ltRT8, dl_ltRF8, dl_eqRT8, dl_eqRF8, dl_leLT9, dl_leLF9, dl_leRT9, dl_leRF9, dl_ltLT9, dl_ltLF9, dl_ltRT9, dl_ltRF9, dl_eqRT9, dl_eqRF9, dl_leLT16, dl_leLF16, dl_leRT16, dl_leRF16, dl_ltLT16, dl_ltLF16, dl_ltRT16, dl_ltRF16, dl_eqRT16, dl_eqRF16, dl_leLT64, dl_leLF64, dl_leRT64, dl_leRF64, dl_ltLT64, dl_ltLF64, dl_ltRT64, dl_ltRF64, dl_eqRT64, dl_eqRF64, dl_leLT65, dl_leLF65, dl_leRT65, dl_leRF65, dl_ltLT65, dl_ltLF65, dl_ltRT65, dl_ltRF65, dl_eqRT65, dl_eqRF65, dl_3add, ep]
                  exact hv
                · rw [if_neg o2] at hv
                  simp (disch := omega) only [wY_streamAt_18, wY_streamAt_50, wY_streamAt_70, nI_clamp, dl_Ar, dl_Au, dl_leT, dl_leF, dl_ltT, dl_ltF, dl_eqT, dl_eqF, nI_add, nI_1, dl_inT, dl_sub, dl_sub1, dl_subm1, forall_eq, true_implies, false_implies, not_true, not_false_iff, true_and, and_true, dl_leLT0, dl_leLF0, dl_leRT0, dl_leRF0, dl_ltLT0, dl_ltLF0, dl_ltRT0, dl_ltRF0, dl_eqRT0, dl_eqRF0, dl_leLT1, dl_leLF1, dl_leRT1, dl_leRF1, dl_ltLT1, dl_ltLF1, dl_ltRT1, dl_ltRF1, dl_eqRT1, dl_eqRF1, dl_leLT2, dl_leLF2, dl_leRT2, dl_leRF2, dl_ltLT2, dl_ltLF2, dl_ltRT2, dl_ltRF2, dl_eqRT2, dl_eqRF2, dl_leLT3, dl_leLF3, dl_leRT3, dl_leRF3, dl_ltLT3, dl_ltLF3, dl_ltRT3, dl_ltRF3, dl_eqRT3, dl_eqRF3, dl_leLT8, dl_leLF8, dl_leRT8, dl_leRF8, dl_ltLT8, dl_ltLF8, dl_ltRT8, dl_ltRF8, dl_eqRT8, dl_eqRF8, dl_leLT9, dl_leLF9, dl_leRT9, dl_leRF9, dl_ltLT9, dl_ltLF9, dl_ltRT9, dl_ltRF9, dl_eqRT9, dl_eqRF9, dl_leLT16, dl_leLF16, dl_leRT16, dl_leRF16, dl_ltLT16, dl_ltLF16, dl_ltRT16, dl_ltRF16, dl_eqRT16, dl_eqRF16, dl_leLT64, dl_leLF64, dl_leRT64, dl_leRF64, dl_ltLT64, dl_ltLF64, dl_ltRT64, dl_ltRF64, dl_eqRT64, dl_eqRF64, dl_leLT65, dl_leLF65, dl_leRT65, dl_leRF65, dl_ltLT65, dl_ltLF65, dl_ltRT65, dl_ltRF65, dl_eqRT65, dl_eqRF65, dl_3add, dl_sub3, ep]
                  exact dl_ylit _ (by omega) p1 B hf hs2 (by omega) f1 hv
      · have e : y = cnt := by omega
        have e2 : s = cnt := by omega
        rw [e2] at h1
        rw [e]
        by_cases z : k - dl_Z N F sq cnt = 0
        · simp (disch := omega) only [wY_streamAt_18, nI_clamp, dl_Ar, dl_Au, dl_leT, dl_leF, dl_ltT, dl_ltF, dl_eqT, dl_eqF, nI_add, nI_1, dl_inT, dl_sub, dl_sub1, dl_subm1, forall_eq, true_implies, false_implies, not_true, not_false_iff, true_and, and_true, dl_leLT0, dl_leLF0, dl_leRT0, dl_leRF0, dl_ltLT0, dl_ltLF0, dl_ltRT0, dl_ltRF0, dl_eqRT0, dl_eqRF0, dl_leLT1, dl_leLF1, dl_leRT1, dl_leRF1, dl_ltLT1, dl_ltLF1, dl_ltRT1, dl_ltRF1, dl_eqRT1, dl_eqRF1, dl_leLT2, dl_leLF2, dl_leRT2, dl_leRF2, dl_ltLT2, dl_ltLF2, dl_ltRT2, dl_ltRF2, dl_eqRT2, dl_eqRF2, dl_leLT3, dl_leLF3, dl_leRT3, dl_leRF3, dl_ltLT3, dl_ltLF3, dl_ltRT3, dl_ltRF3, dl_eqRT3, dl_eqRF3, dl_leLT8, dl_leLF8, dl_leRT8, dl_leRF8, dl_ltLT8, dl_ltLF8, dl_ltRT8, dl_ltRF8, dl_eqRT8, dl_eqRF8, dl_leLT9, dl_leLF9, dl_leRT9, dl_leRF9, dl_ltLT9, dl_ltLF9, dl_ltRT9, dl_ltRF9, dl_eqRT9, dl_eqRF9, dl_leLT16, dl_leLF16, dl_leRT16, dl_leRF16, dl_ltLT16, dl_ltLF16, dl_ltRT16, dl_ltRF16, dl_eqRT16, dl_eqRF16, dl_leLT64, dl_leLF64, dl_leRT64, dl_leRF64, dl_ltLT64, dl_ltLF64, dl_ltRT64, dl_ltRF64, dl_eqRT64, dl_eqRF64, dl_leLT65, dl_leLF65, dl_leRT65, dl_leRF65, dl_ltLT65, dl_ltLF65, dl_ltRT65, dl_ltRF65, dl_eqRT65, dl_eqRF65]
          exact H0 e2 (by omega)
        · simp (disch := omega) only [wY_streamAt_18, nI_clamp, dl_Ar, dl_Au, dl_leT, dl_leF, dl_ltT, dl_ltF, dl_eqT, dl_eqF, nI_add, nI_1, dl_inT, dl_sub, dl_sub1, dl_subm1, forall_eq, true_implies, false_implies, not_true, not_false_iff, true_and, and_true, dl_leLT0, dl_leLF0, dl_leRT0, dl_leRF0, dl_ltLT0, dl_ltLF0, dl_ltRT0, dl_ltRF0, dl_eqRT0, dl_eqRF0, dl_leLT1, dl_leLF1, dl_leRT1, dl_leRF1, dl_ltLT1, dl_ltLF1, dl_ltRT1, dl_ltRF1, dl_eqRT1, dl_eqRF1, dl_leLT2, dl_leLF2, dl_leRT2, dl_leRF2, dl_ltLT2, dl_ltLF2, dl_ltRT2, dl_ltRF2, dl_eqRT2, dl_eqRF2, dl_leLT3, dl_leLF3, dl_leRT3, dl_leRF3, dl_ltLT3, dl_ltLF3, dl_ltRT3, dl_ltRF3, dl_eqRT3, dl_eqRF3, dl_leLT8, dl_leLF8, dl_leRT8, dl_leRF8, dl_ltLT8, dl_ltLF8, dl_ltRT8, dl_ltRF8, dl_eqRT8, dl_eqRF8, dl_leLT9, dl_leLF9, dl_leRT9, dl_leRF9, dl_ltLT9, dl_ltLF9, dl_ltRT9, dl_ltRF9, dl_eqRT9, dl_eqRF9, dl_leLT16, dl_leLF16, dl_leRT16, dl_leRF16, dl_ltLT16, dl_ltLF16, dl_ltRT16, dl_ltRF16, dl_eqRT16, dl_eqRF16, dl_leLT64, dl_leLF64, dl_leRT64, dl_leRF64, dl_ltLT64, dl_ltLF64, dl_ltRT64, dl_ltRF64, dl_eqRT64, dl_eqRF64, dl_leLT65, dl_leLF65, dl_leRT65, dl_leRF65, dl_ltLT65, dl_ltLF65, dl_ltRT65, dl_ltRF65, dl_eqRT65, dl_eqRF65]
          exact Hm e2 (by omega)
  simp (disch := omega) only [wpY_streamAt, nI_clamp, dl_Ar, dl_Au, dl_leT, dl_leF, dl_ltT, dl_ltF, dl_eqT, dl_eqF, nI_add, nI_1, dl_inT, dl_sub, dl_sub1, dl_subm1, forall_eq, true_implies, false_implies, not_true, not_false_iff, true_and, and_true, dl_leLT0, dl_leLF0, dl_leRT0, dl_leRF0, dl_ltLT0, dl_ltLF0, dl_ltRT0, dl_ltRF0, dl_eqRT0, dl_eqRF0, dl_leLT1, dl_leLF1, dl_leRT1, dl_leRF1, dl_ltLT1, dl_ltLF1, dl_ltRT1, dl_ltRF1, dl_eqRT1, dl_eqRF1, dl_leLT2, dl_leLF2, dl_leRT2, dl_leRF2, dl_ltLT2, dl_ltLF2, dl_ltRT2, dl_ltRF2, dl_eqRT2, dl_eqRF2, dl_leLT3, dl_leLF3, dl_leRT3, dl_leRF3, dl_ltLT3, dl_ltLF3, dl_ltRT3, dl_ltRF3, dl_eqRT3, dl_eqRF3, dl_leLT8, dl_leLF8, dl_leRT8, dl_leRF8, dl_ltLT8, dl_ltLF8, dl_ltRT8, dl_ltRF8, dl_eqRT8, dl_eqRF8, dl_leLT9, dl_leLF9, dl_leRT9, dl_leRF9, dl_ltLT9, dl_ltLF9, dl_ltRT9, dl_ltRF9, dl_eqRT9, dl_eqRF9, dl_leLT16, dl_leLF16, dl_leRT16, dl_leRF16, dl_ltLT16, dl_ltLF16, dl_ltRT16, dl_ltRF16, dl_eqRT16, dl_eqRF16, dl_leLT64, dl_leLF64, dl_leRT64, dl_leRF64, dl_ltLT64, dl_ltLF64, dl_ltRT64, dl_ltRF64, dl_eqRT64, dl_eqRF64, dl_leLT65, dl_leLF65, dl_leRT65, dl_leRF65, dl_ltLT65, dl_ltLF65, dl_ltRT65, dl_ltRF65, dl_eqRT65, dl_eqRF65]
  exact ⟨s + 1, key (s + 1) 0 (by omega) (by omega)⟩
end
theorem i_vc_streamAt {k : Nat} {u : SX} {v : SY} (I : i_Rel k u v) (hk : k + 5 ≤ 2562) (v1 : Int32) : wpX_streamAt (fun r => wpY_streamAt (fun r' => r' = r ∧ i_Rel (k + 5) u v) v v1) u v1 := by
  refine dl_el (Q := fun u v => wpX_streamAt (fun r => wpY_streamAt (fun r' => r' = r ∧ i_Rel (k + 5) u v) v v1) u v1) I ?_
  intro C L ph ol T cnt ls co dn pl dy kp K S D N A bD sq po ws ss bd F P bu pool bf af cm ed re old nxt dat mk hI
  have Rl := dl_mk (af := af) (ed := ed) (re := re) (nxt := nxt) (mk := mk) (bd := bd) (k + 5) hI
  obtain ⟨a1, B, Lt, a4, a5⟩ := hI
  have B' := B
  obtain ⟨b1, b2, b3, b4, b5, b6, b7, b8⟩ := B'
  have hcnt : cnt ≤ 16 := by omega
  by_cases p1 : ph = 1
  · obtain ⟨ed0, wr, m, Pn, Dn⟩ := a5 p1
    subst ed0
    by_cases n0 : v1 < 0
    · have h0 : ¬ 0 ≤ v1 := fun z => absurd (Int32.lt_of_le_of_lt z n0) (by decide)
      simp (disch := omega) only [wpX_streamAt, wpY_streamAt, nI_clamp, dl_Ar, dl_Au, dl_leT, dl_leF, dl_ltT, dl_ltF, dl_eqT, dl_eqF, nI_add, nI_1, dl_inT, dl_sub, dl_sub1, dl_subm1, forall_eq, true_implies, false_implies, not_true, not_false_iff, true_and, and_true, dl_leLT0, dl_leLF0, dl_leRT0, dl_leRF0, dl_ltLT0, dl_ltLF0, dl_ltRT0, dl_ltRF0, dl_eqRT0, dl_eqRF0, dl_leLT1, dl_leLF1, dl_leRT1, dl_leRF1, dl_ltLT1, dl_ltLF1, dl_ltRT1, dl_ltRF1, dl_eqRT1, dl_eqRF1, dl_leLT2, dl_leLF2, dl_leRT2, dl_leRF2, dl_ltLT2, dl_ltLF2, dl_ltRT2, dl_ltRF2, dl_eqRT2, dl_eqRF2, dl_leLT3, dl_leLF3, dl_leRT3, dl_leRF3, dl_ltLT3, dl_ltLF3, dl_ltRT3, dl_ltRF3, dl_eqRT3, dl_eqRF3, dl_leLT8, dl_leLF8, dl_leRT8, dl_leRF8, dl_ltLT8, dl_ltLF8, dl_ltRT8, dl_ltRF8, dl_eqRT8, dl_eqRF8, dl_leLT9, dl_leLF9, dl_leRT9, dl_leRF9, dl_ltLT9, dl_ltLF9, dl_ltRT9, dl_ltRF9, dl_eqRT9, dl_eqRF9, dl_leLT16, dl_leLF16, dl_leRT16, dl_leRF16, dl_ltLT16, dl_ltLF16, dl_ltRT16, dl_ltRF16, dl_eqRT16, dl_eqRF16, dl_leLT64, dl_leLF64, dl_leRT64, dl_leRF64, dl_ltLT64, dl_ltLF64, dl_ltRT64, dl_ltRF64, dl_eqRT64, dl_eqRF64, dl_leLT65, dl_leLF65, dl_leRT65, dl_leRF65, dl_ltLT65, dl_ltLF65, dl_ltRT65, dl_ltRF65, dl_eqRT65, dl_eqRF65, n0, h0]
      first | exact Rl | exact ⟨by trivial, Rl⟩
    · obtain ⟨q, hq, rfl⟩ := nI_of n0
      have KF := Pn.2.2.2.2.1
      have hf := Pn.2.2.2.2.2.1
      have Pi := Pn.2.2.2.2.2.2.1
      have hP := Pn.2.2.2.2.2.2.2.1
      have hw := Pn.2.2.2.2.2.2.2.2.1
      have hp := Pn.2.2.2.2.2.2.2.2.2.2
      have hsq : ∀ t, t < cnt → sq t < cnt := fun t ht => (Pi.1 t ht).1
      have Zb : dl_Z N F sq cnt ≤ cnt * 67 := dl_Z_le (fun t ht => by have := (b8 _ (hsq t ht)).2.1; omega)
      have ez := (hw cnt (Nat.le_refl _)).2
      have ys := fun post (s : Nat) => dl_yst (s := s) (C := C) (L := L) (ph := ph) (ol := ol) (T := T) (cnt := cnt) (dy := dy) (K := K) (S := S) (D := D) (N := N) (F := F) (P := P) (sq := sq) (old := old) (nxt := nxt) (dat := dat) (mk := mk) (k := q) post p1 B hf hsq hP hq
      rcases Nat.lt_or_ge (dl_Z N F sq cnt) q with z | z
      · simp (disch := omega) only [wpX_streamAt, nI_clamp, dl_Ar, dl_Au, dl_leT, dl_leF, dl_ltT, dl_ltF, dl_eqT, dl_eqF, nI_add, nI_1, dl_inT, dl_sub, dl_sub1, dl_subm1, forall_eq, true_implies, false_implies, not_true, not_false_iff, true_and, and_true, dl_leLT0, dl_leLF0, dl_leRT0, dl_leRF0, dl_ltLT0, dl_ltLF0, dl_ltRT0, dl_ltRF0, dl_eqRT0, dl_eqRF0, dl_leLT1, dl_leLF1, dl_leRT1, dl_leRF1, dl_ltLT1, dl_ltLF1, dl_ltRT1, dl_ltRF1, dl_eqRT1, dl_eqRF1, dl_leLT2, dl_leLF2, dl_leRT2, dl_leRF2, dl_ltLT2, dl_ltLF2, dl_ltRT2, dl_ltRF2, dl_eqRT2, dl_eqRF2, dl_leLT3, dl_leLF3, dl_leRT3, dl_leRF3, dl_ltLT3, dl_ltLF3, dl_ltRT3, dl_ltRF3, dl_eqRT3, dl_eqRF3, dl_leLT8, dl_leLF8, dl_leRT8, dl_leRF8, dl_ltLT8, dl_ltLF8, dl_ltRT8, dl_ltRF8, dl_eqRT8, dl_eqRF8, dl_leLT9, dl_leLF9, dl_leRT9, dl_leRF9, dl_ltLT9, dl_ltLF9, dl_ltRT9, dl_ltRF9, dl_eqRT9, dl_eqRF9, dl_leLT16, dl_leLF16, dl_leRT16, dl_leRF16, dl_ltLT16, dl_ltLF16, dl_ltRT16, dl_ltRF16, dl_eqRT16, dl_eqRF16, dl_leLT64, dl_leLF64, dl_leRT64, dl_leRF64, dl_ltLT64, dl_ltLF64, dl_ltRT64, dl_ltRF64, dl_eqRT64, dl_eqRF64, dl_leLT65, dl_leLF65, dl_leRT65, dl_leRF65, dl_ltLT65, dl_ltLF65, dl_ltRT65, dl_ltRF65, dl_eqRT65, dl_eqRF65, ez]
        exact ys (fun r' => r' = -1 ∧ _) cnt (Nat.le_refl _) (by omega) (fun h => by omega) (fun _ e => by omega) (fun _ _ => ⟨rfl, Rl⟩) (fun h => by omega)
      · have hz : ∀ t, t ≤ cnt → ss t < 2147483648 := fun t ht => by
          rw [(hw t ht).2]
          have := dl_Z_mono (N := N) (F := F) (π := sq) ht
          omega
        have hm : ∀ s t, s ≤ t → t ≤ cnt → ss s ≤ ss t := fun s t h1 h2 => by
          rw [(hw s (by omega)).2, (hw t h2).2]; exact dl_Z_mono h1
        simp (disch := omega) only [wpX_streamAt, dl_eqRT1, dl_ltRF0, nI_clamp, dl_Ar, dl_inT, ez, dl_leT, true_implies, not_true, not_false_iff, false_implies, and_true, true_and]
        refine dl_xstp _ hcnt hz hm (hw 0 (by omega)).2 hq (fun s Iz => ?_)
        obtain ⟨z1, z2, z3⟩ := Iz
        have es := (hw s z1).2
        rw [es] at z2
        have z4 : s < cnt → q < dl_Z N F sq (s + 1) := fun h => by
          have := z3 (s + 1) (Nat.le_refl _) h
          rw [(hw (s + 1) h).2] at this
          exact this
        rcases Nat.lt_or_ge s cnt with w | w
        · have hs2 := hsq s w
          have z5 := z4 w
          rw [dl_Z_s] at z5
          have fin : ∀ x, x = dl_sv K S D N F dat old (sq s) (q - dl_Z N F sq s) → wpY_streamAt (fun r' => r' = x ∧ i_Rel (k + 5) (nI C, nI L, nI ph, nI ol, nI T, nI cnt, nI ls, nI co, kp, nI dy, nI pl, bu, dl_A K, dl_A S, dl_A D, dl_A N, dl_A A, pool, dl_A bD, bf, af, cm, dl_A sq, dl_A po, dl_A ws, dl_A ss, ed, re, dl_A bd) (nI C, nI L, nI ph, nI ol, nI T, nI cnt, nI dy, old, nxt, dl_A K, dl_A S, dl_A D, dl_A N, dat, dl_A F, dl_A P, mk)) (nI C, nI L, nI ph, nI ol, nI T, nI cnt, nI dy, old, nxt, dl_A K, dl_A S, dl_A D, dl_A N, dat, dl_A F, dl_A P, mk) (nI q) := fun x hx =>
            ys _ s z1 z2 z4 (fun e => by omega) (fun e => by omega) (fun _ => ⟨hx.symm, Rl⟩)
          simp (disch := omega) only [nI_clamp, dl_Ar, dl_Au, dl_leT, dl_leF, dl_ltT, dl_ltF, dl_eqT, dl_eqF, nI_add, nI_1, dl_inT, dl_sub, dl_sub1, dl_subm1, forall_eq, true_implies, false_implies, not_true, not_false_iff, true_and, and_true, dl_leLT0, dl_leLF0, dl_leRT0, dl_leRF0, dl_ltLT0, dl_ltLF0, dl_ltRT0, dl_ltRF0, dl_eqRT0, dl_eqRF0, dl_leLT1, dl_leLF1, dl_leRT1, dl_leRF1, dl_ltLT1, dl_ltLF1, dl_ltRT1, dl_ltRF1, dl_eqRT1, dl_eqRF1, dl_leLT2, dl_leLF2, dl_leRT2, dl_leRF2, dl_ltLT2, dl_ltLF2, dl_ltRT2, dl_ltRF2, dl_eqRT2, dl_eqRF2, dl_leLT3, dl_leLF3, dl_leRT3, dl_leRF3, dl_ltLT3, dl_ltLF3, dl_ltRT3, dl_ltRF3, dl_eqRT3, dl_eqRF3, dl_leLT8, dl_leLF8, dl_leRT8, dl_leRF8, dl_ltLT8, dl_ltLF8, dl_ltRT8, dl_ltRF8, dl_eqRT8, dl_eqRF8, dl_leLT9, dl_leLF9, dl_leRT9, dl_leRF9, dl_ltLT9, dl_ltLF9, dl_ltRT9, dl_ltRF9, dl_eqRT9, dl_eqRF9, dl_leLT16, dl_leLF16, dl_leRT16, dl_leRF16, dl_ltLT16, dl_ltLF16, dl_ltRT16, dl_ltRF16, dl_eqRT16, dl_eqRF16, dl_leLT64, dl_leLF64, dl_leRT64, dl_leRF64, dl_ltLT64, dl_ltLF64, dl_ltRT64, dl_ltRF64, dl_eqRT64, dl_eqRF64, dl_leLT65, dl_leLF65, dl_leRT65, dl_leRF65, dl_ltLT65, dl_ltLF65, dl_ltRT65, dl_ltRF65, dl_eqRT65, dl_eqRF65, es]
          refine dl_xik _ hcnt KF hs2 (fun f1 => br_f (by decide) ?_) (fun f1 => br_t rfl ?_)
          · exact dl_xcv _ (by omega) (by omega) f1 (fin _ rfl)
          · rw [if_neg f1] at z5
            obtain ⟨g1, g2⟩ := hp _ hs2 f1
            exact dl_xav _ (by omega) (by omega) f1 g1 g2 (fin _ rfl)
        · have e : s = cnt := by omega
          refine br_f (nI_nlt (by omega) (by omega)) ?_
          rw [e] at z2
          exact ys (fun r' => r' = 0 ∧ _) cnt (Nat.le_refl _) z2 (fun h => by omega) (fun _ _ => ⟨rfl, Rl⟩) (fun _ h => by omega) (fun h => by omega)
  · simp (disch := omega) only [wpX_streamAt, wpY_streamAt, nI_clamp, dl_Ar, dl_Au, dl_leT, dl_leF, dl_ltT, dl_ltF, dl_eqT, dl_eqF, nI_add, nI_1, dl_inT, dl_sub, dl_sub1, dl_subm1, forall_eq, true_implies, false_implies, not_true, not_false_iff, true_and, and_true, dl_leLT0, dl_leLF0, dl_leRT0, dl_leRF0, dl_ltLT0, dl_ltLF0, dl_ltRT0, dl_ltRF0, dl_eqRT0, dl_eqRF0, dl_leLT1, dl_leLF1, dl_leRT1, dl_leRF1, dl_ltLT1, dl_ltLF1, dl_ltRT1, dl_ltRF1, dl_eqRT1, dl_eqRF1, dl_leLT2, dl_leLF2, dl_leRT2, dl_leRF2, dl_ltLT2, dl_ltLF2, dl_ltRT2, dl_ltRF2, dl_eqRT2, dl_eqRF2, dl_leLT3, dl_leLF3, dl_leRT3, dl_leRF3, dl_ltLT3, dl_ltLF3, dl_ltRT3, dl_ltRF3, dl_eqRT3, dl_eqRF3, dl_leLT8, dl_leLF8, dl_leRT8, dl_leRF8, dl_ltLT8, dl_ltLF8, dl_ltRT8, dl_ltRF8, dl_eqRT8, dl_eqRF8, dl_leLT9, dl_leLF9, dl_leRT9, dl_leRF9, dl_ltLT9, dl_ltLF9, dl_ltRT9, dl_ltRF9, dl_eqRT9, dl_eqRF9, dl_leLT16, dl_leLF16, dl_leRT16, dl_leRF16, dl_ltLT16, dl_ltLF16, dl_ltRT16, dl_ltRF16, dl_eqRT16, dl_eqRF16, dl_leLT64, dl_leLF64, dl_leRT64, dl_leRF64, dl_ltLT64, dl_ltLF64, dl_ltRT64, dl_ltRF64, dl_eqRT64, dl_eqRF64, dl_leLT65, dl_leLF65, dl_leRT65, dl_leRF65, dl_ltLT65, dl_ltLF65, dl_ltRT65, dl_ltRF65, dl_eqRT65, dl_eqRF65]
    first | exact Rl | exact ⟨by trivial, Rl⟩
end
