section
theorem pk_us {f : Nat → Int32} {k : Nat} {x : Int32} : upd f k x k = x := if_pos rfl
theorem pk_un {f : Nat → Int32} {k j : Nat} {x : Int32} (h : j ≠ k) : upd f k x j = f j := if_neg h
theorem pk_uLs {f : Nat → Int64} {k : Nat} {x : Int64} : vp_updL f k x k = x := if_pos rfl
theorem pk_uLn {f : Nat → Int64} {k j : Nat} {x : Int64} (h : j ≠ k) : vp_updL f k x j = f j := if_neg h
theorem pk_sub {a b : Nat} (h : b ≤ a) : nI a - nI b = nI (a - b) := by
  obtain ⟨c, rfl⟩ : ∃ c, a = c + b := ⟨a - b, by omega⟩
  rw [← nI_add, Int32.add_sub_cancel, Nat.add_sub_cancel]
theorem pk_m1 (n : Nat) : nI (n + 1) + (-1) = nI n := by
  rw [← nI_1, Int32.add_assoc, show (1 : Int32) + (-1) = 0 from rfl, Int32.add_zero]
theorem pk_mul (a b : Nat) : nI a * nI b = nI (a * b) := (Int32.ofNat_mul a b).symm
theorem pk_div {a d : Nat} (ha : a < 2 ^ 31) (h0 : 0 < d) (hd : d < 2 ^ 31) : nI a / nI d = nI (a / d) := by
  apply Int32.toInt_inj.mp
  rw [lg_idiv_nonneg (by rw [nI_toInt ha]; omega) (by rw [nI_toInt hd]; omega), nI_toInt ha, nI_toInt hd, nI_toInt (Nat.lt_of_le_of_lt (Nat.div_le_self a d) ha)]
  first | rfl | exact (Int.natCast_ediv _ _).symm
theorem pk_rem {a d : Nat} (ha : a < 2 ^ 31) (h0 : 0 < d) (hd : d < 2 ^ 31) : nI a - nI a / nI d * nI d = nI (a % d) := by
  rw [pk_div ha h0 hd, pk_mul, pk_sub (Nat.div_mul_le_self a d)]
  exact congrArg nI (by have := Nat.div_add_mod' a d; omega)
theorem pk_sub_toInt {a b : Nat} (ha : a < 2 ^ 30) (hb : b < 2 ^ 30) : (nI a - nI b).toInt = (a : Int) - b := by
  rw [Int32.toInt_sub, nI_toInt (by omega), nI_toInt (by omega)]
  exact Int.bmod_eq_of_le (by omega) (by omega)
theorem pk_sneg {a b : Nat} (hb : b < 2 ^ 30) (h : a < b) : nI a - nI b < 0 := by
  rw [Int32.lt_iff_toInt_lt, pk_sub_toInt (by omega) hb, show (0 : Int32).toInt = 0 from by decide]
  omega
theorem pk_ix (x : Int32) {n : Nat} (hn : n < 2 ^ 31) : x < 0 ∨ nI n ≤ x ∨ ∃ j : Nat, j < n ∧ x = nI j := by
  by_cases h : x < 0
  · exact Or.inl h
  · obtain ⟨j, hj, rfl⟩ := nI_of h
    by_cases h2 : j < n
    · exact Or.inr (Or.inr ⟨j, h2, rfl⟩)
    · exact Or.inr (Or.inl (nI_le (by omega) hj))
theorem pk_le {x y : Int32} {A B : Prop} (a b : Nat) (f : a ≤ b → A) (g : b < a → B) (hx : x = nI a := by rfl) (hy : y = nI b := by rfl) (ha : a < 2 ^ 31 := by omega) (hb : b < 2 ^ 31 := by omega) : (x ≤ y → A) ∧ (¬ x ≤ y → B) := by
  subst hx hy
  rw [nI_leI ha hb]
  exact ⟨f, fun z => g (by omega)⟩
theorem pk_lt {x y : Int32} {A B : Prop} (a b : Nat) (f : a < b → A) (g : b ≤ a → B) (hx : x = nI a := by rfl) (hy : y = nI b := by rfl) (ha : a < 2 ^ 31 := by omega) (hb : b < 2 ^ 31 := by omega) : (x < y → A) ∧ (¬ x < y → B) := by
  subst hx hy
  rw [nI_ltI ha hb]
  exact ⟨f, fun z => g (by omega)⟩
theorem pk_eq {x y : Int32} {A B : Prop} (a b : Nat) (f : a = b → A) (g : a ≠ b → B) (hx : x = nI a := by rfl) (hy : y = nI b := by rfl) (ha : a < 2 ^ 31 := by omega) (hb : b < 2 ^ 31 := by omega) : (x = y → A) ∧ (¬ x = y → B) := by
  subst hx hy
  rw [nI_eq ha hb]
  exact ⟨f, g⟩
theorem pk_in {x : Int32} (n N : Nat) (h : n < N) (hx : x = nI n := by rfl) (hN : N < 2 ^ 31 := by omega) : vp_in x N := by
  subst hx
  exact vp_in_nI h hN
theorem pk_cl {x : Int32} (n : Nat) (hx : x = nI n := by rfl) (h : n < 2 ^ 31 := by omega) : x.toNatClampNeg = n := by
  subst hx
  exact nI_clamp h
theorem pk_tn {n : Nat} (h : n < 2 ^ 32) : (nI n).toBitVec.toNat = n := Nat.mod_eq_of_lt h
theorem pk_and (x : Int32) {m : Int32} (k : Nat) (hm : m.toBitVec.toNat = 2 ^ k - 1) : x &&& m = nI (x.toBitVec.toNat % 2 ^ k) := by
  apply Int32.toBitVec_inj.mp
  apply BitVec.eq_of_toNat_eq
  rw [Int32.toBitVec_and, BitVec.toNat_and, hm, Nat.and_two_pow_sub_one_eq_mod]
  show _ = (BitVec.ofNat 32 _).toNat
  rw [BitVec.toNat_ofNat]
  exact (Nat.mod_eq_of_lt (Nat.lt_of_le_of_lt (Nat.mod_le _ _) x.toBitVec.isLt)).symm
theorem pk_andN {n : Nat} (h : n < 2 ^ 32) {m : Int32} (k : Nat) (hm : m.toBitVec.toNat = 2 ^ k - 1) : nI n &&& m = nI (n % 2 ^ k) := by
  rw [pk_and _ k hm, pk_tn h]
theorem pk_andE (x : Int32) {m : Int32} (k : Nat) (hm : m.toBitVec.toNat = 2 ^ k - 1) : ∃ j : Nat, j < 2 ^ k ∧ x &&& m = nI j := ⟨_, Nat.mod_lt _ (Nat.two_pow_pos k), pk_and x k hm⟩
theorem pk_andIn (x : Int32) {m : Int32} (k : Nat) (hm : m.toBitVec.toNat = 2 ^ k - 1) (hk : k ≤ 30) : vp_in (x &&& m) (2 ^ k) := by
  obtain ⟨j, hj, e⟩ := pk_andE x k hm
  rw [e]
  exact vp_in_nI hj (Nat.lt_of_le_of_lt (Nat.pow_le_pow_right (by decide) hk) (by decide))
theorem pk_shl (a s : Int32) (k : Nat) (hs : (s.toBitVec.smod 32).toNat = k) : (a <<< s).toBitVec.toNat = a.toBitVec.toNat * 2 ^ k % 2 ^ 32 := by
  show (a.toBitVec <<< (s.toBitVec.smod 32).toNat).toNat = _
  rw [hs, BitVec.toNat_shiftLeft, Nat.shiftLeft_eq]
theorem pk_shlN {n : Nat} (s : Int32) (k : Nat) (hs : (s.toBitVec.smod 32).toNat = k) (h : n * 2 ^ k < 2 ^ 32) : nI n <<< s = nI (n * 2 ^ k) := by
  apply Int32.toBitVec_inj.mp
  apply BitVec.eq_of_toNat_eq
  have hn : n < 2 ^ 32 := Nat.lt_of_le_of_lt (Nat.le_mul_of_pos_right n (Nat.two_pow_pos k)) h
  rw [pk_shl _ _ k hs, pk_tn hn, pk_tn h, Nat.mod_eq_of_lt h]
theorem pk_shr (a s : Int32) (k : Nat) (hs : (s.toBitVec.smod 32).toNat = k) : (a >>> s).toInt = a.toInt >>> k := by
  show (a.toBitVec.sshiftRight (s.toBitVec.smod 32).toNat).toInt = _
  rw [hs, BitVec.toInt_sshiftRight]
  rfl
theorem pk_shrN {n : Nat} (h : n < 2 ^ 31) (s : Int32) (k : Nat) (hs : (s.toBitVec.smod 32).toNat = k) : nI n >>> s = nI (n / 2 ^ k) := by
  apply Int32.toInt_inj.mp
  have h2 : n / 2 ^ k ≤ n := Nat.div_le_self _ _
  rw [pk_shr _ _ k hs, nI_toInt h, nI_toInt (by omega), Int.shiftRight_eq_div_pow]
  rfl
def bt (x : Int32) (i : Nat) : Bool := x.toBitVec.getLsbD i
theorem b_ext {x y : Int32} (h : ∀ i, i < 32 → bt x i = bt y i) : x = y := Int32.toBitVec_inj.mp (BitVec.eq_of_getLsbD_eq (fun i hi => h i hi))
theorem b_or (x y : Int32) (i : Nat) : bt (x ||| y) i = (bt x i || bt y i) := by unfold bt; rw [Int32.toBitVec_or, BitVec.getLsbD_or]
theorem b_and (x y : Int32) (i : Nat) : bt (x &&& y) i = (bt x i && bt y i) := by unfold bt; rw [Int32.toBitVec_and, BitVec.getLsbD_and]
theorem b_xor (x y : Int32) (i : Nat) : bt (x ^^^ y) i = (bt x i ^^ bt y i) := by unfold bt; rw [Int32.toBitVec_xor, BitVec.getLsbD_xor]
theorem b_big {x : Int32} {i : Nat} (h : 32 ≤ i) : bt x i = false := BitVec.getLsbD_of_ge _ _ h
theorem b_255 (i : Nat) : bt 255 i = decide (i < 8) := by
  rcases Nat.lt_or_ge i 32 with h | h
  · exact (by decide +kernel : ∀ i, i < 32 → bt 255 i = decide (i < 8)) i h
  · rw [b_big h, decide_eq_false (by omega)]
theorem b_65535 (i : Nat) : bt 65535 i = decide (i < 16) := by
  rcases Nat.lt_or_ge i 32 with h | h
  · exact (by decide +kernel : ∀ i, i < 32 → bt 65535 i = decide (i < 16)) i h
  · rw [b_big h, decide_eq_false (by omega)]
theorem b_m1 : ∀ i, i < 32 → bt (-1) i = true := by decide +kernel
theorem b_0 (i : Nat) : bt 0 i = false := BitVec.getLsbD_zero
theorem s_l : ∀ n, n < 32 → ((nI n &&& 31).toBitVec.smod 32).toNat = n := by decide +kernel
theorem s_u : ∀ n, n < 32 → (((nI n).toUInt32 &&& Int32.toUInt32 31).toBitVec % 32).toNat = n := by decide +kernel
theorem b_shl (n : Nat) (hn : n < 32) (x : Int32) {i : Nat} (hi : i < 32) : bt (x <<< (nI n &&& 31)) i = (decide (n ≤ i) && bt x (i - n)) := by
  unfold bt
  rw [Int32.toBitVec_shiftLeft]
  show (x.toBitVec <<< ((nI n &&& 31).toBitVec.smod 32).toNat).getLsbD i = _
  rw [s_l n hn, BitVec.getLsbD_shiftLeft]
  rcases Nat.lt_or_ge i n with h | h
  · simp [h, Nat.not_le.mpr h]
  · simp [hi, h, Nat.not_lt.mpr h]
theorem b_ushr (n : Nat) (hn : n < 32) (x : Int32) (i : Nat) : bt ((x.toUInt32 >>> ((nI n).toUInt32 &&& Int32.toUInt32 31)).toInt32) i = bt x (n + i) := by
  show (x.toUInt32 >>> ((nI n).toUInt32 &&& Int32.toUInt32 31)).toBitVec.getLsbD i = x.toUInt32.toBitVec.getLsbD (n + i)
  rw [UInt32.toBitVec_shiftRight]
  show (x.toUInt32.toBitVec >>> (((nI n).toUInt32 &&& Int32.toUInt32 31).toBitVec % 32).toNat).getLsbD i = _
  rw [s_u n hn, BitVec.getLsbD_ushiftRight]
theorem b_sshr (n : Nat) (hn : n < 32) (x : Int32) {i : Nat} (hi : i < 32) : bt (x >>> (nI n &&& 31)) i = if n + i < 32 then bt x (n + i) else bt x 31 := by
  unfold bt
  rw [Int32.toBitVec_shiftRight]
  show (x.toBitVec.sshiftRight ((nI n &&& 31).toBitVec.smod 32).toNat).getLsbD i = _
  rw [s_l n hn, BitVec.getLsbD_sshiftRight, BitVec.msb_eq_getLsbD_last]
  simp [hi]
theorem nf_sh : ∀ l, l < 32 → ((1 : Int32) <<< (nI l &&& 31)).toBitVec = BitVec.twoPow 32 l := by decide +kernel
end
section
def lq_made (u : SX) : Int32 := u.1
def lq_inForce (u : SX) : Int32 := u.2.1
def lq_yes (u : SX) : Int32 := u.2.2.1
def lq_no (u : SX) : Int32 := u.2.2.2.1
def lq_trailLen (u : SX) : Int32 := u.2.2.2.2.1
def lq_level (u : SX) : Int32 := u.2.2.2.2.2.1
def lq_decided (u : SX) : Int32 := u.2.2.2.2.2.2.1
def lq_counted (u : SX) : Int32 := u.2.2.2.2.2.2.2.1
def lq_learnt (u : SX) : Int32 := u.2.2.2.2.2.2.2.2.1
def lq_clash (u : SX) : Int32 := u.2.2.2.2.2.2.2.2.2.1
def lq_clashYes (u : SX) : Int32 := u.2.2.2.2.2.2.2.2.2.2.1
def lq_clashNo (u : SX) : Int32 := u.2.2.2.2.2.2.2.2.2.2.2.1
def lq_moved (u : SX) : Int32 := u.2.2.2.2.2.2.2.2.2.2.2.2.1
def lq_held (u : SX) : (Nat → Int32) := u.2.2.2.2.2.2.2.2.2.2.2.2.2.1
def lq_kind (u : SX) : (Nat → Int32) := u.2.2.2.2.2.2.2.2.2.2.2.2.2.2.1
def lq_coef (u : SX) : (Nat → Int32) := u.2.2.2.2.2.2.2.2.2.2.2.2.2.2.2.1
def lq_bound (u : SX) : (Nat → Int32) := u.2.2.2.2.2.2.2.2.2.2.2.2.2.2.2.2.1
def lq_members (u : SX) : (Nat → Int32) := u.2.2.2.2.2.2.2.2.2.2.2.2.2.2.2.2.2.1
def lq_eitherYes (u : SX) : (Nat → Int32) := u.2.2.2.2.2.2.2.2.2.2.2.2.2.2.2.2.2.2.1
def lq_eitherNo (u : SX) : (Nat → Int32) := u.2.2.2.2.2.2.2.2.2.2.2.2.2.2.2.2.2.2.2.1
def lq_always (u : SX) : (Nat → Int32) := u.2.2.2.2.2.2.2.2.2.2.2.2.2.2.2.2.2.2.2.2.1
def lq_trail (u : SX) : (Nat → Int32) := u.2.2.2.2.2.2.2.2.2.2.2.2.2.2.2.2.2.2.2.2.2.1
def lq_atLevel (u : SX) : (Nat → Int32) := u.2.2.2.2.2.2.2.2.2.2.2.2.2.2.2.2.2.2.2.2.2.2.1
def lq_whyYes (u : SX) : (Nat → Int32) := u.2.2.2.2.2.2.2.2.2.2.2.2.2.2.2.2.2.2.2.2.2.2.2.1
def lq_whyNo (u : SX) : (Nat → Int32) := u.2.2.2.2.2.2.2.2.2.2.2.2.2.2.2.2.2.2.2.2.2.2.2.2.1
def lq_least (u : SX) : (Nat → Int32) := u.2.2.2.2.2.2.2.2.2.2.2.2.2.2.2.2.2.2.2.2.2.2.2.2.2.1
def lq_most (u : SX) : (Nat → Int32) := u.2.2.2.2.2.2.2.2.2.2.2.2.2.2.2.2.2.2.2.2.2.2.2.2.2.2.1
def lq_learntYes (u : SX) : (Nat → Int32) := u.2.2.2.2.2.2.2.2.2.2.2.2.2.2.2.2.2.2.2.2.2.2.2.2.2.2.2.1
def lq_learntNo (u : SX) : (Nat → Int32) := u.2.2.2.2.2.2.2.2.2.2.2.2.2.2.2.2.2.2.2.2.2.2.2.2.2.2.2.2
def lq_U {α : Sort _} (f : Int32 → Int32 → Int32 → Int32 → Int32 → Int32 → Int32 → Int32 → Int32 → Int32 → Int32 → Int32 → Int32 → (Nat → Int32) → (Nat → Int32) → (Nat → Int32) → (Nat → Int32) → (Nat → Int32) → (Nat → Int32) → (Nat → Int32) → (Nat → Int32) → (Nat → Int32) → (Nat → Int32) → (Nat → Int32) → (Nat → Int32) → (Nat → Int32) → (Nat → Int32) → (Nat → Int32) → (Nat → Int32) → α) (u : SX) : α := f (lq_made u) (lq_inForce u) (lq_yes u) (lq_no u) (lq_trailLen u) (lq_level u) (lq_decided u) (lq_counted u) (lq_learnt u) (lq_clash u) (lq_clashYes u) (lq_clashNo u) (lq_moved u) (lq_held u) (lq_kind u) (lq_coef u) (lq_bound u) (lq_members u) (lq_eitherYes u) (lq_eitherNo u) (lq_always u) (lq_trail u) (lq_atLevel u) (lq_whyYes u) (lq_whyNo u) (lq_least u) (lq_most u) (lq_learntYes u) (lq_learntNo u)
abbrev lq_J0 : Type := Int32 → Int32 → Int32 → Int32 → Int32 → Int32 → Int32 → Int32 → Int32 → Int32 → Int32 → Int32 → Int32 → (Nat → Int32) → (Nat → Int32) → (Nat → Int32) → (Nat → Int32) → (Nat → Int32) → (Nat → Int32) → (Nat → Int32) → (Nat → Int32) → (Nat → Int32) → (Nat → Int32) → (Nat → Int32) → (Nat → Int32) → (Nat → Int32) → (Nat → Int32) → (Nat → Int32) → (Nat → Int32) → Prop
abbrev lq_J1 : Type := Int32 → Int32 → Int32 → Int32 → Int32 → Int32 → Int32 → Int32 → Int32 → Int32 → Int32 → Int32 → Int32 → Int32 → (Nat → Int32) → (Nat → Int32) → (Nat → Int32) → (Nat → Int32) → (Nat → Int32) → (Nat → Int32) → (Nat → Int32) → (Nat → Int32) → (Nat → Int32) → (Nat → Int32) → (Nat → Int32) → (Nat → Int32) → (Nat → Int32) → (Nat → Int32) → (Nat → Int32) → (Nat → Int32) → Prop
abbrev lq_J2 : Type := Int32 → Int32 → Int32 → Int32 → Int32 → Int32 → Int32 → Int32 → Int32 → Int32 → Int32 → Int32 → Int32 → Int32 → Int32 → (Nat → Int32) → (Nat → Int32) → (Nat → Int32) → (Nat → Int32) → (Nat → Int32) → (Nat → Int32) → (Nat → Int32) → (Nat → Int32) → (Nat → Int32) → (Nat → Int32) → (Nat → Int32) → (Nat → Int32) → (Nat → Int32) → (Nat → Int32) → (Nat → Int32) → (Nat → Int32) → Prop
abbrev lq_J3 : Type := Int32 → Int32 → Int32 → Int32 → Int32 → Int32 → Int32 → Int32 → Int32 → Int32 → Int32 → Int32 → Int32 → Int32 → Int32 → Int32 → (Nat → Int32) → (Nat → Int32) → (Nat → Int32) → (Nat → Int32) → (Nat → Int32) → (Nat → Int32) → (Nat → Int32) → (Nat → Int32) → (Nat → Int32) → (Nat → Int32) → (Nat → Int32) → (Nat → Int32) → (Nat → Int32) → (Nat → Int32) → (Nat → Int32) → (Nat → Int32) → Prop
def lq_st (u : SX) : Int32 × Int32 × Int32 × (Nat → Int32) × (Nat → Int32) × (Nat → Int32) × (Nat → Int32) × (Nat → Int32) × (Nat → Int32) × (Nat → Int32) × (Nat → Int32) × (Nat → Int32) × (Nat → Int32) := (lq_made u, lq_inForce u, lq_counted u, lq_held u, lq_kind u, lq_coef u, lq_bound u, lq_members u, lq_eitherYes u, lq_eitherNo u, lq_always u, lq_least u, lq_most u)
theorem lq_st_made {u u' : SX} (h : lq_st u' = lq_st u) : lq_made u' = lq_made u := congrArg (fun k => k.1) h
theorem lq_st_inForce {u u' : SX} (h : lq_st u' = lq_st u) : lq_inForce u' = lq_inForce u := congrArg (fun k => k.2.1) h
theorem lq_st_counted {u u' : SX} (h : lq_st u' = lq_st u) : lq_counted u' = lq_counted u := congrArg (fun k => k.2.2.1) h
theorem lq_st_held {u u' : SX} (h : lq_st u' = lq_st u) : lq_held u' = lq_held u := congrArg (fun k => k.2.2.2.1) h
theorem lq_st_kind {u u' : SX} (h : lq_st u' = lq_st u) : lq_kind u' = lq_kind u := congrArg (fun k => k.2.2.2.2.1) h
theorem lq_st_coef {u u' : SX} (h : lq_st u' = lq_st u) : lq_coef u' = lq_coef u := congrArg (fun k => k.2.2.2.2.2.1) h
theorem lq_st_bound {u u' : SX} (h : lq_st u' = lq_st u) : lq_bound u' = lq_bound u := congrArg (fun k => k.2.2.2.2.2.2.1) h
theorem lq_st_members {u u' : SX} (h : lq_st u' = lq_st u) : lq_members u' = lq_members u := congrArg (fun k => k.2.2.2.2.2.2.2.1) h
theorem lq_st_eitherYes {u u' : SX} (h : lq_st u' = lq_st u) : lq_eitherYes u' = lq_eitherYes u := congrArg (fun k => k.2.2.2.2.2.2.2.2.1) h
theorem lq_st_eitherNo {u u' : SX} (h : lq_st u' = lq_st u) : lq_eitherNo u' = lq_eitherNo u := congrArg (fun k => k.2.2.2.2.2.2.2.2.2.1) h
theorem lq_st_always {u u' : SX} (h : lq_st u' = lq_st u) : lq_always u' = lq_always u := congrArg (fun k => k.2.2.2.2.2.2.2.2.2.2.1) h
theorem lq_st_least {u u' : SX} (h : lq_st u' = lq_st u) : lq_least u' = lq_least u := congrArg (fun k => k.2.2.2.2.2.2.2.2.2.2.2.1) h
theorem lq_st_most {u u' : SX} (h : lq_st u' = lq_st u) : lq_most u' = lq_most u := congrArg (fun k => k.2.2.2.2.2.2.2.2.2.2.2.2) h
def lq_lr (u : SX) : Int32 × Int32 × Int32 × (Nat → Int32) × (Nat → Int32) := (lq_level u, lq_decided u, lq_learnt u, lq_learntYes u, lq_learntNo u)
theorem lq_lr_level {u u' : SX} (h : lq_lr u' = lq_lr u) : lq_level u' = lq_level u := congrArg (fun k => k.1) h
theorem lq_lr_decided {u u' : SX} (h : lq_lr u' = lq_lr u) : lq_decided u' = lq_decided u := congrArg (fun k => k.2.1) h
theorem lq_lr_learnt {u u' : SX} (h : lq_lr u' = lq_lr u) : lq_learnt u' = lq_learnt u := congrArg (fun k => k.2.2.1) h
theorem lq_lr_learntYes {u u' : SX} (h : lq_lr u' = lq_lr u) : lq_learntYes u' = lq_learntYes u := congrArg (fun k => k.2.2.2.1) h
theorem lq_lr_learntNo {u u' : SX} (h : lq_lr u' = lq_lr u) : lq_learntNo u' = lq_learntNo u := congrArg (fun k => k.2.2.2.2) h
def lz_put (u : SX) (Y N lev D x WY WN mv : Int32) : SX := (lq_made u, lq_inForce u, Y, N, lq_trailLen u + 1, lev, D, lq_counted u, lq_learnt u, lq_clash u, lq_clashYes u, lq_clashNo u, mv, lq_held u, lq_kind u, lq_coef u, lq_bound u, lq_members u, lq_eitherYes u, lq_eitherNo u, lq_always u, upd (lq_trail u) (lq_trailLen u).toNatClampNeg x, upd (lq_atLevel u) x.toNatClampNeg lev, upd (lq_whyYes u) x.toNatClampNeg WY, upd (lq_whyNo u) x.toNatClampNeg WN, lq_least u, lq_most u, lq_learntYes u, lq_learntNo u)
def lz_setClash (u : SX) (c y n : Int32) : SX := (lq_made u, lq_inForce u, lq_yes u, lq_no u, lq_trailLen u, lq_level u, lq_decided u, lq_counted u, lq_learnt u, c, y, n, lq_moved u, lq_held u, lq_kind u, lq_coef u, lq_bound u, lq_members u, lq_eitherYes u, lq_eitherNo u, lq_always u, lq_trail u, lq_atLevel u, lq_whyYes u, lq_whyNo u, lq_least u, lq_most u, lq_learntYes u, lq_learntNo u)
def lz_setCM (u : SX) (c m : Int32) : SX := (lq_made u, lq_inForce u, lq_yes u, lq_no u, lq_trailLen u, lq_level u, lq_decided u, lq_counted u, lq_learnt u, c, lq_clashYes u, lq_clashNo u, m, lq_held u, lq_kind u, lq_coef u, lq_bound u, lq_members u, lq_eitherYes u, lq_eitherNo u, lq_always u, lq_trail u, lq_atLevel u, lq_whyYes u, lq_whyNo u, lq_least u, lq_most u, lq_learntYes u, lq_learntNo u)
def lz_setMoved (u : SX) (m : Int32) : SX := (lq_made u, lq_inForce u, lq_yes u, lq_no u, lq_trailLen u, lq_level u, lq_decided u, lq_counted u, lq_learnt u, lq_clash u, lq_clashYes u, lq_clashNo u, m, lq_held u, lq_kind u, lq_coef u, lq_bound u, lq_members u, lq_eitherYes u, lq_eitherNo u, lq_always u, lq_trail u, lq_atLevel u, lq_whyYes u, lq_whyNo u, lq_least u, lq_most u, lq_learntYes u, lq_learntNo u)
def lz_setBack (u : SX) (y n tl d l : Int32) : SX := (lq_made u, lq_inForce u, y, n, tl, l, d, lq_counted u, lq_learnt u, lq_clash u, lq_clashYes u, lq_clashNo u, lq_moved u, lq_held u, lq_kind u, lq_coef u, lq_bound u, lq_members u, lq_eitherYes u, lq_eitherNo u, lq_always u, lq_trail u, lq_atLevel u, lq_whyYes u, lq_whyNo u, lq_least u, lq_most u, lq_learntYes u, lq_learntNo u)
def lz_setLearn (u : SX) (l : Int32) (ly ln : Nat → Int32) : SX := (lq_made u, lq_inForce u, lq_yes u, lq_no u, lq_trailLen u, lq_level u, lq_decided u, lq_counted u, l, lq_clash u, lq_clashYes u, lq_clashNo u, lq_moved u, lq_held u, lq_kind u, lq_coef u, lq_bound u, lq_members u, lq_eitherYes u, lq_eitherNo u, lq_always u, lq_trail u, lq_atLevel u, lq_whyYes u, lq_whyNo u, lq_least u, lq_most u, ly, ln)
def lz_setAsk (u : SX) (c : Int32) (le mo : Nat → Int32) : SX := (lq_made u, lq_inForce u, lq_yes u, lq_no u, lq_trailLen u, lq_level u, lq_decided u, c, lq_learnt u, lq_clash u, lq_clashYes u, lq_clashNo u, lq_moved u, lq_held u, lq_kind u, lq_coef u, lq_bound u, lq_members u, lq_eitherYes u, lq_eitherNo u, lq_always u, lq_trail u, lq_atLevel u, lq_whyYes u, lq_whyNo u, le, mo, lq_learntYes u, lq_learntNo u)
def lz_setLin (u : SX) (k c b : Nat → Int32) : SX := (lq_made u, lq_inForce u, lq_yes u, lq_no u, lq_trailLen u, lq_level u, lq_decided u, lq_counted u, lq_learnt u, lq_clash u, lq_clashYes u, lq_clashNo u, lq_moved u, lq_held u, k, c, b, lq_members u, lq_eitherYes u, lq_eitherNo u, lq_always u, lq_trail u, lq_atLevel u, lq_whyYes u, lq_whyNo u, lq_least u, lq_most u, lq_learntYes u, lq_learntNo u)
def lz_setBegin (u : SX) : SX := (lq_made u, lq_inForce u, 0, 0, 0, 0, 0, lq_counted u, 0, lq_clash u, lq_clashYes u, lq_clashNo u, lq_moved u, lq_held u, lq_kind u, lq_coef u, lq_bound u, lq_members u, lq_eitherYes u, lq_eitherNo u, lq_always u, lq_trail u, lq_atLevel u, lq_whyYes u, lq_whyNo u, lq_least u, lq_most u, lq_learntYes u, lq_learntNo u)
theorem lq_eta (u : SX) : u = (lq_made u, lq_inForce u, lq_yes u, lq_no u, lq_trailLen u, lq_level u, lq_decided u, lq_counted u, lq_learnt u, lq_clash u, lq_clashYes u, lq_clashNo u, lq_moved u, lq_held u, lq_kind u, lq_coef u, lq_bound u, lq_members u, lq_eitherYes u, lq_eitherNo u, lq_always u, lq_trail u, lq_atLevel u, lq_whyYes u, lq_whyNo u, lq_least u, lq_most u, lq_learntYes u, lq_learntNo u) := rfl
end
section
/-! bits: the tests that the code makes, as bt -/
abbrev lz_b (a : Nat) : Int32 := (1 : Int32) <<< (nI a &&& 31)
theorem lz_b1 (i : Nat) : bt 1 i = decide (i = 0) := by
  rcases Nat.lt_or_ge i 32 with h | h
  · exact (by decide +kernel : ∀ i, i < 32 → bt 1 i = decide (i = 0)) i h
  · rw [b_big h, decide_eq_false (by omega)]
theorem lz_bb {a : Nat} (ha : a < 32) (i : Nat) : bt (lz_b a) i = decide (i = a) := by
  rcases Nat.lt_or_ge i 32 with h | h
  · rw [b_shl a ha 1 h, lz_b1]
    rcases Nat.lt_or_ge i a with h2 | h2
    · rw [decide_eq_false (by omega), decide_eq_false (by omega : ¬ i = a)]; rfl
    · rw [decide_eq_true h2, Bool.true_and]
      by_cases e : i = a
      · rw [decide_eq_true e, decide_eq_true (by omega)]
      · rw [decide_eq_false e, decide_eq_false (by omega)]
  · rw [b_big h, decide_eq_false (by omega)]
theorem lz_z {x : Int32} : x = 0 ↔ ∀ i, bt x i = false :=
  ⟨fun h i => by rw [h]; exact b_0 i, fun h => b_ext (fun i _ => (h i).trans (b_0 i).symm)⟩
theorem lz_nz {x : Int32} (h : ¬ x = 0) : ∃ i, i < 32 ∧ bt x i = true := by
  refine Classical.byContradiction fun hn => h (lz_z.mpr fun i => ?_)
  rcases Nat.lt_or_ge i 32 with h2 | h2
  · cases hb : bt x i with
    | false => rfl
    | true => exact absurd ⟨i, h2, hb⟩ hn
  · exact b_big h2
theorem lz_t1 {x e : Int32} {k : Nat} (he : e = nI k) (hk : k < 32) : ((x >>> (e &&& 31)) &&& 1) = 1 ↔ bt x k = true := by
  subst he
  have e0 : ∀ i, i < 32 → bt ((x >>> (nI k &&& 31)) &&& 1) i = (bt x k && decide (i = 0)) := by
    intro i hi
    rw [b_and, lz_b1, b_sshr k hk x hi]
    by_cases e : i = 0
    · subst e; rw [if_pos (by omega)]; rfl
    · rw [decide_eq_false e, Bool.and_false, Bool.and_false]
  constructor
  · intro h
    have h0 := e0 0 (by omega)
    rw [h, lz_b1] at h0
    simpa using h0.symm
  · intro h
    refine b_ext fun i hi => ?_
    rw [e0 i hi, h, lz_b1, Bool.true_and]
theorem lz_brb {x e : Int32} {A B : Prop} (k : Nat) (he : e = nI k) (hk : k < 32) (f : bt x k = true → A) (g : bt x k = false → B) : (((x >>> (e &&& 31)) &&& 1) = 1 → A) ∧ (¬ ((x >>> (e &&& 31)) &&& 1) = 1 → B) := by
  rw [lz_t1 he hk]
  exact ⟨f, fun h => g (by simpa using h)⟩
theorem lz_and0 {x : Int32} {a : Nat} (ha : a < 32) : (x &&& lz_b a) = 0 ↔ bt x a = false := by
  rw [lz_z]
  constructor
  · intro h
    have h0 := h a
    rw [b_and, lz_bb ha, decide_eq_true rfl, Bool.and_true] at h0
    exact h0
  · intro h i
    rw [b_and, lz_bb ha]
    by_cases e : i = a
    · rw [e, h, Bool.false_and]
    · rw [decide_eq_false e, Bool.and_false]
theorem lz_br0 {x e : Int32} {A B : Prop} (a : Nat) (he : e = lz_b a) (ha : a < 32) (f : bt x a = false → A) (g : bt x a = true → B) : ((x &&& e) = 0 → A) ∧ (¬ (x &&& e) = 0 → B) := by
  subst he
  rw [lz_and0 ha]
  exact ⟨f, fun h => g (by simpa using h)⟩
theorem lz_andn (x y : Int32) (i : Nat) : bt (x &&& (y ^^^ (-1))) i = (bt x i && !bt y i) := by
  rcases Nat.lt_or_ge i 32 with h | h
  · rw [b_and, b_xor, b_m1 i h, Bool.xor_true]
  · rw [b_big h, b_big (x := x) h, Bool.false_and]
theorem lz_anb (x : Int32) {a : Nat} (ha : a < 32) (i : Nat) : bt (x &&& (lz_b a ^^^ (-1))) i = true ↔ bt x i = true ∧ i ≠ a := by
  rw [lz_andn, lz_bb ha]
  simp
theorem lz_orb (x : Int32) {a : Nat} (ha : a < 32) (i : Nat) : bt (x ||| lz_b a) i = true ↔ bt x i = true ∨ i = a := by
  rw [b_or, lz_bb ha]
  simp
theorem lz_or (x y : Int32) (i : Nat) : bt (x ||| y) i = true ↔ bt x i = true ∨ bt y i = true := by
  rw [b_or]
  simp
theorem lz_and (x y : Int32) (i : Nat) : bt (x &&& y) i = true ↔ bt x i = true ∧ bt y i = true := by
  rw [b_and]
  simp
theorem lz_and' (x y : Int32) (i : Nat) : bt (x &&& (y ^^^ (-1))) i = true ↔ bt x i = true ∧ bt y i = false := by
  rw [lz_andn]
  simp
theorem lz_bi {a : Nat} (ha : a < 32) (i : Nat) : bt (lz_b a) i = true ↔ i = a := by
  rw [lz_bb ha]
  simp
theorem lz_0 (i : Nat) : ¬ bt 0 i = true := by
  rw [b_0]
  simp
theorem lz_ff {b : Bool} : b = false ↔ ¬ b = true := by cases b <;> simp
theorem lz_32 {x : Int32} {i : Nat} (h : bt x i = true) : i < 32 := by
  rcases Nat.lt_or_ge i 32 with h2 | h2
  · exact h2
  · rw [b_big h2] at h
    exact absurd h (by simp)
theorem lz_binj {a b : Nat} (ha : a < 32) (hb : b < 32) (h : lz_b a = lz_b b) : a = b := by
  have h1 : bt (lz_b b) a = true := by
    rw [← h]
    exact (lz_bi ha a).mpr rfl
  exact (lz_bi hb a).mp h1
/-! small numbers -/
theorem lz_ix0 (i v : Nat) : nI i * 3 + nI v = nI (3 * i + v) := by
  show nI i * nI 3 + nI v = _
  rw [pk_mul, nI_add, Nat.mul_comm]
theorem lz_ix1 {i v : Nat} (h : 1 ≤ v) : nI i * 3 + nI v - 1 = nI (3 * i + v - 1) := by
  rw [lz_ix0]
  show _ - nI 1 = _
  rw [pk_sub (by omega)]
theorem lz_ix4 (i v : Nat) : nI i * 4 + nI v = nI (4 * i + v) := by
  show nI i * nI 4 + nI v = _
  rw [pk_mul, nI_add, Nat.mul_comm]
theorem lz_ix5 (i v : Nat) : nI i * 5 + nI v = nI (5 * i + v) := by
  show nI i * nI 5 + nI v = _
  rw [pk_mul, nI_add, Nat.mul_comm]
theorem lz_dn {n : Nat} (h : 0 < n) : nI n + (-1) = nI (n - 1) := by
  obtain ⟨m, rfl⟩ : ∃ m, n = m + 1 := ⟨n - 1, by omega⟩
  rw [pk_m1]
  rfl
theorem lz_dn1 {n : Nat} (h : 0 < n) : nI n - 1 = nI (n - 1) := by
  show nI n - nI 1 = _
  rw [pk_sub h]
theorem lz_cl {n : Nat} (h : n < 2 ^ 31) : (nI n).toNatClampNeg = n := nI_clamp h
/-! sums and products of small ints -/
theorem lz_addI {x y : Int32} (h1 : -1000000 ≤ x.toInt) (h2 : x.toInt ≤ 1000000) (h3 : -1000000 ≤ y.toInt) (h4 : y.toInt ≤ 1000000) : (x + y).toInt = x.toInt + y.toInt := by
  rw [Int32.toInt_add]
  exact Int.bmod_eq_of_le (by omega) (by omega)
theorem lz_subI {x y : Int32} (h1 : -1000000 ≤ x.toInt) (h2 : x.toInt ≤ 1000000) (h3 : -1000000 ≤ y.toInt) (h4 : y.toInt ≤ 1000000) : (x - y).toInt = x.toInt - y.toInt := by
  rw [Int32.toInt_sub]
  exact Int.bmod_eq_of_le (by omega) (by omega)
theorem lz_mulI {x : Int32} {k : Nat} (h1 : -1000 ≤ x.toInt) (h2 : x.toInt ≤ 1000) (hk : k ≤ 3) : (x * nI k).toInt = x.toInt * (k : Int) := by
  rw [Int32.toInt_mul, nI_toInt (by omega)]
  have h : k = 0 ∨ k = 1 ∨ k = 2 ∨ k = 3 := by omega
  rcases h with rfl | rfl | rfl | rfl <;> exact Int.bmod_eq_of_le (by omega) (by omega)
theorem lz_negI {x : Int32} (h1 : -1000000 ≤ x.toInt) (h2 : x.toInt ≤ 1000000) : (-x).toInt = -x.toInt := by
  rw [Int32.toInt_neg]
  exact Int.bmod_eq_of_le (by omega) (by omega)
theorem lz_leI {x y : Int32} {A B : Prop} (a b : Int) (hx : x.toInt = a) (hy : y.toInt = b) (f : a ≤ b → A) (g : b < a → B) : (x ≤ y → A) ∧ (¬ x ≤ y → B) := by
  subst hx hy
  rw [Int32.le_iff_toInt_le]
  exact ⟨f, fun h => g (by omega)⟩
theorem lz_ltI {x y : Int32} {A B : Prop} (a b : Int) (hx : x.toInt = a) (hy : y.toInt = b) (f : a < b → A) (g : b ≤ a → B) : (x < y → A) ∧ (¬ x < y → B) := by
  subst hx hy
  rw [Int32.lt_iff_toInt_lt]
  exact ⟨f, fun h => g (by omega)⟩
end
section
/-! the mathematics of the trail, no program in sight -/
def lz_tv (s : Nat → Nat) (a : Nat) : Prop := a % 3 < s (a / 3)
def lz_ag (s : Nat → Nat) (Y N : Int32) : Prop := (∀ a, bt Y a = true → lz_tv s a) ∧ (∀ a, bt N a = true → ¬ lz_tv s a)
def lz_ng (P : (Nat → Nat) → Prop) (Y N : Int32) : Prop := ∀ s, P s → ¬ lz_ag s Y N
/-- the trail invariant -/
def lz_TI (P : (Nat → Nat) → Prop) (BY BN Y N D : Int32) (T L : Nat → Nat) (wy wn : Nat → Int32) (len : Nat) : Prop :=
  (∀ t, t < len → T t < 12) ∧
  (∀ t t', t < len → t' < len → T t = T t' → t = t') ∧
  (∀ a, (bt Y a = true ∨ bt N a = true) ↔ ∃ t, t < len ∧ T t = a) ∧
  (∀ a, bt Y a = true → ¬ bt N a = true) ∧
  (∀ t t', t ≤ t' → t' < len → L (T t) ≤ L (T t')) ∧
  (∀ a, bt D a = true → bt N a = true) ∧
  (∀ t, t < len → bt D (T t) = true → 1 ≤ L (T t) ∧ (∀ t', t' < t → L (T t') < L (T t)) ∧ (∀ b, b < T t → ∃ t', t' < t ∧ T t' = b)) ∧
  (∀ t, t < len → ¬ bt D (T t) = true → (∀ a, bt (wy (T t)) a = true → bt Y a = true ∧ ∃ t', t' < t ∧ T t' = a) ∧ (∀ a, bt (wn (T t)) a = true → bt N a = true ∧ ∃ t', t' < t ∧ T t' = a) ∧ (∀ s, P s → lz_ag s (wy (T t)) (wn (T t)) → (bt Y (T t) = true → lz_tv s (T t)) ∧ (bt N (T t) = true → ¬ lz_tv s (T t)))) ∧
  (∀ a, bt BY a = true → bt Y a = true ∧ L a = 0) ∧
  (∀ a, bt BN a = true → bt N a = true ∧ L a = 0)
theorem lz_php : ∀ (m n : Nat) (f : Nat → Nat), (∀ t, t < n → f t < m) → (∀ t t', t < n → t' < n → f t = f t' → t = t') → n ≤ m := by
  intro m
  induction m with
  | zero =>
    intro n f h _
    rcases Nat.eq_zero_or_pos n with h0 | h0
    · omega
    · exact absurd (h 0 h0) (Nat.not_lt_zero _)
  | succ m ih =>
    intro n f h hi
    by_cases hx : ∃ t, t < n ∧ f t = m
    · obtain ⟨t0, h0, e0⟩ := hx
      have hne : ∀ t, t < n → t ≠ t0 → f t < m := by
        intro t ht hn
        have h1 := h t ht
        have h2 : f t ≠ m := fun e => hn (hi t t0 ht h0 (e.trans e0.symm))
        omega
      have := ih (n - 1) (fun t => if t < t0 then f t else f (t + 1)) (by
        intro t ht
        show (if t < t0 then f t else f (t + 1)) < m
        by_cases hc : t < t0
        · rw [if_pos hc]; exact hne t (by omega) (by omega)
        · rw [if_neg hc]; exact hne (t + 1) (by omega) (by omega)) (by
        intro t t' ht ht' e
        have e2 : (if t < t0 then f t else f (t + 1)) = (if t' < t0 then f t' else f (t' + 1)) := e
        by_cases hc : t < t0
        · rw [if_pos hc] at e2
          by_cases hc' : t' < t0
          · rw [if_pos hc'] at e2; exact hi t t' (by omega) (by omega) e2
          · rw [if_neg hc'] at e2
            have := hi t (t' + 1) (by omega) (by omega) e2
            omega
        · rw [if_neg hc] at e2
          by_cases hc' : t' < t0
          · rw [if_pos hc'] at e2
            have := hi (t + 1) t' (by omega) (by omega) e2
            omega
          · rw [if_neg hc'] at e2
            have := hi (t + 1) (t' + 1) (by omega) (by omega) e2
            omega)
      omega
    · have := ih n f (fun t ht => by
        have h1 := h t ht
        have h2 : f t ≠ m := fun e => hx ⟨t, ht, e⟩
        omega) hi
      omega
theorem lz_phr {n m : Nat} (R : Nat → Nat → Prop) (h : ∀ l, l < n → ∃ t, t < m ∧ R l t) (hi : ∀ l l' t, R l t → R l' t → l = l') : n ≤ m := by
  have hc : ∀ l, ∃ t, l < n → t < m ∧ R l t := by
    intro l
    by_cases hl : l < n
    · obtain ⟨t, ht⟩ := h l hl
      exact ⟨t, fun _ => ht⟩
    · exact ⟨0, fun h => absurd h hl⟩
  obtain ⟨f, hf⟩ := Classical.axiomOfChoice hc
  refine lz_php m n f (fun t ht => (hf t ht).1) (fun t t' ht ht' e => ?_)
  have h1 := (hf t ht).2
  have h2 := (hf t' ht').2
  rw [← e] at h2
  exact hi t t' _ h1 h2
section
variable {P : (Nat → Nat) → Prop} {BY BN Y N D : Int32} {T L : Nat → Nat} {wy wn : Nat → Int32} {len : Nat}
theorem lz_len12 (I : lz_TI P BY BN Y N D T L wy wn len) : len ≤ 12 := lz_php 12 len T I.1 I.2.1
/-- a free atom is put on the trail with its reason -/
theorem lz_push (I : lz_TI P BY BN Y N D T L wy wn len) {Y' N' : Int32} {T' L' : Nat → Nat} {wy' wn' : Nat → Int32} {a lev : Nat} {b : Bool}
    (ha : a < 12) (hfY : ¬ bt Y a = true) (hfN : ¬ bt N a = true)
    (hT : ∀ t, t < len → T' t = T t) (hTl : T' len = a)
    (hL : ∀ c, c ≠ a → L' c = L c) (hLa : L' a = lev) (hlev : ∀ t, t < len → L (T t) ≤ lev)
    (hwy : ∀ c, c ≠ a → wy' c = wy c) (hwn : ∀ c, c ≠ a → wn' c = wn c)
    (hY' : ∀ c, bt Y' c = true ↔ bt Y c = true ∨ (b = true ∧ c = a))
    (hN' : ∀ c, bt N' c = true ↔ bt N c = true ∨ (b = false ∧ c = a))
    (hr1 : ∀ c, bt (wy' a) c = true → bt Y c = true) (hr2 : ∀ c, bt (wn' a) c = true → bt N c = true)
    (hs : ∀ s, P s → lz_ag s (wy' a) (wn' a) → (b = true → lz_tv s a) ∧ (b = false → ¬ lz_tv s a)) :
    lz_TI P BY BN Y' N' D T' L' wy' wn' (len + 1) := by
  obtain ⟨h1, h2, h3, h4, h5, h6, h7, h8, h9, h10⟩ := I
  have hne : ∀ t, t < len → T t ≠ a := by
    intro t ht e
    rcases (h3 a).mpr ⟨t, ht, e⟩ with h | h
    · exact hfY h
    · exact hfN h
  have hDa : ¬ bt D a = true := fun h => hfN (h6 a h)
  have hLT : ∀ t, t < len → L' (T' t) = L (T t) := by
    intro t ht
    rw [hT t ht]
    exact hL _ (hne t ht)
  refine ⟨?_, ?_, ?_, ?_, ?_, ?_, ?_, ?_, ?_, ?_⟩
  · intro t ht
    by_cases e : t = len
    · rw [e, hTl]; exact ha
    · rw [hT t (by omega)]; exact h1 t (by omega)
  · intro t t' ht ht' e
    by_cases e1 : t = len
    · by_cases e2 : t' = len
      · omega
      · rw [e1, hTl, hT t' (by omega)] at e
        exact absurd e.symm (hne t' (by omega))
    · by_cases e2 : t' = len
      · rw [e2, hTl, hT t (by omega)] at e
        exact absurd e (hne t (by omega))
      · rw [hT t (by omega), hT t' (by omega)] at e
        exact h2 t t' (by omega) (by omega) e
  · intro c
    rw [hY' c, hN' c]
    constructor
    · intro h
      have h' : (bt Y c = true ∨ bt N c = true) ∨ c = a := by
        rcases h with (h | h) | (h | h)
        · exact Or.inl (Or.inl h)
        · exact Or.inr h.2
        · exact Or.inl (Or.inr h)
        · exact Or.inr h.2
      rcases h' with h' | h'
      · obtain ⟨t, ht, e⟩ := (h3 c).mp h'
        exact ⟨t, by omega, (hT t ht).trans e⟩
      · exact ⟨len, by omega, hTl.trans h'.symm⟩
    · rintro ⟨t, ht, e⟩
      by_cases e1 : t = len
      · rw [e1, hTl] at e
        cases b with
        | true => exact Or.inl (Or.inr ⟨rfl, e.symm⟩)
        | false => exact Or.inr (Or.inr ⟨rfl, e.symm⟩)
      · rw [hT t (by omega)] at e
        rcases (h3 c).mpr ⟨t, by omega, e⟩ with h | h
        · exact Or.inl (Or.inl h)
        · exact Or.inr (Or.inl h)
  · intro c hy hn
    rcases (hY' c).mp hy with h | h
    · rcases (hN' c).mp hn with h' | h'
      · exact h4 c h h'
      · rw [h'.2] at h; exact hfY h
    · rcases (hN' c).mp hn with h' | h'
      · rw [h.2] at h'; exact hfN h'
      · rw [h.1] at h'; exact absurd h'.1 (by simp)
  · intro t t' hle ht'
    by_cases e2 : t' = len
    · rw [e2, hTl, hLa]
      by_cases e1 : t = len
      · rw [e1, hTl, hLa]; exact Nat.le_refl _
      · rw [hLT t (by omega)]; exact hlev t (by omega)
    · rw [hLT t (by omega), hLT t' (by omega)]
      exact h5 t t' hle (by omega)
  · intro c hd
    exact (hN' c).mpr (Or.inl (h6 c hd))
  · intro t ht hd
    by_cases e1 : t = len
    · rw [e1, hTl] at hd; exact absurd hd hDa
    · have htl : t < len := by omega
      rw [hT t htl] at hd
      obtain ⟨g1, g2, g3⟩ := h7 t htl hd
      refine ⟨by rw [hLT t htl]; exact g1, ?_, ?_⟩
      · intro t' ht'
        rw [hLT t htl, hLT t' (by omega)]
        exact g2 t' ht'
      · intro b hb
        rw [hT t htl] at hb
        obtain ⟨t', ht', e⟩ := g3 b hb
        exact ⟨t', ht', (hT t' (by omega)).trans e⟩
  · intro t ht hd
    by_cases e1 : t = len
    · subst e1
      rw [hTl]
      refine ⟨?_, ?_, ?_⟩
      · intro c hc
        have hy := hr1 c hc
        obtain ⟨t', ht', e⟩ := (h3 c).mp (Or.inl hy)
        exact ⟨(hY' c).mpr (Or.inl hy), t', ht', (hT t' ht').trans e⟩
      · intro c hc
        have hy := hr2 c hc
        obtain ⟨t', ht', e⟩ := (h3 c).mp (Or.inr hy)
        exact ⟨(hN' c).mpr (Or.inl hy), t', ht', (hT t' ht').trans e⟩
      · intro s hP hag
        have := hs s hP hag
        refine ⟨fun hy => this.1 ?_, fun hn => this.2 ?_⟩
        · rcases (hY' a).mp hy with h | h
          · exact absurd h hfY
          · exact h.1
        · rcases (hN' a).mp hn with h | h
          · exact absurd h hfN
          · exact h.1
    · have htl : t < len := by omega
      rw [hT t htl] at hd ⊢
      have hn := hne t htl
      rw [hwy _ hn, hwn _ hn]
      obtain ⟨g1, g2, g3⟩ := h8 t htl hd
      refine ⟨?_, ?_, ?_⟩
      · intro c hc
        obtain ⟨gy, t', ht', e⟩ := g1 c hc
        exact ⟨(hY' c).mpr (Or.inl gy), t', ht', (hT t' (by omega)).trans e⟩
      · intro c hc
        obtain ⟨gy, t', ht', e⟩ := g2 c hc
        exact ⟨(hN' c).mpr (Or.inl gy), t', ht', (hT t' (by omega)).trans e⟩
      · intro s hP hag
        have := g3 s hP hag
        refine ⟨fun hy => this.1 ?_, fun hy => this.2 ?_⟩
        · rcases (hY' _).mp hy with h | h
          · exact h
          · exact absurd h.2 hn
        · rcases (hN' _).mp hy with h | h
          · exact h
          · exact absurd h.2 hn
  · intro c hc
    obtain ⟨g1, g2⟩ := h9 c hc
    refine ⟨(hY' c).mpr (Or.inl g1), ?_⟩
    rw [hL c (fun e => hfY (e ▸ g1))]
    exact g2
  · intro c hc
    obtain ⟨g1, g2⟩ := h10 c hc
    refine ⟨(hN' c).mpr (Or.inl g1), ?_⟩
    rw [hL c (fun e => hfN (e ▸ g1))]
    exact g2
/-- a decision: the first free atom is made false on a new level -/
theorem lz_pushD (I : lz_TI P BY BN Y N D T L wy wn len) {N' D' : Int32} {T' L' : Nat → Nat} {wy' wn' : Nat → Int32} {a lev : Nat}
    (ha : a < 12) (hfY : ¬ bt Y a = true) (hfN : ¬ bt N a = true) (hb : ∀ b, b < a → bt Y b = true ∨ bt N b = true)
    (hT : ∀ t, t < len → T' t = T t) (hTl : T' len = a)
    (hL : ∀ c, c ≠ a → L' c = L c) (hLa : L' a = lev) (hlev : ∀ t, t < len → L (T t) < lev) (hl1 : 1 ≤ lev)
    (hwy : ∀ c, c ≠ a → wy' c = wy c) (hwn : ∀ c, c ≠ a → wn' c = wn c)
    (hN' : ∀ c, bt N' c = true ↔ bt N c = true ∨ c = a)
    (hD' : ∀ c, bt D' c = true ↔ bt D c = true ∨ c = a) :
    lz_TI P BY BN Y N' D' T' L' wy' wn' (len + 1) := by
  obtain ⟨h1, h2, h3, h4, h5, h6, h7, h8, h9, h10⟩ := I
  have hne : ∀ t, t < len → T t ≠ a := by
    intro t ht e
    rcases (h3 a).mpr ⟨t, ht, e⟩ with h | h
    · exact hfY h
    · exact hfN h
  have hLT : ∀ t, t < len → L' (T' t) = L (T t) := by
    intro t ht
    rw [hT t ht]
    exact hL _ (hne t ht)
  refine ⟨?_, ?_, ?_, ?_, ?_, ?_, ?_, ?_, ?_, ?_⟩
  · intro t ht
    by_cases e : t = len
    · rw [e, hTl]; exact ha
    · rw [hT t (by omega)]; exact h1 t (by omega)
  · intro t t' ht ht' e
    by_cases e1 : t = len
    · by_cases e2 : t' = len
      · omega
      · rw [e1, hTl, hT t' (by omega)] at e
        exact absurd e.symm (hne t' (by omega))
    · by_cases e2 : t' = len
      · rw [e2, hTl, hT t (by omega)] at e
        exact absurd e (hne t (by omega))
      · rw [hT t (by omega), hT t' (by omega)] at e
        exact h2 t t' (by omega) (by omega) e
  · intro c
    rw [hN' c]
    constructor
    · intro h
      have h' : (bt Y c = true ∨ bt N c = true) ∨ c = a := by
        rcases h with h | (h | h)
        · exact Or.inl (Or.inl h)
        · exact Or.inl (Or.inr h)
        · exact Or.inr h
      rcases h' with h' | h'
      · obtain ⟨t, ht, e⟩ := (h3 c).mp h'
        exact ⟨t, by omega, (hT t ht).trans e⟩
      · exact ⟨len, by omega, hTl.trans h'.symm⟩
    · rintro ⟨t, ht, e⟩
      by_cases e1 : t = len
      · rw [e1, hTl] at e
        exact Or.inr (Or.inr e.symm)
      · rw [hT t (by omega)] at e
        rcases (h3 c).mpr ⟨t, by omega, e⟩ with h | h
        · exact Or.inl h
        · exact Or.inr (Or.inl h)
  · intro c hy hn
    rcases (hN' c).mp hn with h' | h'
    · exact h4 c hy h'
    · rw [h'] at hy; exact hfY hy
  · intro t t' hle ht'
    by_cases e2 : t' = len
    · rw [e2, hTl, hLa]
      by_cases e1 : t = len
      · rw [e1, hTl, hLa]; exact Nat.le_refl _
      · rw [hLT t (by omega)]; exact Nat.le_of_lt (hlev t (by omega))
    · rw [hLT t (by omega), hLT t' (by omega)]
      exact h5 t t' hle (by omega)
  · intro c hd
    rcases (hD' c).mp hd with h | h
    · exact (hN' c).mpr (Or.inl (h6 c h))
    · exact (hN' c).mpr (Or.inr h)
  · intro t ht hd
    by_cases e1 : t = len
    · subst e1
      rw [hTl, hLa]
      refine ⟨hl1, ?_, ?_⟩
      · intro t' ht'
        rw [hLT t' ht']
        exact hlev t' ht'
      · intro b hba
        obtain ⟨t', ht', e⟩ := (h3 b).mp (hb b hba)
        exact ⟨t', ht', (hT t' ht').trans e⟩
    · have htl : t < len := by omega
      rw [hT t htl] at hd
      have hd2 : bt D (T t) = true := by
        rcases (hD' _).mp hd with h | h
        · exact h
        · exact absurd h (hne t htl)
      obtain ⟨g1, g2, g3⟩ := h7 t htl hd2
      refine ⟨by rw [hLT t htl]; exact g1, ?_, ?_⟩
      · intro t' ht'
        rw [hLT t htl, hLT t' (by omega)]
        exact g2 t' ht'
      · intro b hb
        rw [hT t htl] at hb
        obtain ⟨t', ht', e⟩ := g3 b hb
        exact ⟨t', ht', (hT t' (by omega)).trans e⟩
  · intro t ht hd
    by_cases e1 : t = len
    · subst e1
      rw [hTl] at hd
      exact absurd ((hD' a).mpr (Or.inr rfl)) hd
    · have htl : t < len := by omega
      rw [hT t htl] at hd ⊢
      have hn := hne t htl
      rw [hwy _ hn, hwn _ hn]
      obtain ⟨g1, g2, g3⟩ := h8 t htl (fun h => hd ((hD' _).mpr (Or.inl h)))
      refine ⟨?_, ?_, ?_⟩
      · intro c hc
        obtain ⟨gy, t', ht', e⟩ := g1 c hc
        exact ⟨gy, t', ht', (hT t' (by omega)).trans e⟩
      · intro c hc
        obtain ⟨gy, t', ht', e⟩ := g2 c hc
        exact ⟨(hN' c).mpr (Or.inl gy), t', ht', (hT t' (by omega)).trans e⟩
      · intro s hP hag
        have := g3 s hP hag
        refine ⟨fun hy => this.1 hy, fun hy => this.2 ?_⟩
        rcases (hN' _).mp hy with h | h
        · exact h
        · exact absurd h hn
  · intro c hc
    obtain ⟨g1, g2⟩ := h9 c hc
    refine ⟨g1, ?_⟩
    rw [hL c (fun e => hfY (e ▸ g1))]
    exact g2
  · intro c hc
    obtain ⟨g1, g2⟩ := h10 c hc
    refine ⟨(hN' c).mpr (Or.inl g1), ?_⟩
    rw [hL c (fun e => hfN (e ▸ g1))]
    exact g2
/-- the trail cut back -/
theorem lz_cut (I : lz_TI P BY BN Y N D T L wy wn len) {Y' N' D' : Int32} {m : Nat} (hm : m ≤ len)
    (hY' : ∀ c, bt Y' c = true ↔ bt Y c = true ∧ ∃ t, t < m ∧ T t = c)
    (hN' : ∀ c, bt N' c = true ↔ bt N c = true ∧ ∃ t, t < m ∧ T t = c)
    (hD' : ∀ c, bt D' c = true ↔ bt D c = true ∧ ∃ t, t < m ∧ T t = c)
    (h0 : ∀ t, m ≤ t → t < len → 0 < L (T t)) :
    lz_TI P BY BN Y' N' D' T L wy wn m := by
  obtain ⟨h1, h2, h3, h4, h5, h6, h7, h8, h9, h10⟩ := I
  have hk : ∀ c, (bt Y c = true ∨ bt N c = true) → L c = 0 → ∃ t, t < m ∧ T t = c := by
    intro c hc e0
    obtain ⟨t, ht, e⟩ := (h3 c).mp hc
    refine ⟨t, ?_, e⟩
    refine Nat.lt_of_not_le fun hle => ?_
    have := h0 t hle ht
    rw [e, e0] at this
    exact Nat.lt_irrefl _ this
  refine ⟨?_, ?_, ?_, ?_, ?_, ?_, ?_, ?_, ?_, ?_⟩
  · exact fun t ht => h1 t (by omega)
  · exact fun t t' ht ht' => h2 t t' (by omega) (by omega)
  · intro c
    rw [hY' c, hN' c]
    constructor
    · rintro (h | h)
      · exact h.2
      · exact h.2
    · intro h
      obtain ⟨t, ht, e⟩ := h
      rcases (h3 c).mpr ⟨t, by omega, e⟩ with h' | h'
      · exact Or.inl ⟨h', t, ht, e⟩
      · exact Or.inr ⟨h', t, ht, e⟩
  · intro c hy hn
    exact h4 c ((hY' c).mp hy).1 ((hN' c).mp hn).1
  · exact fun t t' hle ht' => h5 t t' hle (by omega)
  · intro c hd
    have := (hD' c).mp hd
    exact (hN' c).mpr ⟨h6 c this.1, this.2⟩
  · intro t ht hd
    exact h7 t (by omega) ((hD' _).mp hd).1
  · intro t ht hd
    obtain ⟨g1, g2, g3⟩ := h8 t (by omega) (fun h => hd ((hD' _).mpr ⟨h, t, ht, rfl⟩))
    refine ⟨?_, ?_, ?_⟩
    · intro c hc
      obtain ⟨gy, t', ht', e⟩ := g1 c hc
      exact ⟨(hY' c).mpr ⟨gy, t', by omega, e⟩, t', ht', e⟩
    · intro c hc
      obtain ⟨gy, t', ht', e⟩ := g2 c hc
      exact ⟨(hN' c).mpr ⟨gy, t', by omega, e⟩, t', ht', e⟩
    · intro s hP hag
      have := g3 s hP hag
      exact ⟨fun hy => this.1 ((hY' _).mp hy).1, fun hn => this.2 ((hN' _).mp hn).1⟩
  · intro c hc
    obtain ⟨g1, g2⟩ := h9 c hc
    exact ⟨(hY' c).mpr ⟨g1, hk c (Or.inl g1) g2⟩, g2⟩
  · intro c hc
    obtain ⟨g1, g2⟩ := h10 c hc
    exact ⟨(hN' c).mpr ⟨g1, hk c (Or.inr g1) g2⟩, g2⟩
/-- a solution that agrees with the decisions up to level k agrees with all atoms up to level k -/
theorem lz_clo (I : lz_TI P BY BN Y N D T L wy wn len) {s : Nat → Nat} (hP : P s) {k : Nat} (hd : ∀ a, bt D a = true → L a ≤ k → ¬ lz_tv s a) :
    ∀ t, t < len → L (T t) ≤ k → (bt Y (T t) = true → lz_tv s (T t)) ∧ (bt N (T t) = true → ¬ lz_tv s (T t)) := by
  obtain ⟨h1, h2, h3, h4, h5, h6, h7, h8, h9, h10⟩ := I
  intro t
  induction t using Nat.strongRecOn with
  | _ t ih =>
    intro ht hk
    by_cases hD : bt D (T t) = true
    · exact ⟨fun hy => absurd (h6 _ hD) (h4 _ hy), fun _ => hd _ hD hk⟩
    · obtain ⟨g1, g2, g3⟩ := h8 t ht hD
      refine g3 s hP ⟨?_, ?_⟩
      · intro a ha
        obtain ⟨gy, t', ht', e⟩ := g1 a ha
        have hl := h5 t' t (by omega) ht
        have := (ih t' ht' (by omega) (by omega)).1
        rw [e] at this
        exact this gy
      · intro a ha
        obtain ⟨gy, t', ht', e⟩ := g2 a ha
        have hl := h5 t' t (by omega) ht
        have := (ih t' ht' (by omega) (by omega)).2
        rw [e] at this
        exact this gy
theorem lz_cloA (I : lz_TI P BY BN Y N D T L wy wn len) {s : Nat → Nat} (hP : P s) {k : Nat} (hd : ∀ a, bt D a = true → L a ≤ k → ¬ lz_tv s a)
    {CY CN : Int32} (hy : ∀ a, bt CY a = true → bt Y a = true ∧ L a ≤ k) (hn : ∀ a, bt CN a = true → bt N a = true ∧ L a ≤ k) : lz_ag s CY CN := by
  have hc := lz_clo I hP hd
  constructor
  · intro a ha
    obtain ⟨g1, g2⟩ := hy a ha
    obtain ⟨t, ht, e⟩ := (I.2.2.1 a).mp (Or.inl g1)
    subst e
    exact (hc t ht g2).1 g1
  · intro a ha
    obtain ⟨g1, g2⟩ := hn a ha
    obtain ⟨t, ht, e⟩ := (I.2.2.1 a).mp (Or.inr g1)
    subst e
    exact (hc t ht g2).2 g1
/-- a full trail holds the first solution -/
theorem lz_min (I : lz_TI P BY BN Y N D T L wy wn len) (hf : ∀ a, a < 12 → bt Y a = true ∨ bt N a = true) {s F : Nat → Nat} (hP : P s)
    (hF : ∀ a, a < 12 → (bt Y a = true ↔ lz_tv F a)) (hF3 : ∀ i, i < 4 → F i ≤ 3) :
    ∀ i, i < 4 → (∀ j, j < i → F j = s j) → F i ≤ s i := by
  have I' := I
  obtain ⟨h1, h2, h3, h4, h5, h6, h7, h8, h9, h10⟩ := I
  intro i hi hj
  refine Nat.le_of_not_lt fun hlt => ?_
  have h3i := hF3 i hi
  have ha : 3 * i + s i < 12 := by omega
  have hd3 : (3 * i + s i) / 3 = i := by omega
  have hm3 : (3 * i + s i) % 3 = s i := by omega
  have hy : bt Y (3 * i + s i) = true := by
    rw [hF _ ha]
    unfold lz_tv
    rw [hd3, hm3]
    exact hlt
  obtain ⟨t, ht, e⟩ := (h3 _).mp (Or.inl hy)
  have hc := lz_clo I' hP (k := L (3 * i + s i)) (by
    intro d hd hl
    have hn := h6 d hd
    obtain ⟨t', ht', e'⟩ := (h3 d).mp (Or.inr hn)
    have hd12 : d < 12 := e' ▸ h1 t' ht'
    have hnf : ¬ lz_tv F d := fun h => h4 d ((hF d hd12).mpr h) hn
    rcases Nat.lt_or_ge (3 * i + s i) d with h | h
    · obtain ⟨_, g2, g3⟩ := h7 t' ht' (by rw [e']; exact hd)
      obtain ⟨t2, ht2, e2⟩ := g3 (3 * i + s i) (by rw [e']; exact h)
      have := g2 t2 ht2
      rw [e2, e'] at this
      omega
    · unfold lz_tv at hnf ⊢
      by_cases h' : d / 3 < i
      · rw [← hj _ h']; exact hnf
      · have e3 : d / 3 = i := by omega
        rw [e3] at hnf
        by_cases h'' : d = 3 * i + s i
        · rw [h''] at hn; exact absurd hn (h4 _ hy)
        · omega) t ht (by rw [e]; exact Nat.le_refl _)
  rw [e] at hc
  have := hc.1 hy
  unfold lz_tv at this
  rw [hd3, hm3] at this
  exact Nat.lt_irrefl _ this
end
/-! the rank of a trail: it bounds the rounds without learning -/
def lz_rk (D : Int32) (T : Nat → Nat) : Nat → Nat
  | 0 => 0
  | t + 1 => lz_rk D T t + (if bt D (T t) = true then 1 else 2 ^ (12 - t))
theorem lz_rk_congr {D D' : Int32} {T T' : Nat → Nat} : ∀ {n : Nat}, (∀ t, t < n → T' t = T t ∧ (bt D' (T t) = true ↔ bt D (T t) = true)) → lz_rk D' T' n = lz_rk D T n := by
  intro n
  induction n with
  | zero => intro _; rfl
  | succ n ih =>
    intro h
    have h1 := h n (by omega)
    show lz_rk D' T' n + (if bt D' (T' n) = true then 1 else 2 ^ (12 - n)) = lz_rk D T n + (if bt D (T n) = true then 1 else 2 ^ (12 - n))
    rw [ih (fun t ht => h t (by omega)), h1.1]
    by_cases hd : bt D (T n) = true
    · rw [if_pos hd, if_pos (h1.2.mpr hd)]
    · rw [if_neg hd, if_neg (fun z => hd (h1.2.mp z))]
theorem lz_rk_s {D : Int32} {T : Nat → Nat} (n : Nat) : lz_rk D T (n + 1) = lz_rk D T n + (if bt D (T n) = true then 1 else 2 ^ (12 - n)) := rfl
theorem lz_rk_step {D : Int32} {T : Nat → Nat} (n : Nat) : lz_rk D T n + 1 ≤ lz_rk D T (n + 1) := by
  rw [lz_rk_s]
  have := Nat.two_pow_pos (12 - n)
  split <;> omega
theorem lz_rk_mono {D : Int32} {T : Nat → Nat} {m : Nat} : ∀ k, lz_rk D T m ≤ lz_rk D T (m + k) := by
  intro k
  induction k with
  | zero => exact Nat.le_refl _
  | succ k ih => exact Nat.le_trans ih (Nat.le_trans (Nat.le_succ _) (lz_rk_step (m + k)))
theorem lz_rk_F1 {D : Int32} {T : Nat → Nat} {n : Nat} (hn : n + 1 ≤ 12) : lz_rk D T (n + 1) + 2 ^ (13 - (n + 1)) ≤ lz_rk D T n + 2 ^ (13 - n) := by
  rw [lz_rk_s]
  have e1 : 13 - (n + 1) = 12 - n := by omega
  have e2 : 13 - n = (12 - n) + 1 := by omega
  rw [e1, e2, Nat.pow_succ]
  have := Nat.two_pow_pos (12 - n)
  split <;> omega
theorem lz_rk_F {D : Int32} {T : Nat → Nat} {m : Nat} : ∀ k, m + k ≤ 12 → lz_rk D T (m + k) + 2 ^ (13 - (m + k)) ≤ lz_rk D T m + 2 ^ (13 - m) := by
  intro k
  induction k with
  | zero => intro _; exact Nat.le_refl _
  | succ k ih => intro h; exact Nat.le_trans (lz_rk_F1 (by omega)) (ih (by omega))
theorem lz_rk_lt {D : Int32} {T : Nat → Nat} {n : Nat} (hn : n ≤ 12) : lz_rk D T n < 8192 := by
  have h := lz_rk_F (D := D) (T := T) (m := 0) n (by omega)
  rw [Nat.zero_add] at h
  have h0 : lz_rk D T 0 + 2 ^ (13 - 0) = 8192 := rfl
  have := Nat.two_pow_pos (13 - n)
  omega
theorem lz_rk_turn {D : Int32} {T : Nat → Nat} {p n : Nat} (hp : p < n) (hn : n ≤ 12) (hd : bt D (T p) = true) : lz_rk D T n + 1 ≤ lz_rk D T p + 2 ^ (12 - p) := by
  have h := lz_rk_F (D := D) (T := T) (m := p + 1) (n - (p + 1)) (by omega)
  rw [show p + 1 + (n - (p + 1)) = n from by omega, lz_rk_s, if_pos hd, show 13 - (p + 1) = 12 - p from by omega] at h
  have h2 : 2 ^ (13 - n) = 2 ^ (12 - n) * 2 := by rw [← Nat.pow_succ]; exact congrArg _ (by omega)
  have := Nat.two_pow_pos (12 - n)
  omega
end
section
/-! the invariant on the component's state -/
def lz_T (u : SX) (t : Nat) : Nat := (lq_trail u t).toNatClampNeg
def lz_L (u : SX) (a : Nat) : Nat := (lq_atLevel u a).toNatClampNeg
def lz_len (u : SX) : Nat := (lq_trailLen u).toNatClampNeg
def lz_lev (u : SX) : Nat := (lq_level u).toNatClampNeg
def lz_rank (u : SX) : Nat := lz_rk (lq_decided u) (lz_T u) (lz_len u)
def lz_TIu (P : (Nat → Nat) → Prop) (BY BN : Int32) (u : SX) : Prop := lz_TI P BY BN (lq_yes u) (lq_no u) (lq_decided u) (lz_T u) (lz_L u) (lq_whyYes u) (lq_whyNo u) (lz_len u)
def lz_K (P : (Nat → Nat) → Prop) (BY BN : Int32) (u : SX) : Prop :=
  lq_trailLen u = nI (lz_len u) ∧ lq_level u = nI (lz_lev u) ∧
  (∀ t, t < lz_len u → lq_trail u t = nI (lz_T u t)) ∧
  (∀ t, t < lz_len u → lq_atLevel u (lz_T u t) = nI (lz_L u (lz_T u t))) ∧
  (∀ t, t < lz_len u → lz_L u (lz_T u t) ≤ lz_lev u) ∧
  (∀ l, 1 ≤ l → l ≤ lz_lev u → ∃ t, t < lz_len u ∧ bt (lq_decided u) (lz_T u t) = true ∧ lz_L u (lz_T u t) = l) ∧
  lz_TIu P BY BN u
def lz_C (P : (Nat → Nat) → Prop) (u : SX) : Prop :=
  lq_clash u = 0 ∨ (lq_clash u = 1 ∧ (∀ a, bt (lq_clashYes u) a = true → bt (lq_yes u) a = true) ∧ (∀ a, bt (lq_clashNo u) a = true → bt (lq_no u) a = true) ∧ lz_ng P (lq_clashYes u) (lq_clashNo u))
def lz_G (P : (Nat → Nat) → Prop) (BY BN : Int32) (u : SX) : Prop := lz_K P BY BN u ∧ lz_C P u
/-- what a step of the propagation keeps and gains -/
def lz_St (P : (Nat → Nat) → Prop) (BY BN : Int32) (u u' : SX) : Prop :=
  lq_st u' = lq_st u ∧ lq_lr u' = lq_lr u ∧ lz_G P BY BN u' ∧
  (∀ a, bt (lq_yes u) a = true → bt (lq_yes u') a = true) ∧ (∀ a, bt (lq_no u) a = true → bt (lq_no u') a = true) ∧
  lz_len u ≤ lz_len u' ∧ lz_rank u ≤ lz_rank u' ∧
  (lq_moved u' = 0 → lq_moved u = 0 ∧ lq_yes u' = lq_yes u ∧ lq_no u' = lq_no u) ∧
  (lq_moved u = 0 → ¬ lq_moved u' = 0 → lz_len u < lz_len u') ∧
  (lq_clash u' = 0 → lq_clash u = 0)
section
variable {P : (Nat → Nat) → Prop} {BY BN : Int32}
theorem lz_St_rf {u : SX} (G : lz_G P BY BN u) : lz_St P BY BN u u :=
  ⟨rfl, rfl, G, fun _ h => h, fun _ h => h, Nat.le_refl _, Nat.le_refl _, fun h => ⟨h, rfl, rfl⟩, fun h h' => absurd h h', fun h => h⟩
theorem lz_St_tr {u u' u'' : SX} (a : lz_St P BY BN u u') (b : lz_St P BY BN u' u'') : lz_St P BY BN u u'' := by
  obtain ⟨a1, a2, a3, a4, a5, a6, a7, a8, a9, a10⟩ := a
  obtain ⟨b1, b2, b3, b4, b5, b6, b7, b8, b9, b10⟩ := b
  refine ⟨b1.trans a1, b2.trans a2, b3, fun x h => b4 x (a4 x h), fun x h => b5 x (a5 x h), Nat.le_trans a6 b6, Nat.le_trans a7 b7, ?_, ?_, fun h => a10 (b10 h)⟩
  · intro h
    obtain ⟨c1, c2, c3⟩ := b8 h
    obtain ⟨d1, d2, d3⟩ := a8 c1
    exact ⟨d1, c2.trans d2, c3.trans d3⟩
  · intro h h'
    by_cases hm : lq_moved u' = 0
    · have := b9 hm h'
      omega
    · have := a9 h hm
      omega
theorem lz_len_le {u : SX} (I : lz_K P BY BN u) : lz_len u ≤ 12 := lz_len12 I.2.2.2.2.2.2
theorem lz_lev_le {u : SX} (I : lz_K P BY BN u) : lz_lev u ≤ lz_len u := by
  obtain ⟨k1, k2, k3, k4, k5, k6, k7⟩ := I
  refine lz_phr (fun l t => lz_L u (lz_T u t) = l + 1) (fun l hl => ?_) (fun l l' t h h' => ?_)
  · obtain ⟨t, ht, _, e⟩ := k6 (l + 1) (by omega) (by omega)
    exact ⟨t, ht, e⟩
  · have h1 : lz_L u (lz_T u t) = l + 1 := h
    have h2 : lz_L u (lz_T u t) = l' + 1 := h'
    omega
/-! accessors of a put -/
theorem lz_put_T {u : SX} {Y N lev D x WY WN mv : Int32} : (∀ t, t < lz_len u → lz_T (lz_put u Y N lev D x WY WN mv) t = lz_T u t) ∧ lz_T (lz_put u Y N lev D x WY WN mv) (lz_len u) = x.toNatClampNeg := by
  constructor
  · intro t ht
    show (upd (lq_trail u) (lz_len u) x t).toNatClampNeg = _
    rw [pk_un (by omega)]
    rfl
  · show (upd (lq_trail u) (lz_len u) x (lz_len u)).toNatClampNeg = _
    rw [pk_us]
theorem lz_put_L {u : SX} {Y N lev D WY WN mv : Int32} {a : Nat} (ha : a < 12) : (∀ c, c ≠ a → lz_L (lz_put u Y N lev D (nI a) WY WN mv) c = lz_L u c) ∧ lz_L (lz_put u Y N lev D (nI a) WY WN mv) a = lev.toNatClampNeg := by
  have e : (nI a).toNatClampNeg = a := nI_clamp (by omega)
  constructor
  · intro c hc
    show (upd (lq_atLevel u) (nI a).toNatClampNeg lev c).toNatClampNeg = _
    rw [e, pk_un hc]
    rfl
  · show (upd (lq_atLevel u) (nI a).toNatClampNeg lev a).toNatClampNeg = _
    rw [e, pk_us]
theorem lz_put_wy {u : SX} {Y N lev D WY WN mv : Int32} {a : Nat} (ha : a < 12) : (∀ c, c ≠ a → lq_whyYes (lz_put u Y N lev D (nI a) WY WN mv) c = lq_whyYes u c) ∧ lq_whyYes (lz_put u Y N lev D (nI a) WY WN mv) a = WY := by
  have e : (nI a).toNatClampNeg = a := nI_clamp (by omega)
  constructor
  · intro c hc
    show upd (lq_whyYes u) (nI a).toNatClampNeg WY c = _
    rw [e, pk_un hc]
  · show upd (lq_whyYes u) (nI a).toNatClampNeg WY a = _
    rw [e, pk_us]
theorem lz_put_wn {u : SX} {Y N lev D WY WN mv : Int32} {a : Nat} (ha : a < 12) : (∀ c, c ≠ a → lq_whyNo (lz_put u Y N lev D (nI a) WY WN mv) c = lq_whyNo u c) ∧ lq_whyNo (lz_put u Y N lev D (nI a) WY WN mv) a = WN := by
  have e : (nI a).toNatClampNeg = a := nI_clamp (by omega)
  constructor
  · intro c hc
    show upd (lq_whyNo u) (nI a).toNatClampNeg WN c = _
    rw [e, pk_un hc]
  · show upd (lq_whyNo u) (nI a).toNatClampNeg WN a = _
    rw [e, pk_us]
theorem lz_put_len {u : SX} {Y N lev D x WY WN mv : Int32} (h : lq_trailLen u = nI (lz_len u)) (hl : lz_len u ≤ 12) : lz_len (lz_put u Y N lev D x WY WN mv) = lz_len u + 1 ∧ lq_trailLen (lz_put u Y N lev D x WY WN mv) = nI (lz_len u + 1) := by
  have e : lq_trailLen (lz_put u Y N lev D x WY WN mv) = nI (lz_len u + 1) := by
    show lq_trailLen u + 1 = _
    rw [h, nI_1]
  refine ⟨?_, e⟩
  show (lq_trailLen (lz_put u Y N lev D x WY WN mv)).toNatClampNeg = _
  rw [e]
  exact nI_clamp (by omega)
/-- a free atom leaves room on the trail -/
theorem lz_room {u : SX} (I : lz_K P BY BN u) {a : Nat} (ha : a < 12) (hY : ¬ bt (lq_yes u) a = true) (hN : ¬ bt (lq_no u) a = true) : lz_len u < 12 := by
  have h3 := I.2.2.2.2.2.2.2.2.1 a
  have hT := I.2.2.2.2.2.2.1
  have hi := I.2.2.2.2.2.2.2.1
  have hne : ∀ t, t < lz_len u → lz_T u t ≠ a := by
    intro t ht e
    rcases h3.mpr ⟨t, ht, e⟩ with h | h
    · exact hY h
    · exact hN h
  have := lz_php 12 (lz_len u + 1) (fun t => if t < lz_len u then lz_T u t else a) (by
    intro t ht
    show (if t < lz_len u then lz_T u t else a) < 12
    by_cases h : t < lz_len u
    · rw [if_pos h]; exact hT t h
    · rw [if_neg h]; exact ha) (by
    intro t t' ht ht' e
    have e2 : (if t < lz_len u then lz_T u t else a) = (if t' < lz_len u then lz_T u t' else a) := e
    by_cases h : t < lz_len u
    · rw [if_pos h] at e2
      by_cases h' : t' < lz_len u
      · rw [if_pos h'] at e2; exact hi t t' h h' e2
      · rw [if_neg h'] at e2; exact absurd e2 (hne t h)
    · rw [if_neg h] at e2
      by_cases h' : t' < lz_len u
      · rw [if_pos h'] at e2; exact absurd e2.symm (hne t' h')
      · omega)
  omega
/-- an implied atom: the invariant lasts -/
theorem lz_put_K {u : SX} (I : lz_K P BY BN u) {a : Nat} {b : Bool} {Y N WY WN mv : Int32} (ha : a < 12)
    (hfY : ¬ bt (lq_yes u) a = true) (hfN : ¬ bt (lq_no u) a = true)
    (hY : ∀ c, bt Y c = true ↔ bt (lq_yes u) c = true ∨ (b = true ∧ c = a))
    (hN : ∀ c, bt N c = true ↔ bt (lq_no u) c = true ∨ (b = false ∧ c = a))
    (hr1 : ∀ c, bt WY c = true → bt (lq_yes u) c = true) (hr2 : ∀ c, bt WN c = true → bt (lq_no u) c = true)
    (hs : ∀ s, P s → lz_ag s WY WN → (b = true → lz_tv s a) ∧ (b = false → ¬ lz_tv s a)) :
    lz_K P BY BN (lz_put u Y N (lq_level u) (lq_decided u) (nI a) WY WN mv) ∧
    lz_len (lz_put u Y N (lq_level u) (lq_decided u) (nI a) WY WN mv) = lz_len u + 1 ∧
    lz_rank (lz_put u Y N (lq_level u) (lq_decided u) (nI a) WY WN mv) = lz_rank u + 2 ^ (12 - lz_len u) := by
  have hroom := lz_room I ha hfY hfN
  obtain ⟨k1, k2, k3, k4, k5, k6, k7⟩ := I
  have e : (nI a).toNatClampNeg = a := nI_clamp (by omega)
  obtain ⟨el, el'⟩ := lz_put_len (Y := Y) (N := N) (lev := lq_level u) (D := lq_decided u) (x := nI a) (WY := WY) (WN := WN) (mv := mv) k1 (by omega)
  obtain ⟨T1, T2⟩ := lz_put_T (u := u) (Y := Y) (N := N) (lev := lq_level u) (D := lq_decided u) (x := nI a) (WY := WY) (WN := WN) (mv := mv)
  obtain ⟨L1, L2⟩ := lz_put_L (u := u) (Y := Y) (N := N) (lev := lq_level u) (D := lq_decided u) (WY := WY) (WN := WN) (mv := mv) ha
  obtain ⟨w1, w2⟩ := lz_put_wy (u := u) (Y := Y) (N := N) (lev := lq_level u) (D := lq_decided u) (WY := WY) (WN := WN) (mv := mv) ha
  obtain ⟨z1, z2⟩ := lz_put_wn (u := u) (Y := Y) (N := N) (lev := lq_level u) (D := lq_decided u) (WY := WY) (WN := WN) (mv := mv) ha
  rw [e] at T2
  have hne : ∀ t, t < lz_len u → lz_T u t ≠ a := by
    intro t ht e
    rcases (k7.2.2.1 a).mpr ⟨t, ht, e⟩ with h | h
    · exact hfY h
    · exact hfN h
  have hD : ¬ bt (lq_decided u) a = true := fun h => hfN (k7.2.2.2.2.2.1 a h)
  have LT : ∀ t, t < lz_len u → lz_L (lz_put u Y N (lq_level u) (lq_decided u) (nI a) WY WN mv) (lz_T (lz_put u Y N (lq_level u) (lq_decided u) (nI a) WY WN mv) t) = lz_L u (lz_T u t) := by
    intro t ht
    rw [T1 t ht]
    exact L1 _ (hne t ht)
  refine ⟨⟨?_, ?_, ?_, ?_, ?_, ?_, ?_⟩, el, ?_⟩
  · rw [el]; exact el'
  · exact k2
  · rw [el]
    intro t ht
    by_cases h : t = lz_len u
    · rw [h, T2]
      show upd (lq_trail u) (lz_len u) (nI a) (lz_len u) = _
      rw [pk_us]
    · rw [T1 t (by omega), ← k3 t (by omega)]
      show upd (lq_trail u) (lz_len u) (nI a) t = _
      rw [pk_un (by omega)]
  · rw [el]
    intro t ht
    by_cases h : t = lz_len u
    · rw [h, T2, L2]
      show upd (lq_atLevel u) (nI a).toNatClampNeg (lq_level u) a = _
      rw [e, pk_us]
      exact k2
    · rw [T1 t (by omega), L1 _ (hne t (by omega)), ← k4 t (by omega)]
      show upd (lq_atLevel u) (nI a).toNatClampNeg (lq_level u) _ = _
      rw [e, pk_un (hne t (by omega))]
  · rw [el]
    intro t ht
    by_cases h : t = lz_len u
    · rw [h, T2, L2]
      exact Nat.le_refl _
    · rw [LT t (by omega)]
      exact k5 t (by omega)
  · rw [el]
    intro l h1 h2
    obtain ⟨t, ht, g1, g2⟩ := k6 l h1 h2
    refine ⟨t, by omega, ?_, ?_⟩
    · rw [T1 t ht]; exact g1
    · rw [LT t ht]; exact g2
  · unfold lz_TIu
    rw [el]
    exact lz_push k7 ha hfY hfN T1 T2 L1 L2 k5 w1 z1 hY hN (by rw [w2]; exact hr1) (by rw [z2]; exact hr2) (by rw [w2, z2]; exact hs)
  · unfold lz_rank
    rw [el, lz_rk_s, T2]
    show _ + (if bt (lq_decided u) a = true then 1 else _) = _
    rw [if_neg hD]
    refine congrArg (fun k => k + 2 ^ (12 - lz_len u)) (lz_rk_congr fun t ht => ⟨T1 t ht, Iff.rfl⟩)
/-! assign and imply -/
theorem lz_assignT {u : SX} (I : lz_K P BY BN u) (hl : lz_len u < 12) {a : Nat} (ha : a < 12) {WY WN : Int32} {post : SX → Prop}
    (h : post (lz_put u (lq_yes u ||| lz_b a) (lq_no u) (lq_level u) (lq_decided u) (nI a) WY WN (lq_moved u))) : wpX_assign post u (nI a) 1 WY WN := by
  have i1 : vp_in (lq_trailLen u) 12 := by rw [I.1]; exact vp_in_nI hl (by decide)
  have i2 : vp_in (nI a) 12 := vp_in_nI ha (by decide)
  exact br_f (by decide) (nm_e (And.intro i1 (nm_e (nm_e (And.intro i2 (nm_e (And.intro i2 (nm_e (And.intro i2 (nm_e h))))))))))
theorem lz_assignF {u : SX} (I : lz_K P BY BN u) (hl : lz_len u < 12) {a : Nat} (ha : a < 12) {WY WN : Int32} {post : SX → Prop}
    (h : post (lz_put u (lq_yes u) (lq_no u ||| lz_b a) (lq_level u) (lq_decided u) (nI a) WY WN (lq_moved u))) : wpX_assign post u (nI a) 0 WY WN := by
  have i1 : vp_in (lq_trailLen u) 12 := by rw [I.1]; exact vp_in_nI hl (by decide)
  have i2 : vp_in (nI a) 12 := vp_in_nI ha (by decide)
  exact br_t rfl (nm_e (And.intro i1 (nm_e (nm_e (And.intro i2 (nm_e (And.intro i2 (nm_e (And.intro i2 (nm_e h))))))))))
theorem lz_clashSt {u : SX} (G : lz_G P BY BN u) {y n : Int32} (h1 : ∀ a, bt y a = true → bt (lq_yes u) a = true) (h2 : ∀ a, bt n a = true → bt (lq_no u) a = true) (hg : lz_ng P y n) : lz_St P BY BN u (lz_setClash u 1 y n) :=
  ⟨rfl, rfl, ⟨G.1, Or.inr ⟨rfl, h1, h2, hg⟩⟩, fun _ h => h, fun _ h => h, Nat.le_refl _, Nat.le_refl _, fun h => ⟨h, rfl, rfl⟩, fun h h' => absurd h h', fun h => absurd (show (1 : Int32) = 0 from h) (by decide)⟩
theorem lz_implyT {u : SX} (G : lz_G P BY BN u) (hc : lq_clash u = 0) (a : Nat) {x WY WN : Int32} (hx : x = nI a) (ha : a < 12)
    (h1 : ∀ c, bt WY c = true → bt (lq_yes u) c = true) (h2 : ∀ c, bt WN c = true → bt (lq_no u) c = true)
    (hs : ∀ s, P s → lz_ag s WY WN → lz_tv s a) {post : SX → Prop}
    (K : ∀ u', lz_St P BY BN u u' → (lq_clash u' = 0 → bt (lq_yes u') a = true) → post u') : wpX_imply post u x 1 WY WN := by
  subst hx
  refine nm_e (br_f (by decide) (lz_br0 a rfl (by omega) (fun hn => ?_) (fun hn => ?_)))
  · refine br_f (by decide) (lz_br0 a rfl (by omega) (fun hy => ?_) (fun hy => ?_))
    · have hy' : ¬ bt (lq_yes u) a = true := fun h => by
        have : bt (lq_yes u ||| lq_no u) a = true := (lz_or _ _ _).mpr (Or.inl h)
        rw [show bt (lq_yes u ||| lq_no u) a = false from hy] at this
        exact absurd this (by decide)
      have hn' : ¬ bt (lq_no u) a = true := fun h => by
        rw [show bt (lq_no u) a = false from hn] at h
        exact absurd h (by decide)
      refine lz_assignT G.1 (lz_room G.1 ha hy' hn') ha ?_
      obtain ⟨p1, p2, p3⟩ := lz_put_K (Y := lq_yes u ||| lz_b a) (N := lq_no u) (mv := 1) G.1 (b := true) ha hy' hn' (fun c => by rw [lz_orb _ (by omega)]; simp) (fun c => by simp) h1 h2 (fun s hP hag => ⟨fun _ => hs s hP hag, fun h => absurd h (by decide)⟩)
      refine K (lz_put u (lq_yes u ||| lz_b a) (lq_no u) (lq_level u) (lq_decided u) (nI a) WY WN 1) ⟨rfl, rfl, ⟨p1, Or.inl hc⟩, fun c h => (lz_orb _ (by omega) c).mpr (Or.inl h), fun _ h => h, by omega, by rw [p3]; exact Nat.le_add_right _ _, fun h => absurd (show (1 : Int32) = 0 from h) (by decide), fun _ _ => by omega, fun _ => hc⟩ (fun _ => (lz_orb _ (by omega) a).mpr (Or.inr rfl))
    · refine K u (lz_St_rf G) (fun _ => ?_)
      rcases (lz_or _ _ _).mp hy with h | h
      · exact h
      · rw [hn] at h
        exact absurd h (by decide)
  · refine K (lz_setClash u 1 WY (WN ||| lz_b a)) (lz_clashSt G h1 ?_ ?_) (fun h => absurd (show (1 : Int32) = 0 from h) (by decide))
    · intro c hc
      rcases (lz_orb _ (by omega) c).mp hc with h | h
      · exact h2 c h
      · rw [h]; exact hn
    · intro s hP hag
      exact hag.2 a ((lz_orb _ (by omega) a).mpr (Or.inr rfl)) (hs s hP ⟨hag.1, fun c hc => hag.2 c ((lz_orb _ (by omega) c).mpr (Or.inl hc))⟩)
theorem lz_implyF {u : SX} (G : lz_G P BY BN u) (hc : lq_clash u = 0) (a : Nat) {x WY WN : Int32} (hx : x = nI a) (ha : a < 12)
    (h1 : ∀ c, bt WY c = true → bt (lq_yes u) c = true) (h2 : ∀ c, bt WN c = true → bt (lq_no u) c = true)
    (hs : ∀ s, P s → lz_ag s WY WN → ¬ lz_tv s a) {post : SX → Prop}
    (K : ∀ u', lz_St P BY BN u u' → (lq_clash u' = 0 → bt (lq_no u') a = true) → post u') : wpX_imply post u x 0 WY WN := by
  subst hx
  refine nm_e (br_t rfl (br_t rfl (lz_br0 a rfl (by omega) (fun hy => ?_) (fun hy => ?_))))
  · refine lz_br0 a rfl (by omega) (fun hn => ?_) (fun hn => ?_)
    · have hy' : ¬ bt (lq_yes u) a = true := fun h => by
        rw [show bt (lq_yes u) a = false from hy] at h
        exact absurd h (by decide)
      have hn' : ¬ bt (lq_no u) a = true := fun h => by
        have : bt (lq_yes u ||| lq_no u) a = true := (lz_or _ _ _).mpr (Or.inr h)
        rw [show bt (lq_yes u ||| lq_no u) a = false from hn] at this
        exact absurd this (by decide)
      refine lz_assignF G.1 (lz_room G.1 ha hy' hn') ha ?_
      obtain ⟨p1, p2, p3⟩ := lz_put_K (Y := lq_yes u) (N := lq_no u ||| lz_b a) (mv := 1) G.1 (b := false) ha hy' hn' (fun c => by simp) (fun c => by rw [lz_orb _ (by omega)]; simp) h1 h2 (fun s hP hag => ⟨fun h => absurd h (by decide), fun _ => hs s hP hag⟩)
      refine K (lz_put u (lq_yes u) (lq_no u ||| lz_b a) (lq_level u) (lq_decided u) (nI a) WY WN 1) ⟨rfl, rfl, ⟨p1, Or.inl hc⟩, fun _ h => h, fun c h => (lz_orb _ (by omega) c).mpr (Or.inl h), by omega, by rw [p3]; exact Nat.le_add_right _ _, fun h => absurd (show (1 : Int32) = 0 from h) (by decide), fun _ _ => by omega, fun _ => hc⟩ (fun _ => (lz_orb _ (by omega) a).mpr (Or.inr rfl))
    · refine K u (lz_St_rf G) (fun _ => ?_)
      rcases (lz_or _ _ _).mp hn with h | h
      · rw [hy] at h
        exact absurd h (by decide)
      · exact h
  · refine K (lz_setClash u 1 (WY ||| lz_b a) WN) (lz_clashSt G ?_ h2 ?_) (fun h => absurd (show (1 : Int32) = 0 from h) (by decide))
    · intro c hc
      rcases (lz_orb _ (by omega) c).mp hc with h | h
      · exact h1 c h
      · rw [h]; exact hy
    · intro s hP hag
      exact hs s hP ⟨fun c hc => hag.1 c ((lz_orb _ (by omega) c).mpr (Or.inl hc)), hag.2⟩ (hag.1 a ((lz_orb _ (by omega) a).mpr (Or.inr rfl)))
end
end
section
/-! bounds by atoms; lone, chain, clause -/
def lz_low (Y : Int32) (i : Nat) : Nat → Nat
  | 0 => 0
  | k + 1 => if bt Y (3 * i + k) = true then k + 1 else lz_low Y i k
def lz_high (N : Int32) (i : Nat) : Nat → Nat
  | 0 => 3
  | k + 1 => if bt N (3 * i + (2 - k)) = true then 2 - k else lz_high N i k
def lz_lo (Y : Int32) (i : Nat) : Nat := if bt Y (3 * i + 2) = true then 3 else if bt Y (3 * i + 1) = true then 2 else if bt Y (3 * i) = true then 1 else 0
def lz_hi (N : Int32) (i : Nat) : Nat := if bt N (3 * i) = true then 0 else if bt N (3 * i + 1) = true then 1 else if bt N (3 * i + 2) = true then 2 else 3
theorem lz_lo3 (Y : Int32) (i : Nat) : lz_low Y i 3 = lz_lo Y i := rfl
theorem lz_hi3 (N : Int32) (i : Nat) : lz_high N i 3 = lz_hi N i := rfl
theorem lz_lo_le (Y : Int32) (i : Nat) : lz_lo Y i ≤ 3 := by
  unfold lz_lo
  split
  · omega
  · split
    · omega
    · split <;> omega
theorem lz_hi_le (N : Int32) (i : Nat) : lz_hi N i ≤ 3 := by
  unfold lz_hi
  split
  · omega
  · split
    · omega
    · split <;> omega
theorem lz_lo_bt {Y : Int32} {i : Nat} (h : ¬ lz_lo Y i = 0) : bt Y (3 * i + lz_lo Y i - 1) = true := by
  unfold lz_lo at h ⊢
  by_cases h2 : bt Y (3 * i + 2) = true
  · rw [if_pos h2]; exact h2
  · rw [if_neg h2] at h ⊢
    by_cases h1 : bt Y (3 * i + 1) = true
    · rw [if_pos h1]; exact h1
    · rw [if_neg h1] at h ⊢
      by_cases h0 : bt Y (3 * i) = true
      · rw [if_pos h0]; exact h0
      · rw [if_neg h0] at h; exact absurd rfl h
theorem lz_hi_bt {N : Int32} {i : Nat} (h : ¬ lz_hi N i = 3) : bt N (3 * i + lz_hi N i) = true := by
  unfold lz_hi at h ⊢
  by_cases h0 : bt N (3 * i) = true
  · rw [if_pos h0]; exact h0
  · rw [if_neg h0] at h ⊢
    by_cases h1 : bt N (3 * i + 1) = true
    · rw [if_pos h1]; exact h1
    · rw [if_neg h1] at h ⊢
      by_cases h2 : bt N (3 * i + 2) = true
      · rw [if_pos h2]; exact h2
      · rw [if_neg h2] at h; exact absurd rfl h
theorem lz_lo_mono {Y Y' : Int32} (h : ∀ a, bt Y a = true → bt Y' a = true) (i : Nat) : lz_lo Y i ≤ lz_lo Y' i := by
  have h0 := h (3 * i)
  have h1 := h (3 * i + 1)
  have h2 := h (3 * i + 2)
  unfold lz_lo
  clear h
  revert h0 h1 h2
  generalize bt Y (3 * i) = a0
  generalize bt Y (3 * i + 1) = a1
  generalize bt Y (3 * i + 2) = a2
  generalize bt Y' (3 * i) = b0
  generalize bt Y' (3 * i + 1) = b1
  generalize bt Y' (3 * i + 2) = b2
  revert a0 a1 a2 b0 b1 b2
  decide
theorem lz_hi_anti {N N' : Int32} (h : ∀ a, bt N a = true → bt N' a = true) (i : Nat) : lz_hi N' i ≤ lz_hi N i := by
  have h0 := h (3 * i)
  have h1 := h (3 * i + 1)
  have h2 := h (3 * i + 2)
  unfold lz_hi
  clear h
  revert h0 h1 h2
  generalize bt N (3 * i) = a0
  generalize bt N (3 * i + 1) = a1
  generalize bt N (3 * i + 2) = a2
  generalize bt N' (3 * i) = b0
  generalize bt N' (3 * i + 1) = b1
  generalize bt N' (3 * i + 2) = b2
  revert a0 a1 a2 b0 b1 b2
  decide
def lz_loA (Y : Int32) (i : Nat) : Int32 := if lz_lo Y i = 0 then 0 else lz_b (3 * i + lz_lo Y i - 1)
def lz_hiA (N : Int32) (i : Nat) : Int32 := if lz_hi N i = 3 then 0 else lz_b (3 * i + lz_hi N i)
theorem lz_loA_bt {Y : Int32} {i c : Nat} (hi : i < 4) (h : bt (lz_loA Y i) c = true) : bt Y c = true ∧ c / 3 = i := by
  unfold lz_loA at h
  by_cases e : lz_lo Y i = 0
  · rw [if_pos e] at h; exact absurd h (lz_0 c)
  · rw [if_neg e] at h
    have := lz_lo_le Y i
    rw [lz_bi (by omega)] at h
    rw [h]
    exact ⟨lz_lo_bt e, by omega⟩
theorem lz_hiA_bt {N : Int32} {i c : Nat} (hi : i < 4) (h : bt (lz_hiA N i) c = true) : bt N c = true ∧ c / 3 = i := by
  unfold lz_hiA at h
  by_cases e : lz_hi N i = 3
  · rw [if_pos e] at h; exact absurd h (lz_0 c)
  · rw [if_neg e] at h
    have := lz_hi_le N i
    rw [lz_bi (by omega)] at h
    rw [h]
    exact ⟨lz_hi_bt e, by omega⟩
theorem lz_loA_s {Y : Int32} {i : Nat} {s : Nat → Nat} (hi : i < 4) (h : ∀ c, bt (lz_loA Y i) c = true → lz_tv s c) : lz_lo Y i ≤ s i := by
  by_cases e : lz_lo Y i = 0
  · omega
  · have hl := lz_lo_le Y i
    have := h (3 * i + lz_lo Y i - 1) (by unfold lz_loA; rw [if_neg e, lz_bi (by omega)])
    unfold lz_tv at this
    rw [show (3 * i + lz_lo Y i - 1) / 3 = i from by omega] at this
    omega
theorem lz_hiA_s {N : Int32} {i : Nat} {s : Nat → Nat} (hi : i < 4) (h3 : s i ≤ 3) (h : ∀ c, bt (lz_hiA N i) c = true → ¬ lz_tv s c) : s i ≤ lz_hi N i := by
  by_cases e : lz_hi N i = 3
  · omega
  · have hl := lz_hi_le N i
    have := h (3 * i + lz_hi N i) (by unfold lz_hiA; rw [if_neg e, lz_bi (by omega)])
    unfold lz_tv at this
    rw [show (3 * i + lz_hi N i) / 3 = i from by omega] at this
    omega
/-! low, high, lowAtom, highAtom -/
theorem lz_low_l {u : SX} {i : Nat} (hi : i < 4) {post : Int32 → Prop} (hp : post (nI (lz_lo (lq_yes u) i))) : ∀ n v, 1 ≤ v → v ≤ 4 → 4 < n + v → lq_U (wX_low_4 post (nI i)) u n (nI (lz_low (lq_yes u) i (v - 1))) (nI v) := by
  intro n
  induction n with
  | zero => intro v h1 h2 h3; omega
  | succ n ih =>
    intro v h1 h2 h3
    refine pk_lt 3 v (fun h => ?_) (fun h => ?_)
    · have e : v = 4 := by omega
      subst e
      exact hp
    · have hv := ih (v + 1) (by omega) (by omega) (by omega)
      have e : lz_low (lq_yes u) i (v + 1 - 1) = if bt (lq_yes u) (3 * i + (v - 1)) = true then v else lz_low (lq_yes u) i (v - 1) := by
        obtain ⟨k, rfl⟩ : ∃ k, v = k + 1 := ⟨v - 1, by omega⟩
        rfl
      have e3 : 3 * i + v - 1 = 3 * i + (v - 1) := by omega
      refine lz_brb (3 * i + v - 1) (lz_ix1 h1) (by omega) (fun hb => nm_r (nI_1 v) ?_) (fun hb => nm_r (nI_1 v) ?_)
      · have hb' : bt (lq_yes u) (3 * i + v - 1) = true := hb
        rw [e, ← e3, if_pos hb'] at hv
        exact hv
      · have hb' : ¬ bt (lq_yes u) (3 * i + v - 1) = true := lz_ff.mp hb
        rw [e, ← e3, if_neg hb'] at hv
        exact hv
theorem lz_low_w {u : SX} {x : Int32} (i : Nat) (hx : x = nI i) (hi : i < 4) {post : Int32 → Prop} (hp : post (nI (lz_lo (lq_yes u) i))) : wpX_low post u x := by
  subst hx
  exact Exists.intro 4 (lz_low_l hi hp 4 1 (by omega) (by omega) (by omega))
theorem lz_high_l {u : SX} {i : Nat} (hi : i < 4) {post : Int32 → Prop} (hp : post (nI (lz_hi (lq_no u) i))) : ∀ n v, v ≤ 3 → v < n → lq_U (wX_high_4 post (nI i)) u n (nI (lz_high (lq_no u) i (3 - v))) (nI v) := by
  intro n
  induction n with
  | zero => intro v h1 h2; omega
  | succ n ih =>
    intro v h1 h2
    refine pk_lt v 1 (fun h => ?_) (fun h => ?_)
    · have e : v = 0 := by omega
      subst e
      exact hp
    · have hv := ih (v - 1) (by omega) (by omega)
      have e : lz_high (lq_no u) i (3 - (v - 1)) = if bt (lq_no u) (3 * i + (2 - (3 - v))) = true then 2 - (3 - v) else lz_high (lq_no u) i (3 - v) := by
        rw [show 3 - (v - 1) = (3 - v) + 1 from by omega]
        rfl
      have e3 : 3 * i + (2 - (3 - v)) = 3 * i + v - 1 := by omega
      have e4 : 2 - (3 - v) = v - 1 := by omega
      rw [e3, e4] at e
      refine lz_brb (3 * i + v - 1) (lz_ix1 h) (by omega) (fun hb => nm_r (lz_dn1 h) (nm_r (lz_dn h) ?_)) (fun hb => nm_r (lz_dn h) ?_)
      · have hb' : bt (lq_no u) (3 * i + v - 1) = true := hb
        rw [e, if_pos hb'] at hv
        exact hv
      · have hb' : ¬ bt (lq_no u) (3 * i + v - 1) = true := lz_ff.mp hb
        rw [e, if_neg hb'] at hv
        exact hv
theorem lz_high_w {u : SX} {x : Int32} (i : Nat) (hx : x = nI i) (hi : i < 4) {post : Int32 → Prop} (hp : post (nI (lz_hi (lq_no u) i))) : wpX_high post u x := by
  subst hx
  exact Exists.intro 4 (lz_high_l hi hp 4 3 (by omega) (by omega))
theorem lz_lowAtom_w {u : SX} {x : Int32} (i : Nat) (hx : x = nI i) (hi : i < 4) {post : Int32 → Prop} (hp : post (lz_loA (lq_yes u) i)) : wpX_lowAtom post u x := by
  refine lz_low_w i hx hi ?_
  subst hx
  have hl := lz_lo_le (lq_yes u) i
  refine pk_eq (lz_lo (lq_yes u) i) 0 (fun h => ?_) (fun h => ?_)
  · unfold lz_loA at hp; rw [if_pos h] at hp; exact hp
  · unfold lz_loA at hp; rw [if_neg h] at hp
    rw [lz_ix1 (by omega)]
    exact hp
theorem lz_highAtom_w {u : SX} {x : Int32} (i : Nat) (hx : x = nI i) (hi : i < 4) {post : Int32 → Prop} (hp : post (lz_hiA (lq_no u) i)) : wpX_highAtom post u x := by
  refine lz_high_w i hx hi ?_
  subst hx
  have hl := lz_hi_le (lq_no u) i
  refine pk_eq (lz_hi (lq_no u) i) 3 (fun h => ?_) (fun h => ?_)
  · unfold lz_hiA at hp; rw [if_pos h] at hp; exact hp
  · unfold lz_hiA at hp; rw [if_neg h] at hp
    rw [lz_ix0]
    exact hp
theorem lz_lone_l {u : SX} {x : Int32} {post : Int32 → Prop} (h0 : ∀ a, a < 12 → x = lz_b a → post (nI a)) (h1 : post (-1)) : ∀ n a, a ≤ 12 → 12 < n + a → lq_U (wX_lone_2 post x) u n (nI a) := by
  intro n
  induction n with
  | zero => intro a h2 h3; omega
  | succ n ih =>
    intro a h2 h3
    refine pk_le 12 a (fun h => h1) (fun h => br_c (fun he => h0 a h he) (fun he => nm_r (nI_1 a) (ih (a + 1) (by omega) (by omega))))
theorem lz_lone_w {u : SX} {x : Int32} {post : Int32 → Prop} (h0 : ∀ a, a < 12 → x = lz_b a → post (nI a)) (h1 : post (-1)) : wpX_lone post u x :=
  Exists.intro 13 (lz_lone_l h0 h1 13 0 (by omega) (by omega))
/-- what stands at the end of a round if nothing moved and nothing clashed -/
def lz_Dn (u : SX) (Q : Int32 → Int32 → Prop) : Prop := lq_clash u = 0 → lq_moved u = 0 → Q (lq_yes u) (lq_no u)
def lz_clY (Y : Int32) (i w : Nat) : Prop := bt Y (3 * i + w - 1) = true → bt Y (3 * i + w - 2) = true
def lz_clN (N : Int32) (i w : Nat) : Prop := bt N (3 * i + w - 1) = true → bt N (3 * i + w) = true
def lz_cl1 (Y N : Int32) (i : Nat) : Prop := (∀ w, 1 < w → w < 4 → lz_clY Y i w) ∧ (∀ w, 1 ≤ w → w < 3 → lz_clN N i w)
section
variable {P : (Nat → Nat) → Prop} {BY BN : Int32}
theorem lz_Dn_tr {u u' : SX} (S : lz_St P BY BN u u') {Q : Int32 → Int32 → Prop} (h : lz_Dn u Q) : lz_Dn u' Q := by
  intro hc hm
  obtain ⟨e1, e2, e3⟩ := S.2.2.2.2.2.2.2.1 hm
  rw [e2, e3]
  exact h (S.2.2.2.2.2.2.2.2.2 hc) e1
theorem lz_Dn_c {u : SX} {Q : Int32 → Int32 → Prop} (h : ¬ lq_clash u = 0) : lz_Dn u Q := fun hc => absurd hc h
theorem lz_Dn_i {u : SX} {Q R : Int32 → Int32 → Prop} (h : lz_Dn u Q) (f : ∀ Y N, Q Y N → R Y N) : lz_Dn u R := fun hc hm => f _ _ (h hc hm)
theorem lz_chain61 {i : Nat} (hi : i < 4) {post : SX → Prop} {J2 : lq_J1} {u0 : SX} {Q : Int32 → Int32 → Prop}
    (K : ∀ u', lz_St P BY BN u0 u' → lz_Dn u' (fun Y N => Q Y N ∧ ∀ w, 1 ≤ w → w < 3 → lz_clN N i w) → lq_U (J2 (nI (i + 1))) u') :
    ∀ (n v : Nat) (u : SX), 1 ≤ v → v ≤ 3 → 3 < n + v → lz_St P BY BN u0 u → lz_Dn u (fun Y N => Q Y N ∧ ∀ w, 1 ≤ w → w < v → lz_clN N i w) → lq_U (wX_chain_61 post J2 (nI i) n (nI v)) u := by
  intro n
  induction n with
  | zero => intro v u h1 h2 h3; omega
  | succ n ih =>
    intro v u h1 h2 h3 S D
    refine pk_le 3 v (fun h => ?_) (fun h => ?_)
    · have e : v = 3 := by omega
      subst e
      exact nm_r (nI_1 i) (K u S D)
    · refine br_c (fun hc => ?_) (fun hc => ?_)
      · refine nm_r (lz_ix1 h1) (lz_brb (3 * i + v - 1) rfl (by omega) (fun hb => ?_) (fun hb => ?_))
        · refine lz_implyF S.2.2.1 hc (3 * i + v) (by rw [nI_1]; exact congrArg nI (by omega)) (by omega) (fun c h => absurd h (lz_0 c)) (fun c h => ?_) (fun s hP hag => ?_) (fun u' S' hn => ?_)
          · rw [(lz_bi (by omega) c).mp h]; exact hb
          · have := hag.2 (3 * i + v - 1) ((lz_bi (by omega) _).mpr rfl)
            unfold lz_tv at this ⊢
            rw [show (3 * i + v - 1) / 3 = i from by omega] at this
            rw [show (3 * i + v) / 3 = i from by omega]
            omega
          · refine nm_r (nI_1 v) (ih (v + 1) u' (by omega) (by omega) (by omega) (lz_St_tr S S') ?_)
            intro hc' hm'
            have hD := lz_Dn_tr S' D hc' hm'
            refine ⟨hD.1, fun w h1 h2 => ?_⟩
            by_cases e : w = v
            · rw [e]; exact fun _ => hn hc'
            · exact hD.2 w h1 (by omega)
        · refine nm_r (nI_1 v) (ih (v + 1) u (by omega) (by omega) (by omega) S ?_)
          intro hc' hm'
          have hD := D hc' hm'
          refine ⟨hD.1, fun w h1 h2 => ?_⟩
          by_cases e : w = v
          · rw [e]; exact fun h => absurd h (lz_ff.mp hb)
          · exact hD.2 w h1 (by omega)
      · exact nm_r (nI_1 i) (K u S (lz_Dn_c hc))
theorem lz_chain9 {i : Nat} (hi : i < 4) {post : SX → Prop} {J2 : lq_J1} {u0 : SX} {Q : Int32 → Int32 → Prop}
    (K : ∀ u', lz_St P BY BN u0 u' → lz_Dn u' (fun Y N => Q Y N ∧ lz_cl1 Y N i) → lq_U (J2 (nI (i + 1))) u') :
    ∀ (n v : Nat) (u : SX), 1 ≤ v → v ≤ 3 → v < n + 1 → lz_St P BY BN u0 u → lz_Dn u (fun Y N => Q Y N ∧ ∀ w, v < w → w < 4 → lz_clY Y i w) → lq_U (wX_chain_9 post J2 (nI i) n (nI v)) u := by
  have K1 : ∀ u, lz_St P BY BN u0 u → lz_Dn u (fun Y N => Q Y N ∧ ∀ w, 1 < w → w < 4 → lz_clY Y i w) → ∃ n61 : Nat, lq_U (wX_chain_61 post J2 (nI i) n61 1) u := by
    intro u S D
    refine Exists.intro 3 (lz_chain61 (Q := fun Y N => Q Y N ∧ ∀ w, 1 < w → w < 4 → lz_clY Y i w) hi (fun u' S' D' => K u' S' (lz_Dn_i D' (fun Y N h => ⟨h.1.1, h.1.2, h.2⟩))) 3 1 u (by omega) (by omega) (by omega) S (lz_Dn_i D (fun Y N h => ⟨h, fun w h1 h2 => by omega⟩)))
  intro n
  induction n with
  | zero => intro v u h1 h2 h3; omega
  | succ n ih =>
    intro v u h1 h2 h3 S D
    refine pk_le v 1 (fun h => ?_) (fun h => ?_)
    · have e : v = 1 := by omega
      subst e
      exact K1 u S D
    · refine br_c (fun hc => ?_) (fun hc => ?_)
      · refine nm_r (lz_ix1 h1) (lz_brb (3 * i + v - 1) rfl (by omega) (fun hb => ?_) (fun hb => ?_))
        · refine lz_implyT S.2.2.1 hc (3 * i + v - 2) (by rw [lz_dn1 (by omega)]; exact congrArg nI (by omega)) (by omega) (fun c h => ?_) (fun c h => absurd h (lz_0 c)) (fun s hP hag => ?_) (fun u' S' hn => ?_)
          · rw [(lz_bi (by omega) c).mp h]; exact hb
          · have := hag.1 (3 * i + v - 1) ((lz_bi (by omega) _).mpr rfl)
            unfold lz_tv at this ⊢
            rw [show (3 * i + v - 1) / 3 = i from by omega] at this
            rw [show (3 * i + v - 2) / 3 = i from by omega]
            omega
          · refine nm_r (lz_dn (by omega)) (ih (v - 1) u' (by omega) (by omega) (by omega) (lz_St_tr S S') ?_)
            intro hc' hm'
            have hD := lz_Dn_tr S' D hc' hm'
            refine ⟨hD.1, fun w h1 h2 => ?_⟩
            by_cases e : w = v
            · rw [e]; exact fun _ => hn hc'
            · exact hD.2 w (by omega) h2
        · refine nm_r (lz_dn (by omega)) (ih (v - 1) u (by omega) (by omega) (by omega) S ?_)
          intro hc' hm'
          have hD := D hc' hm'
          refine ⟨hD.1, fun w h1 h2 => ?_⟩
          by_cases e : w = v
          · rw [e]; exact fun h => absurd h (lz_ff.mp hb)
          · exact hD.2 w (by omega) h2
      · exact K1 u S (lz_Dn_c hc)
theorem lz_chain2 {post : SX → Prop} {u0 : SX}
    (K : ∀ u', lz_St P BY BN u0 u' → lz_Dn u' (fun Y N => ∀ i, i < 4 → lz_cl1 Y N i) → post u') :
    ∀ (n i : Nat) (u : SX), i ≤ 4 → 4 < n + i → lz_St P BY BN u0 u → lz_Dn u (fun Y N => ∀ j, j < i → lz_cl1 Y N j) → lq_U (wX_chain_2 post n (nI i)) u := by
  intro n
  induction n with
  | zero => intro i u h1 h2; omega
  | succ n ih =>
    intro i u h1 h2 S D
    refine pk_le 4 i (fun h => ?_) (fun h => ?_)
    · have e : i = 4 := by omega
      subst e
      exact K u S D
    · refine Exists.intro 3 (lz_chain9 (Q := fun Y N => ∀ j, j < i → lz_cl1 Y N j) h (fun u' S' D' => ?_) 3 3 u (by omega) (by omega) (by omega) S (lz_Dn_i D (fun Y N h => ⟨h, fun w h1 h2 => by omega⟩)))
      refine ih (i + 1) u' (by omega) (by omega) S' (lz_Dn_i D' (fun Y N h j hj => ?_))
      by_cases e : j = i
      · rw [e]; exact h.2
      · exact h.1 j (by omega)
theorem lz_chain_w {u : SX} (G : lz_G P BY BN u) {post : SX → Prop}
    (K : ∀ u', lz_St P BY BN u u' → lz_Dn u' (fun Y N => ∀ i, i < 4 → lz_cl1 Y N i) → post u') : wpX_chain post u :=
  Exists.intro 5 (lz_chain2 K 5 0 u (by omega) (by omega) (lz_St_rf G) (fun _ _ j hj => absurd hj (Nat.not_lt_zero j)))
/-! clause -/
def lz_cd (Y N MY MN : Int32) : Prop := ¬ ((∀ a, bt MY a = true → bt N a = true) ∧ (∀ a, bt MN a = true → bt Y a = true))
theorem lz_dis {u : SX} (G : lz_G P BY BN u) {a : Nat} (h : bt (lq_yes u) a = true) : ¬ bt (lq_no u) a = true := G.1.2.2.2.2.2.2.2.2.2.1 a h
theorem lz_clause56 {u : SX} (G : lz_G P BY BN u) (hc : lq_clash u = 0) {MY MN OY ON : Int32} (hg : lz_ng P MN MY)
    (hOY : OY = MY &&& (lq_no u ^^^ (-1))) (hON : ON = MN &&& (lq_yes u ^^^ (-1)))
    (hcd : lz_cd (lq_yes u) (lq_no u) MY MN) {post : SX → Prop}
    (K : ∀ u', lz_St P BY BN u u' → lz_Dn u' (fun Y N => lz_cd Y N MY MN) → post u') : lq_U (wX_clause_56 post MY MN OY ON) u := by
  have K' : ∀ u', lz_St P BY BN u u' → post u' := fun u' S => K u' S (lz_Dn_tr S (fun _ _ => hcd))
  have bOY : ∀ a, bt OY a = true ↔ bt MY a = true ∧ bt (lq_no u) a = false := by intro a; rw [hOY, lz_and']
  have bON : ∀ a, bt ON a = true ↔ bt MN a = true ∧ bt (lq_yes u) a = false := by intro a; rw [hON, lz_and']
  refine br_c (fun z => ?_) (fun _ => br_c (fun z => ?_) (fun _ => K' u (lz_St_rf G)))
  · have hMN : ∀ a, bt MN a = true → bt (lq_yes u) a = true := by
      intro a ha
      cases hb : bt (lq_yes u) a with
      | true => rfl
      | false => exact absurd ((bON a).mpr ⟨ha, hb⟩) (by rw [z]; exact lz_0 a)
    refine lz_lone_w (fun a ha e => ?_) ?_
    · refine br_f (nI_pos (by omega)) ?_
      refine lz_implyT G hc a rfl ha hMN (fun c h => ?_) (fun s hP hag => ?_) (fun u' S' _ => K' u' S')
      · rw [lz_and'] at h
        cases hb : bt (lq_no u) c with
        | true => rfl
        | false => exact absurd ((bOY c).mpr ⟨h.1, hb⟩) (lz_ff.mp h.2)
      · refine Classical.byContradiction fun hn => hg s hP ⟨hag.1, fun c h => ?_⟩
        by_cases ec : c = a
        · rw [ec]; exact hn
        · refine hag.2 c ?_
          rw [lz_and']
          refine ⟨h, lz_ff.mpr fun h' => ?_⟩
          rw [e, lz_bi (by omega)] at h'
          exact ec h'
    · exact br_t (by decide) (K' u (lz_St_rf G))
  · have hMY : ∀ a, bt MY a = true → bt (lq_no u) a = true := by
      intro a ha
      cases hb : bt (lq_no u) a with
      | true => rfl
      | false => exact absurd ((bOY a).mpr ⟨ha, hb⟩) (by rw [z]; exact lz_0 a)
    refine lz_lone_w (fun a ha e => ?_) ?_
    · refine br_f (nI_pos (by omega)) ?_
      refine lz_implyF G hc a rfl ha (fun c h => ?_) hMY (fun s hP hag => ?_) (fun u' S' _ => K' u' S')
      · rw [lz_and'] at h
        cases hb : bt (lq_yes u) c with
        | true => rfl
        | false => exact absurd ((bON c).mpr ⟨h.1, hb⟩) (lz_ff.mp h.2)
      · intro ht
        refine hg s hP ⟨fun c h => ?_, hag.2⟩
        by_cases ec : c = a
        · rw [ec]; exact ht
        · refine hag.1 c ?_
          rw [lz_and']
          refine ⟨h, lz_ff.mpr fun h' => ?_⟩
          rw [e, lz_bi (by omega)] at h'
          exact ec h'
    · exact br_t (by decide) (K' u (lz_St_rf G))
theorem lz_clause_w {u : SX} (G : lz_G P BY BN u) (hc : lq_clash u = 0) {MY MN : Int32} (hg : lz_ng P MN MY) {post : SX → Prop}
    (K : ∀ u', lz_St P BY BN u u' → lz_Dn u' (fun Y N => lz_cd Y N MY MN) → post u') : wpX_clause post u MY MN := by
  refine br_c (fun z1 => br_c (fun z2 => ?_) (fun z2 => ?_)) (fun z1 => ?_)
  · refine nm_e (nm_e (br_c (fun z3 => br_c (fun z4 => ?_) (fun z4 => ?_)) (fun z3 => ?_)))
    · have h1 : ∀ a, bt MN a = true → bt (lq_yes u) a = true := by
        intro a ha
        cases hb : bt (lq_yes u) a with
        | true => rfl
        | false => exact absurd ((lz_and' MN (lq_yes u) a).mpr ⟨ha, hb⟩) (by rw [show MN &&& (lq_yes u ^^^ (-1)) = 0 from z4]; exact lz_0 a)
      have h2 : ∀ a, bt MY a = true → bt (lq_no u) a = true := by
        intro a ha
        cases hb : bt (lq_no u) a with
        | true => rfl
        | false => exact absurd ((lz_and' MY (lq_no u) a).mpr ⟨ha, hb⟩) (by rw [show MY &&& (lq_no u ^^^ (-1)) = 0 from z3]; exact lz_0 a)
      exact K (lz_setClash u 1 MN MY) (lz_clashSt G h1 h2 hg) (lz_Dn_c (show ¬ (1 : Int32) = 0 from by decide))
    · refine lz_clause56 G hc hg rfl rfl (fun h => ?_) K
      obtain ⟨a, _, ha⟩ := lz_nz z4
      have ha' := (lz_and' MN (lq_yes u) a).mp ha
      exact lz_ff.mp ha'.2 (h.2 a ha'.1)
    · refine lz_clause56 G hc hg rfl rfl (fun h => ?_) K
      obtain ⟨a, _, ha⟩ := lz_nz z3
      have ha' := (lz_and' MY (lq_no u) a).mp ha
      exact lz_ff.mp ha'.2 (h.1 a ha'.1)
  · refine K u (lz_St_rf G) (fun _ _ h => ?_)
    obtain ⟨a, _, ha⟩ := lz_nz z2
    have ha' := (lz_and MN (lq_no u) a).mp ha
    exact lz_dis G (h.2 a ha'.1) ha'.2
  · refine K u (lz_St_rf G) (fun _ _ h => ?_)
    obtain ⟨a, _, ha⟩ := lz_nz z1
    have ha' := (lz_and MY (lq_yes u) a).mp ha
    exact lz_dis G ha'.2 (h.1 a ha'.1)
end
end
section
/-! linear constraints -/
def lz_ok (u : SX) : Prop :=
  (∀ j, j < 44 → -5 ≤ (lq_coef u j).toInt ∧ (lq_coef u j).toInt ≤ 5) ∧
  (∀ c, c < 11 → -100 ≤ (lq_bound u c).toInt ∧ (lq_bound u c).toInt ≤ 99) ∧
  (∀ c, c < 11 → ¬ lq_kind u c = 0 → ¬ lq_kind u c = 1 → lq_always u c = 0 → (∃ a, a < 12 ∧ lq_eitherYes u c = lz_b a) ∧ (∃ b, b < 12 ∧ lq_eitherNo u c = lz_b b))
theorem lz_ok_st {u u' : SX} (h : lq_st u' = lq_st u) (k : lz_ok u) : lz_ok u' := by
  unfold lz_ok
  rw [lq_st_coef h, lq_st_bound h, lq_st_kind h, lq_st_always h, lq_st_eitherYes h, lq_st_eitherNo h]
  exact k
def lz_cf (u : SX) (c i : Nat) : Int := (lq_coef u (4 * c + i)).toInt
def lz_bd (u : SX) (c : Nat) : Int := (lq_bound u c).toInt
def lz_vl (a : Int) (Y N : Int32) (i : Nat) : Nat := if a ≤ 0 then lz_hi N i else lz_lo Y i
def lz_tm (u : SX) (c : Nat) (Y N : Int32) (i : Nat) : Int := lz_cf u c i * (lz_vl (lz_cf u c i) Y N i : Int)
def lz_ps (f : Nat → Int) : Nat → Int
  | 0 => 0
  | n + 1 => lz_ps f n + f n
theorem lz_ps4 (f : Nat → Int) : lz_ps f 4 = f 0 + f 1 + f 2 + f 3 := by
  show 0 + f 0 + f 1 + f 2 + f 3 = _
  rw [Int.zero_add]
theorem lz_vl_le (a : Int) (Y N : Int32) (i : Nat) : lz_vl a Y N i ≤ 3 := by
  unfold lz_vl
  have := lz_hi_le N i
  have := lz_lo_le Y i
  split <;> omega
theorem lz_tb {a : Int} {k : Nat} (h1 : -5 ≤ a) (h2 : a ≤ 5) (hk : k ≤ 3) : -15 ≤ a * (k : Int) ∧ a * (k : Int) ≤ 15 := by
  have h : k = 0 ∨ k = 1 ∨ k = 2 ∨ k = 3 := by omega
  rcases h with rfl | rfl | rfl | rfl <;> omega
theorem lz_lt_of {a r : Int} {x v : Nat} (ha : 0 < a) (h1 : a * (x : Int) ≤ r) (h2 : r < a * (v : Int)) : x < v := by
  refine Nat.lt_of_not_le fun h => ?_
  have := Int.mul_le_mul_of_nonneg_left (a := (v : Int)) (b := (x : Int)) (c := a) (by omega) (by omega)
  omega
theorem lz_gt_of {a r : Int} {x w : Nat} (ha : a < 0) (h1 : a * (x : Int) ≤ r) (h2 : r < a * (w : Int)) : w < x := by
  refine Nat.lt_of_not_le fun h => ?_
  have := Int.mul_le_mul_of_nonpos_left (a := a) (b := (w : Int)) (c := (x : Int)) (by omega) (by omega)
  omega
theorem lz_tm_le {a : Int} {Y N : Int32} {i x : Nat} (h1 : 0 < a → lz_lo Y i ≤ x) (h2 : a < 0 → x ≤ lz_hi N i) : a * (lz_vl a Y N i : Int) ≤ a * (x : Int) := by
  unfold lz_vl
  by_cases h : a ≤ 0
  · rw [if_pos h]
    by_cases h0 : a = 0
    · rw [h0, Int.zero_mul, Int.zero_mul]; exact Int.le_refl _
    · have := h2 (by omega)
      exact Int.mul_le_mul_of_nonpos_left h (by omega)
  · rw [if_neg h]
    have := h1 (by omega)
    exact Int.mul_le_mul_of_nonneg_left (by omega) (by omega)
theorem lz_tm_mono {a : Int} {Y N Y' N' : Int32} (hY : ∀ c, bt Y c = true → bt Y' c = true) (hN : ∀ c, bt N c = true → bt N' c = true) (i : Nat) : a * (lz_vl a Y N i : Int) ≤ a * (lz_vl a Y' N' i : Int) := by
  refine lz_tm_le (fun h => ?_) (fun h => ?_)
  · unfold lz_vl
    rw [if_neg (by omega)]
    exact lz_lo_mono hY i
  · unfold lz_vl
    rw [if_pos (by omega)]
    exact lz_hi_anti hN i
theorem lz_leastTerm_w {u : SX} (ok : lz_ok u) {c i : Nat} (hc : c < 11) (hi : i < 4) {post : Int32 → Prop} (h : ∀ r : Int32, r.toInt = lz_tm u c (lq_yes u) (lq_no u) i → post r) : wpX_leastTerm post u (nI c) (nI i) := by
  have e2 : (nI c * 4 + nI i).toNatClampNeg = 4 * c + i := by rw [lz_ix4]; exact nI_clamp (by omega)
  have hb := ok.1 (4 * c + i) (by omega)
  refine And.intro (by rw [lz_ix4]; exact vp_in_nI (by omega) (by decide)) (nm_r (e' := lq_coef u (4 * c + i)) (congrArg (lq_coef u) e2) (lz_leI (lz_cf u c i) 0 rfl (by decide) (fun hl => ?_) (fun hl => ?_)))
  · refine lz_high_w i rfl hi (h _ ?_)
    rw [lz_mulI (by omega) (by omega) (lz_hi_le _ _)]
    unfold lz_tm lz_vl
    rw [if_pos hl]
    rfl
  · refine lz_low_w i rfl hi (h _ ?_)
    rw [lz_mulI (by omega) (by omega) (lz_lo_le _ _)]
    unfold lz_tm lz_vl
    rw [if_neg (by omega)]
    rfl
section
variable {P : (Nat → Nat) → Prop} {BY BN : Int32}
theorem lz_squeeze45 {i v : Nat} (hi : i < 4) (h1 : 1 ≤ v) (h3 : v ≤ 3) {post : SX → Prop} {J3 : lq_J1} {u0 u : SX} {A R RY RN : Int32} {a r : Int}
    (hA : A.toInt = a) (hR : R.toInt = r) (ha1 : -5 ≤ a) (ha2 : a ≤ 5)
    (hy : ∀ c, bt RY c = true → bt (lq_yes u0) c = true) (hn : ∀ c, bt RN c = true → bt (lq_no u0) c = true)
    (hv : ∀ s, P s → lz_ag s RY RN → a * (s i : Int) ≤ r)
    (K : ∀ u', lz_St P BY BN u0 u' → lq_U (J3 (nI (v + 1))) u') (S : lz_St P BY BN u0 u) : lq_U (wX_squeeze_45 post J3 (nI i) A R RY RN (nI v)) u := by
  refine lz_leI 0 a (by decide) hA (fun h => nm_r (nI_1 v) (K u S)) (fun h => ?_)
  refine lz_leI (a * ((v - 1 : Nat) : Int)) r (by rw [lz_dn1 h1, lz_mulI (by omega) (by omega) (by omega), hA]) hR (fun h => nm_r (nI_1 v) (K u S)) (fun h' => ?_)
  refine br_c (fun hc => ?_) (fun hc => nm_r (nI_1 v) (K u S))
  refine lz_implyT S.2.2.1 hc (3 * i + v - 1) (lz_ix1 h1) (by omega) (fun c hc => S.2.2.2.1 c (hy c hc)) (fun c hc => S.2.2.2.2.1 c (hn c hc)) (fun s hP hag => ?_) (fun u' S' _ => nm_r (nI_1 v) (K u' (lz_St_tr S S')))
  have := lz_gt_of h (hv s hP hag) h'
  unfold lz_tv
  rw [show (3 * i + v - 1) / 3 = i from by omega]
  omega
theorem lz_squeeze3 {i : Nat} (hi : i < 4) {post : SX → Prop} {u0 : SX} {A R RY RN : Int32} {a r : Int}
    (hA : A.toInt = a) (hR : R.toInt = r) (ha1 : -5 ≤ a) (ha2 : a ≤ 5)
    (hy : ∀ c, bt RY c = true → bt (lq_yes u0) c = true) (hn : ∀ c, bt RN c = true → bt (lq_no u0) c = true)
    (hv : ∀ s, P s → lz_ag s RY RN → a * (s i : Int) ≤ r)
    (K : ∀ u', lz_St P BY BN u0 u' → post u') : ∀ (n v : Nat) (u : SX), 1 ≤ v → v ≤ 4 → 4 < n + v → lz_St P BY BN u0 u → lq_U (wX_squeeze_3 post (nI i) A R RY RN n (nI v)) u := by
  intro n
  induction n with
  | zero => intro v u h1 h2 h3; omega
  | succ n ih =>
    intro v u h1 h2 h3 S
    refine pk_lt 3 v (fun h => K u S) (fun h => ?_)
    have Kn : ∀ u', lz_St P BY BN u0 u' → lq_U (wX_squeeze_45 post (wX_squeeze_3 post (nI i) A R RY RN n) (nI i) A R RY RN (nI v)) u' :=
      fun u' S' => lz_squeeze45 hi h1 (by omega) hA hR ha1 ha2 hy hn hv (fun u'' S'' => ih (v + 1) u'' (by omega) (by omega) (by omega) S'') S'
    refine lz_leI a 0 hA (by decide) (fun h => Kn u S) (fun hp => ?_)
    refine lz_leI (a * ((v : Nat) : Int)) r (by rw [lz_mulI (by omega) (by omega) (by omega), hA]) hR (fun h => Kn u S) (fun h' => ?_)
    refine br_c (fun hc => ?_) (fun hc => Kn u S)
    refine lz_implyF S.2.2.1 hc (3 * i + v - 1) (lz_ix1 h1) (by omega) (fun c hc => S.2.2.2.1 c (hy c hc)) (fun c hc => S.2.2.2.2.1 c (hn c hc)) (fun s hP hag => ?_) (fun u' S' _ => Kn u' (lz_St_tr S S'))
    have := lz_lt_of hp (hv s hP hag) h'
    unfold lz_tv
    rw [show (3 * i + v - 1) / 3 = i from by omega]
    omega
theorem lz_squeeze_w {i : Nat} (hi : i < 4) {post : SX → Prop} {u : SX} (G : lz_G P BY BN u) {A R RY RN : Int32} {a r : Int}
    (hA : A.toInt = a) (hR : R.toInt = r) (ha1 : -5 ≤ a) (ha2 : a ≤ 5)
    (hy : ∀ c, bt RY c = true → bt (lq_yes u) c = true) (hn : ∀ c, bt RN c = true → bt (lq_no u) c = true)
    (hv : ∀ s, P s → lz_ag s RY RN → a * (s i : Int) ≤ r)
    (K : ∀ u', lz_St P BY BN u u' → post u') : wpX_squeeze post u (nI i) A R RY RN :=
  Exists.intro 4 (lz_squeeze3 hi hA hR ha1 ha2 hy hn hv K 4 1 u (by omega) (by omega) (by omega) (lz_St_rf G))
theorem lz_b7 : ∀ i, i < 4 → ∀ c, c < 32 → bt (((7 : Int32) <<< (nI (3 * i) &&& 31)) ^^^ (-1)) c = decide (c / 3 ≠ i) := by decide +kernel
/-- the reasons of a linear constraint -/
def lz_RS (u : SX) (c : Nat) (Y N RY RN : Int32) (k : Nat) : Prop :=
  (∀ a, bt RY a = true → bt Y a = true) ∧ (∀ a, bt RN a = true → bt N a = true) ∧
  (∀ j, j < k → 0 < lz_cf u c j → ∀ a, bt (lz_loA Y j) a = true → bt RY a = true) ∧
  (∀ j, j < k → lz_cf u c j < 0 → ∀ a, bt (lz_hiA N j) a = true → bt RN a = true)
theorem lz_lin108 {c : Nat} (hc : c < 11) {post : SX → Prop} {u0 : SX} (ok : lz_ok u0) {X RY RN : Int32}
    (hX : X.toInt = lz_ps (lz_tm u0 c (lq_yes u0) (lq_no u0)) 4)
    (hR : lz_RS u0 c (lq_yes u0) (lq_no u0) RY RN 4)
    (hs : ∀ s, P s → (∀ i, i < 4 → s i ≤ 3) ∧ lz_ps (fun i => lz_cf u0 c i * (s i : Int)) 4 ≤ lz_bd u0 c)
    (K : ∀ u', lz_St P BY BN u0 u' → post u') : ∀ (n i : Nat) (u : SX), i ≤ 4 → 4 < n + i → lz_St P BY BN u0 u → lq_U (wX_linearWake_108 post (nI c) X RY RN n (nI i)) u := by
  intro n
  induction n with
  | zero => intro i u h1 h2; omega
  | succ n ih =>
    intro i u h1 h2 S
    refine pk_le 4 i (fun h => K u S) (fun h => br_c (fun hcl => ?_) (fun hcl => K u S))
    have ok' := lz_ok_st S.1 ok
    have ecf : ∀ j, lz_cf u c j = lz_cf u0 c j := fun j => by unfold lz_cf; rw [lq_st_coef S.1]
    have hcf := ok.1 (4 * c + i) (by omega)
    have hb := ok.2.1 c hc
    have e2 : (nI c * 4 + nI i).toNatClampNeg = 4 * c + i := by rw [lz_ix4]; exact nI_clamp (by omega)
    have e1 : (nI c).toNatClampNeg = c := nI_clamp (by omega)
    have tb : ∀ j, j < 4 → -15 ≤ lz_tm u0 c (lq_yes u0) (lq_no u0) j ∧ lz_tm u0 c (lq_yes u0) (lq_no u0) j ≤ 15 := by
      intro j hj
      have := ok.1 (4 * c + j) (by omega)
      exact lz_tb (a := lz_cf u0 c j) this.1 this.2 (lz_vl_le _ _ _ _)
    have t0 := tb 0 (by omega)
    have t1 := tb 1 (by omega)
    have t2 := tb 2 (by omega)
    have t3 := tb 3 (by omega)
    have hX' : X.toInt = lz_tm u0 c (lq_yes u0) (lq_no u0) 0 + lz_tm u0 c (lq_yes u0) (lq_no u0) 1 + lz_tm u0 c (lq_yes u0) (lq_no u0) 2 + lz_tm u0 c (lq_yes u0) (lq_no u0) 3 := by
      rw [hX, lz_ps4]
    refine lz_leastTerm_w ok' hc h (fun r hr => ?_)
    have hr0 : r.toInt = lz_cf u0 c i * (lz_vl (lz_cf u0 c i) (lq_yes u) (lq_no u) i : Int) := by
      rw [hr]; unfold lz_tm; rw [ecf]
    have hrb := lz_tb (a := lz_cf u0 c i) hcf.1 hcf.2 (lz_vl_le (lz_cf u0 c i) (lq_yes u) (lq_no u) i)
    have hbe : (lq_bound u c).toInt = lz_bd u0 c := by rw [lq_st_bound S.1]; rfl
    have hbd : -100 ≤ lz_bd u0 c ∧ lz_bd u0 c ≤ 99 := hb
    refine And.intro (vp_in_nI hc (by decide)) (nm_r (e' := lq_bound u c - X + r) (congrArg (fun k => lq_bound u k - X + r) e1) (nm_e (And.intro (by rw [lz_ix4]; exact vp_in_nI (by omega) (by decide)) ?_)))
    have e3 : nI i * 3 = nI (3 * i) := by
      show nI i * nI 3 = _
      rw [pk_mul, Nat.mul_comm]
    have bm : ∀ a, a < 32 → bt (((7 : Int32) <<< ((nI i * 3) &&& 31)) ^^^ (-1)) a = decide (a / 3 ≠ i) := by
      rw [e3]; exact lz_b7 i h
    refine lz_squeeze_w (a := lz_cf u0 c i) (r := lz_bd u0 c - lz_ps (lz_tm u0 c (lq_yes u0) (lq_no u0)) 4 + r.toInt) h S.2.2.1 ?_ ?_ hcf.1 hcf.2 ?_ ?_ ?_ (fun u' S' => nm_r (nI_1 i) (ih (i + 1) u' (by omega) (by omega) (lz_St_tr S S')))
    · show (lq_coef u (nI c * 4 + nI i).toNatClampNeg).toInt = _
      rw [e2, lq_st_coef S.1]; rfl
    · have hs1 : (lq_bound u c - X).toInt = lz_bd u0 c - X.toInt := by rw [lz_subI (by omega) (by omega) (by omega) (by omega), hbe]
      rw [lz_addI (by omega) (by omega) (by omega) (by omega), hs1, hX]
    · intro a ha
      exact S.2.2.2.1 a (hR.1 a ((lz_and _ _ a).mp ha).1)
    · intro a ha
      exact S.2.2.2.2.1 a (hR.2.1 a ((lz_and _ _ a).mp ha).1)
    · intro s hP hag
      obtain ⟨h3, hsum⟩ := hs s hP
      have tl : ∀ j, j < 4 → j ≠ i → lz_tm u0 c (lq_yes u0) (lq_no u0) j ≤ lz_cf u0 c j * (s j : Int) := by
        intro j hj hne
        refine lz_tm_le (fun hp => ?_) (fun hp => ?_)
        · refine lz_loA_s hj (fun a ha => hag.1 a ((lz_and _ _ a).mpr ⟨hR.2.2.1 j hj hp a ha, ?_⟩))
          rw [bm a (lz_32 ha)]
          have := (lz_loA_bt hj ha).2
          simp; omega
        · refine lz_hiA_s hj (h3 j hj) (fun a ha => hag.2 a ((lz_and _ _ a).mpr ⟨hR.2.2.2 j hj hp a ha, ?_⟩))
          rw [bm a (lz_32 ha)]
          have := (lz_hiA_bt hj ha).2
          simp; omega
      have tm : lz_tm u0 c (lq_yes u0) (lq_no u0) i ≤ r.toInt := by
        rw [hr0]
        exact lz_tm_mono S.2.2.2.1 S.2.2.2.2.1 i
      have hsum' : lz_cf u0 c 0 * (s 0 : Int) + lz_cf u0 c 1 * (s 1 : Int) + lz_cf u0 c 2 * (s 2 : Int) + lz_cf u0 c 3 * (s 3 : Int) ≤ lz_bd u0 c := by
        have : (0 : Int) + lz_cf u0 c 0 * (s 0 : Int) + lz_cf u0 c 1 * (s 1 : Int) + lz_cf u0 c 2 * (s 2 : Int) + lz_cf u0 c 3 * (s 3 : Int) ≤ lz_bd u0 c := hsum
        omega
      rw [← hX, hX']
      have hi4 : i = 0 ∨ i = 1 ∨ i = 2 ∨ i = 3 := by omega
      rcases hi4 with rfl | rfl | rfl | rfl
      · have a1 := tl 1 (by omega) (by omega)
        have a2 := tl 2 (by omega) (by omega)
        have a3 := tl 3 (by omega) (by omega)
        omega
      · have a1 := tl 0 (by omega) (by omega)
        have a2 := tl 2 (by omega) (by omega)
        have a3 := tl 3 (by omega) (by omega)
        omega
      · have a1 := tl 0 (by omega) (by omega)
        have a2 := tl 1 (by omega) (by omega)
        have a3 := tl 3 (by omega) (by omega)
        omega
      · have a1 := tl 0 (by omega) (by omega)
        have a2 := tl 1 (by omega) (by omega)
        have a3 := tl 2 (by omega) (by omega)
        omega
theorem lz_lin10 {c : Nat} (hc : c < 11) {post : SX → Prop} {u : SX} (G : lz_G P BY BN u) (ok : lz_ok u)
    (hs : ∀ s, P s → (∀ i, i < 4 → s i ≤ 3) ∧ lz_ps (fun i => lz_cf u c i * (s i : Int)) 4 ≤ lz_bd u c)
    (K : ∀ u', lz_St P BY BN u u' → lz_Dn u' (fun Y N => lz_ps (lz_tm u c Y N) 4 ≤ lz_bd u c) → post u') :
    ∀ (n i : Nat) (X RY RN : Int32), i ≤ 4 → 4 < n + i → X.toInt = lz_ps (lz_tm u c (lq_yes u) (lq_no u)) i → -15 * (i : Int) ≤ X.toInt → X.toInt ≤ 15 * (i : Int) →
      lz_RS u c (lq_yes u) (lq_no u) RY RN i → lq_U (wX_linearWake_10 post (nI c)) u n X RY RN (nI i) := by
  intro n
  induction n with
  | zero => intro i X RY RN h1 h2; omega
  | succ n ih =>
    intro i X RY RN h1 h2 hX hb1 hb2 hR
    have e1 : (nI c).toNatClampNeg = c := nI_clamp (by omega)
    refine pk_le 4 i (fun h => ?_) (fun h => ?_)
    · have e : i = 4 := by omega
      subst e
      refine And.intro (vp_in_nI hc (by decide)) (lz_leI (lz_ps (lz_tm u c (lq_yes u) (lq_no u)) 4) (lz_bd u c) hX (congrArg (fun k => (lq_bound u k).toInt) e1) (fun hle => ?_) (fun hgt => ?_))
      · exact Exists.intro 5 (lz_lin108 hc ok hX hR hs (fun u' S' => K u' S' (lz_Dn_tr S' (fun _ _ => hle))) 5 0 u (by omega) (by omega) (lz_St_rf G))
      · refine K (lz_setClash u 1 RY RN) (lz_clashSt G hR.1 hR.2.1 ?_) (lz_Dn_c (show ¬ (1 : Int32) = 0 from by decide))
        intro s hP hag
        obtain ⟨h3, hsum⟩ := hs s hP
        have tl : ∀ j, j < 4 → lz_tm u c (lq_yes u) (lq_no u) j ≤ lz_cf u c j * (s j : Int) := by
          intro j hj
          refine lz_tm_le (fun hp => ?_) (fun hp => ?_)
          · exact lz_loA_s hj (fun a ha => hag.1 a (hR.2.2.1 j hj hp a ha))
          · exact lz_hiA_s hj (h3 j hj) (fun a ha => hag.2 a (hR.2.2.2 j hj hp a ha))
        have hsum' : (0 : Int) + lz_cf u c 0 * (s 0 : Int) + lz_cf u c 1 * (s 1 : Int) + lz_cf u c 2 * (s 2 : Int) + lz_cf u c 3 * (s 3 : Int) ≤ lz_bd u c := hsum
        have hgt' : lz_bd u c < 0 + lz_tm u c (lq_yes u) (lq_no u) 0 + lz_tm u c (lq_yes u) (lq_no u) 1 + lz_tm u c (lq_yes u) (lq_no u) 2 + lz_tm u c (lq_yes u) (lq_no u) 3 := hgt
        have a0 := tl 0 (by omega)
        have a1 := tl 1 (by omega)
        have a2 := tl 2 (by omega)
        have a3 := tl 3 (by omega)
        omega
    · have e2 : (nI c * 4 + nI i).toNatClampNeg = 4 * c + i := by rw [lz_ix4]; exact nI_clamp (by omega)
      have hin : vp_in (nI c * 4 + nI i) 44 := by rw [lz_ix4]; exact vp_in_nI (by omega) (by decide)
      have hcf := ok.1 (4 * c + i) (by omega)
      have ecf : (lq_coef u (nI c * 4 + nI i).toNatClampNeg).toInt = lz_cf u c i := by rw [e2]; rfl
      have htb := lz_tb (a := lz_cf u c i) hcf.1 hcf.2 (lz_vl_le (lz_cf u c i) (lq_yes u) (lq_no u) i)
      refine lz_leastTerm_w ok hc h (fun r hr => ?_)
      have htb' : -15 ≤ r.toInt ∧ r.toInt ≤ 15 := by rw [hr]; exact htb
      have hX' : (X + r).toInt = lz_ps (lz_tm u c (lq_yes u) (lq_no u)) (i + 1) := by
        rw [lz_addI (by omega) (by omega) (by omega) (by omega), hX, hr]; rfl
      have hXi : (X + r).toInt = X.toInt + r.toInt := lz_addI (by omega) (by omega) (by omega) (by omega)
      have b1 : -15 * ((i + 1 : Nat) : Int) ≤ (X + r).toInt := by rw [hXi]; omega
      have b2 : (X + r).toInt ≤ 15 * ((i + 1 : Nat) : Int) := by rw [hXi]; omega
      refine nm_e (And.intro hin (lz_leI (lz_cf u c i) 0 ecf (by decide) (fun h0 => ?_) (fun h0 => ?_)))
      · refine And.intro hin (lz_leI 0 (lz_cf u c i) (by decide) ecf (fun h0' => ?_) (fun h0' => ?_))
        · refine nm_r (nI_1 i) (ih (i + 1) (X + r) RY RN (by omega) (by omega) hX' b1 b2 ⟨hR.1, hR.2.1, fun j hj hp => ?_, fun j hj hp => ?_⟩)
          · by_cases e : j = i
            · subst e; omega
            · exact hR.2.2.1 j (by omega) hp
          · by_cases e : j = i
            · subst e; omega
            · exact hR.2.2.2 j (by omega) hp
        · refine lz_highAtom_w i rfl h (nm_e (nm_r (nI_1 i) (ih (i + 1) (X + r) RY _ (by omega) (by omega) hX' b1 b2 ⟨hR.1, fun a ha => ?_, fun j hj hp => ?_, fun j hj hp a ha => ?_⟩)))
          · rcases (lz_or _ _ _).mp ha with h' | h'
            · exact hR.2.1 a h'
            · exact (lz_hiA_bt h h').1
          · by_cases e : j = i
            · subst e; omega
            · exact hR.2.2.1 j (by omega) hp
          · refine (lz_or _ _ _).mpr ?_
            by_cases e : j = i
            · subst e; exact Or.inr ha
            · exact Or.inl (hR.2.2.2 j (by omega) hp a ha)
      · refine lz_lowAtom_w i rfl h (nm_e (nm_r (nI_1 i) (ih (i + 1) (X + r) _ RN (by omega) (by omega) hX' b1 b2 ⟨fun a ha => ?_, hR.2.1, fun j hj hp a ha => ?_, fun j hj hp => ?_⟩)))
        · rcases (lz_or _ _ _).mp ha with h' | h'
          · exact hR.1 a h'
          · exact (lz_loA_bt h h').1
        · refine (lz_or _ _ _).mpr ?_
          by_cases e : j = i
          · subst e; exact Or.inr ha
          · exact Or.inl (hR.2.2.1 j (by omega) hp a ha)
        · by_cases e : j = i
          · subst e; omega
          · exact hR.2.2.2 j (by omega) hp
theorem lz_linearWake_w {c : Nat} (hc : c < 11) {post : SX → Prop} {u : SX} (G : lz_G P BY BN u) (ok : lz_ok u)
    (hs : ∀ s, P s → (∀ i, i < 4 → s i ≤ 3) ∧ lz_ps (fun i => lz_cf u c i * (s i : Int)) 4 ≤ lz_bd u c)
    (K : ∀ u', lz_St P BY BN u u' → lz_Dn u' (fun Y N => lz_ps (lz_tm u c Y N) 4 ≤ lz_bd u c) → post u') : wpX_linearWake post u (nI c) :=
  Exists.intro 5 (lz_lin10 hc G ok hs K 5 0 0 0 0 (by omega) (by omega) (by rfl) (by decide) (by decide) ⟨fun a h => absurd h (lz_0 a), fun a h => absurd h (lz_0 a), fun j hj => absurd hj (Nat.not_lt_zero j), fun j hj => absurd hj (Nat.not_lt_zero j)⟩)
end
end
section
/-! all-different sets -/
def lz_In (M Y N : Int32) (f t j : Nat) : Prop := bt M j = true ∧ f ≤ lz_lo Y j ∧ lz_hi N j ≤ t
def lz_HI (M Y N : Int32) (f t i k : Nat) (ins RY RN : Int32) : Prop :=
  (∀ a, bt ins a = true ↔ a < i ∧ lz_In M Y N f t a) ∧
  (∀ a, bt RY a = true → bt Y a = true) ∧ (∀ a, bt RN a = true → bt N a = true) ∧
  (∀ j, j < i → lz_In M Y N f t j → (∀ a, bt (lz_loA Y j) a = true → bt RY a = true) ∧ (∀ a, bt (lz_hiA N j) a = true → bt RN a = true)) ∧
  k ≤ i ∧
  ∃ e : Nat → Nat, (∀ m, m < k → e m < i ∧ lz_In M Y N f t (e m)) ∧ (∀ m m', m < k → m' < k → e m = e m' → m = m') ∧ (∀ j, j < i → lz_In M Y N f t j → ∃ m, m < k ∧ e m = j)
theorem lz_HI_0 {M Y N : Int32} {f t : Nat} : lz_HI M Y N f t 0 0 0 0 0 :=
  ⟨fun a => ⟨fun h => absurd h (lz_0 a), fun h => absurd h.1 (Nat.not_lt_zero a)⟩, fun a h => absurd h (lz_0 a), fun a h => absurd h (lz_0 a), fun j hj => absurd hj (Nat.not_lt_zero j), Nat.le_refl 0,
    fun m => m, fun m hm => absurd hm (Nat.not_lt_zero m), fun m m' hm => absurd hm (Nat.not_lt_zero m), fun j hj => absurd hj (Nat.not_lt_zero j)⟩
theorem lz_HI_n {M Y N : Int32} {f t i k : Nat} {ins RY RN : Int32} (h : lz_HI M Y N f t i k ins RY RN) (hn : ¬ lz_In M Y N f t i) : lz_HI M Y N f t (i + 1) k ins RY RN := by
  obtain ⟨h1, h2, h3, h4, h5, e, e1, e2, e3⟩ := h
  refine ⟨fun a => ?_, h2, h3, fun j hj hI => ?_, by omega, e, fun m hm => ?_, e2, fun j hj hI => ?_⟩
  · rw [h1 a]
    constructor
    · intro h; exact ⟨by omega, h.2⟩
    · intro h
      have hne : a ≠ i := fun ea => hn (ea ▸ h.2)
      exact ⟨by omega, h.2⟩
  · have hne : j ≠ i := fun ea => hn (ea ▸ hI)
    exact h4 j (by omega) hI
  · have := e1 m hm
    exact ⟨by omega, this.2⟩
  · have hne : j ≠ i := fun ea => hn (ea ▸ hI)
    exact e3 j (by omega) hI
theorem lz_HI_y {M Y N : Int32} {f t i k : Nat} {ins RY RN : Int32} (hi : i < 4) (h : lz_HI M Y N f t i k ins RY RN) (hn : lz_In M Y N f t i) : lz_HI M Y N f t (i + 1) (k + 1) (ins ||| lz_b i) (RY ||| lz_loA Y i) (RN ||| lz_hiA N i) := by
  obtain ⟨h1, h2, h3, h4, h5, e, e1, e2, e3⟩ := h
  refine ⟨fun a => ?_, fun a ha => ?_, fun a ha => ?_, fun j hj hI => ?_, by omega, fun m => if m < k then e m else i, fun m hm => ?_, fun m m' hm hm' ee => ?_, fun j hj hI => ?_⟩
  · rw [lz_orb _ (by omega), h1 a]
    constructor
    · rintro (h | h)
      · exact ⟨by omega, h.2⟩
      · exact ⟨by omega, h ▸ hn⟩
    · intro h
      by_cases ea : a = i
      · exact Or.inr ea
      · exact Or.inl ⟨by omega, h.2⟩
  · rcases (lz_or _ _ _).mp ha with h | h
    · exact h2 a h
    · exact (lz_loA_bt hi h).1
  · rcases (lz_or _ _ _).mp ha with h | h
    · exact h3 a h
    · exact (lz_hiA_bt hi h).1
  · by_cases ea : j = i
    · subst ea
      exact ⟨fun a ha => (lz_or _ _ _).mpr (Or.inr ha), fun a ha => (lz_or _ _ _).mpr (Or.inr ha)⟩
    · have := h4 j (by omega) hI
      exact ⟨fun a ha => (lz_or _ _ _).mpr (Or.inl (this.1 a ha)), fun a ha => (lz_or _ _ _).mpr (Or.inl (this.2 a ha))⟩
  · show (if m < k then e m else i) < i + 1 ∧ lz_In M Y N f t (if m < k then e m else i)
    by_cases hc : m < k
    · rw [if_pos hc]
      have := e1 m hc
      exact ⟨by omega, this.2⟩
    · rw [if_neg hc]
      exact ⟨by omega, hn⟩
  · have ee2 : (if m < k then e m else i) = (if m' < k then e m' else i) := ee
    by_cases hc : m < k
    · rw [if_pos hc] at ee2
      by_cases hc' : m' < k
      · rw [if_pos hc'] at ee2; exact e2 m m' hc hc' ee2
      · rw [if_neg hc'] at ee2
        have := (e1 m hc).1
        omega
    · rw [if_neg hc] at ee2
      by_cases hc' : m' < k
      · rw [if_pos hc'] at ee2
        have := (e1 m' hc').1
        omega
      · omega
  · by_cases ea : j = i
    · exact ⟨k, by omega, (if_neg (Nat.lt_irrefl k)).trans ea.symm⟩
    · obtain ⟨m, hm, em⟩ := e3 j (by omega) hI
      exact ⟨m, by omega, (if_pos hm).trans em⟩
/-- different values in a stretch -/
theorem lz_hp {s e : Nat → Nat} {k f t : Nat} (hft : f ≤ t) (h1 : ∀ m, m < k → f ≤ s (e m) ∧ s (e m) ≤ t) (h2 : ∀ m m', m < k → m' < k → s (e m) = s (e m') → m = m') : k ≤ t - f + 1 := by
  refine lz_php (t - f + 1) k (fun m => s (e m) - f) (fun m hm => ?_) (fun m m' hm hm' ee => ?_)
  · have := h1 m hm
    show s (e m) - f < t - f + 1
    omega
  · have a := h1 m hm
    have b := h1 m' hm'
    have ee2 : s (e m) - f = s (e m') - f := ee
    exact h2 m m' hm hm' (by omega)
def lz_df (M : Int32) (s : Nat → Nat) : Prop := ∀ i j, i < j → j < 4 → bt M i = true → bt M j = true → s i ≠ s j
theorem lz_df_inj {M : Int32} {s : Nat → Nat} (h : lz_df M s) {i j : Nat} (hi : i < 4) (hj : j < 4) (bi : bt M i = true) (bj : bt M j = true) (e : s i = s j) : i = j := by
  rcases Nat.lt_or_ge i j with h1 | h1
  · exact absurd e (h i j h1 hj bi bj)
  · rcases Nat.lt_or_ge j i with h2 | h2
    · exact absurd e.symm (h j i h2 hi bj bi)
    · omega
theorem lz_HI_s {M Y N : Int32} {f t i k : Nat} {ins RY RN : Int32} (hi : i ≤ 4) (h : lz_HI M Y N f t i k ins RY RN) {s : Nat → Nat} (h3 : ∀ j, j < 4 → s j ≤ 3) (hag : lz_ag s RY RN) {j : Nat} (hj : j < i) (hI : lz_In M Y N f t j) : f ≤ s j ∧ s j ≤ t := by
  have hh := h.2.2.2.1 j hj hI
  have a := lz_loA_s (Y := Y) (by omega : j < 4) (fun a ha => hag.1 a (hh.1 a ha))
  have b := lz_hiA_s (N := N) (by omega : j < 4) (h3 j (by omega)) (fun a ha => hag.2 a (hh.2 a ha))
  have := hI.2
  omega
theorem lz_HI_cnt {M Y N : Int32} {f t k : Nat} {ins RY RN : Int32} (hft : f ≤ t) (h : lz_HI M Y N f t 4 k ins RY RN) {s : Nat → Nat} (h3 : ∀ j, j < 4 → s j ≤ 3) (hd : lz_df M s) (hag : lz_ag s RY RN) : k ≤ t - f + 1 := by
  obtain ⟨e, e1, e2, e3⟩ := h.2.2.2.2.2
  refine lz_hp (s := s) (e := e) hft (fun m hm => lz_HI_s (by omega) h h3 hag (e1 m hm).1 (e1 m hm).2) (fun m m' hm hm' ee => ?_)
  exact e2 m m' hm hm' (lz_df_inj hd (e1 m hm).1 (e1 m' hm').1 (e1 m hm).2.1 (e1 m' hm').2.1 ee)
theorem lz_HI_out {M Y N : Int32} {f t k : Nat} {ins RY RN : Int32} (hft : f ≤ t) (h : lz_HI M Y N f t 4 k ins RY RN) (hk : k = t - f + 1) {s : Nat → Nat} (h3 : ∀ j, j < 4 → s j ≤ 3) (hd : lz_df M s) (hag : lz_ag s RY RN) {i : Nat} (hi : i < 4) (hmem : bt M i = true) (hn : ¬ bt ins i = true) : ¬ (f ≤ s i ∧ s i ≤ t) := by
  intro hs
  have hI : ∀ j, j < 4 → lz_In M Y N f t j → j ≠ i := fun j hj hI e => hn ((h.1 i).mpr ⟨hi, e ▸ hI⟩)
  have hs4 : ∀ j, j < 4 → lz_In M Y N f t j → f ≤ s j ∧ s j ≤ t := fun j hj hI => lz_HI_s (by omega) h h3 hag hj hI
  obtain ⟨e, e1, e2, e3⟩ := h.2.2.2.2.2
  have ev : ∀ m, m < k → (if m < k then e m else i) = e m := fun m hm => if_pos hm
  have ek : (if k < k then e k else i) = i := if_neg (Nat.lt_irrefl k)
  have := lz_hp (s := s) (e := fun m => if m < k then e m else i) (k := k + 1) hft (fun m hm => ?_) (fun m m' hm hm' ee => ?_)
  · omega
  · show f ≤ s (if m < k then e m else i) ∧ s (if m < k then e m else i) ≤ t
    by_cases hc : m < k
    · rw [ev m hc]; exact hs4 _ (e1 m hc).1 (e1 m hc).2
    · rw [if_neg hc]; exact hs
  · have ee2 : s (if m < k then e m else i) = s (if m' < k then e m' else i) := ee
    by_cases hc : m < k
    · rw [ev m hc] at ee2
      by_cases hc' : m' < k
      · rw [ev m' hc'] at ee2
        exact e2 m m' hc hc' (lz_df_inj hd (e1 m hc).1 (e1 m' hc').1 (e1 m hc).2.1 (e1 m' hc').2.1 ee2)
      · rw [if_neg hc'] at ee2
        exact absurd (lz_df_inj hd (e1 m hc).1 hi (e1 m hc).2.1 hmem ee2) (hI _ (e1 m hc).1 (e1 m hc).2)
    · rw [if_neg hc] at ee2
      by_cases hc' : m' < k
      · rw [ev m' hc'] at ee2
        exact absurd (lz_df_inj hd (e1 m' hc').1 hi (e1 m' hc').2.1 hmem ee2.symm) (hI _ (e1 m' hc').1 (e1 m' hc').2)
      · omega
def lz_hd (M Y N : Int32) (x : Nat) : Prop := ∀ i j, i < j → j < 4 → ¬ (lz_In M Y N x x i ∧ lz_In M Y N x x j)
theorem lz_HI_hd {M Y N : Int32} {x k : Nat} {ins RY RN : Int32} (h : lz_HI M Y N x x 4 k ins RY RN) (hk : k ≤ 1) : lz_hd M Y N x := by
  obtain ⟨e, e1, e2, e3⟩ := h.2.2.2.2.2
  intro i j hij hj hI
  obtain ⟨m, hm, em⟩ := e3 i (by omega) hI.1
  obtain ⟨m', hm', em'⟩ := e3 j hj hI.2
  have : m = m' := by omega
  rw [this, em'] at em
  omega
section
variable {P : (Nat → Nat) → Prop} {BY BN : Int32}
theorem lz_push66 {i f t h : Nat} (hi : i < 4) (hft : f ≤ t) (ht : t < 4) (hh : h ≤ 3) {post : SX → Prop} {u0 u : SX} {RY RN : Int32}
    (hy : ∀ c, bt RY c = true → bt (lq_yes u0) c = true) (hn : ∀ c, bt RN c = true → bt (lq_no u0) c = true)
    (hv : ∀ s, P s → (∀ j, j < 4 → s j ≤ 3) ∧ (lz_ag s RY RN → ¬ (f ≤ s i ∧ s i ≤ t)))
    (hhi : lz_hi (lq_no u) i ≤ h) (S : lz_St P BY BN u0 u)
    (K : ∀ u', lz_St P BY BN u0 u' → post u') : lq_U (wX_pushOut_66 post (nI i) (nI f) (nI t) RY RN (nI h)) u := by
  refine br_c (fun hc => ?_) (fun hc => K u S)
  refine pk_lt h f (fun _ => K u S) (fun h1 => pk_lt t h (fun _ => K u S) (fun h2 => ?_))
  have hy' : ∀ c, bt RY c = true → bt (lq_yes u) c = true := fun c hc => S.2.2.2.1 c (hy c hc)
  have hn' : ∀ c, bt (RN ||| lz_hiA (lq_no u) i) c = true → bt (lq_no u) c = true := by
    intro c hc
    rcases (lz_or _ _ _).mp hc with h | h
    · exact S.2.2.2.2.1 c (hn c h)
    · exact (lz_hiA_bt hi h).1
  have hs : ∀ s, P s → lz_ag s RY (RN ||| lz_hiA (lq_no u) i) → s i < f := by
    intro s hP hag
    obtain ⟨h3, hv'⟩ := hv s hP
    have b := lz_hiA_s (N := lq_no u) hi (h3 i hi) (fun a ha => hag.2 a ((lz_or _ _ _).mpr (Or.inr ha)))
    have := hv' ⟨hag.1, fun a ha => hag.2 a ((lz_or _ _ _).mpr (Or.inl ha))⟩
    omega
  refine lz_highAtom_w i rfl hi (nm_e (pk_eq f 0 (fun e => ?_) (fun e => ?_)))
  · refine K (lz_setClash u 1 RY (RN ||| lz_hiA (lq_no u) i)) (lz_St_tr S (lz_clashSt S.2.2.1 hy' hn' (fun s hP hag => ?_)))
    have := hs s hP hag
    omega
  · refine lz_implyF S.2.2.1 hc (3 * i + f - 1) (lz_ix1 (by omega)) (by omega) hy' hn' (fun s hP hag => ?_) (fun u' S' _ => K u' (lz_St_tr S S'))
    have := hs s hP hag
    unfold lz_tv
    rw [show (3 * i + f - 1) / 3 = i from by omega]
    omega
theorem lz_pushOut_w {i f t : Nat} (hi : i < 4) (hft : f ≤ t) (ht : t < 4) {post : SX → Prop} {u : SX} (G : lz_G P BY BN u) (hc : lq_clash u = 0) {RY RN : Int32}
    (hy : ∀ c, bt RY c = true → bt (lq_yes u) c = true) (hn : ∀ c, bt RN c = true → bt (lq_no u) c = true)
    (hv : ∀ s, P s → (∀ j, j < 4 → s j ≤ 3) ∧ (lz_ag s RY RN → ¬ (f ≤ s i ∧ s i ≤ t)))
    (K : ∀ u', lz_St P BY BN u u' → post u') : wpX_pushOut post u (nI i) (nI f) (nI t) RY RN := by
  have hl3 := lz_lo_le (lq_yes u) i
  have hh3 := lz_hi_le (lq_no u) i
  have K1 : ∀ u', lz_St P BY BN u u' → lq_U (wX_pushOut_66 post (nI i) (nI f) (nI t) RY RN (nI (lz_hi (lq_no u) i))) u' :=
    fun u' S' => lz_push66 hi hft ht hh3 hy hn hv (lz_hi_anti S'.2.2.2.2.1 i) S' K
  refine lz_low_w i rfl hi (lz_high_w i rfl hi ?_)
  refine pk_lt (lz_lo (lq_yes u) i) f (fun _ => K1 u (lz_St_rf G)) (fun h1 => pk_lt t (lz_lo (lq_yes u) i) (fun _ => K1 u (lz_St_rf G)) (fun h2 => ?_))
  have hy' : ∀ c, bt (RY ||| lz_loA (lq_yes u) i) c = true → bt (lq_yes u) c = true := by
    intro c hc
    rcases (lz_or _ _ _).mp hc with h | h
    · exact hy c h
    · exact (lz_loA_bt hi h).1
  have hs : ∀ s, P s → lz_ag s (RY ||| lz_loA (lq_yes u) i) RN → s i ≤ 3 ∧ t < s i := by
    intro s hP hag
    obtain ⟨h3, hv'⟩ := hv s hP
    have b := lz_loA_s (Y := lq_yes u) (s := s) hi (fun a ha => hag.1 a ((lz_or _ _ _).mpr (Or.inr ha)))
    have := hv' ⟨fun a ha => hag.1 a ((lz_or _ _ _).mpr (Or.inl ha)), hag.2⟩
    have := h3 i hi
    omega
  refine lz_lowAtom_w i rfl hi (nm_e (pk_eq t 3 (fun e => ?_) (fun e => ?_)))
  · refine K1 (lz_setClash u 1 (RY ||| lz_loA (lq_yes u) i) RN) (lz_clashSt G hy' hn (fun s hP hag => ?_))
    have := hs s hP hag
    omega
  · refine lz_implyT G hc (3 * i + t) (lz_ix0 i t) (by omega) hy' hn (fun s hP hag => ?_) (fun u' S' _ => K1 u' S')
    have := hs s hP hag
    unfold lz_tv
    rw [show (3 * i + t) / 3 = i from by omega]
    omega
theorem lz_hall142 {c f t k : Nat} (hc : c < 11) (hft : f ≤ t) (ht : t < 4) {post : SX → Prop} {u0 : SX} {ins RY RN : Int32}
    (hI : lz_HI (lq_members u0 c) (lq_yes u0) (lq_no u0) f t 4 k ins RY RN) (hk : k = t - f + 1)
    (hs : ∀ s, P s → (∀ i, i < 4 → s i ≤ 3) ∧ lz_df (lq_members u0 c) s)
    (K : ∀ u', lz_St P BY BN u0 u' → post u') : ∀ (n i : Nat) (u : SX), i ≤ 4 → 4 < n + i → lz_St P BY BN u0 u → lq_U (wX_hall_142 post (nI c) (nI f) (nI t) ins RY RN n (nI i)) u := by
  intro n
  induction n with
  | zero => intro i u h1 h2; omega
  | succ n ih =>
    intro i u h1 h2 S
    refine pk_le 4 i (fun h => K u S) (fun h => br_c (fun hcl => ?_) (fun hcl => K u S))
    have e1 : (nI c).toNatClampNeg = c := nI_clamp (by omega)
    have eM : lq_members u (nI c).toNatClampNeg = lq_members u0 c := by rw [e1, lq_st_members S.1]
    refine And.intro (vp_in_nI hc (by decide)) (lz_brb i rfl (by omega) (fun hb => ?_) (fun hb => ?_))
    · have hb' : bt (lq_members u (nI c).toNatClampNeg &&& (ins ^^^ (-1))) i = true := hb
      rw [eM, lz_and'] at hb'
      refine br_f (by decide) ?_
      refine lz_pushOut_w h hft ht S.2.2.1 hcl (fun a ha => S.2.2.2.1 a (hI.2.1 a ha)) (fun a ha => S.2.2.2.2.1 a (hI.2.2.1 a ha)) (fun s hP => ?_) (fun u' S' => nm_r (nI_1 i) (ih (i + 1) u' (by omega) (by omega) (lz_St_tr S S')))
      obtain ⟨h3, hd⟩ := hs s hP
      exact ⟨h3, fun hag => lz_HI_out hft hI hk h3 hd hag h hb'.1 (lz_ff.mp hb'.2)⟩
    · exact br_t rfl (nm_r (nI_1 i) (ih (i + 1) u (by omega) (by omega) S))
theorem lz_hall15 {c f t : Nat} (hc : c < 11) (hft : f ≤ t) (ht : t < 4) {post : SX → Prop} {u : SX} (G : lz_G P BY BN u)
    (hs : ∀ s, P s → (∀ i, i < 4 → s i ≤ 3) ∧ lz_df (lq_members u c) s)
    (K : ∀ u', lz_St P BY BN u u' → lz_Dn u' (fun Y N => f = t → lz_hd (lq_members u c) Y N f) → post u') :
    ∀ (n i k : Nat) (ins RY RN : Int32), i ≤ 4 → 4 < n + i → lz_HI (lq_members u c) (lq_yes u) (lq_no u) f t i k ins RY RN →
      lq_U (wX_hall_15 post (nI c) (nI f) (nI t)) u n ins (nI k) RY RN (nI i) := by
  intro n
  induction n with
  | zero => intro i k ins RY RN h1 h2; omega
  | succ n ih =>
    intro i k ins RY RN h1 h2 hI
    have hk4 := hI.2.2.2.2.1
    have e1 : (nI c).toNatClampNeg = c := nI_clamp (by omega)
    have eD : nI t - nI f + 1 = nI (t - f + 1) := by rw [pk_sub hft, nI_1]
    refine pk_le 4 i (fun h => ?_) (fun h => ?_)
    · have e : i = 4 := by omega
      subst e
      refine pk_le k (t - f + 1) (fun hle => pk_eq k (t - f + 1) (fun he => ?_) (fun hne => ?_) rfl eD) (fun hgt => ?_) rfl eD
      · refine Exists.intro 5 (lz_hall142 hc hft ht hI he hs (fun u' S' => K u' S' (lz_Dn_tr S' (fun _ _ hft' => ?_))) 5 0 u (by omega) (by omega) (lz_St_rf G))
        subst hft'
        exact lz_HI_hd hI (by omega)
      · refine K u (lz_St_rf G) (fun _ _ hft' => ?_)
        subst hft'
        exact lz_HI_hd hI (by omega)
      · refine K (lz_setClash u 1 RY RN) (lz_clashSt G hI.2.1 hI.2.2.1 (fun s hP hag => ?_)) (lz_Dn_c (show ¬ (1 : Int32) = 0 from by decide))
        obtain ⟨h3, hd⟩ := hs s hP
        have := lz_HI_cnt hft hI h3 hd hag
        omega
    · have hl3 := lz_lo_le (lq_yes u) i
      have hh3 := lz_hi_le (lq_no u) i
      refine And.intro (vp_in_nI hc (by decide)) (lz_brb i rfl (by omega) (fun hb => ?_) (fun hb => ?_))
      · have hb' : bt (lq_members u c) i = true := by
          have : bt (lq_members u (nI c).toNatClampNeg) i = true := hb
          rw [e1] at this
          exact this
        refine br_f (by decide) (lz_low_w i rfl h (pk_lt (lz_lo (lq_yes u) i) f (fun hlt => ?_) (fun hge => lz_high_w i rfl h (pk_lt t (lz_hi (lq_no u) i) (fun hlt => ?_) (fun hle => ?_)))))
        · exact nm_r (nI_1 i) (ih (i + 1) k ins RY RN (by omega) (by omega) (lz_HI_n hI (fun h => by have := h.2.1; omega)))
        · exact nm_r (nI_1 i) (ih (i + 1) k ins RY RN (by omega) (by omega) (lz_HI_n hI (fun h => by have := h.2.2; omega)))
        · refine nm_e (nm_r (nI_1 k) (lz_lowAtom_w i rfl h (nm_e (lz_highAtom_w i rfl h (nm_e (nm_r (nI_1 i) ?_))))))
          exact ih (i + 1) (k + 1) _ _ _ (by omega) (by omega) (lz_HI_y h hI ⟨hb', hge, hle⟩)
      · refine br_t rfl (nm_r (nI_1 i) (ih (i + 1) k ins RY RN (by omega) (by omega) (lz_HI_n hI (fun h => ?_))))
        have : bt (lq_members u (nI c).toNatClampNeg) i = false := hb
        rw [e1] at this
        exact lz_ff.mp this h.1
theorem lz_hall_w {c f t : Nat} (hc : c < 11) (hft : f ≤ t) (ht : t < 4) {post : SX → Prop} {u : SX} (G : lz_G P BY BN u)
    (hs : ∀ s, P s → (∀ i, i < 4 → s i ≤ 3) ∧ lz_df (lq_members u c) s)
    (K : ∀ u', lz_St P BY BN u u' → lz_Dn u' (fun Y N => f = t → lz_hd (lq_members u c) Y N f) → post u') : wpX_hall post u (nI c) (nI f) (nI t) :=
  Exists.intro 5 (lz_hall15 hc hft ht G hs K 5 0 0 0 0 0 (by omega) (by omega) lz_HI_0)
/-! wake -/
theorem lz_wake36 {c f : Nat} (hc : c < 11) (hf : f < 4) {post : SX → Prop} {J29 : lq_J1} {u0 : SX} {Q : Int32 → Int32 → Prop}
    (hs : ∀ s, P s → (∀ i, i < 4 → s i ≤ 3) ∧ lz_df (lq_members u0 c) s)
    (K : ∀ u', lz_St P BY BN u0 u' → lz_Dn u' (fun Y N => Q Y N ∧ lz_hd (lq_members u0 c) Y N f) → lq_U (J29 (nI (f + 1))) u') :
    ∀ (n t : Nat) (u : SX), f ≤ t → t ≤ 4 → 4 < n + t → lz_St P BY BN u0 u → lz_Dn u (fun Y N => Q Y N ∧ (f < t → lz_hd (lq_members u0 c) Y N f)) → lq_U (wX_wake_36 post J29 (nI c) (nI f) n (nI t)) u := by
  intro n
  induction n with
  | zero => intro t u h0 h1 h2; omega
  | succ n ih =>
    intro t u h0 h1 h2 S D
    refine pk_le 4 t (fun h => ?_) (fun h => br_c (fun hcl => ?_) (fun hcl => ?_))
    · exact nm_r (nI_1 f) (K u S (lz_Dn_i D (fun Y N h => ⟨h.1, h.2 (by omega)⟩)))
    · have eM : lq_members u c = lq_members u0 c := by rw [lq_st_members S.1]
      refine lz_hall_w (u := u) hc h0 h S.2.2.1 (by rw [eM]; exact hs) (fun u' S' D' => nm_r (nI_1 t) (ih (t + 1) u' (by omega) (by omega) (by omega) (lz_St_tr S S') ?_))
      intro a b
      have d1 := lz_Dn_tr S' D a b
      have d2 : f = t → lz_hd (lq_members u c) (lq_yes u') (lq_no u') f := D' a b
      rw [eM] at d2
      refine ⟨d1.1, fun _ => ?_⟩
      by_cases e : f = t
      · exact d2 e
      · exact d1.2 (by omega)
    · exact nm_r (nI_1 t) (ih (t + 1) u (by omega) (by omega) (by omega) S (lz_Dn_c hcl))
theorem lz_wake29 {c : Nat} (hc : c < 11) {post : SX → Prop} {u0 : SX}
    (hs : ∀ s, P s → (∀ i, i < 4 → s i ≤ 3) ∧ lz_df (lq_members u0 c) s)
    (K : ∀ u', lz_St P BY BN u0 u' → lz_Dn u' (fun Y N => ∀ x, x < 4 → lz_hd (lq_members u0 c) Y N x) → post u') :
    ∀ (n f : Nat) (u : SX), f ≤ 4 → 4 < n + f → lz_St P BY BN u0 u → lz_Dn u (fun Y N => ∀ x, x < f → lz_hd (lq_members u0 c) Y N x) → lq_U (wX_wake_29 post (nI c) n (nI f)) u := by
  intro n
  induction n with
  | zero => intro f u h1 h2; omega
  | succ n ih =>
    intro f u h1 h2 S D
    refine pk_le 4 f (fun h => ?_) (fun h => ?_)
    · have e : f = 4 := by omega
      subst e
      exact K u S D
    · refine Exists.intro 5 (lz_wake36 (Q := fun Y N => ∀ x, x < f → lz_hd (lq_members u0 c) Y N x) hc h hs (fun u' S' D' => ih (f + 1) u' (by omega) (by omega) S' (lz_Dn_i D' (fun Y N g x hx => ?_))) 5 f u (by omega) (by omega) (by omega) S (lz_Dn_i D (fun Y N g => ⟨g, fun hf => by omega⟩)))
      by_cases e : x = f
      · rw [e]; exact g.2
      · exact g.1 x (by omega)
end
/-! a constraint and an assignment -/
def lz_sat (u : SX) (c : Nat) (s : Nat → Nat) : Prop :=
  (lq_kind u c = 0 → lz_ps (fun i => lz_cf u c i * (s i : Int)) 4 ≤ lz_bd u c) ∧
  (¬ lq_kind u c = 0 → lq_kind u c = 1 → lz_df (lq_members u c) s) ∧
  (¬ lq_kind u c = 0 → ¬ lq_kind u c = 1 → lq_always u c = 0 → (∃ a, bt (lq_eitherYes u c) a = true ∧ lz_tv s a) ∨ (∃ a, bt (lq_eitherNo u c) a = true ∧ ¬ lz_tv s a))
/-- what an unmoved wake has seen -/
def lz_dw (u : SX) (c : Nat) (Y N : Int32) : Prop :=
  (lq_kind u c = 0 → lz_ps (lz_tm u c Y N) 4 ≤ lz_bd u c) ∧
  (¬ lq_kind u c = 0 → lq_kind u c = 1 → ∀ x, x < 4 → lz_hd (lq_members u c) Y N x) ∧
  (¬ lq_kind u c = 0 → ¬ lq_kind u c = 1 → lq_always u c = 0 → lz_cd Y N (lq_eitherYes u c) (lq_eitherNo u c))
theorem lz_sat_st {u u' : SX} (h : lq_st u' = lq_st u) (c : Nat) (s : Nat → Nat) : lz_sat u' c s = lz_sat u c s := by
  unfold lz_sat lz_cf lz_bd
  rw [lq_st_coef h, lq_st_bound h, lq_st_kind h, lq_st_always h, lq_st_eitherYes h, lq_st_eitherNo h, lq_st_members h]
theorem lz_dw_st {u u' : SX} (h : lq_st u' = lq_st u) (c : Nat) (Y N : Int32) : lz_dw u' c Y N = lz_dw u c Y N := by
  unfold lz_dw lz_tm lz_cf lz_bd
  rw [lq_st_coef h, lq_st_bound h, lq_st_kind h, lq_st_always h, lq_st_eitherYes h, lq_st_eitherNo h, lq_st_members h]
section
variable {P : (Nat → Nat) → Prop} {BY BN : Int32}
theorem lz_wake_w {c : Nat} (hc : c < 11) {post : SX → Prop} {u : SX} (G : lz_G P BY BN u) (hcl : lq_clash u = 0) (ok : lz_ok u)
    (hs : ∀ s, P s → (∀ i, i < 4 → s i ≤ 3) ∧ lz_sat u c s)
    (K : ∀ u', lz_St P BY BN u u' → lz_Dn u' (lz_dw u c) → post u') : wpX_wake post u (nI c) := by
  have e1 : (nI c).toNatClampNeg = c := nI_clamp (by omega)
  have hin : vp_in (nI c) 11 := vp_in_nI hc (by decide)
  have ek : lq_kind u (nI c).toNatClampNeg = lq_kind u c := by rw [e1]
  refine And.intro hin (br_c (fun h0 => ?_) (fun h0 => And.intro hin (br_c (fun h1 => ?_) (fun h1 => And.intro hin (br_c (fun h2 => ?_) (fun h2 => ?_))))))
  · have h0' : lq_kind u c = 0 := ek.symm.trans h0
    refine lz_linearWake_w hc G ok (fun s hP => ⟨(hs s hP).1, (hs s hP).2.1 h0'⟩) (fun u' S' D' => K u' S' (lz_Dn_i D' (fun Y N g => ⟨fun _ => g, fun h => absurd h0' h, fun h => absurd h0' h⟩)))
  · have h0' : ¬ lq_kind u c = 0 := fun h => h0 (ek.trans h)
    have h1' : lq_kind u c = 1 := ek.symm.trans h1
    refine Exists.intro 5 (lz_wake29 hc (fun s hP => ⟨(hs s hP).1, (hs s hP).2.2.1 h0' h1'⟩) (fun u' S' D' => K u' S' (lz_Dn_i D' (fun Y N g => ⟨fun h => absurd h h0', fun _ _ => g, fun _ h => absurd h1' h⟩))) 5 0 u (by omega) (by omega) (lz_St_rf G) (fun _ _ x hx => absurd hx (Nat.not_lt_zero x)))
  · have h0' : ¬ lq_kind u c = 0 := fun h => h0 (ek.trans h)
    have h1' : ¬ lq_kind u c = 1 := fun h => h1 (ek.trans h)
    have ea : lq_always u (nI c).toNatClampNeg = lq_always u c := by rw [e1]
    have h2' : lq_always u c = 0 := ea.symm.trans h2
    have ey : lq_eitherYes u (nI c).toNatClampNeg = lq_eitherYes u c := by rw [e1]
    have en : lq_eitherNo u (nI c).toNatClampNeg = lq_eitherNo u c := by rw [e1]
    refine And.intro hin (And.intro hin (lz_clause_w (MY := lq_eitherYes u (nI c).toNatClampNeg) (MN := lq_eitherNo u (nI c).toNatClampNeg) G hcl (fun s hP hag => ?_) (fun u' S' D' => K u' S' (lz_Dn_i D' (fun Y N g => ⟨fun h => absurd h h0', fun _ h => absurd h h1', fun _ _ _ => by rw [ey, en] at g; exact g⟩)))))
    rw [ey, en] at hag
    rcases (hs s hP).2.2.2 h0' h1' h2' with ⟨a, ha, ht⟩ | ⟨a, ha, ht⟩
    · exact hag.2 a ha ht
    · exact ht (hag.1 a ha)
  · have h0' : ¬ lq_kind u c = 0 := fun h => h0 (ek.trans h)
    have h1' : ¬ lq_kind u c = 1 := fun h => h1 (ek.trans h)
    have ea : lq_always u (nI c).toNatClampNeg = lq_always u c := by rw [e1]
    exact K u (lz_St_rf G) (fun _ _ => ⟨fun h => absurd h h0', fun _ h => absurd h h1', fun _ _ h => absurd (ea.trans h) h2⟩)
end
end
section
/-! propagate -/
def lz_q (u : SX) : Nat := (lq_learnt u).toNatClampNeg
def lz_LI (P : (Nat → Nat) → Prop) (u : SX) : Prop := lq_learnt u = nI (lz_q u) ∧ lz_q u ≤ 128 ∧ ∀ k, k < lz_q u → lz_ng P (lq_learntNo u k) (lq_learntYes u k)
theorem lz_LI_lr {P : (Nat → Nat) → Prop} {u u' : SX} (h : lq_lr u' = lq_lr u) (k : lz_LI P u) : lz_LI P u' := by
  unfold lz_LI lz_q
  rw [lq_lr_learnt h, lq_lr_learntYes h, lq_lr_learntNo h]
  exact k
def lz_Sp (P : (Nat → Nat) → Prop) (BY BN : Int32) (u0 u : SX) : Prop := lq_st u = lq_st u0 ∧ lq_lr u = lq_lr u0 ∧ lz_G P BY BN u ∧ lz_len u0 ≤ lz_len u ∧ lz_rank u0 ≤ lz_rank u
def lz_fin (u0 : SX) (Y N : Int32) : Prop := (∀ i, i < 4 → lz_cl1 Y N i) ∧ ∀ c, c < 11 → bt (lq_counted u0) c = true → lz_dw u0 c Y N
/-- P knows the constraints that count -/
def lz_hC (P : (Nat → Nat) → Prop) (u : SX) : Prop := ∀ s, P s → (∀ i, i < 4 → s i ≤ 3) ∧ ∀ c, c < 11 → bt (lq_counted u) c = true → lz_sat u c s
section
variable {P : (Nat → Nat) → Prop} {BY BN : Int32}
theorem lz_prop82 {r : Nat} {post : SX → Prop} {J12 : lq_J1} {u0 : SX} (ok : lz_ok u0) (hC : lz_hC P u0) {Q : Int32 → Int32 → Prop}
    (K : ∀ u', lz_St P BY BN u0 u' → lz_Dn u' (fun Y N => Q Y N ∧ ∀ c, c < 11 → bt (lq_counted u0) c = true → lz_dw u0 c Y N) → lq_U (J12 (nI (r + 1))) u') :
    ∀ (n c : Nat) (u : SX), c ≤ 11 → 11 < n + c → lz_St P BY BN u0 u → lz_Dn u (fun Y N => Q Y N ∧ ∀ c', c' < c → bt (lq_counted u0) c' = true → lz_dw u0 c' Y N) → lq_U (wX_propagate_82 post J12 (nI r) n (nI c)) u := by
  intro n
  induction n with
  | zero => intro c u h1 h2; omega
  | succ n ih =>
    intro c u h1 h2 S D
    refine pk_lt 10 c (fun h => ?_) (fun h => br_c (fun hcl => ?_) (fun hcl => ?_))
    · have e : c = 11 := by omega
      subst e
      exact nm_r (nI_1 r) (K u S D)
    · have ec : lq_counted u = lq_counted u0 := lq_st_counted S.1
      refine lz_brb c rfl (by omega) (fun hb => ?_) (fun hb => ?_)
      · have hb' : bt (lq_counted u0) c = true := by rw [← ec]; exact hb
        refine lz_wake_w (u := u) (by omega) S.2.2.1 hcl (lz_ok_st S.1 ok) (fun s hP => ⟨(hC s hP).1, by rw [lz_sat_st S.1]; exact (hC s hP).2 c (by omega) hb'⟩) (fun u' S' D' => nm_r (nI_1 c) (ih (c + 1) u' (by omega) (by omega) (lz_St_tr S S') ?_))
        intro a b
        have d1 := lz_Dn_tr S' D a b
        have d2 : lz_dw u c (lq_yes u') (lq_no u') := D' a b
        rw [lz_dw_st S.1] at d2
        refine ⟨d1.1, fun c' h1 h2 => ?_⟩
        by_cases e : c' = c
        · rw [e]; exact d2
        · exact d1.2 c' (by omega) h2
      · have hb' : ¬ bt (lq_counted u0) c = true := by rw [← ec]; exact lz_ff.mp hb
        refine nm_r (nI_1 c) (ih (c + 1) u (by omega) (by omega) S (lz_Dn_i D (fun Y N g => ⟨g.1, fun c' h1 h2 => ?_⟩)))
        by_cases e : c' = c
        · rw [e] at h2; exact absurd h2 hb'
        · exact g.2 c' (by omega) h2
    · exact nm_r (nI_1 r) (K u S (lz_Dn_c hcl))
theorem lz_prop43 {r : Nat} {post : SX → Prop} {J12 : lq_J1} {u0 : SX} (hL : lz_LI P u0) {Q : Int32 → Int32 → Prop}
    (K : ∀ u', lz_St P BY BN u0 u' → lz_Dn u' Q → ∃ n82 : Nat, lq_U (wX_propagate_82 post J12 (nI r) n82 0) u') :
    ∀ (n k : Nat) (u : SX), k ≤ lz_q u0 → lz_q u0 < n + k → lz_St P BY BN u0 u → lz_Dn u Q → lq_U (wX_propagate_43 post J12 (nI r) n (nI k)) u := by
  intro n
  induction n with
  | zero => intro k u h1 h2; omega
  | succ n ih =>
    intro k u h1 h2 S D
    have hL' := lz_LI_lr S.2.1 hL
    have eq : lz_q u = lz_q u0 := by unfold lz_q; rw [lq_lr_learnt S.2.1]
    have hq := hL.2.1
    refine pk_le (lz_q u) k (fun h => K u S D) (fun h => br_c (fun hcl => ?_) (fun hcl => K u S (lz_Dn_c hcl))) hL'.1
    have e1 : (nI k).toNatClampNeg = k := nI_clamp (by omega)
    refine And.intro (vp_in_nI (by omega) (by decide)) (And.intro (vp_in_nI (by omega) (by decide)) ?_)
    refine lz_clause_w (u := u) S.2.2.1 hcl ?_ (fun u' S' D' => nm_r (nI_1 k) (ih (k + 1) u' (by omega) (by omega) (lz_St_tr S S') (lz_Dn_tr S' D)))
    show lz_ng P (lq_learntNo u (nI k).toNatClampNeg) (lq_learntYes u (nI k).toNatClampNeg)
    rw [e1]
    exact hL'.2.2 k (by omega)
theorem lz_prop12 {post : SX → Prop} {u0 : SX} (ok : lz_ok u0) (hC : lz_hC P u0) (hL : lz_LI P u0)
    (K : ∀ u', lz_Sp P BY BN u0 u' → (lq_clash u' = 0 → lz_fin u0 (lq_yes u') (lq_no u')) → post u') :
    ∀ (n r : Nat) (u : SX), r ≤ 16 → 16 < n + r → lz_Sp P BY BN u0 u → r ≤ lz_len u + 1 → (¬ lq_moved u = 0 → r ≤ lz_len u) → lz_Dn u (lz_fin u0) → lq_U (wX_propagate_12 post n (nI r)) u := by
  intro n
  induction n with
  | zero => intro r u h1 h2; omega
  | succ n ih =>
    intro r u h1 h2 S hr1 hr2 D
    have hl12 := lz_len_le S.2.2.1.1
    refine pk_le 16 r (fun h => absurd h (by omega)) (fun h => br_c (fun hm => K u S (fun hc => D hc hm)) (fun hm => br_c (fun hcl => ?_) (fun hcl => K u S (fun hc => absurd hc hcl))))
    have G1 : lz_G P BY BN (lz_setMoved u 0) := ⟨S.2.2.1.1, Or.inl hcl⟩
    have ok1 : lz_ok (lz_setMoved u 0) := lz_ok_st (u := u0) S.1 ok
    have hL1 : lz_LI P (lz_setMoved u 0) := lz_LI_lr (u := u0) S.2.1 hL
    have hC1 : lz_hC P (lz_setMoved u 0) := by
      intro s hP
      refine ⟨(hC s hP).1, fun c hc hb => ?_⟩
      rw [lz_sat_st (u := u0) (u' := lz_setMoved u 0) S.1]
      exact (hC s hP).2 c hc (by rw [← lq_st_counted S.1]; exact hb)
    refine lz_chain_w (u := lz_setMoved u 0) G1 (fun u' S' D' => ?_)
    refine Exists.intro 129 (lz_prop43 (u0 := lz_setMoved u 0) hL1 (Q := fun Y N => ∀ i, i < 4 → lz_cl1 Y N i) (fun u2 S2 D2 => ?_) 129 0 u' (Nat.zero_le _) (by have := hL1.2.1; omega) S' D')
    refine Exists.intro 12 (lz_prop82 (u0 := lz_setMoved u 0) ok1 hC1 (fun u3 S3 D3 => ?_) 12 0 u2 (by omega) (by omega) S2 (lz_Dn_i D2 (fun Y N g => ⟨g, fun c' hc' => absurd hc' (Nat.not_lt_zero c')⟩)))
    obtain ⟨s1, s2, s3, s4, s5, s6, s7, s8, s9, s10⟩ := S3
    have hlen : lz_len u ≤ lz_len u3 := s6
    have hrank : lz_rank u ≤ lz_rank u3 := s7
    refine ih (r + 1) u3 (by omega) (by omega) ⟨s1.trans S.1, s2.trans S.2.1, s3, Nat.le_trans S.2.2.2.1 hlen, Nat.le_trans S.2.2.2.2 hrank⟩ (by have := hr2 hm; omega) (fun hm3 => ?_) (fun a b => ?_)
    · have : lz_len u < lz_len u3 := s9 rfl hm3
      have := hr2 hm
      omega
    · have d := D3 a b
      refine ⟨d.1, fun c hc hb => ?_⟩
      have := d.2 c hc (by rw [show lq_counted (lz_setMoved u 0) = lq_counted u0 from lq_st_counted S.1]; exact hb)
      rw [lz_dw_st (u := u0) (u' := lz_setMoved u 0) S.1] at this
      exact this
theorem lz_propagate_w {u : SX} (I : lz_K P BY BN u) (ok : lz_ok u) (hC : lz_hC P u) (hL : lz_LI P u) {post : SX → Prop}
    (K : ∀ u', lz_Sp P BY BN u u' → (lq_clash u' = 0 → lz_fin u (lq_yes u') (lq_no u')) → post u') : wpX_propagate post u :=
  Exists.intro 17 (lz_prop12 (u0 := u) ok hC hL K 17 0 (lz_setCM u 0 1) (by omega) (by omega) ⟨rfl, rfl, ⟨I, Or.inl rfl⟩, Nat.le_refl _, Nat.le_refl _⟩ (Nat.zero_le _) (fun _ => Nat.zero_le _) (fun _ h => absurd (show (1 : Int32) = 0 from h) (by decide)))
end
/-! a full and quiet state is a solution -/
theorem lz_lohi : ∀ y0 y1 y2 n0 n1 n2 : Bool, (y0 = true ∨ n0 = true) → (y1 = true ∨ n1 = true) → (y2 = true ∨ n2 = true) → (y0 = true → ¬ n0 = true) → (y1 = true → ¬ n1 = true) → (y2 = true → ¬ n2 = true) → (y1 = true → y0 = true) → (y2 = true → y1 = true) →
    (if y2 = true then 3 else if y1 = true then 2 else if y0 = true then 1 else 0) = (if n0 = true then 0 else if n1 = true then 1 else if n2 = true then 2 else 3) ∧
    (y0 = true ↔ 0 < (if y2 = true then 3 else if y1 = true then 2 else if y0 = true then 1 else 0)) ∧
    (y1 = true ↔ 1 < (if y2 = true then 3 else if y1 = true then 2 else if y0 = true then 1 else 0)) ∧
    (y2 = true ↔ 2 < (if y2 = true then 3 else if y1 = true then 2 else if y0 = true then 1 else 0)) := by
  intro y0 y1 y2 n0 n1 n2
  cases y0 <;> cases y1 <;> cases y2 <;> cases n0 <;> cases n1 <;> cases n2 <;> simp
section
variable {Y N : Int32}
theorem lz_lohi' (hf : ∀ a, a < 12 → bt Y a = true ∨ bt N a = true) (hd : ∀ a, bt Y a = true → ¬ bt N a = true) (hc : ∀ i, i < 4 → lz_cl1 Y N i) {i : Nat} (hi : i < 4) :
    lz_lo Y i = lz_hi N i ∧ ∀ w, w < 3 → (bt Y (3 * i + w) = true ↔ w < lz_lo Y i) := by
  have c2 : bt Y (3 * i + 1) = true → bt Y (3 * i) = true := (hc i hi).1 2 (by omega) (by omega)
  have c3 : bt Y (3 * i + 2) = true → bt Y (3 * i + 1) = true := (hc i hi).1 3 (by omega) (by omega)
  have := lz_lohi (bt Y (3 * i)) (bt Y (3 * i + 1)) (bt Y (3 * i + 2)) (bt N (3 * i)) (bt N (3 * i + 1)) (bt N (3 * i + 2)) (hf _ (by omega)) (hf _ (by omega)) (hf _ (by omega)) (hd _) (hd _) (hd _) c2 c3
  obtain ⟨a, b0, b1, b2⟩ := this
  refine ⟨a, fun w hw => ?_⟩
  have hw3 : w = 0 ∨ w = 1 ∨ w = 2 := by omega
  rcases hw3 with rfl | rfl | rfl
  · exact b0
  · exact b1
  · exact b2
theorem lz_tvF (hf : ∀ a, a < 12 → bt Y a = true ∨ bt N a = true) (hd : ∀ a, bt Y a = true → ¬ bt N a = true) (hc : ∀ i, i < 4 → lz_cl1 Y N i) {a : Nat} (ha : a < 12) : bt Y a = true ↔ lz_tv (lz_lo Y) a := by
  have := (lz_lohi' hf hd hc (show a / 3 < 4 by omega)).2 (a % 3) (by omega)
  rw [show 3 * (a / 3) + a % 3 = a from by omega] at this
  exact this
theorem lz_complete {u : SX} (ok : lz_ok u) (hf : ∀ a, a < 12 → bt Y a = true ∨ bt N a = true) (hd : ∀ a, bt Y a = true → ¬ bt N a = true) (hc : ∀ i, i < 4 → lz_cl1 Y N i) {c : Nat} (hc11 : c < 11) (hw : lz_dw u c Y N) : lz_sat u c (lz_lo Y) := by
  refine ⟨fun h0 => ?_, fun h0 h1 => ?_, fun h0 h1 h2 => ?_⟩
  · have h := hw.1 h0
    rw [lz_ps4] at h ⊢
    have e : ∀ i, i < 4 → lz_tm u c Y N i = lz_cf u c i * (lz_lo Y i : Int) := by
      intro i hi
      unfold lz_tm lz_vl
      rw [← (lz_lohi' hf hd hc hi).1]
      split <;> rfl
    rw [e 0 (by omega), e 1 (by omega), e 2 (by omega), e 3 (by omega)] at h
    exact h
  · intro i j hij hj bi bj e
    have l3 := lz_lo_le Y i
    by_cases h4 : lz_lo Y i < 4
    · refine hw.2.1 h0 h1 (lz_lo Y i) h4 i j hij hj ⟨⟨bi, Nat.le_refl _, ?_⟩, ⟨bj, ?_, ?_⟩⟩
      · rw [(lz_lohi' hf hd hc (by omega)).1]; exact Nat.le_refl _
      · rw [e]; exact Nat.le_refl _
      · rw [e, (lz_lohi' hf hd hc hj).1]; exact Nat.le_refl _
    · omega
  · obtain ⟨⟨a, ha, ea⟩, ⟨b, hb, eb⟩⟩ := ok.2.2 c hc11 h0 h1 h2
    have h := hw.2.2 h0 h1 h2
    refine Classical.byContradiction fun hn => h ⟨fun x hx => ?_, fun x hx => ?_⟩
    · have hx' := hx
      rw [ea, lz_bi (by omega)] at hx'
      rcases hf x (by omega) with hy | hy
      · exact absurd (Or.inl ⟨x, hx, (lz_tvF hf hd hc (by omega)).mp hy⟩) hn
      · exact hy
    · have hx' := hx
      rw [eb, lz_bi (by omega)] at hx'
      rcases hf x (by omega) with hy | hy
      · exact hy
      · exact absurd (Or.inr ⟨x, hx, fun ht => hd x ((lz_tvF hf hd hc (by omega)).mpr ht) hy⟩) hn
end
end
section
def lq_UR {α : Sort _} (f : Int32 → Int32 → Int32 → Int32 → Int32 → Int32 → Int32 → Int32 → Int32 → Int32 → Int32 → (Nat → Int32) → (Nat → Int32) → (Nat → Int32) → (Nat → Int32) → (Nat → Int32) → (Nat → Int32) → (Nat → Int32) → (Nat → Int32) → (Nat → Int32) → (Nat → Int32) → (Nat → Int32) → (Nat → Int32) → (Nat → Int32) → (Nat → Int32) → (Nat → Int32) → (Nat → Int32) → α) (u : SX) : α := f (lq_made u) (lq_inForce u) (lq_yes u) (lq_no u) (lq_trailLen u) (lq_level u) (lq_decided u) (lq_counted u) (lq_learnt u) (lq_clash u) (lq_moved u) (lq_held u) (lq_kind u) (lq_coef u) (lq_bound u) (lq_members u) (lq_eitherYes u) (lq_eitherNo u) (lq_always u) (lq_trail u) (lq_atLevel u) (lq_whyYes u) (lq_whyNo u) (lq_least u) (lq_most u) (lq_learntYes u) (lq_learntNo u)
def lq_UB {α : Sort _} (f : Int32 → Int32 → Int32 → Int32 → Int32 → Int32 → Int32 → Int32 → Int32 → (Nat → Int32) → (Nat → Int32) → (Nat → Int32) → (Nat → Int32) → (Nat → Int32) → (Nat → Int32) → (Nat → Int32) → (Nat → Int32) → (Nat → Int32) → (Nat → Int32) → (Nat → Int32) → (Nat → Int32) → (Nat → Int32) → (Nat → Int32) → (Nat → Int32) → (Nat → Int32) → α) (u : SX) : α := f (lq_made u) (lq_inForce u) (lq_level u) (lq_counted u) (lq_learnt u) (lq_clash u) (lq_clashYes u) (lq_clashNo u) (lq_moved u) (lq_held u) (lq_kind u) (lq_coef u) (lq_bound u) (lq_members u) (lq_eitherYes u) (lq_eitherNo u) (lq_always u) (lq_trail u) (lq_atLevel u) (lq_whyYes u) (lq_whyNo u) (lq_least u) (lq_most u) (lq_learntYes u) (lq_learntNo u)
def lq_UF {α : Sort _} (f : Int32 → Int32 → Int32 → Int32 → Int32 → Int32 → Int32 → Int32 → Int32 → Int32 → Int32 → Int32 → Int32 → α) (u : SX) : α := f (lq_made u) (lq_inForce u) (lq_yes u) (lq_no u) (lq_trailLen u) (lq_level u) (lq_decided u) (lq_counted u) (lq_learnt u) (lq_clash u) (lq_clashYes u) (lq_clashNo u) (lq_moved u)
def lq_UA {α : Sort _} (f : (Nat → Int32) → (Nat → Int32) → (Nat → Int32) → (Nat → Int32) → (Nat → Int32) → (Nat → Int32) → (Nat → Int32) → (Nat → Int32) → (Nat → Int32) → (Nat → Int32) → (Nat → Int32) → (Nat → Int32) → (Nat → Int32) → (Nat → Int32) → (Nat → Int32) → (Nat → Int32) → α) (u : SX) : α := f (lq_held u) (lq_kind u) (lq_coef u) (lq_bound u) (lq_members u) (lq_eitherYes u) (lq_eitherNo u) (lq_always u) (lq_trail u) (lq_atLevel u) (lq_whyYes u) (lq_whyNo u) (lq_least u) (lq_most u) (lq_learntYes u) (lq_learntNo u)
def lz_setLD (u : SX) (l d : Int32) : SX := (lq_made u, lq_inForce u, lq_yes u, lq_no u, lq_trailLen u, l, d, lq_counted u, lq_learnt u, lq_clash u, lq_clashYes u, lq_clashNo u, lq_moved u, lq_held u, lq_kind u, lq_coef u, lq_bound u, lq_members u, lq_eitherYes u, lq_eitherNo u, lq_always u, lq_trail u, lq_atLevel u, lq_whyYes u, lq_whyNo u, lq_least u, lq_most u, lq_learntYes u, lq_learntNo u)
end
section
/-! highestLevel, countAt, below -/
/-- the fuel is given behind a name, so that no unifier unfolds the loop by it -/
theorem lz_ex (W : Nat → Prop) (n : Nat) (h : W n) : ∃ n, W n := Exists.intro n h
section
variable {P : (Nat → Nat) → Prop} {BY BN : Int32}
theorem lz_asg {u : SX} (I : lz_K P BY BN u) {a : Nat} (h : bt (lq_yes u) a = true ∨ bt (lq_no u) a = true) :
    a < 12 ∧ lq_atLevel u a = nI (lz_L u a) ∧ lz_L u a ≤ lz_lev u ∧ lz_lev u ≤ 12 := by
  have hl := lz_lev_le I
  have hn := lz_len_le I
  obtain ⟨k1, k2, k3, k4, k5, k6, k7⟩ := I
  obtain ⟨t, ht, e⟩ := (k7.2.2.1 a).mp h
  subst e
  exact ⟨k7.1 t ht, k4 t ht, k5 t ht, by omega⟩
theorem lz_hl_l {u : SX} {X : Int32} (hX : ∀ a, a < 12 → bt X a = true → lq_atLevel u a = nI (lz_L u a) ∧ lz_L u a ≤ 12) {post : Int32 → Prop}
    (K : ∀ h, h ≤ 12 → (∀ a, a < 12 → bt X a = true → lz_L u a ≤ h) → (h = 0 ∨ ∃ a, a < 12 ∧ bt X a = true ∧ lz_L u a = h) → post (nI h)) :
    ∀ n a h, a ≤ 12 → 12 < n + a → h ≤ 12 → (∀ b, b < a → bt X b = true → lz_L u b ≤ h) → (h = 0 ∨ ∃ b, b < 12 ∧ bt X b = true ∧ lz_L u b = h) → lq_U (wX_highestLevel_4 post X) u n (nI h) (nI a) := by
  intro n
  induction n with
  | zero => intro a h h1 h2; omega
  | succ n ih =>
    intro a h h1 h2 h3 h4 h5
    refine pk_le 12 a (fun g => ?_) (fun g => ?_)
    · have e : a = 12 := by omega
      subst e
      exact K h h3 h4 h5
    · have e1 : (nI a).toNatClampNeg = a := nI_clamp (by omega)
      refine lz_brb a rfl (by omega) (fun hb => ?_) (fun hb => ?_)
      · obtain ⟨x1, x2⟩ := hX a g hb
        have el : lq_atLevel u (nI a).toNatClampNeg = nI (lz_L u a) := by rw [e1]; exact x1
        refine And.intro (vp_in_nI g (by decide)) (pk_le (lz_L u a) h (fun hle => ?_) (fun hgt => ?_) el)
        · refine nm_r (nI_1 a) (ih (a + 1) h (by omega) (by omega) h3 (fun b hb' hx => ?_) h5)
          by_cases e : b = a
          · rw [e]; exact hle
          · exact h4 b (by omega) hx
        · refine And.intro (vp_in_nI g (by decide)) (nm_r el (nm_r (nI_1 a) (ih (a + 1) (lz_L u a) (by omega) (by omega) x2 (fun b hb' hx => ?_) (Or.inr ⟨a, g, hb, rfl⟩))))
          by_cases e : b = a
          · rw [e]; exact Nat.le_refl _
          · have := h4 b (by omega) hx
            omega
      · refine nm_r (nI_1 a) (ih (a + 1) h (by omega) (by omega) h3 (fun b hb' hx => ?_) h5)
        by_cases e : b = a
        · rw [e] at hx; exact absurd hx (lz_ff.mp hb)
        · exact h4 b (by omega) hx
theorem lz_hl_w {u : SX} {X : Int32} (hX : ∀ a, a < 12 → bt X a = true → lq_atLevel u a = nI (lz_L u a) ∧ lz_L u a ≤ 12) {post : Int32 → Prop}
    (K : ∀ h, h ≤ 12 → (∀ a, a < 12 → bt X a = true → lz_L u a ≤ h) → (h = 0 ∨ ∃ a, a < 12 ∧ bt X a = true ∧ lz_L u a = h) → post (nI h)) : wpX_highestLevel post u X :=
  lz_ex (fun n => lq_U (wX_highestLevel_4 post X) u n (nI 0) (nI 0)) 13 (lz_hl_l hX K 13 0 0 (by omega) (by omega) (by omega) (fun b hb => absurd hb (Nat.not_lt_zero b)) (Or.inl rfl))
def lz_two (u : SX) (X : Int32) (l : Nat) : Prop := ∃ b b', b ≠ b' ∧ bt X b = true ∧ lz_L u b = l ∧ bt X b' = true ∧ lz_L u b' = l
theorem lz_ca_l {u : SX} {X : Int32} {l : Nat} (hl : l ≤ 12) (hX : ∀ a, a < 12 → bt X a = true → lq_atLevel u a = nI (lz_L u a) ∧ lz_L u a ≤ 12) {post : Int32 → Prop}
    (K : ∀ k, k ≤ 12 → (2 ≤ k → lz_two u X l) → post (nI k)) :
    ∀ n a k, a ≤ 12 → 12 < n + a → k ≤ a → (1 ≤ k → ∃ b, b < a ∧ bt X b = true ∧ lz_L u b = l) → (2 ≤ k → lz_two u X l) → lq_U (wX_countAt_5 post X (nI l)) u n (nI k) (nI a) := by
  intro n
  induction n with
  | zero => intro a k h1 h2; omega
  | succ n ih =>
    intro a k h1 h2 h3 h4 h5
    refine pk_le 12 a (fun g => ?_) (fun g => ?_)
    · exact K k (by omega) h5
    · have e1 : (nI a).toNatClampNeg = a := nI_clamp (by omega)
      have keep : lq_U (wX_countAt_5 post X (nI l)) u n (nI k) (nI (a + 1)) := ih (a + 1) k (by omega) (by omega) (by omega) (fun hk => by
        obtain ⟨b, hb, g⟩ := h4 hk
        exact ⟨b, by omega, g⟩) h5
      refine lz_brb a rfl (by omega) (fun hb => ?_) (fun hb => nm_r (nI_1 a) keep)
      obtain ⟨x1, x2⟩ := hX a g hb
      have el : lq_atLevel u (nI a).toNatClampNeg = nI (lz_L u a) := by rw [e1]; exact x1
      refine And.intro (vp_in_nI g (by decide)) (pk_eq (lz_L u a) l (fun he => ?_) (fun hne => nm_r (nI_1 a) keep) el)
      refine nm_r (nI_1 k) (nm_r (nI_1 a) (ih (a + 1) (k + 1) (by omega) (by omega) (by omega) (fun _ => ⟨a, by omega, hb, he⟩) (fun h2k => ?_)))
      obtain ⟨b, hba, g1, g2⟩ := h4 (by omega)
      exact ⟨b, a, by omega, g1, g2, hb, he⟩
theorem lz_ca_w {u : SX} {X : Int32} {l : Nat} (hl : l ≤ 12) (hX : ∀ a, a < 12 → bt X a = true → lq_atLevel u a = nI (lz_L u a) ∧ lz_L u a ≤ 12) {post : Int32 → Prop}
    (K : ∀ k, k ≤ 12 → (2 ≤ k → lz_two u X l) → post (nI k)) : wpX_countAt post u X (nI l) :=
  lz_ex (fun n => lq_U (wX_countAt_5 post X (nI l)) u n (nI 0) (nI 0)) 13 (lz_ca_l hl hX K 13 0 0 (by omega) (by omega) (by omega) (fun h => by omega) (fun h => by omega))
theorem lz_be_l {u : SX} {X x : Int32} {post : Int32 → Prop} (K : ∀ R, (∀ a, bt R a = true → bt X a = true) → post R) :
    ∀ n a R, a ≤ 12 → 12 < n + a → (∀ b, bt R b = true → bt X b = true) → lq_U (wX_below_5 post X x) u n R (nI a) := by
  intro n
  induction n with
  | zero => intro a R h1 h2; omega
  | succ n ih =>
    intro a R h1 h2 h3
    refine pk_le 12 a (fun g => K R h3) (fun g => ?_)
    refine lz_brb a rfl (by omega) (fun hb => ?_) (fun hb => nm_r (nI_1 a) (ih (a + 1) R (by omega) (by omega) h3))
    refine And.intro (vp_in_nI g (by decide)) (br_c (fun _ => nm_r (nI_1 a) (ih (a + 1) R (by omega) (by omega) h3)) (fun _ => nm_e (nm_r (nI_1 a) (ih (a + 1) _ (by omega) (by omega) (fun b hb' => ?_)))))
    rcases (lz_orb _ (by omega) b).mp hb' with h | h
    · exact h3 b h
    · rw [h]; exact hb
theorem lz_be_w {u : SX} {X x : Int32} {post : Int32 → Prop} (K : ∀ R, (∀ a, bt R a = true → bt X a = true) → post R) : wpX_below post u X x :=
  lz_ex (fun n => lq_U (wX_below_5 post X x) u n 0 (nI 0)) 13 (lz_be_l K 13 0 0 (by omega) (by omega) (fun b hb => absurd hb (lz_0 b)))
end
end
section
/-! resolve -/
section
variable {P : (Nat → Nat) → Prop} {BY BN : Int32}
theorem lz_m1 {j : Nat} (h : 1 ≤ j) : nI j - 1 + (-1) = nI (j - 1) - 1 := by
  rw [lz_dn1 h]
  exact (Int32.sub_eq_add_neg _ _).symm
theorem lz_res_l {u : SX} (I : lz_K P BY BN u) {top : Nat} (ht : top ≤ 12) {post : SX → Prop}
    (K : ∀ cY cN, (∀ a, bt cY a = true → bt (lq_yes u) a = true) → (∀ a, bt cN a = true → bt (lq_no u) a = true) → lz_ng P cY cN → post (lz_setClash u (lq_clash u) cY cN)) :
    ∀ n j k cY cN, j ≤ lz_len u → j < n → (∀ a, bt cY a = true → bt (lq_yes u) a = true) → (∀ a, bt cN a = true → bt (lq_no u) a = true) → lz_ng P cY cN →
      (∀ t, j ≤ t → t < lz_len u → (bt cY (lz_T u t) = true ∨ bt cN (lz_T u t) = true) → lz_L u (lz_T u t) ≠ top) → k ≤ 12 → (2 ≤ k → lz_two u (cY ||| cN) top) →
      lq_UR (wX_resolve_22 post (nI top)) u n (nI k) (nI j - 1) cY cN := by
  have hlen := lz_len_le I
  have I' := I
  obtain ⟨k1, k2, k3, k4, k5, k6, ti⟩ := I
  obtain ⟨h1, h2, h3, h4, h5, h6, h7, h8, h9, h10⟩ := ti
  intro n
  induction n with
  | zero => intro j k cY cN g1 g2; omega
  | succ n ih =>
    intro j k cY cN g1 g2 hy hn hg hin hk12 hk
    have hpost := K cY cN hy hn hg
    by_cases hj : j = 0
    · subst hj
      exact br_t (by decide) hpost
    · have ej : nI j - 1 = nI (j - 1) := lz_dn1 (by omega)
      have ejc : (nI j - 1).toNatClampNeg = j - 1 := by rw [ej]; exact nI_clamp (by omega)
      have hjl : j - 1 < lz_len u := by omega
      refine br_f (by rw [ej]; exact nI_pos (by omega)) (pk_le k 1 (fun _ => hpost) (fun hk2 => ?_))
      have ha := h1 (j - 1) hjl
      have etr : lq_trail u (nI j - 1).toNatClampNeg = nI (lz_T u (j - 1)) := by rw [ejc]; exact k3 (j - 1) hjl
      refine And.intro (by rw [ej]; exact vp_in_nI (by omega) (by decide)) (nm_r (e' := nI (lz_T u (j - 1))) etr (nm_e (lz_br0 (lz_T u (j - 1)) rfl (by omega) (fun hb => ?_) (fun hb => ?_))))
      · refine nm_r (lz_m1 (by omega)) (ih (j - 1) k cY cN (by omega) (by omega) hy hn hg (fun t t1 t2 t3 => ?_) hk12 hk)
        by_cases e : t = j - 1
        · subst e
          exact absurd ((lz_or _ _ _).mpr t3) (lz_ff.mp hb)
        · exact hin t (by omega) t2 t3
      · have ec : (nI (lz_T u (j - 1))).toNatClampNeg = lz_T u (j - 1) := nI_clamp (by omega)
        have hia : vp_in (nI (lz_T u (j - 1))) 12 := vp_in_nI ha (by decide)
        have hll := (lz_asg I' ((h3 _).mpr ⟨j - 1, hjl, rfl⟩)).2.2
        refine And.intro hia (pk_eq (lz_L u (lz_T u (j - 1))) top (fun he => ?_) (fun hne => ?_) (by rw [ec]; exact k4 (j - 1) hjl))
        · have hD : ¬ bt (lq_decided u) (lz_T u (j - 1)) = true := by
            intro hd
            obtain ⟨_, d2, _⟩ := h7 (j - 1) hjl hd
            obtain ⟨b, b', hbb, x1, x2, x3, x4⟩ := hk hk2
            have key : ∀ b, b ≠ lz_T u (j - 1) → bt (cY ||| cN) b = true → lz_L u b = top → False := by
              intro b hne hx hl
              have hx' := (lz_or _ _ _).mp hx
              have hasg : bt (lq_yes u) b = true ∨ bt (lq_no u) b = true := by
                rcases hx' with h | h
                · exact Or.inl (hy b h)
                · exact Or.inr (hn b h)
              obtain ⟨t, ht', e⟩ := (h3 b).mp hasg
              subst e
              by_cases c1 : j ≤ t
              · exact hin t c1 ht' hx' hl
              · have c2 : t ≠ j - 1 := fun e => hne (by rw [e])
                have := d2 t (by omega)
                omega
            by_cases e : b = lz_T u (j - 1)
            · exact key b' (fun e' => hbb (e.trans e'.symm)) x3 x4
            · exact key b e x1 x2
          obtain ⟨r1, r2, r3⟩ := h8 (j - 1) hjl hD
          have ewy : lq_whyYes u (nI (lz_T u (j - 1))).toNatClampNeg = lq_whyYes u (lz_T u (j - 1)) := by rw [ec]
          have ewn : lq_whyNo u (nI (lz_T u (j - 1))).toNatClampNeg = lq_whyNo u (lz_T u (j - 1)) := by rw [ec]
          refine And.intro hia (nm_r (e' := (cY &&& (lz_b (lz_T u (j - 1)) ^^^ (-1))) ||| lq_whyYes u (lz_T u (j - 1))) (congrArg (fun z => (cY &&& (lz_b (lz_T u (j - 1)) ^^^ (-1))) ||| z) ewy) (And.intro hia (nm_r (e' := (cN &&& (lz_b (lz_T u (j - 1)) ^^^ (-1))) ||| lq_whyNo u (lz_T u (j - 1))) (congrArg (fun z => (cN &&& (lz_b (lz_T u (j - 1)) ^^^ (-1))) ||| z) ewn) ?_)))
          have bY : ∀ a, bt ((cY &&& (lz_b (lz_T u (j - 1)) ^^^ (-1))) ||| lq_whyYes u (lz_T u (j - 1))) a = true ↔ (bt cY a = true ∧ a ≠ lz_T u (j - 1)) ∨ bt (lq_whyYes u (lz_T u (j - 1))) a = true := by
            intro a; rw [lz_or, lz_anb _ (by omega)]
          have bN : ∀ a, bt ((cN &&& (lz_b (lz_T u (j - 1)) ^^^ (-1))) ||| lq_whyNo u (lz_T u (j - 1))) a = true ↔ (bt cN a = true ∧ a ≠ lz_T u (j - 1)) ∨ bt (lq_whyNo u (lz_T u (j - 1))) a = true := by
            intro a; rw [lz_or, lz_anb _ (by omega)]
          generalize (cY &&& (lz_b (lz_T u (j - 1)) ^^^ (-1))) ||| lq_whyYes u (lz_T u (j - 1)) = cY' at bY ⊢
          generalize (cN &&& (lz_b (lz_T u (j - 1)) ^^^ (-1))) ||| lq_whyNo u (lz_T u (j - 1)) = cN' at bN ⊢
          have hy' : ∀ a, bt cY' a = true → bt (lq_yes u) a = true := by
            intro a h
            rcases (bY a).mp h with h | h
            · exact hy a h.1
            · exact (r1 a h).1
          have hn' : ∀ a, bt cN' a = true → bt (lq_no u) a = true := by
            intro a h
            rcases (bN a).mp h with h | h
            · exact hn a h.1
            · exact (r2 a h).1
          have hg' : lz_ng P cY' cN' := by
            intro s hP hag
            obtain ⟨s1, s2⟩ := r3 s hP ⟨fun a h => hag.1 a ((bY a).mpr (Or.inr h)), fun a h => hag.2 a ((bN a).mpr (Or.inr h))⟩
            refine hg s hP ⟨fun a h => ?_, fun a h => ?_⟩
            · by_cases e : a = lz_T u (j - 1)
              · subst e; exact s1 (hy _ h)
              · exact hag.1 a ((bY a).mpr (Or.inl ⟨h, e⟩))
            · by_cases e : a = lz_T u (j - 1)
              · subst e; exact s2 (hn _ h)
              · exact hag.2 a ((bN a).mpr (Or.inl ⟨h, e⟩))
          refine lz_ca_w (u := lz_setClash u (lq_clash u) cY' cN') ht (fun a ha' hb' => ?_) (fun k' hk' htw => nm_r (lz_m1 (by omega)) (ih (j - 1) k' cY' cN' (by omega) (by omega) hy' hn' hg' (fun t t1 t2 t3 => ?_) hk' htw))
          · have hasg : bt (lq_yes u) a = true ∨ bt (lq_no u) a = true := by
              rcases (lz_or _ _ _).mp hb' with h | h
              · exact Or.inl (hy' a h)
              · exact Or.inr (hn' a h)
            obtain ⟨_, q2, q3, q4⟩ := lz_asg I' hasg
            exact ⟨q2, Nat.le_trans q3 q4⟩
          · have inj : ∀ t'', t'' < j - 1 → lz_T u t'' = lz_T u t → False := by
              intro t'' h e
              have := h2 t'' t (by omega) t2 e
              omega
            rcases t3 with h | h
            · rcases (bY _).mp h with h | h
              · have c2 : t ≠ j - 1 := fun e => h.2 (by rw [e])
                exact hin t (by omega) t2 (Or.inl h.1)
              · obtain ⟨_, t'', q1, q2⟩ := r1 _ h
                exact (inj t'' q1 q2).elim
            · rcases (bN _).mp h with h | h
              · have c2 : t ≠ j - 1 := fun e => h.2 (by rw [e])
                exact hin t (by omega) t2 (Or.inr h.1)
              · obtain ⟨_, t'', q1, q2⟩ := r2 _ h
                exact (inj t'' q1 q2).elim
        · refine nm_r (lz_m1 (by omega)) (ih (j - 1) k cY cN (by omega) (by omega) hy hn hg (fun t t1 t2 t3 => ?_) hk12 hk)
          by_cases e : t = j - 1
          · subst e
            exact hne
          · exact hin t (by omega) t2 t3
theorem lz_resolve_w {u : SX} (I : lz_K P BY BN u) {top : Nat} (ht : top ≤ 12) {post : SX → Prop}
    (hy : ∀ a, bt (lq_clashYes u) a = true → bt (lq_yes u) a = true) (hn : ∀ a, bt (lq_clashNo u) a = true → bt (lq_no u) a = true) (hg : lz_ng P (lq_clashYes u) (lq_clashNo u))
    (K : ∀ cY cN, (∀ a, bt cY a = true → bt (lq_yes u) a = true) → (∀ a, bt cN a = true → bt (lq_no u) a = true) → lz_ng P cY cN → post (lz_setClash u (lq_clash u) cY cN)) : wpX_resolve post u (nI top) := by
  have hlen := lz_len_le I
  refine lz_ca_w (u := u) ht (fun a ha hb => ?_) (fun k hk htw => nm_r (e' := nI (lz_len u) - 1) (congrArg (fun z => z - 1) I.1) (lz_ex (fun n => lq_UR (wX_resolve_22 post (nI top)) u n (nI k) (nI (lz_len u) - 1) (lq_clashYes u) (lq_clashNo u)) 13 (lz_res_l I ht K 13 (lz_len u) k _ _ (Nat.le_refl _) (by omega) hy hn hg (fun t t1 t2 => by omega) hk htw)))
  have hasg : bt (lq_yes u) a = true ∨ bt (lq_no u) a = true := by
    rcases (lz_or _ _ _).mp hb with h | h
    · exact Or.inl (hy a h)
    · exact Or.inr (hn a h)
  obtain ⟨_, q2, q3, q4⟩ := lz_asg I hasg
  exact ⟨q2, Nat.le_trans q3 q4⟩
end
end
section
/-! backTo, turnLast, learn -/
section
variable {P : (Nat → Nat) → Prop} {BY BN : Int32}
/-- what is left of the trail behind backTo -/
def lz_cutOK (u : SX) (l m : Nat) (y n d : Int32) : Prop :=
  m ≤ lz_len u ∧ (∀ t, t < m → lz_L u (lz_T u t) ≤ l) ∧ (∀ t, m ≤ t → t < lz_len u → l < lz_L u (lz_T u t)) ∧
  (∀ c, bt y c = true ↔ bt (lq_yes u) c = true ∧ ∃ t, t < m ∧ lz_T u t = c) ∧
  (∀ c, bt n c = true ↔ bt (lq_no u) c = true ∧ ∃ t, t < m ∧ lz_T u t = c) ∧
  (∀ c, bt d c = true ↔ bt (lq_decided u) c = true ∧ ∃ t, t < m ∧ lz_T u t = c)
theorem lz_cut1 {X : Int32} {T : Nat → Nat} {len m : Nat} {Z : Int32} (hm : m < len) (h12 : T m < 12) (hinj : ∀ t t', t < len → t' < len → T t = T t' → t = t')
    (h : ∀ c, bt Z c = true ↔ bt X c = true ∧ ∃ t, t < m + 1 ∧ T t = c) : ∀ c, bt (Z &&& (lz_b (T m) ^^^ (-1))) c = true ↔ bt X c = true ∧ ∃ t, t < m ∧ T t = c := by
  intro c
  rw [lz_anb _ (by omega), h c]
  constructor
  · rintro ⟨⟨h1, t, ht, e⟩, hne⟩
    refine ⟨h1, t, ?_, e⟩
    have : t ≠ m := fun et => hne (by rw [← e, et])
    omega
  · rintro ⟨h1, t, ht, e⟩
    refine ⟨⟨h1, t, by omega, e⟩, fun ec => ?_⟩
    have := hinj t m (by omega) hm (by rw [e, ec])
    omega
theorem lz_bk_l {u : SX} (I : lz_K P BY BN u) {l : Nat} (hl12 : l ≤ 12) {post : SX → Prop}
    (K : ∀ m y n d, lz_cutOK u l m y n d → post (lz_setBack u y n (nI m) d (nI l))) :
    ∀ n j m y no d, j ≤ m → m ≤ lz_len u → j < n → (∀ t, j ≤ t → t < m → lz_L u (lz_T u t) ≤ l) → (∀ t, m ≤ t → t < lz_len u → l < lz_L u (lz_T u t)) →
      (∀ c, bt y c = true ↔ bt (lq_yes u) c = true ∧ ∃ t, t < m ∧ lz_T u t = c) →
      (∀ c, bt no c = true ↔ bt (lq_no u) c = true ∧ ∃ t, t < m ∧ lz_T u t = c) →
      (∀ c, bt d c = true ↔ bt (lq_decided u) c = true ∧ ∃ t, t < m ∧ lz_T u t = c) →
      lq_UB (wX_backTo_7 post (nI l)) u n (nI j - 1) y no (nI m) d := by
  have hlen := lz_len_le I
  have I' := I
  obtain ⟨k1, k2, k3, k4, k5, k6, ti⟩ := I
  obtain ⟨h1, h2, h3, h4, h5, h6, h7, h8, h9, h10⟩ := ti
  intro n
  induction n with
  | zero => intro j m y no d g1 g2 g3; omega
  | succ n ih =>
    intro j m y no d g1 g2 g3 a1 a2 by' bn bd
    by_cases hj : j = 0
    · subst hj
      exact br_t (by decide) (K m y no d ⟨g2, fun t ht => a1 t (Nat.zero_le t) ht, a2, by', bn, bd⟩)
    · have ej : nI j - 1 = nI (j - 1) := lz_dn1 (by omega)
      have ejc : (nI j - 1).toNatClampNeg = j - 1 := by rw [ej]; exact nI_clamp (by omega)
      have hjl : j - 1 < lz_len u := by omega
      have ha := h1 (j - 1) hjl
      have etr : lq_trail u (nI j - 1).toNatClampNeg = nI (lz_T u (j - 1)) := by rw [ejc]; exact k3 (j - 1) hjl
      have ec : (nI (lz_T u (j - 1))).toNatClampNeg = lz_T u (j - 1) := nI_clamp (by omega)
      have hll := (lz_asg I' ((h3 _).mpr ⟨j - 1, hjl, rfl⟩)).2.2
      refine br_f (by rw [ej]; exact nI_pos (by omega)) (And.intro (by rw [ej]; exact vp_in_nI (by omega) (by decide)) (nm_r (e' := nI (lz_T u (j - 1))) etr (And.intro (vp_in_nI ha (by decide)) (pk_le (lz_L u (lz_T u (j - 1))) l (fun hle => ?_) (fun hgt => ?_) (by rw [ec]; exact k4 (j - 1) hjl)))))
      · refine nm_r (lz_m1 (by omega)) (ih (j - 1) m y no d (by omega) g2 (by omega) (fun t t1 t2 => ?_) a2 by' bn bd)
        by_cases e : t = j - 1
        · subst e; exact hle
        · exact a1 t (by omega) t2
      · have hmj : m = j := by
          refine Nat.le_antisymm (Nat.le_of_not_lt fun hlt => ?_) g1
          have q1 := a1 j (Nat.le_refl j) hlt
          have q2 := h5 (j - 1) j (by omega) (by omega)
          omega
        subst hmj
        have em : m - 1 + 1 = m := by omega
        refine nm_e (nm_e (nm_e (nm_r (lz_m1 (by omega)) ?_)))
        show lq_UB (wX_backTo_7 post (nI l)) u n (nI (m - 1) - 1) _ _ (nI m - 1) _
        rw [ej]
        refine ih (m - 1) (m - 1) _ _ _ (by omega) (by omega) (by omega) (fun t t1 t2 => by omega) (fun t t1 t2 => ?_) (lz_cut1 hjl ha h2 (by rw [em]; exact by')) (lz_cut1 hjl ha h2 (by rw [em]; exact bn)) (lz_cut1 hjl ha h2 (by rw [em]; exact bd))
        have := h5 (m - 1) t t1 t2
        omega
theorem lz_backTo_w {u : SX} (I : lz_K P BY BN u) {l : Nat} (hl12 : l ≤ 12) {post : SX → Prop}
    (K : ∀ m y n d, lz_cutOK u l m y n d → post (lz_setBack u y n (nI m) d (nI l))) : wpX_backTo post u (nI l) := by
  have hlen := lz_len_le I
  have h3 := I.2.2.2.2.2.2.2.2.1
  have h6 := I.2.2.2.2.2.2.2.2.2.2.2.1
  refine nm_r (e' := nI (lz_len u) - 1) (congrArg (fun z => z - 1) I.1) (lz_ex (fun n => lq_UB (wX_backTo_7 post (nI l)) u n (nI (lz_len u) - 1) (lq_yes u) (lq_no u) (lq_trailLen u) (lq_decided u)) 13 ?_)
  show lq_UB (wX_backTo_7 post (nI l)) u 13 (nI (lz_len u) - 1) (lq_yes u) (lq_no u) (lq_trailLen u) (lq_decided u)
  rw [I.1]
  exact lz_bk_l I hl12 K 13 (lz_len u) (lz_len u) (lq_yes u) (lq_no u) (lq_decided u) (Nat.le_refl _) (Nat.le_refl _) (by omega) (fun t t1 t2 => by omega) (fun t t1 t2 => by omega)
    (fun c => ⟨fun h => ⟨h, (h3 c).mp (Or.inl h)⟩, fun h => h.1⟩) (fun c => ⟨fun h => ⟨h, (h3 c).mp (Or.inr h)⟩, fun h => h.1⟩) (fun c => ⟨fun h => ⟨h, (h3 c).mp (Or.inr (h6 c h))⟩, fun h => h.1⟩)
theorem lz_back_K {u : SX} (I : lz_K P BY BN u) {l m : Nat} {y n d : Int32} (hl : l ≤ lz_lev u) (C : lz_cutOK u l m y n d) :
    lz_K P BY BN (lz_setBack u y n (nI m) d (nI l)) ∧ lz_len (lz_setBack u y n (nI m) d (nI l)) = m ∧ lz_lev (lz_setBack u y n (nI m) d (nI l)) = l := by
  have hlen := lz_len_le I
  have hlev := lz_lev_le I
  obtain ⟨k1, k2, k3, k4, k5, k6, ti⟩ := I
  obtain ⟨c1, c2, c3, c4, c5, c6⟩ := C
  have el : lz_len (lz_setBack u y n (nI m) d (nI l)) = m := by
    show (nI m).toNatClampNeg = m
    exact nI_clamp (by omega)
  have ev : lz_lev (lz_setBack u y n (nI m) d (nI l)) = l := by
    show (nI l).toNatClampNeg = l
    exact nI_clamp (by omega)
  refine ⟨⟨?_, ?_, ?_, ?_, ?_, ?_, ?_⟩, el, ev⟩
  · rw [el]; rfl
  · rw [ev]; rfl
  · rw [el]; exact fun t ht => k3 t (by omega)
  · rw [el]; exact fun t ht => k4 t (by omega)
  · rw [el, ev]; exact c2
  · rw [el, ev]
    intro l' h1 h2
    obtain ⟨t, ht, g1, g2⟩ := k6 l' h1 (by omega)
    have htm : t < m := by
      refine Nat.lt_of_not_le fun hle => ?_
      have := c3 t hle ht
      omega
    exact ⟨t, htm, (c6 _).mpr ⟨g1, t, htm, rfl⟩, g2⟩
  · unfold lz_TIu
    rw [el]
    exact lz_cut ti c1 c4 c5 c6 (fun t t1 t2 => by have := c3 t t1 t2; omega)
/-- a decided atom of a level is the only one -/
theorem lz_dec1 {u : SX} (I : lz_K P BY BN u) {a b : Nat} (ha : bt (lq_decided u) a = true) (hb : bt (lq_decided u) b = true) (e : lz_L u a = lz_L u b) : a = b := by
  obtain ⟨k1, k2, k3, k4, k5, k6, ti⟩ := I
  obtain ⟨h1, h2, h3, h4, h5, h6, h7, h8, h9, h10⟩ := ti
  obtain ⟨t, ht, et⟩ := (h3 a).mp (Or.inr (h6 a ha))
  obtain ⟨t', ht', et'⟩ := (h3 b).mp (Or.inr (h6 b hb))
  rcases Nat.lt_or_ge t t' with h | h
  · have := (h7 t' ht' (by rw [et']; exact hb)).2.1 t h
    rw [et, et'] at this
    omega
  · rcases Nat.lt_or_ge t' t with h' | h'
    · have := (h7 t ht (by rw [et]; exact ha)).2.1 t' h'
      rw [et, et'] at this
      omega
    · have : t = t' := by omega
      rw [← et, ← et', this]
theorem lz_tl_l {u : SX} (I : lz_K P BY BN u) {top : Nat} (ht : top ≤ 12) {post : Int32 → SX → Prop}
    (K : ∀ w E, w < 12 → (∀ b, b < 12 → bt (lq_decided u) b = true → lz_L u b = top → w = b) → (∀ b, bt E b = true ↔ b < 12 ∧ bt (lq_decided u) b = true ∧ lz_L u b < top) →
      wpX_backTo (fun u' => wpX_assign (fun u'' => post 1 u'') u' (nI w) 1 0 E) u (nI top - 1)) :
    ∀ n a w E, a ≤ 12 → 12 < n + a → w < 12 → (∀ b, b < a → bt (lq_decided u) b = true → lz_L u b = top → w = b) → (∀ b, bt E b = true ↔ b < a ∧ bt (lq_decided u) b = true ∧ lz_L u b < top) → lq_U (wX_turnLast_7 post (nI top)) u n (nI w) E (nI a) := by
  intro n
  induction n with
  | zero => intro a w E h1 h2; omega
  | succ n ih =>
    intro a w E h1 h2 h3 h4 h5
    refine pk_le 12 a (fun g => ?_) (fun g => ?_)
    · have e : a = 12 := by omega
      subst e
      exact K w E h3 h4 h5
    · have e1 : (nI a).toNatClampNeg = a := nI_clamp (by omega)
      refine lz_brb a rfl (by omega) (fun hb => ?_) (fun hb => ?_)
      · have hb' : bt (lq_decided u) a = true := hb
        obtain ⟨_, x1, x2, x3⟩ := lz_asg I (Or.inr (I.2.2.2.2.2.2.2.2.2.2.2.1 a hb'))
        have el : lq_atLevel u (nI a).toNatClampNeg = nI (lz_L u a) := by rw [e1]; exact x1
        refine And.intro (vp_in_nI g (by decide)) (pk_eq (lz_L u a) top (fun he => ?_) (fun hne => ?_) el)
        · refine nm_r (nI_1 a) (ih (a + 1) a E (by omega) (by omega) g (fun b _ hd hl => lz_dec1 I hb' hd (he.trans hl.symm)) (fun b => ?_))
          rw [h5 b]
          constructor
          · rintro ⟨q1, q2⟩; exact ⟨by omega, q2⟩
          · rintro ⟨q1, q2, q3⟩
            have : b ≠ a := fun e => by rw [e] at q3; omega
            exact ⟨by omega, q2, q3⟩
        · have h4' : ∀ b, b < a + 1 → bt (lq_decided u) b = true → lz_L u b = top → w = b := by
            intro b q1 q2 q3
            have : b ≠ a := fun e => hne (e ▸ q3)
            exact h4 b (by omega) q2 q3
          refine And.intro (vp_in_nI g (by decide)) (pk_le top (lz_L u a) (fun hle => ?_) (fun hgt => ?_) rfl el)
          · refine nm_r (nI_1 a) (ih (a + 1) w E (by omega) (by omega) h3 h4' (fun b => ?_))
            rw [h5 b]
            constructor
            · rintro ⟨q1, q2⟩; exact ⟨by omega, q2⟩
            · rintro ⟨q1, q2, q3⟩
              have : b ≠ a := fun e => by rw [e] at q3; omega
              exact ⟨by omega, q2, q3⟩
          · refine nm_e (nm_r (nI_1 a) (ih (a + 1) w _ (by omega) (by omega) h3 h4' (fun b => ?_)))
            rw [lz_orb _ (by omega), h5 b]
            constructor
            · rintro (⟨q1, q2⟩ | q)
              · exact ⟨by omega, q2⟩
              · rw [q]; exact ⟨by omega, hb', hgt⟩
            · rintro ⟨q1, q2, q3⟩
              by_cases e : b = a
              · exact Or.inr e
              · exact Or.inl ⟨by omega, q2, q3⟩
      · have hb' : ¬ bt (lq_decided u) a = true := lz_ff.mp hb
        refine nm_r (nI_1 a) (ih (a + 1) w E (by omega) (by omega) h3 (fun b q1 q2 q3 => ?_) (fun b => ?_))
        · have : b ≠ a := fun e => hb' (e ▸ q2)
          exact h4 b (by omega) q2 q3
        · rw [h5 b]
          constructor
          · rintro ⟨q1, q2⟩; exact ⟨by omega, q2⟩
          · rintro ⟨q1, q2, q3⟩
            have : b ≠ a := fun e => hb' (e ▸ q2)
            exact ⟨by omega, q2, q3⟩
theorem lz_turnLast_w {u : SX} (I : lz_K P BY BN u) {top : Nat} (h1 : 1 ≤ top) (hlv : top ≤ lz_lev u)
    {cY cN : Int32} (hy : ∀ a, bt cY a = true → bt (lq_yes u) a = true ∧ lz_L u a ≤ top) (hn : ∀ a, bt cN a = true → bt (lq_no u) a = true ∧ lz_L u a ≤ top) (hg : lz_ng P cY cN) {post : Int32 → SX → Prop}
    (K : ∀ u', lz_K P BY BN u' → lq_st u' = lq_st u → lq_learnt u' = lq_learnt u → lq_learntYes u' = lq_learntYes u → lq_learntNo u' = lq_learntNo u → lz_rank u + 1 ≤ lz_rank u' → post 1 u') : wpX_turnLast post u (nI top) := by
  have hlen := lz_len_le I
  have hlev := lz_lev_le I
  refine lz_ex (fun n => lq_U (wX_turnLast_7 post (nI top)) u n (nI 0) 0 (nI 0)) 13 (lz_tl_l I (by omega) (fun w E hw hwd hE => ?_) 13 0 0 0 (by omega) (by omega) (by omega) (fun b hb => absurd hb (Nat.not_lt_zero b)) (fun b => ⟨fun h => absurd h (lz_0 b), fun h => absurd h.1 (Nat.not_lt_zero b)⟩))
  have I0 := I
  obtain ⟨k1, k2, k3, k4, k5, k6, ti⟩ := I
  have ti0 : lz_TIu P BY BN u := ti
  obtain ⟨i1, i2, i3, i4, i5, i6, i7, i8, i9, i10⟩ := ti
  obtain ⟨p, hp, pd, pl⟩ := k6 top h1 hlv
  have ew : w = lz_T u p := hwd _ (i1 p hp) pd pl
  subst ew
  rw [lz_dn1 h1]
  refine lz_backTo_w I0 (by omega) (fun m y n d C => ?_)
  obtain ⟨b1, b2, b3⟩ := lz_back_K I0 (by omega) C
  obtain ⟨c1, c2, c3, c4, c5, c6⟩ := C
  have hmp : m = p := by
    have q1 : m ≤ p := Nat.le_of_not_lt fun h => by have := c2 p h; omega
    have q2 : p ≤ m := Nat.le_of_not_lt fun h => by
      have g1 := c3 m (Nat.le_refl m) (by omega)
      have g2 := (i7 p hp pd).2.1 m h
      omega
    omega
  subst hmp
  have fr : ∀ X Z : Int32, (∀ c, bt Z c = true ↔ bt X c = true ∧ ∃ t, t < m ∧ lz_T u t = c) → ¬ bt Z (lz_T u m) = true := by
    intro X Z h hz
    obtain ⟨_, t, ht, e⟩ := (h _).mp hz
    have := i2 t m (by omega) hp e
    omega
  have hEn : ∀ c, bt E c = true → bt n c = true := by
    intro c hc
    obtain ⟨q1, q2, q3⟩ := (hE c).mp hc
    have hnc := i6 c q2
    obtain ⟨t, ht, e⟩ := (i3 c).mp (Or.inr hnc)
    refine (c5 c).mpr ⟨hnc, t, ?_, e⟩
    refine Nat.lt_of_not_le fun hle => ?_
    have := c3 t hle ht
    rw [e] at this
    omega
  have hs : ∀ s, P s → lz_ag s 0 E → lz_tv s (lz_T u m) := by
    intro s hP hag
    refine Classical.byContradiction fun hnt => hg s hP ?_
    refine lz_cloA ti0 hP (k := top) (fun a hd hl => ?_) hy hn
    by_cases e : lz_L u a = top
    · rw [lz_dec1 I0 hd pd (e.trans pl.symm)]; exact hnt
    · refine hag.2 a ((hE a).mpr ⟨(lz_asg I0 (Or.inr (i6 a hd))).1, hd, by omega⟩)
  have hfy : ¬ bt y (lz_T u m) = true := fr _ _ c4
  have hfn : ¬ bt n (lz_T u m) = true := fr _ _ c5
  have ha := i1 m hp
  obtain ⟨p1, p2, p3⟩ := lz_put_K (u := lz_setBack u y n (nI m) d (nI (top - 1))) (Y := y ||| lz_b (lz_T u m)) (N := n) (WY := 0) (WN := E) (mv := lq_moved u) b1 (b := true) ha hfy hfn (fun c => by rw [lz_orb _ (by omega)]; exact ⟨fun h => h.elim Or.inl (fun e => Or.inr ⟨rfl, e⟩), fun h => h.elim Or.inl (fun e => Or.inr e.2)⟩) (fun c => ⟨Or.inl, fun h => h.elim id (fun e => absurd e.1 (by decide))⟩) (fun c h => absurd h (lz_0 c)) hEn (fun s hP hag => ⟨fun _ => hs s hP hag, fun h => absurd h (by decide)⟩)
  refine lz_assignT (u := lz_setBack u y n (nI m) d (nI (top - 1))) b1 (by omega) ha ?_
  refine K _ p1 rfl rfl rfl rfl ?_
  have er : lz_rank (lz_setBack u y n (nI m) d (nI (top - 1))) = lz_rk (lq_decided u) (lz_T u) m := by
    unfold lz_rank
    rw [b2]
    exact lz_rk_congr fun t ht => ⟨rfl, ⟨fun h => ((c6 _).mp h).1, fun h => (c6 _).mpr ⟨h, t, ht, rfl⟩⟩⟩
  have ht := lz_rk_turn (D := lq_decided u) (T := lz_T u) hp hlen pd
  have hr : lz_rank u = lz_rk (lq_decided u) (lz_T u) (lz_len u) := rfl
  show lz_rank u + 1 ≤ lz_rank (lz_put (lz_setBack u y n (nI m) d (nI (top - 1))) (y ||| lz_b (lz_T u m)) n (nI (top - 1)) d (nI (lz_T u m)) 0 E (lq_moved u))
  have p3' : lz_rank (lz_put (lz_setBack u y n (nI m) d (nI (top - 1))) (y ||| lz_b (lz_T u m)) n (nI (top - 1)) d (nI (lz_T u m)) 0 E (lq_moved u)) = lz_rank (lz_setBack u y n (nI m) d (nI (top - 1))) + 2 ^ (12 - lz_len (lz_setBack u y n (nI m) d (nI (top - 1)))) := p3
  rw [p3', er, b2, hr]
  exact ht
theorem lz_K_of {u u' : SX} (I : lz_K P BY BN u) (h1 : lq_yes u' = lq_yes u) (h2 : lq_no u' = lq_no u) (h3 : lq_trailLen u' = lq_trailLen u) (h4 : lq_level u' = lq_level u) (h5 : lq_decided u' = lq_decided u)
    (h6 : lq_trail u' = lq_trail u) (h7 : lq_atLevel u' = lq_atLevel u) (h8 : lq_whyYes u' = lq_whyYes u) (h9 : lq_whyNo u' = lq_whyNo u) : lz_K P BY BN u' := by
  have eT : lz_T u' = lz_T u := by unfold lz_T; rw [h6]
  have eL : lz_L u' = lz_L u := by unfold lz_L; rw [h7]
  have el : lz_len u' = lz_len u := by unfold lz_len; rw [h3]
  have ev : lz_lev u' = lz_lev u := by unfold lz_lev; rw [h4]
  unfold lz_K lz_TIu
  rw [h1, h2, h3, h4, h5, h6, h7, h8, h9, eT, eL, el, ev]
  exact I
/-! the measure of a search -/
def lz_phi (u : SX) : Nat := if lz_q u < 128 then (128 - lz_q u) * 14 + (12 - lz_len u) + 8192 else 8192 - lz_rank u
theorem lz_learn_w {u : SX} (I : lz_K P BY BN u) (C : lz_C P u) (hc : ¬ lq_clash u = 0) (hL : lz_LI P u) {post : Int32 → SX → Prop}
    (K0 : (∀ s, ¬ P s) → post 0 u)
    (K1 : ∀ u', lz_K P BY BN u' → lq_st u' = lq_st u → lz_LI P u' → lz_phi u' < lz_phi u → post 1 u') : wpX_learn post u := by
  rcases C with hz | ⟨_, hy, hn, hg⟩
  · exact absurd hz hc
  have hlen := lz_len_le I
  have hlev := lz_lev_le I
  have asg : ∀ a, bt (lq_clashYes u ||| lq_clashNo u) a = true → bt (lq_yes u) a = true ∨ bt (lq_no u) a = true := by
    intro a h
    rcases (lz_or _ _ _).mp h with h | h
    · exact Or.inl (hy a h)
    · exact Or.inr (hn a h)
  refine lz_hl_w (u := u) (fun a ha hb => ?_) (fun top ht hmax hex => ?_)
  · obtain ⟨_, q2, q3, q4⟩ := lz_asg I (asg a hb)
    exact ⟨q2, Nat.le_trans q3 q4⟩
  have hy2 : ∀ a, bt (lq_clashYes u) a = true → bt (lq_yes u) a = true ∧ lz_L u a ≤ top := by
    intro a h
    have h' := (lz_or (lq_clashYes u) (lq_clashNo u) a).mpr (Or.inl h)
    exact ⟨hy a h, hmax a (lz_asg I (asg a h')).1 h'⟩
  have hn2 : ∀ a, bt (lq_clashNo u) a = true → bt (lq_no u) a = true ∧ lz_L u a ≤ top := by
    intro a h
    have h' := (lz_or (lq_clashYes u) (lq_clashNo u) a).mpr (Or.inr h)
    exact ⟨hn a h, hmax a (lz_asg I (asg a h')).1 h'⟩
  refine pk_eq top 0 (fun e0 => ?_) (fun e0 => ?_)
  · refine K0 (fun s hP => hg s hP ?_)
    refine lz_cloA I.2.2.2.2.2.2 hP (k := 0) (fun a hd hl => ?_) (fun a h => by have := hy2 a h; exact ⟨this.1, by omega⟩) (fun a h => by have := hn2 a h; exact ⟨this.1, by omega⟩)
    obtain ⟨k1, k2, k3, k4, k5, k6, i1, i2, i3, i4, i5, i6, i7, i8, i9, i10⟩ := I
    obtain ⟨t, ht', e⟩ := (i3 a).mp (Or.inr (i6 a hd))
    subst e
    have := (i7 t ht' hd).1
    omega
  · have htl : top ≤ lz_lev u := by
      rcases hex with h | ⟨a, ha, hb, hl⟩
      · exact absurd h e0
      · have := (lz_asg I (asg a hb)).2.2.1
        omega
    have hq := hL.2.1
    refine pk_eq (lz_q u) 128 (fun eq => ?_) (fun nq => ?_) hL.1
    · refine lz_turnLast_w (u := u) I (by omega) htl hy2 hn2 hg (fun u' I' st l1 l2 l3 hr => And.intro narrow_b1 (K1 u' I' st ?_ ?_))
      · unfold lz_LI lz_q
        rw [l1, l2, l3]
        exact hL
      · have e1 : lz_q u' = 128 := by unfold lz_q; rw [l1]; exact eq
        have := lz_rk_lt (D := lq_decided u') (T := lz_T u') (lz_len_le I')
        have e2 : lz_rank u' = lz_rk (lq_decided u') (lz_T u') (lz_len u') := rfl
        unfold lz_phi
        rw [e1, eq, if_neg (by omega), if_neg (by omega)]
        omega
    · refine lz_resolve_w (u := u) I ht hy hn hg (fun cY cN hy' hn' hg' => ?_)
      have asg' : ∀ a, bt (cY ||| cN) a = true → bt (lq_yes u) a = true ∨ bt (lq_no u) a = true := by
        intro a h
        rcases (lz_or _ _ _).mp h with h | h
        · exact Or.inl (hy' a h)
        · exact Or.inr (hn' a h)
      refine lz_be_w (fun R hR => lz_hl_w (u := lz_setClash u (lq_clash u) cY cN) (fun a ha hb => ?_) (fun tg htg hmax' hex' => ?_))
      · obtain ⟨_, q2, q3, q4⟩ := lz_asg I (asg' a (hR a hb))
        exact ⟨q2, Nat.le_trans q3 q4⟩
      have htgl : tg ≤ lz_lev u := by
        rcases hex' with h | ⟨a, ha, hb, hl⟩
        · omega
        · have := (lz_asg I (asg' a (hR a hb))).2.2.1
          have hl' : lz_L u a = tg := hl
          omega
      have hiq : vp_in (lq_learnt u) 128 := by rw [hL.1]; exact vp_in_nI (by omega) (by decide)
      refine And.intro hiq (nm_e (And.intro hiq (nm_e (nm_e ?_))))
      have I2 : lz_K P BY BN (lz_setLearn (lz_setClash u (lq_clash u) cY cN) (lq_learnt u + 1) (upd (lq_learntYes u) (lq_learnt u).toNatClampNeg cN) (upd (lq_learntNo u) (lq_learnt u).toNatClampNeg cY)) := lz_K_of I rfl rfl rfl rfl rfl rfl rfl rfl rfl
      refine lz_backTo_w (u := lz_setLearn (lz_setClash u (lq_clash u) cY cN) (lq_learnt u + 1) (upd (lq_learntYes u) (lq_learnt u).toNatClampNeg cN) (upd (lq_learntNo u) (lq_learnt u).toNatClampNeg cY)) I2 htg (fun m y n d C => ?_)
      obtain ⟨b1, b2, b3⟩ := lz_back_K (u := lz_setLearn (lz_setClash u (lq_clash u) cY cN) (lq_learnt u + 1) (upd (lq_learntYes u) (lq_learnt u).toNatClampNeg cN) (upd (lq_learntNo u) (lq_learnt u).toNatClampNeg cY)) I2 htgl C
      have eq1 : lq_learnt u + 1 = nI (lz_q u + 1) := by rw [hL.1, nI_1]
      have eq2 : (nI (lz_q u + 1)).toNatClampNeg = lz_q u + 1 := nI_clamp (by omega)
      refine K1 (lz_setBack (lz_setLearn (lz_setClash u (lq_clash u) cY cN) (lq_learnt u + 1) (upd (lq_learntYes u) (lq_learnt u).toNatClampNeg cN) (upd (lq_learntNo u) (lq_learnt u).toNatClampNeg cY)) y n (nI m) d (nI tg)) b1 rfl ?_ ?_
      · have e3 : lz_q (lz_setBack (lz_setLearn (lz_setClash u (lq_clash u) cY cN) (lq_learnt u + 1) (upd (lq_learntYes u) (lq_learnt u).toNatClampNeg cN) (upd (lq_learntNo u) (lq_learnt u).toNatClampNeg cY)) y n (nI m) d (nI tg)) = lz_q u + 1 := by
          show (lq_learnt u + 1).toNatClampNeg = _
          rw [eq1]; exact eq2
        refine ⟨by rw [e3]; exact eq1, by rw [e3]; omega, ?_⟩
        rw [e3]
        intro k hk
        show lz_ng P (upd (lq_learntNo u) (lz_q u) cY k) (upd (lq_learntYes u) (lz_q u) cN k)
        by_cases e : k = lz_q u
        · rw [e, pk_us, pk_us]; exact hg'
        · rw [pk_un e, pk_un e]; exact hL.2.2 k (by omega)
      · have e3 : lz_q (lz_setBack (lz_setLearn (lz_setClash u (lq_clash u) cY cN) (lq_learnt u + 1) (upd (lq_learntYes u) (lq_learnt u).toNatClampNeg cN) (upd (lq_learntNo u) (lq_learnt u).toNatClampNeg cY)) y n (nI m) d (nI tg)) = lz_q u + 1 := by
          show (lq_learnt u + 1).toNatClampNeg = _
          rw [eq1]; exact eq2
        unfold lz_phi
        rw [e3]
        rw [if_pos (show lz_q u < 128 by omega)]
        split
        · omega
        · omega
end
end
section
/-! begin, decide, search -/
theorem lz_asF {u : SX} (h1 : lq_trailLen u = nI (lz_len u)) (hl : lz_len u < 12) {a : Nat} (ha : a < 12) {WY WN : Int32} {post : SX → Prop}
    (h : post (lz_put u (lq_yes u) (lq_no u ||| lz_b a) (lq_level u) (lq_decided u) (nI a) WY WN (lq_moved u))) : wpX_assign post u (nI a) 0 WY WN := by
  have i1 : vp_in (lq_trailLen u) 12 := by rw [h1]; exact vp_in_nI hl (by decide)
  have i2 : vp_in (nI a) 12 := vp_in_nI ha (by decide)
  exact br_t rfl (nm_e (And.intro i1 (nm_e (nm_e (And.intro i2 (nm_e (And.intro i2 (nm_e (And.intro i2 (nm_e h))))))))))
theorem lz_eqv {α : Sort _} {P : α → Prop} {a b : α} (e : a = b) (h : P b) : P a := e ▸ h
section
variable {P : (Nat → Nat) → Prop} {BY BN : Int32}
/-- a decision keeps the invariant -/
theorem lz_put_D {u : SX} (I : lz_K P BY BN u) {a : Nat} {N D WY WN mv : Int32} (ha : a < 12)
    (hfY : ¬ bt (lq_yes u) a = true) (hfN : ¬ bt (lq_no u) a = true) (hb : ∀ b, b < a → bt (lq_yes u) b = true ∨ bt (lq_no u) b = true)
    (hN : ∀ c, bt N c = true ↔ bt (lq_no u) c = true ∨ c = a)
    (hD : ∀ c, bt D c = true ↔ bt (lq_decided u) c = true ∨ c = a) :
    lz_K P BY BN (lz_put u (lq_yes u) N (nI (lz_lev u + 1)) D (nI a) WY WN mv) ∧
    lz_len (lz_put u (lq_yes u) N (nI (lz_lev u + 1)) D (nI a) WY WN mv) = lz_len u + 1 ∧
    lz_rank u + 1 ≤ lz_rank (lz_put u (lq_yes u) N (nI (lz_lev u + 1)) D (nI a) WY WN mv) := by
  have hroom := lz_room I ha hfY hfN
  have hlev := lz_lev_le I
  obtain ⟨k1, k2, k3, k4, k5, k6, k7⟩ := I
  have e : (nI a).toNatClampNeg = a := nI_clamp (by omega)
  have ev : (nI (lz_lev u + 1)).toNatClampNeg = lz_lev u + 1 := nI_clamp (by omega)
  obtain ⟨el, el'⟩ := lz_put_len (Y := lq_yes u) (N := N) (lev := nI (lz_lev u + 1)) (D := D) (x := nI a) (WY := WY) (WN := WN) (mv := mv) k1 (by omega)
  obtain ⟨T1, T2⟩ := lz_put_T (u := u) (Y := lq_yes u) (N := N) (lev := nI (lz_lev u + 1)) (D := D) (x := nI a) (WY := WY) (WN := WN) (mv := mv)
  obtain ⟨L1, L2⟩ := lz_put_L (u := u) (Y := lq_yes u) (N := N) (lev := nI (lz_lev u + 1)) (D := D) (WY := WY) (WN := WN) (mv := mv) ha
  obtain ⟨w1, w2⟩ := lz_put_wy (u := u) (Y := lq_yes u) (N := N) (lev := nI (lz_lev u + 1)) (D := D) (WY := WY) (WN := WN) (mv := mv) ha
  obtain ⟨z1, z2⟩ := lz_put_wn (u := u) (Y := lq_yes u) (N := N) (lev := nI (lz_lev u + 1)) (D := D) (WY := WY) (WN := WN) (mv := mv) ha
  rw [e] at T2
  rw [ev] at L2
  have hne : ∀ t, t < lz_len u → lz_T u t ≠ a := by
    intro t ht e
    rcases (k7.2.2.1 a).mpr ⟨t, ht, e⟩ with h | h
    · exact hfY h
    · exact hfN h
  have LT : ∀ t, t < lz_len u → lz_L (lz_put u (lq_yes u) N (nI (lz_lev u + 1)) D (nI a) WY WN mv) (lz_T (lz_put u (lq_yes u) N (nI (lz_lev u + 1)) D (nI a) WY WN mv) t) = lz_L u (lz_T u t) := by
    intro t ht
    rw [T1 t ht]
    exact L1 _ (hne t ht)
  have elv : lz_lev (lz_put u (lq_yes u) N (nI (lz_lev u + 1)) D (nI a) WY WN mv) = lz_lev u + 1 := ev
  refine ⟨⟨?_, ?_, ?_, ?_, ?_, ?_, ?_⟩, el, ?_⟩
  · rw [el]; exact el'
  · rw [elv]; rfl
  · rw [el]
    intro t ht
    by_cases h : t = lz_len u
    · rw [h, T2]
      show upd (lq_trail u) (lz_len u) (nI a) (lz_len u) = _
      rw [pk_us]
    · rw [T1 t (by omega), ← k3 t (by omega)]
      show upd (lq_trail u) (lz_len u) (nI a) t = _
      rw [pk_un (by omega)]
  · rw [el]
    intro t ht
    by_cases h : t = lz_len u
    · rw [h, T2, L2]
      show upd (lq_atLevel u) (nI a).toNatClampNeg (nI (lz_lev u + 1)) a = _
      rw [e, pk_us]
    · rw [T1 t (by omega), L1 _ (hne t (by omega)), ← k4 t (by omega)]
      show upd (lq_atLevel u) (nI a).toNatClampNeg (nI (lz_lev u + 1)) _ = _
      rw [e, pk_un (hne t (by omega))]
  · rw [el, elv]
    intro t ht
    by_cases h : t = lz_len u
    · rw [h, T2, L2]
      exact Nat.le_refl _
    · rw [LT t (by omega)]
      have := k5 t (by omega)
      omega
  · rw [el, elv]
    intro l h1 h2
    by_cases hl : l = lz_lev u + 1
    · refine ⟨lz_len u, by omega, ?_, ?_⟩
      · rw [T2]; exact (hD a).mpr (Or.inr rfl)
      · rw [T2, L2]; exact hl.symm
    · obtain ⟨t, ht, g1, g2⟩ := k6 l h1 (by omega)
      refine ⟨t, by omega, ?_, ?_⟩
      · rw [T1 t ht]; exact (hD _).mpr (Or.inl g1)
      · rw [LT t ht]; exact g2
  · unfold lz_TIu
    rw [el]
    exact lz_pushD k7 ha hfY hfN hb T1 T2 L1 L2 (fun t ht => by have := k5 t ht; omega) (by omega) w1 z1 hN hD
  · unfold lz_rank
    rw [el]
    refine Nat.le_trans ?_ (lz_rk_step (lz_len u))
    refine Nat.le_of_eq (congrArg (fun k => k + 1) (lz_rk_congr fun t ht => ⟨T1 t ht, ?_⟩).symm)
    exact ⟨fun h => ((hD _).mp h).elim id (fun e => absurd e (hne t ht)), fun h => (hD _).mpr (Or.inl h)⟩
theorem lz_dec_l {u : SX} (I : lz_K P BY BN u) {X : Int32} (hX : ∀ a, a < 12 → (bt X a = true ↔ ¬ (bt (lq_yes u) a = true ∨ bt (lq_no u) a = true))) {post : SX → Prop}
    (K : ∀ u', lz_K P BY BN u' → lq_st u' = lq_st u → lq_learnt u' = lq_learnt u → lq_learntYes u' = lq_learntYes u → lq_learntNo u' = lq_learntNo u → lz_len u' = lz_len u + 1 → lz_rank u + 1 ≤ lz_rank u' → post u') :
    ∀ n a, a ≤ 12 → 12 < n + a → (∀ b, b < a → ¬ bt X b = true) → (∃ b, b < 12 ∧ bt X b = true) → lq_U (wX_decide_2 post X) u n (nI a) := by
  intro n
  induction n with
  | zero => intro a h1 h2; omega
  | succ n ih =>
    intro a h1 h2 h3 h4
    refine pk_le 12 a (fun g => ?_) (fun g => ?_)
    · obtain ⟨b, hb, hx⟩ := h4
      exact absurd hx (h3 b (by omega))
    · refine lz_brb a rfl (by omega) (fun hb => ?_) (fun hb => nm_r (nI_1 a) (ih (a + 1) (by omega) (by omega) (fun b hb' => ?_) h4))
      · have hfree := (hX a g).mp hb
        have hfY : ¬ bt (lq_yes u) a = true := fun h => hfree (Or.inl h)
        have hfN : ¬ bt (lq_no u) a = true := fun h => hfree (Or.inr h)
        have hbl : ∀ b, b < a → bt (lq_yes u) b = true ∨ bt (lq_no u) b = true := fun b hba => Classical.byContradiction fun hn => h3 b hba ((hX b (by omega)).mpr hn)
        have elv : lq_level u + 1 = nI (lz_lev u + 1) := by rw [I.2.1, nI_1]
        refine nm_r elv (nm_e ?_)
        have hroom := lz_room I g hfY hfN
        obtain ⟨p1, p2, p3⟩ := lz_put_D (N := lq_no u ||| lz_b a) (D := lq_decided u ||| lz_b a) (WY := 0) (WN := 0) (mv := lq_moved u) I g hfY hfN hbl (fun c => lz_orb _ (by omega) c) (fun c => lz_orb _ (by omega) c)
        refine lz_asF (u := lz_setLD u (nI (lz_lev u + 1)) (lq_decided u ||| lz_b a)) I.1 hroom g ?_
        exact K (lz_put u (lq_yes u) (lq_no u ||| lz_b a) (nI (lz_lev u + 1)) (lq_decided u ||| lz_b a) (nI a) 0 0 (lq_moved u)) p1 rfl rfl rfl rfl p2 p3
      · by_cases e : b = a
        · rw [e]; exact lz_ff.mp hb
        · exact h3 b (by omega)
theorem lz_decide_w {u : SX} (I : lz_K P BY BN u) {X : Int32} (hX : ∀ a, a < 12 → (bt X a = true ↔ ¬ (bt (lq_yes u) a = true ∨ bt (lq_no u) a = true))) (hX0 : ∃ b, b < 12 ∧ bt X b = true) {post : SX → Prop}
    (K : ∀ u', lz_K P BY BN u' → lq_st u' = lq_st u → lq_learnt u' = lq_learnt u → lq_learntYes u' = lq_learntYes u → lq_learntNo u' = lq_learntNo u → lz_len u' = lz_len u + 1 → lz_rank u + 1 ≤ lz_rank u' → post u') : wpX_decide post u X :=
  lz_ex (fun n => lq_U (wX_decide_2 post X) u n (nI 0)) 13 (lz_dec_l I hX K 13 0 (by omega) (by omega) (fun b hb => absurd hb (Nat.not_lt_zero b)) hX0)
/-! begin -/
/-- the bounds asked for, as numbers -/
def lz_bn (u : SX) (le mo : Nat → Nat) : Prop := ∀ i, i < 4 → lq_least u i = nI (le i) ∧ lq_most u i = nI (mo i) ∧ le i ≤ 4 ∧ mo i ≤ 3
def lz_Bg (u : SX) (le mo : Nat → Nat) (i : Nat) : Prop :=
  (∀ j, j < i → (0 < le j → bt (lq_yes u) (3 * j + le j - 1) = true) ∧ (mo j < 3 → bt (lq_no u) (3 * j + mo j) = true)) ∧
  (∀ a, bt (lq_yes u) a = true ∨ bt (lq_no u) a = true → a / 3 < i) ∧ (∀ j, j < i → le j ≤ mo j)
def lz_BI (P : (Nat → Nat) → Prop) (u0 u : SX) : Prop := lz_K P 0 0 u ∧ lz_lev u = 0 ∧ lq_learnt u = 0 ∧ lq_st u = lq_st u0
theorem lz_begF {u0 u : SX} (B : lz_BI P u0 u) {a : Nat} {x : Int32} (hx : x = nI a) (ha : a < 12) (hf : ¬ (bt (lq_yes u) a = true ∨ bt (lq_no u) a = true)) (hs : ∀ s, P s → ¬ lz_tv s a) {post : SX → Prop}
    (K : ∀ u', lz_BI P u0 u' → lq_yes u' = lq_yes u → (∀ c, bt (lq_no u') c = true ↔ bt (lq_no u) c = true ∨ c = a) → post u') : wpX_assign post u x 0 0 0 := by
  subst hx
  have hfY : ¬ bt (lq_yes u) a = true := fun h => hf (Or.inl h)
  have hfN : ¬ bt (lq_no u) a = true := fun h => hf (Or.inr h)
  have hroom := lz_room B.1 ha hfY hfN
  have hN : ∀ c, bt (lq_no u ||| lz_b a) c = true ↔ bt (lq_no u) c = true ∨ c = a := fun c => lz_orb _ (by omega) c
  refine lz_asF (u := u) B.1.1 hroom ha ?_
  generalize lq_no u ||| lz_b a = N' at hN ⊢
  obtain ⟨p1, p2, p3⟩ := lz_put_K (Y := lq_yes u) (N := N') (WY := 0) (WN := 0) (mv := lq_moved u) B.1 (b := false) ha hfY hfN (fun c => ⟨Or.inl, fun h => h.elim id (fun e => absurd e.1 (by decide))⟩) (fun c => by rw [hN c]; exact ⟨fun h => h.elim Or.inl (fun e => Or.inr ⟨rfl, e⟩), fun h => h.elim Or.inl (fun e => Or.inr e.2)⟩) (fun c h => absurd h (lz_0 c)) (fun c h => absurd h (lz_0 c)) (fun s hP _ => ⟨fun h => absurd h (by decide), fun _ => hs s hP⟩)
  exact K (lz_put u (lq_yes u) N' (lq_level u) (lq_decided u) (nI a) 0 0 (lq_moved u)) ⟨p1, B.2.1, B.2.2.1, B.2.2.2⟩ rfl hN
theorem lz_begT {u0 u : SX} (B : lz_BI P u0 u) {a : Nat} {x : Int32} (hx : x = nI a) (ha : a < 12) (hf : ¬ (bt (lq_yes u) a = true ∨ bt (lq_no u) a = true)) (hs : ∀ s, P s → lz_tv s a) {post : SX → Prop}
    (K : ∀ u', lz_BI P u0 u' → lq_no u' = lq_no u → (∀ c, bt (lq_yes u') c = true ↔ bt (lq_yes u) c = true ∨ c = a) → post u') : wpX_assign post u x 1 0 0 := by
  subst hx
  have hfY : ¬ bt (lq_yes u) a = true := fun h => hf (Or.inl h)
  have hfN : ¬ bt (lq_no u) a = true := fun h => hf (Or.inr h)
  have hroom := lz_room B.1 ha hfY hfN
  have hN : ∀ c, bt (lq_yes u ||| lz_b a) c = true ↔ bt (lq_yes u) c = true ∨ c = a := fun c => lz_orb _ (by omega) c
  refine lz_assignT (u := u) B.1 hroom ha ?_
  generalize lq_yes u ||| lz_b a = N' at hN ⊢
  obtain ⟨p1, p2, p3⟩ := lz_put_K (Y := N') (N := lq_no u) (WY := 0) (WN := 0) (mv := lq_moved u) B.1 (b := true) ha hfY hfN (fun c => by rw [hN c]; exact ⟨fun h => h.elim Or.inl (fun e => Or.inr ⟨rfl, e⟩), fun h => h.elim Or.inl (fun e => Or.inr e.2)⟩) (fun c => ⟨Or.inl, fun h => h.elim id (fun e => absurd e.1 (by decide))⟩) (fun c h => absurd h (lz_0 c)) (fun c h => absurd h (lz_0 c)) (fun s hP _ => ⟨fun _ => hs s hP, fun h => absurd h (by decide)⟩)
  exact K (lz_put u N' (lq_no u) (lq_level u) (lq_decided u) (nI a) 0 0 (lq_moved u)) ⟨p1, B.2.1, B.2.2.1, B.2.2.2⟩ rfl hN
theorem lz_begin82 {u0 u : SX} {le mo : Nat → Nat} (hb : lz_bn u0 le mo) (hs : ∀ s, P s → ∀ i, i < 4 → le i ≤ s i ∧ s i ≤ mo i) {i : Nat} (hi : i < 4) (hlm : le i ≤ mo i) {post : Int32 → SX → Prop} {J : lq_J1}
    (B : lz_BI P u0 u) (g1 : ∀ j, j < i → (0 < le j → bt (lq_yes u) (3 * j + le j - 1) = true) ∧ (mo j < 3 → bt (lq_no u) (3 * j + mo j) = true)) (g2 : 0 < le i → bt (lq_yes u) (3 * i + le i - 1) = true)
    (g3 : ∀ a, bt (lq_yes u) a = true ∨ bt (lq_no u) a = true → a / 3 < i ∨ (0 < le i ∧ a = 3 * i + le i - 1)) (g4 : ∀ j, j < i → le j ≤ mo j)
    (K : ∀ u', lz_BI P u0 u' → lz_Bg u' le mo (i + 1) → lq_U (J (nI (i + 1))) u') : lq_U (wX_begin_82 post J (nI i)) u := by
  have e1 : (nI i).toNatClampNeg = i := nI_clamp (by omega)
  have hin : vp_in (nI i) 4 := vp_in_nI hi (by decide)
  have g5 : ∀ j, j < i + 1 → le j ≤ mo j := by
    intro j hj
    by_cases e : j = i
    · rw [e]; exact hlm
    · exact g4 j (by omega)
  obtain ⟨b1, b2, b3, b4⟩ := hb i hi
  have em : lq_most u (nI i).toNatClampNeg = nI (mo i) := by rw [e1, lq_st_most B.2.2.2]; exact b2
  refine And.intro hin (pk_le 3 (mo i) (fun h => ?_) (fun h => ?_) rfl em)
  · refine nm_r (nI_1 i) (K u B ⟨fun j hj => ?_, fun a ha => ?_, g5⟩)
    · by_cases e : j = i
      · rw [e]; exact ⟨g2, fun h' => by omega⟩
      · exact g1 j (by omega)
    · rcases g3 a ha with h' | h'
      · omega
      · omega
  · have hx : nI i * 3 + lq_most u (nI i).toNatClampNeg = nI (3 * i + mo i) := by rw [em, lz_ix0]
    refine And.intro hin (lz_begF B hx (by omega) (fun h' => ?_) (fun s hP => ?_) (fun u' B' ey en => ?_))
    · rcases g3 _ h' with q | q
      · omega
      · omega
    · have := hs s hP i hi
      unfold lz_tv
      rw [show (3 * i + mo i) / 3 = i from by omega]
      omega
    · refine nm_r (nI_1 i) (K u' B' ⟨fun j hj => ?_, fun a ha => ?_, g5⟩)
      · rw [ey]
        by_cases e : j = i
        · rw [e]; exact ⟨g2, fun _ => (en _).mpr (Or.inr rfl)⟩
        · have := g1 j (by omega)
          exact ⟨this.1, fun h => (en _).mpr (Or.inl (this.2 h))⟩
      · rw [ey, en a] at ha
        have ha' : (bt (lq_yes u) a = true ∨ bt (lq_no u) a = true) ∨ a = 3 * i + mo i := by
          rcases ha with h | h | h
          · exact Or.inl (Or.inl h)
          · exact Or.inl (Or.inr h)
          · exact Or.inr h
        rcases ha' with h' | h'
        · rcases g3 a h' with q | q
          · omega
          · omega
        · omega
theorem lz_begin32 {u0 : SX} {le mo : Nat → Nat} (hb : lz_bn u0 le mo) (hs : ∀ s, P s → ∀ i, i < 4 → le i ≤ s i ∧ s i ≤ mo i) {post : Int32 → SX → Prop}
    (K0 : ∀ u', lq_st u' = lq_st u0 → (∀ s, ¬ P s) → post 0 u')
    (K1 : ∀ u', lz_BI P u0 u' → lz_Bg u' le mo 4 → post 1 u') :
    ∀ n i u, i ≤ 4 → 4 < n + i → lz_BI P u0 u → lz_Bg u le mo i → lq_U (wX_begin_32 post n (nI i)) u := by
  intro n
  induction n with
  | zero => intro i u h1 h2; omega
  | succ n ih =>
    intro i u h1 h2 B G
    refine pk_le 4 i (fun h => ?_) (fun h => ?_)
    · have e : i = 4 := by omega
      subst e
      exact K1 u B G
    · have e1 : (nI i).toNatClampNeg = i := nI_clamp (by omega)
      have hin : vp_in (nI i) 4 := vp_in_nI h (by decide)
      obtain ⟨b1, b2, b3, b4⟩ := hb i h
      have em : lq_most u (nI i).toNatClampNeg = nI (mo i) := by rw [e1, lq_st_most B.2.2.2]; exact b2
      have el : lq_least u (nI i).toNatClampNeg = nI (le i) := by rw [e1, lq_st_least B.2.2.2]; exact b1
      refine And.intro hin (And.intro hin (pk_le (le i) (mo i) (fun hlm => And.intro hin (pk_le (le i) 0 (fun h0 => ?_) (fun h0 => And.intro hin ?_) el rfl)) (fun hgt => ?_) el em))
      · exact lz_begin82 hb hs h hlm B G.1 (fun h' => by omega) (fun a ha => Or.inl (G.2.1 a ha)) G.2.2 (fun u' B' G' => ih (i + 1) u' (by omega) (by omega) B' G')
      · have hx : nI i * 3 + lq_least u (nI i).toNatClampNeg - 1 = nI (3 * i + le i - 1) := by rw [el, lz_ix1 (by omega)]
        refine lz_begT B hx (by omega) (fun h' => ?_) (fun s hP => ?_) (fun u1 B1 en ey => ?_)
        · have := G.2.1 _ h'
          omega
        · have := hs s hP i h
          unfold lz_tv
          rw [show (3 * i + le i - 1) / 3 = i from by omega]
          omega
        · refine lz_begin82 hb hs h hlm B1 (fun j hj => ?_) (fun _ => (ey _).mpr (Or.inr rfl)) (fun a ha => ?_) G.2.2 (fun u' B' G' => ih (i + 1) u' (by omega) (by omega) B' G')
          · have := G.1 j hj
            rw [en]
            exact ⟨fun h => (ey _).mpr (Or.inl (this.1 h)), this.2⟩
          · rw [en, ey a] at ha
            rcases ha with (h' | h') | h'
            · exact Or.inl (G.2.1 a (Or.inl h'))
            · exact Or.inr ⟨by omega, h'⟩
            · exact Or.inl (G.2.1 a (Or.inr h'))
      · exact K0 u B.2.2.2 (fun s hP => by have := hs s hP i h; omega)
theorem lz_begin_w {u : SX} {le mo : Nat → Nat} (hb : lz_bn u le mo) (hs : ∀ s, P s → ∀ i, i < 4 → le i ≤ s i ∧ s i ≤ mo i) {post : Int32 → SX → Prop}
    (K0 : ∀ u', lq_st u' = lq_st u → (∀ s, ¬ P s) → post 0 u')
    (K1 : ∀ u', lz_BI P u u' → lz_Bg u' le mo 4 → post 1 u') : wpX_begin post u := by
  refine lz_ex (fun n => lq_U (wX_begin_32 post n (nI 0)) (lz_setBegin u)) 5 (lz_begin32 hb hs K0 K1 5 0 (lz_setBegin u) (by omega) (by omega) ⟨⟨rfl, rfl, ?_, ?_, ?_, ?_, ?_⟩, rfl, rfl, rfl⟩ ⟨fun j hj => absurd hj (Nat.not_lt_zero j), fun a ha => ?_, fun j hj => absurd hj (Nat.not_lt_zero j)⟩)
  · exact fun t ht => absurd ht (Nat.not_lt_zero t)
  · exact fun t ht => absurd ht (Nat.not_lt_zero t)
  · exact fun t ht => absurd ht (Nat.not_lt_zero t)
  · intro l h1 h2
    have : l ≤ 0 := h2
    omega
  · have n0 : ∀ a, ¬ bt 0 a = true := lz_0
    refine ⟨fun t ht => absurd ht (Nat.not_lt_zero t), fun t t' ht => absurd ht (Nat.not_lt_zero t), fun a => ⟨fun h => (h.elim (n0 a) (n0 a)).elim, fun h => ?_⟩, fun a h => absurd h (n0 a), fun t t' _ ht => absurd ht (Nat.not_lt_zero t'), fun a h => absurd h (n0 a), fun t ht => absurd ht (Nat.not_lt_zero t), fun t ht => absurd ht (Nat.not_lt_zero t), fun a h => absurd h (n0 a), fun a h => absurd h (n0 a)⟩
    obtain ⟨t, ht, _⟩ := h
    exact absurd ht (Nat.not_lt_zero t)
  · exact (ha.elim (lz_0 a) (lz_0 a)).elim
end
end
section
/-! search -/
theorem lz_4095 : ∀ i, i < 32 → bt 4095 i = decide (i < 12) := by decide +kernel
theorem lz_open {Y N : Int32} {a : Nat} (ha : a < 12) : bt (4095 &&& ((Y ||| N) ^^^ (-1))) a = true ↔ ¬ (bt Y a = true ∨ bt N a = true) := by
  rw [lz_and', lz_4095 a (by omega), decide_eq_true ha, lz_ff, lz_or]
  exact ⟨fun h => h.2, fun h => ⟨rfl, h⟩⟩
theorem lz_phi_le {u u' : SX} (hq : lz_q u' = lz_q u) (hl : lz_len u ≤ lz_len u') (hr : lz_rank u ≤ lz_rank u') : lz_phi u' ≤ lz_phi u := by
  unfold lz_phi
  rw [hq]
  split <;> omega
theorem lz_phi_lt {u u' : SX} (hq : lz_q u' = lz_q u) (hl : lz_len u' = lz_len u + 1) (hl12 : lz_len u' ≤ 12) (hr : lz_rank u + 1 ≤ lz_rank u') (hr2 : lz_rank u' < 8192) : lz_phi u' < lz_phi u := by
  unfold lz_phi
  rw [hq]
  split <;> omega
theorem lz_rank_lt {P : (Nat → Nat) → Prop} {BY BN : Int32} {u : SX} (I : lz_K P BY BN u) : lz_rank u < 8192 := lz_rk_lt (lz_len_le I)
section
variable {P : (Nat → Nat) → Prop} {BY BN : Int32}
theorem lz_sr_0 {post : Int32 → SX → Prop} {u : SX} {r : Nat} (hr : r < 20000) (h : post 0 u) (n : Nat) : lq_U (wX_search_7 post (n + 1) 0 (nI r)) u :=
  pk_le 20000 r (fun _ => h) (fun _ => br_t rfl h)
theorem lz_sr_l {u0 : SX} (ok : lz_ok u0) (hC : lz_hC P u0) {post : Int32 → SX → Prop}
    (K0 : ∀ u', lq_st u' = lq_st u0 → (∀ s, ¬ P s) → post 0 u')
    (K1 : ∀ u', lq_st u' = lq_st u0 → lz_K P BY BN u' → (∀ a, a < 12 → bt (lq_yes u') a = true ∨ bt (lq_no u') a = true) → lz_fin u0 (lq_yes u') (lq_no u') → post 1 u') :
    ∀ n r u, 10001 < n + r → lz_K P BY BN u → lq_st u = lq_st u0 → lz_LI P u → lz_phi u + r ≤ 10000 → lq_U (wX_search_7 post n 1 (nI r)) u := by
  intro n
  induction n with
  | zero => intro r u h1 I st hL hphi; omega
  | succ n ih =>
    intro r u h1 I st hL hphi
    obtain ⟨m, hm⟩ : ∃ m, n = m + 1 := ⟨n - 1, by omega⟩
    refine pk_le 20000 r (fun h => absurd h (by omega)) (fun h => br_f (by decide) ?_)
    have hC' : lz_hC P u := by
      intro s hP
      refine ⟨(hC s hP).1, fun c hc hb => ?_⟩
      rw [lz_sat_st st]
      exact (hC s hP).2 c hc (by rw [← lq_st_counted st]; exact hb)
    refine lz_propagate_w (u := u) I (lz_ok_st st ok) hC' hL (fun u' S fin => ?_)
    obtain ⟨s1, s2, s3, s4, s5⟩ := S
    have st' : lq_st u' = lq_st u0 := s1.trans st
    have eq' : lz_q u' = lz_q u := by unfold lz_q; rw [lq_lr_learnt s2]
    have hphi' := lz_phi_le eq' s4 s5
    have hL' : lz_LI P u' := lz_LI_lr s2 hL
    refine br_c (fun hc => nm_e (br_c (fun z => ?_) (fun z => ?_))) (fun hc => ?_)
    · refine K1 u' st' s3.1 (fun a ha => ?_) ?_
      · refine Classical.byContradiction fun hn => ?_
        have := (lz_open ha).mpr hn
        have z' : (4095 &&& ((lq_yes u' ||| lq_no u') ^^^ (-1)) : Int32) = 0 := z
        rw [z'] at this
        exact lz_0 a this
      · have f := fin hc
        refine ⟨f.1, fun c hc hb => ?_⟩
        have := f.2 c hc (by rw [lq_st_counted st]; exact hb)
        rw [lz_dw_st st] at this
        exact this
    · refine lz_decide_w (u := u') s3.1 (fun a ha => lz_open ha) ?_ (fun u2 I2 st2 l1 l2 l3 hlen hrank => nm_r (nI_1 r) (ih (r + 1) u2 (by omega) I2 (st2.trans st') ?_ ?_))
      · obtain ⟨b, _, hb⟩ := lz_nz z
        refine ⟨b, ?_, hb⟩
        have h1 := ((lz_and' _ _ b).mp hb).1
        rw [lz_4095 b (lz_32 hb)] at h1
        simpa using h1
      · unfold lz_LI lz_q
        rw [l1, l2, l3]
        exact hL'
      · have e2 : lz_q u2 = lz_q u' := by unfold lz_q; rw [l1]
        have := lz_phi_lt e2 hlen (lz_len_le I2) hrank (lz_rank_lt I2)
        omega
    · refine lz_learn_w (u := u') s3.1 s3.2 hc hL' (fun hno => nm_r (nI_1 r) ?_) (fun u2 I2 st2 hL2 hp2 => nm_r (nI_1 r) (ih (r + 1) u2 (by omega) I2 (st2.trans st') hL2 (by omega)))
      subst hm
      exact lz_sr_0 (by omega) (K0 u' st' hno) m
end
/-- the answers to a question: bounds and the constraints that count -/
def lz_P (u : SX) (le mo : Nat → Nat) (s : Nat → Nat) : Prop := (∀ i, i < 4 → s i ≤ 3 ∧ le i ≤ s i ∧ s i ≤ mo i) ∧ ∀ c, c < 11 → bt (lq_counted u) c = true → lz_sat u c s
theorem lz_search_w {u : SX} (ok : lz_ok u) {le mo : Nat → Nat} (hb : lz_bn u le mo) {post : Int32 → SX → Prop}
    (K0 : ∀ u', lq_st u' = lq_st u → (∀ s, ¬ lz_P u le mo s) → post 0 u')
    (K1 : ∀ u', lq_st u' = lq_st u → lz_P u le mo (lz_lo (lq_yes u')) → (∀ s, lz_P u le mo s → ∀ i, i < 4 → (∀ j, j < i → lz_lo (lq_yes u') j = s j) → lz_lo (lq_yes u') i ≤ s i) → post 1 u') : wpX_search post u := by
  have hC : lz_hC (lz_P u le mo) u := fun s hP => ⟨fun i hi => (hP.1 i hi).1, hP.2⟩
  refine lz_begin_w (u := u) (P := lz_P u le mo) hb (fun s hP i hi => (hP.1 i hi).2) (fun u' st hno => ?_) (fun u' B G => ?_)
  · exact lz_ex (fun n => lq_U (wX_search_7 post n 0 (nI 0)) u') 1 (lz_sr_0 (by omega) (K0 u' st hno) 0)
  · obtain ⟨I0, hlev, hq0, st⟩ := B
    have I : lz_K (lz_P u le mo) (lq_yes u') (lq_no u') u' := by
      have hL0 : ∀ a, (bt (lq_yes u') a = true ∨ bt (lq_no u') a = true) → lz_L u' a = 0 := by
        intro a ha
        have := (lz_asg I0 ha).2.2.1
        omega
      obtain ⟨k1, k2, k3, k4, k5, k6, i1, i2, i3, i4, i5, i6, i7, i8, i9, i10⟩ := I0
      exact ⟨k1, k2, k3, k4, k5, k6, i1, i2, i3, i4, i5, i6, i7, i8, fun a h => ⟨h, hL0 a (Or.inl h)⟩, fun a h => ⟨h, hL0 a (Or.inr h)⟩⟩
    have eq0 : lz_q u' = 0 := by unfold lz_q; rw [hq0]; rfl
    have hL : lz_LI (lz_P u le mo) u' := ⟨by rw [eq0]; exact hq0, by omega, fun k hk => by omega⟩
    refine lz_ex (fun n => lq_U (wX_search_7 post n 1 (nI 0)) u') 10002 (lz_sr_l (u0 := u) ok hC K0 (fun u2 st2 I2 hf fin => ?_) 10002 0 u' (by omega) I st hL ?_)
    · have hd : ∀ a, bt (lq_yes u2) a = true → ¬ bt (lq_no u2) a = true := I2.2.2.2.2.2.2.2.2.2.1
      have hBY := I2.2.2.2.2.2.2.2.2.2.2.2.2.2.2.1
      have hBN := I2.2.2.2.2.2.2.2.2.2.2.2.2.2.2.2
      have htv : ∀ a, a < 12 → (bt (lq_yes u2) a = true ↔ lz_tv (lz_lo (lq_yes u2)) a) := fun a ha => lz_tvF hf hd fin.1 ha
      refine K1 u2 st2 ⟨fun i hi => ⟨lz_lo_le _ _, ?_, ?_⟩, fun c hc hcb => lz_complete ok hf hd fin.1 hc (fin.2 c hc hcb)⟩ (fun s hP => lz_min I2.2.2.2.2.2.2 hf hP htv (fun i _ => lz_lo_le _ i))
      · by_cases h0 : le i = 0
        · omega
        · have h4 := G.2.2 i hi
          have h4' := (hb i hi).2.2.2
          have := (hBY _ ((G.1 i hi).1 (by omega))).1
          rw [htv _ (by omega)] at this
          unfold lz_tv at this
          rw [show (3 * i + le i - 1) / 3 = i from by omega] at this
          omega
      · have h3 := (hb i hi).2.2.2
        by_cases h0 : mo i = 3
        · have := lz_lo_le (lq_yes u2) i
          omega
        · have h1 := (hBN _ ((G.1 i hi).2 (by omega))).1
          have h2 : ¬ lz_tv (lz_lo (lq_yes u2)) (3 * i + mo i) := fun h => hd _ ((htv _ (by omega)).mpr h) h1
          unfold lz_tv at h2
          rw [show (3 * i + mo i) / 3 = i from by omega] at h2
          omega
    · unfold lz_phi
      rw [eq0, if_pos (by omega)]
      omega
end
section
def lq_UK (W : Int32 → Int32 → Int32 → Int32 → Int32 → Int32 → Int32 → Int32 → Int32 → Int32 → Int32 → Int32 → Int32 → Nat → Int32 → (Nat → Int32) → (Nat → Int32) → (Nat → Int32) → (Nat → Int32) → (Nat → Int32) → (Nat → Int32) → (Nat → Int32) → (Nat → Int32) → (Nat → Int32) → (Nat → Int32) → (Nat → Int32) → (Nat → Int32) → (Nat → Int32) → (Nat → Int32) → (Nat → Int32) → (Nat → Int32) → Prop) (u : SX) (x : Int32) (n : Nat) (i : Int32) (le mo : Nat → Int32) : Prop := W (lq_made u) (lq_inForce u) (lq_yes u) (lq_no u) (lq_trailLen u) (lq_level u) (lq_decided u) x (lq_learnt u) (lq_clash u) (lq_clashYes u) (lq_clashNo u) (lq_moved u) n i (lq_held u) (lq_kind u) (lq_coef u) (lq_bound u) (lq_members u) (lq_eitherYes u) (lq_eitherNo u) (lq_always u) (lq_trail u) (lq_atLevel u) (lq_whyYes u) (lq_whyNo u) le mo (lq_learntYes u) (lq_learntNo u)
def lq_UC (W : Int32 → Int32 → Int32 → Int32 → Int32 → Int32 → Int32 → Int32 → Int32 → Int32 → Int32 → Int32 → Int32 → Nat → Int32 → (Nat → Int32) → (Nat → Int32) → (Nat → Int32) → (Nat → Int32) → (Nat → Int32) → (Nat → Int32) → (Nat → Int32) → (Nat → Int32) → (Nat → Int32) → (Nat → Int32) → (Nat → Int32) → (Nat → Int32) → (Nat → Int32) → (Nat → Int32) → (Nat → Int32) → (Nat → Int32) → Prop) (u : SX) (k b : Nat → Int32) (n : Nat) (i : Int32) (c : Nat → Int32) : Prop := W (lq_made u) (lq_inForce u) (lq_yes u) (lq_no u) (lq_trailLen u) (lq_level u) (lq_decided u) (lq_counted u) (lq_learnt u) (lq_clash u) (lq_clashYes u) (lq_clashNo u) (lq_moved u) n i (lq_held u) k c b (lq_members u) (lq_eitherYes u) (lq_eitherNo u) (lq_always u) (lq_trail u) (lq_atLevel u) (lq_whyYes u) (lq_whyNo u) (lq_least u) (lq_most u) (lq_learntYes u) (lq_learntNo u)
abbrev lq_JA : Type := Int32 → (Nat → Int32) → (Nat → Int32) → (Nat → Int32) → (Nat → Int32) → (Nat → Int32) → (Nat → Int32) → (Nat → Int32) → (Nat → Int32) → (Nat → Int32) → (Nat → Int32) → (Nat → Int32) → (Nat → Int32) → (Nat → Int32) → (Nat → Int32) → (Nat → Int32) → (Nat → Int32) → Prop
def lq_UJ (J : lq_JA) (u : SX) (i : Int32) (le mo : Nat → Int32) : Prop := J i (lq_held u) (lq_kind u) (lq_coef u) (lq_bound u) (lq_members u) (lq_eitherYes u) (lq_eitherNo u) (lq_always u) (lq_trail u) (lq_atLevel u) (lq_whyYes u) (lq_whyNo u) le mo (lq_learntYes u) (lq_learntNo u)
end
section
/-! ask, answer; assignments as numbers below 256 -/
theorem lz_ask_l {u : SX} {x : Int32} {post : SX → Prop} (K : ∀ le mo, (∀ i, i < 4 → le i = 0 ∧ mo i = 3) → post (lz_setAsk u x le mo)) :
    ∀ n i le mo, i ≤ 4 → 4 < n + i → (∀ j, j < i → le j = 0 ∧ mo j = 3) → lq_UK (wX_ask_7 post) u x n (nI i) le mo := by
  intro n
  induction n with
  | zero => intro i le mo h1 h2; omega
  | succ n ih =>
    intro i le mo h1 h2 h3
    refine pk_le 4 i (fun h => ?_) (fun h => ?_)
    · have e : i = 4 := by omega
      subst e
      exact K le mo h3
    · have e1 : (nI i).toNatClampNeg = i := nI_clamp (by omega)
      have hin : vp_in (nI i) 4 := vp_in_nI h (by decide)
      refine And.intro hin (nm_r (e' := upd le i 0) (congrArg (fun k => upd le k 0) e1) (And.intro hin (nm_r (e' := upd mo i 3) (congrArg (fun k => upd mo k 3) e1) (nm_r (nI_1 i) (ih (i + 1) (upd le i 0) (upd mo i 3) (by omega) (by omega) (fun j hj => ?_))))))
      by_cases e : j = i
      · rw [e, pk_us, pk_us]; exact ⟨rfl, rfl⟩
      · rw [pk_un e, pk_un e]; exact h3 j (by omega)
theorem lz_ask_w {u : SX} {x : Int32} {post : SX → Prop} (K : ∀ le mo, (∀ i, i < 4 → le i = 0 ∧ mo i = 3) → post (lz_setAsk u x le mo)) : wpX_ask post u x :=
  lz_ex (fun n => lq_UK (wX_ask_7 post) u x n (nI 0) (lq_least u) (lq_most u)) 5 (lz_ask_l K 5 0 (lq_least u) (lq_most u) (by omega) (by omega) (fun j hj => absurd hj (Nat.not_lt_zero j)))
def lz_dg (n i : Nat) : Nat := n / 2 ^ (6 - 2 * i) % 4
def lz_code (F : Nat → Nat) : Nat → Nat
  | 0 => 0
  | k + 1 => lz_code F k * 4 + F k
theorem lz_code4 (F : Nat → Nat) : lz_code F 4 = ((F 0 * 4 + F 1) * 4 + F 2) * 4 + F 3 := by
  show (((0 * 4 + F 0) * 4 + F 1) * 4 + F 2) * 4 + F 3 = _
  omega
theorem lz_dg_lt (n i : Nat) : lz_dg n i ≤ 3 := by unfold lz_dg; omega
theorem lz_dg0 (n : Nat) : lz_dg n 0 = n / 64 % 4 := rfl
theorem lz_dg1 (n : Nat) : lz_dg n 1 = n / 16 % 4 := rfl
theorem lz_dg2 (n : Nat) : lz_dg n 2 = n / 4 % 4 := rfl
theorem lz_dg3 (n : Nat) : lz_dg n 3 = n % 4 := by show n / 1 % 4 = _; omega
theorem lz_dg_code {F : Nat → Nat} (h : ∀ i, i < 4 → F i ≤ 3) : lz_code F 4 < 256 ∧ ∀ i, i < 4 → lz_dg (lz_code F 4) i = F i := by
  have h0 := h 0 (by omega)
  have h1 := h 1 (by omega)
  have h2 := h 2 (by omega)
  have h3 := h 3 (by omega)
  rw [lz_code4]
  refine ⟨by omega, fun i hi => ?_⟩
  have hi4 : i = 0 ∨ i = 1 ∨ i = 2 ∨ i = 3 := by omega
  rcases hi4 with rfl | rfl | rfl | rfl
  · rw [lz_dg0]; omega
  · rw [lz_dg1]; omega
  · rw [lz_dg2]; omega
  · rw [lz_dg3]; omega
theorem lz_code_dg {n : Nat} (h : n < 256) : lz_code (lz_dg n) 4 = n := by
  rw [lz_code4, lz_dg0, lz_dg1, lz_dg2, lz_dg3]
  omega
theorem lz_code_le {F s : Nat → Nat} (hF : ∀ i, i < 4 → F i ≤ 3) (hs : ∀ i, i < 4 → s i ≤ 3) (h : ∀ i, i < 4 → (∀ j, j < i → F j = s j) → F i ≤ s i) : lz_code F 4 ≤ lz_code s 4 := by
  rw [lz_code4, lz_code4]
  have a0 := hF 0 (by omega)
  have a1 := hF 1 (by omega)
  have a2 := hF 2 (by omega)
  have a3 := hF 3 (by omega)
  have b0 := hs 0 (by omega)
  have b1 := hs 1 (by omega)
  have b2 := hs 2 (by omega)
  have b3 := hs 3 (by omega)
  have c0 := h 0 (by omega) (fun j hj => absurd hj (Nat.not_lt_zero j))
  by_cases e0 : F 0 = s 0
  · have c1 := h 1 (by omega) (fun j hj => by rw [show j = 0 by omega]; exact e0)
    by_cases e1 : F 1 = s 1
    · have c2 := h 2 (by omega) (fun j hj => by
        have : j = 0 ∨ j = 1 := by omega
        rcases this with rfl | rfl
        · exact e0
        · exact e1)
      by_cases e2 : F 2 = s 2
      · have c3 := h 3 (by omega) (fun j hj => by
          have : j = 0 ∨ j = 1 ∨ j = 2 := by omega
          rcases this with rfl | rfl | rfl
          · exact e0
          · exact e1
          · exact e2)
        omega
      · omega
    · omega
  · omega
theorem lz_ans_l {u : SX} {post : Int32 → Prop} (h : post (nI (lz_code (lz_lo (lq_yes u)) 4))) : ∀ n i, i ≤ 4 → 4 < n + i → lq_U (wX_answer_4 post) u n (nI (lz_code (lz_lo (lq_yes u)) i)) (nI i) := by
  intro n
  induction n with
  | zero => intro i h1 h2; omega
  | succ n ih =>
    intro i h1 h2
    refine pk_le 4 i (fun g => ?_) (fun g => ?_)
    · have e : i = 4 := by omega
      subst e
      exact h
    · refine lz_low_w (u := u) i rfl g (nm_r (e' := nI (lz_code (lz_lo (lq_yes u)) (i + 1))) ?_ (nm_r (nI_1 i) (ih (i + 1) (by omega) (by omega))))
      rw [lz_ix4, Nat.mul_comm]
      rfl
theorem lz_answer_w {u : SX} {post : Int32 → Prop} (h : post (nI (lz_code (lz_lo (lq_yes u)) 4))) : wpX_answer post u :=
  lz_ex (fun n => lq_U (wX_answer_4 post) u n (nI 0) (nI 0)) 5 (lz_ans_l h 5 0 (by omega) (by omega))
/-! satisfaction looks at four values alone -/
theorem lz_tv_congr {s s' : Nat → Nat} (h : ∀ i, i < 4 → s i = s' i) {a : Nat} (ha : a < 12) : lz_tv s a ↔ lz_tv s' a := by
  unfold lz_tv
  rw [h (a / 3) (by omega)]
theorem lz_sat_congr {u : SX} (ok : lz_ok u) {c : Nat} (hc : c < 11) {s s' : Nat → Nat} (h : ∀ i, i < 4 → s i = s' i) (k : lz_sat u c s) : lz_sat u c s' := by
  refine ⟨fun h0 => ?_, fun h0 h1 => ?_, fun h0 h1 h2 => ?_⟩
  · have := k.1 h0
    rw [lz_ps4] at this ⊢
    rw [← h 0 (by omega), ← h 1 (by omega), ← h 2 (by omega), ← h 3 (by omega)]
    exact this
  · intro i j hij hj bi bj
    rw [← h i (by omega), ← h j hj]
    exact k.2.1 h0 h1 i j hij hj bi bj
  · obtain ⟨⟨a, ha, ea⟩, ⟨b, hb, eb⟩⟩ := ok.2.2 c hc h0 h1 h2
    rcases k.2.2 h0 h1 h2 with ⟨x, hx, ht⟩ | ⟨x, hx, ht⟩
    · refine Or.inl ⟨x, hx, (lz_tv_congr h ?_).mp ht⟩
      rw [ea, lz_bi (by omega)] at hx
      omega
    · refine Or.inr ⟨x, hx, fun h' => ht ((lz_tv_congr h ?_).mpr h')⟩
      rw [eb, lz_bi (by omega)] at hx
      omega
theorem lz_search_n {u : SX} (ok : lz_ok u) {le mo : Nat → Nat} (hb : lz_bn u le mo) {post : Int32 → SX → Prop}
    (K0 : ∀ u', lq_st u' = lq_st u → (∀ k, k < 256 → ¬ lz_P u le mo (lz_dg k)) → post 0 u')
    (K1 : ∀ u' n, lq_st u' = lq_st u → n < 256 → lz_P u le mo (lz_dg n) → (∀ k, k < 256 → lz_P u le mo (lz_dg k) → n ≤ k) → (∀ i, i < 4 → lz_lo (lq_yes u') i = lz_dg n i) → n = lz_code (lz_lo (lq_yes u')) 4 → post 1 u') : wpX_search post u := by
  refine lz_search_w ok hb (fun u' st h => K0 u' st (fun k _ => h _)) (fun u' st hF hmin => ?_)
  have hF3 : ∀ i, i < 4 → lz_lo (lq_yes u') i ≤ 3 := fun i _ => lz_lo_le _ i
  obtain ⟨d1, d2⟩ := lz_dg_code hF3
  refine K1 u' (lz_code (lz_lo (lq_yes u')) 4) st d1 ⟨fun i hi => by rw [d2 i hi]; exact hF.1 i hi, fun c hc hcb => lz_sat_congr ok hc (fun i hi => (d2 i hi).symm) (hF.2 c hc hcb)⟩ (fun k hk hP => ?_) (fun i hi => (d2 i hi).symm) rfl
  have := lz_code_le hF3 (fun i _ => lz_dg_lt k i) (hmin _ hP)
  rw [lz_code_dg hk] at this
  exact this
end
section
/-! the reference's walks -/
def ly_count (v : SY) : Int32 := v.1
def ly_inForce (v : SY) : Int32 := v.2.1
def ly_held (v : SY) : Nat → Int32 := v.2.2.1
def ly_kind (v : SY) : Nat → Int32 := v.2.2.2.1
def ly_data (v : SY) : Nat → Int32 := v.2.2.2.2
def ly_U {α : Sort _} (f : Int32 → Int32 → (Nat → Int32) → (Nat → Int32) → (Nat → Int32) → α) (v : SY) : α := f (ly_count v) (ly_inForce v) (ly_held v) (ly_kind v) (ly_data v)
theorem ly_vx {n i : Nat} (hn : n < 2 ^ 31) (hi : i < 4) : (nI n >>> ((6 - (2 * nI i)) &&& 31)) &&& 3 = nI (lz_dg n i) := by
  have e1 : (6 : Int32) - 2 * nI i = nI (6 - 2 * i) := by
    show nI 6 - nI 2 * nI i = _
    rw [pk_mul, pk_sub (by omega)]
  rw [e1, pk_shrN hn _ (6 - 2 * i) (s_l _ (by omega)), pk_andN (Nat.lt_of_le_of_lt (Nat.div_le_self _ _) (Nat.lt_of_lt_of_le hn (by decide))) 2 (by decide)]
  rfl
theorem ly_value_w {v : SY} {n i : Nat} {x : Int32} (hx : x = nI i) (hn : n < 2 ^ 31) (hi : i < 4) {post : Int32 → Prop} (h : post (nI (lz_dg n i))) : wpY_valueIn post v (nI n) x := by
  subst hx
  show post ((nI n >>> ((6 - (2 * nI i)) &&& 31)) &&& 3)
  rw [ly_vx hn hi]
  exact h
/-! allDiffer -/
theorem ly_ad10 {v : SY} {M : Int32} {n0 i : Nat} (hn : n0 < 2 ^ 31) (hi : i < 4) {post J2 : Int32 → Prop}
    (K0 : ¬ lz_df M (lz_dg n0) → post 0) (K : (∀ j, j < i → bt M i = true → bt M j = true → lz_dg n0 i ≠ lz_dg n0 j) → J2 (nI (i + 1))) :
    ∀ n j, j ≤ i → i < n + j → (∀ j', j' < j → bt M i = true → bt M j' = true → lz_dg n0 i ≠ lz_dg n0 j') → ly_U (wY_allDiffer_10 post J2 M (nI n0) (nI i)) v n (nI j) := by
  intro n
  induction n with
  | zero => intro j h1 h2; omega
  | succ n ih =>
    intro j h1 h2 h3
    have d1 := lz_dg_lt n0 i
    have d2 := lz_dg_lt n0 j
    refine pk_le i j (fun h => ?_) (fun h => ?_)
    · have e : j = i := by omega
      subst e
      exact nm_r (nI_1 j) (K h3)
    · refine lz_brb i rfl (by omega) (fun bi => lz_brb j rfl (by omega) (fun bj => ?_) (fun bj => ?_)) (fun bi => ?_)
      · refine br_f (by decide) (ly_value_w rfl hn hi (ly_value_w rfl hn (by omega) (pk_eq (lz_dg n0 i) (lz_dg n0 j) (fun e => ?_) (fun e => nm_r (nI_1 j) (ih (j + 1) (by omega) (by omega) (fun j' hj' => ?_))))))
        · exact K0 (fun hd => hd j i h hi bj bi e.symm)
        · by_cases e' : j' = j
          · rw [e']; exact fun _ _ => e
          · exact h3 j' (by omega)
      · refine br_t rfl (nm_r (nI_1 j) (ih (j + 1) (by omega) (by omega) (fun j' hj' => ?_)))
        by_cases e' : j' = j
        · rw [e']; exact fun _ q => absurd q (lz_ff.mp bj)
        · exact h3 j' (by omega)
      · refine br_t rfl (nm_r (nI_1 j) (ih (j + 1) (by omega) (by omega) (fun j' hj' q => absurd q (lz_ff.mp bi))))
theorem ly_ad2 {v : SY} {M : Int32} {n0 : Nat} (hn : n0 < 2 ^ 31) {post : Int32 → Prop}
    (K0 : ¬ lz_df M (lz_dg n0) → post 0) (K1 : lz_df M (lz_dg n0) → post 1) :
    ∀ n i, i ≤ 4 → 4 < n + i → (∀ i' j, j < i' → i' < i → bt M i' = true → bt M j = true → lz_dg n0 i' ≠ lz_dg n0 j) → ly_U (wY_allDiffer_2 post M (nI n0)) v n (nI i) := by
  intro n
  induction n with
  | zero => intro i h1 h2; omega
  | succ n ih =>
    intro i h1 h2 h3
    refine pk_le 4 i (fun h => ?_) (fun h => ?_)
    · have e : i = 4 := by omega
      subst e
      exact K1 (fun a b hab hb ba bb e => h3 b a hab hb bb ba e.symm)
    · refine lz_ex (fun n' => ly_U (wY_allDiffer_10 post (ly_U (wY_allDiffer_2 post M (nI n0)) v n) M (nI n0) (nI i)) v n' (nI 0)) 5 (ly_ad10 hn h K0 (fun hK => ih (i + 1) (by omega) (by omega) (fun i' j hj hi' => ?_)) 5 0 (by omega) (by omega) (fun j' hj' => absurd hj' (Nat.not_lt_zero j')))
      by_cases e : i' = i
      · subst e; exact hK j hj
      · exact h3 i' j hj (by omega)
theorem ly_allDiffer_w {v : SY} {M : Int32} {n0 : Nat} (hn : n0 < 2 ^ 31) {post : Int32 → Prop}
    (K0 : ¬ lz_df M (lz_dg n0) → post 0) (K1 : lz_df M (lz_dg n0) → post 1) : wpY_allDiffer post v M (nI n0) :=
  lz_ex (fun n => ly_U (wY_allDiffer_2 post M (nI n0)) v n (nI 0)) 5 (ly_ad2 hn K0 K1 5 0 (by omega) (by omega) (fun i' j hj hi' => absurd hi' (Nat.not_lt_zero i')))
/-! a constraint of the component against one of the reference -/
def lz_rc (u : SX) (v : SY) (c : Nat) : Prop :=
  (lq_kind u c = 0 ∧ ly_kind v c = 0 ∧ (∀ i, i < 4 → lq_coef u (4 * c + i) = ly_data v (5 * c + i)) ∧ lq_bound u c = ly_data v (5 * c + 4)) ∨
  (lq_kind u c = 1 ∧ ly_kind v c = 1 ∧ lq_members u c = ly_data v (5 * c)) ∨
  (lq_kind u c = 2 ∧ ly_kind v c = 2 ∧ ∃ i m j n, i < 4 ∧ m < 4 ∧ j < 4 ∧ n < 4 ∧ ly_data v (5 * c) = nI i ∧ ly_data v (5 * c + 1) = nI m ∧ ly_data v (5 * c + 2) = nI j ∧ ly_data v (5 * c + 3) = nI n ∧
    (((m = 0 ∨ n = 3) ∧ ¬ lq_always u c = 0) ∨ (m ≠ 0 ∧ n ≠ 3 ∧ lq_always u c = 0 ∧ lq_eitherYes u c = lz_b (3 * i + m - 1) ∧ lq_eitherNo u c = lz_b (3 * j + n))))
theorem lz_sat2 {u : SX} {c i m j n : Nat} (hk : lq_kind u c = 2) (hi : i < 4) (hm : m < 4) (hj : j < 4) (hn : n < 4)
    (h : ((m = 0 ∨ n = 3) ∧ ¬ lq_always u c = 0) ∨ (m ≠ 0 ∧ n ≠ 3 ∧ lq_always u c = 0 ∧ lq_eitherYes u c = lz_b (3 * i + m - 1) ∧ lq_eitherNo u c = lz_b (3 * j + n)))
    {s : Nat → Nat} (hs : ∀ i, i < 4 → s i ≤ 3) : lz_sat u c s ↔ (m ≤ s i ∨ s j ≤ n) := by
  have k0 : ¬ lq_kind u c = 0 := by rw [hk]; decide
  have k1 : ¬ lq_kind u c = 1 := by rw [hk]; decide
  rcases h with ⟨h1, h2⟩ | ⟨h1, h2, h3, h4, h5⟩
  · refine ⟨fun _ => ?_, fun _ => ⟨fun h => absurd h k0, fun _ h => absurd h k1, fun _ _ h => absurd h h2⟩⟩
    have := hs j hj
    rcases h1 with h | h
    · exact Or.inl (by omega)
    · exact Or.inr (by omega)
  · have t1 : lz_tv s (3 * i + m - 1) ↔ m ≤ s i := by
      unfold lz_tv
      rw [show (3 * i + m - 1) / 3 = i from by omega]
      omega
    have t2 : ¬ lz_tv s (3 * j + n) ↔ s j ≤ n := by
      unfold lz_tv
      rw [show (3 * j + n) / 3 = j from by omega]
      omega
    constructor
    · intro h
      rcases h.2.2 k0 k1 h3 with ⟨a, ha, ht⟩ | ⟨a, ha, ht⟩
      · rw [h4, lz_bi (by omega)] at ha
        subst ha
        exact Or.inl (t1.mp ht)
      · rw [h5, lz_bi (by omega)] at ha
        subst ha
        exact Or.inr (t2.mp ht)
    · intro h
      refine ⟨fun h => absurd h k0, fun _ h => absurd h k1, fun _ _ _ => ?_⟩
      rcases h with h | h
      · exact Or.inl ⟨3 * i + m - 1, by rw [h4, lz_bi (by omega)], t1.mpr h⟩
      · exact Or.inr ⟨3 * j + n, by rw [h5, lz_bi (by omega)], t2.mpr h⟩
theorem ly_lin94 {v : SY} {u : SX} (ok : lz_ok u) {c n0 : Nat} (hc : c < 10) (hn : n0 < 2 ^ 31) (h1 : ∀ i, i < 4 → lq_coef u (4 * c + i) = ly_data v (5 * c + i)) (h2 : lq_bound u c = ly_data v (5 * c + 4)) {post : Int32 → Prop}
    (K1 : lz_ps (fun i => lz_cf u c i * (lz_dg n0 i : Int)) 4 ≤ lz_bd u c → post 1) (K0 : ¬ lz_ps (fun i => lz_cf u c i * (lz_dg n0 i : Int)) 4 ≤ lz_bd u c → post 0) :
    ∀ n i X, i ≤ 4 → 4 < n + i → X.toInt = lz_ps (fun i => lz_cf u c i * (lz_dg n0 i : Int)) i → -15 * (i : Int) ≤ X.toInt → X.toInt ≤ 15 * (i : Int) → ly_U (wY_satisfies_94 post (nI n0) (nI (5 * c))) v n X (nI i) := by
  intro n
  induction n with
  | zero => intro i X g1 g2; omega
  | succ n ih =>
    intro i X g1 g2 hX b1 b2
    refine pk_le 4 i (fun h => ?_) (fun h => ?_)
    · have e : i = 4 := by omega
      subst e
      have e4 : nI (5 * c) + 4 = nI (5 * c + 4) := nI_add (5 * c) 4
      have e5 : (nI (5 * c) + 4).toNatClampNeg = 5 * c + 4 := by rw [e4]; exact nI_clamp (by omega)
      have eb : (ly_data v (nI (5 * c) + 4).toNatClampNeg).toInt = lz_bd u c := by rw [e5, ← h2]; rfl
      refine And.intro (by rw [e4]; exact vp_in_nI (by omega) (by decide)) (lz_ltI (lz_bd u c) _ eb hX (fun hlt => K0 (by omega)) (fun hge => K1 hge))
    · have e4 : nI (5 * c) + nI i = nI (5 * c + i) := nI_add _ _
      have e5 : (nI (5 * c) + nI i).toNatClampNeg = 5 * c + i := by rw [e4]; exact nI_clamp (by omega)
      have hcf := ok.1 (4 * c + i) (by omega)
      have ecf : ly_data v (nI (5 * c) + nI i).toNatClampNeg = lq_coef u (4 * c + i) := by rw [e5, h1 i h]
      have hd := lz_dg_lt n0 i
      have hm : (lq_coef u (4 * c + i) * nI (lz_dg n0 i)).toInt = lz_cf u c i * (lz_dg n0 i : Int) := lz_mulI (by omega) (by omega) hd
      have htb := lz_tb (a := lz_cf u c i) hcf.1 hcf.2 hd
      have hXi : (X + lq_coef u (4 * c + i) * nI (lz_dg n0 i)).toInt = X.toInt + lz_cf u c i * (lz_dg n0 i : Int) := by
        rw [lz_addI (by omega) (by omega) (by omega) (by omega), hm]
      refine And.intro (by rw [e4]; exact vp_in_nI (by omega) (by decide)) (ly_value_w rfl hn h (nm_r (e' := X + lq_coef u (4 * c + i) * nI (lz_dg n0 i)) (congrArg (fun z => X + z * nI (lz_dg n0 i)) ecf) (nm_r (nI_1 i) (ih (i + 1) _ (by omega) (by omega) ?_ ?_ ?_))))
      · rw [hXi, hX]; rfl
      · rw [hXi]; omega
      · rw [hXi]; omega
theorem ly_sat_w {v : SY} {u : SX} (ok : lz_ok u) {c n0 : Nat} (hc : c < 10) (hn : n0 < 2 ^ 31) (rc : lz_rc u v c) {post : Int32 → Prop}
    (K1 : lz_sat u c (lz_dg n0) → post 1) (K0 : ¬ lz_sat u c (lz_dg n0) → post 0) : wpY_satisfies post v (nI c) (nI n0) := by
  have e5 : nI c * 5 = nI (5 * c) := by
    show nI c * nI 5 = _
    rw [pk_mul, Nat.mul_comm]
  have ec : (nI c).toNatClampNeg = c := nI_clamp (by omega)
  have e50 : (nI (5 * c)).toNatClampNeg = 5 * c := nI_clamp (by omega)
  have hin : vp_in (nI c) 10 := vp_in_nI hc (by decide)
  have hin5 : vp_in (nI (5 * c)) 50 := vp_in_nI (by omega) (by decide)
  have ek : ly_kind v (nI c).toNatClampNeg = ly_kind v c := by rw [ec]
  refine nm_r e5 (And.intro hin ?_)
  rcases rc with ⟨k1, k2, k3, k4⟩ | ⟨k1, k2, k3⟩ | ⟨k1, k2, i, m, j, n, hi, hm, hj, hn', d0, d1, d2, d3, hh⟩
  · refine br_f (by show ¬ ly_kind v (nI c).toNatClampNeg = 1; rw [ek, k2]; decide) (And.intro hin (br_f (by show ¬ ly_kind v (nI c).toNatClampNeg = 2; rw [ek, k2]; decide) ?_))
    refine lz_ex (fun n => ly_U (wY_satisfies_94 post (nI n0) (nI (5 * c))) v n 0 (nI 0)) 5 (ly_lin94 ok hc hn k3 k4 (fun h => K1 ⟨fun _ => h, fun h0 => absurd k1 h0, fun h0 => absurd k1 h0⟩) (fun h => K0 (fun hs => h (hs.1 k1))) 5 0 0 (by omega) (by omega) (by rfl) (by decide) (by decide))
  · have k0 : ¬ lq_kind u c = 0 := by rw [k1]; decide
    refine br_t (by show ly_kind v (nI c).toNatClampNeg = 1; rw [ek, k2]) (And.intro hin5 ?_)
    have ed : ly_data v (nI (5 * c)).toNatClampNeg = lq_members u c := by rw [e50, k3]
    refine lz_eqv (P := fun z => wpY_allDiffer _ v z (nI n0)) ed (ly_allDiffer_w hn (fun h => And.intro narrow_b0 (K0 (fun hs => h (hs.2.1 k0 k1)))) (fun h => And.intro narrow_b1 (K1 ⟨fun h0 => absurd h0 k0, fun _ _ => h, fun _ h1 => absurd k1 h1⟩)))
  · have hsat := lz_sat2 (u := u) (c := c) k1 hi hm hj hn' hh (s := lz_dg n0) (fun i _ => lz_dg_lt n0 i)
    have g1 := lz_dg_lt n0 i
    have g2 := lz_dg_lt n0 j
    have p1 : nI (5 * c) + 1 = nI (5 * c + 1) := nI_add (5 * c) 1
    have p2 : nI (5 * c) + 2 = nI (5 * c + 2) := nI_add (5 * c) 2
    have p3 : nI (5 * c) + 3 = nI (5 * c + 3) := nI_add (5 * c) 3
    have q0 : ly_data v (nI (5 * c)).toNatClampNeg = nI i := by rw [e50, d0]
    have q1 : ly_data v (nI (5 * c) + 1).toNatClampNeg = nI m := by rw [p1, nI_clamp (by omega), d1]
    have q2 : ly_data v (nI (5 * c) + 2).toNatClampNeg = nI j := by rw [p2, nI_clamp (by omega), d2]
    have q3 : ly_data v (nI (5 * c) + 3).toNatClampNeg = nI n := by rw [p3, nI_clamp (by omega), d3]
    refine br_f (by show ¬ ly_kind v (nI c).toNatClampNeg = 1; rw [ek, k2]; decide) (And.intro hin (br_t (by show ly_kind v (nI c).toNatClampNeg = 2; rw [ek, k2]) (And.intro hin5 (ly_value_w q0 hn hi (And.intro (by rw [p1]; exact vp_in_nI (by omega) (by decide)) (pk_le m (lz_dg n0 i) (fun h => ?_) (fun h => ?_) q1))))))
    · exact K1 (hsat.mpr (Or.inl h))
    · refine And.intro (by rw [p2]; exact vp_in_nI (by omega) (by decide)) (ly_value_w q2 hn hj (And.intro (by rw [p3]; exact vp_in_nI (by omega) (by decide)) (pk_lt n (lz_dg n0 j) (fun h' => ?_) (fun h' => ?_) q3)))
      · exact K0 (fun hs => by have := hsat.mp hs; omega)
      · exact K1 (hsat.mpr (Or.inr h'))
/-! satisfiesAll, firstOf -/
def lz_all (u : SX) (X : Int32) (m n : Nat) : Prop := ∀ c, c < m → bt X c = true → lz_sat u c (lz_dg n)
theorem ly_sa_l {v : SY} {u : SX} (ok : lz_ok u) {m n0 : Nat} {X : Int32} (hm : m ≤ 10) (hcnt : ly_count v = nI m) (hn : n0 < 2 ^ 31) (rc : ∀ c, c < m → lz_rc u v c) {post : Int32 → Prop}
    (K1 : lz_all u X m n0 → post 1) (K0 : ¬ lz_all u X m n0 → post 0) :
    ∀ n c, c ≤ m → m < n + c → (∀ c', c' < c → bt X c' = true → lz_sat u c' (lz_dg n0)) → ly_U (wY_satisfiesAll_2 post X (nI n0)) v n (nI c) := by
  intro n
  induction n with
  | zero => intro c h1 h2; omega
  | succ n ih =>
    intro c h1 h2 h3
    refine pk_le m c (fun h => ?_) (fun h => ?_) hcnt
    · have e : c = m := by omega
      subst e
      exact K1 h3
    · refine lz_brb c rfl (by omega) (fun hb => ?_) (fun hb => nm_r (nI_1 c) (ih (c + 1) (by omega) (by omega) (fun c' hc' hb' => ?_)))
      · refine ly_sat_w ok (by omega) hn (rc c h) (fun hs => br_f (by decide) (nm_r (nI_1 c) (ih (c + 1) (by omega) (by omega) (fun c' hc' hb' => ?_)))) (fun hs => br_t rfl (K0 (fun ha => hs (ha c h hb))))
        by_cases e : c' = c
        · rw [e]; exact hs
        · exact h3 c' (by omega) hb'
      · by_cases e : c' = c
        · rw [e] at hb'; exact absurd hb' (lz_ff.mp hb)
        · exact h3 c' (by omega) hb'
theorem ly_sa_w {v : SY} {u : SX} (ok : lz_ok u) {m n0 : Nat} {X : Int32} (hm : m ≤ 10) (hcnt : ly_count v = nI m) (hn : n0 < 2 ^ 31) (rc : ∀ c, c < m → lz_rc u v c) {post : Int32 → Prop}
    (K1 : lz_all u X m n0 → post 1) (K0 : ¬ lz_all u X m n0 → post 0) : wpY_satisfiesAll post v X (nI n0) :=
  lz_ex (fun n => ly_U (wY_satisfiesAll_2 post X (nI n0)) v n (nI 0)) 11 (ly_sa_l ok hm hcnt hn rc K1 K0 11 0 (by omega) (by omega) (fun c hc => absurd hc (Nat.not_lt_zero c)))
theorem ly_fo_l {v : SY} {u : SX} (ok : lz_ok u) {m st : Nat} {X : Int32} (hm : m ≤ 10) (hcnt : ly_count v = nI m) (rc : ∀ c, c < m → lz_rc u v c) {post : Int32 → Prop}
    (K1 : ∀ r, st ≤ r → r < 256 → lz_all u X m r → (∀ k, st ≤ k → k < r → ¬ lz_all u X m k) → post (nI r)) (K0 : (∀ k, st ≤ k → k < 256 → ¬ lz_all u X m k) → post (-4)) :
    ∀ n r, st ≤ r → r ≤ 256 → 256 < n + r → (∀ k, st ≤ k → k < r → ¬ lz_all u X m k) → ly_U (wY_firstOf_2 post X) v n (nI r) := by
  intro n
  induction n with
  | zero => intro r h0 h1 h2; omega
  | succ n ih =>
    intro r h0 h1 h2 h3
    refine pk_le 256 r (fun h => ?_) (fun h => ?_)
    · have e : r = 256 := by omega
      subst e
      exact K0 h3
    · refine ly_sa_w ok hm hcnt (by omega) rc (fun ha => br_f (by decide) (K1 r h0 h ha h3)) (fun ha => br_t rfl (nm_r (nI_1 r) (ih (r + 1) (by omega) (by omega) (by omega) (fun k hk1 hk2 => ?_))))
      by_cases e : k = r
      · rw [e]; exact ha
      · exact h3 k hk1 (by omega)
theorem ly_fo_w {v : SY} {u : SX} (ok : lz_ok u) {m st : Nat} {X x : Int32} (hx : x = nI st) (hst : st ≤ 256) (hm : m ≤ 10) (hcnt : ly_count v = nI m) (rc : ∀ c, c < m → lz_rc u v c) {post : Int32 → Prop}
    (K1 : ∀ r, st ≤ r → r < 256 → lz_all u X m r → (∀ k, st ≤ k → k < r → ¬ lz_all u X m k) → post (nI r)) (K0 : (∀ k, st ≤ k → k < 256 → ¬ lz_all u X m k) → post (-4)) : wpY_firstOf post v X x := by
  subst hx
  exact lz_ex (fun n => ly_U (wY_firstOf_2 post X) v n (nI st)) 257 (ly_fo_l ok hm hcnt rc K1 K0 257 st (Nat.le_refl _) hst (by omega) (fun k h1 h2 => by omega))
end
section
def lq_cs (u : SX) : Int32 × Int32 × (Nat → Int32) × (Nat → Int32) × (Nat → Int32) × (Nat → Int32) × (Nat → Int32) × (Nat → Int32) × (Nat → Int32) × (Nat → Int32) := (lq_made u, lq_inForce u, lq_held u, lq_kind u, lq_coef u, lq_bound u, lq_members u, lq_eitherYes u, lq_eitherNo u, lq_always u)
theorem lq_cs_made {u u' : SX} (h : lq_cs u' = lq_cs u) : lq_made u' = lq_made u := congrArg (fun k => k.1) h
theorem lq_cs_inForce {u u' : SX} (h : lq_cs u' = lq_cs u) : lq_inForce u' = lq_inForce u := congrArg (fun k => k.2.1) h
theorem lq_cs_held {u u' : SX} (h : lq_cs u' = lq_cs u) : lq_held u' = lq_held u := congrArg (fun k => k.2.2.1) h
theorem lq_cs_kind {u u' : SX} (h : lq_cs u' = lq_cs u) : lq_kind u' = lq_kind u := congrArg (fun k => k.2.2.2.1) h
theorem lq_cs_coef {u u' : SX} (h : lq_cs u' = lq_cs u) : lq_coef u' = lq_coef u := congrArg (fun k => k.2.2.2.2.1) h
theorem lq_cs_bound {u u' : SX} (h : lq_cs u' = lq_cs u) : lq_bound u' = lq_bound u := congrArg (fun k => k.2.2.2.2.2.1) h
theorem lq_cs_members {u u' : SX} (h : lq_cs u' = lq_cs u) : lq_members u' = lq_members u := congrArg (fun k => k.2.2.2.2.2.2.1) h
theorem lq_cs_eitherYes {u u' : SX} (h : lq_cs u' = lq_cs u) : lq_eitherYes u' = lq_eitherYes u := congrArg (fun k => k.2.2.2.2.2.2.2.1) h
theorem lq_cs_eitherNo {u u' : SX} (h : lq_cs u' = lq_cs u) : lq_eitherNo u' = lq_eitherNo u := congrArg (fun k => k.2.2.2.2.2.2.2.2.1) h
theorem lq_cs_always {u u' : SX} (h : lq_cs u' = lq_cs u) : lq_always u' = lq_always u := congrArg (fun k => k.2.2.2.2.2.2.2.2.2) h
theorem lq_st_cs {u u' : SX} (h : lq_st u' = lq_st u) : lq_cs u' = lq_cs u := congrArg (fun k => (k.1, k.2.1, k.2.2.2.1, k.2.2.2.2.1, k.2.2.2.2.2.1, k.2.2.2.2.2.2.1, k.2.2.2.2.2.2.2.1, k.2.2.2.2.2.2.2.2.1, k.2.2.2.2.2.2.2.2.2.1, k.2.2.2.2.2.2.2.2.2.2.1)) h
def lz_setC (u : SX) (m f : Int32) (k mb ey en al : Nat → Int32) : SX := (m, f, lq_yes u, lq_no u, lq_trailLen u, lq_level u, lq_decided u, lq_counted u, lq_learnt u, lq_clash u, lq_clashYes u, lq_clashNo u, lq_moved u, lq_held u, k, lq_coef u, lq_bound u, mb, ey, en, al, lq_trail u, lq_atLevel u, lq_whyYes u, lq_whyNo u, lq_least u, lq_most u, lq_learntYes u, lq_learntNo u)
def lz_setHeld (u : SX) (h : Nat → Int32) : SX := (lq_made u, lq_inForce u, lq_yes u, lq_no u, lq_trailLen u, lq_level u, lq_decided u, lq_counted u, lq_learnt u, lq_clash u, lq_clashYes u, lq_clashNo u, lq_moved u, h, lq_kind u, lq_coef u, lq_bound u, lq_members u, lq_eitherYes u, lq_eitherNo u, lq_always u, lq_trail u, lq_atLevel u, lq_whyYes u, lq_whyNo u, lq_least u, lq_most u, lq_learntYes u, lq_learntNo u)
def lz_setMI (u : SX) (m f : Int32) : SX := (m, f, lq_yes u, lq_no u, lq_trailLen u, lq_level u, lq_decided u, lq_counted u, lq_learnt u, lq_clash u, lq_clashYes u, lq_clashNo u, lq_moved u, lq_held u, lq_kind u, lq_coef u, lq_bound u, lq_members u, lq_eitherYes u, lq_eitherNo u, lq_always u, lq_trail u, lq_atLevel u, lq_whyYes u, lq_whyNo u, lq_least u, lq_most u, lq_learntYes u, lq_learntNo u)
def lq_UE (W : lq_J0) (u : SX) (k ey en al : Nat → Int32) : Prop := W (lq_made u) (lq_inForce u) (lq_yes u) (lq_no u) (lq_trailLen u) (lq_level u) (lq_decided u) (lq_counted u) (lq_learnt u) (lq_clash u) (lq_clashYes u) (lq_clashNo u) (lq_moved u) (lq_held u) k (lq_coef u) (lq_bound u) (lq_members u) ey en al (lq_trail u) (lq_atLevel u) (lq_whyYes u) (lq_whyNo u) (lq_least u) (lq_most u) (lq_learntYes u) (lq_learntNo u)
end
section
/-! the relation, and the methods that make constraints -/
theorem lz_rc_of {u u' : SX} {v v' : SY} {c : Nat} (h : lz_rc u v c) (k1 : lq_kind u' c = lq_kind u c) (k2 : ∀ i, i < 4 → lq_coef u' (4 * c + i) = lq_coef u (4 * c + i)) (k3 : lq_bound u' c = lq_bound u c) (k4 : lq_members u' c = lq_members u c)
    (k5 : lq_eitherYes u' c = lq_eitherYes u c) (k6 : lq_eitherNo u' c = lq_eitherNo u c) (k7 : lq_always u' c = lq_always u c) (y1 : ly_kind v' c = ly_kind v c) (y2 : ∀ i, i < 5 → ly_data v' (5 * c + i) = ly_data v (5 * c + i)) : lz_rc u' v' c := by
  have y0 : ly_data v' (5 * c) = ly_data v (5 * c) := y2 0 (by omega)
  rcases h with ⟨a1, a2, a3, a4⟩ | ⟨a1, a2, a3⟩ | ⟨a1, a2, i, m, j, n, hi, hm, hj, hn, d0, d1, d2, d3, hh⟩
  · exact Or.inl ⟨k1.trans a1, y1.trans a2, fun i hi => by rw [k2 i hi, y2 i (by omega)]; exact a3 i hi, by rw [k3, y2 4 (by omega)]; exact a4⟩
  · exact Or.inr (Or.inl ⟨k1.trans a1, y1.trans a2, by rw [k4, y0]; exact a3⟩)
  · refine Or.inr (Or.inr ⟨k1.trans a1, y1.trans a2, i, m, j, n, hi, hm, hj, hn, y0.trans d0, (y2 1 (by omega)).trans d1, (y2 2 (by omega)).trans d2, (y2 3 (by omega)).trans d3, ?_⟩)
    rw [k5, k6, k7]
    exact hh
def lz_R (u : SX) (v : SY) : Prop :=
  ∃ m, m ≤ 10 ∧ lq_made u = nI m ∧ ly_count v = nI m ∧ ly_inForce v = lq_inForce u ∧ (∀ c, bt (lq_inForce u) c = true → c < m) ∧ ly_held v = lq_held u ∧
    (∀ i, i < 4 → -5 ≤ (lq_held u i).toInt ∧ (lq_held u i).toInt ≤ 5) ∧ lz_ok u ∧ (∀ c, c < m → lz_rc u v c)
theorem lz_ok_cs {u u' : SX} (h : lq_cs u' = lq_cs u) (k : lz_ok u) : lz_ok u' := by
  unfold lz_ok
  rw [lq_cs_coef h, lq_cs_bound h, lq_cs_kind h, lq_cs_always h, lq_cs_eitherYes h, lq_cs_eitherNo h]
  exact k
/-- slot 10 is free -/
theorem lz_R_of {u u' : SX} {v : SY} (I : lz_R u v) (h1 : lq_made u' = lq_made u) (h2 : lq_inForce u' = lq_inForce u) (h3 : lq_held u' = lq_held u) (ok : lz_ok u')
    (k1 : ∀ c, c < 10 → lq_kind u' c = lq_kind u c) (k2 : ∀ j, j < 40 → lq_coef u' j = lq_coef u j) (k3 : ∀ c, c < 10 → lq_bound u' c = lq_bound u c) (k4 : lq_members u' = lq_members u)
    (k5 : lq_eitherYes u' = lq_eitherYes u) (k6 : lq_eitherNo u' = lq_eitherNo u) (k7 : lq_always u' = lq_always u) : lz_R u' v := by
  obtain ⟨m, hm, r1, r2, r3, r4, r5, r6, r7, r8⟩ := I
  refine ⟨m, hm, h1.trans r1, r2, r3.trans h2.symm, by rw [h2]; exact r4, r5.trans h3.symm, by rw [h3]; exact r6, ok, fun c hc => ?_⟩
  exact lz_rc_of (r8 c hc) (k1 c (by omega)) (fun i hi => k2 _ (by omega)) (k3 c (by omega)) (by rw [k4]) (by rw [k5]) (by rw [k6]) (by rw [k7]) rfl (fun _ _ => rfl)
theorem lz_R_cs {u u' : SX} {v : SY} (h : lq_cs u' = lq_cs u) (I : lz_R u v) : lz_R u' v := by
  have ok : lz_ok u := by
    obtain ⟨m, hm, r1, r2, r3, r4, r5, r6, r7, r8⟩ := I
    exact r7
  exact lz_R_of I (lq_cs_made h) (lq_cs_inForce h) (lq_cs_held h) (lz_ok_cs h ok) (fun c _ => by rw [lq_cs_kind h]) (fun j _ => by rw [lq_cs_coef h]) (fun c _ => by rw [lq_cs_bound h]) (lq_cs_members h) (lq_cs_eitherYes h) (lq_cs_eitherNo h) (lq_cs_always h)
/-- a new constraint -/
theorem lz_R_new {u u' : SX} {v v' : SY} {m : Nat} (hm : m < 10) (r3 : ly_inForce v = lq_inForce u) (r4 : ∀ c, bt (lq_inForce u) c = true → c < m) (r5 : ly_held v = lq_held u) (r6 : ∀ i, i < 4 → -5 ≤ (lq_held u i).toInt ∧ (lq_held u i).toInt ≤ 5) (r8 : ∀ c, c < m → lz_rc u v c)
    (h1 : lq_made u' = nI (m + 1)) (h2 : lq_inForce u' = lq_inForce u ||| lz_b m) (h3 : lq_held u' = lq_held u) (ok : lz_ok u') (y1 : ly_count v' = nI (m + 1)) (y2 : ly_inForce v' = ly_inForce v ||| lz_b m) (y3 : ly_held v' = ly_held v)
    (k1 : ∀ c, c < m → lq_kind u' c = lq_kind u c) (k2 : ∀ j, j < 4 * m → lq_coef u' j = lq_coef u j) (k3 : ∀ c, c < m → lq_bound u' c = lq_bound u c) (k4 : ∀ c, c < m → lq_members u' c = lq_members u c)
    (k5 : ∀ c, c < m → lq_eitherYes u' c = lq_eitherYes u c) (k6 : ∀ c, c < m → lq_eitherNo u' c = lq_eitherNo u c) (k7 : ∀ c, c < m → lq_always u' c = lq_always u c)
    (y4 : ∀ c, c < m → ly_kind v' c = ly_kind v c) (y5 : ∀ j, j < 5 * m → ly_data v' j = ly_data v j) (hn : lz_rc u' v' m) : lz_R u' v' := by
  refine ⟨m + 1, by omega, h1, y1, by rw [y2, h2, r3], ?_, by rw [y3, h3, r5], by rw [h3]; exact r6, ok, fun c hc => ?_⟩
  · intro c hc
    rw [h2] at hc
    rcases (lz_orb _ (by omega) c).mp hc with h | h
    · have := r4 c h
      omega
    · omega
  · by_cases e : c = m
    · rw [e]; exact hn
    · exact lz_rc_of (r8 c (by omega)) (k1 c (by omega)) (fun i hi => k2 _ (by omega)) (k3 c (by omega)) (k4 c (by omega)) (k5 c (by omega)) (k6 c (by omega)) (k7 c (by omega)) (y4 c (by omega)) (fun i hi => y5 _ (by omega))
/-! setLinear, accept, make -/
theorem lz_sl_l {u : SX} {c : Nat} (hc : c < 11) {sg : Int32} {k b : Nat → Int32} {post : SX → Prop}
    (K : ∀ cf, (∀ i, i < 4 → cf (4 * c + i) = sg * lq_held u i) → (∀ j, (j < 4 * c ∨ 4 * c + 4 ≤ j) → cf j = lq_coef u j) → post (lz_setLin u k cf b)) :
    ∀ n i cf, i ≤ 4 → 4 < n + i → (∀ i', i' < i → cf (4 * c + i') = sg * lq_held u i') → (∀ j, (j < 4 * c ∨ 4 * c + 4 ≤ j) → cf j = lq_coef u j) → lq_UC (wX_setLinear_17 post (nI c) sg) u k b n (nI i) cf := by
  intro n
  induction n with
  | zero => intro i cf h1 h2; omega
  | succ n ih =>
    intro i cf h1 h2 h3 h4
    refine pk_le 4 i (fun h => ?_) (fun h => ?_)
    · have e : i = 4 := by omega
      subst e
      exact K cf h3 h4
    · have e1 : (nI i).toNatClampNeg = i := nI_clamp (by omega)
      have e2 : (nI c * 4 + nI i).toNatClampNeg = 4 * c + i := by rw [lz_ix4]; exact nI_clamp (by omega)
      have eh : upd cf (nI c * 4 + nI i).toNatClampNeg (sg * lq_held u (nI i).toNatClampNeg) = upd cf (4 * c + i) (sg * lq_held u i) := by rw [e2, e1]
      refine And.intro (vp_in_nI h (by decide)) (And.intro (by rw [lz_ix4]; exact vp_in_nI (by omega) (by decide)) (nm_r (e' := upd cf (4 * c + i) (sg * lq_held u i)) eh (nm_r (nI_1 i) (ih (i + 1) _ (by omega) (by omega) (fun i' hi' => ?_) (fun j hj => ?_)))))
      · by_cases e : i' = i
        · rw [e, pk_us]
        · rw [pk_un (by omega)]; exact h3 i' (by omega)
      · rw [pk_un (by omega)]; exact h4 j hj
theorem lz_setLinear_w {u : SX} {c : Nat} {x : Int32} (hx : x = nI c) (hc : c < 11) {sg b : Int32} {post : SX → Prop}
    (K : ∀ cf, (∀ i, i < 4 → cf (4 * c + i) = sg * lq_held u i) → (∀ j, (j < 4 * c ∨ 4 * c + 4 ≤ j) → cf j = lq_coef u j) → post (lz_setLin u (upd (lq_kind u) c 0) cf (upd (lq_bound u) c b))) : wpX_setLinear post u x sg b := by
  subst hx
  have e1 : (nI c).toNatClampNeg = c := nI_clamp (by omega)
  have hin : vp_in (nI c) 11 := vp_in_nI hc (by decide)
  exact And.intro hin (nm_r (e' := upd (lq_kind u) c 0) (congrArg (fun z => upd (lq_kind u) z 0) e1) (And.intro hin (nm_r (e' := upd (lq_bound u) c b) (congrArg (fun z => upd (lq_bound u) z b) e1)
    (lz_ex (fun n => lq_UC (wX_setLinear_17 post (nI c) sg) u (upd (lq_kind u) c 0) (upd (lq_bound u) c b) n (nI 0) (lq_coef u)) 5 (lz_sl_l hc K 5 0 (lq_coef u) (by omega) (by omega) (fun i' hi' => absurd hi' (Nat.not_lt_zero i')) (fun j _ => rfl))))))
theorem lz_accept_w {u : SX} {m : Nat} (hm : lq_made u = nI m) {post : Int32 → SX → Prop} (h : post (nI m) (lz_setMI u (nI (m + 1)) (lq_inForce u ||| lz_b m))) : wpX_accept post u := by
  refine nm_r (e' := lq_inForce u ||| lz_b m) (congrArg (fun z => lq_inForce u ||| ((1 : Int32) <<< (z &&& 31))) hm) (nm_r (e' := nI (m + 1)) ?_ ?_)
  · show lq_made u + 1 = _
    rw [hm, nI_1]
  · refine lz_eqv (P := fun z => post z _) (nI_pred m) h
theorem ly_make_w {v : SY} {m : Nat} {x : Int32} (hm : ly_count v = nI m) (h10 : m < 10) {post : Int32 → SY → Prop} (h : post (nI m) (nI (m + 1), ly_inForce v ||| lz_b m, ly_held v, upd (ly_kind v) m x, ly_data v)) : wpY_make post v x := by
  have e1 : (ly_count v).toNatClampNeg = m := by rw [hm]; exact nI_clamp (by omega)
  refine And.intro (show vp_in (ly_count v) 10 by rw [hm]; exact vp_in_nI h10 (by decide)) (nm_r (e' := upd (ly_kind v) m x) (congrArg (fun z => upd (ly_kind v) z x) e1) (nm_r (e' := ly_inForce v ||| lz_b m) (congrArg (fun z => ly_inForce v ||| ((1 : Int32) <<< (z &&& 31))) hm) (nm_r (e' := nI (m + 1)) ?_ ?_)))
  · show ly_count v + 1 = _
    rw [hm, nI_1]
  · exact lz_eqv (P := fun z => post z _) (nI_pred m) h
theorem ly_lin_l {v : SY} {m : Nat} {b : Int32} (hm : ly_count v = nI m) (h10 : m < 10) {post : Int32 → SY → Prop}
    (K : ∀ dt, (∀ i, i < 4 → dt (5 * m + i) = ly_held v i) → dt (5 * m + 4) = b → (∀ j, j < 5 * m → dt j = ly_data v j) → post (nI m) (nI (m + 1), ly_inForce v ||| lz_b m, ly_held v, upd (ly_kind v) m 0, dt)) :
    ∀ n i dt, i ≤ 4 → 4 < n + i → (∀ i', i' < i → dt (5 * m + i') = ly_held v i') → (∀ j, j < 5 * m → dt j = ly_data v j) → wY_linear_28 post b (ly_count v) (ly_inForce v) n (nI i) (ly_held v) (ly_kind v) dt := by
  intro n
  induction n with
  | zero => intro i dt h1 h2; omega
  | succ n ih =>
    intro i dt h1 h2 h3 h4
    have e5 : ly_count v * 5 = nI (5 * m) := by
      rw [hm]
      show nI m * nI 5 = _
      rw [pk_mul, Nat.mul_comm]
    refine pk_le 4 i (fun h => ?_) (fun h => ?_)
    · have e : i = 4 := by omega
      subst e
      have e4 : ly_count v * 5 + 4 = nI (5 * m + 4) := by rw [e5]; exact nI_add (5 * m) 4
      have ec : (ly_count v * 5 + 4).toNatClampNeg = 5 * m + 4 := by rw [e4]; exact nI_clamp (by omega)
      refine And.intro (by rw [e4]; exact vp_in_nI (by omega) (by decide)) (nm_r (e' := upd dt (5 * m + 4) b) (congrArg (fun z => upd dt z b) ec) ?_)
      refine ly_make_w (v := (ly_count v, ly_inForce v, ly_held v, ly_kind v, upd dt (5 * m + 4) b)) hm h10 ?_
      refine K (upd dt (5 * m + 4) b) (fun i hi => ?_) pk_us (fun j hj => ?_)
      · rw [pk_un (by omega)]; exact h3 i hi
      · rw [pk_un (by omega)]; exact h4 j hj
    · have e1 : (nI i).toNatClampNeg = i := nI_clamp (by omega)
      have e4 : ly_count v * 5 + nI i = nI (5 * m + i) := by rw [e5, nI_add]
      have ec : (ly_count v * 5 + nI i).toNatClampNeg = 5 * m + i := by rw [e4]; exact nI_clamp (by omega)
      have eh : upd dt (ly_count v * 5 + nI i).toNatClampNeg (ly_held v (nI i).toNatClampNeg) = upd dt (5 * m + i) (ly_held v i) := by rw [ec, e1]
      refine And.intro (vp_in_nI h (by decide)) (And.intro (by rw [e4]; exact vp_in_nI (by omega) (by decide)) (nm_r (e' := upd dt (5 * m + i) (ly_held v i)) eh (nm_r (nI_1 i) (ih (i + 1) _ (by omega) (by omega) (fun i' hi' => ?_) (fun j hj => ?_)))))
      · by_cases e : i' = i
        · rw [e, pk_us]
        · rw [pk_un (by omega)]; exact h3 i' (by omega)
      · rw [pk_un (by omega)]; exact h4 j hj
end
section
/-! the owed statements on the methods that make constraints -/
/-- the relation: the constraints made, in force and held; all else of the component is free -/
def i_Rel (k : Nat) (u : SX) (v : SY) : Prop := lz_R u v
theorem i_up {k : Nat} {u : SX} {v : SY} (h : i_Rel k u v) : i_Rel (k + 5) u v := h
theorem lz_ok_0 : lz_ok (0, 0, 0, 0, 0, 0, 0, 0, 0, 0, 0, 0, 0, (fun _ => 0), (fun _ => 0), (fun _ => 0), (fun _ => 0), (fun _ => 0), (fun _ => 0), (fun _ => 0), (fun _ => 0), (fun _ => 0), (fun _ => 0), (fun _ => 0), (fun _ => 0), (fun _ => 0), (fun _ => 0), (fun _ => 0), (fun _ => 0)) :=
  ⟨fun _ _ => ⟨(by decide : (-5 : Int) ≤ (0 : Int32).toInt), (by decide : (0 : Int32).toInt ≤ 5)⟩, fun _ _ => ⟨(by decide : (-100 : Int) ≤ (0 : Int32).toInt), (by decide : (0 : Int32).toInt ≤ 99)⟩, fun _ _ h => absurd rfl h⟩
theorem i_vc0 : wpX_init (fun u => wpY_init (fun v => i_Rel 0 u v)) := by
  show lz_R _ _
  exact ⟨0, by omega, rfl, rfl, rfl, fun c h => absurd h (lz_0 c), rfl, fun _ _ => ⟨(by decide : (-5 : Int) ≤ (0 : Int32).toInt), (by decide : (0 : Int32).toInt ≤ 5)⟩, lz_ok_0, fun c hc => absurd hc (Nat.not_lt_zero c)⟩
theorem i_vc_constraints {k : Nat} {u : SX} {v : SY} (I : i_Rel k u v) (hk : k + 5 ≤ 2560) : wpX_constraints (fun r => wpY_constraints (fun r' => r' = r ∧ i_Rel (k + 5) u v) v) u := by
  have I' := I
  obtain ⟨m, hm, r1, r2, r3, r4, r5, r6, r7, r8⟩ := I
  exact And.intro (r2.trans r1.symm) I'
theorem i_vc_clear {k : Nat} {u : SX} {v : SY} (I : i_Rel k u v) (hk : k + 5 ≤ 2560) : wpX_clear (fun u' => wpY_clear (fun v' => i_Rel (k + 5) u' v') v) u := by
  obtain ⟨m, hm, r1, r2, r3, r4, r5, r6, r7, r8⟩ := I
  show lz_R (lz_setMI u 0 0) (0, 0, ly_held v, ly_kind v, ly_data v)
  exact ⟨0, by omega, rfl, rfl, rfl, fun c h => absurd h (lz_0 c), r5, r6, r7, fun c hc => absurd hc (Nat.not_lt_zero c)⟩
theorem lz_toI {x : Int32} {a : Int} (e : (x).toInt = a) {y : Int32} (h : ¬ y < x) : a ≤ y.toInt := by
  rw [Int32.lt_iff_toInt_lt] at h
  omega
theorem i_vc_factor {k : Nat} {u : SX} {v : SY} (I : i_Rel k u v) (hk : k + 5 ≤ 2560) (v1 : Int32) (v2 : Int32) : wpX_factor (fun r u' => wpY_factor (fun r' v' => r' = r ∧ i_Rel (k + 5) u' v') v v1 v2) u v1 v2 := by
  refine br_c (fun h0 => br_t h0 (And.intro rfl I)) (fun h0 => br_c (fun h1 => br_f h0 (br_t h1 (And.intro rfl I))) (fun h1 => br_c (fun h2 => br_f h0 (br_f h1 (br_t h2 (And.intro rfl I)))) (fun h2 => br_c (fun h3 => ?_) (fun h3 => br_f h0 (br_f h1 (br_f h2 (br_f h3 (And.intro rfl I))))))))
  obtain ⟨i, hi, rfl⟩ := nI_of2 (M := 3) (n := 3) (by decide) h0 (Int32.not_lt.mp h1)
  have hin : vp_in (nI i) 4 := vp_in_nI (by omega) (by decide)
  have e1 : (nI i).toNatClampNeg = i := nI_clamp (by omega)
  obtain ⟨m, hm, r1, r2, r3, r4, r5, r6, r7, r8⟩ := I
  refine And.intro hin (nm_e (And.intro hin (nm_r (e' := upd (lq_held u) i v2) (congrArg (fun z => upd (lq_held u) z v2) e1) ?_)))
  refine br_f h0 (br_f h1 (br_f h2 (br_t h3 (And.intro hin (nm_e (And.intro hin (nm_r (e' := upd (ly_held v) i v2) (congrArg (fun z => upd (ly_held v) z v2) e1) (And.intro (congrArg (fun z => z (nI i).toNatClampNeg) r5) ?_))))))))
  show lz_R (lz_setHeld u (upd (lq_held u) i v2)) (ly_count v, ly_inForce v, upd (ly_held v) i v2, ly_kind v, ly_data v)
  refine ⟨m, hm, r1, r2, r3, r4, ?_, fun j hj => ?_, r7, r8⟩
  · show upd (ly_held v) i v2 = upd (lq_held u) i v2
    rw [r5]
  · show -5 ≤ (upd (lq_held u) i v2 j).toInt ∧ (upd (lq_held u) i v2 j).toInt ≤ 5
    by_cases e : j = i
    · rw [e, pk_us]
      have a := lz_toI (x := -5) (a := -5) (by decide) h2
      rw [Int32.le_iff_toInt_le, show (5 : Int32).toInt = 5 from by decide] at h3
      exact ⟨a, h3⟩
    · rw [pk_un e]; exact r6 j hj
theorem lz_inF {x : Int32} {m c : Nat} (hc : c < 32) : (x &&& (lz_b c ^^^ (-1))) ||| lz_b c = x ||| lz_b c := by
  refine b_ext fun i hi => ?_
  have h1 : bt ((x &&& (lz_b c ^^^ (-1))) ||| lz_b c) i = true ↔ bt (x ||| lz_b c) i = true := by
    rw [lz_orb _ hc, lz_anb _ hc, lz_orb _ hc]
    constructor
    · rintro (h | h)
      · exact Or.inl h.1
      · exact Or.inr h
    · rintro (h | h)
      · by_cases e : i = c
        · exact Or.inr e
        · exact Or.inl ⟨h, e⟩
      · exact Or.inr h
  cases h2 : bt (x ||| lz_b c) i with
  | true => exact h1.mpr h2
  | false => exact lz_ff.mpr (fun h => by rw [h1.mp h] at h2; exact absurd h2 (by decide))
theorem i_vc_force {k : Nat} {u : SX} {v : SY} (I : i_Rel k u v) (hk : k + 5 ≤ 2560) (v1 : Int32) (v2 : Int32) : wpX_force (fun r u' => wpY_force (fun r' v' => r' = r ∧ i_Rel (k + 5) u' v') v v1 v2) u v1 v2 := by
  have I' := I
  obtain ⟨m, hm, r1, r2, r3, r4, r5, r6, r7, r8⟩ := I
  have cnt : ly_count v = lq_made u := r2.trans r1.symm
  refine br_c (fun h0 => br_t h0 (And.intro rfl I')) (fun h0 => br_c (fun h1 => ?_) (fun h1 => br_f h0 (br_f (by show ¬ v1 < ly_count v; rw [cnt]; exact h1) (And.intro rfl I'))))
  obtain ⟨c, hc, rfl⟩ := nI_of h0
  have h1' : nI c < nI m := by rw [← r1]; exact h1
  rw [nI_ltI hc (by omega)] at h1'
  have hy : nI c < ly_count v := by rw [cnt]; exact h1
  have ea : (ly_inForce v >>> (nI c &&& 31)) &&& 1 = (lq_inForce u >>> (nI c &&& 31)) &&& 1 := by rw [r3]
  have hsub : ∀ c', bt (lq_inForce u &&& (lz_b c ^^^ (-1))) c' = true → c' < m := fun c' h => r4 c' ((lz_anb _ (by omega) c').mp h).1
  have hsup : ∀ c', bt (lq_inForce u ||| lz_b c) c' = true → c' < m := by
    intro c' h
    rcases (lz_orb _ (by omega) c').mp h with h | h
    · exact r4 c' h
    · omega
  refine nm_e (nm_e (br_c (fun h2 => ?_) (fun h2 => nm_e ?_)))
  · refine br_f h0 (br_t hy (nm_e (br_t h2 (nm_e (And.intro ea ?_)))))
    show lz_R (lz_setMI u (lq_made u) (lq_inForce u &&& (lz_b c ^^^ (-1)))) (ly_count v, ly_inForce v &&& (lz_b c ^^^ (-1)), ly_held v, ly_kind v, ly_data v)
    refine ⟨m, hm, r1, r2, ?_, hsub, r5, r6, r7, r8⟩
    show ly_inForce v &&& (lz_b c ^^^ (-1)) = lq_inForce u &&& (lz_b c ^^^ (-1))
    rw [r3]
  · refine br_f h0 (br_t hy (nm_e (br_f h2 (nm_e (And.intro ea ?_)))))
    show lz_R (lz_setMI u (lq_made u) ((lq_inForce u &&& (lz_b c ^^^ (-1))) ||| lz_b c)) (ly_count v, ly_inForce v ||| lz_b c, ly_held v, ly_kind v, ly_data v)
    rw [lz_inF (m := m) (by omega)]
    refine ⟨m, hm, r1, r2, ?_, hsup, r5, r6, r7, r8⟩
    show ly_inForce v ||| lz_b c = lq_inForce u ||| lz_b c
    rw [r3]
theorem lz_not10 {x : Int32} {m : Nat} (h : x = nI m) (hm : m ≤ 10) (h10 : ¬ x = 10) : m < 10 := by
  refine Nat.lt_of_le_of_ne hm (fun e => h10 ?_)
  rw [h, e]
  rfl
theorem i_vc_linear {k : Nat} {u : SX} {v : SY} (I : i_Rel k u v) (hk : k + 5 ≤ 2560) (v1 : Int32) : wpX_linear (fun r u' => wpY_linear (fun r' v' => r' = r ∧ i_Rel (k + 5) u' v') v v1) u v1 := by
  have I' := I
  obtain ⟨m, hm, r1, r2, r3, r4, r5, r6, r7, r8⟩ := I
  have cnt : ly_count v = lq_made u := r2.trans r1.symm
  refine br_c (fun h0 => br_t h0 (And.intro rfl I')) (fun h0 => br_c (fun h1 => br_c (fun h2 => br_f h0 (br_t h1 (br_t (by show ly_count v = 10; rw [cnt]; exact h2) (And.intro rfl I')))) (fun h2 => ?_)) (fun h1 => br_f h0 (br_f h1 (And.intro rfl I'))))
  have h10 : m < 10 := lz_not10 r1 hm h2
  have b1 := lz_toI (x := -60) (a := -60) (by decide) h0
  have b2 : v1.toInt ≤ 60 := by rw [Int32.le_iff_toInt_le, show (60 : Int32).toInt = 60 from by decide] at h1; exact h1
  refine lz_setLinear_w (u := u) (c := m) r1 (by omega) (fun cf c1 c2 => ?_)
  refine lz_accept_w (u := lz_setLin u (upd (lq_kind u) m 0) cf (upd (lq_bound u) m v1)) r1 ?_
  refine br_f h0 (br_t h1 (br_f (by show ¬ ly_count v = 10; rw [cnt]; exact h2) ?_))
  refine lz_ex (fun n => wY_linear_28 _ v1 (ly_count v) (ly_inForce v) n (nI 0) (ly_held v) (ly_kind v) (ly_data v)) 5 (ly_lin_l r2 h10 (fun dt d1 d2 d3 => And.intro rfl ?_) 5 0 (ly_data v) (by omega) (by omega) (fun i' hi' => absurd hi' (Nat.not_lt_zero i')) (fun j _ => rfl))
  have one : ∀ x : Int32, 1 * x = x := fun x => Int32.one_mul x
  have hcf : ∀ j, j < 44 → -5 ≤ (cf j).toInt ∧ (cf j).toInt ≤ 5 := by
    intro j hj
    by_cases e : j < 4 * m ∨ 4 * m + 4 ≤ j
    · rw [c2 j e]; exact r7.1 j hj
    · obtain ⟨i, hi, rfl⟩ : ∃ i, i < 4 ∧ j = 4 * m + i := ⟨j - 4 * m, by omega, by omega⟩
      rw [c1 i hi, one]
      exact r6 i hi
  refine lz_R_new (u := u) (v := v) h10 r3 r4 r5 r6 r8 (u' := lz_setMI (lz_setLin u (upd (lq_kind u) m 0) cf (upd (lq_bound u) m v1)) (nI (m + 1)) (lq_inForce u ||| lz_b m)) (v' := (nI (m + 1), ly_inForce v ||| lz_b m, ly_held v, upd (ly_kind v) m 0, dt)) rfl rfl rfl ?_ rfl rfl rfl ?_ ?_ ?_ (fun _ _ => rfl) (fun _ _ => rfl) (fun _ _ => rfl) (fun _ _ => rfl) ?_ ?_ ?_
  · refine ⟨hcf, fun c hc => ?_, fun c hc => ?_⟩
    · show -100 ≤ (upd (lq_bound u) m v1 c).toInt ∧ (upd (lq_bound u) m v1 c).toInt ≤ 99
      by_cases e : c = m
      · rw [e, pk_us]; exact ⟨by omega, by omega⟩
      · rw [pk_un e]; exact r7.2.1 c hc
    · show ¬ upd (lq_kind u) m 0 c = 0 → ¬ upd (lq_kind u) m 0 c = 1 → _
      by_cases e : c = m
      · rw [e, pk_us]; exact fun h => absurd rfl h
      · rw [pk_un e]; exact r7.2.2 c hc
  · exact fun c hc => pk_un (by omega)
  · exact fun j hj => c2 j (Or.inl hj)
  · exact fun c hc => pk_un (by omega)
  · exact fun c hc => pk_un (by omega)
  · exact fun j hj => d3 j hj
  · refine Or.inl ⟨pk_us, pk_us, fun i hi => ?_, pk_us.trans d2.symm⟩
    show cf (4 * m + i) = dt (5 * m + i)
    rw [c1 i hi, d1 i hi, one, r5]
theorem i_vc_differ {k : Nat} {u : SX} {v : SY} (I : i_Rel k u v) (hk : k + 5 ≤ 2560) (v1 : Int32) : wpX_differ (fun r u' => wpY_differ (fun r' v' => r' = r ∧ i_Rel (k + 5) u' v') v v1) u v1 := by
  have I' := I
  obtain ⟨m, hm, r1, r2, r3, r4, r5, r6, r7, r8⟩ := I
  have cnt : ly_count v = lq_made u := r2.trans r1.symm
  refine br_c (fun h0 => br_t h0 (And.intro rfl I')) (fun h0 => br_c (fun h1 => br_c (fun h2 => br_f h0 (br_t h1 (br_t (by show ly_count v = 10; rw [cnt]; exact h2) (And.intro rfl I')))) (fun h2 => ?_)) (fun h1 => br_f h0 (br_f h1 (And.intro rfl I'))))
  have h10 : m < 10 := lz_not10 r1 hm h2
  have em : (lq_made u).toNatClampNeg = m := by rw [r1]; exact nI_clamp (by omega)
  have hin : vp_in (lq_made u) 11 := by rw [r1]; exact vp_in_nI (by omega) (by decide)
  have e5 : ly_count v * 5 = nI (5 * m) := by
    rw [r2]
    show nI m * nI 5 = _
    rw [pk_mul, Nat.mul_comm]
  have ec : (ly_count v * 5).toNatClampNeg = 5 * m := by rw [e5]; exact nI_clamp (by omega)
  refine And.intro hin (nm_r (e' := upd (lq_kind u) m 1) (congrArg (fun z => upd (lq_kind u) z 1) em) (And.intro hin (nm_r (e' := upd (lq_members u) m v1) (congrArg (fun z => upd (lq_members u) z v1) em) ?_)))
  refine lz_accept_w (u := lz_setC u (lq_made u) (lq_inForce u) (upd (lq_kind u) m 1) (upd (lq_members u) m v1) (lq_eitherYes u) (lq_eitherNo u) (lq_always u)) r1 ?_
  refine br_f h0 (br_t h1 (br_f (by show ¬ ly_count v = 10; rw [cnt]; exact h2) (And.intro (by show vp_in (ly_count v * 5) 50; rw [e5]; exact vp_in_nI (by omega) (by decide)) (nm_r (e' := upd (ly_data v) (5 * m) v1) (congrArg (fun z => upd (ly_data v) z v1) ec) ?_))))
  refine ly_make_w (v := (ly_count v, ly_inForce v, ly_held v, ly_kind v, upd (ly_data v) (5 * m) v1)) r2 h10 (And.intro rfl ?_)
  refine lz_R_new (u := u) (v := v) h10 r3 r4 r5 r6 r8 (u' := lz_setMI (lz_setC u (lq_made u) (lq_inForce u) (upd (lq_kind u) m 1) (upd (lq_members u) m v1) (lq_eitherYes u) (lq_eitherNo u) (lq_always u)) (nI (m + 1)) (lq_inForce u ||| lz_b m)) (v' := (nI (m + 1), ly_inForce v ||| lz_b m, ly_held v, upd (ly_kind v) m 1, upd (ly_data v) (5 * m) v1)) rfl rfl rfl ?_ rfl rfl rfl ?_ (fun _ _ => rfl) (fun _ _ => rfl) ?_ (fun _ _ => rfl) (fun _ _ => rfl) (fun _ _ => rfl) ?_ ?_ ?_
  · refine ⟨r7.1, r7.2.1, fun c hc => ?_⟩
    show ¬ upd (lq_kind u) m 1 c = 0 → ¬ upd (lq_kind u) m 1 c = 1 → _
    by_cases e : c = m
    · rw [e, pk_us]; exact fun _ h => absurd rfl h
    · rw [pk_un e]; exact r7.2.2 c hc
  · exact fun c hc => pk_un (by omega)
  · exact fun c hc => pk_un (by omega)
  · exact fun c hc => pk_un (by omega)
  · exact fun j hj => pk_un (by omega)
  · exact Or.inr (Or.inl ⟨pk_us, pk_us, (pk_us (f := lq_members u) (k := m) (x := v1)).trans (pk_us (f := ly_data v) (k := 5 * m) (x := v1)).symm⟩)
end
section
/-! either -/
theorem lz_ei_fin {u : SX} {v : SY} {m i p j q : Nat} (h10 : m < 10) (r3 : ly_inForce v = lq_inForce u) (r4 : ∀ c, bt (lq_inForce u) c = true → c < m) (r5 : ly_held v = lq_held u) (r6 : ∀ i, i < 4 → -5 ≤ (lq_held u i).toInt ∧ (lq_held u i).toInt ≤ 5) (r7 : lz_ok u) (r8 : ∀ c, c < m → lz_rc u v c)
    (hi : i < 4) (hp : p < 4) (hj : j < 4) (hq : q < 4) {ey en al dt : Nat → Int32} (e1 : ∀ c, c ≠ m → ey c = lq_eitherYes u c) (e2 : ∀ c, c ≠ m → en c = lq_eitherNo u c) (e3 : ∀ c, c ≠ m → al c = lq_always u c)
    (hh : ((p = 0 ∨ q = 3) ∧ ¬ al m = 0) ∨ (p ≠ 0 ∧ q ≠ 3 ∧ al m = 0 ∧ ey m = lz_b (3 * i + p - 1) ∧ en m = lz_b (3 * j + q)))
    (d0 : dt (5 * m) = nI i) (d1 : dt (5 * m + 1) = nI p) (d2 : dt (5 * m + 2) = nI j) (d3 : dt (5 * m + 3) = nI q) (d4 : ∀ z, z < 5 * m → dt z = ly_data v z) :
    lz_R (lz_setMI (lz_setC u (lq_made u) (lq_inForce u) (upd (lq_kind u) m 2) (lq_members u) ey en al) (nI (m + 1)) (lq_inForce u ||| lz_b m)) (nI (m + 1), ly_inForce v ||| lz_b m, ly_held v, upd (ly_kind v) m 2, dt) := by
  refine lz_R_new (u := u) (v := v) h10 r3 r4 r5 r6 r8 rfl rfl rfl ?_ rfl rfl rfl ?_ (fun _ _ => rfl) (fun _ _ => rfl) (fun _ _ => rfl) ?_ ?_ ?_ ?_ ?_ ?_
  · refine ⟨r7.1, r7.2.1, fun c hc => ?_⟩
    show ¬ upd (lq_kind u) m 2 c = 0 → ¬ upd (lq_kind u) m 2 c = 1 → al c = 0 → (∃ a, a < 12 ∧ ey c = lz_b a) ∧ (∃ b, b < 12 ∧ en c = lz_b b)
    by_cases e : c = m
    · subst e
      intro _ _ hz
      rcases hh with ⟨_, h2⟩ | ⟨g1, g2, g3, g4, g5⟩
      · exact absurd hz h2
      · exact ⟨⟨_, by omega, g4⟩, ⟨_, by omega, g5⟩⟩
    · rw [pk_un e, e1 c e, e2 c e, e3 c e]; exact r7.2.2 c hc
  · exact fun c hc => pk_un (by omega)
  · exact fun c hc => e1 c (by omega)
  · exact fun c hc => e2 c (by omega)
  · exact fun c hc => e3 c (by omega)
  · exact fun c hc => pk_un (by omega)
  · exact fun z hz => d4 z hz
  · exact Or.inr (Or.inr ⟨pk_us, pk_us, i, p, j, q, hi, hp, hj, hq, d0, d1, d2, d3, hh⟩)
/-- the reference's either behind its tests -/
theorem ly_ei {v : SY} {m i p j q : Nat} (r2 : ly_count v = nI m) (h10 : m < 10) {post : Int32 → SY → Prop}
    (K : ∀ dt : Nat → Int32, dt (5 * m) = nI i → dt (5 * m + 1) = nI p → dt (5 * m + 2) = nI j → dt (5 * m + 3) = nI q → (∀ z, z < 5 * m → dt z = ly_data v z) → post (nI m) (nI (m + 1), ly_inForce v ||| lz_b m, ly_held v, upd (ly_kind v) m 2, dt)) :
    vp_in (ly_count v * 5) 50 ∧ ∀ d1 : Nat → Int32, d1 = upd (ly_data v) (ly_count v * 5).toNatClampNeg (nI i) → (vp_in (ly_count v * 5 + 1) 50 ∧ ∀ d2 : Nat → Int32, d2 = upd d1 (ly_count v * 5 + 1).toNatClampNeg (nI p) → (vp_in (ly_count v * 5 + 2) 50 ∧ ∀ d3 : Nat → Int32, d3 = upd d2 (ly_count v * 5 + 2).toNatClampNeg (nI j) → (vp_in (ly_count v * 5 + 3) 50 ∧ ∀ d4 : Nat → Int32, d4 = upd d3 (ly_count v * 5 + 3).toNatClampNeg (nI q) → wpY_make post (ly_count v, ly_inForce v, ly_held v, ly_kind v, d4) 2))) := by
  have e5 : ly_count v * 5 = nI (5 * m) := by
    rw [r2]
    show nI m * nI 5 = _
    rw [pk_mul, Nat.mul_comm]
  have p1 : nI (5 * m) + 1 = nI (5 * m + 1) := nI_add (5 * m) 1
  have p2 : nI (5 * m) + 2 = nI (5 * m + 2) := nI_add (5 * m) 2
  have p3 : nI (5 * m) + 3 = nI (5 * m + 3) := nI_add (5 * m) 3
  rw [e5, p1, p2, p3, nI_clamp (by omega), nI_clamp (by omega), nI_clamp (by omega), nI_clamp (by omega)]
  refine ⟨vp_in_nI (by omega) (by decide), fun d1 h1 => ⟨vp_in_nI (by omega) (by decide), fun d2 h2 => ⟨vp_in_nI (by omega) (by decide), fun d3 h3 => ⟨vp_in_nI (by omega) (by decide), fun d4 h4 => ?_⟩⟩⟩⟩
  refine ly_make_w (v := (ly_count v, ly_inForce v, ly_held v, ly_kind v, d4)) r2 h10 (K d4 ?_ ?_ ?_ ?_ ?_)
  · rw [h4, pk_un (by omega), h3, pk_un (by omega), h2, pk_un (by omega), h1, pk_us]
  · rw [h4, pk_un (by omega), h3, pk_un (by omega), h2, pk_us]
  · rw [h4, pk_un (by omega), h3, pk_us]
  · rw [h4, pk_us]
  · intro z hz
    rw [h4, pk_un (by omega), h3, pk_un (by omega), h2, pk_un (by omega), h1, pk_un (by omega)]
theorem lz_ei135 {u : SX} {m : Nat} (hm : lq_made u = nI m) {k ey en al : Nat → Int32} {post : Int32 → SX → Prop}
    (h : post (nI m) (lz_setMI (lz_setC u (lq_made u) (lq_inForce u) k (lq_members u) ey en al) (nI (m + 1)) (lq_inForce u ||| lz_b m))) : lq_UE (wX_either_135 post) u k ey en al := by
  unfold lq_UE wX_either_135
  exact lz_accept_w (u := lz_setC u (lq_made u) (lq_inForce u) k (lq_members u) ey en al) hm h
/-- the component's either behind its tests -/
def lz_hh (i p j q m : Nat) (ey en al : Nat → Int32) : Prop := ((p = 0 ∨ q = 3) ∧ ¬ al m = 0) ∨ (p ≠ 0 ∧ q ≠ 3 ∧ al m = 0 ∧ ey m = lz_b (3 * i + p - 1) ∧ en m = lz_b (3 * j + q))
section
variable {u : SX} {m i p j q : Nat} {post : Int32 → SX → Prop}
def lz_eiK (u : SX) (m i p j q : Nat) (post : Int32 → SX → Prop) : Prop := ∀ ey en al : Nat → Int32, (∀ c, c ≠ m → ey c = lq_eitherYes u c) → (∀ c, c ≠ m → en c = lq_eitherNo u c) → (∀ c, c ≠ m → al c = lq_always u c) → lz_hh i p j q m ey en al →
      post (nI m) (lz_setMI (lz_setC u (lq_made u) (lq_inForce u) (upd (lq_kind u) m 2) (lq_members u) ey en al) (nI (m + 1)) (lq_inForce u ||| lz_b m))
theorem lz_ei87a (r1 : lq_made u = nI m) (h10 : m < 10) (hpq : p = 0 ∨ q = 3) (K : lz_eiK u m i p j q post) :
    lq_UE (wX_either_87 post (nI i) (nI p) (nI j) (nI q) 1 (lq_made u)) u (upd (lq_kind u) m 2) (lq_eitherYes u) (lq_eitherNo u) (lq_always u) := by
  have em : (lq_made u).toNatClampNeg = m := by rw [r1]; exact nI_clamp (by omega)
  have hin : vp_in (lq_made u) 11 := by rw [r1]; exact vp_in_nI (by omega) (by decide)
  refine And.intro hin (nm_r (e' := upd (lq_always u) m 1) (congrArg (fun z => upd (lq_always u) z 1) em) ?_)
  have ha : ¬ upd (lq_always u) m 1 (lq_made u).toNatClampNeg = 0 := by
    rw [em, pk_us]
    decide
  have ho : ∀ c, c ≠ m → upd (lq_always u) m 1 c = lq_always u c := fun c hc => pk_un hc
  have hm1 : ¬ upd (lq_always u) m 1 m = 0 := by rw [pk_us]; decide
  generalize upd (lq_always u) m 1 = al at ha ho hm1 ⊢
  refine And.intro hin (br_f ha ?_)
  exact lz_ei135 r1 (K (lq_eitherYes u) (lq_eitherNo u) al (fun _ _ => rfl) (fun _ _ => rfl) ho (Or.inl ⟨hpq, hm1⟩))
theorem lz_ei87b (r1 : lq_made u = nI m) (h10 : m < 10) (hp0 : p ≠ 0) (hq3 : q ≠ 3) (K : lz_eiK u m i p j q post) :
    lq_UE (wX_either_87 post (nI i) (nI p) (nI j) (nI q) 0 (lq_made u)) u (upd (lq_kind u) m 2) (lq_eitherYes u) (lq_eitherNo u) (lq_always u) := by
  have em : (lq_made u).toNatClampNeg = m := by rw [r1]; exact nI_clamp (by omega)
  have hin : vp_in (lq_made u) 11 := by rw [r1]; exact vp_in_nI (by omega) (by decide)
  refine And.intro hin (nm_r (e' := upd (lq_always u) m 0) (congrArg (fun z => upd (lq_always u) z 0) em) ?_)
  have ha : upd (lq_always u) m 0 (lq_made u).toNatClampNeg = 0 := by rw [em, pk_us]
  have ho : ∀ c, c ≠ m → upd (lq_always u) m 0 c = lq_always u c := fun c hc => pk_un hc
  have hm1 : upd (lq_always u) m 0 m = 0 := by rw [pk_us]
  generalize upd (lq_always u) m 0 = al at ha ho hm1 ⊢
  have e1 : upd (lq_eitherYes u) (lq_made u).toNatClampNeg ((1 : Int32) <<< ((((nI i * 3) + nI p) - 1) &&& 31)) = upd (lq_eitherYes u) m (lz_b (3 * i + p - 1)) := by rw [em, lz_ix1 (by omega)]
  have e2 : upd (lq_eitherNo u) (lq_made u).toNatClampNeg ((1 : Int32) <<< (((nI j * 3) + nI q) &&& 31)) = upd (lq_eitherNo u) m (lz_b (3 * j + q)) := by rw [em, lz_ix0]
  refine And.intro hin (br_t ha (And.intro hin (nm_r e1 (And.intro hin (nm_r e2 ?_)))))
  have g1 : ∀ c, c ≠ m → upd (lq_eitherYes u) m (lz_b (3 * i + p - 1)) c = lq_eitherYes u c := fun c hc => pk_un hc
  have g2 : ∀ c, c ≠ m → upd (lq_eitherNo u) m (lz_b (3 * j + q)) c = lq_eitherNo u c := fun c hc => pk_un hc
  have g3 : upd (lq_eitherYes u) m (lz_b (3 * i + p - 1)) m = lz_b (3 * i + p - 1) := pk_us
  have g4 : upd (lq_eitherNo u) m (lz_b (3 * j + q)) m = lz_b (3 * j + q) := pk_us
  generalize upd (lq_eitherYes u) m (lz_b (3 * i + p - 1)) = ey at g1 g3 ⊢
  generalize upd (lq_eitherNo u) m (lz_b (3 * j + q)) = en at g2 g4 ⊢
  exact lz_ei135 r1 (K ey en al g1 g2 ho (Or.inr ⟨hp0, hq3, hm1, g3, g4⟩))
theorem lz_eiX (r1 : lq_made u = nI m) (h10 : m < 10) (hp : p ≤ 3) (hq : q ≤ 3) (K : lz_eiK u m i p j q post) :
    vp_in (lq_made u) 11 ∧ ∀ kd : Nat → Int32, kd = upd (lq_kind u) (lq_made u).toNatClampNeg 2 →
      ((nI p = 0 → lq_UE (wX_either_82 post (nI i) (nI p) (nI j) (nI q) (lq_made u)) u kd (lq_eitherYes u) (lq_eitherNo u) (lq_always u)) ∧
       (¬ nI p = 0 → ((nI q = 3 → lq_UE (wX_either_82 post (nI i) (nI p) (nI j) (nI q) (lq_made u)) u kd (lq_eitherYes u) (lq_eitherNo u) (lq_always u)) ∧
         (¬ nI q = 3 → lq_UE (wX_either_87 post (nI i) (nI p) (nI j) (nI q) 0 (lq_made u)) u kd (lq_eitherYes u) (lq_eitherNo u) (lq_always u))))) := by
  have em : (lq_made u).toNatClampNeg = m := by rw [r1]; exact nI_clamp (by omega)
  have hin : vp_in (lq_made u) 11 := by rw [r1]; exact vp_in_nI (by omega) (by decide)
  refine ⟨hin, nm_r (e' := upd (lq_kind u) m 2) (congrArg (fun z => upd (lq_kind u) z 2) em) (pk_eq p 0 (fun hp0 => lz_ei87a r1 h10 (Or.inl hp0) K) (fun hp0 => pk_eq q 3 (fun hq3 => lz_ei87a r1 h10 (Or.inr hq3) K) (fun hq3 => lz_ei87b r1 h10 hp0 hq3 K)))⟩
end
theorem i_vc_either {k : Nat} {u : SX} {v : SY} (I : i_Rel k u v) (hk : k + 5 ≤ 2560) (v1 : Int32) (v2 : Int32) (v3 : Int32) (v4 : Int32) : wpX_either (fun r u' => wpY_either (fun r' v' => r' = r ∧ i_Rel (k + 5) u' v') v v1 v2 v3 v4) u v1 v2 v3 v4 := by
  have I' := I
  obtain ⟨m, hm, r1, r2, r3, r4, r5, r6, r7, r8⟩ := I
  have cnt : ly_count v = lq_made u := r2.trans r1.symm
  refine br_c (fun h0 => br_t h0 (And.intro rfl I')) (fun h0 => br_c (fun h1 => br_f h0 (br_t h1 (And.intro rfl I'))) (fun h1 => br_c (fun h2 => br_f h0 (br_f h1 (br_t h2 (And.intro rfl I')))) (fun h2 => br_c (fun h3 => ?_) (fun h3 => br_f h0 (br_f h1 (br_f h2 (br_t (Int32.not_le.mp h3) (And.intro rfl I'))))))))
  have h3' : ¬ (3 : Int32) < v3 := Int32.not_lt.mpr h3
  refine br_c (fun h4 => br_f h0 (br_f h1 (br_f h2 (br_f h3' (br_t h4 (And.intro rfl I')))))) (fun h4 => br_c (fun h5 => br_f h0 (br_f h1 (br_f h2 (br_f h3' (br_f h4 (br_t h5 (And.intro rfl I'))))))) (fun h5 => br_c (fun h6 => br_f h0 (br_f h1 (br_f h2 (br_f h3' (br_f h4 (br_f h5 (br_t h6 (And.intro rfl I')))))))) (fun h6 => br_c (fun h7 => ?_) (fun h7 => br_f h0 (br_f h1 (br_f h2 (br_f h3' (br_f h4 (br_f h5 (br_f h6 (br_f h7 (And.intro rfl I'))))))))))))
  refine br_c (fun h8 => br_f h0 (br_f h1 (br_f h2 (br_f h3' (br_f h4 (br_f h5 (br_f h6 (br_t h7 (br_t (by show ly_count v = 10; rw [cnt]; exact h8) (And.intro rfl I')))))))))) (fun h8 => ?_)
  have h10 : m < 10 := lz_not10 r1 hm h8
  have h8' : ¬ ly_count v = 10 := by rw [cnt]; exact h8
  obtain ⟨i, hi, rfl⟩ := nI_of2 (M := 3) (n := 3) (by decide) h0 (Int32.not_lt.mp h1)
  obtain ⟨j, hj, rfl⟩ := nI_of2 (M := 3) (n := 3) (by decide) h2 h3
  obtain ⟨p, hp, rfl⟩ := nI_of2 (M := 3) (n := 3) (by decide) h4 (Int32.not_lt.mp h5)
  obtain ⟨q, hq, rfl⟩ := nI_of2 (M := 3) (n := 3) (by decide) h6 h7
  refine lz_eiX (u := u) (m := m) (i := i) (p := p) (j := j) (q := q) r1 h10 hp hq ?_
  intro ey en al g1 g2 g3 hh
  refine br_f h0 (br_f h1 (br_f h2 (br_f h3' (br_f h4 (br_f h5 (br_f h6 (br_t h7 (br_f h8' ?_))))))))
  exact ly_ei r2 h10 (fun dt d0 d1 d2 d3 d4 => And.intro rfl (lz_ei_fin h10 r3 r4 r5 r6 r7 r8 (by omega) (by omega) (by omega) (by omega) g1 g2 g3 hh d0 d1 d2 d3 d4))
end
section
/-! the questions: a search within bounds -/
theorem lz_sat_cs {u u' : SX} (h : lq_cs u' = lq_cs u) (c : Nat) (s : Nat → Nat) : lz_sat u' c s = lz_sat u c s := by
  unfold lz_sat lz_cf lz_bd
  rw [lq_cs_coef h, lq_cs_bound h, lq_cs_kind h, lq_cs_always h, lq_cs_eitherYes h, lq_cs_eitherNo h, lq_cs_members h]
theorem lz_all_cs {u u' : SX} (h : lq_cs u' = lq_cs u) (X : Int32) (m n : Nat) : lz_all u' X m n = lz_all u X m n := by
  unfold lz_all
  refine forall_congr fun c => ?_
  rw [lz_sat_cs h]
def lz_bd4 (L M : Nat → Nat) (k : Nat) : Prop := ∀ i, i < 4 → L i ≤ lz_dg k i ∧ lz_dg k i ≤ M i
def lz_b4 (le mo : Nat → Int32) (L M : Nat → Nat) : Prop := ∀ i, i < 4 → le i = nI (L i) ∧ mo i = nI (M i) ∧ L i ≤ 4 ∧ M i ≤ 3
theorem lz_PA {u : SX} {x : Int32} {le mo : Nat → Int32} {L M : Nat → Nat} {m k : Nat} (hm : m ≤ 10) (hx : ∀ c, bt x c = true → c < m) : lz_P (lz_setAsk u x le mo) L M (lz_dg k) ↔ lz_bd4 L M k ∧ lz_all u x m k := by
  constructor
  · intro h
    refine ⟨fun i hi => (h.1 i hi).2, fun c hc hb => ?_⟩
    have := h.2 c (by omega) hb
    rw [lz_sat_cs (u := u) (u' := lz_setAsk u x le mo) rfl] at this
    exact this
  · intro h
    refine ⟨fun i hi => ⟨lz_dg_lt k i, h.1 i hi⟩, fun c _ hb => ?_⟩
    rw [lz_sat_cs (u := u) (u' := lz_setAsk u x le mo) rfl]
    exact h.2 c (hx c hb) hb
theorem lz_qs {u : SX} {x : Int32} {le mo : Nat → Int32} {L M : Nat → Nat} {m : Nat} (ok : lz_ok u) (hm : m ≤ 10) (hx : ∀ c, bt x c = true → c < m) (hb : lz_b4 le mo L M) {post : Int32 → SX → Prop}
    (K0 : ∀ u', lq_cs u' = lq_cs u → (∀ k, k < 256 → lz_bd4 L M k → ¬ lz_all u x m k) → post 0 u')
    (K1 : ∀ u' n, lq_cs u' = lq_cs u → n < 256 → lz_bd4 L M n → lz_all u x m n → (∀ k, k < 256 → lz_bd4 L M k → lz_all u x m k → n ≤ k) → (∀ i, i < 4 → lz_lo (lq_yes u') i = lz_dg n i) → n = lz_code (lz_lo (lq_yes u')) 4 → post 1 u') : wpX_search post (lz_setAsk u x le mo) := by
  have e0 : lq_cs (lz_setAsk u x le mo) = lq_cs u := rfl
  refine lz_search_n (u := lz_setAsk u x le mo) (lz_ok_cs e0 ok) (le := L) (mo := M) hb (fun u' st h => K0 u' ((lq_st_cs st).trans e0) (fun k hk hbd ha => h k hk ((lz_PA hm hx).mpr ⟨hbd, ha⟩))) (fun u' n st hn hP hmin hlo hcode => ?_)
  have hP' := (lz_PA hm hx).mp hP
  exact K1 u' n ((lq_st_cs st).trans e0) hn hP'.1 hP'.2 (fun k hk h1 h2 => hmin k hk ((lz_PA hm hx).mpr ⟨h1, h2⟩)) hlo hcode
theorem lz_bd0 (k : Nat) : lz_bd4 (fun _ => 0) (fun _ => 3) k := fun i _ => ⟨Nat.zero_le _, lz_dg_lt k i⟩
/-- the whole question: ask, then search with no bounds -/
theorem lz_q0 {u : SX} {x : Int32} {m : Nat} (ok : lz_ok u) (hm : m ≤ 10) (hx : ∀ c, bt x c = true → c < m) {post : Int32 → SX → Prop}
    (K0 : ∀ u', lq_cs u' = lq_cs u → (∀ k, k < 256 → ¬ lz_all u x m k) → post 0 u')
    (K1 : ∀ u' n, lq_cs u' = lq_cs u → n < 256 → lz_all u x m n → (∀ k, k < 256 → lz_all u x m k → n ≤ k) → (∀ i, i < 4 → lz_lo (lq_yes u') i = lz_dg n i) → n = lz_code (lz_lo (lq_yes u')) 4 → post 1 u') :
    wpX_ask (fun u1 => wpX_search (fun r u2 => post r u2) u1) u x :=
  lz_ask_w (fun le mo h => lz_qs (L := fun _ => 0) (M := fun _ => 3) ok hm hx (fun i hi => ⟨(h i hi).1, (h i hi).2, Nat.zero_le 4, Nat.le_refl 3⟩) (fun u' cs hn => K0 u' cs (fun k hk => hn k hk (lz_bd0 k))) (fun u' n cs hn _ ha hmin hlo hc => K1 u' n cs hn ha (fun k hk h' => hmin k hk (lz_bd0 k) h') hlo hc))
theorem lz_n4 {r : Nat} (h : r < 2 ^ 31) : ¬ nI r = -4 := fun e => nI_pos h (by rw [e]; decide)
theorem i_vc_solvable {k : Nat} {u : SX} {v : SY} (I : i_Rel k u v) (hk : k + 5 ≤ 2560) : wpX_solvable (fun r u' => wpY_solvable (fun r' => r' = r ∧ i_Rel (k + 5) u' v) v) u := by
  have I' := I
  obtain ⟨m, hm, r1, r2, r3, r4, r5, r6, r7, r8⟩ := I
  refine lz_q0 r7 hm r4 (fun u' cs hn => ?_) (fun u' n cs hn ha hmin hlo hc => ?_)
  · refine And.intro narrow_b0 (ly_fo_w (u := u) (st := 0) r7 rfl (by omega) hm r2 r8 (fun r _ hr ha _ => ?_) (fun _ => br_t rfl (And.intro rfl (lz_R_cs cs I'))))
    refine absurd ha (hn r hr ∘ ?_)
    intro h
    have e : ly_inForce v = lq_inForce u := r3
    rw [← e]
    exact h
  · refine And.intro narrow_b1 (ly_fo_w (u := u) (st := 0) r7 rfl (by omega) hm r2 r8 (fun r _ hr _ _ => br_f (lz_n4 (by omega)) (And.intro rfl (lz_R_cs cs I'))) (fun hno => ?_))
    refine absurd ?_ (hno n (Nat.zero_le _) hn)
    have e : ly_inForce v = lq_inForce u := r3
    show lz_all u (ly_inForce v) m n
    rw [e]
    exact ha
theorem i_vc_value {k : Nat} {u : SX} {v : SY} (I : i_Rel k u v) (hk : k + 5 ≤ 2560) (v1 : Int32) : wpX_value (fun r u' => wpY_value (fun r' => r' = r ∧ i_Rel (k + 5) u' v) v v1) u v1 := by
  have I' := I
  obtain ⟨m, hm, r1, r2, r3, r4, r5, r6, r7, r8⟩ := I
  have eF : ly_inForce v = lq_inForce u := r3
  refine br_c (fun h0 => br_t h0 (And.intro rfl I')) (fun h0 => br_c (fun h1 => ?_) (fun h1 => br_f h0 (br_f h1 (And.intro rfl I'))))
  have h0' := h0
  have h1' := h1
  obtain ⟨i, hi, rfl⟩ := nI_of2 (M := 3) (n := 3) (by decide) h0 h1
  refine lz_q0 r7 hm r4 (fun u' cs hn => ?_) (fun u' n cs hn ha hmin hlo hc => ?_)
  · refine br_t rfl (br_f h0' (br_t h1' (ly_fo_w (u := u) (st := 0) (X := ly_inForce v) r7 rfl (by omega) hm r2 r8 (fun r _ hr ha _ => ?_) (fun _ => br_t rfl (And.intro rfl (lz_R_cs cs I'))))))
    rw [eF] at ha
    exact absurd ha (hn r hr)
  · refine br_f (by decide) (lz_low_w (u := u') i rfl (by omega) (br_f h0' (br_t h1' (ly_fo_w (u := u) (st := 0) (X := ly_inForce v) r7 rfl (by omega) hm r2 r8 (fun r _ hr ha' hl => br_f (lz_n4 (by omega)) (ly_value_w rfl (by omega) (by omega) (And.intro ?_ (lz_R_cs cs I')))) (fun hno => ?_)))))
    · rw [eF] at ha'
      rw [hlo i (by omega)]
      have g1 := hmin r hr ha'
      have g2 : r ≤ n := Nat.le_of_not_lt fun h => hl n (Nat.zero_le _) h (by rw [eF]; exact ha)
      rw [Nat.le_antisymm g2 g1]
    · rw [eF] at hno
      exact absurd ha (hno n (Nat.zero_le _) hn)
end
section
/-! firstWith, values -/
theorem lz_fw_w {u : SX} {m : Nat} (ok : lz_ok u) (hm : m ≤ 10) (hx : ∀ c, bt (lq_inForce u) c = true → c < m) {i x : Nat} (hi : i < 4) (hx4 : x < 4) {post : Int32 → SX → Prop}
    (K0 : ∀ u', lq_cs u' = lq_cs u → (∀ k, k < 256 → lz_dg k i = x → ¬ lz_all u (lq_inForce u) m k) → post (-4) u')
    (K1 : ∀ u' n, lq_cs u' = lq_cs u → n < 256 → lz_dg n i = x → lz_all u (lq_inForce u) m n → (∀ k, k < 256 → lz_dg k i = x → lz_all u (lq_inForce u) m k → n ≤ k) → post (nI n) u') : wpX_firstWith post u (nI i) (nI x) := by
  have hin : vp_in (nI i) 4 := vp_in_nI hi (by decide)
  have e1 : (nI i).toNatClampNeg = i := nI_clamp (by omega)
  refine br_f (nI_pos (by omega)) (br_f (nI_nlt (a := 3) (b := i) (by omega) (by decide)) (br_f (nI_pos (by omega)) (br_t (nI_le (b := 3) (by omega) (by decide)) (lz_ask_w (fun le mo h => ?_)))))
  refine And.intro hin (nm_r (e' := upd le i (nI x)) (congrArg (fun z => upd le z (nI x)) e1) (And.intro hin (nm_r (e' := upd mo i (nI x)) (congrArg (fun z => upd mo z (nI x)) e1) ?_)))
  have hb : lz_b4 (upd le i (nI x)) (upd mo i (nI x)) (fun j => if j = i then x else 0) (fun j => if j = i then x else 3) := by
    intro j hj
    show upd le i (nI x) j = nI (if j = i then x else 0) ∧ upd mo i (nI x) j = nI (if j = i then x else 3) ∧ (if j = i then x else 0) ≤ 4 ∧ (if j = i then x else 3) ≤ 3
    by_cases e : j = i
    · rw [e, pk_us, pk_us, if_pos rfl, if_pos rfl]; exact ⟨rfl, rfl, by omega, by omega⟩
    · rw [pk_un e, pk_un e, if_neg e, if_neg e]; exact ⟨(h j hj).1, (h j hj).2, by omega, by omega⟩
  have hbd : ∀ k, lz_bd4 (fun j => if j = i then x else 0) (fun j => if j = i then x else 3) k ↔ lz_dg k i = x := by
    intro k
    constructor
    · intro g
      have g' : (if i = i then x else 0) ≤ lz_dg k i ∧ lz_dg k i ≤ (if i = i then x else 3) := g i hi
      rw [if_pos rfl, if_pos rfl] at g'
      omega
    · intro g j hj
      show (if j = i then x else 0) ≤ lz_dg k j ∧ lz_dg k j ≤ (if j = i then x else 3)
      have := lz_dg_lt k j
      by_cases e : j = i
      · rw [if_pos e, if_pos e, e]; omega
      · rw [if_neg e, if_neg e]; omega
  generalize upd le i (nI x) = le' at hb ⊢
  generalize upd mo i (nI x) = mo' at hb ⊢
  refine lz_qs (u := u) (x := lq_inForce u) (le := le') (mo := mo') ok hm hx hb (fun u' cs hn => br_t rfl (K0 u' cs (fun k hk hd => hn k hk ((hbd k).mpr hd)))) (fun u' n cs hn h1 ha hmin hlo hc => br_f (by decide) (lz_answer_w (u := u') ?_))
  rw [← hc]
  exact K1 u' n cs hn ((hbd n).mp h1) ha (fun k hk hd ha' => hmin k hk ((hbd k).mpr hd) ha')
theorem ly_fw_l {v : SY} {u : SX} (ok : lz_ok u) {m i x : Nat} (hm : m ≤ 10) (hcnt : ly_count v = nI m) (rc : ∀ c, c < m → lz_rc u v c) (hi : i < 4) (hx : x < 4) {post : Int32 → Prop}
    (K1 : ∀ r, r < 256 → lz_dg r i = x → lz_all u (ly_inForce v) m r → (∀ k, k < r → lz_dg k i = x → ¬ lz_all u (ly_inForce v) m k) → post (nI r)) (K0 : (∀ k, k < 256 → lz_dg k i = x → ¬ lz_all u (ly_inForce v) m k) → post (-4)) :
    ∀ n r, r ≤ 256 → 256 < n + r → (∀ k, k < r → lz_dg k i = x → ¬ lz_all u (ly_inForce v) m k) → ly_U (wY_firstWith_22 post (nI i) (nI x)) v n (nI r) := by
  intro n
  induction n with
  | zero => intro r h1 h2; omega
  | succ n ih =>
    intro r h1 h2 h3
    have hd := lz_dg_lt r i
    refine pk_le 256 r (fun h => ?_) (fun h => ?_)
    · have e : r = 256 := by omega
      subst e
      exact K0 h3
    · refine ly_value_w rfl (by omega) hi (pk_eq (lz_dg r i) x (fun e => ?_) (fun e => nm_r (nI_1 r) (ih (r + 1) (by omega) (by omega) (fun k hk hdk => ?_))))
      · refine ly_sa_w ok hm hcnt (by omega) rc (fun ha => br_f (by decide) (K1 r h e ha h3)) (fun ha => br_t rfl (nm_r (nI_1 r) (ih (r + 1) (by omega) (by omega) (fun k hk hdk => ?_))))
        by_cases ek : k = r
        · rw [ek]; exact ha
        · exact h3 k (by omega) hdk
      · by_cases ek : k = r
        · rw [ek] at hdk; exact absurd hdk e
        · exact h3 k (by omega) hdk
theorem i_vc_firstWith {k : Nat} {u : SX} {v : SY} (I : i_Rel k u v) (hk : k + 5 ≤ 2560) (v1 : Int32) (v2 : Int32) : wpX_firstWith (fun r u' => wpY_firstWith (fun r' => r' = r ∧ i_Rel (k + 5) u' v) v v1 v2) u v1 v2 := by
  have I' := I
  obtain ⟨m, hm, r1, r2, r3, r4, r5, r6, r7, r8⟩ := I
  have eF : ly_inForce v = lq_inForce u := r3
  by_cases h0 : v1 < 0
  · exact br_t h0 (br_t h0 (And.intro rfl I'))
  by_cases h1 : (3 : Int32) < v1
  · exact br_f h0 (br_t h1 (br_f h0 (br_t h1 (And.intro rfl I'))))
  by_cases h2 : v2 < 0
  · exact br_f h0 (br_f h1 (br_t h2 (br_f h0 (br_f h1 (br_t h2 (And.intro rfl I'))))))
  by_cases h3 : v2 ≤ 3
  · have h0' := h0
    have h1' := h1
    have h2' := h2
    have h3' := h3
    obtain ⟨i, hi, rfl⟩ := nI_of2 (M := 3) (n := 3) (by decide) h0 (Int32.not_lt.mp h1)
    obtain ⟨x, hx, rfl⟩ := nI_of2 (M := 3) (n := 3) (by decide) h2 h3
    refine lz_fw_w r7 hm r4 (by omega) (by omega) (fun u' cs hn => ?_) (fun u' n cs hn hd ha hmin => ?_)
    · refine br_f h0' (br_f h1' (br_f h2' (br_t h3' (lz_ex (fun n => ly_U (wY_firstWith_22 _ (nI i) (nI x)) v n (nI 0)) 257 (ly_fw_l (u := u) r7 hm r2 r8 (by omega) (by omega) (fun r hr hd ha _ => ?_) (fun _ => And.intro rfl (lz_R_cs cs I')) 257 0 (by omega) (by omega) (fun k hk => absurd hk (Nat.not_lt_zero k)))))))
      rw [eF] at ha
      exact absurd ha (hn r hr hd)
    · refine br_f h0' (br_f h1' (br_f h2' (br_t h3' (lz_ex (fun n => ly_U (wY_firstWith_22 _ (nI i) (nI x)) v n (nI 0)) 257 (ly_fw_l (u := u) r7 hm r2 r8 (by omega) (by omega) (fun r hr hd' ha' hl => And.intro ?_ (lz_R_cs cs I')) (fun hno => ?_) 257 0 (by omega) (by omega) (fun k hk => absurd hk (Nat.not_lt_zero k)))))))
      · rw [eF] at ha'
        have g1 := hmin r hr hd' ha'
        have g2 : r ≤ n := Nat.le_of_not_lt fun h => hl n h hd (by rw [eF]; exact ha)
        rw [Nat.le_antisymm g2 g1]
      · rw [eF] at hno
        exact absurd ha (hno n hn hd)
  · exact br_f h0 (br_f h1 (br_f h2 (br_f h3 (br_f h0 (br_f h1 (br_f h2 (br_f h3 (And.intro rfl I'))))))))
/-! values -/
theorem lz_vs_l {u : SX} {m : Nat} (ok : lz_ok u) (hm : m ≤ 10) (hx : ∀ c, bt (lq_inForce u) c = true → c < m) {i : Nat} (hi : i < 4) {post : Int32 → SX → Prop}
    (K : ∀ u' S, lq_cs u' = lq_cs u → (∀ b, bt S b = true ↔ ∃ k, k < 256 ∧ lz_dg k i = b ∧ lz_all u (lq_inForce u) m k) → post S u') :
    ∀ n x S u', x ≤ 4 → 4 < n + x → lq_cs u' = lq_cs u → (∀ b, bt S b = true ↔ b < x ∧ ∃ k, k < 256 ∧ lz_dg k i = b ∧ lz_all u (lq_inForce u) m k) → lq_U (wX_values_15 post (nI i) n S (nI x)) u' := by
  intro n
  induction n with
  | zero => intro x S u' h1 h2; omega
  | succ n ih =>
    intro x S u' h1 h2 cs hS
    refine pk_le 4 x (fun h => ?_) (fun h => ?_)
    · refine K u' S cs (fun b => ?_)
      rw [hS b]
      refine ⟨fun g => g.2, fun g => ⟨?_, g⟩⟩
      obtain ⟨k, _, hd, _⟩ := g
      have := lz_dg_lt k i
      omega
    · have eI : lq_inForce u' = lq_inForce u := lq_cs_inForce cs
      refine lz_fw_w (u := u') (m := m) (lz_ok_cs cs ok) hm (by rw [eI]; exact hx) hi h (fun u2 cs2 hn => br_t (by decide) (nm_r (nI_1 x) (ih (x + 1) S u2 (by omega) (by omega) (cs2.trans cs) (fun b => ?_)))) (fun u2 n2 cs2 hn2 hd2 ha2 _ => br_f (nI_pos (by omega)) (nm_e (nm_r (nI_1 x) (ih (x + 1) _ u2 (by omega) (by omega) (cs2.trans cs) (fun b => ?_)))))
      · rw [hS b]
        refine ⟨fun g => ⟨by omega, g.2⟩, fun g => ⟨?_, g.2⟩⟩
        obtain ⟨g1, k, hk, hd, ha⟩ := g
        have : b ≠ x := by
          intro e
          refine hn k hk (hd.trans e) ?_
          rw [lz_all_cs cs, eI]
          exact ha
        omega
      · rw [lz_orb _ (by omega), hS b]
        rw [lz_all_cs cs, eI] at ha2
        constructor
        · rintro (g | g)
          · exact ⟨by omega, g.2⟩
          · exact ⟨by omega, n2, hn2, hd2.trans g.symm, ha2⟩
        · intro g
          by_cases e : b = x
          · exact Or.inr e
          · exact Or.inl ⟨by omega, g.2⟩
theorem ly_vs_l {v : SY} {u : SX} (ok : lz_ok u) {m i : Nat} (hm : m ≤ 10) (hcnt : ly_count v = nI m) (rc : ∀ c, c < m → lz_rc u v c) (hi : i < 4) {post : Int32 → Prop}
    (K : ∀ S, (∀ b, bt S b = true ↔ ∃ k, k < 256 ∧ lz_dg k i = b ∧ lz_all u (ly_inForce v) m k) → post S) :
    ∀ n r S, r ≤ 256 → 256 < n + r → (∀ b, bt S b = true ↔ ∃ k, k < r ∧ lz_dg k i = b ∧ lz_all u (ly_inForce v) m k) → ly_U (wY_values_15 post (nI i)) v n S (nI r) := by
  intro n
  induction n with
  | zero => intro r S h1 h2; omega
  | succ n ih =>
    intro r S h1 h2 hS
    have hd := lz_dg_lt r i
    refine pk_le 256 r (fun h => ?_) (fun h => ?_)
    · have e : r = 256 := by omega
      subst e
      exact K S hS
    · refine ly_sa_w ok hm hcnt (by omega) rc (fun ha => br_f (by decide) (ly_value_w rfl (by omega) hi (nm_e (nm_r (nI_1 r) (ih (r + 1) _ (by omega) (by omega) (fun b => ?_)))))) (fun ha => br_t rfl (nm_r (nI_1 r) (ih (r + 1) S (by omega) (by omega) (fun b => ?_))))
      · rw [lz_orb _ (by omega), hS b]
        constructor
        · rintro (⟨k, g1, g2⟩ | g)
          · exact ⟨k, by omega, g2⟩
          · exact ⟨r, by omega, g.symm, ha⟩
        · rintro ⟨k, g1, g2, g3⟩
          by_cases e : k = r
          · exact Or.inr (by rw [← g2, e])
          · exact Or.inl ⟨k, by omega, g2, g3⟩
      · rw [hS b]
        constructor
        · rintro ⟨k, g1, g2⟩
          exact ⟨k, by omega, g2⟩
        · rintro ⟨k, g1, g2, g3⟩
          have : k ≠ r := fun e => ha (e ▸ g3)
          exact ⟨k, by omega, g2, g3⟩
theorem lz_bext {S S' : Int32} (h : ∀ b, bt S b = true ↔ bt S' b = true) : S = S' := by
  refine b_ext fun i _ => ?_
  cases h2 : bt S' i with
  | true => exact (h i).mpr h2
  | false => exact lz_ff.mpr (fun g => by rw [(h i).mp g] at h2; exact absurd h2 (by decide))
theorem i_vc_values {k : Nat} {u : SX} {v : SY} (I : i_Rel k u v) (hk : k + 5 ≤ 2560) (v1 : Int32) : wpX_values (fun r u' => wpY_values (fun r' => r' = r ∧ i_Rel (k + 5) u' v) v v1) u v1 := by
  have I' := I
  obtain ⟨m, hm, r1, r2, r3, r4, r5, r6, r7, r8⟩ := I
  have eF : ly_inForce v = lq_inForce u := r3
  refine br_c (fun h0 => br_t h0 (And.intro rfl I')) (fun h0 => br_c (fun h1 => ?_) (fun h1 => br_f h0 (br_f h1 (And.intro rfl I'))))
  have h0' := h0
  have h1' := h1
  obtain ⟨i, hi, rfl⟩ := nI_of2 (M := 3) (n := 3) (by decide) h0 h1
  refine lz_ex (fun n => lq_U (wX_values_15 _ (nI i) n 0 (nI 0)) u) 5 (lz_vs_l (u := u) r7 hm r4 (by omega) (fun u' S cs hS => ?_) 5 0 0 u (by omega) (by omega) rfl (fun b => ⟨fun h => absurd h (lz_0 b), fun h => absurd h.1 (Nat.not_lt_zero b)⟩))
  refine br_f h0' (br_t h1' (lz_ex (fun n => ly_U (wY_values_15 _ (nI i)) v n 0 (nI 0)) 257 (ly_vs_l (u := u) r7 hm r2 r8 (by omega) (fun S' hS' => And.intro (lz_bext fun b => ?_) (lz_R_cs cs I')) 257 0 0 (by omega) (by omega) (fun b => ⟨fun h => absurd h (lz_0 b), fun h => ?_⟩))))
  · rw [hS b, hS' b, eF]
  · obtain ⟨k, hk, _⟩ := h
    exact absurd hk (Nat.not_lt_zero k)
end
section
/-! after -/
def lz_pre (f i k : Nat) : Prop := (∀ j, j < i → lz_dg k j = lz_dg f j) ∧ lz_dg f i < lz_dg k i
theorem lz_pre_gt {f i k : Nat} (hf : f < 256) (hk : k < 256) (hi : i < 4) (h : lz_pre f i k) : f < k := by
  obtain ⟨h1, h2⟩ := h
  have hi4 : i = 0 ∨ i = 1 ∨ i = 2 ∨ i = 3 := by omega
  rcases hi4 with rfl | rfl | rfl | rfl
  · rw [lz_dg0, lz_dg0] at h2; omega
  · have a0 := h1 0 (by omega)
    rw [lz_dg0, lz_dg0] at a0
    rw [lz_dg1, lz_dg1] at h2; omega
  · have a0 := h1 0 (by omega)
    have a1 := h1 1 (by omega)
    rw [lz_dg0, lz_dg0] at a0
    rw [lz_dg1, lz_dg1] at a1
    rw [lz_dg2, lz_dg2] at h2; omega
  · have a0 := h1 0 (by omega)
    have a1 := h1 1 (by omega)
    have a2 := h1 2 (by omega)
    rw [lz_dg0, lz_dg0] at a0
    rw [lz_dg1, lz_dg1] at a1
    rw [lz_dg2, lz_dg2] at a2
    rw [lz_dg3, lz_dg3] at h2; omega
theorem lz_gt_pre {f k : Nat} (hf : f < 256) (hk : k < 256) (h : f < k) : ∃ i, i < 4 ∧ lz_pre f i k := by
  by_cases e0 : lz_dg k 0 = lz_dg f 0
  · by_cases e1 : lz_dg k 1 = lz_dg f 1
    · by_cases e2 : lz_dg k 2 = lz_dg f 2
      · refine ⟨3, by omega, fun j hj => ?_, ?_⟩
        · have : j = 0 ∨ j = 1 ∨ j = 2 := by omega
          rcases this with rfl | rfl | rfl
          · exact e0
          · exact e1
          · exact e2
        · rw [lz_dg0, lz_dg0] at e0
          rw [lz_dg1, lz_dg1] at e1
          rw [lz_dg2, lz_dg2] at e2
          rw [lz_dg3, lz_dg3]; omega
      · refine ⟨2, by omega, fun j hj => ?_, ?_⟩
        · have : j = 0 ∨ j = 1 := by omega
          rcases this with rfl | rfl
          · exact e0
          · exact e1
        · rw [lz_dg0, lz_dg0] at e0
          rw [lz_dg1, lz_dg1] at e1
          rw [lz_dg2, lz_dg2] at e2 ⊢; omega
    · refine ⟨1, by omega, fun j hj => ?_, ?_⟩
      · have : j = 0 := by omega
        subst this
        exact e0
      · rw [lz_dg0, lz_dg0] at e0
        rw [lz_dg1, lz_dg1] at e1 ⊢; omega
  · refine ⟨0, by omega, fun j hj => absurd hj (Nat.not_lt_zero j), ?_⟩
    rw [lz_dg0, lz_dg0] at e0 ⊢; omega
theorem lz_vx2 {n i : Nat} (hn : n < 2 ^ 31) (hi : i < 4) : (nI n >>> ((2 * (3 - nI i)) &&& 31)) &&& 3 = nI (lz_dg n i) := by
  have e1 : (2 : Int32) * (3 - nI i) = nI (6 - 2 * i) := by
    show nI 2 * (nI 3 - nI i) = _
    rw [pk_sub (by omega), pk_mul]
    exact congrArg nI (by omega)
  rw [e1, pk_shrN hn _ (6 - 2 * i) (s_l _ (by omega)), pk_andN (Nat.lt_of_le_of_lt (Nat.div_le_self _ _) (Nat.lt_of_lt_of_le hn (by decide))) 2 (by decide)]
  rfl
section
variable {u : SX} {m f : Nat} {post : Int32 → SX → Prop}
theorem lz_af60 (ok : lz_ok u) (hm : m ≤ 10) (hx : ∀ c, bt (lq_inForce u) c = true → c < m) (hf : f < 256) {i : Nat} (hi : i < 4) {J : lq_J1}
    (K0 : ∀ u', lq_cs u' = lq_cs u → (∀ k, k < 256 → lz_pre f i k → ¬ lz_all u (lq_inForce u) m k) → lq_U (J (nI i + (-1))) u')
    (K1 : ∀ u' n, lq_cs u' = lq_cs u → n < 256 → lz_pre f i n → lz_all u (lq_inForce u) m n → (∀ k, k < 256 → lz_pre f i k → lz_all u (lq_inForce u) m k → n ≤ k) → post (nI n) u') :
    ∀ n j le mo, j ≤ i → i < n + j → (∀ j', j' < j → le j' = nI (lz_dg f j') ∧ mo j' = nI (lz_dg f j')) → (∀ j', j ≤ j' → j' < 4 → le j' = 0 ∧ mo j' = 3) →
      lq_UK (wX_after_60 post J (nI f) (nI i)) u (lq_inForce u) n (nI j) le mo := by
  intro n
  induction n with
  | zero => intro j le mo h1 h2; omega
  | succ n ih =>
    intro j le mo h1 h2 h3 h4
    refine pk_le i j (fun h => ?_) (fun h => ?_)
    · have e : j = i := by omega
      subst e
      have e1 : (nI j).toNatClampNeg = j := nI_clamp (by omega)
      have hd := lz_dg_lt f j
      have ev : ((nI f >>> ((2 * (3 - nI j)) &&& 31)) &&& 3) + 1 = nI (lz_dg f j + 1) := by rw [lz_vx2 (by omega) hi, nI_1]
      have eu : upd le (nI j).toNatClampNeg (((nI f >>> ((2 * (3 - nI j)) &&& 31)) &&& 3) + 1) = upd le j (nI (lz_dg f j + 1)) := by rw [e1, ev]
      refine And.intro (vp_in_nI hi (by decide)) (nm_r eu ?_)
      have hb : lz_b4 (upd le j (nI (lz_dg f j + 1))) mo (fun j' => if j' < j then lz_dg f j' else if j' = j then lz_dg f j + 1 else 0) (fun j' => if j' < j then lz_dg f j' else 3) := by
        intro j' hj'
        show upd le j (nI (lz_dg f j + 1)) j' = nI (if j' < j then lz_dg f j' else if j' = j then lz_dg f j + 1 else 0) ∧ mo j' = nI (if j' < j then lz_dg f j' else 3) ∧ (if j' < j then lz_dg f j' else if j' = j then lz_dg f j + 1 else 0) ≤ 4 ∧ (if j' < j then lz_dg f j' else 3) ≤ 3
        have hd' := lz_dg_lt f j'
        by_cases c1 : j' < j
        · rw [pk_un (by omega), if_pos c1, if_pos c1]
          exact ⟨(h3 j' c1).1, (h3 j' c1).2, by omega, by omega⟩
        · rw [if_neg c1, if_neg c1]
          by_cases c2 : j' = j
          · rw [if_pos c2, c2, pk_us]
            exact ⟨rfl, (h4 j (Nat.le_refl _) hi).2, by omega, by omega⟩
          · rw [if_neg c2, pk_un c2]
            exact ⟨(h4 j' (by omega) hj').1, (h4 j' (by omega) hj').2, by omega, by omega⟩
      have hbd : ∀ k, lz_bd4 (fun j' => if j' < j then lz_dg f j' else if j' = j then lz_dg f j + 1 else 0) (fun j' => if j' < j then lz_dg f j' else 3) k ↔ lz_pre f j k := by
        intro k
        constructor
        · intro g
          refine ⟨fun j' hj' => ?_, ?_⟩
          · have g' : (if j' < j then lz_dg f j' else if j' = j then lz_dg f j + 1 else 0) ≤ lz_dg k j' ∧ lz_dg k j' ≤ (if j' < j then lz_dg f j' else 3) := g j' (by omega)
            rw [if_pos hj', if_pos hj'] at g'
            omega
          · have g' : (if j < j then lz_dg f j else if j = j then lz_dg f j + 1 else 0) ≤ lz_dg k j ∧ lz_dg k j ≤ (if j < j then lz_dg f j else 3) := g j hi
            rw [if_neg (Nat.lt_irrefl j), if_pos rfl] at g'
            omega
        · intro g j' hj'
          show (if j' < j then lz_dg f j' else if j' = j then lz_dg f j + 1 else 0) ≤ lz_dg k j' ∧ lz_dg k j' ≤ (if j' < j then lz_dg f j' else 3)
          have hd' := lz_dg_lt k j'
          by_cases c1 : j' < j
          · rw [if_pos c1, if_pos c1, g.1 j' c1]; omega
          · rw [if_neg c1, if_neg c1]
            by_cases c2 : j' = j
            · have := g.2
              rw [if_pos c2, c2]
              rw [c2] at hd'
              omega
            · rw [if_neg c2]; omega
      generalize upd le j (nI (lz_dg f j + 1)) = le' at hb ⊢
      refine lz_qs (u := u) (x := lq_inForce u) (le := le') (mo := mo) ok hm hx hb (fun u' cs hn => br_t rfl (nm_e (K0 u' cs (fun k hk hp => hn k hk ((hbd k).mpr hp))))) (fun u' n2 cs hn2 hb2 ha hmin hlo hc => br_f (by decide) (lz_answer_w (u := u') ?_))
      rw [← hc]
      exact K1 u' n2 cs hn2 ((hbd n2).mp hb2) ha (fun k hk hp ha' => hmin k hk ((hbd k).mpr hp) ha')
    · have e1 : (nI j).toNatClampNeg = j := nI_clamp (by omega)
      have hin : vp_in (nI j) 4 := vp_in_nI (by omega) (by decide)
      refine nm_r (lz_vx2 (by omega) (by omega)) (And.intro hin (nm_r (e' := upd le j (nI (lz_dg f j))) (congrArg (fun z => upd le z (nI (lz_dg f j))) e1) (And.intro hin (nm_r (e' := upd mo j (nI (lz_dg f j))) (congrArg (fun z => upd mo z (nI (lz_dg f j))) e1) (nm_r (nI_1 j) (ih (j + 1) _ _ (by omega) (by omega) (fun j' hj' => ?_) (fun j' hj' hj4 => ?_)))))))
      · by_cases e : j' = j
        · rw [e, pk_us, pk_us]; exact ⟨rfl, rfl⟩
        · rw [pk_un e, pk_un e]; exact h3 j' (by omega)
      · rw [pk_un (by omega), pk_un (by omega)]; exact h4 j' (by omega) hj4
theorem lz_af46 (ok : lz_ok u) (hm : m ≤ 10) (hx : ∀ c, bt (lq_inForce u) c = true → c < m) (hf : f < 256)
    (K0 : ∀ u', lq_cs u' = lq_cs u → (∀ k, k < 256 → f < k → ¬ lz_all u (lq_inForce u) m k) → post (-4) u')
    (K1 : ∀ u' n, lq_cs u' = lq_cs u → n < 256 → f < n → lz_all u (lq_inForce u) m n → (∀ k, k < 256 → f < k → lz_all u (lq_inForce u) m k → n ≤ k) → post (nI n) u') :
    ∀ n j u', j ≤ 4 → j < n → lq_cs u' = lq_cs u → (∀ i, j ≤ i → i < 4 → ∀ k, k < 256 → lz_pre f i k → ¬ lz_all u (lq_inForce u) m k) → lq_U (wX_after_46 post (nI f) n (nI j - 1)) u' := by
  intro n
  induction n with
  | zero => intro j u' h1 h2; omega
  | succ n ih =>
    intro j u' h1 h2 cs hno
    by_cases hj : j = 0
    · subst hj
      refine br_t (by decide) (K0 u' cs (fun k hk hfk => ?_))
      obtain ⟨i, hi, hp⟩ := lz_gt_pre hf hk hfk
      exact hno i (Nat.zero_le _) hi k hk hp
    · have ej : nI j - 1 = nI (j - 1) := lz_dn1 (by omega)
      have eI : lq_inForce u' = lq_inForce u := lq_cs_inForce cs
      have ea : ∀ k, lz_all u' (lq_inForce u') m k = lz_all u (lq_inForce u) m k := fun k => by rw [lz_all_cs cs, eI]
      rw [ej]
      refine br_f (nI_pos (by omega)) (lz_ask_w (u := u') (fun le mo h => ?_))
      refine lz_ex (fun n' => lq_UK (wX_after_60 post (wX_after_46 post (nI f) n) (nI f) (nI (j - 1))) u' (lq_inForce u') n' (nI 0) le mo) 5 (lz_af60 (u := u') (m := m) (f := f) (lz_ok_cs cs ok) hm (by rw [eI]; exact hx) hf (by omega) (fun u2 cs2 hn2 => ?_) (fun u2 n2 cs2 hn2 hp2 ha2 hmin2 => ?_) 5 0 le mo (by omega) (by omega) (fun j' hj' => absurd hj' (Nat.not_lt_zero j')) (fun j' _ hj4 => h j' hj4))
      · have e2 : nI (j - 1) + (-1) = nI (j - 1) - 1 := (Int32.sub_eq_add_neg _ _).symm
        rw [e2]
        refine ih (j - 1) u2 (by omega) (by omega) (cs2.trans cs) (fun i hi1 hi4 k hk hp => ?_)
        by_cases e : i = j - 1
        · subst e
          have := hn2 k hk hp
          rw [ea k] at this
          exact this
        · exact hno i (by omega) hi4 k hk hp
      · rw [ea n2] at ha2
        refine K1 u2 n2 (cs2.trans cs) hn2 (lz_pre_gt hf hn2 (by omega) hp2) ha2 (fun k hk hfk hak => ?_)
        obtain ⟨i, hi, hp⟩ := lz_gt_pre hf hk hfk
        by_cases c1 : j ≤ i
        · exact absurd hak (hno i c1 hi k hk hp)
        · by_cases c2 : i = j - 1
          · subst c2
            exact hmin2 k hk hp (by rw [ea k]; exact hak)
          · refine Nat.le_of_lt (lz_pre_gt (i := i) hn2 hk hi ⟨fun j' hj' => ?_, ?_⟩)
            · rw [hp.1 j' hj', hp2.1 j' (by omega)]
            · rw [hp2.1 i (by omega)]; exact hp.2
end
theorem i_vc_after {k : Nat} {u : SX} {v : SY} (I : i_Rel k u v) (hk : k + 5 ≤ 2560) (v1 : Int32) : wpX_after (fun r u' => wpY_after (fun r' => r' = r ∧ i_Rel (k + 5) u' v) v v1) u v1 := by
  have I' := I
  obtain ⟨m, hm, r1, r2, r3, r4, r5, r6, r7, r8⟩ := I
  have eF : ly_inForce v = lq_inForce u := r3
  refine br_c (fun h0 => br_t h0 (And.intro rfl I')) (fun h0 => br_c (fun h1 => ?_) (fun h1 => br_f h0 (br_f h1 (And.intro rfl I'))))
  -- the reference's side, from its start
  have fin0 : ∀ (st : Nat) (u' : SX), v1 + 1 = nI st → st ≤ 256 → lq_cs u' = lq_cs u → (∀ k, st ≤ k → k < 256 → ¬ lz_all u (lq_inForce u) m k) → wpY_after (fun r' => r' = -4 ∧ i_Rel (k + 5) u' v) v v1 := by
    intro st u' hst hs cs hno
    refine br_f h0 (br_t h1 (ly_fo_w (u := u) (st := st) (X := ly_inForce v) r7 hst hs hm r2 r8 (fun r hr1 hr ha _ => ?_) (fun _ => And.intro rfl (lz_R_cs cs I'))))
    rw [eF] at ha
    exact absurd ha (hno r hr1 hr)
  have fin1 : ∀ (st n : Nat) (u' : SX), v1 + 1 = nI st → st ≤ 256 → lq_cs u' = lq_cs u → st ≤ n → n < 256 → lz_all u (lq_inForce u) m n → (∀ k, st ≤ k → k < 256 → lz_all u (lq_inForce u) m k → n ≤ k) → wpY_after (fun r' => r' = nI n ∧ i_Rel (k + 5) u' v) v v1 := by
    intro st n u' hst hs cs hn1 hn ha hmin
    refine br_f h0 (br_t h1 (ly_fo_w (u := u) (st := st) (X := ly_inForce v) r7 hst hs hm r2 r8 (fun r hr1 hr ha' hl => And.intro ?_ (lz_R_cs cs I')) (fun hno => ?_)))
    · rw [eF] at ha'
      have g1 := hmin r hr1 hr ha'
      have g2 : r ≤ n := Nat.le_of_not_lt fun h => hl n hn1 h (by rw [eF]; exact ha)
      rw [Nat.le_antisymm g2 g1]
    · rw [eF] at hno
      exact absurd ha (hno n hn1 hn)
  refine br_c (fun h2 => ?_) (fun h2 => ?_)
  · have e0 : v1 + 1 = nI 0 := by rw [h2]; decide
    refine lz_q0 r7 hm r4 (fun u' cs hn => br_t rfl (fin0 0 u' e0 (by omega) cs (fun k _ hk => hn k hk))) (fun u' n cs hn ha hmin hlo hc => br_f (by decide) (lz_answer_w (u := u') ?_))
    rw [← hc]
    exact fin1 0 n u' e0 (by omega) cs (Nat.zero_le _) hn ha (fun k _ hk hak => hmin k hk hak)
  · have h0' : ¬ v1 < 0 := by
      intro h
      apply h2
      rw [Int32.lt_iff_toInt_lt] at h0 h
      rw [show (-1 : Int32).toInt = -1 from by decide] at h0
      rw [show (0 : Int32).toInt = 0 from by decide] at h
      apply Int32.toInt_inj.mp
      rw [show (-1 : Int32).toInt = -1 from by decide]
      omega
    obtain ⟨f, hf, ef⟩ := nI_of2 (M := 255) (n := 255) (by decide) h0' h1
    have e1 : v1 + 1 = nI (f + 1) := by rw [ef, nI_1]
    refine lz_eqv (P := fun z => ∃ n46 : Nat, lq_U (wX_after_46 _ z n46 3) u) ef ?_
    refine lz_ex (fun n => lq_U (wX_after_46 _ (nI f) n (nI 4 - 1)) u) 5 (lz_af46 (u := u) (f := f) r7 hm r4 (by omega) (fun u' cs hn => fin0 (f + 1) u' e1 (by omega) cs (fun k hk1 hk => hn k hk (by omega))) (fun u' n cs hn hfn ha hmin => fin1 (f + 1) n u' e1 (by omega) cs (by omega) hn ha (fun k hk1 hk hak => hmin k hk (by omega) hak)) 5 4 u (by omega) (by omega) rfl (fun i hi hi4 => by omega))
end
section
/-! states alike but for slot 10; blame -/
def lz_e10 (u u' : SX) : Prop :=
  lq_made u' = lq_made u ∧ lq_inForce u' = lq_inForce u ∧ lq_held u' = lq_held u ∧ lq_members u' = lq_members u ∧ lq_eitherYes u' = lq_eitherYes u ∧ lq_eitherNo u' = lq_eitherNo u ∧ lq_always u' = lq_always u ∧
  (∀ c, c < 10 → lq_kind u' c = lq_kind u c) ∧ (∀ j, j < 40 → lq_coef u' j = lq_coef u j) ∧ (∀ c, c < 10 → lq_bound u' c = lq_bound u c) ∧ lz_ok u'
theorem lz_e10_rf {u : SX} (ok : lz_ok u) : lz_e10 u u := ⟨rfl, rfl, rfl, rfl, rfl, rfl, rfl, fun _ _ => rfl, fun _ _ => rfl, fun _ _ => rfl, ok⟩
theorem lz_e10_tr {u u' u'' : SX} (a : lz_e10 u u') (b : lz_e10 u' u'') : lz_e10 u u'' := by
  obtain ⟨a1, a2, a3, a4, a5, a6, a7, a8, a9, a10, a11⟩ := a
  obtain ⟨b1, b2, b3, b4, b5, b6, b7, b8, b9, b10, b11⟩ := b
  exact ⟨b1.trans a1, b2.trans a2, b3.trans a3, b4.trans a4, b5.trans a5, b6.trans a6, b7.trans a7, fun c h => (b8 c h).trans (a8 c h), fun c h => (b9 c h).trans (a9 c h), fun c h => (b10 c h).trans (a10 c h), b11⟩
theorem lz_e10_cs {u u' : SX} (ok : lz_ok u) (h : lq_cs u' = lq_cs u) : lz_e10 u u' :=
  ⟨lq_cs_made h, lq_cs_inForce h, lq_cs_held h, lq_cs_members h, lq_cs_eitherYes h, lq_cs_eitherNo h, lq_cs_always h, fun c _ => by rw [lq_cs_kind h], fun c _ => by rw [lq_cs_coef h], fun c _ => by rw [lq_cs_bound h], lz_ok_cs h ok⟩
theorem lz_e10_R {u u' : SX} {v : SY} (h : lz_e10 u u') (I : lz_R u v) : lz_R u' v := by
  obtain ⟨a1, a2, a3, a4, a5, a6, a7, a8, a9, a10, a11⟩ := h
  exact lz_R_of I a1 a2 a3 a11 a8 a9 a10 a4 a5 a6 a7
theorem lz_e10_sat {u u' : SX} (h : lz_e10 u u') {c : Nat} (hc : c < 10) (s : Nat → Nat) : lz_sat u' c s ↔ lz_sat u c s := by
  obtain ⟨a1, a2, a3, a4, a5, a6, a7, a8, a9, a10, a11⟩ := h
  have e : ∀ i, i < 4 → lz_cf u' c i = lz_cf u c i := fun i hi => by unfold lz_cf; rw [a9 _ (by omega)]
  unfold lz_sat
  rw [lz_ps4, lz_ps4, e 0 (by omega), e 1 (by omega), e 2 (by omega), e 3 (by omega), show lz_bd u' c = lz_bd u c by unfold lz_bd; rw [a10 c hc], a8 c hc, a4, a5, a6, a7]
theorem lz_e10_all {u u' : SX} (h : lz_e10 u u') {X : Int32} {m : Nat} (hm : m ≤ 10) (n : Nat) : lz_all u' X m n ↔ lz_all u X m n :=
  ⟨fun g c hc hb => (lz_e10_sat h (by omega) _).mp (g c hc hb), fun g c hc hb => (lz_e10_sat h (by omega) _).mpr (g c hc hb)⟩
def lz_uns (u : SX) (m : Nat) (S : Int32) : Prop := ∀ k, k < 256 → ¬ lz_all u S m k
theorem lz_bl {u : SX} {v : SY} {m : Nat} (ok : lz_ok u) (hm : m ≤ 10) (hmade : lq_made u = nI m) (hcnt : ly_count v = nI m) (rc : ∀ c, c < m → lz_rc u v c) :
    ∀ d c S, c + d = m → (∀ b, bt S b = true → b < m) → lz_uns u m S → ∃ S' : Int32,
      (∀ (post : Int32 → SX → Prop) (u' : SX), lq_cs u' = lq_cs u → (∀ u'', lq_cs u'' = lq_cs u → post S' u'') → lq_U (wX_blame_24 post (d + 1) S (nI c)) u') ∧
      (∀ post : Int32 → Prop, post S' → ly_U (wY_blame_20 post) v (d + 1) S (nI c)) := by
  intro d
  induction d with
  | zero =>
    intro c S hcd hS hu
    refine ⟨S, fun post u' cs K => ?_, fun post K => ?_⟩
    · have e : lq_made u' = nI m := (lq_cs_made cs).trans hmade
      exact pk_le m c (fun _ => K u' cs) (fun h => absurd h (by omega)) e
    · exact pk_le m c (fun _ => K) (fun h => absurd h (by omega)) hcnt
  | succ d ih =>
    intro c S hcd hS hu
    have hS' : ∀ b, bt (S &&& (lz_b c ^^^ (-1))) b = true → b < m := fun b h => hS b ((lz_anb _ (by omega) b).mp h).1
    by_cases hb : bt S c = true
    · by_cases hun : lz_uns u m (S &&& (lz_b c ^^^ (-1)))
      · obtain ⟨S', hX, hY⟩ := ih (c + 1) (S &&& (lz_b c ^^^ (-1))) (by omega) hS' hun
        refine ⟨S', fun post u' cs K => ?_, fun post K => ?_⟩
        · have e : lq_made u' = nI m := (lq_cs_made cs).trans hmade
          refine pk_le m c (fun h => absurd h (by omega)) (fun _ => lz_brb c rfl (by omega) (fun _ => lz_q0 (u := u') (m := m) (lz_ok_cs cs ok) hm hS' (fun u2 cs2 hn => br_t rfl (nm_e (nm_r (nI_1 c) (hX post u2 (cs2.trans cs) K)))) (fun u2 n cs2 hn ha _ _ _ => ?_)) (fun h => absurd hb (lz_ff.mp h))) e
          rw [lz_all_cs cs] at ha
          exact absurd ha (hun n hn)
        · refine pk_le m c (fun h => absurd h (by omega)) (fun _ => nm_e (ly_fo_w (u := u) (st := 0) ok rfl (by omega) hm hcnt rc (fun r _ hr ha _ => absurd ha (hun r hr)) (fun _ => br_t rfl (nm_r (nI_1 c) (hY post K))))) hcnt
      · obtain ⟨S', hX, hY⟩ := ih (c + 1) S (by omega) hS hu
        refine ⟨S', fun post u' cs K => ?_, fun post K => ?_⟩
        · have e : lq_made u' = nI m := (lq_cs_made cs).trans hmade
          refine pk_le m c (fun h => absurd h (by omega)) (fun _ => lz_brb c rfl (by omega) (fun _ => lz_q0 (u := u') (m := m) (lz_ok_cs cs ok) hm hS' (fun u2 cs2 hn => ?_) (fun u2 n cs2 hn ha _ _ _ => br_f (by decide) (nm_r (nI_1 c) (hX post u2 (cs2.trans cs) K)))) (fun h => absurd hb (lz_ff.mp h))) e
          refine absurd (fun k hk => ?_) hun
          have := hn k hk
          rw [lz_all_cs cs] at this
          exact this
        · refine pk_le m c (fun h => absurd h (by omega)) (fun _ => nm_e (ly_fo_w (u := u) (st := 0) ok rfl (by omega) hm hcnt rc (fun r _ hr ha _ => br_f (lz_n4 (by omega)) (nm_r (nI_1 c) (hY post K))) (fun hno => absurd (fun k hk => hno k (Nat.zero_le _) hk) hun))) hcnt
    · have eS : S &&& (lz_b c ^^^ (-1)) = S := by
        refine lz_bext fun b => ?_
        rw [lz_anb _ (by omega)]
        exact ⟨fun h => h.1, fun h => ⟨h, fun e => hb (e ▸ h)⟩⟩
      obtain ⟨S', hX, hY⟩ := ih (c + 1) S (by omega) hS hu
      refine ⟨S', fun post u' cs K => ?_, fun post K => ?_⟩
      · have e : lq_made u' = nI m := (lq_cs_made cs).trans hmade
        exact pk_le m c (fun h => absurd h (by omega)) (fun _ => lz_brb c rfl (by omega) (fun h => absurd h hb) (fun _ => nm_r (nI_1 c) (hX post u' cs K))) e
      · exact pk_le m c (fun h => absurd h (by omega)) (fun _ => nm_r eS (ly_fo_w (u := u) (st := 0) ok rfl (by omega) hm hcnt rc (fun r _ hr ha _ => absurd ha (hu r hr)) (fun _ => br_t rfl (nm_r (nI_1 c) (hY post K))))) hcnt
theorem i_vc_blame {k : Nat} {u : SX} {v : SY} (I : i_Rel k u v) (hk : k + 5 ≤ 2560) : wpX_blame (fun r u' => wpY_blame (fun r' => r' = r ∧ i_Rel (k + 5) u' v) v) u := by
  have I' := I
  obtain ⟨m, hm, r1, r2, r3, r4, r5, r6, r7, r8⟩ := I
  have eF : ly_inForce v = lq_inForce u := r3
  refine lz_q0 r7 hm r4 (fun u' cs hn => ?_) (fun u' n cs hn ha hmin hlo hc => ?_)
  · obtain ⟨S', hX, hY⟩ := lz_bl (u := u) (v := v) r7 hm r1 r2 r8 m 0 (lq_inForce u) (by omega) r4 hn
    have eI : lq_inForce u' = lq_inForce u := lq_cs_inForce cs
    refine br_t rfl (lz_ex (fun n => lq_U (wX_blame_24 _ n (lq_inForce u') (nI 0)) u') (m + 1) ?_)
    rw [eI]
    refine hX _ u' cs (fun u2 cs2 => ?_)
    refine ly_fo_w (u := u) (st := 0) (X := ly_inForce v) r7 rfl (by omega) hm r2 r8 (fun r _ hr ha _ => ?_) (fun _ => br_t rfl (lz_ex (fun n => ly_U (wY_blame_20 _) v n (ly_inForce v) (nI 0)) (m + 1) ?_))
    · rw [eF] at ha
      exact absurd ha (hn r hr)
    · rw [eF]
      exact hY _ (And.intro rfl (lz_R_cs cs2 I'))
  · refine br_f (by decide) (ly_fo_w (u := u) (st := 0) (X := ly_inForce v) r7 rfl (by omega) hm r2 r8 (fun r _ hr _ _ => br_f (lz_n4 (by omega)) (And.intro rfl (lz_R_cs cs I'))) (fun hno => ?_))
    rw [eF] at hno
    exact absurd ha (hno n (Nat.zero_le _) hn)
end
section
/-! a search with the extra constraint; smallest -/
theorem lz_1024 : (1024 : Int32) = lz_b 10 := by decide
def lz_sx (u : SX) (k : Nat) : Prop := lz_ps (fun i => lz_cf u 10 i * (lz_dg k i : Int)) 4 ≤ lz_bd u 10
theorem lz_qx {u u1 : SX} {X : Int32} {m : Nat} (E : lz_e10 u u1) (hm : m ≤ 10) (hX : ∀ c, bt X c = true → c < m) (hk : lq_kind u1 10 = 0) {post : Int32 → SX → Prop}
    (K0 : ∀ u', lq_cs u' = lq_cs u1 → (∀ k, k < 256 → lz_all u X m k → ¬ lz_sx u1 k) → post 0 u')
    (K1 : ∀ u' n, lq_cs u' = lq_cs u1 → n < 256 → lz_all u X m n → lz_sx u1 n → (∀ i, i < 4 → lz_lo (lq_yes u') i = lz_dg n i) → post 1 u') :
    wpX_ask (fun a => wpX_search (fun r b => post r b) a) u1 (X ||| 1024) := by
  have ok1 : lz_ok u1 := E.2.2.2.2.2.2.2.2.2.2
  rw [lz_1024]
  refine lz_ask_w (fun le mo h => ?_)
  have e0 : lq_cs (lz_setAsk u1 (X ||| lz_b 10) le mo) = lq_cs u1 := rfl
  have hP : ∀ k, lz_P (lz_setAsk u1 (X ||| lz_b 10) le mo) (fun _ => 0) (fun _ => 3) (lz_dg k) ↔ lz_all u X m k ∧ lz_sx u1 k := by
    intro k
    constructor
    · intro g
      refine ⟨fun c hc hb => ?_, ?_⟩
      · have := g.2 c (by omega) ((lz_orb X (by omega) c).mpr (Or.inl hb))
        rw [lz_sat_cs e0] at this
        exact (lz_e10_sat E (by omega) _).mp this
      · have := g.2 10 (by omega) ((lz_orb X (by omega) 10).mpr (Or.inr rfl))
        rw [lz_sat_cs e0] at this
        exact this.1 hk
    · intro g
      refine ⟨fun i hi => ⟨lz_dg_lt k i, Nat.zero_le _, lz_dg_lt k i⟩, fun c hc hb => ?_⟩
      rw [lz_sat_cs e0]
      rcases (lz_orb X (by omega) c).mp hb with h' | h'
      · have hcm := hX c h'
        exact (lz_e10_sat E (by omega) _).mpr (g.1 c hcm h')
      · rw [h']
        exact ⟨fun _ => g.2, fun h0 => absurd hk h0, fun h0 => absurd hk h0⟩
  refine lz_search_n (u := lz_setAsk u1 (X ||| lz_b 10) le mo) (le := fun _ => 0) (mo := fun _ => 3) (lz_ok_cs e0 ok1) (fun i hi => ⟨(h i hi).1, (h i hi).2, Nat.zero_le 4, Nat.le_refl 3⟩) (fun u' st hn => K0 u' ((lq_st_cs st).trans e0) (fun k hk' ha hs => hn k hk' ((hP k).mpr ⟨ha, hs⟩))) (fun u' n st hn hPn _ hlo _ => ?_)
  have := (hP n).mp hPn
  exact K1 u' n ((lq_st_cs st).trans e0) hn this.1 this.2 hlo
/-! sums -/
def lz_w (h : Nat → Int32) (k : Nat) : Int := lz_ps (fun i => (h i).toInt * (lz_dg k i : Int)) 4
def lz_h5 (h : Nat → Int32) : Prop := ∀ i, i < 4 → -5 ≤ (h i).toInt ∧ (h i).toInt ≤ 5
def lz_tlo (a : Int) : Int := if 0 ≤ a then 0 else 3 * a
def lz_thi (a : Int) : Int := if 0 ≤ a then 3 * a else 0
theorem lz_tlh {a : Int} {d : Nat} (h1 : -5 ≤ a) (h2 : a ≤ 5) (hd : d ≤ 3) : lz_tlo a ≤ a * (d : Int) ∧ a * (d : Int) ≤ lz_thi a ∧ lz_thi a - lz_tlo a ≤ 15 ∧ -15 ≤ lz_tlo a ∧ lz_thi a ≤ 15 := by
  unfold lz_tlo lz_thi
  have h : d = 0 ∨ d = 1 ∨ d = 2 ∨ d = 3 := by omega
  rcases h with rfl | rfl | rfl | rfl <;> split <;> omega
def lz_hi4 (h : Nat → Int32) : Int := lz_thi (h 0).toInt + lz_thi (h 1).toInt + lz_thi (h 2).toInt + lz_thi (h 3).toInt
theorem lz_w_b {h : Nat → Int32} (h5 : lz_h5 h) (k : Nat) : lz_hi4 h - 60 ≤ lz_w h k ∧ lz_w h k ≤ lz_hi4 h ∧ -60 ≤ lz_w h k ∧ lz_w h k ≤ 60 := by
  have a0 := lz_tlh (h5 0 (by omega)).1 (h5 0 (by omega)).2 (lz_dg_lt k 0)
  have a1 := lz_tlh (h5 1 (by omega)).1 (h5 1 (by omega)).2 (lz_dg_lt k 1)
  have a2 := lz_tlh (h5 2 (by omega)).1 (h5 2 (by omega)).2 (lz_dg_lt k 2)
  have a3 := lz_tlh (h5 3 (by omega)).1 (h5 3 (by omega)).2 (lz_dg_lt k 3)
  unfold lz_w lz_hi4
  rw [lz_ps4]
  omega
def lz_ms (u : SX) (X : Int32) (m : Nat) (h : Nat → Int32) (r : Nat) (B : Int) : Prop := (B = 1000 ∨ ∃ k, k < r ∧ lz_all u X m k ∧ lz_w h k = B) ∧ ∀ k, k < r → lz_all u X m k → B ≤ lz_w h k
theorem lz_ms_u {u : SX} {X : Int32} {m : Nat} {h : Nat → Int32} (h5 : lz_h5 h) {r : Nat} {B B' : Int} (a : lz_ms u X m h r B) (b : lz_ms u X m h r B') : B = B' := by
  rcases a with ⟨a1, a2⟩
  rcases b with ⟨b1, b2⟩
  rcases a1 with a1 | ⟨k, hk, ak, wk⟩
  · rcases b1 with b1 | ⟨k', hk', ak', wk'⟩
    · omega
    · have := a2 k' hk' ak'
      have := lz_w_b h5 k'
      omega
  · rcases b1 with b1 | ⟨k', hk', ak', wk'⟩
    · have := b2 k hk ak
      have := lz_w_b h5 k
      omega
    · have := a2 k' hk' ak'
      have := b2 k hk ak
      omega
section
variable {u0 : SX} {m : Nat} {post : Int32 → SX → Prop}
/-- one round: the sum, the extra constraint, the search -/
theorem lz_sm34 (hm : m ≤ 10) (hX : ∀ c, bt (lq_inForce u0) c = true → c < m) (h5 : lz_h5 (lq_held u0)) {u : SX} (E : lz_e10 u0 u) {n0 : Nat} (hn0 : n0 < 256) (hlo : ∀ i, i < 4 → lz_lo (lq_yes u) i = lz_dg n0 i) {J : lq_J3} {r : Nat}
    (K0 : ∀ u' B, lz_e10 u0 u' → B.toInt = lz_w (lq_held u0) n0 → (∀ k, k < 256 → lz_all u0 (lq_inForce u0) m k → lz_w (lq_held u0) n0 ≤ lz_w (lq_held u0) k) → lq_U (J B 0 (nI (r + 1))) u')
    (K1 : ∀ u' B n1, lz_e10 u0 u' → B.toInt = lz_w (lq_held u0) n0 → n1 < 256 → lz_all u0 (lq_inForce u0) m n1 → lz_w (lq_held u0) n1 + 1 ≤ lz_w (lq_held u0) n0 → (∀ i, i < 4 → lz_lo (lq_yes u') i = lz_dg n1 i) → lq_U (J B 1 (nI (r + 1))) u') :
    ∀ n i B, i ≤ 4 → 4 < n + i → B.toInt = lz_ps (fun i => (lq_held u0 i).toInt * (lz_dg n0 i : Int)) i → -15 * (i : Int) ≤ B.toInt → B.toInt ≤ 15 * (i : Int) → lq_U (wX_smallest_34 post J (nI r)) u n B (nI i) := by
  intro n
  induction n with
  | zero => intro i B h1 h2; omega
  | succ n ih =>
    intro i B h1 h2 hB b1 b2
    have eh : lq_held u = lq_held u0 := E.2.2.1
    have eI : lq_inForce u = lq_inForce u0 := E.2.1
    refine pk_le 4 i (fun h => ?_) (fun h => ?_)
    · have e : i = 4 := by omega
      subst e
      have hBw : B.toInt = lz_w (lq_held u0) n0 := hB
      have hwb := lz_w_b h5 n0
      have hB1 : (B - 1).toInt = B.toInt - 1 := lz_subI (by omega) (by omega) (by decide) (by decide)
      have one : ∀ x : Int32, 1 * x = x := fun x => Int32.one_mul x
      refine lz_setLinear_w (u := u) (c := 10) rfl (by omega) (fun cf c1 c2 => ?_)
      have oku : lz_ok u := E.2.2.2.2.2.2.2.2.2.2
      have okc : ∀ j, j < 44 → -5 ≤ (cf j).toInt ∧ (cf j).toInt ≤ 5 := by
        intro j hj
        by_cases e : j < 4 * 10 ∨ 4 * 10 + 4 ≤ j
        · rw [c2 j e]; exact oku.1 j hj
        · obtain ⟨i, hi, rfl⟩ : ∃ i, i < 4 ∧ j = 4 * 10 + i := ⟨j - 40, by omega, by omega⟩
          rw [c1 i hi, one, eh]
          exact h5 i hi
      have hkd : ∀ c, c ≠ 10 → upd (lq_kind u) 10 0 c = lq_kind u c := fun c hc => pk_un hc
      have hkd0 : upd (lq_kind u) 10 0 10 = 0 := pk_us
      have hbn : ∀ c, c ≠ 10 → upd (lq_bound u) 10 (B - 1) c = lq_bound u c := fun c hc => pk_un hc
      have hbn0 : (upd (lq_bound u) 10 (B - 1) 10).toInt = lz_w (lq_held u0) n0 - 1 := by rw [pk_us, hB1, hBw]
      generalize upd (lq_kind u) 10 0 = kd at hkd hkd0 ⊢
      generalize upd (lq_bound u) 10 (B - 1) = bn at hbn hbn0 ⊢
      have ok1 : lz_ok (lz_setLin u kd cf bn) := by
        refine ⟨okc, fun c hc => ?_, fun c hc => ?_⟩
        · show -100 ≤ (bn c).toInt ∧ (bn c).toInt ≤ 99
          by_cases e : c = 10
          · rw [e, hbn0]; omega
          · rw [hbn c e]; exact oku.2.1 c hc
        · show ¬ kd c = 0 → ¬ kd c = 1 → lq_always u c = 0 → (∃ a, a < 12 ∧ lq_eitherYes u c = lz_b a) ∧ (∃ b, b < 12 ∧ lq_eitherNo u c = lz_b b)
          by_cases e : c = 10
          · rw [e, hkd0]; exact fun h => absurd rfl h
          · rw [hkd c e]; exact oku.2.2 c hc
      have E1 : lz_e10 u0 (lz_setLin u kd cf bn) := lz_e10_tr E ⟨rfl, rfl, rfl, rfl, rfl, rfl, rfl, fun c hc => hkd c (by omega), fun j hj => c2 j (Or.inl (by omega)), fun c hc => hbn c (by omega), ok1⟩
      have hsx : ∀ k, lz_sx (lz_setLin u kd cf bn) k ↔ lz_w (lq_held u0) k ≤ lz_w (lq_held u0) n0 - 1 := by
        intro k
        have ecf : ∀ i, i < 4 → lz_cf (lz_setLin u kd cf bn) 10 i = (lq_held u0 i).toInt := by
          intro i hi
          show (cf (4 * 10 + i)).toInt = _
          rw [c1 i hi, one, eh]
        have ebd : lz_bd (lz_setLin u kd cf bn) 10 = lz_w (lq_held u0) n0 - 1 := hbn0
        have ew : lz_w (lq_held u0) k = (lq_held u0 0).toInt * (lz_dg k 0 : Int) + (lq_held u0 1).toInt * (lz_dg k 1 : Int) + (lq_held u0 2).toInt * (lz_dg k 2 : Int) + (lq_held u0 3).toInt * (lz_dg k 3 : Int) := lz_ps4 _
        unfold lz_sx
        rw [ebd, lz_ps4, ecf 0 (by omega), ecf 1 (by omega), ecf 2 (by omega), ecf 3 (by omega), ← ew]
      have eI1 : lq_inForce (lz_setLin u kd cf bn) = lq_inForce u0 := eI
      refine lz_eqv (P := fun z => wpX_ask _ (lz_setLin u kd cf bn) (z ||| 1024)) eI1 (lz_qx (u := u0) (u1 := lz_setLin u kd cf bn) E1 hm hX hkd0 (fun u' cs hn => nm_r (nI_1 r) (K0 u' B (lz_e10_tr E1 (lz_e10_cs ok1 cs)) hBw (fun k hk ha => ?_))) (fun u' n1 cs hn1 ha hs hlo1 => nm_r (nI_1 r) (K1 u' B n1 (lz_e10_tr E1 (lz_e10_cs ok1 cs)) hBw hn1 ha ?_ hlo1)))
      · have := hn k hk ha
        rw [hsx k] at this
        omega
      · rw [hsx n1] at hs
        omega
    · have e1 : (nI i).toNatClampNeg = i := nI_clamp (by omega)
      have hd := lz_dg_lt n0 i
      have h5i := h5 i h
      have el : lq_held u (nI i).toNatClampNeg * nI (lz_lo (lq_yes u) i) = lq_held u0 i * nI (lz_dg n0 i) := by rw [e1, eh, hlo i h]
      have hmul : (lq_held u0 i * nI (lz_dg n0 i)).toInt = (lq_held u0 i).toInt * (lz_dg n0 i : Int) := lz_mulI (by omega) (by omega) hd
      have htb := lz_tb (a := (lq_held u0 i).toInt) h5i.1 h5i.2 hd
      have hadd : (B + lq_held u0 i * nI (lz_dg n0 i)).toInt = B.toInt + (lq_held u0 i).toInt * (lz_dg n0 i : Int) := by rw [lz_addI (by omega) (by omega) (by omega) (by omega), hmul]
      refine lz_low_w (u := u) i rfl h (And.intro (vp_in_nI h (by decide)) (nm_r (e' := B + lq_held u0 i * nI (lz_dg n0 i)) (congrArg (fun z => B + z) el) (nm_r (nI_1 i) (ih (i + 1) _ (by omega) (by omega) ?_ ?_ ?_))))
      · rw [hadd, hB]; rfl
      · rw [hadd]; omega
      · rw [hadd]; omega
theorem lz_sm_0 {u : SX} {B : Int32} {r n : Nat} (hr : r < 2 ^ 31) (h : post B u) : lq_U (wX_smallest_19 post (n + 1) B 0 (nI r)) u :=
  pk_le 64 r (fun _ => h) (fun _ => br_t rfl h)
theorem lz_sm19 (hm : m ≤ 10) (hX : ∀ c, bt (lq_inForce u0) c = true → c < m) (h5 : lz_h5 (lq_held u0))
    (K : ∀ u' B, lz_e10 u0 u' → lz_ms u0 (lq_inForce u0) m (lq_held u0) 256 B.toInt → post B u') :
    ∀ (n r : Nat) (B : Int32) (u : SX) (n0 : Nat), 65 < n + r → r ≤ 60 → lz_e10 u0 u → n0 < 256 → lz_all u0 (lq_inForce u0) m n0 → (∀ i, i < 4 → lz_lo (lq_yes u) i = lz_dg n0 i) → lz_w (lq_held u0) n0 + (r : Int) ≤ lz_hi4 (lq_held u0) → lq_U (wX_smallest_19 post n B 1 (nI r)) u := by
  intro n
  induction n with
  | zero => intro r B u n0 h1 h2; omega
  | succ n ih =>
    intro r B u n0 h1 h2 E hn0 ha hlo hw
    obtain ⟨n', hn'⟩ : ∃ n', n = n' + 1 := ⟨n - 1, by omega⟩
    refine pk_le 64 r (fun h => absurd h (by omega)) (fun h => br_f (by decide) ?_)
    refine lz_ex (fun n2 => lq_U (wX_smallest_34 post (wX_smallest_19 post n) (nI r)) u n2 0 (nI 0)) 5 (lz_sm34 (u0 := u0) (m := m) hm hX h5 E hn0 hlo (fun u' B' E' hB' hmin => ?_) (fun u' B' n1 E' hB' hn1 ha1 hw1 hlo1 => ?_) 5 0 0 (by omega) (by omega) (by rfl) (by decide) (by decide))
    · subst hn'
      refine lz_sm_0 (by omega) (K u' B' E' ⟨Or.inr ⟨n0, hn0, ha, hB'.symm⟩, fun k hk hak => ?_⟩)
      rw [hB']
      exact hmin k hk hak
    · have := lz_w_b h5 n1
      exact ih (r + 1) B' u' n1 (by omega) (by omega) E' hn1 ha1 hlo1 (by omega)
end
/-! the reference's smallest -/
theorem ly_sm18 {v : SY} {u : SX} (ok : lz_ok u) {m : Nat} (hm : m ≤ 10) (hcnt : ly_count v = nI m) (rc : ∀ c, c < m → lz_rc u v c) (h5 : lz_h5 (ly_held v)) {post : Int32 → Prop} {J : Int32 → Int32 → Prop} {r : Nat} (hr : r < 256) {B : Int32}
    (hBb : -1000 ≤ B.toInt ∧ B.toInt ≤ 1000)
    (K0 : (¬ lz_all u (ly_inForce v) m r ∨ B.toInt ≤ lz_w (ly_held v) r) → J B (nI (r + 1)))
    (K1 : ∀ B' : Int32, B'.toInt = lz_w (ly_held v) r → lz_all u (ly_inForce v) m r → B'.toInt < B.toInt → J B' (nI (r + 1))) :
    ∀ n i X, i ≤ 4 → 4 < n + i → X.toInt = lz_ps (fun i => (ly_held v i).toInt * (lz_dg r i : Int)) i → -15 * (i : Int) ≤ X.toInt → X.toInt ≤ 15 * (i : Int) → ly_U (wY_smallest_18 post J B (nI r)) v n X (nI i) := by
  intro n
  induction n with
  | zero => intro i X h1 h2; omega
  | succ n ih =>
    intro i X h1 h2 hX b1 b2
    refine pk_le 4 i (fun h => ?_) (fun h => ?_)
    · have e : i = 4 := by omega
      subst e
      have hXw : X.toInt = lz_w (ly_held v) r := hX
      refine lz_leI B.toInt X.toInt rfl rfl (fun hle => nm_r (nI_1 r) (K0 (Or.inr (by omega)))) (fun hgt => ?_)
      exact ly_sa_w ok hm hcnt (by omega) rc (fun ha => br_f (by decide) (nm_r (nI_1 r) (K1 X hXw ha hgt))) (fun ha => br_t rfl (nm_r (nI_1 r) (K0 (Or.inl ha))))
    · have e1 : (nI i).toNatClampNeg = i := nI_clamp (by omega)
      have hd := lz_dg_lt r i
      have h5i := h5 i h
      have el : ly_held v (nI i).toNatClampNeg * nI (lz_dg r i) = ly_held v i * nI (lz_dg r i) := by rw [e1]
      have hmul : (ly_held v i * nI (lz_dg r i)).toInt = (ly_held v i).toInt * (lz_dg r i : Int) := lz_mulI (by omega) (by omega) hd
      have htb := lz_tb (a := (ly_held v i).toInt) h5i.1 h5i.2 hd
      have hadd : (X + ly_held v i * nI (lz_dg r i)).toInt = X.toInt + (ly_held v i).toInt * (lz_dg r i : Int) := by rw [lz_addI (by omega) (by omega) (by omega) (by omega), hmul]
      refine And.intro (vp_in_nI h (by decide)) (ly_value_w rfl (by omega) h (nm_r (e' := X + ly_held v i * nI (lz_dg r i)) (congrArg (fun z => X + z) el) (nm_r (nI_1 i) (ih (i + 1) _ (by omega) (by omega) ?_ ?_ ?_))))
      · rw [hadd, hX]; rfl
      · rw [hadd]; omega
      · rw [hadd]; omega
theorem ly_sm6 {v : SY} {u : SX} (ok : lz_ok u) {m : Nat} (hm : m ≤ 10) (hcnt : ly_count v = nI m) (rc : ∀ c, c < m → lz_rc u v c) (h5 : lz_h5 (ly_held v)) {post : Int32 → Prop}
    (K : ∀ B, lz_ms u (ly_inForce v) m (ly_held v) 256 B.toInt → post B) :
    ∀ n r B, r ≤ 256 → 256 < n + r → lz_ms u (ly_inForce v) m (ly_held v) r B.toInt → ly_U (wY_smallest_6 post) v n B (nI r) := by
  intro n
  induction n with
  | zero => intro r B h1 h2; omega
  | succ n ih =>
    intro r B h1 h2 hB
    refine pk_le 256 r (fun h => ?_) (fun h => ?_)
    · have e : r = 256 := by omega
      subst e
      exact K B hB
    · have hBb : -1000 ≤ B.toInt ∧ B.toInt ≤ 1000 := by
        rcases hB.1 with g | ⟨k, _, _, g⟩
        · omega
        · have := lz_w_b h5 k
          omega
      refine lz_ex (fun n2 => ly_U (wY_smallest_18 post (ly_U (wY_smallest_6 post) v n) B (nI r)) v n2 0 (nI 0)) 5 (ly_sm18 ok hm hcnt rc h5 h hBb (fun g => ih (r + 1) B (by omega) (by omega) ⟨?_, fun k hk ha => ?_⟩) (fun B' hB' ha hlt => ih (r + 1) B' (by omega) (by omega) ⟨Or.inr ⟨r, by omega, ha, hB'.symm⟩, fun k hk hak => ?_⟩) 5 0 0 (by omega) (by omega) (by rfl) (by decide) (by decide))
      · rcases hB.1 with q | ⟨k, q1, q2⟩
        · exact Or.inl q
        · exact Or.inr ⟨k, by omega, q2⟩
      · by_cases e : k = r
        · rw [e] at ha ⊢
          rcases g with q | q
          · exact absurd ha q
          · exact q
        · exact hB.2 k (by omega) ha
      · by_cases e : k = r
        · rw [e, hB']; exact Int.le_refl _
        · have := hB.2 k (by omega) hak
          omega
theorem i_vc_smallest {k : Nat} {u : SX} {v : SY} (I : i_Rel k u v) (hk : k + 5 ≤ 2560) : wpX_smallest (fun r u' => wpY_smallest (fun r' => r' = r ∧ i_Rel (k + 5) u' v) v) u := by
  have I' := I
  obtain ⟨m, hm, r1, r2, r3, r4, r5, r6, r7, r8⟩ := I
  have eF : ly_inForce v = lq_inForce u := r3
  have eH : ly_held v = lq_held u := r5
  have h5 : lz_h5 (lq_held u) := r6
  have fin : ∀ u' B, lz_e10 u u' → lz_ms u (lq_inForce u) m (lq_held u) 256 B.toInt → wpY_smallest (fun r' => r' = B ∧ i_Rel (k + 5) u' v) v := by
    intro u' B E hB
    refine lz_ex (fun n => ly_U (wY_smallest_6 _) v n 1000 (nI 0)) 257 (ly_sm6 (u := u) r7 hm r2 r8 (by rw [eH]; exact h5) (fun B' hB' => And.intro (Int32.toInt_inj.mp ?_) (lz_e10_R E I')) 257 0 1000 (by omega) (by omega) ⟨Or.inl (by decide), fun k hk => absurd hk (Nat.not_lt_zero k)⟩)
    rw [eF, eH] at hB'
    exact lz_ms_u h5 hB' hB
  refine lz_q0 r7 hm r4 (fun u' cs hn => ?_) (fun u' n cs hn ha hmin hlo hc => ?_)
  · refine lz_ex (fun n => lq_U (wX_smallest_19 _ n 1000 0 (nI 0)) u') 1 (lz_sm_0 (by omega) (fin u' 1000 (lz_e10_cs r7 cs) ⟨Or.inl (by decide), fun k hk ha => absurd ha (hn k hk)⟩))
  · have := lz_w_b h5 n
    refine lz_ex (fun n => lq_U (wX_smallest_19 _ n 1000 1 (nI 0)) u') 66 (lz_sm19 (u0 := u) hm r4 h5 fin 66 0 1000 u' n (by omega) (by omega) (lz_e10_cs r7 cs) hn ha hlo (by omega))
end
section
/-! follows -/
def lz_fol (u : SX) (X : Int32) (m c : Nat) : Prop := ∀ k, k < 256 → lz_all u X m k → lz_sat u c (lz_dg k)
theorem ly_fl {v : SY} {u : SX} (ok : lz_ok u) {m c : Nat} {X : Int32} (hm : m ≤ 10) (hcnt : ly_count v = nI m) (rc : ∀ c, c < m → lz_rc u v c) (hc : c < m) {post : Int32 → Prop}
    (K1 : lz_fol u X m c → post 1) (K0 : ¬ lz_fol u X m c → post 0) :
    ∀ n r, r ≤ 256 → 256 < n + r → (∀ k, k < r → lz_all u X m k → lz_sat u c (lz_dg k)) → ly_U (wY_follows_27 post (nI c) X) v n (nI r) := by
  intro n
  induction n with
  | zero => intro r h1 h2; omega
  | succ n ih =>
    intro r h1 h2 h3
    refine pk_le 256 r (fun h => ?_) (fun h => ?_)
    · have e : r = 256 := by omega
      subst e
      exact K1 h3
    · refine ly_sa_w ok hm hcnt (by omega) rc (fun ha => br_f (by decide) (ly_sat_w ok (by omega) (by omega) (rc c hc) (fun hs => br_f (by decide) (nm_r (nI_1 r) (ih (r + 1) (by omega) (by omega) (fun k hk hak => ?_)))) (fun hs => br_t rfl (K0 (fun hf => hs (hf r h ha)))))) (fun ha => br_t rfl (nm_r (nI_1 r) (ih (r + 1) (by omega) (by omega) (fun k hk hak => ?_))))
      · by_cases e : k = r
        · rw [e]; exact hs
        · exact h3 k (by omega) hak
      · by_cases e : k = r
        · rw [e] at hak; exact absurd hak ha
        · exact h3 k (by omega) hak
section
variable {u : SX} {m c : Nat} {X : Int32} {post : Int32 → SX → Prop}
/-! a linear constraint -/
theorem lz_lf26 (ok : lz_ok u) (hm : m ≤ 10) (hc : c < 10) (hX : ∀ b, bt X b = true → b < m) (hk : lq_kind u c = 0) {kd bn : Nat → Int32}
    (hkd : ∀ c, c ≠ 10 → kd c = lq_kind u c) (hkd0 : kd 10 = 0) (hbn : ∀ c, c ≠ 10 → bn c = lq_bound u c) (hbn0 : (bn 10).toInt = - lz_bd u c - 1)
    (K1 : ∀ u', lz_e10 u u' → lz_fol u X m c → post 1 u') (K0 : ∀ u', lz_e10 u u' → ¬ lz_fol u X m c → post 0 u') :
    ∀ n i cf, i ≤ 4 → 4 < n + i → (∀ i', i' < i → cf (40 + i') = - lq_coef u (4 * c + i')) → (∀ j, j < 40 → cf j = lq_coef u j) → (∀ j, j < 44 → -5 ≤ (cf j).toInt ∧ (cf j).toInt ≤ 5) → lq_UC (wX_linearFollows_26 post (nI c) X) u kd bn n (nI i) cf := by
  intro n
  induction n with
  | zero => intro i cf h1 h2; omega
  | succ n ih =>
    intro i cf h1 h2 h3 h4 h5
    refine pk_le 4 i (fun h => ?_) (fun h => ?_)
    · have e : i = 4 := by omega
      subst e
      have hbd := ok.2.1 c (by omega)
      have hbd' : -100 ≤ lz_bd u c ∧ lz_bd u c ≤ 99 := hbd
      have ok1 : lz_ok (lz_setLin u kd cf bn) := by
        refine ⟨h5, fun c' hc' => ?_, fun c' hc' => ?_⟩
        · show -100 ≤ (bn c').toInt ∧ (bn c').toInt ≤ 99
          by_cases e : c' = 10
          · rw [e, hbn0]
            omega
          · rw [hbn c' e]; exact ok.2.1 c' hc'
        · show ¬ kd c' = 0 → ¬ kd c' = 1 → lq_always u c' = 0 → (∃ a, a < 12 ∧ lq_eitherYes u c' = lz_b a) ∧ (∃ b, b < 12 ∧ lq_eitherNo u c' = lz_b b)
          by_cases e : c' = 10
          · rw [e, hkd0]; exact fun h => absurd rfl h
          · rw [hkd c' e]; exact ok.2.2 c' hc'
      have E1 : lz_e10 u (lz_setLin u kd cf bn) := ⟨rfl, rfl, rfl, rfl, rfl, rfl, rfl, fun c' hc' => hkd c' (by omega), fun j hj => h4 j hj, fun c' hc' => hbn c' (by omega), ok1⟩
      have hsx : ∀ k, lz_sx (lz_setLin u kd cf bn) k ↔ ¬ lz_sat u c (lz_dg k) := by
        intro k
        have ecf : ∀ i, i < 4 → lz_cf (lz_setLin u kd cf bn) 10 i = - lz_cf u c i := by
          intro i hi
          have := ok.1 (4 * c + i) (by omega)
          show (cf (40 + i)).toInt = _
          rw [h3 i hi, lz_negI (by omega) (by omega)]
          rfl
        have ebd : lz_bd (lz_setLin u kd cf bn) 10 = - lz_bd u c - 1 := hbn0
        have es : lz_sat u c (lz_dg k) ↔ lz_cf u c 0 * (lz_dg k 0 : Int) + lz_cf u c 1 * (lz_dg k 1 : Int) + lz_cf u c 2 * (lz_dg k 2 : Int) + lz_cf u c 3 * (lz_dg k 3 : Int) ≤ lz_bd u c := by
          constructor
          · intro g
            have := g.1 hk
            rw [lz_ps4] at this
            exact this
          · intro g
            exact ⟨fun _ => by rw [lz_ps4]; exact g, fun h0 => absurd hk h0, fun h0 => absurd hk h0⟩
        rw [es]
        unfold lz_sx
        rw [ebd, lz_ps4, ecf 0 (by omega), ecf 1 (by omega), ecf 2 (by omega), ecf 3 (by omega), Int.neg_mul, Int.neg_mul, Int.neg_mul, Int.neg_mul]
        omega
      refine lz_qx (u := u) (u1 := lz_setLin u kd cf bn) E1 hm hX hkd0 (fun u' cs hn => br_t rfl (K1 u' (lz_e10_tr E1 (lz_e10_cs ok1 cs)) (fun k hk' ha => ?_))) (fun u' n1 cs hn1 ha hs hlo1 => br_f (by decide) (K0 u' (lz_e10_tr E1 (lz_e10_cs ok1 cs)) (fun hf => ?_)))
      · have := hn k hk' ha
        rw [hsx k] at this
        exact Classical.byContradiction this
      · rw [hsx n1] at hs
        exact hs (hf n1 hn1 ha)
    · have e2 : (nI c * 4 + nI i).toNatClampNeg = 4 * c + i := by rw [lz_ix4]; exact nI_clamp (by omega)
      have e3 : (40 : Int32) + nI i = nI (40 + i) := nI_add 40 i
      have e4 : ((40 : Int32) + nI i).toNatClampNeg = 40 + i := by rw [e3]; exact nI_clamp (by omega)
      have eu : upd cf ((40 : Int32) + nI i).toNatClampNeg (-(cf (nI c * 4 + nI i).toNatClampNeg)) = upd cf (40 + i) (- lq_coef u (4 * c + i)) := by rw [e4, e2, h4 _ (by omega)]
      have hcf := ok.1 (4 * c + i) (by omega)
      refine And.intro (by rw [lz_ix4]; exact vp_in_nI (by omega) (by decide)) (And.intro (by rw [e3]; exact vp_in_nI (by omega) (by decide)) (nm_r eu (nm_r (nI_1 i) (ih (i + 1) _ (by omega) (by omega) (fun i' hi' => ?_) (fun j hj => ?_) (fun j hj => ?_)))))
      · by_cases e : i' = i
        · rw [e, pk_us]
        · rw [pk_un (by omega)]; exact h3 i' (by omega)
      · rw [pk_un (by omega)]; exact h4 j hj
      · by_cases e : j = 40 + i
        · rw [e, pk_us, lz_negI (by omega) (by omega)]; omega
        · rw [pk_un e]; exact h5 j hj
end
end
section
def lq_UL (W : lq_J0) (u : SX) (x : Int32) (le mo : Nat → Int32) : Prop := W (lq_made u) (lq_inForce u) (lq_yes u) (lq_no u) (lq_trailLen u) (lq_level u) (lq_decided u) x (lq_learnt u) (lq_clash u) (lq_clashYes u) (lq_clashNo u) (lq_moved u) (lq_held u) (lq_kind u) (lq_coef u) (lq_bound u) (lq_members u) (lq_eitherYes u) (lq_eitherNo u) (lq_always u) (lq_trail u) (lq_atLevel u) (lq_whyYes u) (lq_whyNo u) le mo (lq_learntYes u) (lq_learntNo u)
def lq_UG {α : Sort _} (W : Int32 → Int32 → Int32 → Int32 → Int32 → Int32 → Int32 → Int32 → Int32 → Int32 → Int32 → Int32 → Int32 → α) (u : SX) (x : Int32) : α := W (lq_made u) (lq_inForce u) (lq_yes u) (lq_no u) (lq_trailLen u) (lq_level u) (lq_decided u) x (lq_learnt u) (lq_clash u) (lq_clashYes u) (lq_clashNo u) (lq_moved u)
end
section
/-! follows: all-different sets and clauses -/
theorem lz_lone1_l {u : SX} {a0 : Nat} (h0 : a0 < 12) {post : Int32 → Prop} (h : post (nI a0)) : ∀ n a, a ≤ a0 → a0 < n + a → lq_U (wX_lone_2 post (lz_b a0)) u n (nI a) := by
  intro n
  induction n with
  | zero => intro a h2 h3; omega
  | succ n ih =>
    intro a h2 h3
    refine pk_le 12 a (fun h => absurd h (by omega)) (fun g => ?_)
    by_cases e : a = a0
    · subst e
      exact br_t rfl h
    · exact br_f (fun he => e (lz_binj (by omega) (by omega) he).symm) (nm_r (nI_1 a) (ih (a + 1) (by omega) (by omega)))
theorem lz_lone1 {u : SX} {a0 : Nat} {x : Int32} (hx : x = lz_b a0) (h0 : a0 < 12) {post : Int32 → Prop} (h : post (nI a0)) : wpX_lone post u x := by
  subst hx
  exact lz_ex (fun n => lq_U (wX_lone_2 post (lz_b a0)) u n (nI 0)) 12 (lz_lone1_l h0 h 12 0 (by omega) (by omega))
section
variable {u : SX} {m c : Nat} {X : Int32} {post : Int32 → SX → Prop}
/-! two members with one value -/
theorem lz_df58 (ok : lz_ok u) (hm : m ≤ 10) (hX : ∀ b, bt X b = true → b < m) {i j p : Nat} (hi : i < 4) (hj : j < 4) {bo : Prop} {z : Int32} (hz : (z = 0 ∧ ¬ bo) ∨ (z = 1 ∧ bo)) {J : lq_J1}
    (K : ∀ u', lq_cs u' = lq_cs u → (bo → i < j → ∀ k, k < 256 → lz_all u X m k → lz_dg k i ≠ lz_dg k j) → lq_U (J (nI (p + 1))) u')
    (K0 : ∀ u', lq_cs u' = lq_cs u → (bo ∧ i < j ∧ ∃ k, k < 256 ∧ lz_all u X m k ∧ lz_dg k i = lz_dg k j) → post 0 u') :
    ∀ n x u', x ≤ 4 → 4 < n + x → lq_cs u' = lq_cs u → (bo → i < j → ∀ k, k < 256 → lz_all u X m k → lz_dg k i < x → lz_dg k i ≠ lz_dg k j) → lq_U (wX_differFollows_58 post J (nI c) X (nI p) (nI i) (nI j) z n (nI x)) u' := by
  intro n
  induction n with
  | zero => intro x u' h1 h2; omega
  | succ n ih =>
    intro x u' h1 h2 cs h3
    refine pk_le 4 x (fun h => ?_) (fun h => ?_)
    · refine nm_r (nI_1 p) (K u' cs (fun hb hij k hk ha => h3 hb hij k hk ha ?_))
      have := lz_dg_lt k i
      omega
    · rcases hz with ⟨z0, hnb⟩ | ⟨z1, hb⟩
      · exact br_t z0 (nm_r (nI_1 x) (ih (x + 1) u' (by omega) (by omega) cs (fun hb => absurd hb hnb)))
      · refine br_f (by rw [z1]; decide) (pk_le j i (fun hle => nm_r (nI_1 x) (ih (x + 1) u' (by omega) (by omega) cs (fun _ hij => by omega))) (fun hij => lz_ask_w (u := u') (fun le mo hlm => ?_)))
        have ei : (nI i).toNatClampNeg = i := nI_clamp (by omega)
        have ej : (nI j).toNatClampNeg = j := nI_clamp (by omega)
        have hini : vp_in (nI i) 4 := vp_in_nI hi (by decide)
        have hinj : vp_in (nI j) 4 := vp_in_nI hj (by decide)
        refine And.intro hini (nm_r (e' := upd le i (nI x)) (congrArg (fun z => upd le z (nI x)) ei) (And.intro hini (nm_r (e' := upd mo i (nI x)) (congrArg (fun z => upd mo z (nI x)) ei) (And.intro hinj (nm_r (e' := upd (upd le i (nI x)) j (nI x)) (congrArg (fun z => upd (upd le i (nI x)) z (nI x)) ej) (And.intro hinj (nm_r (e' := upd (upd mo i (nI x)) j (nI x)) (congrArg (fun z => upd (upd mo i (nI x)) z (nI x)) ej) ?_)))))))
        have hb4 : lz_b4 (upd (upd le i (nI x)) j (nI x)) (upd (upd mo i (nI x)) j (nI x)) (fun t => if t = i ∨ t = j then x else 0) (fun t => if t = i ∨ t = j then x else 3) := by
          intro t ht
          show upd (upd le i (nI x)) j (nI x) t = nI (if t = i ∨ t = j then x else 0) ∧ upd (upd mo i (nI x)) j (nI x) t = nI (if t = i ∨ t = j then x else 3) ∧ (if t = i ∨ t = j then x else 0) ≤ 4 ∧ (if t = i ∨ t = j then x else 3) ≤ 3
          by_cases e1 : t = j
          · rw [if_pos (Or.inr e1), if_pos (Or.inr e1), e1, pk_us, pk_us]; exact ⟨rfl, rfl, by omega, by omega⟩
          · rw [pk_un e1, pk_un e1]
            by_cases e2 : t = i
            · rw [if_pos (Or.inl e2), if_pos (Or.inl e2), e2, pk_us, pk_us]; exact ⟨rfl, rfl, by omega, by omega⟩
            · rw [pk_un e2, pk_un e2, if_neg (fun h => h.elim e2 e1), if_neg (fun h => h.elim e2 e1)]; exact ⟨(hlm t ht).1, (hlm t ht).2, by omega, by omega⟩
        have hbd : ∀ k, lz_bd4 (fun t => if t = i ∨ t = j then x else 0) (fun t => if t = i ∨ t = j then x else 3) k ↔ lz_dg k i = x ∧ lz_dg k j = x := by
          intro k
          constructor
          · intro g
            have g1 : (if i = i ∨ i = j then x else 0) ≤ lz_dg k i ∧ lz_dg k i ≤ (if i = i ∨ i = j then x else 3) := g i hi
            have g2 : (if j = i ∨ j = j then x else 0) ≤ lz_dg k j ∧ lz_dg k j ≤ (if j = i ∨ j = j then x else 3) := g j hj
            rw [if_pos (Or.inl rfl), if_pos (Or.inl rfl)] at g1
            rw [if_pos (Or.inr rfl), if_pos (Or.inr rfl)] at g2
            omega
          · intro g t ht
            show (if t = i ∨ t = j then x else 0) ≤ lz_dg k t ∧ lz_dg k t ≤ (if t = i ∨ t = j then x else 3)
            have := lz_dg_lt k t
            by_cases e : t = i ∨ t = j
            · rw [if_pos e, if_pos e]
              rcases e with e | e
              · rw [e, g.1]; omega
              · rw [e, g.2]; omega
            · rw [if_neg e, if_neg e]; omega
        generalize upd (upd le i (nI x)) j (nI x) = le' at hb4 ⊢
        generalize upd (upd mo i (nI x)) j (nI x) = mo' at hb4 ⊢
        refine lz_qs (u := u') (x := X) (le := le') (mo := mo') (lz_ok_cs cs ok) hm hX hb4 (fun u2 cs2 hn => br_t rfl (nm_r (nI_1 x) (ih (x + 1) u2 (by omega) (by omega) (cs2.trans cs) (fun _ _ k hk ha hlt => ?_)))) (fun u2 n2 cs2 hn2 hb2 ha2 _ _ _ => br_f (by decide) (K0 u2 (cs2.trans cs) ⟨hb, hij, n2, hn2, ?_, ?_⟩))
        · by_cases e : lz_dg k i = x
          · intro e2
            refine hn k hk ((hbd k).mpr ⟨e, by rw [← e2]; exact e⟩) ?_
            rw [lz_all_cs cs]
            exact ha
          · exact h3 hb hij k hk ha (by omega)
        · rw [lz_all_cs cs] at ha2
          exact ha2
        · have := (hbd n2).mp hb2
          rw [this.1, this.2]
theorem lz_df2 (ok : lz_ok u) (hm : m ≤ 10) (hc : c < 11) (hX : ∀ b, bt X b = true → b < m) (k0 : ¬ lq_kind u c = 0) (k1 : lq_kind u c = 1)
    (K1 : ∀ u', lq_cs u' = lq_cs u → lz_fol u X m c → post 1 u') (K0 : ∀ u', lq_cs u' = lq_cs u → ¬ lz_fol u X m c → post 0 u') :
    ∀ n p u', p ≤ 16 → 16 < n + p → lq_cs u' = lq_cs u → (∀ i j, i < j → j < 4 → 4 * i + j < p → bt (lq_members u c) i = true → bt (lq_members u c) j = true → ∀ k, k < 256 → lz_all u X m k → lz_dg k i ≠ lz_dg k j) → lq_U (wX_differFollows_2 post (nI c) X n (nI p)) u' := by
  intro n
  induction n with
  | zero => intro p u' h1 h2; omega
  | succ n ih =>
    intro p u' h1 h2 cs h3
    refine pk_le 16 p (fun h => ?_) (fun h => ?_)
    · exact K1 u' cs (fun k hk ha => ⟨fun h0 => absurd h0 k0, fun _ _ i j hij hj bi bj => h3 i j hij hj (by omega) bi bj k hk ha, fun _ h1 => absurd k1 h1⟩)
    · have e1 : (nI c).toNatClampNeg = c := nI_clamp (by omega)
      have hin : vp_in (nI c) 11 := vp_in_nI hc (by decide)
      have ex : nI p >>> ((2 : Int32) &&& 31) = nI (p / 4) := pk_shrN (by omega) _ 2 (by decide)
      have ey : nI p &&& 3 = nI (p % 4) := pk_andN (by omega) 2 (by decide)
      have eM : lq_members u' (nI c).toNatClampNeg = lq_members u c := by rw [e1, lq_cs_members cs]
      have step : ∀ z : Int32, ((z = 0 ∧ ¬ (bt (lq_members u c) (p / 4) = true ∧ bt (lq_members u c) (p % 4) = true)) ∨ (z = 1 ∧ (bt (lq_members u c) (p / 4) = true ∧ bt (lq_members u c) (p % 4) = true))) →
          ∃ n58 : Nat, lq_U (wX_differFollows_58 post (wX_differFollows_2 post (nI c) X n) (nI c) X (nI p) (nI (p / 4)) (nI (p % 4)) z n58 0) u' := by
        intro z hz
        refine lz_ex (fun n58 => lq_U (wX_differFollows_58 post (wX_differFollows_2 post (nI c) X n) (nI c) X (nI p) (nI (p / 4)) (nI (p % 4)) z n58 (nI 0)) u') 5 (lz_df58 (u := u) ok hm hX (by omega) (by omega) hz (fun u2 cs2 hK => ih (p + 1) u2 (by omega) (by omega) cs2 (fun i j hij hj hp bi bj => ?_)) (fun u2 cs2 hK => K0 u2 cs2 (fun hf => ?_)) 5 0 u' (by omega) (by omega) cs (fun _ _ k _ _ hlt => absurd hlt (Nat.not_lt_zero _)))
        · by_cases e : 4 * i + j = p
          · have ei : p / 4 = i := by omega
            have ej : p % 4 = j := by omega
            rw [ei, ej] at hK
            exact hK ⟨bi, bj⟩ hij
          · exact h3 i j hij hj (by omega) bi bj
        · obtain ⟨⟨b1, b2⟩, hij, k, hk, ha, he⟩ := hK
          exact (hf k hk ha).2.1 k0 k1 (p / 4) (p % 4) hij (by omega) b1 b2 he
      refine nm_r ex (nm_r ey (And.intro hin (lz_brb (p / 4) rfl (by omega) (fun b1 => And.intro hin (lz_brb (p % 4) rfl (by omega) (fun b2 => ?_) (fun b2 => ?_))) (fun b1 => ?_))))
      · have b1' : bt (lq_members u' (nI c).toNatClampNeg) (p / 4) = true := b1
        have b2' : bt (lq_members u' (nI c).toNatClampNeg) (p % 4) = true := b2
        rw [eM] at b1' b2'
        exact step 1 (Or.inr ⟨rfl, b1', b2'⟩)
      · have b2' : bt (lq_members u' (nI c).toNatClampNeg) (p % 4) = false := b2
        rw [eM] at b2'
        exact step 0 (Or.inl ⟨rfl, fun h => lz_ff.mp b2' h.2⟩)
      · have b1' : bt (lq_members u' (nI c).toNatClampNeg) (p / 4) = false := b1
        rw [eM] at b1'
        exact step 0 (Or.inl ⟨rfl, fun h => lz_ff.mp b1' h.1⟩)
end
/-! a clause -/
def lz_lmM (a p : Nat) (mo : Nat → Int32) : Prop := ∀ j, j < 4 → mo j = nI (if a < p ∧ j = a / 3 then a % 3 else 3)
def lz_lmL (a p : Nat) (le : Nat → Int32) : Prop := ∀ j, j < 4 → le j = nI (if a < p ∧ j = a / 3 then a % 3 + 1 else 0)
theorem lz_lmM_n {a p : Nat} {mo : Nat → Int32} (h : lz_lmM a p mo) (hn : a ≠ p) : lz_lmM a (p + 1) mo := by
  intro j hj
  rw [h j hj]
  refine congrArg nI ?_
  by_cases e : a < p ∧ j = a / 3
  · rw [if_pos e, if_pos ⟨by omega, e.2⟩]
  · rw [if_neg e, if_neg (fun g => e ⟨by omega, g.2⟩)]
theorem lz_lmL_n {a p : Nat} {le : Nat → Int32} (h : lz_lmL a p le) (hn : a ≠ p) : lz_lmL a (p + 1) le := by
  intro j hj
  rw [h j hj]
  refine congrArg nI ?_
  by_cases e : a < p ∧ j = a / 3
  · rw [if_pos e, if_pos ⟨by omega, e.2⟩]
  · rw [if_neg e, if_neg (fun g => e ⟨by omega, g.2⟩)]
theorem lz_lmM_y {p i w : Nat} {mo : Nat → Int32} (h : lz_lmM p p mo) (hi : i = p / 3) (hw : w = p % 3) : lz_lmM p (p + 1) (upd mo i (nI w)) := by
  intro j hj
  by_cases e : j = i
  · rw [e, pk_us, if_pos ⟨by omega, hi⟩, hw]
  · rw [pk_un e, h j hj, if_neg (fun g => Nat.lt_irrefl p g.1), if_neg (fun g => e (g.2.trans hi.symm))]
theorem lz_lmL_y {p i w : Nat} {le : Nat → Int32} (h : lz_lmL p p le) (hi : i = p / 3) (hw : w = p % 3 + 1) : lz_lmL p (p + 1) (upd le i (nI w)) := by
  intro j hj
  by_cases e : j = i
  · rw [e, pk_us, if_pos ⟨by omega, hi⟩, hw]
  · rw [pk_un e, h j hj, if_neg (fun g => Nat.lt_irrefl p g.1), if_neg (fun g => e (g.2.trans hi.symm))]
section
variable {u : SX} {m c : Nat} {X : Int32} {post : Int32 → SX → Prop} {a1 a2 : Nat}
theorem lz_f153 {i v : Nat} (hi : i < 4) (h1 : 1 ≤ v) (h3 : v ≤ 3) (h2 : a2 < 12) {J100 J109 : lq_JA} {le mo : Nat → Int32}
    (hL : lz_lmL a2 (3 * i + v - 1) le) (K : ∀ le', lz_lmL a2 (3 * i + v) le' → lq_UJ J109 u (nI (v + 1)) le' mo) :
    lq_UL (wX_follows_153 post J100 J109 (nI a1) (nI a2) (nI i) (nI v)) u X le mo := by
  have ei : (nI i).toNatClampNeg = i := nI_clamp (by omega)
  have ep : 3 * i + v - 1 + 1 = 3 * i + v := by omega
  refine pk_eq a2 (3 * i + v - 1) (fun e => ?_) (fun e => ?_) rfl (lz_ix1 h1)
  · refine And.intro (vp_in_nI hi (by decide)) (nm_r (e' := upd le i (nI v)) (congrArg (fun z => upd le z (nI v)) ei) (nm_r (nI_1 v) (K _ ?_)))
    rw [← e] at hL
    have := lz_lmL_y (i := i) (w := v) hL (by omega) (by omega)
    rw [e, ep] at this
    rw [e]
    exact this
  · refine nm_r (nI_1 v) (K le ?_)
    have := lz_lmL_n hL e
    rw [ep] at this
    exact this
theorem lz_f109 {i : Nat} (hi : i < 4) (h1 : a1 < 12) (h2 : a2 < 12) {J : lq_JA}
    (K : ∀ le mo, lz_lmL a2 (3 * (i + 1)) le → lz_lmM a1 (3 * (i + 1)) mo → lq_UJ J u (nI (i + 1)) le mo) :
    ∀ n v le mo, 1 ≤ v → v ≤ 4 → 4 < n + v → lz_lmL a2 (3 * i + v - 1) le → lz_lmM a1 (3 * i + v - 1) mo → lq_UK (wX_follows_109 post J (nI a1) (nI a2) (nI i)) u X n (nI v) le mo := by
  intro n
  induction n with
  | zero => intro v le mo g1 g2 g3; omega
  | succ n ih =>
    intro v le mo g1 g2 g3 hL hM
    refine pk_lt 3 v (fun h => ?_) (fun h => ?_)
    · have e : v = 4 := by omega
      subst e
      have e3 : 3 * i + 4 - 1 = 3 * (i + 1) := by omega
      rw [e3] at hL hM
      exact nm_r (nI_1 i) (K le mo hL hM)
    · have ei : (nI i).toNatClampNeg = i := nI_clamp (by omega)
      have hin : vp_in (nI i) 4 := vp_in_nI hi (by decide)
      have ep : 3 * i + v - 1 + 1 = 3 * i + v := by omega
      have ep2 : 3 * i + (v + 1) - 1 = 3 * i + v := by omega
      have nx : ∀ mo', lz_lmM a1 (3 * i + v) mo' → lq_UL (wX_follows_153 post J (lq_UG (wX_follows_109 post J (nI a1) (nI a2) (nI i)) u X n) (nI a1) (nI a2) (nI i) (nI v)) u X le mo' :=
        fun mo' hM' => lz_f153 hi g1 h h2 hL (fun le' hL' => ih (v + 1) le' mo' (by omega) (by omega) (by omega) (by rw [ep2]; exact hL') (by rw [ep2]; exact hM'))
      refine pk_eq a1 (3 * i + v - 1) (fun e => ?_) (fun e => ?_) rfl (lz_ix1 g1)
      · have hm3 : mo i = nI 3 := by
          rw [hM i hi, if_neg (fun g => by omega)]
        have hm3' : mo (nI i).toNatClampNeg = nI 3 := by rw [ei]; exact hm3
        have hM2 : lz_lmM a1 (3 * i + v) (upd mo i (nI (v - 1))) := by
          rw [← e] at hM
          have := lz_lmM_y (i := i) (w := v - 1) hM (by omega) (by omega)
          rw [e, ep] at this
          rw [e]
          exact this
        have eu : upd mo (nI i).toNatClampNeg (nI v - 1) = upd mo i (nI (v - 1)) := by rw [ei, lz_dn1 (by omega)]
        refine And.intro hin (pk_le 3 (v - 1) (fun hle => absurd hle (by omega)) (fun _ => And.intro hin (nm_r eu ?_)) hm3' (lz_dn1 (by omega)))
        exact nx _ hM2
      · refine nx mo ?_
        have := lz_lmM_n hM e
        rw [ep] at this
        exact this
theorem lz_f100 (ok : lz_ok u) (hm : m ≤ 10) (hX : ∀ b, bt X b = true → b < m) (h1 : a1 < 12) (h2 : a2 < 12) (hs : ∀ k, lz_sat u c (lz_dg k) ↔ lz_tv (lz_dg k) a1 ∨ ¬ lz_tv (lz_dg k) a2)
    (K1 : ∀ u', lq_cs u' = lq_cs u → lz_fol u X m c → post 1 u') (K0 : ∀ u', lq_cs u' = lq_cs u → ¬ lz_fol u X m c → post 0 u') :
    ∀ n i le mo, i ≤ 4 → 4 < n + i → lz_lmL a2 (3 * i) le → lz_lmM a1 (3 * i) mo → lq_UK (wX_follows_100 post (nI a1) (nI a2)) u X n (nI i) le mo := by
  intro n
  induction n with
  | zero => intro i le mo g1 g2; omega
  | succ n ih =>
    intro i le mo g1 g2 hL hM
    refine pk_le 4 i (fun h => ?_) (fun h => ?_)
    · have e : i = 4 := by omega
      subst e
      have hb4 : lz_b4 le mo (fun j => if a2 < 3 * 4 ∧ j = a2 / 3 then a2 % 3 + 1 else 0) (fun j => if a1 < 3 * 4 ∧ j = a1 / 3 then a1 % 3 else 3) := by
        intro j hj
        refine ⟨hL j hj, hM j hj, ?_, ?_⟩
        · show (if a2 < 3 * 4 ∧ j = a2 / 3 then a2 % 3 + 1 else 0) ≤ 4
          split <;> omega
        · show (if a1 < 3 * 4 ∧ j = a1 / 3 then a1 % 3 else 3) ≤ 3
          split <;> omega
      have hbd : ∀ k, lz_bd4 (fun j => if a2 < 3 * 4 ∧ j = a2 / 3 then a2 % 3 + 1 else 0) (fun j => if a1 < 3 * 4 ∧ j = a1 / 3 then a1 % 3 else 3) k ↔ ¬ lz_sat u c (lz_dg k) := by
        intro k
        rw [hs k]
        unfold lz_tv
        constructor
        · intro g
          have g1 : (if a2 < 3 * 4 ∧ a1 / 3 = a2 / 3 then a2 % 3 + 1 else 0) ≤ lz_dg k (a1 / 3) ∧ lz_dg k (a1 / 3) ≤ (if a1 < 3 * 4 ∧ a1 / 3 = a1 / 3 then a1 % 3 else 3) := g (a1 / 3) (by omega)
          have g2 : (if a2 < 3 * 4 ∧ a2 / 3 = a2 / 3 then a2 % 3 + 1 else 0) ≤ lz_dg k (a2 / 3) ∧ lz_dg k (a2 / 3) ≤ (if a1 < 3 * 4 ∧ a2 / 3 = a1 / 3 then a1 % 3 else 3) := g (a2 / 3) (by omega)
          have q1 := g1.2
          have q2 := g2.1
          rw [if_pos ⟨by omega, rfl⟩] at q1 q2
          omega
        · intro g j hj
          show (if a2 < 3 * 4 ∧ j = a2 / 3 then a2 % 3 + 1 else 0) ≤ lz_dg k j ∧ lz_dg k j ≤ (if a1 < 3 * 4 ∧ j = a1 / 3 then a1 % 3 else 3)
          have hd := lz_dg_lt k j
          constructor
          · by_cases e : a2 < 3 * 4 ∧ j = a2 / 3
            · rw [if_pos e, e.2]; omega
            · rw [if_neg e]; omega
          · by_cases e : a1 < 3 * 4 ∧ j = a1 / 3
            · rw [if_pos e, e.2]; omega
            · rw [if_neg e]; omega
      refine lz_qs (u := u) (x := X) (le := le) (mo := mo) ok hm hX hb4 (fun u' cs hn => br_t rfl (K1 u' cs (fun k hk ha => ?_))) (fun u' n2 cs hn2 hb2 ha2 _ _ _ => br_f (by decide) (K0 u' cs (fun hf => ?_)))
      · refine Classical.byContradiction fun hns => hn k hk ((hbd k).mpr hns) ha
      · exact (hbd n2).mp hb2 (hf n2 hn2 ha2)
    · refine lz_ex (fun n2 => lq_UK (wX_follows_109 post (lq_UG (wX_follows_100 post (nI a1) (nI a2)) u X n) (nI a1) (nI a2) (nI i)) u X n2 (nI 1) le mo) 4 (lz_f109 (u := u) h h1 h2 (fun le' mo' hL' hM' => ih (i + 1) le' mo' (by omega) (by omega) hL' hM') 4 1 le mo (by omega) (by omega) (by omega) hL hM)
end
theorem i_vc_follows {k : Nat} {u : SX} {v : SY} (I : i_Rel k u v) (hk : k + 5 ≤ 2560) (v1 : Int32) : wpX_follows (fun r u' => wpY_follows (fun r' => r' = r ∧ i_Rel (k + 5) u' v) v v1) u v1 := by
  have I' := I
  obtain ⟨m, hm, r1, r2, r3, r4, r5, r6, r7, r8⟩ := I
  have cnt : ly_count v = lq_made u := r2.trans r1.symm
  have eF : ly_inForce v = lq_inForce u := r3
  refine br_c (fun h0 => br_t h0 (And.intro rfl I')) (fun h0 => br_c (fun h1 => ?_) (fun h1 => br_f h0 (br_f (by show ¬ v1 < ly_count v; rw [cnt]; exact h1) (And.intro rfl I'))))
  obtain ⟨c, hc, rfl⟩ := nI_of h0
  have h1' : nI c < nI m := by rw [← r1]; exact h1
  rw [nI_ltI hc (by omega)] at h1'
  have hy : nI c < ly_count v := by rw [cnt]; exact h1
  have hX : ∀ b, bt (lq_inForce u &&& (lz_b c ^^^ (-1))) b = true → b < m := fun b h => r4 b ((lz_anb _ (by omega) b).mp h).1
  have eX : ly_inForce v &&& (lz_b c ^^^ (-1)) = lq_inForce u &&& (lz_b c ^^^ (-1)) := by rw [eF]
  refine nm_e ?_
  generalize hXe : lq_inForce u &&& (lz_b c ^^^ (-1)) = X at hX eX
  have hXe' : ∀ (Q : Int32 → Prop), Q X → Q (lq_inForce u &&& (lz_b c ^^^ (-1))) := fun Q h => by rw [hXe]; exact h
  have ec : (nI c).toNatClampNeg = c := nI_clamp (by omega)
  have hin : vp_in (nI c) 11 := vp_in_nI (by omega) (by decide)
  have ek : lq_kind u (nI c).toNatClampNeg = lq_kind u c := by rw [ec]
  have Y1 : ∀ u', lz_e10 u u' → lz_fol u X m c → wpY_follows (fun r' => r' = 1 ∧ i_Rel (k + 5) u' v) v (nI c) := by
    intro u' E hf
    refine br_f h0 (br_t hy (nm_r eX (lz_ex (fun n => ly_U (wY_follows_27 _ (nI c) X) v n (nI 0)) 257 (ly_fl (u := u) r7 hm r2 r8 h1' (fun _ => And.intro rfl (lz_e10_R E I')) (fun h => absurd hf h) 257 0 (by omega) (by omega) (fun k hk => absurd hk (Nat.not_lt_zero k))))))
  have Y0 : ∀ u', lz_e10 u u' → ¬ lz_fol u X m c → wpY_follows (fun r' => r' = 0 ∧ i_Rel (k + 5) u' v) v (nI c) := by
    intro u' E hf
    refine br_f h0 (br_t hy (nm_r eX (lz_ex (fun n => ly_U (wY_follows_27 _ (nI c) X) v n (nI 0)) 257 (ly_fl (u := u) r7 hm r2 r8 h1' (fun h => absurd h hf) (fun _ => And.intro rfl (lz_e10_R E I')) 257 0 (by omega) (by omega) (fun k hk => absurd hk (Nat.not_lt_zero k))))))
  refine And.intro hin (br_c (fun q0 => ?_) (fun q0 => And.intro hin (br_c (fun q1 => ?_) (fun q1 => And.intro hin (br_c (fun q2 => ?_) (fun q2 => ?_))))))
  · have q0' : lq_kind u c = 0 := ek.symm.trans q0
    refine hXe' (fun z => wpX_linearFollows _ u (nI c) z) ?_
    have hbd := r7.2.1 c (by omega)
    have hb0 : (upd (lq_bound u) 10 ((-(lq_bound u (nI c).toNatClampNeg)) - 1) 10).toInt = - lz_bd u c - 1 := by
      have hn := lz_negI (x := lq_bound u c) (by omega) (by omega)
      rw [pk_us, ec, lz_subI (by omega) (by omega) (by decide) (by decide), hn]
      rfl
    have hbn : ∀ c', c' ≠ 10 → upd (lq_bound u) 10 ((-(lq_bound u (nI c).toNatClampNeg)) - 1) c' = lq_bound u c' := fun c' hc' => pk_un hc'
    have hkd : ∀ c', c' ≠ 10 → upd (lq_kind u) 10 0 c' = lq_kind u c' := fun c' hc' => pk_un hc'
    have hkd0 : upd (lq_kind u) 10 0 10 = 0 := pk_us
    refine nm_e (And.intro hin (nm_e ?_))
    exact lz_ex (fun n => lq_UC (wX_linearFollows_26 _ (nI c) X) u (upd (lq_kind u) 10 0) (upd (lq_bound u) 10 ((-(lq_bound u (nI c).toNatClampNeg)) - 1)) n (nI 0) (lq_coef u)) 5 (lz_lf26 (u := u) (m := m) r7 hm (by omega) hX q0' hkd hkd0 hbn hb0 (fun u' E hf => And.intro narrow_b1 (Y1 u' E hf)) (fun u' E hf => And.intro narrow_b0 (Y0 u' E hf)) 5 0 (lq_coef u) (by omega) (by omega) (fun i' hi' => absurd hi' (Nat.not_lt_zero i')) (fun _ _ => rfl) r7.1)
  · have q0' : ¬ lq_kind u c = 0 := fun h => q0 (ek.trans h)
    have q1' : lq_kind u c = 1 := ek.symm.trans q1
    refine hXe' (fun z => wpX_differFollows _ u (nI c) z) ?_
    exact lz_ex (fun n => lq_U (wX_differFollows_2 _ (nI c) X n (nI 0)) u) 17 (lz_df2 (u := u) (m := m) r7 hm (by omega) hX q0' q1' (fun u' cs hf => And.intro narrow_b1 (Y1 u' (lz_e10_cs r7 cs) hf)) (fun u' cs hf => And.intro narrow_b0 (Y0 u' (lz_e10_cs r7 cs) hf)) 17 0 u (by omega) (by omega) rfl (fun i j _ _ hp => absurd hp (Nat.not_lt_zero _)))
  · have q0' : ¬ lq_kind u c = 0 := fun h => q0 (ek.trans h)
    have q1' : ¬ lq_kind u c = 1 := fun h => q1 (ek.trans h)
    have ea : lq_always u (nI c).toNatClampNeg = lq_always u c := by rw [ec]
    have q2' : lq_always u c = 0 := ea.symm.trans q2
    obtain ⟨⟨a1, ha1, ey⟩, ⟨a2, ha2, en⟩⟩ := r7.2.2 c (by omega) q0' q1' q2'
    have ey' : lq_eitherYes u (nI c).toNatClampNeg = lz_b a1 := by rw [ec]; exact ey
    have en' : lq_eitherNo u (nI c).toNatClampNeg = lz_b a2 := by rw [ec]; exact en
    have hs : ∀ k, lz_sat u c (lz_dg k) ↔ lz_tv (lz_dg k) a1 ∨ ¬ lz_tv (lz_dg k) a2 := by
      intro k
      constructor
      · intro h
        rcases h.2.2 q0' q1' q2' with ⟨a, ha, ht⟩ | ⟨a, ha, ht⟩
        · rw [ey, lz_bi (by omega)] at ha
          subst ha
          exact Or.inl ht
        · rw [en, lz_bi (by omega)] at ha
          subst ha
          exact Or.inr ht
      · intro h
        refine ⟨fun h => absurd h q0', fun _ h => absurd h q1', fun _ _ _ => ?_⟩
        rcases h with h | h
        · exact Or.inl ⟨a1, by rw [ey, lz_bi (by omega)], h⟩
        · exact Or.inr ⟨a2, by rw [en, lz_bi (by omega)], h⟩
    refine hXe' (fun z => wpX_ask _ u z) ?_
    refine lz_ask_w (u := u) (fun le mo hlm => ?_)
    refine And.intro hin (lz_lone1 (u := lz_setAsk u X le mo) ey' ha1 (And.intro hin (lz_lone1 (u := lz_setAsk u X le mo) en' ha2 ?_)))
    exact lz_ex (fun n => lq_UK (wX_follows_100 _ (nI a1) (nI a2)) u X n (nI 0) le mo) 5 (lz_f100 (u := u) (m := m) (c := c) r7 hm hX ha1 ha2 hs (fun u' cs hf => Y1 u' (lz_e10_cs r7 cs) hf) (fun u' cs hf => Y0 u' (lz_e10_cs r7 cs) hf) 5 0 le mo (by omega) (by omega) (fun j hj => by rw [if_neg (fun g => Nat.not_lt_zero _ g.1)]; exact (hlm j hj).1) (fun j hj => by rw [if_neg (fun g => Nat.not_lt_zero _ g.1)]; exact (hlm j hj).2))
  · have q0' : ¬ lq_kind u c = 0 := fun h => q0 (ek.trans h)
    have q1' : ¬ lq_kind u c = 1 := fun h => q1 (ek.trans h)
    have ea : lq_always u (nI c).toNatClampNeg = lq_always u c := by rw [ec]
    exact Y1 u (lz_e10_rf r7) (fun k _ _ => ⟨fun h => absurd h q0', fun _ h => absurd h q1', fun _ _ h => absurd (ea.trans h) q2⟩)
end
