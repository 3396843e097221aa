section
theorem pk_us {f : Nat → Int32} {k : Nat} {x : Int32} : upd f k x k = x := if_pos rfl
theorem pk_un {f : Nat → Int32} {k j : Nat} {x : Int32} (h : j ≠ k) : upd f k x j = f j := if_neg h
theorem pk_sub {a b : Nat} (h : b ≤ a) : nI a - nI b = nI (a - b) := by
  obtain ⟨c, rfl⟩ : ∃ c, a = c + b := ⟨a - b, by omega⟩
  rw [← nI_add, Int32.add_sub_cancel, Nat.add_sub_cancel]
theorem pk_m1 (n : Nat) : nI (n + 1) + (-1) = nI n := by
  rw [← nI_1, Int32.add_assoc, show (1 : Int32) + (-1) = 0 from rfl, Int32.add_zero]
theorem pk_mul (a b : Nat) : nI a * nI b = nI (a * b) := (Int32.ofNat_mul a b).symm
theorem pk_div {a d : Nat} (ha : a < 2 ^ 31) (h0 : 0 < d) (hd : d < 2 ^ 31) : nI a / nI d = nI (a / d) := by
  apply Int32.toInt_inj.mp
  rw [lg_idiv_nonneg (by rw [nI_toInt ha]; omega) (by rw [nI_toInt hd]; omega), nI_toInt ha, nI_toInt hd, nI_toInt (Nat.lt_of_le_of_lt (Nat.div_le_self a d) ha)]
  first | rfl | exact (Int.natCast_ediv _ _).symm
theorem pk_sub_toInt {a b : Nat} (ha : a < 2 ^ 30) (hb : b < 2 ^ 30) : (nI a - nI b).toInt = (a : Int) - b := by
  rw [Int32.toInt_sub, nI_toInt (by omega), nI_toInt (by omega)]
  exact Int.bmod_eq_of_le (by omega) (by omega)
theorem pk_sneg {a b : Nat} (hb : b < 2 ^ 30) (h : a < b) : nI a - nI b < 0 := by
  rw [Int32.lt_iff_toInt_lt, pk_sub_toInt (by omega) hb, show (0 : Int32).toInt = 0 from by decide]
  omega
theorem pk_ix (x : Int32) {n : Nat} (hn : n < 2 ^ 31) : x < 0 ∨ nI n ≤ x ∨ ∃ j : Nat, j < n ∧ x = nI j := by
  by_cases h : x < 0
  · exact Or.inl h
  · obtain ⟨j, hj, rfl⟩ := nI_of h
    by_cases h2 : j < n
    · exact Or.inr (Or.inr ⟨j, h2, rfl⟩)
    · exact Or.inr (Or.inl (nI_le (by omega) hj))
theorem pk_le {x y : Int32} {A B : Prop} (a b : Nat) (f : a ≤ b → A) (g : b < a → B) (hx : x = nI a := by rfl) (hy : y = nI b := by rfl) (ha : a < 2 ^ 31 := by omega) (hb : b < 2 ^ 31 := by omega) : (x ≤ y → A) ∧ (¬ x ≤ y → B) := by
  subst hx hy
  rw [nI_leI ha hb]
  exact ⟨f, fun z => g (by omega)⟩
theorem pk_lt {x y : Int32} {A B : Prop} (a b : Nat) (f : a < b → A) (g : b ≤ a → B) (hx : x = nI a := by rfl) (hy : y = nI b := by rfl) (ha : a < 2 ^ 31 := by omega) (hb : b < 2 ^ 31 := by omega) : (x < y → A) ∧ (¬ x < y → B) := by
  subst hx hy
  rw [nI_ltI ha hb]
  exact ⟨f, fun z => g (by omega)⟩
theorem pk_eq {x y : Int32} {A B : Prop} (a b : Nat) (f : a = b → A) (g : a ≠ b → B) (hx : x = nI a := by rfl) (hy : y = nI b := by rfl) (ha : a < 2 ^ 31 := by omega) (hb : b < 2 ^ 31 := by omega) : (x = y → A) ∧ (¬ x = y → B) := by
  subst hx hy
  rw [nI_eq ha hb]
  exact ⟨f, g⟩
theorem pk_in {x : Int32} (n N : Nat) (h : n < N) (hx : x = nI n := by rfl) (hN : N < 2 ^ 31 := by omega) : vp_in x N := by
  subst hx
  exact vp_in_nI h hN
theorem pk_cl {x : Int32} (n : Nat) (hx : x = nI n := by rfl) (h : n < 2 ^ 31 := by omega) : x.toNatClampNeg = n := by
  subst hx
  exact nI_clamp h
theorem pk_tn {n : Nat} (h : n < 2 ^ 32) : (nI n).toBitVec.toNat = n := Nat.mod_eq_of_lt h
theorem pk_and (x : Int32) {m : Int32} (k : Nat) (hm : m.toBitVec.toNat = 2 ^ k - 1) : x &&& m = nI (x.toBitVec.toNat % 2 ^ k) := by
  apply Int32.toBitVec_inj.mp
  apply BitVec.eq_of_toNat_eq
  rw [Int32.toBitVec_and, BitVec.toNat_and, hm, Nat.and_two_pow_sub_one_eq_mod]
  show _ = (BitVec.ofNat 32 _).toNat
  rw [BitVec.toNat_ofNat]
  exact (Nat.mod_eq_of_lt (Nat.lt_of_le_of_lt (Nat.mod_le _ _) x.toBitVec.isLt)).symm
theorem pk_andN {n : Nat} (h : n < 2 ^ 32) {m : Int32} (k : Nat) (hm : m.toBitVec.toNat = 2 ^ k - 1) : nI n &&& m = nI (n % 2 ^ k) := by
  rw [pk_and _ k hm, pk_tn h]
theorem pk_andE (x : Int32) {m : Int32} (k : Nat) (hm : m.toBitVec.toNat = 2 ^ k - 1) : ∃ j : Nat, j < 2 ^ k ∧ x &&& m = nI j := ⟨_, Nat.mod_lt _ (Nat.two_pow_pos k), pk_and x k hm⟩
theorem pk_andIn (x : Int32) {m : Int32} (k : Nat) (hm : m.toBitVec.toNat = 2 ^ k - 1) (hk : k ≤ 30) : vp_in (x &&& m) (2 ^ k) := by
  obtain ⟨j, hj, e⟩ := pk_andE x k hm
  rw [e]
  exact vp_in_nI hj (Nat.lt_of_le_of_lt (Nat.pow_le_pow_right (by decide) hk) (by decide))
theorem nu_uu {f : Nat → Int32} {k : Nat} {x y : Int32} : upd (upd f k x) k y = upd f k y := by
  funext j
  by_cases h : j = k
  · rw [h, pk_us, pk_us]
  · rw [pk_un h, pk_un h, pk_un h]
theorem nu_self {f : Nat → Int32} {k : Nat} {x : Int32} (h : f k = x) : upd f k x = f := by
  funext j
  by_cases e : j = k
  · rw [e, pk_us, h]
  · rw [pk_un e]
theorem nu_vp {n N : Nat} (h : n < N) (hN : N < 2 ^ 31) : vp_in (nI n) N = True := eq_true (vp_in_nI h hN)
theorem nu_imp_t {p q : Prop} (h : p) : (p → q) = q := propext ⟨fun f => f h, fun q _ => q⟩
theorem nu_m6 (a : Nat) : nI a * 6 = nI (a * 6) := pk_mul a 6
theorem nu_m10 (a : Nat) : nI a * 10 = nI (a * 10) := pk_mul a 10
theorem nu_m16 (a : Nat) : nI a * 16 = nI (a * 16) := pk_mul a 16
theorem nu_m32 (a : Nat) : nI a * 32 = nI (a * 32) := pk_mul a 32
theorem nu_m48 (a : Nat) : nI a * 48 = nI (a * 48) := pk_mul a 48
theorem nu_a0 (a : Nat) : nI a + 0 = nI (a + 0) := nI_add a 0
theorem nu_a1 (a : Nat) : nI a + 1 = nI (a + 1) := nI_add a 1
theorem nu_a2 (a : Nat) : nI a + 2 = nI (a + 2) := nI_add a 2
theorem nu_a3 (a : Nat) : nI a + 3 = nI (a + 3) := nI_add a 3
theorem nu_a4 (a : Nat) : nI a + 4 = nI (a + 4) := nI_add a 4
theorem nu_a5 (a : Nat) : nI a + 5 = nI (a + 5) := nI_add a 5
theorem nu_a6 (a : Nat) : nI a + 6 = nI (a + 6) := nI_add a 6
theorem nu_a7 (a : Nat) : nI a + 7 = nI (a + 7) := nI_add a 7
theorem nu_a8 (a : Nat) : nI a + 8 = nI (a + 8) := nI_add a 8
theorem nu_a9 (a : Nat) : nI a + 9 = nI (a + 9) := nI_add a 9
theorem nu_s1 {a : Nat} (h : 1 ≤ a) : nI a - 1 = nI (a - 1) := pk_sub (b := 1) h
theorem nu_s2 {a : Nat} (h : 2 ≤ a) : nI a - 2 = nI (a - 2) := pk_sub (b := 2) h
theorem nu_s3 {a : Nat} (h : 3 ≤ a) : nI a - 3 = nI (a - 3) := pk_sub (b := 3) h
theorem nu_s4 {a : Nat} (h : 4 ≤ a) : nI a - 4 = nI (a - 4) := pk_sub (b := 4) h
theorem nu_lt0 {a : Nat} (h : a < 2 ^ 31) : (nI a < 0) = (a < 0) := propext (nI_ltI (b := 0) h (by decide))
theorem nu_clt0 {a : Nat} (h : a < 2 ^ 31) : ((0 : Int32) < nI a) = (0 < a) := propext (nI_ltI (a := 0) (by decide) h)
theorem nu_le0 {a : Nat} (h : a < 2 ^ 31) : (nI a ≤ 0) = (a ≤ 0) := propext (nI_leI (b := 0) h (by decide))
theorem nu_cle0 {a : Nat} (h : a < 2 ^ 31) : ((0 : Int32) ≤ nI a) = (0 ≤ a) := propext (nI_leI (a := 0) (by decide) h)
theorem nu_eq0 {a : Nat} (h : a < 2 ^ 31) : (nI a = 0) = (a = 0) := propext (nI_eq (b := 0) h (by decide))
theorem nu_lt1 {a : Nat} (h : a < 2 ^ 31) : (nI a < 1) = (a < 1) := propext (nI_ltI (b := 1) h (by decide))
theorem nu_clt1 {a : Nat} (h : a < 2 ^ 31) : ((1 : Int32) < nI a) = (1 < a) := propext (nI_ltI (a := 1) (by decide) h)
theorem nu_le1 {a : Nat} (h : a < 2 ^ 31) : (nI a ≤ 1) = (a ≤ 1) := propext (nI_leI (b := 1) h (by decide))
theorem nu_cle1 {a : Nat} (h : a < 2 ^ 31) : ((1 : Int32) ≤ nI a) = (1 ≤ a) := propext (nI_leI (a := 1) (by decide) h)
theorem nu_eq1 {a : Nat} (h : a < 2 ^ 31) : (nI a = 1) = (a = 1) := propext (nI_eq (b := 1) h (by decide))
theorem nu_lt2 {a : Nat} (h : a < 2 ^ 31) : (nI a < 2) = (a < 2) := propext (nI_ltI (b := 2) h (by decide))
theorem nu_clt2 {a : Nat} (h : a < 2 ^ 31) : ((2 : Int32) < nI a) = (2 < a) := propext (nI_ltI (a := 2) (by decide) h)
theorem nu_le2 {a : Nat} (h : a < 2 ^ 31) : (nI a ≤ 2) = (a ≤ 2) := propext (nI_leI (b := 2) h (by decide))
theorem nu_cle2 {a : Nat} (h : a < 2 ^ 31) : ((2 : Int32) ≤ nI a) = (2 ≤ a) := propext (nI_leI (a := 2) (by decide) h)
theorem nu_eq2 {a : Nat} (h : a < 2 ^ 31) : (nI a = 2) = (a = 2) := propext (nI_eq (b := 2) h (by decide))
theorem nu_lt3 {a : Nat} (h : a < 2 ^ 31) : (nI a < 3) = (a < 3) := propext (nI_ltI (b := 3) h (by decide))
theorem nu_clt3 {a : Nat} (h : a < 2 ^ 31) : ((3 : Int32) < nI a) = (3 < a) := propext (nI_ltI (a := 3) (by decide) h)
theorem nu_le3 {a : Nat} (h : a < 2 ^ 31) : (nI a ≤ 3) = (a ≤ 3) := propext (nI_leI (b := 3) h (by decide))
theorem nu_cle3 {a : Nat} (h : a < 2 ^ 31) : ((3 : Int32) ≤ nI a) = (3 ≤ a) := propext (nI_leI (a := 3) (by decide) h)
theorem nu_eq3 {a : Nat} (h : a < 2 ^ 31) : (nI a = 3) = (a = 3) := propext (nI_eq (b := 3) h (by decide))
theorem nu_lt4 {a : Nat} (h : a < 2 ^ 31) : (nI a < 4) = (a < 4) := propext (nI_ltI (b := 4) h (by decide))
theorem nu_clt4 {a : Nat} (h : a < 2 ^ 31) : ((4 : Int32) < nI a) = (4 < a) := propext (nI_ltI (a := 4) (by decide) h)
theorem nu_le4 {a : Nat} (h : a < 2 ^ 31) : (nI a ≤ 4) = (a ≤ 4) := propext (nI_leI (b := 4) h (by decide))
theorem nu_cle4 {a : Nat} (h : a < 2 ^ 31) : ((4 : Int32) ≤ nI a) = (4 ≤ a) := propext (nI_leI (a := 4) (by decide) h)
theorem nu_eq4 {a : Nat} (h : a < 2 ^ 31) : (nI a = 4) = (a = 4) := propext (nI_eq (b := 4) h (by decide))
theorem nu_lt5 {a : Nat} (h : a < 2 ^ 31) : (nI a < 5) = (a < 5) := propext (nI_ltI (b := 5) h (by decide))
theorem nu_clt5 {a : Nat} (h : a < 2 ^ 31) : ((5 : Int32) < nI a) = (5 < a) := propext (nI_ltI (a := 5) (by decide) h)
theorem nu_le5 {a : Nat} (h : a < 2 ^ 31) : (nI a ≤ 5) = (a ≤ 5) := propext (nI_leI (b := 5) h (by decide))
theorem nu_cle5 {a : Nat} (h : a < 2 ^ 31) : ((5 : Int32) ≤ nI a) = (5 ≤ a) := propext (nI_leI (a := 5) (by decide) h)
theorem nu_eq5 {a : Nat} (h : a < 2 ^ 31) : (nI a = 5) = (a = 5) := propext (nI_eq (b := 5) h (by decide))
theorem nu_lt7 {a : Nat} (h : a < 2 ^ 31) : (nI a < 7) = (a < 7) := propext (nI_ltI (b := 7) h (by decide))
theorem nu_clt7 {a : Nat} (h : a < 2 ^ 31) : ((7 : Int32) < nI a) = (7 < a) := propext (nI_ltI (a := 7) (by decide) h)
theorem nu_le7 {a : Nat} (h : a < 2 ^ 31) : (nI a ≤ 7) = (a ≤ 7) := propext (nI_leI (b := 7) h (by decide))
theorem nu_cle7 {a : Nat} (h : a < 2 ^ 31) : ((7 : Int32) ≤ nI a) = (7 ≤ a) := propext (nI_leI (a := 7) (by decide) h)
theorem nu_eq7 {a : Nat} (h : a < 2 ^ 31) : (nI a = 7) = (a = 7) := propext (nI_eq (b := 7) h (by decide))
theorem nu_lt8 {a : Nat} (h : a < 2 ^ 31) : (nI a < 8) = (a < 8) := propext (nI_ltI (b := 8) h (by decide))
theorem nu_clt8 {a : Nat} (h : a < 2 ^ 31) : ((8 : Int32) < nI a) = (8 < a) := propext (nI_ltI (a := 8) (by decide) h)
theorem nu_le8 {a : Nat} (h : a < 2 ^ 31) : (nI a ≤ 8) = (a ≤ 8) := propext (nI_leI (b := 8) h (by decide))
theorem nu_cle8 {a : Nat} (h : a < 2 ^ 31) : ((8 : Int32) ≤ nI a) = (8 ≤ a) := propext (nI_leI (a := 8) (by decide) h)
theorem nu_eq8 {a : Nat} (h : a < 2 ^ 31) : (nI a = 8) = (a = 8) := propext (nI_eq (b := 8) h (by decide))
theorem nu_lt9 {a : Nat} (h : a < 2 ^ 31) : (nI a < 9) = (a < 9) := propext (nI_ltI (b := 9) h (by decide))
theorem nu_clt9 {a : Nat} (h : a < 2 ^ 31) : ((9 : Int32) < nI a) = (9 < a) := propext (nI_ltI (a := 9) (by decide) h)
theorem nu_le9 {a : Nat} (h : a < 2 ^ 31) : (nI a ≤ 9) = (a ≤ 9) := propext (nI_leI (b := 9) h (by decide))
theorem nu_cle9 {a : Nat} (h : a < 2 ^ 31) : ((9 : Int32) ≤ nI a) = (9 ≤ a) := propext (nI_leI (a := 9) (by decide) h)
theorem nu_eq9 {a : Nat} (h : a < 2 ^ 31) : (nI a = 9) = (a = 9) := propext (nI_eq (b := 9) h (by decide))
theorem nu_lt10 {a : Nat} (h : a < 2 ^ 31) : (nI a < 10) = (a < 10) := propext (nI_ltI (b := 10) h (by decide))
theorem nu_clt10 {a : Nat} (h : a < 2 ^ 31) : ((10 : Int32) < nI a) = (10 < a) := propext (nI_ltI (a := 10) (by decide) h)
theorem nu_le10 {a : Nat} (h : a < 2 ^ 31) : (nI a ≤ 10) = (a ≤ 10) := propext (nI_leI (b := 10) h (by decide))
theorem nu_cle10 {a : Nat} (h : a < 2 ^ 31) : ((10 : Int32) ≤ nI a) = (10 ≤ a) := propext (nI_leI (a := 10) (by decide) h)
theorem nu_eq10 {a : Nat} (h : a < 2 ^ 31) : (nI a = 10) = (a = 10) := propext (nI_eq (b := 10) h (by decide))
theorem nu_lt16 {a : Nat} (h : a < 2 ^ 31) : (nI a < 16) = (a < 16) := propext (nI_ltI (b := 16) h (by decide))
theorem nu_clt16 {a : Nat} (h : a < 2 ^ 31) : ((16 : Int32) < nI a) = (16 < a) := propext (nI_ltI (a := 16) (by decide) h)
theorem nu_le16 {a : Nat} (h : a < 2 ^ 31) : (nI a ≤ 16) = (a ≤ 16) := propext (nI_leI (b := 16) h (by decide))
theorem nu_cle16 {a : Nat} (h : a < 2 ^ 31) : ((16 : Int32) ≤ nI a) = (16 ≤ a) := propext (nI_leI (a := 16) (by decide) h)
theorem nu_eq16 {a : Nat} (h : a < 2 ^ 31) : (nI a = 16) = (a = 16) := propext (nI_eq (b := 16) h (by decide))
theorem nu_lt29 {a : Nat} (h : a < 2 ^ 31) : (nI a < 29) = (a < 29) := propext (nI_ltI (b := 29) h (by decide))
theorem nu_clt29 {a : Nat} (h : a < 2 ^ 31) : ((29 : Int32) < nI a) = (29 < a) := propext (nI_ltI (a := 29) (by decide) h)
theorem nu_le29 {a : Nat} (h : a < 2 ^ 31) : (nI a ≤ 29) = (a ≤ 29) := propext (nI_leI (b := 29) h (by decide))
theorem nu_cle29 {a : Nat} (h : a < 2 ^ 31) : ((29 : Int32) ≤ nI a) = (29 ≤ a) := propext (nI_leI (a := 29) (by decide) h)
theorem nu_eq29 {a : Nat} (h : a < 2 ^ 31) : (nI a = 29) = (a = 29) := propext (nI_eq (b := 29) h (by decide))
theorem nu_lt32 {a : Nat} (h : a < 2 ^ 31) : (nI a < 32) = (a < 32) := propext (nI_ltI (b := 32) h (by decide))
theorem nu_clt32 {a : Nat} (h : a < 2 ^ 31) : ((32 : Int32) < nI a) = (32 < a) := propext (nI_ltI (a := 32) (by decide) h)
theorem nu_le32 {a : Nat} (h : a < 2 ^ 31) : (nI a ≤ 32) = (a ≤ 32) := propext (nI_leI (b := 32) h (by decide))
theorem nu_cle32 {a : Nat} (h : a < 2 ^ 31) : ((32 : Int32) ≤ nI a) = (32 ≤ a) := propext (nI_leI (a := 32) (by decide) h)
theorem nu_eq32 {a : Nat} (h : a < 2 ^ 31) : (nI a = 32) = (a = 32) := propext (nI_eq (b := 32) h (by decide))
theorem nu_lt36 {a : Nat} (h : a < 2 ^ 31) : (nI a < 36) = (a < 36) := propext (nI_ltI (b := 36) h (by decide))
theorem nu_clt36 {a : Nat} (h : a < 2 ^ 31) : ((36 : Int32) < nI a) = (36 < a) := propext (nI_ltI (a := 36) (by decide) h)
theorem nu_le36 {a : Nat} (h : a < 2 ^ 31) : (nI a ≤ 36) = (a ≤ 36) := propext (nI_leI (b := 36) h (by decide))
theorem nu_cle36 {a : Nat} (h : a < 2 ^ 31) : ((36 : Int32) ≤ nI a) = (36 ≤ a) := propext (nI_leI (a := 36) (by decide) h)
theorem nu_eq36 {a : Nat} (h : a < 2 ^ 31) : (nI a = 36) = (a = 36) := propext (nI_eq (b := 36) h (by decide))
theorem nu_lt37 {a : Nat} (h : a < 2 ^ 31) : (nI a < 37) = (a < 37) := propext (nI_ltI (b := 37) h (by decide))
theorem nu_clt37 {a : Nat} (h : a < 2 ^ 31) : ((37 : Int32) < nI a) = (37 < a) := propext (nI_ltI (a := 37) (by decide) h)
theorem nu_le37 {a : Nat} (h : a < 2 ^ 31) : (nI a ≤ 37) = (a ≤ 37) := propext (nI_leI (b := 37) h (by decide))
theorem nu_cle37 {a : Nat} (h : a < 2 ^ 31) : ((37 : Int32) ≤ nI a) = (37 ≤ a) := propext (nI_leI (a := 37) (by decide) h)
theorem nu_eq37 {a : Nat} (h : a < 2 ^ 31) : (nI a = 37) = (a = 37) := propext (nI_eq (b := 37) h (by decide))
theorem nu_lt48 {a : Nat} (h : a < 2 ^ 31) : (nI a < 48) = (a < 48) := propext (nI_ltI (b := 48) h (by decide))
theorem nu_clt48 {a : Nat} (h : a < 2 ^ 31) : ((48 : Int32) < nI a) = (48 < a) := propext (nI_ltI (a := 48) (by decide) h)
theorem nu_le48 {a : Nat} (h : a < 2 ^ 31) : (nI a ≤ 48) = (a ≤ 48) := propext (nI_leI (b := 48) h (by decide))
theorem nu_cle48 {a : Nat} (h : a < 2 ^ 31) : ((48 : Int32) ≤ nI a) = (48 ≤ a) := propext (nI_leI (a := 48) (by decide) h)
theorem nu_eq48 {a : Nat} (h : a < 2 ^ 31) : (nI a = 48) = (a = 48) := propext (nI_eq (b := 48) h (by decide))
theorem nu_lt2000 {a : Nat} (h : a < 2 ^ 31) : (nI a < 2000) = (a < 2000) := propext (nI_ltI (b := 2000) h (by decide))
theorem nu_clt2000 {a : Nat} (h : a < 2 ^ 31) : ((2000 : Int32) < nI a) = (2000 < a) := propext (nI_ltI (a := 2000) (by decide) h)
theorem nu_le2000 {a : Nat} (h : a < 2 ^ 31) : (nI a ≤ 2000) = (a ≤ 2000) := propext (nI_leI (b := 2000) h (by decide))
theorem nu_cle2000 {a : Nat} (h : a < 2 ^ 31) : ((2000 : Int32) ≤ nI a) = (2000 ≤ a) := propext (nI_leI (a := 2000) (by decide) h)
theorem nu_eq2000 {a : Nat} (h : a < 2 ^ 31) : (nI a = 2000) = (a = 2000) := propext (nI_eq (b := 2000) h (by decide))
theorem nu_lt2032 {a : Nat} (h : a < 2 ^ 31) : (nI a < 2032) = (a < 2032) := propext (nI_ltI (b := 2032) h (by decide))
theorem nu_clt2032 {a : Nat} (h : a < 2 ^ 31) : ((2032 : Int32) < nI a) = (2032 < a) := propext (nI_ltI (a := 2032) (by decide) h)
theorem nu_le2032 {a : Nat} (h : a < 2 ^ 31) : (nI a ≤ 2032) = (a ≤ 2032) := propext (nI_leI (b := 2032) h (by decide))
theorem nu_cle2032 {a : Nat} (h : a < 2 ^ 31) : ((2032 : Int32) ≤ nI a) = (2032 ≤ a) := propext (nI_leI (a := 2032) (by decide) h)
theorem nu_eq2032 {a : Nat} (h : a < 2 ^ 31) : (nI a = 2032) = (a = 2032) := propext (nI_eq (b := 2032) h (by decide))
theorem nu_lt4000 {a : Nat} (h : a < 2 ^ 31) : (nI a < 4000) = (a < 4000) := propext (nI_ltI (b := 4000) h (by decide))
theorem nu_clt4000 {a : Nat} (h : a < 2 ^ 31) : ((4000 : Int32) < nI a) = (4000 < a) := propext (nI_ltI (a := 4000) (by decide) h)
theorem nu_le4000 {a : Nat} (h : a < 2 ^ 31) : (nI a ≤ 4000) = (a ≤ 4000) := propext (nI_leI (b := 4000) h (by decide))
theorem nu_cle4000 {a : Nat} (h : a < 2 ^ 31) : ((4000 : Int32) ≤ nI a) = (4000 ≤ a) := propext (nI_leI (a := 4000) (by decide) h)
theorem nu_eq4000 {a : Nat} (h : a < 2 ^ 31) : (nI a = 4000) = (a = 4000) := propext (nI_eq (b := 4000) h (by decide))
theorem nu_lt1000000000 {a : Nat} (h : a < 2 ^ 31) : (nI a < 1000000000) = (a < 1000000000) := propext (nI_ltI (b := 1000000000) h (by decide))
theorem nu_clt1000000000 {a : Nat} (h : a < 2 ^ 31) : ((1000000000 : Int32) < nI a) = (1000000000 < a) := propext (nI_ltI (a := 1000000000) (by decide) h)
theorem nu_le1000000000 {a : Nat} (h : a < 2 ^ 31) : (nI a ≤ 1000000000) = (a ≤ 1000000000) := propext (nI_leI (b := 1000000000) h (by decide))
theorem nu_cle1000000000 {a : Nat} (h : a < 2 ^ 31) : ((1000000000 : Int32) ≤ nI a) = (1000000000 ≤ a) := propext (nI_leI (a := 1000000000) (by decide) h)
theorem nu_eq1000000000 {a : Nat} (h : a < 2 ^ 31) : (nI a = 1000000000) = (a = 1000000000) := propext (nI_eq (b := 1000000000) h (by decide))
theorem nu_le {a b : Nat} (ha : a < 2 ^ 31) (hb : b < 2 ^ 31) : (nI a ≤ nI b) = (a ≤ b) := propext (nI_leI ha hb)
theorem nu_lt {a b : Nat} (ha : a < 2 ^ 31) (hb : b < 2 ^ 31) : (nI a < nI b) = (a < b) := propext (nI_ltI ha hb)
theorem nu_eq {a b : Nat} (ha : a < 2 ^ 31) (hb : b < 2 ^ 31) : (nI a = nI b) = (a = b) := propext (nI_eq ha hb)
theorem nu_lneg : ∀ {x : Int32}, x = -1 → x < 0 := fun h => by rw [h]; decide
theorem nu_toInt_neg1 : (-1 : Int32).toInt = -1 := by decide
theorem nu_toInt0 : (0 : Int32).toInt = 0 := by decide
/-- an int that is no number below n -/
theorem nu_cases (x : Int32) (n : Nat) (hn : n < 2 ^ 31) : (∃ k, k < n ∧ x = nI k) ∨ ((x < 0 ∨ (¬ x < 0 ∧ nI n ≤ x)) ∧ ¬ ∃ k, k < n ∧ x = nI k) := by
  by_cases h : x < 0
  · refine Or.inr ⟨Or.inl h, ?_⟩
    rintro ⟨k, hk, rfl⟩
    exact nI_pos (by omega) h
  · obtain ⟨j, hj, rfl⟩ := nI_of h
    by_cases h2 : j < n
    · exact Or.inl ⟨j, h2, rfl⟩
    · refine Or.inr ⟨Or.inr ⟨h, nI_le (by omega) hj⟩, ?_⟩
      rintro ⟨k, hk, e⟩
      have := (nI_eq hj (by omega)).mp e
      omega
theorem nu_pair {f : Nat → Int32} {a b : Nat} {x y : Int32} (h : a ≠ b) : upd (upd f a x) b y = upd (upd f b y) a x := by
  funext j
  by_cases h1 : j = a
  · subst h1; rw [pk_un h, pk_us, pk_us]
  · by_cases h2 : j = b
    · subst h2; rw [pk_us, pk_un h1, pk_us]
    · rw [pk_un h2, pk_un h1, pk_un h1, pk_un h2]
/-- the first n cells of src laid into dst at b -/
def cp_ (dst src : Nat → Int32) (b n : Nat) : Nat → Int32 := fun i => if b ≤ i ∧ i < b + n then src (i - b) else dst i
theorem cp_0 (dst src : Nat → Int32) (b : Nat) : cp_ dst src b 0 = dst := by
  funext i
  exact if_neg (by omega)
theorem cp_s (dst src : Nat → Int32) (b n : Nat) : upd (cp_ dst src b n) (b + n) (src n) = cp_ dst src b (n + 1) := by
  funext i
  by_cases h : i = b + n
  · subst h
    rw [pk_us]
    unfold cp_
    rw [if_pos (by omega), Nat.add_sub_cancel_left]
  · rw [pk_un h]
    unfold cp_
    by_cases h2 : b ≤ i ∧ i < b + n
    · rw [if_pos h2, if_pos (by omega)]
    · rw [if_neg h2, if_neg (by omega)]
theorem cp_in {dst src : Nat → Int32} {b n i : Nat} (h : i < n) : cp_ dst src b n (b + i) = src i := by
  unfold cp_
  rw [if_pos (by omega), Nat.add_sub_cancel_left]
theorem cp_out {dst src : Nat → Int32} {b n i : Nat} (h : i < b ∨ b + n ≤ i) : cp_ dst src b n i = dst i := if_neg (by omega)
/-- changes counted: from c on, the first n cells -/
def cn_ (w e : Nat → Int32) (c : Int32) : Nat → Int32
  | 0 => c
  | n + 1 => if w n = e n then cn_ w e c n else cn_ w e c n + 1
theorem cn_ext {w w' e e' : Nat → Int32} {c : Int32} : ∀ n, (∀ i, i < n → w i = w' i) → (∀ i, i < n → e i = e' i) → cn_ w e c n = cn_ w' e' c n
  | 0, _, _ => rfl
  | n + 1, h1, h2 => by
    unfold cn_
    rw [h1 n (by omega), h2 n (by omega), cn_ext n (fun i hi => h1 i (by omega)) (fun i hi => h2 i (by omega))]
/-- the sum of the first n numbers -/
def gs_ (a : Nat → Int32) : Nat → Nat
  | 0 => 0
  | n + 1 => gs_ a n + (a n).toNatClampNeg
theorem gs_ext {a b : Nat → Int32} : ∀ n, (∀ i, i < n → a i = b i) → gs_ a n = gs_ b n
  | 0, _ => rfl
  | n + 1, h => by
    unfold gs_
    rw [gs_ext n (fun i hi => h i (by omega)), h n (by omega)]
theorem gs_upd {a : Nat → Int32} {k n : Nat} {x : Int32} (h : n ≤ k) : gs_ (upd a k x) n = gs_ a n := gs_ext n (fun i hi => pk_un (by omega))
theorem gs_le {a : Nat → Int32} : ∀ {n k : Nat}, k < n → (a k).toNatClampNeg ≤ gs_ a n
  | 0, k, h => by omega
  | n + 1, k, h => by
    unfold gs_
    by_cases e : k = n
    · rw [e]; omega
    · have := gs_le (a := a) (n := n) (k := k) (by omega)
      omega
end
section
def xg_accounts (u : SX) : Int32 := u.1
def xg_maxDepth (u : SX) : Int32 := u.2.1
def xg_price (u : SX) : Int32 := u.2.2.1
def xg_feeSum (u : SX) : Int32 := u.2.2.2.1
def xg_mintSum (u : SX) : Int32 := u.2.2.2.2.1
def xg_inputWord (u : SX) : Int32 := u.2.2.2.2.2.1
def xg_frameTotal (u : SX) : Int32 := u.2.2.2.2.2.2.1
def xg_logTotal (u : SX) : Int32 := u.2.2.2.2.2.2.2.1
def xg_lastWord (u : SX) : Int32 := u.2.2.2.2.2.2.2.2.1
def xg_active (u : SX) : Int32 := u.2.2.2.2.2.2.2.2.2.1
def xg_cells (u : SX) : Nat → Int32 := u.2.2.2.2.2.2.2.2.2.2.1
def xg_lengths (u : SX) : Nat → Int32 := u.2.2.2.2.2.2.2.2.2.2.2.1
def xg_world (u : SX) : Nat → Int32 := u.2.2.2.2.2.2.2.2.2.2.2.2.1
def xg_records (u : SX) : Nat → Int32 := u.2.2.2.2.2.2.2.2.2.2.2.2.2.1
def xg_logAccounts (u : SX) : Nat → Int32 := u.2.2.2.2.2.2.2.2.2.2.2.2.2.2.1
def xg_logWords (u : SX) : Nat → Int32 := u.2.2.2.2.2.2.2.2.2.2.2.2.2.2.2.1
def xg_frNumber (u : SX) : Nat → Int32 := u.2.2.2.2.2.2.2.2.2.2.2.2.2.2.2.2.1
def xg_frKind (u : SX) : Nat → Int32 := u.2.2.2.2.2.2.2.2.2.2.2.2.2.2.2.2.2.1
def xg_frCode (u : SX) : Nat → Int32 := u.2.2.2.2.2.2.2.2.2.2.2.2.2.2.2.2.2.2.1
def xg_frSelf (u : SX) : Nat → Int32 := u.2.2.2.2.2.2.2.2.2.2.2.2.2.2.2.2.2.2.2.1
def xg_frCaller (u : SX) : Nat → Int32 := u.2.2.2.2.2.2.2.2.2.2.2.2.2.2.2.2.2.2.2.2.1
def xg_frValue (u : SX) : Nat → Int32 := u.2.2.2.2.2.2.2.2.2.2.2.2.2.2.2.2.2.2.2.2.2.1
def xg_frInput (u : SX) : Nat → Int32 := u.2.2.2.2.2.2.2.2.2.2.2.2.2.2.2.2.2.2.2.2.2.2.1
def xg_frStatic (u : SX) : Nat → Int32 := u.2.2.2.2.2.2.2.2.2.2.2.2.2.2.2.2.2.2.2.2.2.2.2.1
def xg_frGas (u : SX) : Nat → Int32 := u.2.2.2.2.2.2.2.2.2.2.2.2.2.2.2.2.2.2.2.2.2.2.2.2.1
def xg_frOwn (u : SX) : Nat → Int32 := u.2.2.2.2.2.2.2.2.2.2.2.2.2.2.2.2.2.2.2.2.2.2.2.2.2.1
def xg_frAt (u : SX) : Nat → Int32 := u.2.2.2.2.2.2.2.2.2.2.2.2.2.2.2.2.2.2.2.2.2.2.2.2.2.2.1
def xg_frHeight (u : SX) : Nat → Int32 := u.2.2.2.2.2.2.2.2.2.2.2.2.2.2.2.2.2.2.2.2.2.2.2.2.2.2.2.1
def xg_frMemSize (u : SX) : Nat → Int32 := u.2.2.2.2.2.2.2.2.2.2.2.2.2.2.2.2.2.2.2.2.2.2.2.2.2.2.2.2.1
def xg_frResult (u : SX) : Nat → Int32 := u.2.2.2.2.2.2.2.2.2.2.2.2.2.2.2.2.2.2.2.2.2.2.2.2.2.2.2.2.2.1
def xg_stack (u : SX) : Nat → Int32 := u.2.2.2.2.2.2.2.2.2.2.2.2.2.2.2.2.2.2.2.2.2.2.2.2.2.2.2.2.2.2.1
def xg_memory (u : SX) : Nat → Int32 := u.2.2.2.2.2.2.2.2.2.2.2.2.2.2.2.2.2.2.2.2.2.2.2.2.2.2.2.2.2.2.2.1
def xg_entryWorld (u : SX) : Nat → Int32 := u.2.2.2.2.2.2.2.2.2.2.2.2.2.2.2.2.2.2.2.2.2.2.2.2.2.2.2.2.2.2.2.2.1
def xg_entryLogs (u : SX) : Nat → Int32 := u.2.2.2.2.2.2.2.2.2.2.2.2.2.2.2.2.2.2.2.2.2.2.2.2.2.2.2.2.2.2.2.2.2
def xs_accounts (z : Int32) (u : SX) : SX := (z, u.2)
def xs_maxDepth (z : Int32) (u : SX) : SX := (u.1, z, u.2.2)
def xs_price (z : Int32) (u : SX) : SX := (u.1, u.2.1, z, u.2.2.2)
def xs_feeSum (z : Int32) (u : SX) : SX := (u.1, u.2.1, u.2.2.1, z, u.2.2.2.2)
def xs_mintSum (z : Int32) (u : SX) : SX := (u.1, u.2.1, u.2.2.1, u.2.2.2.1, z, u.2.2.2.2.2)
def xs_inputWord (z : Int32) (u : SX) : SX := (u.1, u.2.1, u.2.2.1, u.2.2.2.1, u.2.2.2.2.1, z, u.2.2.2.2.2.2)
def xs_frameTotal (z : Int32) (u : SX) : SX := (u.1, u.2.1, u.2.2.1, u.2.2.2.1, u.2.2.2.2.1, u.2.2.2.2.2.1, z, u.2.2.2.2.2.2.2)
def xs_logTotal (z : Int32) (u : SX) : SX := (u.1, u.2.1, u.2.2.1, u.2.2.2.1, u.2.2.2.2.1, u.2.2.2.2.2.1, u.2.2.2.2.2.2.1, z, u.2.2.2.2.2.2.2.2)
def xs_lastWord (z : Int32) (u : SX) : SX := (u.1, u.2.1, u.2.2.1, u.2.2.2.1, u.2.2.2.2.1, u.2.2.2.2.2.1, u.2.2.2.2.2.2.1, u.2.2.2.2.2.2.2.1, z, u.2.2.2.2.2.2.2.2.2)
def xs_active (z : Int32) (u : SX) : SX := (u.1, u.2.1, u.2.2.1, u.2.2.2.1, u.2.2.2.2.1, u.2.2.2.2.2.1, u.2.2.2.2.2.2.1, u.2.2.2.2.2.2.2.1, u.2.2.2.2.2.2.2.2.1, z, u.2.2.2.2.2.2.2.2.2.2)
def xs_cells (z : Nat → Int32) (u : SX) : SX := (u.1, u.2.1, u.2.2.1, u.2.2.2.1, u.2.2.2.2.1, u.2.2.2.2.2.1, u.2.2.2.2.2.2.1, u.2.2.2.2.2.2.2.1, u.2.2.2.2.2.2.2.2.1, u.2.2.2.2.2.2.2.2.2.1, z, u.2.2.2.2.2.2.2.2.2.2.2)
def xs_lengths (z : Nat → Int32) (u : SX) : SX := (u.1, u.2.1, u.2.2.1, u.2.2.2.1, u.2.2.2.2.1, u.2.2.2.2.2.1, u.2.2.2.2.2.2.1, u.2.2.2.2.2.2.2.1, u.2.2.2.2.2.2.2.2.1, u.2.2.2.2.2.2.2.2.2.1, u.2.2.2.2.2.2.2.2.2.2.1, z, u.2.2.2.2.2.2.2.2.2.2.2.2)
def xs_world (z : Nat → Int32) (u : SX) : SX := (u.1, u.2.1, u.2.2.1, u.2.2.2.1, u.2.2.2.2.1, u.2.2.2.2.2.1, u.2.2.2.2.2.2.1, u.2.2.2.2.2.2.2.1, u.2.2.2.2.2.2.2.2.1, u.2.2.2.2.2.2.2.2.2.1, u.2.2.2.2.2.2.2.2.2.2.1, u.2.2.2.2.2.2.2.2.2.2.2.1, z, u.2.2.2.2.2.2.2.2.2.2.2.2.2)
def xs_records (z : Nat → Int32) (u : SX) : SX := (u.1, u.2.1, u.2.2.1, u.2.2.2.1, u.2.2.2.2.1, u.2.2.2.2.2.1, u.2.2.2.2.2.2.1, u.2.2.2.2.2.2.2.1, u.2.2.2.2.2.2.2.2.1, u.2.2.2.2.2.2.2.2.2.1, u.2.2.2.2.2.2.2.2.2.2.1, u.2.2.2.2.2.2.2.2.2.2.2.1, u.2.2.2.2.2.2.2.2.2.2.2.2.1, z, u.2.2.2.2.2.2.2.2.2.2.2.2.2.2)
def xs_logAccounts (z : Nat → Int32) (u : SX) : SX := (u.1, u.2.1, u.2.2.1, u.2.2.2.1, u.2.2.2.2.1, u.2.2.2.2.2.1, u.2.2.2.2.2.2.1, u.2.2.2.2.2.2.2.1, u.2.2.2.2.2.2.2.2.1, u.2.2.2.2.2.2.2.2.2.1, u.2.2.2.2.2.2.2.2.2.2.1, u.2.2.2.2.2.2.2.2.2.2.2.1, u.2.2.2.2.2.2.2.2.2.2.2.2.1, u.2.2.2.2.2.2.2.2.2.2.2.2.2.1, z, u.2.2.2.2.2.2.2.2.2.2.2.2.2.2.2)
def xs_logWords (z : Nat → Int32) (u : SX) : SX := (u.1, u.2.1, u.2.2.1, u.2.2.2.1, u.2.2.2.2.1, u.2.2.2.2.2.1, u.2.2.2.2.2.2.1, u.2.2.2.2.2.2.2.1, u.2.2.2.2.2.2.2.2.1, u.2.2.2.2.2.2.2.2.2.1, u.2.2.2.2.2.2.2.2.2.2.1, u.2.2.2.2.2.2.2.2.2.2.2.1, u.2.2.2.2.2.2.2.2.2.2.2.2.1, u.2.2.2.2.2.2.2.2.2.2.2.2.2.1, u.2.2.2.2.2.2.2.2.2.2.2.2.2.2.1, z, u.2.2.2.2.2.2.2.2.2.2.2.2.2.2.2.2)
def xs_frNumber (z : Nat → Int32) (u : SX) : SX := (u.1, u.2.1, u.2.2.1, u.2.2.2.1, u.2.2.2.2.1, u.2.2.2.2.2.1, u.2.2.2.2.2.2.1, u.2.2.2.2.2.2.2.1, u.2.2.2.2.2.2.2.2.1, u.2.2.2.2.2.2.2.2.2.1, u.2.2.2.2.2.2.2.2.2.2.1, u.2.2.2.2.2.2.2.2.2.2.2.1, u.2.2.2.2.2.2.2.2.2.2.2.2.1, u.2.2.2.2.2.2.2.2.2.2.2.2.2.1, u.2.2.2.2.2.2.2.2.2.2.2.2.2.2.1, u.2.2.2.2.2.2.2.2.2.2.2.2.2.2.2.1, z, u.2.2.2.2.2.2.2.2.2.2.2.2.2.2.2.2.2)
def xs_frKind (z : Nat → Int32) (u : SX) : SX := (u.1, u.2.1, u.2.2.1, u.2.2.2.1, u.2.2.2.2.1, u.2.2.2.2.2.1, u.2.2.2.2.2.2.1, u.2.2.2.2.2.2.2.1, u.2.2.2.2.2.2.2.2.1, u.2.2.2.2.2.2.2.2.2.1, u.2.2.2.2.2.2.2.2.2.2.1, u.2.2.2.2.2.2.2.2.2.2.2.1, u.2.2.2.2.2.2.2.2.2.2.2.2.1, u.2.2.2.2.2.2.2.2.2.2.2.2.2.1, u.2.2.2.2.2.2.2.2.2.2.2.2.2.2.1, u.2.2.2.2.2.2.2.2.2.2.2.2.2.2.2.1, u.2.2.2.2.2.2.2.2.2.2.2.2.2.2.2.2.1, z, u.2.2.2.2.2.2.2.2.2.2.2.2.2.2.2.2.2.2)
def xs_frCode (z : Nat → Int32) (u : SX) : SX := (u.1, u.2.1, u.2.2.1, u.2.2.2.1, u.2.2.2.2.1, u.2.2.2.2.2.1, u.2.2.2.2.2.2.1, u.2.2.2.2.2.2.2.1, u.2.2.2.2.2.2.2.2.1, u.2.2.2.2.2.2.2.2.2.1, u.2.2.2.2.2.2.2.2.2.2.1, u.2.2.2.2.2.2.2.2.2.2.2.1, u.2.2.2.2.2.2.2.2.2.2.2.2.1, u.2.2.2.2.2.2.2.2.2.2.2.2.2.1, u.2.2.2.2.2.2.2.2.2.2.2.2.2.2.1, u.2.2.2.2.2.2.2.2.2.2.2.2.2.2.2.1, u.2.2.2.2.2.2.2.2.2.2.2.2.2.2.2.2.1, u.2.2.2.2.2.2.2.2.2.2.2.2.2.2.2.2.2.1, z, u.2.2.2.2.2.2.2.2.2.2.2.2.2.2.2.2.2.2.2)
def xs_frSelf (z : Nat → Int32) (u : SX) : SX := (u.1, u.2.1, u.2.2.1, u.2.2.2.1, u.2.2.2.2.1, u.2.2.2.2.2.1, u.2.2.2.2.2.2.1, u.2.2.2.2.2.2.2.1, u.2.2.2.2.2.2.2.2.1, u.2.2.2.2.2.2.2.2.2.1, u.2.2.2.2.2.2.2.2.2.2.1, u.2.2.2.2.2.2.2.2.2.2.2.1, u.2.2.2.2.2.2.2.2.2.2.2.2.1, u.2.2.2.2.2.2.2.2.2.2.2.2.2.1, u.2.2.2.2.2.2.2.2.2.2.2.2.2.2.1, u.2.2.2.2.2.2.2.2.2.2.2.2.2.2.2.1, u.2.2.2.2.2.2.2.2.2.2.2.2.2.2.2.2.1, u.2.2.2.2.2.2.2.2.2.2.2.2.2.2.2.2.2.1, u.2.2.2.2.2.2.2.2.2.2.2.2.2.2.2.2.2.2.1, z, u.2.2.2.2.2.2.2.2.2.2.2.2.2.2.2.2.2.2.2.2)
def xs_frCaller (z : Nat → Int32) (u : SX) : SX := (u.1, u.2.1, u.2.2.1, u.2.2.2.1, u.2.2.2.2.1, u.2.2.2.2.2.1, u.2.2.2.2.2.2.1, u.2.2.2.2.2.2.2.1, u.2.2.2.2.2.2.2.2.1, u.2.2.2.2.2.2.2.2.2.1, u.2.2.2.2.2.2.2.2.2.2.1, u.2.2.2.2.2.2.2.2.2.2.2.1, u.2.2.2.2.2.2.2.2.2.2.2.2.1, u.2.2.2.2.2.2.2.2.2.2.2.2.2.1, u.2.2.2.2.2.2.2.2.2.2.2.2.2.2.1, u.2.2.2.2.2.2.2.2.2.2.2.2.2.2.2.1, u.2.2.2.2.2.2.2.2.2.2.2.2.2.2.2.2.1, u.2.2.2.2.2.2.2.2.2.2.2.2.2.2.2.2.2.1, u.2.2.2.2.2.2.2.2.2.2.2.2.2.2.2.2.2.2.1, u.2.2.2.2.2.2.2.2.2.2.2.2.2.2.2.2.2.2.2.1, z, u.2.2.2.2.2.2.2.2.2.2.2.2.2.2.2.2.2.2.2.2.2)
def xs_frValue (z : Nat → Int32) (u : SX) : SX := (u.1, u.2.1, u.2.2.1, u.2.2.2.1, u.2.2.2.2.1, u.2.2.2.2.2.1, u.2.2.2.2.2.2.1, u.2.2.2.2.2.2.2.1, u.2.2.2.2.2.2.2.2.1, u.2.2.2.2.2.2.2.2.2.1, u.2.2.2.2.2.2.2.2.2.2.1, u.2.2.2.2.2.2.2.2.2.2.2.1, u.2.2.2.2.2.2.2.2.2.2.2.2.1, u.2.2.2.2.2.2.2.2.2.2.2.2.2.1, u.2.2.2.2.2.2.2.2.2.2.2.2.2.2.1, u.2.2.2.2.2.2.2.2.2.2.2.2.2.2.2.1, u.2.2.2.2.2.2.2.2.2.2.2.2.2.2.2.2.1, u.2.2.2.2.2.2.2.2.2.2.2.2.2.2.2.2.2.1, u.2.2.2.2.2.2.2.2.2.2.2.2.2.2.2.2.2.2.1, u.2.2.2.2.2.2.2.2.2.2.2.2.2.2.2.2.2.2.2.1, u.2.2.2.2.2.2.2.2.2.2.2.2.2.2.2.2.2.2.2.2.1, z, u.2.2.2.2.2.2.2.2.2.2.2.2.2.2.2.2.2.2.2.2.2.2)
def xs_frInput (z : Nat → Int32) (u : SX) : SX := (u.1, u.2.1, u.2.2.1, u.2.2.2.1, u.2.2.2.2.1, u.2.2.2.2.2.1, u.2.2.2.2.2.2.1, u.2.2.2.2.2.2.2.1, u.2.2.2.2.2.2.2.2.1, u.2.2.2.2.2.2.2.2.2.1, u.2.2.2.2.2.2.2.2.2.2.1, u.2.2.2.2.2.2.2.2.2.2.2.1, u.2.2.2.2.2.2.2.2.2.2.2.2.1, u.2.2.2.2.2.2.2.2.2.2.2.2.2.1, u.2.2.2.2.2.2.2.2.2.2.2.2.2.2.1, u.2.2.2.2.2.2.2.2.2.2.2.2.2.2.2.1, u.2.2.2.2.2.2.2.2.2.2.2.2.2.2.2.2.1, u.2.2.2.2.2.2.2.2.2.2.2.2.2.2.2.2.2.1, u.2.2.2.2.2.2.2.2.2.2.2.2.2.2.2.2.2.2.1, u.2.2.2.2.2.2.2.2.2.2.2.2.2.2.2.2.2.2.2.1, u.2.2.2.2.2.2.2.2.2.2.2.2.2.2.2.2.2.2.2.2.1, u.2.2.2.2.2.2.2.2.2.2.2.2.2.2.2.2.2.2.2.2.2.1, z, u.2.2.2.2.2.2.2.2.2.2.2.2.2.2.2.2.2.2.2.2.2.2.2)
def xs_frStatic (z : Nat → Int32) (u : SX) : SX := (u.1, u.2.1, u.2.2.1, u.2.2.2.1, u.2.2.2.2.1, u.2.2.2.2.2.1, u.2.2.2.2.2.2.1, u.2.2.2.2.2.2.2.1, u.2.2.2.2.2.2.2.2.1, u.2.2.2.2.2.2.2.2.2.1, u.2.2.2.2.2.2.2.2.2.2.1, u.2.2.2.2.2.2.2.2.2.2.2.1, u.2.2.2.2.2.2.2.2.2.2.2.2.1, u.2.2.2.2.2.2.2.2.2.2.2.2.2.1, u.2.2.2.2.2.2.2.2.2.2.2.2.2.2.1, u.2.2.2.2.2.2.2.2.2.2.2.2.2.2.2.1, u.2.2.2.2.2.2.2.2.2.2.2.2.2.2.2.2.1, u.2.2.2.2.2.2.2.2.2.2.2.2.2.2.2.2.2.1, u.2.2.2.2.2.2.2.2.2.2.2.2.2.2.2.2.2.2.1, u.2.2.2.2.2.2.2.2.2.2.2.2.2.2.2.2.2.2.2.1, u.2.2.2.2.2.2.2.2.2.2.2.2.2.2.2.2.2.2.2.2.1, u.2.2.2.2.2.2.2.2.2.2.2.2.2.2.2.2.2.2.2.2.2.1, u.2.2.2.2.2.2.2.2.2.2.2.2.2.2.2.2.2.2.2.2.2.2.1, z, u.2.2.2.2.2.2.2.2.2.2.2.2.2.2.2.2.2.2.2.2.2.2.2.2)
def xs_frGas (z : Nat → Int32) (u : SX) : SX := (u.1, u.2.1, u.2.2.1, u.2.2.2.1, u.2.2.2.2.1, u.2.2.2.2.2.1, u.2.2.2.2.2.2.1, u.2.2.2.2.2.2.2.1, u.2.2.2.2.2.2.2.2.1, u.2.2.2.2.2.2.2.2.2.1, u.2.2.2.2.2.2.2.2.2.2.1, u.2.2.2.2.2.2.2.2.2.2.2.1, u.2.2.2.2.2.2.2.2.2.2.2.2.1, u.2.2.2.2.2.2.2.2.2.2.2.2.2.1, u.2.2.2.2.2.2.2.2.2.2.2.2.2.2.1, u.2.2.2.2.2.2.2.2.2.2.2.2.2.2.2.1, u.2.2.2.2.2.2.2.2.2.2.2.2.2.2.2.2.1, u.2.2.2.2.2.2.2.2.2.2.2.2.2.2.2.2.2.1, u.2.2.2.2.2.2.2.2.2.2.2.2.2.2.2.2.2.2.1, u.2.2.2.2.2.2.2.2.2.2.2.2.2.2.2.2.2.2.2.1, u.2.2.2.2.2.2.2.2.2.2.2.2.2.2.2.2.2.2.2.2.1, u.2.2.2.2.2.2.2.2.2.2.2.2.2.2.2.2.2.2.2.2.2.1, u.2.2.2.2.2.2.2.2.2.2.2.2.2.2.2.2.2.2.2.2.2.2.1, u.2.2.2.2.2.2.2.2.2.2.2.2.2.2.2.2.2.2.2.2.2.2.2.1, z, u.2.2.2.2.2.2.2.2.2.2.2.2.2.2.2.2.2.2.2.2.2.2.2.2.2)
def xs_frOwn (z : Nat → Int32) (u : SX) : SX := (u.1, u.2.1, u.2.2.1, u.2.2.2.1, u.2.2.2.2.1, u.2.2.2.2.2.1, u.2.2.2.2.2.2.1, u.2.2.2.2.2.2.2.1, u.2.2.2.2.2.2.2.2.1, u.2.2.2.2.2.2.2.2.2.1, u.2.2.2.2.2.2.2.2.2.2.1, u.2.2.2.2.2.2.2.2.2.2.2.1, u.2.2.2.2.2.2.2.2.2.2.2.2.1, u.2.2.2.2.2.2.2.2.2.2.2.2.2.1, u.2.2.2.2.2.2.2.2.2.2.2.2.2.2.1, u.2.2.2.2.2.2.2.2.2.2.2.2.2.2.2.1, u.2.2.2.2.2.2.2.2.2.2.2.2.2.2.2.2.1, u.2.2.2.2.2.2.2.2.2.2.2.2.2.2.2.2.2.1, u.2.2.2.2.2.2.2.2.2.2.2.2.2.2.2.2.2.2.1, u.2.2.2.2.2.2.2.2.2.2.2.2.2.2.2.2.2.2.2.1, u.2.2.2.2.2.2.2.2.2.2.2.2.2.2.2.2.2.2.2.2.1, u.2.2.2.2.2.2.2.2.2.2.2.2.2.2.2.2.2.2.2.2.2.1, u.2.2.2.2.2.2.2.2.2.2.2.2.2.2.2.2.2.2.2.2.2.2.1, u.2.2.2.2.2.2.2.2.2.2.2.2.2.2.2.2.2.2.2.2.2.2.2.1, u.2.2.2.2.2.2.2.2.2.2.2.2.2.2.2.2.2.2.2.2.2.2.2.2.1, z, u.2.2.2.2.2.2.2.2.2.2.2.2.2.2.2.2.2.2.2.2.2.2.2.2.2.2)
def xs_frAt (z : Nat → Int32) (u : SX) : SX := (u.1, u.2.1, u.2.2.1, u.2.2.2.1, u.2.2.2.2.1, u.2.2.2.2.2.1, u.2.2.2.2.2.2.1, u.2.2.2.2.2.2.2.1, u.2.2.2.2.2.2.2.2.1, u.2.2.2.2.2.2.2.2.2.1, u.2.2.2.2.2.2.2.2.2.2.1, u.2.2.2.2.2.2.2.2.2.2.2.1, u.2.2.2.2.2.2.2.2.2.2.2.2.1, u.2.2.2.2.2.2.2.2.2.2.2.2.2.1, u.2.2.2.2.2.2.2.2.2.2.2.2.2.2.1, u.2.2.2.2.2.2.2.2.2.2.2.2.2.2.2.1, u.2.2.2.2.2.2.2.2.2.2.2.2.2.2.2.2.1, u.2.2.2.2.2.2.2.2.2.2.2.2.2.2.2.2.2.1, u.2.2.2.2.2.2.2.2.2.2.2.2.2.2.2.2.2.2.1, u.2.2.2.2.2.2.2.2.2.2.2.2.2.2.2.2.2.2.2.1, u.2.2.2.2.2.2.2.2.2.2.2.2.2.2.2.2.2.2.2.2.1, u.2.2.2.2.2.2.2.2.2.2.2.2.2.2.2.2.2.2.2.2.2.1, u.2.2.2.2.2.2.2.2.2.2.2.2.2.2.2.2.2.2.2.2.2.2.1, u.2.2.2.2.2.2.2.2.2.2.2.2.2.2.2.2.2.2.2.2.2.2.2.1, u.2.2.2.2.2.2.2.2.2.2.2.2.2.2.2.2.2.2.2.2.2.2.2.2.1, u.2.2.2.2.2.2.2.2.2.2.2.2.2.2.2.2.2.2.2.2.2.2.2.2.2.1, z, u.2.2.2.2.2.2.2.2.2.2.2.2.2.2.2.2.2.2.2.2.2.2.2.2.2.2.2)
def xs_frHeight (z : Nat → Int32) (u : SX) : SX := (u.1, u.2.1, u.2.2.1, u.2.2.2.1, u.2.2.2.2.1, u.2.2.2.2.2.1, u.2.2.2.2.2.2.1, u.2.2.2.2.2.2.2.1, u.2.2.2.2.2.2.2.2.1, u.2.2.2.2.2.2.2.2.2.1, u.2.2.2.2.2.2.2.2.2.2.1, u.2.2.2.2.2.2.2.2.2.2.2.1, u.2.2.2.2.2.2.2.2.2.2.2.2.1, u.2.2.2.2.2.2.2.2.2.2.2.2.2.1, u.2.2.2.2.2.2.2.2.2.2.2.2.2.2.1, u.2.2.2.2.2.2.2.2.2.2.2.2.2.2.2.1, u.2.2.2.2.2.2.2.2.2.2.2.2.2.2.2.2.1, u.2.2.2.2.2.2.2.2.2.2.2.2.2.2.2.2.2.1, u.2.2.2.2.2.2.2.2.2.2.2.2.2.2.2.2.2.2.1, u.2.2.2.2.2.2.2.2.2.2.2.2.2.2.2.2.2.2.2.1, u.2.2.2.2.2.2.2.2.2.2.2.2.2.2.2.2.2.2.2.2.1, u.2.2.2.2.2.2.2.2.2.2.2.2.2.2.2.2.2.2.2.2.2.1, u.2.2.2.2.2.2.2.2.2.2.2.2.2.2.2.2.2.2.2.2.2.2.1, u.2.2.2.2.2.2.2.2.2.2.2.2.2.2.2.2.2.2.2.2.2.2.2.1, u.2.2.2.2.2.2.2.2.2.2.2.2.2.2.2.2.2.2.2.2.2.2.2.2.1, u.2.2.2.2.2.2.2.2.2.2.2.2.2.2.2.2.2.2.2.2.2.2.2.2.2.1, u.2.2.2.2.2.2.2.2.2.2.2.2.2.2.2.2.2.2.2.2.2.2.2.2.2.2.1, z, u.2.2.2.2.2.2.2.2.2.2.2.2.2.2.2.2.2.2.2.2.2.2.2.2.2.2.2.2)
def xs_frMemSize (z : Nat → Int32) (u : SX) : SX := (u.1, u.2.1, u.2.2.1, u.2.2.2.1, u.2.2.2.2.1, u.2.2.2.2.2.1, u.2.2.2.2.2.2.1, u.2.2.2.2.2.2.2.1, u.2.2.2.2.2.2.2.2.1, u.2.2.2.2.2.2.2.2.2.1, u.2.2.2.2.2.2.2.2.2.2.1, u.2.2.2.2.2.2.2.2.2.2.2.1, u.2.2.2.2.2.2.2.2.2.2.2.2.1, u.2.2.2.2.2.2.2.2.2.2.2.2.2.1, u.2.2.2.2.2.2.2.2.2.2.2.2.2.2.1, u.2.2.2.2.2.2.2.2.2.2.2.2.2.2.2.1, u.2.2.2.2.2.2.2.2.2.2.2.2.2.2.2.2.1, u.2.2.2.2.2.2.2.2.2.2.2.2.2.2.2.2.2.1, u.2.2.2.2.2.2.2.2.2.2.2.2.2.2.2.2.2.2.1, u.2.2.2.2.2.2.2.2.2.2.2.2.2.2.2.2.2.2.2.1, u.2.2.2.2.2.2.2.2.2.2.2.2.2.2.2.2.2.2.2.2.1, u.2.2.2.2.2.2.2.2.2.2.2.2.2.2.2.2.2.2.2.2.2.1, u.2.2.2.2.2.2.2.2.2.2.2.2.2.2.2.2.2.2.2.2.2.2.1, u.2.2.2.2.2.2.2.2.2.2.2.2.2.2.2.2.2.2.2.2.2.2.2.1, u.2.2.2.2.2.2.2.2.2.2.2.2.2.2.2.2.2.2.2.2.2.2.2.2.1, u.2.2.2.2.2.2.2.2.2.2.2.2.2.2.2.2.2.2.2.2.2.2.2.2.2.1, u.2.2.2.2.2.2.2.2.2.2.2.2.2.2.2.2.2.2.2.2.2.2.2.2.2.2.1, u.2.2.2.2.2.2.2.2.2.2.2.2.2.2.2.2.2.2.2.2.2.2.2.2.2.2.2.1, z, u.2.2.2.2.2.2.2.2.2.2.2.2.2.2.2.2.2.2.2.2.2.2.2.2.2.2.2.2.2)
def xs_frResult (z : Nat → Int32) (u : SX) : SX := (u.1, u.2.1, u.2.2.1, u.2.2.2.1, u.2.2.2.2.1, u.2.2.2.2.2.1, u.2.2.2.2.2.2.1, u.2.2.2.2.2.2.2.1, u.2.2.2.2.2.2.2.2.1, u.2.2.2.2.2.2.2.2.2.1, u.2.2.2.2.2.2.2.2.2.2.1, u.2.2.2.2.2.2.2.2.2.2.2.1, u.2.2.2.2.2.2.2.2.2.2.2.2.1, u.2.2.2.2.2.2.2.2.2.2.2.2.2.1, u.2.2.2.2.2.2.2.2.2.2.2.2.2.2.1, u.2.2.2.2.2.2.2.2.2.2.2.2.2.2.2.1, u.2.2.2.2.2.2.2.2.2.2.2.2.2.2.2.2.1, u.2.2.2.2.2.2.2.2.2.2.2.2.2.2.2.2.2.1, u.2.2.2.2.2.2.2.2.2.2.2.2.2.2.2.2.2.2.1, u.2.2.2.2.2.2.2.2.2.2.2.2.2.2.2.2.2.2.2.1, u.2.2.2.2.2.2.2.2.2.2.2.2.2.2.2.2.2.2.2.2.1, u.2.2.2.2.2.2.2.2.2.2.2.2.2.2.2.2.2.2.2.2.2.1, u.2.2.2.2.2.2.2.2.2.2.2.2.2.2.2.2.2.2.2.2.2.2.1, u.2.2.2.2.2.2.2.2.2.2.2.2.2.2.2.2.2.2.2.2.2.2.2.1, u.2.2.2.2.2.2.2.2.2.2.2.2.2.2.2.2.2.2.2.2.2.2.2.2.1, u.2.2.2.2.2.2.2.2.2.2.2.2.2.2.2.2.2.2.2.2.2.2.2.2.2.1, u.2.2.2.2.2.2.2.2.2.2.2.2.2.2.2.2.2.2.2.2.2.2.2.2.2.2.1, u.2.2.2.2.2.2.2.2.2.2.2.2.2.2.2.2.2.2.2.2.2.2.2.2.2.2.2.1, u.2.2.2.2.2.2.2.2.2.2.2.2.2.2.2.2.2.2.2.2.2.2.2.2.2.2.2.2.1, z, u.2.2.2.2.2.2.2.2.2.2.2.2.2.2.2.2.2.2.2.2.2.2.2.2.2.2.2.2.2.2)
def xs_stack (z : Nat → Int32) (u : SX) : SX := (u.1, u.2.1, u.2.2.1, u.2.2.2.1, u.2.2.2.2.1, u.2.2.2.2.2.1, u.2.2.2.2.2.2.1, u.2.2.2.2.2.2.2.1, u.2.2.2.2.2.2.2.2.1, u.2.2.2.2.2.2.2.2.2.1, u.2.2.2.2.2.2.2.2.2.2.1, u.2.2.2.2.2.2.2.2.2.2.2.1, u.2.2.2.2.2.2.2.2.2.2.2.2.1, u.2.2.2.2.2.2.2.2.2.2.2.2.2.1, u.2.2.2.2.2.2.2.2.2.2.2.2.2.2.1, u.2.2.2.2.2.2.2.2.2.2.2.2.2.2.2.1, u.2.2.2.2.2.2.2.2.2.2.2.2.2.2.2.2.1, u.2.2.2.2.2.2.2.2.2.2.2.2.2.2.2.2.2.1, u.2.2.2.2.2.2.2.2.2.2.2.2.2.2.2.2.2.2.1, u.2.2.2.2.2.2.2.2.2.2.2.2.2.2.2.2.2.2.2.1, u.2.2.2.2.2.2.2.2.2.2.2.2.2.2.2.2.2.2.2.2.1, u.2.2.2.2.2.2.2.2.2.2.2.2.2.2.2.2.2.2.2.2.2.1, u.2.2.2.2.2.2.2.2.2.2.2.2.2.2.2.2.2.2.2.2.2.2.1, u.2.2.2.2.2.2.2.2.2.2.2.2.2.2.2.2.2.2.2.2.2.2.2.1, u.2.2.2.2.2.2.2.2.2.2.2.2.2.2.2.2.2.2.2.2.2.2.2.2.1, u.2.2.2.2.2.2.2.2.2.2.2.2.2.2.2.2.2.2.2.2.2.2.2.2.2.1, u.2.2.2.2.2.2.2.2.2.2.2.2.2.2.2.2.2.2.2.2.2.2.2.2.2.2.1, u.2.2.2.2.2.2.2.2.2.2.2.2.2.2.2.2.2.2.2.2.2.2.2.2.2.2.2.1, u.2.2.2.2.2.2.2.2.2.2.2.2.2.2.2.2.2.2.2.2.2.2.2.2.2.2.2.2.1, u.2.2.2.2.2.2.2.2.2.2.2.2.2.2.2.2.2.2.2.2.2.2.2.2.2.2.2.2.2.1, z, u.2.2.2.2.2.2.2.2.2.2.2.2.2.2.2.2.2.2.2.2.2.2.2.2.2.2.2.2.2.2.2)
def xs_memory (z : Nat → Int32) (u : SX) : SX := (u.1, u.2.1, u.2.2.1, u.2.2.2.1, u.2.2.2.2.1, u.2.2.2.2.2.1, u.2.2.2.2.2.2.1, u.2.2.2.2.2.2.2.1, u.2.2.2.2.2.2.2.2.1, u.2.2.2.2.2.2.2.2.2.1, u.2.2.2.2.2.2.2.2.2.2.1, u.2.2.2.2.2.2.2.2.2.2.2.1, u.2.2.2.2.2.2.2.2.2.2.2.2.1, u.2.2.2.2.2.2.2.2.2.2.2.2.2.1, u.2.2.2.2.2.2.2.2.2.2.2.2.2.2.1, u.2.2.2.2.2.2.2.2.2.2.2.2.2.2.2.1, u.2.2.2.2.2.2.2.2.2.2.2.2.2.2.2.2.1, u.2.2.2.2.2.2.2.2.2.2.2.2.2.2.2.2.2.1, u.2.2.2.2.2.2.2.2.2.2.2.2.2.2.2.2.2.2.1, u.2.2.2.2.2.2.2.2.2.2.2.2.2.2.2.2.2.2.2.1, u.2.2.2.2.2.2.2.2.2.2.2.2.2.2.2.2.2.2.2.2.1, u.2.2.2.2.2.2.2.2.2.2.2.2.2.2.2.2.2.2.2.2.2.1, u.2.2.2.2.2.2.2.2.2.2.2.2.2.2.2.2.2.2.2.2.2.2.1, u.2.2.2.2.2.2.2.2.2.2.2.2.2.2.2.2.2.2.2.2.2.2.2.1, u.2.2.2.2.2.2.2.2.2.2.2.2.2.2.2.2.2.2.2.2.2.2.2.2.1, u.2.2.2.2.2.2.2.2.2.2.2.2.2.2.2.2.2.2.2.2.2.2.2.2.2.1, u.2.2.2.2.2.2.2.2.2.2.2.2.2.2.2.2.2.2.2.2.2.2.2.2.2.2.1, u.2.2.2.2.2.2.2.2.2.2.2.2.2.2.2.2.2.2.2.2.2.2.2.2.2.2.2.1, u.2.2.2.2.2.2.2.2.2.2.2.2.2.2.2.2.2.2.2.2.2.2.2.2.2.2.2.2.1, u.2.2.2.2.2.2.2.2.2.2.2.2.2.2.2.2.2.2.2.2.2.2.2.2.2.2.2.2.2.1, u.2.2.2.2.2.2.2.2.2.2.2.2.2.2.2.2.2.2.2.2.2.2.2.2.2.2.2.2.2.2.1, z, u.2.2.2.2.2.2.2.2.2.2.2.2.2.2.2.2.2.2.2.2.2.2.2.2.2.2.2.2.2.2.2.2)
def xs_entryWorld (z : Nat → Int32) (u : SX) : SX := (u.1, u.2.1, u.2.2.1, u.2.2.2.1, u.2.2.2.2.1, u.2.2.2.2.2.1, u.2.2.2.2.2.2.1, u.2.2.2.2.2.2.2.1, u.2.2.2.2.2.2.2.2.1, u.2.2.2.2.2.2.2.2.2.1, u.2.2.2.2.2.2.2.2.2.2.1, u.2.2.2.2.2.2.2.2.2.2.2.1, u.2.2.2.2.2.2.2.2.2.2.2.2.1, u.2.2.2.2.2.2.2.2.2.2.2.2.2.1, u.2.2.2.2.2.2.2.2.2.2.2.2.2.2.1, u.2.2.2.2.2.2.2.2.2.2.2.2.2.2.2.1, u.2.2.2.2.2.2.2.2.2.2.2.2.2.2.2.2.1, u.2.2.2.2.2.2.2.2.2.2.2.2.2.2.2.2.2.1, u.2.2.2.2.2.2.2.2.2.2.2.2.2.2.2.2.2.2.1, u.2.2.2.2.2.2.2.2.2.2.2.2.2.2.2.2.2.2.2.1, u.2.2.2.2.2.2.2.2.2.2.2.2.2.2.2.2.2.2.2.2.1, u.2.2.2.2.2.2.2.2.2.2.2.2.2.2.2.2.2.2.2.2.2.1, u.2.2.2.2.2.2.2.2.2.2.2.2.2.2.2.2.2.2.2.2.2.2.1, u.2.2.2.2.2.2.2.2.2.2.2.2.2.2.2.2.2.2.2.2.2.2.2.1, u.2.2.2.2.2.2.2.2.2.2.2.2.2.2.2.2.2.2.2.2.2.2.2.2.1, u.2.2.2.2.2.2.2.2.2.2.2.2.2.2.2.2.2.2.2.2.2.2.2.2.2.1, u.2.2.2.2.2.2.2.2.2.2.2.2.2.2.2.2.2.2.2.2.2.2.2.2.2.2.1, u.2.2.2.2.2.2.2.2.2.2.2.2.2.2.2.2.2.2.2.2.2.2.2.2.2.2.2.1, u.2.2.2.2.2.2.2.2.2.2.2.2.2.2.2.2.2.2.2.2.2.2.2.2.2.2.2.2.1, u.2.2.2.2.2.2.2.2.2.2.2.2.2.2.2.2.2.2.2.2.2.2.2.2.2.2.2.2.2.1, u.2.2.2.2.2.2.2.2.2.2.2.2.2.2.2.2.2.2.2.2.2.2.2.2.2.2.2.2.2.2.1, u.2.2.2.2.2.2.2.2.2.2.2.2.2.2.2.2.2.2.2.2.2.2.2.2.2.2.2.2.2.2.2.1, z, u.2.2.2.2.2.2.2.2.2.2.2.2.2.2.2.2.2.2.2.2.2.2.2.2.2.2.2.2.2.2.2.2.2)
def xs_entryLogs (z : Nat → Int32) (u : SX) : SX := (u.1, u.2.1, u.2.2.1, u.2.2.2.1, u.2.2.2.2.1, u.2.2.2.2.2.1, u.2.2.2.2.2.2.1, u.2.2.2.2.2.2.2.1, u.2.2.2.2.2.2.2.2.1, u.2.2.2.2.2.2.2.2.2.1, u.2.2.2.2.2.2.2.2.2.2.1, u.2.2.2.2.2.2.2.2.2.2.2.1, u.2.2.2.2.2.2.2.2.2.2.2.2.1, u.2.2.2.2.2.2.2.2.2.2.2.2.2.1, u.2.2.2.2.2.2.2.2.2.2.2.2.2.2.1, u.2.2.2.2.2.2.2.2.2.2.2.2.2.2.2.1, u.2.2.2.2.2.2.2.2.2.2.2.2.2.2.2.2.1, u.2.2.2.2.2.2.2.2.2.2.2.2.2.2.2.2.2.1, u.2.2.2.2.2.2.2.2.2.2.2.2.2.2.2.2.2.2.1, u.2.2.2.2.2.2.2.2.2.2.2.2.2.2.2.2.2.2.2.1, u.2.2.2.2.2.2.2.2.2.2.2.2.2.2.2.2.2.2.2.2.1, u.2.2.2.2.2.2.2.2.2.2.2.2.2.2.2.2.2.2.2.2.2.1, u.2.2.2.2.2.2.2.2.2.2.2.2.2.2.2.2.2.2.2.2.2.2.1, u.2.2.2.2.2.2.2.2.2.2.2.2.2.2.2.2.2.2.2.2.2.2.2.1, u.2.2.2.2.2.2.2.2.2.2.2.2.2.2.2.2.2.2.2.2.2.2.2.2.1, u.2.2.2.2.2.2.2.2.2.2.2.2.2.2.2.2.2.2.2.2.2.2.2.2.2.1, u.2.2.2.2.2.2.2.2.2.2.2.2.2.2.2.2.2.2.2.2.2.2.2.2.2.2.1, u.2.2.2.2.2.2.2.2.2.2.2.2.2.2.2.2.2.2.2.2.2.2.2.2.2.2.2.1, u.2.2.2.2.2.2.2.2.2.2.2.2.2.2.2.2.2.2.2.2.2.2.2.2.2.2.2.2.1, u.2.2.2.2.2.2.2.2.2.2.2.2.2.2.2.2.2.2.2.2.2.2.2.2.2.2.2.2.2.1, u.2.2.2.2.2.2.2.2.2.2.2.2.2.2.2.2.2.2.2.2.2.2.2.2.2.2.2.2.2.2.1, u.2.2.2.2.2.2.2.2.2.2.2.2.2.2.2.2.2.2.2.2.2.2.2.2.2.2.2.2.2.2.2.1, u.2.2.2.2.2.2.2.2.2.2.2.2.2.2.2.2.2.2.2.2.2.2.2.2.2.2.2.2.2.2.2.2.1, z)
def yg_accounts (u : SY) : Int32 := u.1
def yg_maxDepth (u : SY) : Int32 := u.2.1
def yg_price (u : SY) : Int32 := u.2.2.1
def yg_fees (u : SY) : Int32 := u.2.2.2.1
def yg_minted (u : SY) : Int32 := u.2.2.2.2.1
def yg_input (u : SY) : Int32 := u.2.2.2.2.2.1
def yg_returnWord (u : SY) : Int32 := u.2.2.2.2.2.2.1
def yg_frames (u : SY) : Int32 := u.2.2.2.2.2.2.2.1
def yg_logs (u : SY) : Int32 := u.2.2.2.2.2.2.2.2.1
def yg_handed (u : SY) : Int32 := u.2.2.2.2.2.2.2.2.2.1
def yg_cells (u : SY) : Nat → Int32 := u.2.2.2.2.2.2.2.2.2.2.1
def yg_length (u : SY) : Nat → Int32 := u.2.2.2.2.2.2.2.2.2.2.2.1
def yg_world (u : SY) : Nat → Int32 := u.2.2.2.2.2.2.2.2.2.2.2.2.1
def yg_logAccounts (u : SY) : Nat → Int32 := u.2.2.2.2.2.2.2.2.2.2.2.2.2.1
def yg_logWords (u : SY) : Nat → Int32 := u.2.2.2.2.2.2.2.2.2.2.2.2.2.2.1
def yg_rec (u : SY) : Nat → Int32 := u.2.2.2.2.2.2.2.2.2.2.2.2.2.2.2.1
def yg_entry (u : SY) : Nat → Int32 := u.2.2.2.2.2.2.2.2.2.2.2.2.2.2.2.2.1
def yg_entryLogs (u : SY) : Nat → Int32 := u.2.2.2.2.2.2.2.2.2.2.2.2.2.2.2.2.2.1
def yg_left (u : SY) : Nat → Int32 := u.2.2.2.2.2.2.2.2.2.2.2.2.2.2.2.2.2.2.1
def yg_stack (u : SY) : Nat → Int32 := u.2.2.2.2.2.2.2.2.2.2.2.2.2.2.2.2.2.2.2.1
def yg_height (u : SY) : Nat → Int32 := u.2.2.2.2.2.2.2.2.2.2.2.2.2.2.2.2.2.2.2.2.1
def yg_memory (u : SY) : Nat → Int32 := u.2.2.2.2.2.2.2.2.2.2.2.2.2.2.2.2.2.2.2.2.2.1
def yg_memorySize (u : SY) : Nat → Int32 := u.2.2.2.2.2.2.2.2.2.2.2.2.2.2.2.2.2.2.2.2.2.2.1
def yg_position (u : SY) : Nat → Int32 := u.2.2.2.2.2.2.2.2.2.2.2.2.2.2.2.2.2.2.2.2.2.2.2.1
def yg_result (u : SY) : Nat → Int32 := u.2.2.2.2.2.2.2.2.2.2.2.2.2.2.2.2.2.2.2.2.2.2.2.2.1
def yg_callerOf (u : SY) : Nat → Int32 := u.2.2.2.2.2.2.2.2.2.2.2.2.2.2.2.2.2.2.2.2.2.2.2.2.2.1
def yg_valueOf (u : SY) : Nat → Int32 := u.2.2.2.2.2.2.2.2.2.2.2.2.2.2.2.2.2.2.2.2.2.2.2.2.2.2.1
def yg_inputOf (u : SY) : Nat → Int32 := u.2.2.2.2.2.2.2.2.2.2.2.2.2.2.2.2.2.2.2.2.2.2.2.2.2.2.2
def ys_accounts (z : Int32) (u : SY) : SY := (z, u.2)
def ys_maxDepth (z : Int32) (u : SY) : SY := (u.1, z, u.2.2)
def ys_price (z : Int32) (u : SY) : SY := (u.1, u.2.1, z, u.2.2.2)
def ys_fees (z : Int32) (u : SY) : SY := (u.1, u.2.1, u.2.2.1, z, u.2.2.2.2)
def ys_minted (z : Int32) (u : SY) : SY := (u.1, u.2.1, u.2.2.1, u.2.2.2.1, z, u.2.2.2.2.2)
def ys_input (z : Int32) (u : SY) : SY := (u.1, u.2.1, u.2.2.1, u.2.2.2.1, u.2.2.2.2.1, z, u.2.2.2.2.2.2)
def ys_returnWord (z : Int32) (u : SY) : SY := (u.1, u.2.1, u.2.2.1, u.2.2.2.1, u.2.2.2.2.1, u.2.2.2.2.2.1, z, u.2.2.2.2.2.2.2)
def ys_frames (z : Int32) (u : SY) : SY := (u.1, u.2.1, u.2.2.1, u.2.2.2.1, u.2.2.2.2.1, u.2.2.2.2.2.1, u.2.2.2.2.2.2.1, z, u.2.2.2.2.2.2.2.2)
def ys_logs (z : Int32) (u : SY) : SY := (u.1, u.2.1, u.2.2.1, u.2.2.2.1, u.2.2.2.2.1, u.2.2.2.2.2.1, u.2.2.2.2.2.2.1, u.2.2.2.2.2.2.2.1, z, u.2.2.2.2.2.2.2.2.2)
def ys_handed (z : Int32) (u : SY) : SY := (u.1, u.2.1, u.2.2.1, u.2.2.2.1, u.2.2.2.2.1, u.2.2.2.2.2.1, u.2.2.2.2.2.2.1, u.2.2.2.2.2.2.2.1, u.2.2.2.2.2.2.2.2.1, z, u.2.2.2.2.2.2.2.2.2.2)
def ys_cells (z : Nat → Int32) (u : SY) : SY := (u.1, u.2.1, u.2.2.1, u.2.2.2.1, u.2.2.2.2.1, u.2.2.2.2.2.1, u.2.2.2.2.2.2.1, u.2.2.2.2.2.2.2.1, u.2.2.2.2.2.2.2.2.1, u.2.2.2.2.2.2.2.2.2.1, z, u.2.2.2.2.2.2.2.2.2.2.2)
def ys_length (z : Nat → Int32) (u : SY) : SY := (u.1, u.2.1, u.2.2.1, u.2.2.2.1, u.2.2.2.2.1, u.2.2.2.2.2.1, u.2.2.2.2.2.2.1, u.2.2.2.2.2.2.2.1, u.2.2.2.2.2.2.2.2.1, u.2.2.2.2.2.2.2.2.2.1, u.2.2.2.2.2.2.2.2.2.2.1, z, u.2.2.2.2.2.2.2.2.2.2.2.2)
def ys_world (z : Nat → Int32) (u : SY) : SY := (u.1, u.2.1, u.2.2.1, u.2.2.2.1, u.2.2.2.2.1, u.2.2.2.2.2.1, u.2.2.2.2.2.2.1, u.2.2.2.2.2.2.2.1, u.2.2.2.2.2.2.2.2.1, u.2.2.2.2.2.2.2.2.2.1, u.2.2.2.2.2.2.2.2.2.2.1, u.2.2.2.2.2.2.2.2.2.2.2.1, z, u.2.2.2.2.2.2.2.2.2.2.2.2.2)
def ys_logAccounts (z : Nat → Int32) (u : SY) : SY := (u.1, u.2.1, u.2.2.1, u.2.2.2.1, u.2.2.2.2.1, u.2.2.2.2.2.1, u.2.2.2.2.2.2.1, u.2.2.2.2.2.2.2.1, u.2.2.2.2.2.2.2.2.1, u.2.2.2.2.2.2.2.2.2.1, u.2.2.2.2.2.2.2.2.2.2.1, u.2.2.2.2.2.2.2.2.2.2.2.1, u.2.2.2.2.2.2.2.2.2.2.2.2.1, z, u.2.2.2.2.2.2.2.2.2.2.2.2.2.2)
def ys_logWords (z : Nat → Int32) (u : SY) : SY := (u.1, u.2.1, u.2.2.1, u.2.2.2.1, u.2.2.2.2.1, u.2.2.2.2.2.1, u.2.2.2.2.2.2.1, u.2.2.2.2.2.2.2.1, u.2.2.2.2.2.2.2.2.1, u.2.2.2.2.2.2.2.2.2.1, u.2.2.2.2.2.2.2.2.2.2.1, u.2.2.2.2.2.2.2.2.2.2.2.1, u.2.2.2.2.2.2.2.2.2.2.2.2.1, u.2.2.2.2.2.2.2.2.2.2.2.2.2.1, z, u.2.2.2.2.2.2.2.2.2.2.2.2.2.2.2)
def ys_rec (z : Nat → Int32) (u : SY) : SY := (u.1, u.2.1, u.2.2.1, u.2.2.2.1, u.2.2.2.2.1, u.2.2.2.2.2.1, u.2.2.2.2.2.2.1, u.2.2.2.2.2.2.2.1, u.2.2.2.2.2.2.2.2.1, u.2.2.2.2.2.2.2.2.2.1, u.2.2.2.2.2.2.2.2.2.2.1, u.2.2.2.2.2.2.2.2.2.2.2.1, u.2.2.2.2.2.2.2.2.2.2.2.2.1, u.2.2.2.2.2.2.2.2.2.2.2.2.2.1, u.2.2.2.2.2.2.2.2.2.2.2.2.2.2.1, z, u.2.2.2.2.2.2.2.2.2.2.2.2.2.2.2.2)
def ys_entry (z : Nat → Int32) (u : SY) : SY := (u.1, u.2.1, u.2.2.1, u.2.2.2.1, u.2.2.2.2.1, u.2.2.2.2.2.1, u.2.2.2.2.2.2.1, u.2.2.2.2.2.2.2.1, u.2.2.2.2.2.2.2.2.1, u.2.2.2.2.2.2.2.2.2.1, u.2.2.2.2.2.2.2.2.2.2.1, u.2.2.2.2.2.2.2.2.2.2.2.1, u.2.2.2.2.2.2.2.2.2.2.2.2.1, u.2.2.2.2.2.2.2.2.2.2.2.2.2.1, u.2.2.2.2.2.2.2.2.2.2.2.2.2.2.1, u.2.2.2.2.2.2.2.2.2.2.2.2.2.2.2.1, z, u.2.2.2.2.2.2.2.2.2.2.2.2.2.2.2.2.2)
def ys_entryLogs (z : Nat → Int32) (u : SY) : SY := (u.1, u.2.1, u.2.2.1, u.2.2.2.1, u.2.2.2.2.1, u.2.2.2.2.2.1, u.2.2.2.2.2.2.1, u.2.2.2.2.2.2.2.1, u.2.2.2.2.2.2.2.2.1, u.2.2.2.2.2.2.2.2.2.1, u.2.2.2.2.2.2.2.2.2.2.1, u.2.2.2.2.2.2.2.2.2.2.2.1, u.2.2.2.2.2.2.2.2.2.2.2.2.1, u.2.2.2.2.2.2.2.2.2.2.2.2.2.1, u.2.2.2.2.2.2.2.2.2.2.2.2.2.2.1, u.2.2.2.2.2.2.2.2.2.2.2.2.2.2.2.1, u.2.2.2.2.2.2.2.2.2.2.2.2.2.2.2.2.1, z, u.2.2.2.2.2.2.2.2.2.2.2.2.2.2.2.2.2.2)
def ys_left (z : Nat → Int32) (u : SY) : SY := (u.1, u.2.1, u.2.2.1, u.2.2.2.1, u.2.2.2.2.1, u.2.2.2.2.2.1, u.2.2.2.2.2.2.1, u.2.2.2.2.2.2.2.1, u.2.2.2.2.2.2.2.2.1, u.2.2.2.2.2.2.2.2.2.1, u.2.2.2.2.2.2.2.2.2.2.1, u.2.2.2.2.2.2.2.2.2.2.2.1, u.2.2.2.2.2.2.2.2.2.2.2.2.1, u.2.2.2.2.2.2.2.2.2.2.2.2.2.1, u.2.2.2.2.2.2.2.2.2.2.2.2.2.2.1, u.2.2.2.2.2.2.2.2.2.2.2.2.2.2.2.1, u.2.2.2.2.2.2.2.2.2.2.2.2.2.2.2.2.1, u.2.2.2.2.2.2.2.2.2.2.2.2.2.2.2.2.2.1, z, u.2.2.2.2.2.2.2.2.2.2.2.2.2.2.2.2.2.2.2)
def ys_stack (z : Nat → Int32) (u : SY) : SY := (u.1, u.2.1, u.2.2.1, u.2.2.2.1, u.2.2.2.2.1, u.2.2.2.2.2.1, u.2.2.2.2.2.2.1, u.2.2.2.2.2.2.2.1, u.2.2.2.2.2.2.2.2.1, u.2.2.2.2.2.2.2.2.2.1, u.2.2.2.2.2.2.2.2.2.2.1, u.2.2.2.2.2.2.2.2.2.2.2.1, u.2.2.2.2.2.2.2.2.2.2.2.2.1, u.2.2.2.2.2.2.2.2.2.2.2.2.2.1, u.2.2.2.2.2.2.2.2.2.2.2.2.2.2.1, u.2.2.2.2.2.2.2.2.2.2.2.2.2.2.2.1, u.2.2.2.2.2.2.2.2.2.2.2.2.2.2.2.2.1, u.2.2.2.2.2.2.2.2.2.2.2.2.2.2.2.2.2.1, u.2.2.2.2.2.2.2.2.2.2.2.2.2.2.2.2.2.2.1, z, u.2.2.2.2.2.2.2.2.2.2.2.2.2.2.2.2.2.2.2.2)
def ys_height (z : Nat → Int32) (u : SY) : SY := (u.1, u.2.1, u.2.2.1, u.2.2.2.1, u.2.2.2.2.1, u.2.2.2.2.2.1, u.2.2.2.2.2.2.1, u.2.2.2.2.2.2.2.1, u.2.2.2.2.2.2.2.2.1, u.2.2.2.2.2.2.2.2.2.1, u.2.2.2.2.2.2.2.2.2.2.1, u.2.2.2.2.2.2.2.2.2.2.2.1, u.2.2.2.2.2.2.2.2.2.2.2.2.1, u.2.2.2.2.2.2.2.2.2.2.2.2.2.1, u.2.2.2.2.2.2.2.2.2.2.2.2.2.2.1, u.2.2.2.2.2.2.2.2.2.2.2.2.2.2.2.1, u.2.2.2.2.2.2.2.2.2.2.2.2.2.2.2.2.1, u.2.2.2.2.2.2.2.2.2.2.2.2.2.2.2.2.2.1, u.2.2.2.2.2.2.2.2.2.2.2.2.2.2.2.2.2.2.1, u.2.2.2.2.2.2.2.2.2.2.2.2.2.2.2.2.2.2.2.1, z, u.2.2.2.2.2.2.2.2.2.2.2.2.2.2.2.2.2.2.2.2.2)
def ys_memory (z : Nat → Int32) (u : SY) : SY := (u.1, u.2.1, u.2.2.1, u.2.2.2.1, u.2.2.2.2.1, u.2.2.2.2.2.1, u.2.2.2.2.2.2.1, u.2.2.2.2.2.2.2.1, u.2.2.2.2.2.2.2.2.1, u.2.2.2.2.2.2.2.2.2.1, u.2.2.2.2.2.2.2.2.2.2.1, u.2.2.2.2.2.2.2.2.2.2.2.1, u.2.2.2.2.2.2.2.2.2.2.2.2.1, u.2.2.2.2.2.2.2.2.2.2.2.2.2.1, u.2.2.2.2.2.2.2.2.2.2.2.2.2.2.1, u.2.2.2.2.2.2.2.2.2.2.2.2.2.2.2.1, u.2.2.2.2.2.2.2.2.2.2.2.2.2.2.2.2.1, u.2.2.2.2.2.2.2.2.2.2.2.2.2.2.2.2.2.1, u.2.2.2.2.2.2.2.2.2.2.2.2.2.2.2.2.2.2.1, u.2.2.2.2.2.2.2.2.2.2.2.2.2.2.2.2.2.2.2.1, u.2.2.2.2.2.2.2.2.2.2.2.2.2.2.2.2.2.2.2.2.1, z, u.2.2.2.2.2.2.2.2.2.2.2.2.2.2.2.2.2.2.2.2.2.2)
def ys_memorySize (z : Nat → Int32) (u : SY) : SY := (u.1, u.2.1, u.2.2.1, u.2.2.2.1, u.2.2.2.2.1, u.2.2.2.2.2.1, u.2.2.2.2.2.2.1, u.2.2.2.2.2.2.2.1, u.2.2.2.2.2.2.2.2.1, u.2.2.2.2.2.2.2.2.2.1, u.2.2.2.2.2.2.2.2.2.2.1, u.2.2.2.2.2.2.2.2.2.2.2.1, u.2.2.2.2.2.2.2.2.2.2.2.2.1, u.2.2.2.2.2.2.2.2.2.2.2.2.2.1, u.2.2.2.2.2.2.2.2.2.2.2.2.2.2.1, u.2.2.2.2.2.2.2.2.2.2.2.2.2.2.2.1, u.2.2.2.2.2.2.2.2.2.2.2.2.2.2.2.2.1, u.2.2.2.2.2.2.2.2.2.2.2.2.2.2.2.2.2.1, u.2.2.2.2.2.2.2.2.2.2.2.2.2.2.2.2.2.2.1, u.2.2.2.2.2.2.2.2.2.2.2.2.2.2.2.2.2.2.2.1, u.2.2.2.2.2.2.2.2.2.2.2.2.2.2.2.2.2.2.2.2.1, u.2.2.2.2.2.2.2.2.2.2.2.2.2.2.2.2.2.2.2.2.2.1, z, u.2.2.2.2.2.2.2.2.2.2.2.2.2.2.2.2.2.2.2.2.2.2.2)
def ys_position (z : Nat → Int32) (u : SY) : SY := (u.1, u.2.1, u.2.2.1, u.2.2.2.1, u.2.2.2.2.1, u.2.2.2.2.2.1, u.2.2.2.2.2.2.1, u.2.2.2.2.2.2.2.1, u.2.2.2.2.2.2.2.2.1, u.2.2.2.2.2.2.2.2.2.1, u.2.2.2.2.2.2.2.2.2.2.1, u.2.2.2.2.2.2.2.2.2.2.2.1, u.2.2.2.2.2.2.2.2.2.2.2.2.1, u.2.2.2.2.2.2.2.2.2.2.2.2.2.1, u.2.2.2.2.2.2.2.2.2.2.2.2.2.2.1, u.2.2.2.2.2.2.2.2.2.2.2.2.2.2.2.1, u.2.2.2.2.2.2.2.2.2.2.2.2.2.2.2.2.1, u.2.2.2.2.2.2.2.2.2.2.2.2.2.2.2.2.2.1, u.2.2.2.2.2.2.2.2.2.2.2.2.2.2.2.2.2.2.1, u.2.2.2.2.2.2.2.2.2.2.2.2.2.2.2.2.2.2.2.1, u.2.2.2.2.2.2.2.2.2.2.2.2.2.2.2.2.2.2.2.2.1, u.2.2.2.2.2.2.2.2.2.2.2.2.2.2.2.2.2.2.2.2.2.1, u.2.2.2.2.2.2.2.2.2.2.2.2.2.2.2.2.2.2.2.2.2.2.1, z, u.2.2.2.2.2.2.2.2.2.2.2.2.2.2.2.2.2.2.2.2.2.2.2.2)
def ys_result (z : Nat → Int32) (u : SY) : SY := (u.1, u.2.1, u.2.2.1, u.2.2.2.1, u.2.2.2.2.1, u.2.2.2.2.2.1, u.2.2.2.2.2.2.1, u.2.2.2.2.2.2.2.1, u.2.2.2.2.2.2.2.2.1, u.2.2.2.2.2.2.2.2.2.1, u.2.2.2.2.2.2.2.2.2.2.1, u.2.2.2.2.2.2.2.2.2.2.2.1, u.2.2.2.2.2.2.2.2.2.2.2.2.1, u.2.2.2.2.2.2.2.2.2.2.2.2.2.1, u.2.2.2.2.2.2.2.2.2.2.2.2.2.2.1, u.2.2.2.2.2.2.2.2.2.2.2.2.2.2.2.1, u.2.2.2.2.2.2.2.2.2.2.2.2.2.2.2.2.1, u.2.2.2.2.2.2.2.2.2.2.2.2.2.2.2.2.2.1, u.2.2.2.2.2.2.2.2.2.2.2.2.2.2.2.2.2.2.1, u.2.2.2.2.2.2.2.2.2.2.2.2.2.2.2.2.2.2.2.1, u.2.2.2.2.2.2.2.2.2.2.2.2.2.2.2.2.2.2.2.2.1, u.2.2.2.2.2.2.2.2.2.2.2.2.2.2.2.2.2.2.2.2.2.1, u.2.2.2.2.2.2.2.2.2.2.2.2.2.2.2.2.2.2.2.2.2.2.1, u.2.2.2.2.2.2.2.2.2.2.2.2.2.2.2.2.2.2.2.2.2.2.2.1, z, u.2.2.2.2.2.2.2.2.2.2.2.2.2.2.2.2.2.2.2.2.2.2.2.2.2)
def ys_callerOf (z : Nat → Int32) (u : SY) : SY := (u.1, u.2.1, u.2.2.1, u.2.2.2.1, u.2.2.2.2.1, u.2.2.2.2.2.1, u.2.2.2.2.2.2.1, u.2.2.2.2.2.2.2.1, u.2.2.2.2.2.2.2.2.1, u.2.2.2.2.2.2.2.2.2.1, u.2.2.2.2.2.2.2.2.2.2.1, u.2.2.2.2.2.2.2.2.2.2.2.1, u.2.2.2.2.2.2.2.2.2.2.2.2.1, u.2.2.2.2.2.2.2.2.2.2.2.2.2.1, u.2.2.2.2.2.2.2.2.2.2.2.2.2.2.1, u.2.2.2.2.2.2.2.2.2.2.2.2.2.2.2.1, u.2.2.2.2.2.2.2.2.2.2.2.2.2.2.2.2.1, u.2.2.2.2.2.2.2.2.2.2.2.2.2.2.2.2.2.1, u.2.2.2.2.2.2.2.2.2.2.2.2.2.2.2.2.2.2.1, u.2.2.2.2.2.2.2.2.2.2.2.2.2.2.2.2.2.2.2.1, u.2.2.2.2.2.2.2.2.2.2.2.2.2.2.2.2.2.2.2.2.1, u.2.2.2.2.2.2.2.2.2.2.2.2.2.2.2.2.2.2.2.2.2.1, u.2.2.2.2.2.2.2.2.2.2.2.2.2.2.2.2.2.2.2.2.2.2.1, u.2.2.2.2.2.2.2.2.2.2.2.2.2.2.2.2.2.2.2.2.2.2.2.1, u.2.2.2.2.2.2.2.2.2.2.2.2.2.2.2.2.2.2.2.2.2.2.2.2.1, z, u.2.2.2.2.2.2.2.2.2.2.2.2.2.2.2.2.2.2.2.2.2.2.2.2.2.2)
def ys_valueOf (z : Nat → Int32) (u : SY) : SY := (u.1, u.2.1, u.2.2.1, u.2.2.2.1, u.2.2.2.2.1, u.2.2.2.2.2.1, u.2.2.2.2.2.2.1, u.2.2.2.2.2.2.2.1, u.2.2.2.2.2.2.2.2.1, u.2.2.2.2.2.2.2.2.2.1, u.2.2.2.2.2.2.2.2.2.2.1, u.2.2.2.2.2.2.2.2.2.2.2.1, u.2.2.2.2.2.2.2.2.2.2.2.2.1, u.2.2.2.2.2.2.2.2.2.2.2.2.2.1, u.2.2.2.2.2.2.2.2.2.2.2.2.2.2.1, u.2.2.2.2.2.2.2.2.2.2.2.2.2.2.2.1, u.2.2.2.2.2.2.2.2.2.2.2.2.2.2.2.2.1, u.2.2.2.2.2.2.2.2.2.2.2.2.2.2.2.2.2.1, u.2.2.2.2.2.2.2.2.2.2.2.2.2.2.2.2.2.2.1, u.2.2.2.2.2.2.2.2.2.2.2.2.2.2.2.2.2.2.2.1, u.2.2.2.2.2.2.2.2.2.2.2.2.2.2.2.2.2.2.2.2.1, u.2.2.2.2.2.2.2.2.2.2.2.2.2.2.2.2.2.2.2.2.2.1, u.2.2.2.2.2.2.2.2.2.2.2.2.2.2.2.2.2.2.2.2.2.2.1, u.2.2.2.2.2.2.2.2.2.2.2.2.2.2.2.2.2.2.2.2.2.2.2.1, u.2.2.2.2.2.2.2.2.2.2.2.2.2.2.2.2.2.2.2.2.2.2.2.2.1, u.2.2.2.2.2.2.2.2.2.2.2.2.2.2.2.2.2.2.2.2.2.2.2.2.2.1, z, u.2.2.2.2.2.2.2.2.2.2.2.2.2.2.2.2.2.2.2.2.2.2.2.2.2.2.2)
def ys_inputOf (z : Nat → Int32) (u : SY) : SY := (u.1, u.2.1, u.2.2.1, u.2.2.2.1, u.2.2.2.2.1, u.2.2.2.2.2.1, u.2.2.2.2.2.2.1, u.2.2.2.2.2.2.2.1, u.2.2.2.2.2.2.2.2.1, u.2.2.2.2.2.2.2.2.2.1, u.2.2.2.2.2.2.2.2.2.2.1, u.2.2.2.2.2.2.2.2.2.2.2.1, u.2.2.2.2.2.2.2.2.2.2.2.2.1, u.2.2.2.2.2.2.2.2.2.2.2.2.2.1, u.2.2.2.2.2.2.2.2.2.2.2.2.2.2.1, u.2.2.2.2.2.2.2.2.2.2.2.2.2.2.2.1, u.2.2.2.2.2.2.2.2.2.2.2.2.2.2.2.2.1, u.2.2.2.2.2.2.2.2.2.2.2.2.2.2.2.2.2.1, u.2.2.2.2.2.2.2.2.2.2.2.2.2.2.2.2.2.2.1, u.2.2.2.2.2.2.2.2.2.2.2.2.2.2.2.2.2.2.2.1, u.2.2.2.2.2.2.2.2.2.2.2.2.2.2.2.2.2.2.2.2.1, u.2.2.2.2.2.2.2.2.2.2.2.2.2.2.2.2.2.2.2.2.2.1, u.2.2.2.2.2.2.2.2.2.2.2.2.2.2.2.2.2.2.2.2.2.2.1, u.2.2.2.2.2.2.2.2.2.2.2.2.2.2.2.2.2.2.2.2.2.2.2.1, u.2.2.2.2.2.2.2.2.2.2.2.2.2.2.2.2.2.2.2.2.2.2.2.2.1, u.2.2.2.2.2.2.2.2.2.2.2.2.2.2.2.2.2.2.2.2.2.2.2.2.2.1, u.2.2.2.2.2.2.2.2.2.2.2.2.2.2.2.2.2.2.2.2.2.2.2.2.2.2.1, z)
def xm_cells_lengths (z0 : Nat → Int32) (z1 : Nat → Int32) (u : SX) : SX := (u.1, u.2.1, u.2.2.1, u.2.2.2.1, u.2.2.2.2.1, u.2.2.2.2.2.1, u.2.2.2.2.2.2.1, u.2.2.2.2.2.2.2.1, u.2.2.2.2.2.2.2.2.1, u.2.2.2.2.2.2.2.2.2.1, z0, z1, u.2.2.2.2.2.2.2.2.2.2.2.2.1, u.2.2.2.2.2.2.2.2.2.2.2.2.2.1, u.2.2.2.2.2.2.2.2.2.2.2.2.2.2.1, u.2.2.2.2.2.2.2.2.2.2.2.2.2.2.2.1, u.2.2.2.2.2.2.2.2.2.2.2.2.2.2.2.2.1, u.2.2.2.2.2.2.2.2.2.2.2.2.2.2.2.2.2.1, u.2.2.2.2.2.2.2.2.2.2.2.2.2.2.2.2.2.2.1, u.2.2.2.2.2.2.2.2.2.2.2.2.2.2.2.2.2.2.2.1, u.2.2.2.2.2.2.2.2.2.2.2.2.2.2.2.2.2.2.2.2.1, u.2.2.2.2.2.2.2.2.2.2.2.2.2.2.2.2.2.2.2.2.2.1, u.2.2.2.2.2.2.2.2.2.2.2.2.2.2.2.2.2.2.2.2.2.2.1, u.2.2.2.2.2.2.2.2.2.2.2.2.2.2.2.2.2.2.2.2.2.2.2.1, u.2.2.2.2.2.2.2.2.2.2.2.2.2.2.2.2.2.2.2.2.2.2.2.2.1, u.2.2.2.2.2.2.2.2.2.2.2.2.2.2.2.2.2.2.2.2.2.2.2.2.2.1, u.2.2.2.2.2.2.2.2.2.2.2.2.2.2.2.2.2.2.2.2.2.2.2.2.2.2.1, u.2.2.2.2.2.2.2.2.2.2.2.2.2.2.2.2.2.2.2.2.2.2.2.2.2.2.2.1, u.2.2.2.2.2.2.2.2.2.2.2.2.2.2.2.2.2.2.2.2.2.2.2.2.2.2.2.2.1, u.2.2.2.2.2.2.2.2.2.2.2.2.2.2.2.2.2.2.2.2.2.2.2.2.2.2.2.2.2.1, u.2.2.2.2.2.2.2.2.2.2.2.2.2.2.2.2.2.2.2.2.2.2.2.2.2.2.2.2.2.2.1, u.2.2.2.2.2.2.2.2.2.2.2.2.2.2.2.2.2.2.2.2.2.2.2.2.2.2.2.2.2.2.2.1, u.2.2.2.2.2.2.2.2.2.2.2.2.2.2.2.2.2.2.2.2.2.2.2.2.2.2.2.2.2.2.2.2.1, u.2.2.2.2.2.2.2.2.2.2.2.2.2.2.2.2.2.2.2.2.2.2.2.2.2.2.2.2.2.2.2.2.2)
def xm_frGas_frOwn_frAt (z0 : Nat → Int32) (z1 : Nat → Int32) (z2 : Nat → Int32) (u : SX) : SX := (u.1, u.2.1, u.2.2.1, u.2.2.2.1, u.2.2.2.2.1, u.2.2.2.2.2.1, u.2.2.2.2.2.2.1, u.2.2.2.2.2.2.2.1, u.2.2.2.2.2.2.2.2.1, u.2.2.2.2.2.2.2.2.2.1, u.2.2.2.2.2.2.2.2.2.2.1, u.2.2.2.2.2.2.2.2.2.2.2.1, u.2.2.2.2.2.2.2.2.2.2.2.2.1, u.2.2.2.2.2.2.2.2.2.2.2.2.2.1, u.2.2.2.2.2.2.2.2.2.2.2.2.2.2.1, u.2.2.2.2.2.2.2.2.2.2.2.2.2.2.2.1, u.2.2.2.2.2.2.2.2.2.2.2.2.2.2.2.2.1, u.2.2.2.2.2.2.2.2.2.2.2.2.2.2.2.2.2.1, u.2.2.2.2.2.2.2.2.2.2.2.2.2.2.2.2.2.2.1, u.2.2.2.2.2.2.2.2.2.2.2.2.2.2.2.2.2.2.2.1, u.2.2.2.2.2.2.2.2.2.2.2.2.2.2.2.2.2.2.2.2.1, u.2.2.2.2.2.2.2.2.2.2.2.2.2.2.2.2.2.2.2.2.2.1, u.2.2.2.2.2.2.2.2.2.2.2.2.2.2.2.2.2.2.2.2.2.2.1, u.2.2.2.2.2.2.2.2.2.2.2.2.2.2.2.2.2.2.2.2.2.2.2.1, z0, z1, z2, u.2.2.2.2.2.2.2.2.2.2.2.2.2.2.2.2.2.2.2.2.2.2.2.2.2.2.2.1, u.2.2.2.2.2.2.2.2.2.2.2.2.2.2.2.2.2.2.2.2.2.2.2.2.2.2.2.2.1, u.2.2.2.2.2.2.2.2.2.2.2.2.2.2.2.2.2.2.2.2.2.2.2.2.2.2.2.2.2.1, u.2.2.2.2.2.2.2.2.2.2.2.2.2.2.2.2.2.2.2.2.2.2.2.2.2.2.2.2.2.2.1, u.2.2.2.2.2.2.2.2.2.2.2.2.2.2.2.2.2.2.2.2.2.2.2.2.2.2.2.2.2.2.2.1, u.2.2.2.2.2.2.2.2.2.2.2.2.2.2.2.2.2.2.2.2.2.2.2.2.2.2.2.2.2.2.2.2.1, u.2.2.2.2.2.2.2.2.2.2.2.2.2.2.2.2.2.2.2.2.2.2.2.2.2.2.2.2.2.2.2.2.2)
def xm_frGas_frResult (z0 : Nat → Int32) (z1 : Nat → Int32) (u : SX) : SX := (u.1, u.2.1, u.2.2.1, u.2.2.2.1, u.2.2.2.2.1, u.2.2.2.2.2.1, u.2.2.2.2.2.2.1, u.2.2.2.2.2.2.2.1, u.2.2.2.2.2.2.2.2.1, u.2.2.2.2.2.2.2.2.2.1, u.2.2.2.2.2.2.2.2.2.2.1, u.2.2.2.2.2.2.2.2.2.2.2.1, u.2.2.2.2.2.2.2.2.2.2.2.2.1, u.2.2.2.2.2.2.2.2.2.2.2.2.2.1, u.2.2.2.2.2.2.2.2.2.2.2.2.2.2.1, u.2.2.2.2.2.2.2.2.2.2.2.2.2.2.2.1, u.2.2.2.2.2.2.2.2.2.2.2.2.2.2.2.2.1, u.2.2.2.2.2.2.2.2.2.2.2.2.2.2.2.2.2.1, u.2.2.2.2.2.2.2.2.2.2.2.2.2.2.2.2.2.2.1, u.2.2.2.2.2.2.2.2.2.2.2.2.2.2.2.2.2.2.2.1, u.2.2.2.2.2.2.2.2.2.2.2.2.2.2.2.2.2.2.2.2.1, u.2.2.2.2.2.2.2.2.2.2.2.2.2.2.2.2.2.2.2.2.2.1, u.2.2.2.2.2.2.2.2.2.2.2.2.2.2.2.2.2.2.2.2.2.2.1, u.2.2.2.2.2.2.2.2.2.2.2.2.2.2.2.2.2.2.2.2.2.2.2.1, z0, u.2.2.2.2.2.2.2.2.2.2.2.2.2.2.2.2.2.2.2.2.2.2.2.2.2.1, u.2.2.2.2.2.2.2.2.2.2.2.2.2.2.2.2.2.2.2.2.2.2.2.2.2.2.1, u.2.2.2.2.2.2.2.2.2.2.2.2.2.2.2.2.2.2.2.2.2.2.2.2.2.2.2.1, u.2.2.2.2.2.2.2.2.2.2.2.2.2.2.2.2.2.2.2.2.2.2.2.2.2.2.2.2.1, z1, u.2.2.2.2.2.2.2.2.2.2.2.2.2.2.2.2.2.2.2.2.2.2.2.2.2.2.2.2.2.2.1, u.2.2.2.2.2.2.2.2.2.2.2.2.2.2.2.2.2.2.2.2.2.2.2.2.2.2.2.2.2.2.2.1, u.2.2.2.2.2.2.2.2.2.2.2.2.2.2.2.2.2.2.2.2.2.2.2.2.2.2.2.2.2.2.2.2.1, u.2.2.2.2.2.2.2.2.2.2.2.2.2.2.2.2.2.2.2.2.2.2.2.2.2.2.2.2.2.2.2.2.2)
def xm_frHeight_stack (z0 : Nat → Int32) (z1 : Nat → Int32) (u : SX) : SX := (u.1, u.2.1, u.2.2.1, u.2.2.2.1, u.2.2.2.2.1, u.2.2.2.2.2.1, u.2.2.2.2.2.2.1, u.2.2.2.2.2.2.2.1, u.2.2.2.2.2.2.2.2.1, u.2.2.2.2.2.2.2.2.2.1, u.2.2.2.2.2.2.2.2.2.2.1, u.2.2.2.2.2.2.2.2.2.2.2.1, u.2.2.2.2.2.2.2.2.2.2.2.2.1, u.2.2.2.2.2.2.2.2.2.2.2.2.2.1, u.2.2.2.2.2.2.2.2.2.2.2.2.2.2.1, u.2.2.2.2.2.2.2.2.2.2.2.2.2.2.2.1, u.2.2.2.2.2.2.2.2.2.2.2.2.2.2.2.2.1, u.2.2.2.2.2.2.2.2.2.2.2.2.2.2.2.2.2.1, u.2.2.2.2.2.2.2.2.2.2.2.2.2.2.2.2.2.2.1, u.2.2.2.2.2.2.2.2.2.2.2.2.2.2.2.2.2.2.2.1, u.2.2.2.2.2.2.2.2.2.2.2.2.2.2.2.2.2.2.2.2.1, u.2.2.2.2.2.2.2.2.2.2.2.2.2.2.2.2.2.2.2.2.2.1, u.2.2.2.2.2.2.2.2.2.2.2.2.2.2.2.2.2.2.2.2.2.2.1, u.2.2.2.2.2.2.2.2.2.2.2.2.2.2.2.2.2.2.2.2.2.2.2.1, u.2.2.2.2.2.2.2.2.2.2.2.2.2.2.2.2.2.2.2.2.2.2.2.2.1, u.2.2.2.2.2.2.2.2.2.2.2.2.2.2.2.2.2.2.2.2.2.2.2.2.2.1, u.2.2.2.2.2.2.2.2.2.2.2.2.2.2.2.2.2.2.2.2.2.2.2.2.2.2.1, z0, u.2.2.2.2.2.2.2.2.2.2.2.2.2.2.2.2.2.2.2.2.2.2.2.2.2.2.2.2.1, u.2.2.2.2.2.2.2.2.2.2.2.2.2.2.2.2.2.2.2.2.2.2.2.2.2.2.2.2.2.1, z1, u.2.2.2.2.2.2.2.2.2.2.2.2.2.2.2.2.2.2.2.2.2.2.2.2.2.2.2.2.2.2.2.1, u.2.2.2.2.2.2.2.2.2.2.2.2.2.2.2.2.2.2.2.2.2.2.2.2.2.2.2.2.2.2.2.2.1, u.2.2.2.2.2.2.2.2.2.2.2.2.2.2.2.2.2.2.2.2.2.2.2.2.2.2.2.2.2.2.2.2.2)
def xm_frKind_frCode_frSelf_frCaller_frValue_frInput_frStatic (z0 : Nat → Int32) (z1 : Nat → Int32) (z2 : Nat → Int32) (z3 : Nat → Int32) (z4 : Nat → Int32) (z5 : Nat → Int32) (z6 : Nat → Int32) (u : SX) : SX := (u.1, u.2.1, u.2.2.1, u.2.2.2.1, u.2.2.2.2.1, u.2.2.2.2.2.1, u.2.2.2.2.2.2.1, u.2.2.2.2.2.2.2.1, u.2.2.2.2.2.2.2.2.1, u.2.2.2.2.2.2.2.2.2.1, u.2.2.2.2.2.2.2.2.2.2.1, u.2.2.2.2.2.2.2.2.2.2.2.1, u.2.2.2.2.2.2.2.2.2.2.2.2.1, u.2.2.2.2.2.2.2.2.2.2.2.2.2.1, u.2.2.2.2.2.2.2.2.2.2.2.2.2.2.1, u.2.2.2.2.2.2.2.2.2.2.2.2.2.2.2.1, u.2.2.2.2.2.2.2.2.2.2.2.2.2.2.2.2.1, z0, z1, z2, z3, z4, z5, z6, u.2.2.2.2.2.2.2.2.2.2.2.2.2.2.2.2.2.2.2.2.2.2.2.2.1, u.2.2.2.2.2.2.2.2.2.2.2.2.2.2.2.2.2.2.2.2.2.2.2.2.2.1, u.2.2.2.2.2.2.2.2.2.2.2.2.2.2.2.2.2.2.2.2.2.2.2.2.2.2.1, u.2.2.2.2.2.2.2.2.2.2.2.2.2.2.2.2.2.2.2.2.2.2.2.2.2.2.2.1, u.2.2.2.2.2.2.2.2.2.2.2.2.2.2.2.2.2.2.2.2.2.2.2.2.2.2.2.2.1, u.2.2.2.2.2.2.2.2.2.2.2.2.2.2.2.2.2.2.2.2.2.2.2.2.2.2.2.2.2.1, u.2.2.2.2.2.2.2.2.2.2.2.2.2.2.2.2.2.2.2.2.2.2.2.2.2.2.2.2.2.2.1, u.2.2.2.2.2.2.2.2.2.2.2.2.2.2.2.2.2.2.2.2.2.2.2.2.2.2.2.2.2.2.2.1, u.2.2.2.2.2.2.2.2.2.2.2.2.2.2.2.2.2.2.2.2.2.2.2.2.2.2.2.2.2.2.2.2.1, u.2.2.2.2.2.2.2.2.2.2.2.2.2.2.2.2.2.2.2.2.2.2.2.2.2.2.2.2.2.2.2.2.2)
def xm_frNumber_frGas_frOwn_frAt_frHeight_frMemSize_frResult (z0 : Nat → Int32) (z1 : Nat → Int32) (z2 : Nat → Int32) (z3 : Nat → Int32) (z4 : Nat → Int32) (z5 : Nat → Int32) (z6 : Nat → Int32) (u : SX) : SX := (u.1, u.2.1, u.2.2.1, u.2.2.2.1, u.2.2.2.2.1, u.2.2.2.2.2.1, u.2.2.2.2.2.2.1, u.2.2.2.2.2.2.2.1, u.2.2.2.2.2.2.2.2.1, u.2.2.2.2.2.2.2.2.2.1, u.2.2.2.2.2.2.2.2.2.2.1, u.2.2.2.2.2.2.2.2.2.2.2.1, u.2.2.2.2.2.2.2.2.2.2.2.2.1, u.2.2.2.2.2.2.2.2.2.2.2.2.2.1, u.2.2.2.2.2.2.2.2.2.2.2.2.2.2.1, u.2.2.2.2.2.2.2.2.2.2.2.2.2.2.2.1, z0, u.2.2.2.2.2.2.2.2.2.2.2.2.2.2.2.2.2.1, u.2.2.2.2.2.2.2.2.2.2.2.2.2.2.2.2.2.2.1, u.2.2.2.2.2.2.2.2.2.2.2.2.2.2.2.2.2.2.2.1, u.2.2.2.2.2.2.2.2.2.2.2.2.2.2.2.2.2.2.2.2.1, u.2.2.2.2.2.2.2.2.2.2.2.2.2.2.2.2.2.2.2.2.2.1, u.2.2.2.2.2.2.2.2.2.2.2.2.2.2.2.2.2.2.2.2.2.2.1, u.2.2.2.2.2.2.2.2.2.2.2.2.2.2.2.2.2.2.2.2.2.2.2.1, z1, z2, z3, z4, z5, z6, u.2.2.2.2.2.2.2.2.2.2.2.2.2.2.2.2.2.2.2.2.2.2.2.2.2.2.2.2.2.2.1, u.2.2.2.2.2.2.2.2.2.2.2.2.2.2.2.2.2.2.2.2.2.2.2.2.2.2.2.2.2.2.2.1, u.2.2.2.2.2.2.2.2.2.2.2.2.2.2.2.2.2.2.2.2.2.2.2.2.2.2.2.2.2.2.2.2.1, u.2.2.2.2.2.2.2.2.2.2.2.2.2.2.2.2.2.2.2.2.2.2.2.2.2.2.2.2.2.2.2.2.2)
def xm_active_records (z0 : Int32) (z1 : Nat → Int32) (u : SX) : SX := (u.1, u.2.1, u.2.2.1, u.2.2.2.1, u.2.2.2.2.1, u.2.2.2.2.2.1, u.2.2.2.2.2.2.1, u.2.2.2.2.2.2.2.1, u.2.2.2.2.2.2.2.2.1, z0, u.2.2.2.2.2.2.2.2.2.2.1, u.2.2.2.2.2.2.2.2.2.2.2.1, u.2.2.2.2.2.2.2.2.2.2.2.2.1, z1, u.2.2.2.2.2.2.2.2.2.2.2.2.2.2.1, u.2.2.2.2.2.2.2.2.2.2.2.2.2.2.2.1, u.2.2.2.2.2.2.2.2.2.2.2.2.2.2.2.2.1, u.2.2.2.2.2.2.2.2.2.2.2.2.2.2.2.2.2.1, u.2.2.2.2.2.2.2.2.2.2.2.2.2.2.2.2.2.2.1, u.2.2.2.2.2.2.2.2.2.2.2.2.2.2.2.2.2.2.2.1, u.2.2.2.2.2.2.2.2.2.2.2.2.2.2.2.2.2.2.2.2.1, u.2.2.2.2.2.2.2.2.2.2.2.2.2.2.2.2.2.2.2.2.2.1, u.2.2.2.2.2.2.2.2.2.2.2.2.2.2.2.2.2.2.2.2.2.2.1, u.2.2.2.2.2.2.2.2.2.2.2.2.2.2.2.2.2.2.2.2.2.2.2.1, u.2.2.2.2.2.2.2.2.2.2.2.2.2.2.2.2.2.2.2.2.2.2.2.2.1, u.2.2.2.2.2.2.2.2.2.2.2.2.2.2.2.2.2.2.2.2.2.2.2.2.2.1, u.2.2.2.2.2.2.2.2.2.2.2.2.2.2.2.2.2.2.2.2.2.2.2.2.2.2.1, u.2.2.2.2.2.2.2.2.2.2.2.2.2.2.2.2.2.2.2.2.2.2.2.2.2.2.2.1, u.2.2.2.2.2.2.2.2.2.2.2.2.2.2.2.2.2.2.2.2.2.2.2.2.2.2.2.2.1, u.2.2.2.2.2.2.2.2.2.2.2.2.2.2.2.2.2.2.2.2.2.2.2.2.2.2.2.2.2.1, u.2.2.2.2.2.2.2.2.2.2.2.2.2.2.2.2.2.2.2.2.2.2.2.2.2.2.2.2.2.2.1, u.2.2.2.2.2.2.2.2.2.2.2.2.2.2.2.2.2.2.2.2.2.2.2.2.2.2.2.2.2.2.2.1, u.2.2.2.2.2.2.2.2.2.2.2.2.2.2.2.2.2.2.2.2.2.2.2.2.2.2.2.2.2.2.2.2.1, u.2.2.2.2.2.2.2.2.2.2.2.2.2.2.2.2.2.2.2.2.2.2.2.2.2.2.2.2.2.2.2.2.2)
def xm_feeSum_world (z0 : Int32) (z1 : Nat → Int32) (u : SX) : SX := (u.1, u.2.1, u.2.2.1, z0, u.2.2.2.2.1, u.2.2.2.2.2.1, u.2.2.2.2.2.2.1, u.2.2.2.2.2.2.2.1, u.2.2.2.2.2.2.2.2.1, u.2.2.2.2.2.2.2.2.2.1, u.2.2.2.2.2.2.2.2.2.2.1, u.2.2.2.2.2.2.2.2.2.2.2.1, z1, u.2.2.2.2.2.2.2.2.2.2.2.2.2.1, u.2.2.2.2.2.2.2.2.2.2.2.2.2.2.1, u.2.2.2.2.2.2.2.2.2.2.2.2.2.2.2.1, u.2.2.2.2.2.2.2.2.2.2.2.2.2.2.2.2.1, u.2.2.2.2.2.2.2.2.2.2.2.2.2.2.2.2.2.1, u.2.2.2.2.2.2.2.2.2.2.2.2.2.2.2.2.2.2.1, u.2.2.2.2.2.2.2.2.2.2.2.2.2.2.2.2.2.2.2.1, u.2.2.2.2.2.2.2.2.2.2.2.2.2.2.2.2.2.2.2.2.1, u.2.2.2.2.2.2.2.2.2.2.2.2.2.2.2.2.2.2.2.2.2.1, u.2.2.2.2.2.2.2.2.2.2.2.2.2.2.2.2.2.2.2.2.2.2.1, u.2.2.2.2.2.2.2.2.2.2.2.2.2.2.2.2.2.2.2.2.2.2.2.1, u.2.2.2.2.2.2.2.2.2.2.2.2.2.2.2.2.2.2.2.2.2.2.2.2.1, u.2.2.2.2.2.2.2.2.2.2.2.2.2.2.2.2.2.2.2.2.2.2.2.2.2.1, u.2.2.2.2.2.2.2.2.2.2.2.2.2.2.2.2.2.2.2.2.2.2.2.2.2.2.1, u.2.2.2.2.2.2.2.2.2.2.2.2.2.2.2.2.2.2.2.2.2.2.2.2.2.2.2.1, u.2.2.2.2.2.2.2.2.2.2.2.2.2.2.2.2.2.2.2.2.2.2.2.2.2.2.2.2.1, u.2.2.2.2.2.2.2.2.2.2.2.2.2.2.2.2.2.2.2.2.2.2.2.2.2.2.2.2.2.1, u.2.2.2.2.2.2.2.2.2.2.2.2.2.2.2.2.2.2.2.2.2.2.2.2.2.2.2.2.2.2.1, u.2.2.2.2.2.2.2.2.2.2.2.2.2.2.2.2.2.2.2.2.2.2.2.2.2.2.2.2.2.2.2.1, u.2.2.2.2.2.2.2.2.2.2.2.2.2.2.2.2.2.2.2.2.2.2.2.2.2.2.2.2.2.2.2.2.1, u.2.2.2.2.2.2.2.2.2.2.2.2.2.2.2.2.2.2.2.2.2.2.2.2.2.2.2.2.2.2.2.2.2)
def xm_frameTotal_active (z0 : Int32) (z1 : Int32) (u : SX) : SX := (u.1, u.2.1, u.2.2.1, u.2.2.2.1, u.2.2.2.2.1, u.2.2.2.2.2.1, z0, u.2.2.2.2.2.2.2.1, u.2.2.2.2.2.2.2.2.1, z1, u.2.2.2.2.2.2.2.2.2.2.1, u.2.2.2.2.2.2.2.2.2.2.2.1, u.2.2.2.2.2.2.2.2.2.2.2.2.1, u.2.2.2.2.2.2.2.2.2.2.2.2.2.1, u.2.2.2.2.2.2.2.2.2.2.2.2.2.2.1, u.2.2.2.2.2.2.2.2.2.2.2.2.2.2.2.1, u.2.2.2.2.2.2.2.2.2.2.2.2.2.2.2.2.1, u.2.2.2.2.2.2.2.2.2.2.2.2.2.2.2.2.2.1, u.2.2.2.2.2.2.2.2.2.2.2.2.2.2.2.2.2.2.1, u.2.2.2.2.2.2.2.2.2.2.2.2.2.2.2.2.2.2.2.1, u.2.2.2.2.2.2.2.2.2.2.2.2.2.2.2.2.2.2.2.2.1, u.2.2.2.2.2.2.2.2.2.2.2.2.2.2.2.2.2.2.2.2.2.1, u.2.2.2.2.2.2.2.2.2.2.2.2.2.2.2.2.2.2.2.2.2.2.1, u.2.2.2.2.2.2.2.2.2.2.2.2.2.2.2.2.2.2.2.2.2.2.2.1, u.2.2.2.2.2.2.2.2.2.2.2.2.2.2.2.2.2.2.2.2.2.2.2.2.1, u.2.2.2.2.2.2.2.2.2.2.2.2.2.2.2.2.2.2.2.2.2.2.2.2.2.1, u.2.2.2.2.2.2.2.2.2.2.2.2.2.2.2.2.2.2.2.2.2.2.2.2.2.2.1, u.2.2.2.2.2.2.2.2.2.2.2.2.2.2.2.2.2.2.2.2.2.2.2.2.2.2.2.1, u.2.2.2.2.2.2.2.2.2.2.2.2.2.2.2.2.2.2.2.2.2.2.2.2.2.2.2.2.1, u.2.2.2.2.2.2.2.2.2.2.2.2.2.2.2.2.2.2.2.2.2.2.2.2.2.2.2.2.2.1, u.2.2.2.2.2.2.2.2.2.2.2.2.2.2.2.2.2.2.2.2.2.2.2.2.2.2.2.2.2.2.1, u.2.2.2.2.2.2.2.2.2.2.2.2.2.2.2.2.2.2.2.2.2.2.2.2.2.2.2.2.2.2.2.1, u.2.2.2.2.2.2.2.2.2.2.2.2.2.2.2.2.2.2.2.2.2.2.2.2.2.2.2.2.2.2.2.2.1, u.2.2.2.2.2.2.2.2.2.2.2.2.2.2.2.2.2.2.2.2.2.2.2.2.2.2.2.2.2.2.2.2.2)
def xm_frameTotal_logTotal_world (z0 : Int32) (z1 : Int32) (z2 : Nat → Int32) (u : SX) : SX := (u.1, u.2.1, u.2.2.1, u.2.2.2.1, u.2.2.2.2.1, u.2.2.2.2.2.1, z0, z1, u.2.2.2.2.2.2.2.2.1, u.2.2.2.2.2.2.2.2.2.1, u.2.2.2.2.2.2.2.2.2.2.1, u.2.2.2.2.2.2.2.2.2.2.2.1, z2, u.2.2.2.2.2.2.2.2.2.2.2.2.2.1, u.2.2.2.2.2.2.2.2.2.2.2.2.2.2.1, u.2.2.2.2.2.2.2.2.2.2.2.2.2.2.2.1, u.2.2.2.2.2.2.2.2.2.2.2.2.2.2.2.2.1, u.2.2.2.2.2.2.2.2.2.2.2.2.2.2.2.2.2.1, u.2.2.2.2.2.2.2.2.2.2.2.2.2.2.2.2.2.2.1, u.2.2.2.2.2.2.2.2.2.2.2.2.2.2.2.2.2.2.2.1, u.2.2.2.2.2.2.2.2.2.2.2.2.2.2.2.2.2.2.2.2.1, u.2.2.2.2.2.2.2.2.2.2.2.2.2.2.2.2.2.2.2.2.2.1, u.2.2.2.2.2.2.2.2.2.2.2.2.2.2.2.2.2.2.2.2.2.2.1, u.2.2.2.2.2.2.2.2.2.2.2.2.2.2.2.2.2.2.2.2.2.2.2.1, u.2.2.2.2.2.2.2.2.2.2.2.2.2.2.2.2.2.2.2.2.2.2.2.2.1, u.2.2.2.2.2.2.2.2.2.2.2.2.2.2.2.2.2.2.2.2.2.2.2.2.2.1, u.2.2.2.2.2.2.2.2.2.2.2.2.2.2.2.2.2.2.2.2.2.2.2.2.2.2.1, u.2.2.2.2.2.2.2.2.2.2.2.2.2.2.2.2.2.2.2.2.2.2.2.2.2.2.2.1, u.2.2.2.2.2.2.2.2.2.2.2.2.2.2.2.2.2.2.2.2.2.2.2.2.2.2.2.2.1, u.2.2.2.2.2.2.2.2.2.2.2.2.2.2.2.2.2.2.2.2.2.2.2.2.2.2.2.2.2.1, u.2.2.2.2.2.2.2.2.2.2.2.2.2.2.2.2.2.2.2.2.2.2.2.2.2.2.2.2.2.2.1, u.2.2.2.2.2.2.2.2.2.2.2.2.2.2.2.2.2.2.2.2.2.2.2.2.2.2.2.2.2.2.2.1, u.2.2.2.2.2.2.2.2.2.2.2.2.2.2.2.2.2.2.2.2.2.2.2.2.2.2.2.2.2.2.2.2.1, u.2.2.2.2.2.2.2.2.2.2.2.2.2.2.2.2.2.2.2.2.2.2.2.2.2.2.2.2.2.2.2.2.2)
def xm_lastWord_active_records (z0 : Int32) (z1 : Int32) (z2 : Nat → Int32) (u : SX) : SX := (u.1, u.2.1, u.2.2.1, u.2.2.2.1, u.2.2.2.2.1, u.2.2.2.2.2.1, u.2.2.2.2.2.2.1, u.2.2.2.2.2.2.2.1, z0, z1, u.2.2.2.2.2.2.2.2.2.2.1, u.2.2.2.2.2.2.2.2.2.2.2.1, u.2.2.2.2.2.2.2.2.2.2.2.2.1, z2, u.2.2.2.2.2.2.2.2.2.2.2.2.2.2.1, u.2.2.2.2.2.2.2.2.2.2.2.2.2.2.2.1, u.2.2.2.2.2.2.2.2.2.2.2.2.2.2.2.2.1, u.2.2.2.2.2.2.2.2.2.2.2.2.2.2.2.2.2.1, u.2.2.2.2.2.2.2.2.2.2.2.2.2.2.2.2.2.2.1, u.2.2.2.2.2.2.2.2.2.2.2.2.2.2.2.2.2.2.2.1, u.2.2.2.2.2.2.2.2.2.2.2.2.2.2.2.2.2.2.2.2.1, u.2.2.2.2.2.2.2.2.2.2.2.2.2.2.2.2.2.2.2.2.2.1, u.2.2.2.2.2.2.2.2.2.2.2.2.2.2.2.2.2.2.2.2.2.2.1, u.2.2.2.2.2.2.2.2.2.2.2.2.2.2.2.2.2.2.2.2.2.2.2.1, u.2.2.2.2.2.2.2.2.2.2.2.2.2.2.2.2.2.2.2.2.2.2.2.2.1, u.2.2.2.2.2.2.2.2.2.2.2.2.2.2.2.2.2.2.2.2.2.2.2.2.2.1, u.2.2.2.2.2.2.2.2.2.2.2.2.2.2.2.2.2.2.2.2.2.2.2.2.2.2.1, u.2.2.2.2.2.2.2.2.2.2.2.2.2.2.2.2.2.2.2.2.2.2.2.2.2.2.2.1, u.2.2.2.2.2.2.2.2.2.2.2.2.2.2.2.2.2.2.2.2.2.2.2.2.2.2.2.2.1, u.2.2.2.2.2.2.2.2.2.2.2.2.2.2.2.2.2.2.2.2.2.2.2.2.2.2.2.2.2.1, u.2.2.2.2.2.2.2.2.2.2.2.2.2.2.2.2.2.2.2.2.2.2.2.2.2.2.2.2.2.2.1, u.2.2.2.2.2.2.2.2.2.2.2.2.2.2.2.2.2.2.2.2.2.2.2.2.2.2.2.2.2.2.2.1, u.2.2.2.2.2.2.2.2.2.2.2.2.2.2.2.2.2.2.2.2.2.2.2.2.2.2.2.2.2.2.2.2.1, u.2.2.2.2.2.2.2.2.2.2.2.2.2.2.2.2.2.2.2.2.2.2.2.2.2.2.2.2.2.2.2.2.2)
def xm_logTotal_logAccounts_logWords (z0 : Int32) (z1 : Nat → Int32) (z2 : Nat → Int32) (u : SX) : SX := (u.1, u.2.1, u.2.2.1, u.2.2.2.1, u.2.2.2.2.1, u.2.2.2.2.2.1, u.2.2.2.2.2.2.1, z0, u.2.2.2.2.2.2.2.2.1, u.2.2.2.2.2.2.2.2.2.1, u.2.2.2.2.2.2.2.2.2.2.1, u.2.2.2.2.2.2.2.2.2.2.2.1, u.2.2.2.2.2.2.2.2.2.2.2.2.1, u.2.2.2.2.2.2.2.2.2.2.2.2.2.1, z1, z2, u.2.2.2.2.2.2.2.2.2.2.2.2.2.2.2.2.1, u.2.2.2.2.2.2.2.2.2.2.2.2.2.2.2.2.2.1, u.2.2.2.2.2.2.2.2.2.2.2.2.2.2.2.2.2.2.1, u.2.2.2.2.2.2.2.2.2.2.2.2.2.2.2.2.2.2.2.1, u.2.2.2.2.2.2.2.2.2.2.2.2.2.2.2.2.2.2.2.2.1, u.2.2.2.2.2.2.2.2.2.2.2.2.2.2.2.2.2.2.2.2.2.1, u.2.2.2.2.2.2.2.2.2.2.2.2.2.2.2.2.2.2.2.2.2.2.1, u.2.2.2.2.2.2.2.2.2.2.2.2.2.2.2.2.2.2.2.2.2.2.2.1, u.2.2.2.2.2.2.2.2.2.2.2.2.2.2.2.2.2.2.2.2.2.2.2.2.1, u.2.2.2.2.2.2.2.2.2.2.2.2.2.2.2.2.2.2.2.2.2.2.2.2.2.1, u.2.2.2.2.2.2.2.2.2.2.2.2.2.2.2.2.2.2.2.2.2.2.2.2.2.2.1, u.2.2.2.2.2.2.2.2.2.2.2.2.2.2.2.2.2.2.2.2.2.2.2.2.2.2.2.1, u.2.2.2.2.2.2.2.2.2.2.2.2.2.2.2.2.2.2.2.2.2.2.2.2.2.2.2.2.1, u.2.2.2.2.2.2.2.2.2.2.2.2.2.2.2.2.2.2.2.2.2.2.2.2.2.2.2.2.2.1, u.2.2.2.2.2.2.2.2.2.2.2.2.2.2.2.2.2.2.2.2.2.2.2.2.2.2.2.2.2.2.1, u.2.2.2.2.2.2.2.2.2.2.2.2.2.2.2.2.2.2.2.2.2.2.2.2.2.2.2.2.2.2.2.1, u.2.2.2.2.2.2.2.2.2.2.2.2.2.2.2.2.2.2.2.2.2.2.2.2.2.2.2.2.2.2.2.2.1, u.2.2.2.2.2.2.2.2.2.2.2.2.2.2.2.2.2.2.2.2.2.2.2.2.2.2.2.2.2.2.2.2.2)
def xm_mintSum_world (z0 : Int32) (z1 : Nat → Int32) (u : SX) : SX := (u.1, u.2.1, u.2.2.1, u.2.2.2.1, z0, u.2.2.2.2.2.1, u.2.2.2.2.2.2.1, u.2.2.2.2.2.2.2.1, u.2.2.2.2.2.2.2.2.1, u.2.2.2.2.2.2.2.2.2.1, u.2.2.2.2.2.2.2.2.2.2.1, u.2.2.2.2.2.2.2.2.2.2.2.1, z1, u.2.2.2.2.2.2.2.2.2.2.2.2.2.1, u.2.2.2.2.2.2.2.2.2.2.2.2.2.2.1, u.2.2.2.2.2.2.2.2.2.2.2.2.2.2.2.1, u.2.2.2.2.2.2.2.2.2.2.2.2.2.2.2.2.1, u.2.2.2.2.2.2.2.2.2.2.2.2.2.2.2.2.2.1, u.2.2.2.2.2.2.2.2.2.2.2.2.2.2.2.2.2.2.1, u.2.2.2.2.2.2.2.2.2.2.2.2.2.2.2.2.2.2.2.1, u.2.2.2.2.2.2.2.2.2.2.2.2.2.2.2.2.2.2.2.2.1, u.2.2.2.2.2.2.2.2.2.2.2.2.2.2.2.2.2.2.2.2.2.1, u.2.2.2.2.2.2.2.2.2.2.2.2.2.2.2.2.2.2.2.2.2.2.1, u.2.2.2.2.2.2.2.2.2.2.2.2.2.2.2.2.2.2.2.2.2.2.2.1, u.2.2.2.2.2.2.2.2.2.2.2.2.2.2.2.2.2.2.2.2.2.2.2.2.1, u.2.2.2.2.2.2.2.2.2.2.2.2.2.2.2.2.2.2.2.2.2.2.2.2.2.1, u.2.2.2.2.2.2.2.2.2.2.2.2.2.2.2.2.2.2.2.2.2.2.2.2.2.2.1, u.2.2.2.2.2.2.2.2.2.2.2.2.2.2.2.2.2.2.2.2.2.2.2.2.2.2.2.1, u.2.2.2.2.2.2.2.2.2.2.2.2.2.2.2.2.2.2.2.2.2.2.2.2.2.2.2.2.1, u.2.2.2.2.2.2.2.2.2.2.2.2.2.2.2.2.2.2.2.2.2.2.2.2.2.2.2.2.2.1, u.2.2.2.2.2.2.2.2.2.2.2.2.2.2.2.2.2.2.2.2.2.2.2.2.2.2.2.2.2.2.1, u.2.2.2.2.2.2.2.2.2.2.2.2.2.2.2.2.2.2.2.2.2.2.2.2.2.2.2.2.2.2.2.1, u.2.2.2.2.2.2.2.2.2.2.2.2.2.2.2.2.2.2.2.2.2.2.2.2.2.2.2.2.2.2.2.2.1, u.2.2.2.2.2.2.2.2.2.2.2.2.2.2.2.2.2.2.2.2.2.2.2.2.2.2.2.2.2.2.2.2.2)
def ym_cells_length (z0 : Nat → Int32) (z1 : Nat → Int32) (u : SY) : SY := (u.1, u.2.1, u.2.2.1, u.2.2.2.1, u.2.2.2.2.1, u.2.2.2.2.2.1, u.2.2.2.2.2.2.1, u.2.2.2.2.2.2.2.1, u.2.2.2.2.2.2.2.2.1, u.2.2.2.2.2.2.2.2.2.1, z0, z1, u.2.2.2.2.2.2.2.2.2.2.2.2.1, u.2.2.2.2.2.2.2.2.2.2.2.2.2.1, u.2.2.2.2.2.2.2.2.2.2.2.2.2.2.1, u.2.2.2.2.2.2.2.2.2.2.2.2.2.2.2.1, u.2.2.2.2.2.2.2.2.2.2.2.2.2.2.2.2.1, u.2.2.2.2.2.2.2.2.2.2.2.2.2.2.2.2.2.1, u.2.2.2.2.2.2.2.2.2.2.2.2.2.2.2.2.2.2.1, u.2.2.2.2.2.2.2.2.2.2.2.2.2.2.2.2.2.2.2.1, u.2.2.2.2.2.2.2.2.2.2.2.2.2.2.2.2.2.2.2.2.1, u.2.2.2.2.2.2.2.2.2.2.2.2.2.2.2.2.2.2.2.2.2.1, u.2.2.2.2.2.2.2.2.2.2.2.2.2.2.2.2.2.2.2.2.2.2.1, u.2.2.2.2.2.2.2.2.2.2.2.2.2.2.2.2.2.2.2.2.2.2.2.1, u.2.2.2.2.2.2.2.2.2.2.2.2.2.2.2.2.2.2.2.2.2.2.2.2.1, u.2.2.2.2.2.2.2.2.2.2.2.2.2.2.2.2.2.2.2.2.2.2.2.2.2.1, u.2.2.2.2.2.2.2.2.2.2.2.2.2.2.2.2.2.2.2.2.2.2.2.2.2.2.1, u.2.2.2.2.2.2.2.2.2.2.2.2.2.2.2.2.2.2.2.2.2.2.2.2.2.2.2)
def ym_rec_left (z0 : Nat → Int32) (z1 : Nat → Int32) (u : SY) : SY := (u.1, u.2.1, u.2.2.1, u.2.2.2.1, u.2.2.2.2.1, u.2.2.2.2.2.1, u.2.2.2.2.2.2.1, u.2.2.2.2.2.2.2.1, u.2.2.2.2.2.2.2.2.1, u.2.2.2.2.2.2.2.2.2.1, u.2.2.2.2.2.2.2.2.2.2.1, u.2.2.2.2.2.2.2.2.2.2.2.1, u.2.2.2.2.2.2.2.2.2.2.2.2.1, u.2.2.2.2.2.2.2.2.2.2.2.2.2.1, u.2.2.2.2.2.2.2.2.2.2.2.2.2.2.1, z0, u.2.2.2.2.2.2.2.2.2.2.2.2.2.2.2.2.1, u.2.2.2.2.2.2.2.2.2.2.2.2.2.2.2.2.2.1, z1, u.2.2.2.2.2.2.2.2.2.2.2.2.2.2.2.2.2.2.2.1, u.2.2.2.2.2.2.2.2.2.2.2.2.2.2.2.2.2.2.2.2.1, u.2.2.2.2.2.2.2.2.2.2.2.2.2.2.2.2.2.2.2.2.2.1, u.2.2.2.2.2.2.2.2.2.2.2.2.2.2.2.2.2.2.2.2.2.2.1, u.2.2.2.2.2.2.2.2.2.2.2.2.2.2.2.2.2.2.2.2.2.2.2.1, u.2.2.2.2.2.2.2.2.2.2.2.2.2.2.2.2.2.2.2.2.2.2.2.2.1, u.2.2.2.2.2.2.2.2.2.2.2.2.2.2.2.2.2.2.2.2.2.2.2.2.2.1, u.2.2.2.2.2.2.2.2.2.2.2.2.2.2.2.2.2.2.2.2.2.2.2.2.2.2.1, u.2.2.2.2.2.2.2.2.2.2.2.2.2.2.2.2.2.2.2.2.2.2.2.2.2.2.2)
def ym_rec_left_height_memorySize_position_result_callerOf_valueOf_inputOf (z0 : Nat → Int32) (z1 : Nat → Int32) (z2 : Nat → Int32) (z3 : Nat → Int32) (z4 : Nat → Int32) (z5 : Nat → Int32) (z6 : Nat → Int32) (z7 : Nat → Int32) (z8 : Nat → Int32) (u : SY) : SY := (u.1, u.2.1, u.2.2.1, u.2.2.2.1, u.2.2.2.2.1, u.2.2.2.2.2.1, u.2.2.2.2.2.2.1, u.2.2.2.2.2.2.2.1, u.2.2.2.2.2.2.2.2.1, u.2.2.2.2.2.2.2.2.2.1, u.2.2.2.2.2.2.2.2.2.2.1, u.2.2.2.2.2.2.2.2.2.2.2.1, u.2.2.2.2.2.2.2.2.2.2.2.2.1, u.2.2.2.2.2.2.2.2.2.2.2.2.2.1, u.2.2.2.2.2.2.2.2.2.2.2.2.2.2.1, z0, u.2.2.2.2.2.2.2.2.2.2.2.2.2.2.2.2.1, u.2.2.2.2.2.2.2.2.2.2.2.2.2.2.2.2.2.1, z1, u.2.2.2.2.2.2.2.2.2.2.2.2.2.2.2.2.2.2.2.1, z2, u.2.2.2.2.2.2.2.2.2.2.2.2.2.2.2.2.2.2.2.2.2.1, z3, z4, z5, z6, z7, z8)
def ym_rec_left_height_position (z0 : Nat → Int32) (z1 : Nat → Int32) (z2 : Nat → Int32) (z3 : Nat → Int32) (u : SY) : SY := (u.1, u.2.1, u.2.2.1, u.2.2.2.1, u.2.2.2.2.1, u.2.2.2.2.2.1, u.2.2.2.2.2.2.1, u.2.2.2.2.2.2.2.1, u.2.2.2.2.2.2.2.2.1, u.2.2.2.2.2.2.2.2.2.1, u.2.2.2.2.2.2.2.2.2.2.1, u.2.2.2.2.2.2.2.2.2.2.2.1, u.2.2.2.2.2.2.2.2.2.2.2.2.1, u.2.2.2.2.2.2.2.2.2.2.2.2.2.1, u.2.2.2.2.2.2.2.2.2.2.2.2.2.2.1, z0, u.2.2.2.2.2.2.2.2.2.2.2.2.2.2.2.2.1, u.2.2.2.2.2.2.2.2.2.2.2.2.2.2.2.2.2.1, z1, u.2.2.2.2.2.2.2.2.2.2.2.2.2.2.2.2.2.2.2.1, z2, u.2.2.2.2.2.2.2.2.2.2.2.2.2.2.2.2.2.2.2.2.2.1, u.2.2.2.2.2.2.2.2.2.2.2.2.2.2.2.2.2.2.2.2.2.2.1, z3, u.2.2.2.2.2.2.2.2.2.2.2.2.2.2.2.2.2.2.2.2.2.2.2.2.1, u.2.2.2.2.2.2.2.2.2.2.2.2.2.2.2.2.2.2.2.2.2.2.2.2.2.1, u.2.2.2.2.2.2.2.2.2.2.2.2.2.2.2.2.2.2.2.2.2.2.2.2.2.2.1, u.2.2.2.2.2.2.2.2.2.2.2.2.2.2.2.2.2.2.2.2.2.2.2.2.2.2.2)
def ym_rec_left_result (z0 : Nat → Int32) (z1 : Nat → Int32) (z2 : Nat → Int32) (u : SY) : SY := (u.1, u.2.1, u.2.2.1, u.2.2.2.1, u.2.2.2.2.1, u.2.2.2.2.2.1, u.2.2.2.2.2.2.1, u.2.2.2.2.2.2.2.1, u.2.2.2.2.2.2.2.2.1, u.2.2.2.2.2.2.2.2.2.1, u.2.2.2.2.2.2.2.2.2.2.1, u.2.2.2.2.2.2.2.2.2.2.2.1, u.2.2.2.2.2.2.2.2.2.2.2.2.1, u.2.2.2.2.2.2.2.2.2.2.2.2.2.1, u.2.2.2.2.2.2.2.2.2.2.2.2.2.2.1, z0, u.2.2.2.2.2.2.2.2.2.2.2.2.2.2.2.2.1, u.2.2.2.2.2.2.2.2.2.2.2.2.2.2.2.2.2.1, z1, u.2.2.2.2.2.2.2.2.2.2.2.2.2.2.2.2.2.2.2.1, u.2.2.2.2.2.2.2.2.2.2.2.2.2.2.2.2.2.2.2.2.1, u.2.2.2.2.2.2.2.2.2.2.2.2.2.2.2.2.2.2.2.2.2.1, u.2.2.2.2.2.2.2.2.2.2.2.2.2.2.2.2.2.2.2.2.2.2.1, u.2.2.2.2.2.2.2.2.2.2.2.2.2.2.2.2.2.2.2.2.2.2.2.1, z2, u.2.2.2.2.2.2.2.2.2.2.2.2.2.2.2.2.2.2.2.2.2.2.2.2.2.1, u.2.2.2.2.2.2.2.2.2.2.2.2.2.2.2.2.2.2.2.2.2.2.2.2.2.2.1, u.2.2.2.2.2.2.2.2.2.2.2.2.2.2.2.2.2.2.2.2.2.2.2.2.2.2.2)
def ym_stack_height (z0 : Nat → Int32) (z1 : Nat → Int32) (u : SY) : SY := (u.1, u.2.1, u.2.2.1, u.2.2.2.1, u.2.2.2.2.1, u.2.2.2.2.2.1, u.2.2.2.2.2.2.1, u.2.2.2.2.2.2.2.1, u.2.2.2.2.2.2.2.2.1, u.2.2.2.2.2.2.2.2.2.1, u.2.2.2.2.2.2.2.2.2.2.1, u.2.2.2.2.2.2.2.2.2.2.2.1, u.2.2.2.2.2.2.2.2.2.2.2.2.1, u.2.2.2.2.2.2.2.2.2.2.2.2.2.1, u.2.2.2.2.2.2.2.2.2.2.2.2.2.2.1, u.2.2.2.2.2.2.2.2.2.2.2.2.2.2.2.1, u.2.2.2.2.2.2.2.2.2.2.2.2.2.2.2.2.1, u.2.2.2.2.2.2.2.2.2.2.2.2.2.2.2.2.2.1, u.2.2.2.2.2.2.2.2.2.2.2.2.2.2.2.2.2.2.1, z0, z1, u.2.2.2.2.2.2.2.2.2.2.2.2.2.2.2.2.2.2.2.2.2.1, u.2.2.2.2.2.2.2.2.2.2.2.2.2.2.2.2.2.2.2.2.2.2.1, u.2.2.2.2.2.2.2.2.2.2.2.2.2.2.2.2.2.2.2.2.2.2.2.1, u.2.2.2.2.2.2.2.2.2.2.2.2.2.2.2.2.2.2.2.2.2.2.2.2.1, u.2.2.2.2.2.2.2.2.2.2.2.2.2.2.2.2.2.2.2.2.2.2.2.2.2.1, u.2.2.2.2.2.2.2.2.2.2.2.2.2.2.2.2.2.2.2.2.2.2.2.2.2.2.1, u.2.2.2.2.2.2.2.2.2.2.2.2.2.2.2.2.2.2.2.2.2.2.2.2.2.2.2)
def ym_world_entryLogs (z0 : Nat → Int32) (z1 : Nat → Int32) (u : SY) : SY := (u.1, u.2.1, u.2.2.1, u.2.2.2.1, u.2.2.2.2.1, u.2.2.2.2.2.1, u.2.2.2.2.2.2.1, u.2.2.2.2.2.2.2.1, u.2.2.2.2.2.2.2.2.1, u.2.2.2.2.2.2.2.2.2.1, u.2.2.2.2.2.2.2.2.2.2.1, u.2.2.2.2.2.2.2.2.2.2.2.1, z0, u.2.2.2.2.2.2.2.2.2.2.2.2.2.1, u.2.2.2.2.2.2.2.2.2.2.2.2.2.2.1, u.2.2.2.2.2.2.2.2.2.2.2.2.2.2.2.1, u.2.2.2.2.2.2.2.2.2.2.2.2.2.2.2.2.1, z1, u.2.2.2.2.2.2.2.2.2.2.2.2.2.2.2.2.2.2.1, u.2.2.2.2.2.2.2.2.2.2.2.2.2.2.2.2.2.2.2.1, u.2.2.2.2.2.2.2.2.2.2.2.2.2.2.2.2.2.2.2.2.1, u.2.2.2.2.2.2.2.2.2.2.2.2.2.2.2.2.2.2.2.2.2.1, u.2.2.2.2.2.2.2.2.2.2.2.2.2.2.2.2.2.2.2.2.2.2.1, u.2.2.2.2.2.2.2.2.2.2.2.2.2.2.2.2.2.2.2.2.2.2.2.1, u.2.2.2.2.2.2.2.2.2.2.2.2.2.2.2.2.2.2.2.2.2.2.2.2.1, u.2.2.2.2.2.2.2.2.2.2.2.2.2.2.2.2.2.2.2.2.2.2.2.2.2.1, u.2.2.2.2.2.2.2.2.2.2.2.2.2.2.2.2.2.2.2.2.2.2.2.2.2.2.1, u.2.2.2.2.2.2.2.2.2.2.2.2.2.2.2.2.2.2.2.2.2.2.2.2.2.2.2)
def ym_fees_world (z0 : Int32) (z1 : Nat → Int32) (u : SY) : SY := (u.1, u.2.1, u.2.2.1, z0, u.2.2.2.2.1, u.2.2.2.2.2.1, u.2.2.2.2.2.2.1, u.2.2.2.2.2.2.2.1, u.2.2.2.2.2.2.2.2.1, u.2.2.2.2.2.2.2.2.2.1, u.2.2.2.2.2.2.2.2.2.2.1, u.2.2.2.2.2.2.2.2.2.2.2.1, z1, u.2.2.2.2.2.2.2.2.2.2.2.2.2.1, u.2.2.2.2.2.2.2.2.2.2.2.2.2.2.1, u.2.2.2.2.2.2.2.2.2.2.2.2.2.2.2.1, u.2.2.2.2.2.2.2.2.2.2.2.2.2.2.2.2.1, u.2.2.2.2.2.2.2.2.2.2.2.2.2.2.2.2.2.1, u.2.2.2.2.2.2.2.2.2.2.2.2.2.2.2.2.2.2.1, u.2.2.2.2.2.2.2.2.2.2.2.2.2.2.2.2.2.2.2.1, u.2.2.2.2.2.2.2.2.2.2.2.2.2.2.2.2.2.2.2.2.1, u.2.2.2.2.2.2.2.2.2.2.2.2.2.2.2.2.2.2.2.2.2.1, u.2.2.2.2.2.2.2.2.2.2.2.2.2.2.2.2.2.2.2.2.2.2.1, u.2.2.2.2.2.2.2.2.2.2.2.2.2.2.2.2.2.2.2.2.2.2.2.1, u.2.2.2.2.2.2.2.2.2.2.2.2.2.2.2.2.2.2.2.2.2.2.2.2.1, u.2.2.2.2.2.2.2.2.2.2.2.2.2.2.2.2.2.2.2.2.2.2.2.2.2.1, u.2.2.2.2.2.2.2.2.2.2.2.2.2.2.2.2.2.2.2.2.2.2.2.2.2.2.1, u.2.2.2.2.2.2.2.2.2.2.2.2.2.2.2.2.2.2.2.2.2.2.2.2.2.2.2)
def ym_frames_logs_handed_world (z0 : Int32) (z1 : Int32) (z2 : Int32) (z3 : Nat → Int32) (u : SY) : SY := (u.1, u.2.1, u.2.2.1, u.2.2.2.1, u.2.2.2.2.1, u.2.2.2.2.2.1, u.2.2.2.2.2.2.1, z0, z1, z2, u.2.2.2.2.2.2.2.2.2.2.1, u.2.2.2.2.2.2.2.2.2.2.2.1, z3, u.2.2.2.2.2.2.2.2.2.2.2.2.2.1, u.2.2.2.2.2.2.2.2.2.2.2.2.2.2.1, u.2.2.2.2.2.2.2.2.2.2.2.2.2.2.2.1, u.2.2.2.2.2.2.2.2.2.2.2.2.2.2.2.2.1, u.2.2.2.2.2.2.2.2.2.2.2.2.2.2.2.2.2.1, u.2.2.2.2.2.2.2.2.2.2.2.2.2.2.2.2.2.2.1, u.2.2.2.2.2.2.2.2.2.2.2.2.2.2.2.2.2.2.2.1, u.2.2.2.2.2.2.2.2.2.2.2.2.2.2.2.2.2.2.2.2.1, u.2.2.2.2.2.2.2.2.2.2.2.2.2.2.2.2.2.2.2.2.2.1, u.2.2.2.2.2.2.2.2.2.2.2.2.2.2.2.2.2.2.2.2.2.2.1, u.2.2.2.2.2.2.2.2.2.2.2.2.2.2.2.2.2.2.2.2.2.2.2.1, u.2.2.2.2.2.2.2.2.2.2.2.2.2.2.2.2.2.2.2.2.2.2.2.2.1, u.2.2.2.2.2.2.2.2.2.2.2.2.2.2.2.2.2.2.2.2.2.2.2.2.2.1, u.2.2.2.2.2.2.2.2.2.2.2.2.2.2.2.2.2.2.2.2.2.2.2.2.2.2.1, u.2.2.2.2.2.2.2.2.2.2.2.2.2.2.2.2.2.2.2.2.2.2.2.2.2.2.2)
def ym_handed_left (z0 : Int32) (z1 : Nat → Int32) (u : SY) : SY := (u.1, u.2.1, u.2.2.1, u.2.2.2.1, u.2.2.2.2.1, u.2.2.2.2.2.1, u.2.2.2.2.2.2.1, u.2.2.2.2.2.2.2.1, u.2.2.2.2.2.2.2.2.1, z0, u.2.2.2.2.2.2.2.2.2.2.1, u.2.2.2.2.2.2.2.2.2.2.2.1, u.2.2.2.2.2.2.2.2.2.2.2.2.1, u.2.2.2.2.2.2.2.2.2.2.2.2.2.1, u.2.2.2.2.2.2.2.2.2.2.2.2.2.2.1, u.2.2.2.2.2.2.2.2.2.2.2.2.2.2.2.1, u.2.2.2.2.2.2.2.2.2.2.2.2.2.2.2.2.1, u.2.2.2.2.2.2.2.2.2.2.2.2.2.2.2.2.2.1, z1, u.2.2.2.2.2.2.2.2.2.2.2.2.2.2.2.2.2.2.2.1, u.2.2.2.2.2.2.2.2.2.2.2.2.2.2.2.2.2.2.2.2.1, u.2.2.2.2.2.2.2.2.2.2.2.2.2.2.2.2.2.2.2.2.2.1, u.2.2.2.2.2.2.2.2.2.2.2.2.2.2.2.2.2.2.2.2.2.2.1, u.2.2.2.2.2.2.2.2.2.2.2.2.2.2.2.2.2.2.2.2.2.2.2.1, u.2.2.2.2.2.2.2.2.2.2.2.2.2.2.2.2.2.2.2.2.2.2.2.2.1, u.2.2.2.2.2.2.2.2.2.2.2.2.2.2.2.2.2.2.2.2.2.2.2.2.2.1, u.2.2.2.2.2.2.2.2.2.2.2.2.2.2.2.2.2.2.2.2.2.2.2.2.2.2.1, u.2.2.2.2.2.2.2.2.2.2.2.2.2.2.2.2.2.2.2.2.2.2.2.2.2.2.2)
def ym_logs_logAccounts_logWords (z0 : Int32) (z1 : Nat → Int32) (z2 : Nat → Int32) (u : SY) : SY := (u.1, u.2.1, u.2.2.1, u.2.2.2.1, u.2.2.2.2.1, u.2.2.2.2.2.1, u.2.2.2.2.2.2.1, u.2.2.2.2.2.2.2.1, z0, u.2.2.2.2.2.2.2.2.2.1, u.2.2.2.2.2.2.2.2.2.2.1, u.2.2.2.2.2.2.2.2.2.2.2.1, u.2.2.2.2.2.2.2.2.2.2.2.2.1, z1, z2, u.2.2.2.2.2.2.2.2.2.2.2.2.2.2.2.1, u.2.2.2.2.2.2.2.2.2.2.2.2.2.2.2.2.1, u.2.2.2.2.2.2.2.2.2.2.2.2.2.2.2.2.2.1, u.2.2.2.2.2.2.2.2.2.2.2.2.2.2.2.2.2.2.1, u.2.2.2.2.2.2.2.2.2.2.2.2.2.2.2.2.2.2.2.1, u.2.2.2.2.2.2.2.2.2.2.2.2.2.2.2.2.2.2.2.2.1, u.2.2.2.2.2.2.2.2.2.2.2.2.2.2.2.2.2.2.2.2.2.1, u.2.2.2.2.2.2.2.2.2.2.2.2.2.2.2.2.2.2.2.2.2.2.1, u.2.2.2.2.2.2.2.2.2.2.2.2.2.2.2.2.2.2.2.2.2.2.2.1, u.2.2.2.2.2.2.2.2.2.2.2.2.2.2.2.2.2.2.2.2.2.2.2.2.1, u.2.2.2.2.2.2.2.2.2.2.2.2.2.2.2.2.2.2.2.2.2.2.2.2.2.1, u.2.2.2.2.2.2.2.2.2.2.2.2.2.2.2.2.2.2.2.2.2.2.2.2.2.2.1, u.2.2.2.2.2.2.2.2.2.2.2.2.2.2.2.2.2.2.2.2.2.2.2.2.2.2.2)
def ym_minted_world (z0 : Int32) (z1 : Nat → Int32) (u : SY) : SY := (u.1, u.2.1, u.2.2.1, u.2.2.2.1, z0, u.2.2.2.2.2.1, u.2.2.2.2.2.2.1, u.2.2.2.2.2.2.2.1, u.2.2.2.2.2.2.2.2.1, u.2.2.2.2.2.2.2.2.2.1, u.2.2.2.2.2.2.2.2.2.2.1, u.2.2.2.2.2.2.2.2.2.2.2.1, z1, u.2.2.2.2.2.2.2.2.2.2.2.2.2.1, u.2.2.2.2.2.2.2.2.2.2.2.2.2.2.1, u.2.2.2.2.2.2.2.2.2.2.2.2.2.2.2.1, u.2.2.2.2.2.2.2.2.2.2.2.2.2.2.2.2.1, u.2.2.2.2.2.2.2.2.2.2.2.2.2.2.2.2.2.1, u.2.2.2.2.2.2.2.2.2.2.2.2.2.2.2.2.2.2.1, u.2.2.2.2.2.2.2.2.2.2.2.2.2.2.2.2.2.2.2.1, u.2.2.2.2.2.2.2.2.2.2.2.2.2.2.2.2.2.2.2.2.1, u.2.2.2.2.2.2.2.2.2.2.2.2.2.2.2.2.2.2.2.2.2.1, u.2.2.2.2.2.2.2.2.2.2.2.2.2.2.2.2.2.2.2.2.2.2.1, u.2.2.2.2.2.2.2.2.2.2.2.2.2.2.2.2.2.2.2.2.2.2.2.1, u.2.2.2.2.2.2.2.2.2.2.2.2.2.2.2.2.2.2.2.2.2.2.2.2.1, u.2.2.2.2.2.2.2.2.2.2.2.2.2.2.2.2.2.2.2.2.2.2.2.2.2.1, u.2.2.2.2.2.2.2.2.2.2.2.2.2.2.2.2.2.2.2.2.2.2.2.2.2.2.1, u.2.2.2.2.2.2.2.2.2.2.2.2.2.2.2.2.2.2.2.2.2.2.2.2.2.2.2)
def ym_returnWord_rec (z0 : Int32) (z1 : Nat → Int32) (u : SY) : SY := (u.1, u.2.1, u.2.2.1, u.2.2.2.1, u.2.2.2.2.1, u.2.2.2.2.2.1, z0, u.2.2.2.2.2.2.2.1, u.2.2.2.2.2.2.2.2.1, u.2.2.2.2.2.2.2.2.2.1, u.2.2.2.2.2.2.2.2.2.2.1, u.2.2.2.2.2.2.2.2.2.2.2.1, u.2.2.2.2.2.2.2.2.2.2.2.2.1, u.2.2.2.2.2.2.2.2.2.2.2.2.2.1, u.2.2.2.2.2.2.2.2.2.2.2.2.2.2.1, z1, u.2.2.2.2.2.2.2.2.2.2.2.2.2.2.2.2.1, u.2.2.2.2.2.2.2.2.2.2.2.2.2.2.2.2.2.1, u.2.2.2.2.2.2.2.2.2.2.2.2.2.2.2.2.2.2.1, u.2.2.2.2.2.2.2.2.2.2.2.2.2.2.2.2.2.2.2.1, u.2.2.2.2.2.2.2.2.2.2.2.2.2.2.2.2.2.2.2.2.1, u.2.2.2.2.2.2.2.2.2.2.2.2.2.2.2.2.2.2.2.2.2.1, u.2.2.2.2.2.2.2.2.2.2.2.2.2.2.2.2.2.2.2.2.2.2.1, u.2.2.2.2.2.2.2.2.2.2.2.2.2.2.2.2.2.2.2.2.2.2.2.1, u.2.2.2.2.2.2.2.2.2.2.2.2.2.2.2.2.2.2.2.2.2.2.2.2.1, u.2.2.2.2.2.2.2.2.2.2.2.2.2.2.2.2.2.2.2.2.2.2.2.2.2.1, u.2.2.2.2.2.2.2.2.2.2.2.2.2.2.2.2.2.2.2.2.2.2.2.2.2.2.1, u.2.2.2.2.2.2.2.2.2.2.2.2.2.2.2.2.2.2.2.2.2.2.2.2.2.2.2)
end
section
theorem ex_clamp (post : Int32 → Prop) (u : SX) (p0 : Int32) (p1 : Int32) (p2 : Int32) : (wpX_clamp post u p0 p1 p2) = (((p1 ≤ p0 → (((p0 ≤ p2 → (post p0)) ∧ (¬ p0 ≤ p2 → (post p2))))) ∧ (¬ p1 ≤ p0 → (post p1)))) := by
  obtain ⟨a0, a1, a2, a3, a4, a5, a6, a7, a8, a9, a10, a11, a12, a13, a14, a15, a16, a17, a18, a19, a20, a21, a22, a23, a24, a25, a26, a27, a28, a29, a30, a31, a32, a33⟩ := u
  try rfl
theorem ex_isProgram (post : Int32 → Prop) (u : SX) (p0 : Int32) : (wpX_isProgram post u p0) = (((p0 < 0 → (post 0)) ∧ (¬ p0 < 0 → (((8 ≤ p0 → (post 0)) ∧ (¬ 8 ≤ p0 → (post 1))))))) := by
  obtain ⟨a0, a1, a2, a3, a4, a5, a6, a7, a8, a9, a10, a11, a12, a13, a14, a15, a16, a17, a18, a19, a20, a21, a22, a23, a24, a25, a26, a27, a28, a29, a30, a31, a32, a33⟩ := u
  try rfl
theorem ex_append (post : SX → Prop) (u : SX) (p0 : Int32) (p1 : Int32) : (wpX_append post u p0 p1) = (vp_in p0 8 ∧ (vp_in ((p0 * 32) + ((xg_lengths u) p0.toNatClampNeg)) 256 ∧ ∀ a_cells_3 : Nat → Int32, a_cells_3 = upd (xg_cells u) ((p0 * 32) + ((xg_lengths u) p0.toNatClampNeg)).toNatClampNeg p1 → (vp_in p0 8 ∧ (vp_in p0 8 ∧ ∀ a_lengths_6 : Nat → Int32, a_lengths_6 = upd (xg_lengths u) p0.toNatClampNeg (((xg_lengths u) p0.toNatClampNeg) + 1) → (post (xm_cells_lengths a_cells_3 a_lengths_6 u)))))) := by
  obtain ⟨a0, a1, a2, a3, a4, a5, a6, a7, a8, a9, a10, a11, a12, a13, a14, a15, a16, a17, a18, a19, a20, a21, a22, a23, a24, a25, a26, a27, a28, a29, a30, a31, a32, a33⟩ := u
  try rfl
theorem ex_emit (post : Int32 → SX → Prop) (u : SX) (p0 : Int32) (p1 : Int32) : (wpX_emit post u p0 p1) = (wpX_isProgram (fun r_1 => (((r_1 = 0 → (post (-3) u)) ∧ (¬ r_1 = 0 → (vp_in p0 8 ∧ (((((xg_lengths u) p0.toNatClampNeg) < 32 → (wpX_append (fun u1 => (vp_in p0 8 ∧ (post ((xg_lengths u1) p0.toNatClampNeg) u1))) u p0 p1)) ∧ (¬ ((xg_lengths u) p0.toNatClampNeg) < 32 → (post (-5) u))))))))) u p0) := by
  obtain ⟨a0, a1, a2, a3, a4, a5, a6, a7, a8, a9, a10, a11, a12, a13, a14, a15, a16, a17, a18, a19, a20, a21, a22, a23, a24, a25, a26, a27, a28, a29, a30, a31, a32, a33⟩ := u
  try rfl
theorem ex_emit3 (post : Int32 → SX → Prop) (u : SX) (p0 : Int32) (p1 : Int32) (p2 : Int32) (p3 : Int32) : (wpX_emit3 post u p0 p1 p2 p3) = (wpX_isProgram (fun r_1 => (((r_1 = 0 → (post (-3) u)) ∧ (¬ r_1 = 0 → (vp_in p0 8 ∧ (((((xg_lengths u) p0.toNatClampNeg) ≤ 29 → (wpX_append (fun u1 => (wpX_append (fun u2 => (wpX_append (fun u3 => (vp_in p0 8 ∧ (post ((xg_lengths u3) p0.toNatClampNeg) u3))) u2 p0 p3)) u1 p0 p2)) u p0 p1)) ∧ (¬ ((xg_lengths u) p0.toNatClampNeg) ≤ 29 → (post (-5) u))))))))) u p0) := by
  obtain ⟨a0, a1, a2, a3, a4, a5, a6, a7, a8, a9, a10, a11, a12, a13, a14, a15, a16, a17, a18, a19, a20, a21, a22, a23, a24, a25, a26, a27, a28, a29, a30, a31, a32, a33⟩ := u
  try rfl
theorem ex_clearProgram (post : Int32 → SX → Prop) (u : SX) (p0 : Int32) : (wpX_clearProgram post u p0) = (wpX_isProgram (fun r_1 => (((r_1 = 0 → (post (-3) u)) ∧ (¬ r_1 = 0 → (vp_in p0 8 ∧ ∀ a_lengths_38 : Nat → Int32, a_lengths_38 = upd (xg_lengths u) p0.toNatClampNeg 0 → (post 1 (xs_lengths a_lengths_38 u))))))) u p0) := by
  obtain ⟨a0, a1, a2, a3, a4, a5, a6, a7, a8, a9, a10, a11, a12, a13, a14, a15, a16, a17, a18, a19, a20, a21, a22, a23, a24, a25, a26, a27, a28, a29, a30, a31, a32, a33⟩ := u
  try rfl
theorem ex_isAccount (post : Int32 → Prop) (u : SX) (p0 : Int32) : (wpX_isAccount post u p0) = (((p0 < 0 → (post 0)) ∧ (¬ p0 < 0 → ((((xg_accounts u) ≤ p0 → (post 0)) ∧ (¬ (xg_accounts u) ≤ p0 → (post 1))))))) := by
  obtain ⟨a0, a1, a2, a3, a4, a5, a6, a7, a8, a9, a10, a11, a12, a13, a14, a15, a16, a17, a18, a19, a20, a21, a22, a23, a24, a25, a26, a27, a28, a29, a30, a31, a32, a33⟩ := u
  try rfl
theorem ex_exists (post : Int32 → Prop) (u : SX) (p0 : Int32) : (wpX_exists post u p0) = (((p0 < 0 → (post 0)) ∧ (¬ p0 < 0 → ((((xg_accounts u) ≤ p0 → (post 0)) ∧ (¬ (xg_accounts u) ≤ p0 → (vp_in (p0 * 6) 48 ∧ (((((xg_world u) (p0 * 6).toNatClampNeg) < 0 → (post 0)) ∧ (¬ ((xg_world u) (p0 * 6).toNatClampNeg) < 0 → (post 1))))))))))) := by
  obtain ⟨a0, a1, a2, a3, a4, a5, a6, a7, a8, a9, a10, a11, a12, a13, a14, a15, a16, a17, a18, a19, a20, a21, a22, a23, a24, a25, a26, a27, a28, a29, a30, a31, a32, a33⟩ := u
  try rfl
theorem ex_openAccount (post : Int32 → SX → Prop) (u : SX) (p0 : Int32) (p1 : Int32) (p2 : Int32) : (wpX_openAccount post u p0 p1 p2) = (wpX_isAccount (fun r_1 => (((r_1 = 0 → (post (-1) u)) ∧ (¬ r_1 = 0 → (wpX_exists (fun r_37 => (((r_37 = 0 → (wpX_isProgram (fun r_73 => (((r_73 = 0 → (post (-3) u)) ∧ (¬ r_73 = 0 → (((p2 < 0 → (post (-4) u)) ∧ (¬ p2 < 0 → (((p2 ≤ (1000000000 - (xg_mintSum u)) → (vp_in (p0 * 6) 48 ∧ ∀ a_world_112 : Nat → Int32, a_world_112 = upd (xg_world u) (p0 * 6).toNatClampNeg p1 → (vp_in ((p0 * 6) + 1) 48 ∧ ∀ a_world_114 : Nat → Int32, a_world_114 = upd a_world_112 ((p0 * 6) + 1).toNatClampNeg p2 → (∀ f_mintSum_115 : Int32, f_mintSum_115 = (xg_mintSum u) + p2 → (post 1 (xm_mintSum_world f_mintSum_115 a_world_114 u)))))) ∧ (¬ p2 ≤ (1000000000 - (xg_mintSum u)) → (post (-4) u))))))))))) u p1)) ∧ (¬ r_37 = 0 → (post (-2) u))))) u p0))))) u p0) := by
  obtain ⟨a0, a1, a2, a3, a4, a5, a6, a7, a8, a9, a10, a11, a12, a13, a14, a15, a16, a17, a18, a19, a20, a21, a22, a23, a24, a25, a26, a27, a28, a29, a30, a31, a32, a33⟩ := u
  try rfl
theorem ex_deposit (post : Int32 → SX → Prop) (u : SX) (p0 : Int32) (p1 : Int32) : (wpX_deposit post u p0 p1) = (wpX_exists (fun r_1 => (((r_1 = 0 → (post (-1) u)) ∧ (¬ r_1 = 0 → (((p1 < 0 → (post (-4) u)) ∧ (¬ p1 < 0 → (((p1 ≤ (1000000000 - (xg_mintSum u)) → (vp_in ((p0 * 6) + 1) 48 ∧ (vp_in ((p0 * 6) + 1) 48 ∧ ∀ a_world_41 : Nat → Int32, a_world_41 = upd (xg_world u) ((p0 * 6) + 1).toNatClampNeg (((xg_world u) ((p0 * 6) + 1).toNatClampNeg) + p1) → (∀ f_mintSum_42 : Int32, f_mintSum_42 = (xg_mintSum u) + p1 → (post 1 (xm_mintSum_world f_mintSum_42 a_world_41 u)))))) ∧ (¬ p1 ≤ (1000000000 - (xg_mintSum u)) → (post (-4) u))))))))))) u p0) := by
  obtain ⟨a0, a1, a2, a3, a4, a5, a6, a7, a8, a9, a10, a11, a12, a13, a14, a15, a16, a17, a18, a19, a20, a21, a22, a23, a24, a25, a26, a27, a28, a29, a30, a31, a32, a33⟩ := u
  try rfl
theorem ex_setInput (post : SX → Prop) (u : SX) (p0 : Int32) : (wpX_setInput post u p0) = (post (xs_inputWord p0 u)) := by
  obtain ⟨a0, a1, a2, a3, a4, a5, a6, a7, a8, a9, a10, a11, a12, a13, a14, a15, a16, a17, a18, a19, a20, a21, a22, a23, a24, a25, a26, a27, a28, a29, a30, a31, a32, a33⟩ := u
  try rfl
theorem ex_checkPayment (post : Int32 → Prop) (u : SX) (p0 : Int32) (p1 : Int32) (p2 : Int32) : (wpX_checkPayment post u p0 p1 p2) = (((p2 < 1 → (post (-7))) ∧ (¬ p2 < 1 → (((p2 ≤ 2000 → (((0 ≤ p1 → (vp_in ((p0 * 6) + 1) 48 ∧ (∀ x4_5 : Int32, x4_5 = ((xg_world u) ((p0 * 6) + 1).toNatClampNeg) - (p2 * (xg_price u)) → (((x4_5 < 0 → (post (-8))) ∧ (¬ x4_5 < 0 → (((p1 ≤ x4_5 → (post 0)) ∧ (¬ p1 ≤ x4_5 → (post (-8))))))))))) ∧ (¬ 0 ≤ p1 → (post (-4)))))) ∧ (¬ p2 ≤ 2000 → (post (-7)))))))) := by
  obtain ⟨a0, a1, a2, a3, a4, a5, a6, a7, a8, a9, a10, a11, a12, a13, a14, a15, a16, a17, a18, a19, a20, a21, a22, a23, a24, a25, a26, a27, a28, a29, a30, a31, a32, a33⟩ := u
  try rfl
theorem ex_setFrame (post : SX → Prop) (u : SX) (p0 : Int32) (p1 : Int32) (p2 : Int32) (p3 : Int32) (p4 : Int32) (p5 : Int32) (p6 : Int32) : (wpX_setFrame post u p0 p1 p2 p3 p4 p5 p6) = (vp_in (xg_active u) 8 ∧ ∀ a_frKind_2 : Nat → Int32, a_frKind_2 = upd (xg_frKind u) (xg_active u).toNatClampNeg p0 → (vp_in (xg_active u) 8 ∧ ∀ a_frCode_4 : Nat → Int32, a_frCode_4 = upd (xg_frCode u) (xg_active u).toNatClampNeg p1 → (vp_in (xg_active u) 8 ∧ ∀ a_frSelf_6 : Nat → Int32, a_frSelf_6 = upd (xg_frSelf u) (xg_active u).toNatClampNeg p2 → (vp_in (xg_active u) 8 ∧ ∀ a_frCaller_8 : Nat → Int32, a_frCaller_8 = upd (xg_frCaller u) (xg_active u).toNatClampNeg p3 → (vp_in (xg_active u) 8 ∧ ∀ a_frValue_10 : Nat → Int32, a_frValue_10 = upd (xg_frValue u) (xg_active u).toNatClampNeg p4 → (vp_in (xg_active u) 8 ∧ ∀ a_frInput_12 : Nat → Int32, a_frInput_12 = upd (xg_frInput u) (xg_active u).toNatClampNeg p5 → (vp_in (xg_active u) 8 ∧ ∀ a_frStatic_14 : Nat → Int32, a_frStatic_14 = upd (xg_frStatic u) (xg_active u).toNatClampNeg p6 → (post (xm_frKind_frCode_frSelf_frCaller_frValue_frInput_frStatic a_frKind_2 a_frCode_4 a_frSelf_6 a_frCaller_8 a_frValue_10 a_frInput_12 a_frStatic_14 u))))))))) := by
  obtain ⟨a0, a1, a2, a3, a4, a5, a6, a7, a8, a9, a10, a11, a12, a13, a14, a15, a16, a17, a18, a19, a20, a21, a22, a23, a24, a25, a26, a27, a28, a29, a30, a31, a32, a33⟩ := u
  try rfl
def zx_saveEntry_2 (post : SX → Prop) (x1 : Int32) (n : Nat) (x2 : Int32) (u : SX) : Prop := wX_saveEntry_2 post x1 (xg_accounts u) (xg_maxDepth u) (xg_price u) (xg_feeSum u) (xg_mintSum u) (xg_inputWord u) (xg_frameTotal u) (xg_logTotal u) (xg_lastWord u) (xg_active u) n x2 (xg_cells u) (xg_lengths u) (xg_world u) (xg_records u) (xg_logAccounts u) (xg_logWords u) (xg_frNumber u) (xg_frKind u) (xg_frCode u) (xg_frSelf u) (xg_frCaller u) (xg_frValue u) (xg_frInput u) (xg_frStatic u) (xg_frGas u) (xg_frOwn u) (xg_frAt u) (xg_frHeight u) (xg_frMemSize u) (xg_frResult u) (xg_stack u) (xg_memory u) (xg_entryWorld u) (xg_entryLogs u)
theorem ex_saveEntry_2 (post : SX → Prop) (x1 : Int32) (n : Nat) (x2 : Int32) (u : SX) : (zx_saveEntry_2 post x1 (n + 1) x2 u) = (((48 ≤ x2 → (vp_in x1 8 ∧ ∀ a_entryLogs_3 : Nat → Int32, a_entryLogs_3 = upd (xg_entryLogs u) x1.toNatClampNeg (xg_logTotal u) → (post (xs_entryLogs a_entryLogs_3 u)))) ∧ (¬ 48 ≤ x2 → (vp_in x2 48 ∧ (vp_in ((x1 * 48) + x2) 384 ∧ ∀ a_entryWorld_6 : Nat → Int32, a_entryWorld_6 = upd (xg_entryWorld u) ((x1 * 48) + x2).toNatClampNeg ((xg_world u) x2.toNatClampNeg) → (∀ x2_7 : Int32, x2_7 = x2 + 1 → (zx_saveEntry_2 post x1 n x2_7 (xs_entryWorld a_entryWorld_6 u)))))))) := by
  obtain ⟨a0, a1, a2, a3, a4, a5, a6, a7, a8, a9, a10, a11, a12, a13, a14, a15, a16, a17, a18, a19, a20, a21, a22, a23, a24, a25, a26, a27, a28, a29, a30, a31, a32, a33⟩ := u
  show (wX_saveEntry_2 post x1 a0 a1 a2 a3 a4 a5 a6 a7 a8 a9 (n + 1) x2 a10 a11 a12 a13 a14 a15 a16 a17 a18 a19 a20 a21 a22 a23 a24 a25 a26 a27 a28 a29 a30 a31 a32 a33) = _
  rw [wX_saveEntry_2]
  dsimp only [zx_saveEntry_2, xg_accounts, xg_maxDepth, xg_price, xg_feeSum, xg_mintSum, xg_inputWord, xg_frameTotal, xg_logTotal, xg_lastWord, xg_active, xg_cells, xg_lengths, xg_world, xg_records, xg_logAccounts, xg_logWords, xg_frNumber, xg_frKind, xg_frCode, xg_frSelf, xg_frCaller, xg_frValue, xg_frInput, xg_frStatic, xg_frGas, xg_frOwn, xg_frAt, xg_frHeight, xg_frMemSize, xg_frResult, xg_stack, xg_memory, xg_entryWorld, xg_entryLogs, xs_entryLogs, xs_entryWorld]
  try rfl
theorem ex_saveEntry (post : SX → Prop) (u : SX) (p0 : Int32) : (wpX_saveEntry post u p0) = (∃ n2 : Nat, zx_saveEntry_2 post p0 n2 0 u) := by
  obtain ⟨a0, a1, a2, a3, a4, a5, a6, a7, a8, a9, a10, a11, a12, a13, a14, a15, a16, a17, a18, a19, a20, a21, a22, a23, a24, a25, a26, a27, a28, a29, a30, a31, a32, a33⟩ := u
  dsimp only [zx_saveEntry_2, xg_accounts, xg_maxDepth, xg_price, xg_feeSum, xg_mintSum, xg_inputWord, xg_frameTotal, xg_logTotal, xg_lastWord, xg_active, xg_cells, xg_lengths, xg_world, xg_records, xg_logAccounts, xg_logWords, xg_frNumber, xg_frKind, xg_frCode, xg_frSelf, xg_frCaller, xg_frValue, xg_frInput, xg_frStatic, xg_frGas, xg_frOwn, xg_frAt, xg_frHeight, xg_frMemSize, xg_frResult, xg_stack, xg_memory, xg_entryWorld, xg_entryLogs]
  try rfl
def zx_recordEntry_25 (post : SX → Prop) (x1 : Int32) (x2 : Int32) (x3 : Int32) (u : SX) : Prop := wX_recordEntry_25 post x1 x2 x3 (xg_accounts u) (xg_maxDepth u) (xg_price u) (xg_feeSum u) (xg_mintSum u) (xg_inputWord u) (xg_frameTotal u) (xg_logTotal u) (xg_lastWord u) (xg_active u) (xg_cells u) (xg_lengths u) (xg_world u) (xg_records u) (xg_logAccounts u) (xg_logWords u) (xg_frNumber u) (xg_frKind u) (xg_frCode u) (xg_frSelf u) (xg_frCaller u) (xg_frValue u) (xg_frInput u) (xg_frStatic u) (xg_frGas u) (xg_frOwn u) (xg_frAt u) (xg_frHeight u) (xg_frMemSize u) (xg_frResult u) (xg_stack u) (xg_memory u) (xg_entryWorld u) (xg_entryLogs u)
theorem ex_recordEntry_25 (post : SX → Prop) (x1 : Int32) (x2 : Int32) (x3 : Int32) (u : SX) : (zx_recordEntry_25 post x1 x2 x3 u) = (vp_in x1 8 ∧ (vp_in (x2 + 0) 320 ∧ ∀ a_records_6 : Nat → Int32, a_records_6 = upd (xg_records u) (x2 + 0).toNatClampNeg ((xg_frKind u) x1.toNatClampNeg) → (vp_in (x2 + 1) 320 ∧ ∀ a_records_8 : Nat → Int32, a_records_8 = upd a_records_6 (x2 + 1).toNatClampNeg x3 → (vp_in x1 8 ∧ (vp_in (x2 + 2) 320 ∧ ∀ a_records_11 : Nat → Int32, a_records_11 = upd a_records_8 (x2 + 2).toNatClampNeg ((xg_frSelf u) x1.toNatClampNeg) → (vp_in x1 8 ∧ (vp_in (x2 + 3) 320 ∧ ∀ a_records_14 : Nat → Int32, a_records_14 = upd a_records_11 (x2 + 3).toNatClampNeg ((xg_frCode u) x1.toNatClampNeg) → (vp_in x1 8 ∧ (vp_in (x2 + 4) 320 ∧ ∀ a_records_17 : Nat → Int32, a_records_17 = upd a_records_14 (x2 + 4).toNatClampNeg ((xg_frStatic u) x1.toNatClampNeg) → (vp_in x1 8 ∧ (vp_in (x2 + 6) 320 ∧ ∀ a_records_20 : Nat → Int32, a_records_20 = upd a_records_17 (x2 + 6).toNatClampNeg ((xg_frGas u) x1.toNatClampNeg) → (post (xs_records a_records_20 u))))))))))))) := by
  obtain ⟨a0, a1, a2, a3, a4, a5, a6, a7, a8, a9, a10, a11, a12, a13, a14, a15, a16, a17, a18, a19, a20, a21, a22, a23, a24, a25, a26, a27, a28, a29, a30, a31, a32, a33⟩ := u
  dsimp only [zx_recordEntry_25, xg_accounts, xg_maxDepth, xg_price, xg_feeSum, xg_mintSum, xg_inputWord, xg_frameTotal, xg_logTotal, xg_lastWord, xg_active, xg_cells, xg_lengths, xg_world, xg_records, xg_logAccounts, xg_logWords, xg_frNumber, xg_frKind, xg_frCode, xg_frSelf, xg_frCaller, xg_frValue, xg_frInput, xg_frStatic, xg_frGas, xg_frOwn, xg_frAt, xg_frHeight, xg_frMemSize, xg_frResult, xg_stack, xg_memory, xg_entryWorld, xg_entryLogs, xs_records]
  try rfl
theorem ex_recordEntry (post : SX → Prop) (u : SX) (p0 : Int32) : (wpX_recordEntry post u p0) = (vp_in p0 8 ∧ (∀ x2_2 : Int32, x2_2 = ((xg_frNumber u) p0.toNatClampNeg) * 10 → (((p0 ≤ 0 → (zx_recordEntry_25 post p0 x2_2 (-1) u)) ∧ (¬ p0 ≤ 0 → (vp_in (p0 - 1) 8 ∧ (∀ x3_22 : Int32, x3_22 = (xg_frNumber u) (p0 - 1).toNatClampNeg → (zx_recordEntry_25 post p0 x2_2 x3_22 u)))))))) := by
  obtain ⟨a0, a1, a2, a3, a4, a5, a6, a7, a8, a9, a10, a11, a12, a13, a14, a15, a16, a17, a18, a19, a20, a21, a22, a23, a24, a25, a26, a27, a28, a29, a30, a31, a32, a33⟩ := u
  dsimp only [zx_recordEntry_25, xg_accounts, xg_maxDepth, xg_price, xg_feeSum, xg_mintSum, xg_inputWord, xg_frameTotal, xg_logTotal, xg_lastWord, xg_active, xg_cells, xg_lengths, xg_world, xg_records, xg_logAccounts, xg_logWords, xg_frNumber, xg_frKind, xg_frCode, xg_frSelf, xg_frCaller, xg_frValue, xg_frInput, xg_frStatic, xg_frGas, xg_frOwn, xg_frAt, xg_frHeight, xg_frMemSize, xg_frResult, xg_stack, xg_memory, xg_entryWorld, xg_entryLogs]
  try rfl
def zx_enterFrame_157 (post : SX → Prop) (x2 : Int32) (n : Nat) (x5 : Int32) (u : SX) : Prop := wX_enterFrame_157 post x2 (xg_accounts u) (xg_maxDepth u) (xg_price u) (xg_feeSum u) (xg_mintSum u) (xg_inputWord u) (xg_frameTotal u) (xg_logTotal u) (xg_lastWord u) (xg_active u) n x5 (xg_cells u) (xg_lengths u) (xg_world u) (xg_records u) (xg_logAccounts u) (xg_logWords u) (xg_frNumber u) (xg_frKind u) (xg_frCode u) (xg_frSelf u) (xg_frCaller u) (xg_frValue u) (xg_frInput u) (xg_frStatic u) (xg_frGas u) (xg_frOwn u) (xg_frAt u) (xg_frHeight u) (xg_frMemSize u) (xg_frResult u) (xg_stack u) (xg_memory u) (xg_entryWorld u) (xg_entryLogs u)
theorem ex_enterFrame_157 (post : SX → Prop) (x2 : Int32) (n : Nat) (x5 : Int32) (u : SX) : (zx_enterFrame_157 post x2 (n + 1) x5 u) = (((16 ≤ x5 → (wpX_recordEntry (fun u1 => (∀ f_frameTotal_101 : Int32, f_frameTotal_101 = (xg_frameTotal u1) + 1 → (∀ f_active_102 : Int32, f_active_102 = (xg_active u1) + 1 → (post (xm_frameTotal_active f_frameTotal_101 f_active_102 u1))))) u x2)) ∧ (¬ 16 ≤ x5 → (vp_in ((x2 * 16) + x5) 128 ∧ ∀ a_memory_104 : Nat → Int32, a_memory_104 = upd (xg_memory u) ((x2 * 16) + x5).toNatClampNeg 0 → (∀ x5_105 : Int32, x5_105 = x5 + 1 → (zx_enterFrame_157 post x2 n x5_105 (xs_memory a_memory_104 u))))))) := by
  obtain ⟨a0, a1, a2, a3, a4, a5, a6, a7, a8, a9, a10, a11, a12, a13, a14, a15, a16, a17, a18, a19, a20, a21, a22, a23, a24, a25, a26, a27, a28, a29, a30, a31, a32, a33⟩ := u
  show (wX_enterFrame_157 post x2 a0 a1 a2 a3 a4 a5 a6 a7 a8 a9 (n + 1) x5 a10 a11 a12 a13 a14 a15 a16 a17 a18 a19 a20 a21 a22 a23 a24 a25 a26 a27 a28 a29 a30 a31 a32 a33) = _
  rw [wX_enterFrame_157]
  try rfl
def zx_enterFrame_102 (post : SX → Prop) (x1 : Int32) (x2 : Int32) (u : SX) : Prop := wX_enterFrame_102 post x1 x2 (xg_accounts u) (xg_maxDepth u) (xg_price u) (xg_feeSum u) (xg_mintSum u) (xg_inputWord u) (xg_frameTotal u) (xg_logTotal u) (xg_lastWord u) (xg_active u) (xg_cells u) (xg_lengths u) (xg_world u) (xg_records u) (xg_logAccounts u) (xg_logWords u) (xg_frNumber u) (xg_frKind u) (xg_frCode u) (xg_frSelf u) (xg_frCaller u) (xg_frValue u) (xg_frInput u) (xg_frStatic u) (xg_frGas u) (xg_frOwn u) (xg_frAt u) (xg_frHeight u) (xg_frMemSize u) (xg_frResult u) (xg_stack u) (xg_memory u) (xg_entryWorld u) (xg_entryLogs u)
theorem ex_enterFrame_102 (post : SX → Prop) (x1 : Int32) (x2 : Int32) (u : SX) : (zx_enterFrame_102 post x1 x2 u) = (vp_in x2 8 ∧ ∀ a_frNumber_52 : Nat → Int32, a_frNumber_52 = upd (xg_frNumber u) x2.toNatClampNeg (xg_frameTotal u) → (vp_in x2 8 ∧ ∀ a_frGas_54 : Nat → Int32, a_frGas_54 = upd (xg_frGas u) x2.toNatClampNeg x1 → (vp_in x2 8 ∧ ∀ a_frOwn_56 : Nat → Int32, a_frOwn_56 = upd (xg_frOwn u) x2.toNatClampNeg 0 → (vp_in x2 8 ∧ ∀ a_frAt_58 : Nat → Int32, a_frAt_58 = upd (xg_frAt u) x2.toNatClampNeg 0 → (vp_in x2 8 ∧ ∀ a_frHeight_60 : Nat → Int32, a_frHeight_60 = upd (xg_frHeight u) x2.toNatClampNeg 0 → (vp_in x2 8 ∧ ∀ a_frMemSize_62 : Nat → Int32, a_frMemSize_62 = upd (xg_frMemSize u) x2.toNatClampNeg 0 → (vp_in x2 8 ∧ ∀ a_frResult_64 : Nat → Int32, a_frResult_64 = upd (xg_frResult u) x2.toNatClampNeg 0 → (∃ n157 : Nat, zx_enterFrame_157 post x2 n157 0 (xm_frNumber_frGas_frOwn_frAt_frHeight_frMemSize_frResult a_frNumber_52 a_frGas_54 a_frOwn_56 a_frAt_58 a_frHeight_60 a_frMemSize_62 a_frResult_64 u))))))))) := by
  obtain ⟨a0, a1, a2, a3, a4, a5, a6, a7, a8, a9, a10, a11, a12, a13, a14, a15, a16, a17, a18, a19, a20, a21, a22, a23, a24, a25, a26, a27, a28, a29, a30, a31, a32, a33⟩ := u
  dsimp only [zx_enterFrame_102, zx_enterFrame_157, xg_accounts, xg_maxDepth, xg_price, xg_feeSum, xg_mintSum, xg_inputWord, xg_frameTotal, xg_logTotal, xg_lastWord, xg_active, xg_cells, xg_lengths, xg_world, xg_records, xg_logAccounts, xg_logWords, xg_frNumber, xg_frKind, xg_frCode, xg_frSelf, xg_frCaller, xg_frValue, xg_frInput, xg_frStatic, xg_frGas, xg_frOwn, xg_frAt, xg_frHeight, xg_frMemSize, xg_frResult, xg_stack, xg_memory, xg_entryWorld, xg_entryLogs, xm_frNumber_frGas_frOwn_frAt_frHeight_frMemSize_frResult]
  try rfl
def zx_enterFrame_56 (post : SX → Prop) (x1 : Int32) (x2 : Int32) (x4 : Int32) (u : SX) : Prop := wX_enterFrame_56 post x1 x2 x4 (xg_accounts u) (xg_maxDepth u) (xg_price u) (xg_feeSum u) (xg_mintSum u) (xg_inputWord u) (xg_frameTotal u) (xg_logTotal u) (xg_lastWord u) (xg_active u) (xg_cells u) (xg_lengths u) (xg_world u) (xg_records u) (xg_logAccounts u) (xg_logWords u) (xg_frNumber u) (xg_frKind u) (xg_frCode u) (xg_frSelf u) (xg_frCaller u) (xg_frValue u) (xg_frInput u) (xg_frStatic u) (xg_frGas u) (xg_frOwn u) (xg_frAt u) (xg_frHeight u) (xg_frMemSize u) (xg_frResult u) (xg_stack u) (xg_memory u) (xg_entryWorld u) (xg_entryLogs u)
theorem ex_enterFrame_56 (post : SX → Prop) (x1 : Int32) (x2 : Int32) (x4 : Int32) (u : SX) : (zx_enterFrame_56 post x1 x2 x4 u) = (vp_in x2 8 ∧ (vp_in ((((xg_frCaller u) x2.toNatClampNeg) * 6) + 1) 48 ∧ (vp_in x2 8 ∧ (vp_in ((((xg_frCaller u) x2.toNatClampNeg) * 6) + 1) 48 ∧ ∀ a_world_46 : Nat → Int32, a_world_46 = upd (xg_world u) ((((xg_frCaller u) x2.toNatClampNeg) * 6) + 1).toNatClampNeg (((xg_world u) ((((xg_frCaller u) x2.toNatClampNeg) * 6) + 1).toNatClampNeg) - ((xg_frValue u) x2.toNatClampNeg)) → (vp_in ((x4 * 6) + 1) 48 ∧ (vp_in x2 8 ∧ (vp_in ((x4 * 6) + 1) 48 ∧ ∀ a_world_50 : Nat → Int32, a_world_50 = upd a_world_46 ((x4 * 6) + 1).toNatClampNeg ((a_world_46 ((x4 * 6) + 1).toNatClampNeg) + ((xg_frValue u) x2.toNatClampNeg)) → (zx_enterFrame_102 post x1 x2 (xs_world a_world_50 u))))))))) := by
  obtain ⟨a0, a1, a2, a3, a4, a5, a6, a7, a8, a9, a10, a11, a12, a13, a14, a15, a16, a17, a18, a19, a20, a21, a22, a23, a24, a25, a26, a27, a28, a29, a30, a31, a32, a33⟩ := u
  dsimp only [zx_enterFrame_102, zx_enterFrame_56, xg_accounts, xg_maxDepth, xg_price, xg_feeSum, xg_mintSum, xg_inputWord, xg_frameTotal, xg_logTotal, xg_lastWord, xg_active, xg_cells, xg_lengths, xg_world, xg_records, xg_logAccounts, xg_logWords, xg_frNumber, xg_frKind, xg_frCode, xg_frSelf, xg_frCaller, xg_frValue, xg_frInput, xg_frStatic, xg_frGas, xg_frOwn, xg_frAt, xg_frHeight, xg_frMemSize, xg_frResult, xg_stack, xg_memory, xg_entryWorld, xg_entryLogs, xs_world]
  try rfl
def zx_enterFrame_46 (post : SX → Prop) (x1 : Int32) (x2 : Int32) (x3 : Int32) (x4 : Int32) (u : SX) : Prop := wX_enterFrame_46 post x1 x2 x3 x4 (xg_accounts u) (xg_maxDepth u) (xg_price u) (xg_feeSum u) (xg_mintSum u) (xg_inputWord u) (xg_frameTotal u) (xg_logTotal u) (xg_lastWord u) (xg_active u) (xg_cells u) (xg_lengths u) (xg_world u) (xg_records u) (xg_logAccounts u) (xg_logWords u) (xg_frNumber u) (xg_frKind u) (xg_frCode u) (xg_frSelf u) (xg_frCaller u) (xg_frValue u) (xg_frInput u) (xg_frStatic u) (xg_frGas u) (xg_frOwn u) (xg_frAt u) (xg_frHeight u) (xg_frMemSize u) (xg_frResult u) (xg_stack u) (xg_memory u) (xg_entryWorld u) (xg_entryLogs u)
theorem ex_enterFrame_46 (post : SX → Prop) (x1 : Int32) (x2 : Int32) (x3 : Int32) (x4 : Int32) (u : SX) : (zx_enterFrame_46 post x1 x2 x3 x4 u) = (((x3 = 1 → (zx_enterFrame_56 post x1 x2 x4 u)) ∧ (¬ x3 = 1 → (((x3 = 4 → (zx_enterFrame_56 post x1 x2 x4 u)) ∧ (¬ x3 = 4 → (zx_enterFrame_102 post x1 x2 u))))))) := by
  obtain ⟨a0, a1, a2, a3, a4, a5, a6, a7, a8, a9, a10, a11, a12, a13, a14, a15, a16, a17, a18, a19, a20, a21, a22, a23, a24, a25, a26, a27, a28, a29, a30, a31, a32, a33⟩ := u
  dsimp only [zx_enterFrame_102, zx_enterFrame_46, zx_enterFrame_56, xg_accounts, xg_maxDepth, xg_price, xg_feeSum, xg_mintSum, xg_inputWord, xg_frameTotal, xg_logTotal, xg_lastWord, xg_active, xg_cells, xg_lengths, xg_world, xg_records, xg_logAccounts, xg_logWords, xg_frNumber, xg_frKind, xg_frCode, xg_frSelf, xg_frCaller, xg_frValue, xg_frInput, xg_frStatic, xg_frGas, xg_frOwn, xg_frAt, xg_frHeight, xg_frMemSize, xg_frResult, xg_stack, xg_memory, xg_entryWorld, xg_entryLogs]
  try rfl
theorem ex_enterFrame (post : SX → Prop) (u : SX) (p0 : Int32) : (wpX_enterFrame post u p0) = (wpX_saveEntry (fun u1 => (vp_in (xg_active u) 8 ∧ (∀ x3_37 : Int32, x3_37 = (xg_frKind u1) (xg_active u).toNatClampNeg → (vp_in (xg_active u) 8 ∧ (∀ x4_39 : Int32, x4_39 = (xg_frSelf u1) (xg_active u).toNatClampNeg → (((x3_37 = 4 → (vp_in (xg_active u) 8 ∧ (vp_in (x4_39 * 6) 48 ∧ ∀ a_world_109 : Nat → Int32, a_world_109 = upd (xg_world u1) (x4_39 * 6).toNatClampNeg ((xg_frCode u1) (xg_active u).toNatClampNeg) → (zx_enterFrame_46 post p0 (xg_active u) x3_37 x4_39 (xs_world a_world_109 u1))))) ∧ (¬ x3_37 = 4 → (zx_enterFrame_46 post p0 (xg_active u) x3_37 x4_39 u1))))))))) u (xg_active u)) := by
  obtain ⟨a0, a1, a2, a3, a4, a5, a6, a7, a8, a9, a10, a11, a12, a13, a14, a15, a16, a17, a18, a19, a20, a21, a22, a23, a24, a25, a26, a27, a28, a29, a30, a31, a32, a33⟩ := u
  try rfl
def zx_restoreEntry_2 (post : SX → Prop) (x1 : Int32) (n : Nat) (x2 : Int32) (u : SX) : Prop := wX_restoreEntry_2 post x1 (xg_accounts u) (xg_maxDepth u) (xg_price u) (xg_feeSum u) (xg_mintSum u) (xg_inputWord u) (xg_frameTotal u) (xg_logTotal u) (xg_lastWord u) (xg_active u) n x2 (xg_cells u) (xg_lengths u) (xg_world u) (xg_records u) (xg_logAccounts u) (xg_logWords u) (xg_frNumber u) (xg_frKind u) (xg_frCode u) (xg_frSelf u) (xg_frCaller u) (xg_frValue u) (xg_frInput u) (xg_frStatic u) (xg_frGas u) (xg_frOwn u) (xg_frAt u) (xg_frHeight u) (xg_frMemSize u) (xg_frResult u) (xg_stack u) (xg_memory u) (xg_entryWorld u) (xg_entryLogs u)
theorem ex_restoreEntry_2 (post : SX → Prop) (x1 : Int32) (n : Nat) (x2 : Int32) (u : SX) : (zx_restoreEntry_2 post x1 (n + 1) x2 u) = (((48 ≤ x2 → (vp_in x1 8 ∧ (∀ f_logTotal_3 : Int32, f_logTotal_3 = (xg_entryLogs u) x1.toNatClampNeg → (post (xs_logTotal f_logTotal_3 u))))) ∧ (¬ 48 ≤ x2 → (vp_in ((x1 * 48) + x2) 384 ∧ (vp_in x2 48 ∧ ∀ a_world_6 : Nat → Int32, a_world_6 = upd (xg_world u) x2.toNatClampNeg ((xg_entryWorld u) ((x1 * 48) + x2).toNatClampNeg) → (∀ x2_7 : Int32, x2_7 = x2 + 1 → (zx_restoreEntry_2 post x1 n x2_7 (xs_world a_world_6 u)))))))) := by
  obtain ⟨a0, a1, a2, a3, a4, a5, a6, a7, a8, a9, a10, a11, a12, a13, a14, a15, a16, a17, a18, a19, a20, a21, a22, a23, a24, a25, a26, a27, a28, a29, a30, a31, a32, a33⟩ := u
  show (wX_restoreEntry_2 post x1 a0 a1 a2 a3 a4 a5 a6 a7 a8 a9 (n + 1) x2 a10 a11 a12 a13 a14 a15 a16 a17 a18 a19 a20 a21 a22 a23 a24 a25 a26 a27 a28 a29 a30 a31 a32 a33) = _
  rw [wX_restoreEntry_2]
  dsimp only [zx_restoreEntry_2, xg_accounts, xg_maxDepth, xg_price, xg_feeSum, xg_mintSum, xg_inputWord, xg_frameTotal, xg_logTotal, xg_lastWord, xg_active, xg_cells, xg_lengths, xg_world, xg_records, xg_logAccounts, xg_logWords, xg_frNumber, xg_frKind, xg_frCode, xg_frSelf, xg_frCaller, xg_frValue, xg_frInput, xg_frStatic, xg_frGas, xg_frOwn, xg_frAt, xg_frHeight, xg_frMemSize, xg_frResult, xg_stack, xg_memory, xg_entryWorld, xg_entryLogs, xs_logTotal, xs_world]
  try rfl
theorem ex_restoreEntry (post : SX → Prop) (u : SX) (p0 : Int32) : (wpX_restoreEntry post u p0) = (∃ n2 : Nat, zx_restoreEntry_2 post p0 n2 0 u) := by
  obtain ⟨a0, a1, a2, a3, a4, a5, a6, a7, a8, a9, a10, a11, a12, a13, a14, a15, a16, a17, a18, a19, a20, a21, a22, a23, a24, a25, a26, a27, a28, a29, a30, a31, a32, a33⟩ := u
  dsimp only [zx_restoreEntry_2, xg_accounts, xg_maxDepth, xg_price, xg_feeSum, xg_mintSum, xg_inputWord, xg_frameTotal, xg_logTotal, xg_lastWord, xg_active, xg_cells, xg_lengths, xg_world, xg_records, xg_logAccounts, xg_logWords, xg_frNumber, xg_frKind, xg_frCode, xg_frSelf, xg_frCaller, xg_frValue, xg_frInput, xg_frStatic, xg_frGas, xg_frOwn, xg_frAt, xg_frHeight, xg_frMemSize, xg_frResult, xg_stack, xg_memory, xg_entryWorld, xg_entryLogs]
  try rfl
def zx_countChanges_14 (post : Int32 → Prop) (x1 : Int32) (n : Nat) (x2 : Int32) (x3 : Int32) (u : SX) : Prop := wX_countChanges_14 post x1 (xg_accounts u) (xg_maxDepth u) (xg_price u) (xg_feeSum u) (xg_mintSum u) (xg_inputWord u) (xg_frameTotal u) (xg_logTotal u) (xg_lastWord u) (xg_active u) (xg_cells u) (xg_lengths u) (xg_world u) (xg_records u) (xg_logAccounts u) (xg_logWords u) (xg_frNumber u) (xg_frKind u) (xg_frCode u) (xg_frSelf u) (xg_frCaller u) (xg_frValue u) (xg_frInput u) (xg_frStatic u) (xg_frGas u) (xg_frOwn u) (xg_frAt u) (xg_frHeight u) (xg_frMemSize u) (xg_frResult u) (xg_stack u) (xg_memory u) (xg_entryWorld u) (xg_entryLogs u) n x2 x3
theorem ex_countChanges_14 (post : Int32 → Prop) (x1 : Int32) (n : Nat) (x2 : Int32) (x3 : Int32) (u : SX) : (zx_countChanges_14 post x1 (n + 1) x2 x3 u) = (((48 ≤ x3 → (post x2)) ∧ (¬ 48 ≤ x3 → (vp_in x3 48 ∧ (vp_in ((x1 * 48) + x3) 384 ∧ (((((xg_world u) x3.toNatClampNeg) = ((xg_entryWorld u) ((x1 * 48) + x3).toNatClampNeg) → (∀ x3_7 : Int32, x3_7 = x3 + 1 → (zx_countChanges_14 post x1 n x2 x3_7 u))) ∧ (¬ ((xg_world u) x3.toNatClampNeg) = ((xg_entryWorld u) ((x1 * 48) + x3).toNatClampNeg) → (∀ x2_8 : Int32, x2_8 = x2 + 1 → (∀ x3_9 : Int32, x3_9 = x3 + 1 → (zx_countChanges_14 post x1 n x2_8 x3_9 u))))))))))) := by
  obtain ⟨a0, a1, a2, a3, a4, a5, a6, a7, a8, a9, a10, a11, a12, a13, a14, a15, a16, a17, a18, a19, a20, a21, a22, a23, a24, a25, a26, a27, a28, a29, a30, a31, a32, a33⟩ := u
  show (wX_countChanges_14 post x1 a0 a1 a2 a3 a4 a5 a6 a7 a8 a9 a10 a11 a12 a13 a14 a15 a16 a17 a18 a19 a20 a21 a22 a23 a24 a25 a26 a27 a28 a29 a30 a31 a32 a33 (n + 1) x2 x3) = _
  rw [wX_countChanges_14]
  dsimp only [zx_countChanges_14, xg_accounts, xg_maxDepth, xg_price, xg_feeSum, xg_mintSum, xg_inputWord, xg_frameTotal, xg_logTotal, xg_lastWord, xg_active, xg_cells, xg_lengths, xg_world, xg_records, xg_logAccounts, xg_logWords, xg_frNumber, xg_frKind, xg_frCode, xg_frSelf, xg_frCaller, xg_frValue, xg_frInput, xg_frStatic, xg_frGas, xg_frOwn, xg_frAt, xg_frHeight, xg_frMemSize, xg_frResult, xg_stack, xg_memory, xg_entryWorld, xg_entryLogs]
  try rfl
theorem ex_countChanges (post : Int32 → Prop) (u : SX) (p0 : Int32) : (wpX_countChanges post u p0) = (vp_in p0 8 ∧ (∀ x2_2 : Int32, x2_2 = (xg_logTotal u) - ((xg_entryLogs u) p0.toNatClampNeg) → (∃ n14 : Nat, zx_countChanges_14 post p0 n14 x2_2 0 u))) := by
  obtain ⟨a0, a1, a2, a3, a4, a5, a6, a7, a8, a9, a10, a11, a12, a13, a14, a15, a16, a17, a18, a19, a20, a21, a22, a23, a24, a25, a26, a27, a28, a29, a30, a31, a32, a33⟩ := u
  dsimp only [zx_countChanges_14, xg_accounts, xg_maxDepth, xg_price, xg_feeSum, xg_mintSum, xg_inputWord, xg_frameTotal, xg_logTotal, xg_lastWord, xg_active, xg_cells, xg_lengths, xg_world, xg_records, xg_logAccounts, xg_logWords, xg_frNumber, xg_frKind, xg_frCode, xg_frSelf, xg_frCaller, xg_frValue, xg_frInput, xg_frStatic, xg_frGas, xg_frOwn, xg_frAt, xg_frHeight, xg_frMemSize, xg_frResult, xg_stack, xg_memory, xg_entryWorld, xg_entryLogs]
  try rfl
theorem ex_push (post : SX → Prop) (u : SX) (p0 : Int32) (p1 : Int32) : (wpX_push post u p0 p1) = (vp_in p0 8 ∧ (((16 ≤ ((xg_frHeight u) p0.toNatClampNeg) → (post u)) ∧ (¬ 16 ≤ ((xg_frHeight u) p0.toNatClampNeg) → (vp_in p0 8 ∧ (vp_in ((p0 * 16) + ((xg_frHeight u) p0.toNatClampNeg)) 128 ∧ ∀ a_stack_5 : Nat → Int32, a_stack_5 = upd (xg_stack u) ((p0 * 16) + ((xg_frHeight u) p0.toNatClampNeg)).toNatClampNeg p1 → (vp_in p0 8 ∧ (vp_in p0 8 ∧ ∀ a_frHeight_8 : Nat → Int32, a_frHeight_8 = upd (xg_frHeight u) p0.toNatClampNeg (((xg_frHeight u) p0.toNatClampNeg) + 1) → (post (xm_frHeight_stack a_frHeight_8 a_stack_5 u)))))))))) := by
  obtain ⟨a0, a1, a2, a3, a4, a5, a6, a7, a8, a9, a10, a11, a12, a13, a14, a15, a16, a17, a18, a19, a20, a21, a22, a23, a24, a25, a26, a27, a28, a29, a30, a31, a32, a33⟩ := u
  try rfl
def zx_resumeParent_67 (post : SX → Prop) (x5 : Int32) (x6 : Int32) (u : SX) : Prop := wX_resumeParent_67 post x5 x6 (xg_accounts u) (xg_maxDepth u) (xg_price u) (xg_feeSum u) (xg_mintSum u) (xg_inputWord u) (xg_frameTotal u) (xg_logTotal u) (xg_lastWord u) (xg_active u) (xg_cells u) (xg_lengths u) (xg_world u) (xg_records u) (xg_logAccounts u) (xg_logWords u) (xg_frNumber u) (xg_frKind u) (xg_frCode u) (xg_frSelf u) (xg_frCaller u) (xg_frValue u) (xg_frInput u) (xg_frStatic u) (xg_frGas u) (xg_frOwn u) (xg_frAt u) (xg_frHeight u) (xg_frMemSize u) (xg_frResult u) (xg_stack u) (xg_memory u) (xg_entryWorld u) (xg_entryLogs u)
theorem ex_resumeParent_67 (post : SX → Prop) (x5 : Int32) (x6 : Int32) (u : SX) : (zx_resumeParent_67 post x5 x6 u) = (wpX_push post u x5 x6) := by
  obtain ⟨a0, a1, a2, a3, a4, a5, a6, a7, a8, a9, a10, a11, a12, a13, a14, a15, a16, a17, a18, a19, a20, a21, a22, a23, a24, a25, a26, a27, a28, a29, a30, a31, a32, a33⟩ := u
  dsimp only [zx_resumeParent_67, xg_accounts, xg_maxDepth, xg_price, xg_feeSum, xg_mintSum, xg_inputWord, xg_frameTotal, xg_logTotal, xg_lastWord, xg_active, xg_cells, xg_lengths, xg_world, xg_records, xg_logAccounts, xg_logWords, xg_frNumber, xg_frKind, xg_frCode, xg_frSelf, xg_frCaller, xg_frValue, xg_frInput, xg_frStatic, xg_frGas, xg_frOwn, xg_frAt, xg_frHeight, xg_frMemSize, xg_frResult, xg_stack, xg_memory, xg_entryWorld, xg_entryLogs]
  try rfl
def zx_resumeParent_65 (post : SX → Prop) (x5 : Int32) (z0 : Int32) (u : SX) : Prop := wX_resumeParent_65 post x5 z0 (xg_accounts u) (xg_maxDepth u) (xg_price u) (xg_feeSum u) (xg_mintSum u) (xg_inputWord u) (xg_frameTotal u) (xg_logTotal u) (xg_lastWord u) (xg_active u) (xg_cells u) (xg_lengths u) (xg_world u) (xg_records u) (xg_logAccounts u) (xg_logWords u) (xg_frNumber u) (xg_frKind u) (xg_frCode u) (xg_frSelf u) (xg_frCaller u) (xg_frValue u) (xg_frInput u) (xg_frStatic u) (xg_frGas u) (xg_frOwn u) (xg_frAt u) (xg_frHeight u) (xg_frMemSize u) (xg_frResult u) (xg_stack u) (xg_memory u) (xg_entryWorld u) (xg_entryLogs u)
theorem ex_resumeParent_65 (post : SX → Prop) (x5 : Int32) (z0 : Int32) (u : SX) : (zx_resumeParent_65 post x5 z0 u) = (zx_resumeParent_67 post x5 z0 u) := by
  obtain ⟨a0, a1, a2, a3, a4, a5, a6, a7, a8, a9, a10, a11, a12, a13, a14, a15, a16, a17, a18, a19, a20, a21, a22, a23, a24, a25, a26, a27, a28, a29, a30, a31, a32, a33⟩ := u
  dsimp only [zx_resumeParent_65, zx_resumeParent_67, xg_accounts, xg_maxDepth, xg_price, xg_feeSum, xg_mintSum, xg_inputWord, xg_frameTotal, xg_logTotal, xg_lastWord, xg_active, xg_cells, xg_lengths, xg_world, xg_records, xg_logAccounts, xg_logWords, xg_frNumber, xg_frKind, xg_frCode, xg_frSelf, xg_frCaller, xg_frValue, xg_frInput, xg_frStatic, xg_frGas, xg_frOwn, xg_frAt, xg_frHeight, xg_frMemSize, xg_frResult, xg_stack, xg_memory, xg_entryWorld, xg_entryLogs]
  try rfl
def zx_resumeParent_50 (post : SX → Prop) (x5 : Int32) (z0 : Int32) (u : SX) : Prop := wX_resumeParent_50 post x5 z0 (xg_accounts u) (xg_maxDepth u) (xg_price u) (xg_feeSum u) (xg_mintSum u) (xg_inputWord u) (xg_frameTotal u) (xg_logTotal u) (xg_lastWord u) (xg_active u) (xg_cells u) (xg_lengths u) (xg_world u) (xg_records u) (xg_logAccounts u) (xg_logWords u) (xg_frNumber u) (xg_frKind u) (xg_frCode u) (xg_frSelf u) (xg_frCaller u) (xg_frValue u) (xg_frInput u) (xg_frStatic u) (xg_frGas u) (xg_frOwn u) (xg_frAt u) (xg_frHeight u) (xg_frMemSize u) (xg_frResult u) (xg_stack u) (xg_memory u) (xg_entryWorld u) (xg_entryLogs u)
theorem ex_resumeParent_50 (post : SX → Prop) (x5 : Int32) (z0 : Int32) (u : SX) : (zx_resumeParent_50 post x5 z0 u) = (zx_resumeParent_67 post x5 z0 u) := by
  obtain ⟨a0, a1, a2, a3, a4, a5, a6, a7, a8, a9, a10, a11, a12, a13, a14, a15, a16, a17, a18, a19, a20, a21, a22, a23, a24, a25, a26, a27, a28, a29, a30, a31, a32, a33⟩ := u
  dsimp only [zx_resumeParent_50, zx_resumeParent_67, xg_accounts, xg_maxDepth, xg_price, xg_feeSum, xg_mintSum, xg_inputWord, xg_frameTotal, xg_logTotal, xg_lastWord, xg_active, xg_cells, xg_lengths, xg_world, xg_records, xg_logAccounts, xg_logWords, xg_frNumber, xg_frKind, xg_frCode, xg_frSelf, xg_frCaller, xg_frValue, xg_frInput, xg_frStatic, xg_frGas, xg_frOwn, xg_frAt, xg_frHeight, xg_frMemSize, xg_frResult, xg_stack, xg_memory, xg_entryWorld, xg_entryLogs]
  try rfl
theorem ex_resumeParent (post : SX → Prop) (u : SX) (p0 : Int32) (p1 : Int32) (p2 : Int32) (p3 : Int32) : (wpX_resumeParent post u p0 p1 p2 p3) = (∀ x5_1 : Int32, x5_1 = p0 - 1 → (vp_in x5_1 8 ∧ (vp_in x5_1 8 ∧ ∀ a_frGas_4 : Nat → Int32, a_frGas_4 = upd (xg_frGas u) x5_1.toNatClampNeg (((xg_frGas u) x5_1.toNatClampNeg) + p3) → (vp_in x5_1 8 ∧ ∀ a_frResult_6 : Nat → Int32, a_frResult_6 = upd (xg_frResult u) x5_1.toNatClampNeg p2 → (vp_in p0 8 ∧ (((((xg_frKind u) p0.toNatClampNeg) = 4 → (((p1 = 1 → (vp_in p0 8 ∧ (zx_resumeParent_50 post x5_1 ((xg_frSelf u) p0.toNatClampNeg) (xm_frGas_frResult a_frGas_4 a_frResult_6 u)))) ∧ (¬ p1 = 1 → (zx_resumeParent_50 post x5_1 (-1) (xm_frGas_frResult a_frGas_4 a_frResult_6 u)))))) ∧ (¬ ((xg_frKind u) p0.toNatClampNeg) = 4 → (((p1 = 1 → (zx_resumeParent_65 post x5_1 1 (xm_frGas_frResult a_frGas_4 a_frResult_6 u))) ∧ (¬ p1 = 1 → (zx_resumeParent_65 post x5_1 0 (xm_frGas_frResult a_frGas_4 a_frResult_6 u))))))))))))) := by
  obtain ⟨a0, a1, a2, a3, a4, a5, a6, a7, a8, a9, a10, a11, a12, a13, a14, a15, a16, a17, a18, a19, a20, a21, a22, a23, a24, a25, a26, a27, a28, a29, a30, a31, a32, a33⟩ := u
  dsimp only [zx_resumeParent_50, zx_resumeParent_65, xg_accounts, xg_maxDepth, xg_price, xg_feeSum, xg_mintSum, xg_inputWord, xg_frameTotal, xg_logTotal, xg_lastWord, xg_active, xg_cells, xg_lengths, xg_world, xg_records, xg_logAccounts, xg_logWords, xg_frNumber, xg_frKind, xg_frCode, xg_frSelf, xg_frCaller, xg_frValue, xg_frInput, xg_frStatic, xg_frGas, xg_frOwn, xg_frAt, xg_frHeight, xg_frMemSize, xg_frResult, xg_stack, xg_memory, xg_entryWorld, xg_entryLogs, xm_frGas_frResult]
  try rfl
def zx_endFrame_114 (post : SX → Prop) (x3 : Int32) (x4 : Int32) (x5 : Int32) (x6 : Int32) (u : SX) : Prop := wX_endFrame_114 post x3 x4 x5 x6 (xg_accounts u) (xg_maxDepth u) (xg_price u) (xg_feeSum u) (xg_mintSum u) (xg_inputWord u) (xg_frameTotal u) (xg_logTotal u) (xg_lastWord u) (xg_active u) (xg_cells u) (xg_lengths u) (xg_world u) (xg_records u) (xg_logAccounts u) (xg_logWords u) (xg_frNumber u) (xg_frKind u) (xg_frCode u) (xg_frSelf u) (xg_frCaller u) (xg_frValue u) (xg_frInput u) (xg_frStatic u) (xg_frGas u) (xg_frOwn u) (xg_frAt u) (xg_frHeight u) (xg_frMemSize u) (xg_frResult u) (xg_stack u) (xg_memory u) (xg_entryWorld u) (xg_entryLogs u)
theorem ex_endFrame_114 (post : SX → Prop) (x3 : Int32) (x4 : Int32) (x5 : Int32) (x6 : Int32) (u : SX) : (zx_endFrame_114 post x3 x4 x5 x6 u) = (vp_in x3 8 ∧ (∀ x7_9 : Int32, x7_9 = ((xg_frNumber u) x3.toNatClampNeg) * 10 → (wpX_countChanges (fun r_10 => (vp_in (x7_9 + 5) 320 ∧ ∀ a_records_46 : Nat → Int32, a_records_46 = upd (xg_records u) (x7_9 + 5).toNatClampNeg x4 → (vp_in (x7_9 + 7) 320 ∧ ∀ a_records_48 : Nat → Int32, a_records_48 = upd a_records_46 (x7_9 + 7).toNatClampNeg x6 → (vp_in x3 8 ∧ (vp_in (x7_9 + 8) 320 ∧ ∀ a_records_51 : Nat → Int32, a_records_51 = upd a_records_48 (x7_9 + 8).toNatClampNeg ((xg_frOwn u) x3.toNatClampNeg) → (vp_in (x7_9 + 9) 320 ∧ ∀ a_records_53 : Nat → Int32, a_records_53 = upd a_records_51 (x7_9 + 9).toNatClampNeg r_10 → (∀ f_active_54 : Int32, f_active_54 = (xg_active u) - 1 → (((f_active_54 ≤ 0 → (post (xm_lastWord_active_records x5 f_active_54 a_records_53 u))) ∧ (¬ f_active_54 ≤ 0 → (wpX_resumeParent post (xm_active_records f_active_54 a_records_53 u) x3 x4 x5 x6))))))))))) u x3))) := by
  obtain ⟨a0, a1, a2, a3, a4, a5, a6, a7, a8, a9, a10, a11, a12, a13, a14, a15, a16, a17, a18, a19, a20, a21, a22, a23, a24, a25, a26, a27, a28, a29, a30, a31, a32, a33⟩ := u
  dsimp only [zx_endFrame_114, xg_accounts, xg_maxDepth, xg_price, xg_feeSum, xg_mintSum, xg_inputWord, xg_frameTotal, xg_logTotal, xg_lastWord, xg_active, xg_cells, xg_lengths, xg_world, xg_records, xg_logAccounts, xg_logWords, xg_frNumber, xg_frKind, xg_frCode, xg_frSelf, xg_frCaller, xg_frValue, xg_frInput, xg_frStatic, xg_frGas, xg_frOwn, xg_frAt, xg_frHeight, xg_frMemSize, xg_frResult, xg_stack, xg_memory, xg_entryWorld, xg_entryLogs, xm_active_records, xm_lastWord_active_records]
  try rfl
def zx_endFrame_88 (post : SX → Prop) (x3 : Int32) (x4 : Int32) (x5 : Int32) (u : SX) : Prop := wX_endFrame_88 post x3 x4 x5 (xg_accounts u) (xg_maxDepth u) (xg_price u) (xg_feeSum u) (xg_mintSum u) (xg_inputWord u) (xg_frameTotal u) (xg_logTotal u) (xg_lastWord u) (xg_active u) (xg_cells u) (xg_lengths u) (xg_world u) (xg_records u) (xg_logAccounts u) (xg_logWords u) (xg_frNumber u) (xg_frKind u) (xg_frCode u) (xg_frSelf u) (xg_frCaller u) (xg_frValue u) (xg_frInput u) (xg_frStatic u) (xg_frGas u) (xg_frOwn u) (xg_frAt u) (xg_frHeight u) (xg_frMemSize u) (xg_frResult u) (xg_stack u) (xg_memory u) (xg_entryWorld u) (xg_entryLogs u)
theorem ex_endFrame_88 (post : SX → Prop) (x3 : Int32) (x4 : Int32) (x5 : Int32) (u : SX) : (zx_endFrame_88 post x3 x4 x5 u) = (vp_in x3 8 ∧ (∀ x6_7 : Int32, x6_7 = (xg_frGas u) x3.toNatClampNeg → (zx_endFrame_114 post x3 x4 x5 x6_7 u))) := by
  obtain ⟨a0, a1, a2, a3, a4, a5, a6, a7, a8, a9, a10, a11, a12, a13, a14, a15, a16, a17, a18, a19, a20, a21, a22, a23, a24, a25, a26, a27, a28, a29, a30, a31, a32, a33⟩ := u
  dsimp only [zx_endFrame_114, zx_endFrame_88, xg_accounts, xg_maxDepth, xg_price, xg_feeSum, xg_mintSum, xg_inputWord, xg_frameTotal, xg_logTotal, xg_lastWord, xg_active, xg_cells, xg_lengths, xg_world, xg_records, xg_logAccounts, xg_logWords, xg_frNumber, xg_frKind, xg_frCode, xg_frSelf, xg_frCaller, xg_frValue, xg_frInput, xg_frStatic, xg_frGas, xg_frOwn, xg_frAt, xg_frHeight, xg_frMemSize, xg_frResult, xg_stack, xg_memory, xg_entryWorld, xg_entryLogs]
  try rfl
def zx_endFrame_73 (post : SX → Prop) (x3 : Int32) (x4 : Int32) (x5 : Int32) (u : SX) : Prop := wX_endFrame_73 post x3 x4 x5 (xg_accounts u) (xg_maxDepth u) (xg_price u) (xg_feeSum u) (xg_mintSum u) (xg_inputWord u) (xg_frameTotal u) (xg_logTotal u) (xg_lastWord u) (xg_active u) (xg_cells u) (xg_lengths u) (xg_world u) (xg_records u) (xg_logAccounts u) (xg_logWords u) (xg_frNumber u) (xg_frKind u) (xg_frCode u) (xg_frSelf u) (xg_frCaller u) (xg_frValue u) (xg_frInput u) (xg_frStatic u) (xg_frGas u) (xg_frOwn u) (xg_frAt u) (xg_frHeight u) (xg_frMemSize u) (xg_frResult u) (xg_stack u) (xg_memory u) (xg_entryWorld u) (xg_entryLogs u)
theorem ex_endFrame_73 (post : SX → Prop) (x3 : Int32) (x4 : Int32) (x5 : Int32) (u : SX) : (zx_endFrame_73 post x3 x4 x5 u) = (((x4 = 1 → (zx_endFrame_88 post x3 x4 x5 u)) ∧ (¬ x4 = 1 → (((x4 = 2 → (zx_endFrame_88 post x3 x4 x5 u)) ∧ (¬ x4 = 2 → (vp_in x3 8 ∧ (vp_in x3 8 ∧ (vp_in x3 8 ∧ ∀ a_frOwn_95 : Nat → Int32, a_frOwn_95 = upd (xg_frOwn u) x3.toNatClampNeg (((xg_frOwn u) x3.toNatClampNeg) + ((xg_frGas u) x3.toNatClampNeg)) → (zx_endFrame_114 post x3 x4 x5 0 (xs_frOwn a_frOwn_95 u))))))))))) := by
  obtain ⟨a0, a1, a2, a3, a4, a5, a6, a7, a8, a9, a10, a11, a12, a13, a14, a15, a16, a17, a18, a19, a20, a21, a22, a23, a24, a25, a26, a27, a28, a29, a30, a31, a32, a33⟩ := u
  dsimp only [zx_endFrame_114, zx_endFrame_73, zx_endFrame_88, xg_accounts, xg_maxDepth, xg_price, xg_feeSum, xg_mintSum, xg_inputWord, xg_frameTotal, xg_logTotal, xg_lastWord, xg_active, xg_cells, xg_lengths, xg_world, xg_records, xg_logAccounts, xg_logWords, xg_frNumber, xg_frKind, xg_frCode, xg_frSelf, xg_frCaller, xg_frValue, xg_frInput, xg_frStatic, xg_frGas, xg_frOwn, xg_frAt, xg_frHeight, xg_frMemSize, xg_frResult, xg_stack, xg_memory, xg_entryWorld, xg_entryLogs, xs_frOwn]
  try rfl
def zx_endFrame_62 (post : SX → Prop) (x3 : Int32) (x4 : Int32) (x5 : Int32) (u : SX) : Prop := wX_endFrame_62 post x3 x4 x5 (xg_accounts u) (xg_maxDepth u) (xg_price u) (xg_feeSum u) (xg_mintSum u) (xg_inputWord u) (xg_frameTotal u) (xg_logTotal u) (xg_lastWord u) (xg_active u) (xg_cells u) (xg_lengths u) (xg_world u) (xg_records u) (xg_logAccounts u) (xg_logWords u) (xg_frNumber u) (xg_frKind u) (xg_frCode u) (xg_frSelf u) (xg_frCaller u) (xg_frValue u) (xg_frInput u) (xg_frStatic u) (xg_frGas u) (xg_frOwn u) (xg_frAt u) (xg_frHeight u) (xg_frMemSize u) (xg_frResult u) (xg_stack u) (xg_memory u) (xg_entryWorld u) (xg_entryLogs u)
theorem ex_endFrame_62 (post : SX → Prop) (x3 : Int32) (x4 : Int32) (x5 : Int32) (u : SX) : (zx_endFrame_62 post x3 x4 x5 u) = (((x4 = 1 → (zx_endFrame_73 post x3 x4 x5 u)) ∧ (¬ x4 = 1 → (wpX_restoreEntry (fun u1 => (zx_endFrame_73 post x3 x4 x5 u1)) u x3)))) := by
  obtain ⟨a0, a1, a2, a3, a4, a5, a6, a7, a8, a9, a10, a11, a12, a13, a14, a15, a16, a17, a18, a19, a20, a21, a22, a23, a24, a25, a26, a27, a28, a29, a30, a31, a32, a33⟩ := u
  try rfl
theorem ex_endFrame (post : SX → Prop) (u : SX) (p0 : Int32) (p1 : Int32) : (wpX_endFrame post u p0 p1) = (∀ x3_1 : Int32, x3_1 = (xg_active u) - 1 → (vp_in x3_1 8 ∧ (((((xg_frKind u) x3_1.toNatClampNeg) = 4 → (((p0 = 1 → (wpX_isProgram (fun r_132 => (((r_132 = 0 → (zx_endFrame_62 post x3_1 11 0 u)) ∧ (¬ r_132 = 0 → (vp_in x3_1 8 ∧ (vp_in (((xg_frSelf u) x3_1.toNatClampNeg) * 6) 48 ∧ ∀ a_world_170 : Nat → Int32, a_world_170 = upd (xg_world u) (((xg_frSelf u) x3_1.toNatClampNeg) * 6).toNatClampNeg p1 → (zx_endFrame_62 post x3_1 p0 p1 (xs_world a_world_170 u)))))))) u p1)) ∧ (¬ p0 = 1 → (zx_endFrame_62 post x3_1 p0 p1 u))))) ∧ (¬ ((xg_frKind u) x3_1.toNatClampNeg) = 4 → (zx_endFrame_62 post x3_1 p0 p1 u)))))) := by
  obtain ⟨a0, a1, a2, a3, a4, a5, a6, a7, a8, a9, a10, a11, a12, a13, a14, a15, a16, a17, a18, a19, a20, a21, a22, a23, a24, a25, a26, a27, a28, a29, a30, a31, a32, a33⟩ := u
  dsimp only [zx_endFrame_62, xg_accounts, xg_maxDepth, xg_price, xg_feeSum, xg_mintSum, xg_inputWord, xg_frameTotal, xg_logTotal, xg_lastWord, xg_active, xg_cells, xg_lengths, xg_world, xg_records, xg_logAccounts, xg_logWords, xg_frNumber, xg_frKind, xg_frCode, xg_frSelf, xg_frCaller, xg_frValue, xg_frInput, xg_frStatic, xg_frGas, xg_frOwn, xg_frAt, xg_frHeight, xg_frMemSize, xg_frResult, xg_stack, xg_memory, xg_entryWorld, xg_entryLogs, xs_world]
  try rfl
theorem ex_popsOf (post : Int32 → Prop) (u : SX) (p0 : Int32) : (wpX_popsOf post u p0) = (((p0 < 5 → (post 0)) ∧ (¬ p0 < 5 → (((37 < p0 → (post 0)) ∧ (¬ 37 < p0 → (((p0 = 5 → (post 1)) ∧ (¬ p0 = 5 → (((p0 = 6 → (post 1)) ∧ (¬ p0 = 6 → (((p0 = 7 → (post 2)) ∧ (¬ p0 = 7 → (((p0 = 8 → (post 2)) ∧ (¬ p0 = 8 → (((p0 = 9 → (post 2)) ∧ (¬ p0 = 9 → (((p0 = 10 → (post 2)) ∧ (¬ p0 = 10 → (((p0 = 11 → (post 2)) ∧ (¬ p0 = 11 → (((p0 = 12 → (post 2)) ∧ (¬ p0 = 12 → (((p0 = 13 → (post 2)) ∧ (¬ p0 = 13 → (((p0 = 14 → (post 2)) ∧ (¬ p0 = 14 → (((p0 = 15 → (post 1)) ∧ (¬ p0 = 15 → (((p0 = 16 → (post 0)) ∧ (¬ p0 = 16 → (((p0 = 17 → (post 1)) ∧ (¬ p0 = 17 → (((p0 = 18 → (post 2)) ∧ (¬ p0 = 18 → (((p0 = 19 → (post 1)) ∧ (¬ p0 = 19 → (((p0 = 20 → (post 2)) ∧ (¬ p0 = 20 → (((p0 = 21 → (post 0)) ∧ (¬ p0 = 21 → (((p0 = 22 → (post 1)) ∧ (¬ p0 = 22 → (((p0 = 23 → (post 2)) ∧ (¬ p0 = 23 → (((p0 = 24 → (post 1)) ∧ (¬ p0 = 24 → (((p0 = 25 → (post 0)) ∧ (¬ p0 = 25 → (((p0 = 26 → (post 0)) ∧ (¬ p0 = 26 → (((p0 = 27 → (post 0)) ∧ (¬ p0 = 27 → (((p0 = 28 → (post 0)) ∧ (¬ p0 = 28 → (((p0 = 29 → (post 1)) ∧ (¬ p0 = 29 → (((p0 = 30 → (post 0)) ∧ (¬ p0 = 30 → (((p0 = 31 → (post 0)) ∧ (¬ p0 = 31 → (((p0 = 32 → (post 4)) ∧ (¬ p0 = 32 → (((p0 = 33 → (post 3)) ∧ (¬ p0 = 33 → (((p0 = 34 → (post 3)) ∧ (¬ p0 = 34 → (((p0 = 35 → (post 3)) ∧ (¬ p0 = 35 → (((p0 = 36 → (post 1)) ∧ (¬ p0 = 36 → (((p0 = 37 → (post 1)) ∧ (¬ p0 = 37 → (True)))))))))))))))))))))))))))))))))))))))))))))))))))))))))))))))))))))))))))))))))))))))))))))))))))))))))) := by
  obtain ⟨a0, a1, a2, a3, a4, a5, a6, a7, a8, a9, a10, a11, a12, a13, a14, a15, a16, a17, a18, a19, a20, a21, a22, a23, a24, a25, a26, a27, a28, a29, a30, a31, a32, a33⟩ := u
  try rfl
theorem ex_pushesOf (post : Int32 → Prop) (u : SX) (p0 : Int32) : (wpX_pushesOf post u p0) = (((p0 < 0 → (post 1)) ∧ (¬ p0 < 0 → (((37 < p0 → (post 1)) ∧ (¬ 37 < p0 → (((p0 = 0 → (post 0)) ∧ (¬ p0 = 0 → (((p0 = 1 → (post p0)) ∧ (¬ p0 = 1 → (((p0 = 2 → (post p0)) ∧ (¬ p0 = 2 → (((p0 = 3 → (post p0)) ∧ (¬ p0 = 3 → (((p0 = 4 → (post p0)) ∧ (¬ p0 = 4 → (((p0 = 5 → (post 0)) ∧ (¬ p0 = 5 → (((p0 = 6 → (post 2)) ∧ (¬ p0 = 6 → (((p0 = 7 → (post 3)) ∧ (¬ p0 = 7 → (((p0 = 8 → (post 2)) ∧ (¬ p0 = 8 → (((p0 = 9 → (post 1)) ∧ (¬ p0 = 9 → (((p0 = 10 → (post 1)) ∧ (¬ p0 = 10 → (((p0 = 11 → (post 1)) ∧ (¬ p0 = 11 → (((p0 = 12 → (post 1)) ∧ (¬ p0 = 12 → (((p0 = 13 → (post 1)) ∧ (¬ p0 = 13 → (((p0 = 14 → (post 1)) ∧ (¬ p0 = 14 → (((p0 = 15 → (post 1)) ∧ (¬ p0 = 15 → (((p0 = 16 → (post 0)) ∧ (¬ p0 = 16 → (((p0 = 17 → (post 0)) ∧ (¬ p0 = 17 → (((p0 = 18 → (post 0)) ∧ (¬ p0 = 18 → (((p0 = 19 → (post 1)) ∧ (¬ p0 = 19 → (((p0 = 20 → (post 0)) ∧ (¬ p0 = 20 → (((p0 = 21 → (post 1)) ∧ (¬ p0 = 21 → (((p0 = 22 → (post 1)) ∧ (¬ p0 = 22 → (((p0 = 23 → (post 0)) ∧ (¬ p0 = 23 → (((p0 = 24 → (post 0)) ∧ (¬ p0 = 24 → (((p0 = 25 → (post 1)) ∧ (¬ p0 = 25 → (((p0 = 26 → (post 1)) ∧ (¬ p0 = 26 → (((p0 = 27 → (post 1)) ∧ (¬ p0 = 27 → (((p0 = 28 → (post 1)) ∧ (¬ p0 = 28 → (((p0 = 29 → (post 1)) ∧ (¬ p0 = 29 → (((p0 = 30 → (post 1)) ∧ (¬ p0 = 30 → (((p0 = 31 → (post 1)) ∧ (¬ p0 = 31 → (((p0 = 32 → (post 1)) ∧ (¬ p0 = 32 → (((p0 = 33 → (post 1)) ∧ (¬ p0 = 33 → (((p0 = 34 → (post 1)) ∧ (¬ p0 = 34 → (((p0 = 35 → (post 1)) ∧ (¬ p0 = 35 → (((p0 = 36 → (post 0)) ∧ (¬ p0 = 36 → (((p0 = 37 → (post 0)) ∧ (¬ p0 = 37 → (True))))))))))))))))))))))))))))))))))))))))))))))))))))))))))))))))))))))))))))))))))))))))))))))))))))))))))))))))))))))))) := by
  obtain ⟨a0, a1, a2, a3, a4, a5, a6, a7, a8, a9, a10, a11, a12, a13, a14, a15, a16, a17, a18, a19, a20, a21, a22, a23, a24, a25, a26, a27, a28, a29, a30, a31, a32, a33⟩ := u
  try rfl
theorem ex_peek (post : Int32 → Prop) (u : SX) (p0 : Int32) (p1 : Int32) : (wpX_peek post u p0 p1) = (vp_in p0 8 ∧ (∀ x3_2 : Int32, x3_2 = (((xg_frHeight u) p0.toNatClampNeg) - 1) - p1 → (((0 ≤ x3_2 → (vp_in ((p0 * 16) + x3_2) 128 ∧ (post ((xg_stack u) ((p0 * 16) + x3_2).toNatClampNeg)))) ∧ (¬ 0 ≤ x3_2 → (post 0)))))) := by
  obtain ⟨a0, a1, a2, a3, a4, a5, a6, a7, a8, a9, a10, a11, a12, a13, a14, a15, a16, a17, a18, a19, a20, a21, a22, a23, a24, a25, a26, a27, a28, a29, a30, a31, a32, a33⟩ := u
  try rfl
def zx_faultBefore_120 (post : Int32 → Prop) (x1 : Int32) (u : SX) : Prop := wX_faultBefore_120 post x1 (xg_accounts u) (xg_maxDepth u) (xg_price u) (xg_feeSum u) (xg_mintSum u) (xg_inputWord u) (xg_frameTotal u) (xg_logTotal u) (xg_lastWord u) (xg_active u) (xg_cells u) (xg_lengths u) (xg_world u) (xg_records u) (xg_logAccounts u) (xg_logWords u) (xg_frNumber u) (xg_frKind u) (xg_frCode u) (xg_frSelf u) (xg_frCaller u) (xg_frValue u) (xg_frInput u) (xg_frStatic u) (xg_frGas u) (xg_frOwn u) (xg_frAt u) (xg_frHeight u) (xg_frMemSize u) (xg_frResult u) (xg_stack u) (xg_memory u) (xg_entryWorld u) (xg_entryLogs u)
theorem ex_faultBefore_120 (post : Int32 → Prop) (x1 : Int32) (u : SX) : (zx_faultBefore_120 post x1 u) = (wpX_peek (fun r_80 => (((r_80 < 0 → (post 9)) ∧ (¬ r_80 < 0 → (((r_80 < 16 → (post 0)) ∧ (¬ r_80 < 16 → (post 9)))))))) u x1 0) := by
  obtain ⟨a0, a1, a2, a3, a4, a5, a6, a7, a8, a9, a10, a11, a12, a13, a14, a15, a16, a17, a18, a19, a20, a21, a22, a23, a24, a25, a26, a27, a28, a29, a30, a31, a32, a33⟩ := u
  dsimp only [zx_faultBefore_120, xg_accounts, xg_maxDepth, xg_price, xg_feeSum, xg_mintSum, xg_inputWord, xg_frameTotal, xg_logTotal, xg_lastWord, xg_active, xg_cells, xg_lengths, xg_world, xg_records, xg_logAccounts, xg_logWords, xg_frNumber, xg_frKind, xg_frCode, xg_frSelf, xg_frCaller, xg_frValue, xg_frInput, xg_frStatic, xg_frGas, xg_frOwn, xg_frAt, xg_frHeight, xg_frMemSize, xg_frResult, xg_stack, xg_memory, xg_entryWorld, xg_entryLogs]
  try rfl
def zx_faultBefore_108 (post : Int32 → Prop) (x1 : Int32) (x2 : Int32) (u : SX) : Prop := wX_faultBefore_108 post x1 x2 (xg_accounts u) (xg_maxDepth u) (xg_price u) (xg_feeSum u) (xg_mintSum u) (xg_inputWord u) (xg_frameTotal u) (xg_logTotal u) (xg_lastWord u) (xg_active u) (xg_cells u) (xg_lengths u) (xg_world u) (xg_records u) (xg_logAccounts u) (xg_logWords u) (xg_frNumber u) (xg_frKind u) (xg_frCode u) (xg_frSelf u) (xg_frCaller u) (xg_frValue u) (xg_frInput u) (xg_frStatic u) (xg_frGas u) (xg_frOwn u) (xg_frAt u) (xg_frHeight u) (xg_frMemSize u) (xg_frResult u) (xg_stack u) (xg_memory u) (xg_entryWorld u) (xg_entryLogs u)
theorem ex_faultBefore_108 (post : Int32 → Prop) (x1 : Int32) (x2 : Int32) (u : SX) : (zx_faultBefore_108 post x1 x2 u) = (((x2 = 19 → (zx_faultBefore_120 post x1 u)) ∧ (¬ x2 = 19 → (((x2 = 20 → (zx_faultBefore_120 post x1 u)) ∧ (¬ x2 = 20 → (post 0))))))) := by
  obtain ⟨a0, a1, a2, a3, a4, a5, a6, a7, a8, a9, a10, a11, a12, a13, a14, a15, a16, a17, a18, a19, a20, a21, a22, a23, a24, a25, a26, a27, a28, a29, a30, a31, a32, a33⟩ := u
  dsimp only [zx_faultBefore_108, zx_faultBefore_120, xg_accounts, xg_maxDepth, xg_price, xg_feeSum, xg_mintSum, xg_inputWord, xg_frameTotal, xg_logTotal, xg_lastWord, xg_active, xg_cells, xg_lengths, xg_world, xg_records, xg_logAccounts, xg_logWords, xg_frNumber, xg_frKind, xg_frCode, xg_frSelf, xg_frCaller, xg_frValue, xg_frInput, xg_frStatic, xg_frGas, xg_frOwn, xg_frAt, xg_frHeight, xg_frMemSize, xg_frResult, xg_stack, xg_memory, xg_entryWorld, xg_entryLogs]
  try rfl
theorem ex_faultBefore (post : Int32 → Prop) (u : SX) (p0 : Int32) (p1 : Int32) : (wpX_faultBefore post u p0 p1) = (((p1 < 0 → (post 7)) ∧ (¬ p1 < 0 → (((p1 ≤ 37 → (wpX_popsOf (fun r_3 => (wpX_pushesOf (fun r_38 => (vp_in p0 8 ∧ (((r_3 ≤ ((xg_frHeight u) p0.toNatClampNeg) → (vp_in p0 8 ∧ (((((((xg_frHeight u) p0.toNatClampNeg) - r_3) + r_38) ≤ 16 → (vp_in p0 8 ∧ (((((xg_frStatic u) p0.toNatClampNeg) = 0 → (zx_faultBefore_108 post p0 p1 u)) ∧ (¬ ((xg_frStatic u) p0.toNatClampNeg) = 0 → (((p1 = 23 → (post 8)) ∧ (¬ p1 = 23 → (((p1 = 24 → (post 8)) ∧ (¬ p1 = 24 → (((p1 = 35 → (post 8)) ∧ (¬ p1 = 35 → (((p1 = 32 → (wpX_peek (fun r_122 => (((r_122 = 0 → (zx_faultBefore_108 post p0 p1 u)) ∧ (¬ r_122 = 0 → (post 8))))) u p0 2)) ∧ (¬ p1 = 32 → (zx_faultBefore_108 post p0 p1 u)))))))))))))))))) ∧ (¬ ((((xg_frHeight u) p0.toNatClampNeg) - r_3) + r_38) ≤ 16 → (post 5)))))) ∧ (¬ r_3 ≤ ((xg_frHeight u) p0.toNatClampNeg) → (post 4)))))) u p1)) u p1)) ∧ (¬ p1 ≤ 37 → (post 7))))))) := by
  obtain ⟨a0, a1, a2, a3, a4, a5, a6, a7, a8, a9, a10, a11, a12, a13, a14, a15, a16, a17, a18, a19, a20, a21, a22, a23, a24, a25, a26, a27, a28, a29, a30, a31, a32, a33⟩ := u
  dsimp only [zx_faultBefore_108, xg_accounts, xg_maxDepth, xg_price, xg_feeSum, xg_mintSum, xg_inputWord, xg_frameTotal, xg_logTotal, xg_lastWord, xg_active, xg_cells, xg_lengths, xg_world, xg_records, xg_logAccounts, xg_logWords, xg_frNumber, xg_frKind, xg_frCode, xg_frSelf, xg_frCaller, xg_frValue, xg_frInput, xg_frStatic, xg_frGas, xg_frOwn, xg_frAt, xg_frHeight, xg_frMemSize, xg_frResult, xg_stack, xg_memory, xg_entryWorld, xg_entryLogs]
  try rfl
theorem ex_memoryCost (post : Int32 → Prop) (u : SX) (p0 : Int32) : (wpX_memoryCost post u p0) = (wpX_peek (fun r_1 => (vp_in p0 8 ∧ (∀ x3_37 : Int32, x3_37 = (xg_frMemSize u) p0.toNatClampNeg → (∀ x4_38 : Int32, x4_38 = r_1 + 1 → (((x3_37 < x4_38 → (¬ (8 : Int32) = 0 ∧ (∀ x5_41 : Int32, x5_41 = x4_38 + ((x4_38 * x4_38) / 8) → (¬ (8 : Int32) = 0 ∧ (∀ x6_43 : Int32, x6_43 = x3_37 + ((x3_37 * x3_37) / 8) → (post ((1 + x5_41) - x6_43))))))) ∧ (¬ x3_37 < x4_38 → (post 1)))))))) u p0 0) := by
  obtain ⟨a0, a1, a2, a3, a4, a5, a6, a7, a8, a9, a10, a11, a12, a13, a14, a15, a16, a17, a18, a19, a20, a21, a22, a23, a24, a25, a26, a27, a28, a29, a30, a31, a32, a33⟩ := u
  try rfl
theorem ex_storeCost (post : Int32 → Prop) (u : SX) (p0 : Int32) : (wpX_storeCost post u p0) = (wpX_peek (fun r_1 => (wpX_peek (fun r_36 => (vp_in p0 8 ∧ (vp_in (((((xg_frSelf u) p0.toNatClampNeg) * 6) + 2) + (r_1 &&& 3)) 48 ∧ (∀ x4_73 : Int32, x4_73 = (xg_world u) (((((xg_frSelf u) p0.toNatClampNeg) * 6) + 2) + (r_1 &&& 3)).toNatClampNeg → (((x4_73 = 0 → (((r_36 = 0 → (post 10)) ∧ (¬ r_36 = 0 → (post 20))))) ∧ (¬ x4_73 = 0 → (post 10)))))))) u p0 1)) u p0 0) := by
  obtain ⟨a0, a1, a2, a3, a4, a5, a6, a7, a8, a9, a10, a11, a12, a13, a14, a15, a16, a17, a18, a19, a20, a21, a22, a23, a24, a25, a26, a27, a28, a29, a30, a31, a32, a33⟩ := u
  try rfl
theorem ex_callCost (post : Int32 → Prop) (u : SX) (p0 : Int32) : (wpX_callCost post u p0) = (wpX_peek (fun r_1 => (((r_1 = 0 → (post 20)) ∧ (¬ r_1 = 0 → (post 30))))) u p0 2) := by
  obtain ⟨a0, a1, a2, a3, a4, a5, a6, a7, a8, a9, a10, a11, a12, a13, a14, a15, a16, a17, a18, a19, a20, a21, a22, a23, a24, a25, a26, a27, a28, a29, a30, a31, a32, a33⟩ := u
  try rfl
def zx_costOf_176 (post : Int32 → Prop) (x1 : Int32) (u : SX) : Prop := wX_costOf_176 post x1 (xg_accounts u) (xg_maxDepth u) (xg_price u) (xg_feeSum u) (xg_mintSum u) (xg_inputWord u) (xg_frameTotal u) (xg_logTotal u) (xg_lastWord u) (xg_active u) (xg_cells u) (xg_lengths u) (xg_world u) (xg_records u) (xg_logAccounts u) (xg_logWords u) (xg_frNumber u) (xg_frKind u) (xg_frCode u) (xg_frSelf u) (xg_frCaller u) (xg_frValue u) (xg_frInput u) (xg_frStatic u) (xg_frGas u) (xg_frOwn u) (xg_frAt u) (xg_frHeight u) (xg_frMemSize u) (xg_frResult u) (xg_stack u) (xg_memory u) (xg_entryWorld u) (xg_entryLogs u)
theorem ex_costOf_176 (post : Int32 → Prop) (x1 : Int32) (u : SX) : (zx_costOf_176 post x1 u) = (wpX_memoryCost (fun r_23 => (post r_23)) u x1) := by
  obtain ⟨a0, a1, a2, a3, a4, a5, a6, a7, a8, a9, a10, a11, a12, a13, a14, a15, a16, a17, a18, a19, a20, a21, a22, a23, a24, a25, a26, a27, a28, a29, a30, a31, a32, a33⟩ := u
  dsimp only [zx_costOf_176, xg_accounts, xg_maxDepth, xg_price, xg_feeSum, xg_mintSum, xg_inputWord, xg_frameTotal, xg_logTotal, xg_lastWord, xg_active, xg_cells, xg_lengths, xg_world, xg_records, xg_logAccounts, xg_logWords, xg_frNumber, xg_frKind, xg_frCode, xg_frSelf, xg_frCaller, xg_frValue, xg_frInput, xg_frStatic, xg_frGas, xg_frOwn, xg_frAt, xg_frHeight, xg_frMemSize, xg_frResult, xg_stack, xg_memory, xg_entryWorld, xg_entryLogs]
  try rfl
theorem ex_costOf (post : Int32 → Prop) (u : SX) (p0 : Int32) (p1 : Int32) : (wpX_costOf post u p0 p1) = (((p1 < 0 → (post 1)) ∧ (¬ p1 < 0 → (((37 < p1 → (post 1)) ∧ (¬ 37 < p1 → (((p1 = 0 → (post 0)) ∧ (¬ p1 = 0 → (((p1 = 1 → (post 1)) ∧ (¬ p1 = 1 → (((p1 = 2 → (post 1)) ∧ (¬ p1 = 2 → (((p1 = 3 → (post 1)) ∧ (¬ p1 = 3 → (((p1 = 4 → (post 1)) ∧ (¬ p1 = 4 → (((p1 = 5 → (post 1)) ∧ (¬ p1 = 5 → (((p1 = 6 → (post 1)) ∧ (¬ p1 = 6 → (((p1 = 7 → (post 1)) ∧ (¬ p1 = 7 → (((p1 = 8 → (post 1)) ∧ (¬ p1 = 8 → (((p1 = 9 → (post 1)) ∧ (¬ p1 = 9 → (((p1 = 10 → (post 1)) ∧ (¬ p1 = 10 → (((p1 = 11 → (post 2)) ∧ (¬ p1 = 11 → (((p1 = 12 → (post 2)) ∧ (¬ p1 = 12 → (((p1 = 13 → (post 1)) ∧ (¬ p1 = 13 → (((p1 = 14 → (post 1)) ∧ (¬ p1 = 14 → (((p1 = 15 → (post 1)) ∧ (¬ p1 = 15 → (((p1 = 16 → (post 1)) ∧ (¬ p1 = 16 → (((p1 = 17 → (post 3)) ∧ (¬ p1 = 17 → (((p1 = 18 → (post 4)) ∧ (¬ p1 = 18 → (((p1 = 19 → (zx_costOf_176 post p0 u)) ∧ (¬ p1 = 19 → (((p1 = 20 → (zx_costOf_176 post p0 u)) ∧ (¬ p1 = 20 → (((p1 = 21 → (post 1)) ∧ (¬ p1 = 21 → (((p1 = 22 → (post 5)) ∧ (¬ p1 = 22 → (((p1 = 23 → (wpX_storeCost (fun r_62 => (post r_62)) u p0)) ∧ (¬ p1 = 23 → (((p1 = 24 → (post 10)) ∧ (¬ p1 = 24 → (((p1 = 25 → (post 1)) ∧ (¬ p1 = 25 → (((p1 = 26 → (post 1)) ∧ (¬ p1 = 26 → (((p1 = 27 → (post 1)) ∧ (¬ p1 = 27 → (((p1 = 28 → (post 1)) ∧ (¬ p1 = 28 → (((p1 = 29 → (post 3)) ∧ (¬ p1 = 29 → (((p1 = 30 → (post 1)) ∧ (¬ p1 = 30 → (((p1 = 31 → (post 1)) ∧ (¬ p1 = 31 → (((p1 = 32 → (wpX_callCost (fun r_106 => (post r_106)) u p0)) ∧ (¬ p1 = 32 → (((p1 = 33 → (post 20)) ∧ (¬ p1 = 33 → (((p1 = 34 → (post 20)) ∧ (¬ p1 = 34 → (((p1 = 35 → (post 50)) ∧ (¬ p1 = 35 → (((p1 = 36 → (post 0)) ∧ (¬ p1 = 36 → (((p1 = 37 → (post 0)) ∧ (¬ p1 = 37 → (True))))))))))))))))))))))))))))))))))))))))))))))))))))))))))))))))))))))))))))))))))))))))))))))))))))))))))))))))))))))))) := by
  obtain ⟨a0, a1, a2, a3, a4, a5, a6, a7, a8, a9, a10, a11, a12, a13, a14, a15, a16, a17, a18, a19, a20, a21, a22, a23, a24, a25, a26, a27, a28, a29, a30, a31, a32, a33⟩ := u
  dsimp only [zx_costOf_176, xg_accounts, xg_maxDepth, xg_price, xg_feeSum, xg_mintSum, xg_inputWord, xg_frameTotal, xg_logTotal, xg_lastWord, xg_active, xg_cells, xg_lengths, xg_world, xg_records, xg_logAccounts, xg_logWords, xg_frNumber, xg_frKind, xg_frCode, xg_frSelf, xg_frCaller, xg_frValue, xg_frInput, xg_frStatic, xg_frGas, xg_frOwn, xg_frAt, xg_frHeight, xg_frMemSize, xg_frResult, xg_stack, xg_memory, xg_entryWorld, xg_entryLogs]
  try rfl
theorem ex_programCell (post : Int32 → Prop) (u : SX) (p0 : Int32) (p1 : Int32) : (wpX_programCell post u p0 p1) = (wpX_isProgram (fun r_1 => (((r_1 = 0 → (post 0)) ∧ (¬ r_1 = 0 → (((p1 < 0 → (post 0)) ∧ (¬ p1 < 0 → (vp_in p0 8 ∧ (((p1 < ((xg_lengths u) p0.toNatClampNeg) → (vp_in ((p0 * 32) + p1) 256 ∧ (post ((xg_cells u) ((p0 * 32) + p1).toNatClampNeg)))) ∧ (¬ p1 < ((xg_lengths u) p0.toNatClampNeg) → (post 0)))))))))))) u p0) := by
  obtain ⟨a0, a1, a2, a3, a4, a5, a6, a7, a8, a9, a10, a11, a12, a13, a14, a15, a16, a17, a18, a19, a20, a21, a22, a23, a24, a25, a26, a27, a28, a29, a30, a31, a32, a33⟩ := u
  try rfl
def zx_pushCells_10 (post : SX → Prop) (x1 : Int32) (x2 : Int32) (x3 : Int32) (n : Nat) (x4 : Int32) (u : SX) : Prop := wX_pushCells_10 post x1 x2 x3 n x4 (xg_accounts u) (xg_maxDepth u) (xg_price u) (xg_feeSum u) (xg_mintSum u) (xg_inputWord u) (xg_frameTotal u) (xg_logTotal u) (xg_lastWord u) (xg_active u) (xg_cells u) (xg_lengths u) (xg_world u) (xg_records u) (xg_logAccounts u) (xg_logWords u) (xg_frNumber u) (xg_frKind u) (xg_frCode u) (xg_frSelf u) (xg_frCaller u) (xg_frValue u) (xg_frInput u) (xg_frStatic u) (xg_frGas u) (xg_frOwn u) (xg_frAt u) (xg_frHeight u) (xg_frMemSize u) (xg_frResult u) (xg_stack u) (xg_memory u) (xg_entryWorld u) (xg_entryLogs u)
theorem ex_pushCells_10 (post : SX → Prop) (x1 : Int32) (x2 : Int32) (x3 : Int32) (n : Nat) (x4 : Int32) (u : SX) : (zx_pushCells_10 post x1 x2 x3 (n + 1) x4 u) = (((x2 ≤ x4 → (vp_in x1 8 ∧ ∀ a_frAt_5 : Nat → Int32, a_frAt_5 = upd (xg_frAt u) x1.toNatClampNeg (x3 + x2) → (post (xs_frAt a_frAt_5 u)))) ∧ (¬ x2 ≤ x4 → (vp_in x1 8 ∧ (wpX_programCell (fun r_7 => (wpX_push (fun u1 => (∀ x4_77 : Int32, x4_77 = x4 + 1 → (zx_pushCells_10 post x1 x2 x3 n x4_77 u1))) u x1 r_7)) u ((xg_frCode u) x1.toNatClampNeg) (x3 + x4)))))) := by
  obtain ⟨a0, a1, a2, a3, a4, a5, a6, a7, a8, a9, a10, a11, a12, a13, a14, a15, a16, a17, a18, a19, a20, a21, a22, a23, a24, a25, a26, a27, a28, a29, a30, a31, a32, a33⟩ := u
  show (wX_pushCells_10 post x1 x2 x3 (n + 1) x4 a0 a1 a2 a3 a4 a5 a6 a7 a8 a9 a10 a11 a12 a13 a14 a15 a16 a17 a18 a19 a20 a21 a22 a23 a24 a25 a26 a27 a28 a29 a30 a31 a32 a33) = _
  rw [wX_pushCells_10]
  try rfl
theorem ex_pushCells (post : SX → Prop) (u : SX) (p0 : Int32) (p1 : Int32) : (wpX_pushCells post u p0 p1) = (vp_in p0 8 ∧ (∀ x3_2 : Int32, x3_2 = (xg_frAt u) p0.toNatClampNeg → (∃ n10 : Nat, zx_pushCells_10 post p0 p1 x3_2 n10 0 u))) := by
  obtain ⟨a0, a1, a2, a3, a4, a5, a6, a7, a8, a9, a10, a11, a12, a13, a14, a15, a16, a17, a18, a19, a20, a21, a22, a23, a24, a25, a26, a27, a28, a29, a30, a31, a32, a33⟩ := u
  dsimp only [zx_pushCells_10, xg_accounts, xg_maxDepth, xg_price, xg_feeSum, xg_mintSum, xg_inputWord, xg_frameTotal, xg_logTotal, xg_lastWord, xg_active, xg_cells, xg_lengths, xg_world, xg_records, xg_logAccounts, xg_logWords, xg_frNumber, xg_frKind, xg_frCode, xg_frSelf, xg_frCaller, xg_frValue, xg_frInput, xg_frStatic, xg_frGas, xg_frOwn, xg_frAt, xg_frHeight, xg_frMemSize, xg_frResult, xg_stack, xg_memory, xg_entryWorld, xg_entryLogs]
  try rfl
theorem ex_pop (post : Int32 → SX → Prop) (u : SX) (p0 : Int32) : (wpX_pop post u p0) = (vp_in p0 8 ∧ (((0 < ((xg_frHeight u) p0.toNatClampNeg) → (vp_in p0 8 ∧ (vp_in p0 8 ∧ ∀ a_frHeight_5 : Nat → Int32, a_frHeight_5 = upd (xg_frHeight u) p0.toNatClampNeg (((xg_frHeight u) p0.toNatClampNeg) - 1) → (vp_in p0 8 ∧ (vp_in ((p0 * 16) + (a_frHeight_5 p0.toNatClampNeg)) 128 ∧ (post ((xg_stack u) ((p0 * 16) + (a_frHeight_5 p0.toNatClampNeg)).toNatClampNeg) (xs_frHeight a_frHeight_5 u))))))) ∧ (¬ 0 < ((xg_frHeight u) p0.toNatClampNeg) → (post 0 u))))) := by
  obtain ⟨a0, a1, a2, a3, a4, a5, a6, a7, a8, a9, a10, a11, a12, a13, a14, a15, a16, a17, a18, a19, a20, a21, a22, a23, a24, a25, a26, a27, a28, a29, a30, a31, a32, a33⟩ := u
  try rfl
theorem ex_shuffle (post : SX → Prop) (u : SX) (p0 : Int32) (p1 : Int32) : (wpX_shuffle post u p0 p1) = (((p1 = 5 → (vp_in p0 8 ∧ (vp_in p0 8 ∧ ∀ a_frHeight_286 : Nat → Int32, a_frHeight_286 = upd (xg_frHeight u) p0.toNatClampNeg (((xg_frHeight u) p0.toNatClampNeg) - 1) → (post (xs_frHeight a_frHeight_286 u))))) ∧ (¬ p1 = 5 → (((p1 = 6 → (wpX_peek (fun r_214 => (wpX_push post u p0 r_214)) u p0 0)) ∧ (¬ p1 = 6 → (((p1 = 7 → (wpX_peek (fun r_144 => (wpX_push post u p0 r_144)) u p0 1)) ∧ (¬ p1 = 7 → (wpX_pop (fun r_4 u3 => (wpX_pop (fun r_39 u4 => (wpX_push (fun u5 => (wpX_push post u5 p0 r_39)) u4 p0 r_4)) u3 p0)) u p0)))))))))) := by
  obtain ⟨a0, a1, a2, a3, a4, a5, a6, a7, a8, a9, a10, a11, a12, a13, a14, a15, a16, a17, a18, a19, a20, a21, a22, a23, a24, a25, a26, a27, a28, a29, a30, a31, a32, a33⟩ := u
  try rfl
theorem ex_binary (post : Int32 → Prop) (u : SX) (p0 : Int32) (p1 : Int32) (p2 : Int32) : (wpX_binary post u p0 p1 p2) = (((p0 < 9 → (((p1 = p2 → (post 1)) ∧ (¬ p1 = p2 → (post 0))))) ∧ (¬ p0 < 9 → (((13 < p0 → (((p1 = p2 → (post 1)) ∧ (¬ p1 = p2 → (post 0))))) ∧ (¬ 13 < p0 → (((p0 = 9 → (post (p1 + p2))) ∧ (¬ p0 = 9 → (((p0 = 10 → (post (p1 - p2))) ∧ (¬ p0 = 10 → (((p0 = 11 → (post (p1 * p2))) ∧ (¬ p0 = 11 → (((p0 = 12 → (((p2 = 0 → (post 0)) ∧ (¬ p2 = 0 → (¬ p2 = 0 ∧ (post (p1 / p2))))))) ∧ (¬ p0 = 12 → (((p0 = 13 → (((p2 ≤ p1 → (post 0)) ∧ (¬ p2 ≤ p1 → (post 1))))) ∧ (¬ p0 = 13 → (True)))))))))))))))))))))) := by
  obtain ⟨a0, a1, a2, a3, a4, a5, a6, a7, a8, a9, a10, a11, a12, a13, a14, a15, a16, a17, a18, a19, a20, a21, a22, a23, a24, a25, a26, a27, a28, a29, a30, a31, a32, a33⟩ := u
  try rfl
def zx_calculate_23 (post : SX → Prop) (z0 : Int32) (z1 : Int32) (u : SX) : Prop := wX_calculate_23 post z0 z1 (xg_accounts u) (xg_maxDepth u) (xg_price u) (xg_feeSum u) (xg_mintSum u) (xg_inputWord u) (xg_frameTotal u) (xg_logTotal u) (xg_lastWord u) (xg_active u) (xg_cells u) (xg_lengths u) (xg_world u) (xg_records u) (xg_logAccounts u) (xg_logWords u) (xg_frNumber u) (xg_frKind u) (xg_frCode u) (xg_frSelf u) (xg_frCaller u) (xg_frValue u) (xg_frInput u) (xg_frStatic u) (xg_frGas u) (xg_frOwn u) (xg_frAt u) (xg_frHeight u) (xg_frMemSize u) (xg_frResult u) (xg_stack u) (xg_memory u) (xg_entryWorld u) (xg_entryLogs u)
theorem ex_calculate_23 (post : SX → Prop) (z0 : Int32) (z1 : Int32) (u : SX) : (zx_calculate_23 post z0 z1 u) = (wpX_push post u z1 z0) := by
  obtain ⟨a0, a1, a2, a3, a4, a5, a6, a7, a8, a9, a10, a11, a12, a13, a14, a15, a16, a17, a18, a19, a20, a21, a22, a23, a24, a25, a26, a27, a28, a29, a30, a31, a32, a33⟩ := u
  dsimp only [zx_calculate_23, xg_accounts, xg_maxDepth, xg_price, xg_feeSum, xg_mintSum, xg_inputWord, xg_frameTotal, xg_logTotal, xg_lastWord, xg_active, xg_cells, xg_lengths, xg_world, xg_records, xg_logAccounts, xg_logWords, xg_frNumber, xg_frKind, xg_frCode, xg_frSelf, xg_frCaller, xg_frValue, xg_frInput, xg_frStatic, xg_frGas, xg_frOwn, xg_frAt, xg_frHeight, xg_frMemSize, xg_frResult, xg_stack, xg_memory, xg_entryWorld, xg_entryLogs]
  try rfl
theorem ex_calculate (post : SX → Prop) (u : SX) (p0 : Int32) (p1 : Int32) : (wpX_calculate post u p0 p1) = (wpX_pop (fun r_1 u1 => (((p1 = 15 → (((r_1 = 0 → (zx_calculate_23 post 1 p0 u1)) ∧ (¬ r_1 = 0 → (zx_calculate_23 post 0 p0 u1))))) ∧ (¬ p1 = 15 → (wpX_pop (fun r_37 u2 => (wpX_binary (fun r_72 => (wpX_push post u2 p0 r_72)) u2 p1 r_37 r_1)) u1 p0))))) u p0) := by
  obtain ⟨a0, a1, a2, a3, a4, a5, a6, a7, a8, a9, a10, a11, a12, a13, a14, a15, a16, a17, a18, a19, a20, a21, a22, a23, a24, a25, a26, a27, a28, a29, a30, a31, a32, a33⟩ := u
  try rfl
def zx_jumpTarget_37 (post : Int32 → Prop) (x2 : Int32) (x3 : Int32) (n : Nat) (x4 : Int32) (x5 : Int32) (u : SX) : Prop := wX_jumpTarget_37 post x2 x3 (xg_accounts u) (xg_maxDepth u) (xg_price u) (xg_feeSum u) (xg_mintSum u) (xg_inputWord u) (xg_frameTotal u) (xg_logTotal u) (xg_lastWord u) (xg_active u) (xg_cells u) (xg_lengths u) (xg_world u) (xg_records u) (xg_logAccounts u) (xg_logWords u) (xg_frNumber u) (xg_frKind u) (xg_frCode u) (xg_frSelf u) (xg_frCaller u) (xg_frValue u) (xg_frInput u) (xg_frStatic u) (xg_frGas u) (xg_frOwn u) (xg_frAt u) (xg_frHeight u) (xg_frMemSize u) (xg_frResult u) (xg_stack u) (xg_memory u) (xg_entryWorld u) (xg_entryLogs u) n x4 x5
theorem ex_jumpTarget_37 (post : Int32 → Prop) (x2 : Int32) (x3 : Int32) (n : Nat) (x4 : Int32) (x5 : Int32) (u : SX) : (zx_jumpTarget_37 post x2 x3 (n + 1) x4 x5 u) = (((x2 ≤ x5 → (((x4 = 0 → (vp_in (x3 + x2) 256 ∧ (((((xg_cells u) (x3 + x2).toNatClampNeg) = 16 → (post 1)) ∧ (¬ ((xg_cells u) (x3 + x2).toNatClampNeg) = 16 → (post 0)))))) ∧ (¬ x4 = 0 → (post 0))))) ∧ (¬ x2 ≤ x5 → (vp_in (x3 + x5) 256 ∧ (∀ x6_46 : Int32, x6_46 = (xg_cells u) (x3 + x5).toNatClampNeg → (((x4 ≤ 0 → (((x6_46 < 1 → (∀ x5_49 : Int32, x5_49 = x5 + 1 → (zx_jumpTarget_37 post x2 x3 n x4 x5_49 u))) ∧ (¬ x6_46 < 1 → (((4 < x6_46 → (∀ x5_51 : Int32, x5_51 = x5 + 1 → (zx_jumpTarget_37 post x2 x3 n x4 x5_51 u))) ∧ (¬ 4 < x6_46 → (∀ x5_52 : Int32, x5_52 = x5 + 1 → (zx_jumpTarget_37 post x2 x3 n x6_46 x5_52 u))))))))) ∧ (¬ x4 ≤ 0 → (∀ x4_53 : Int32, x4_53 = x4 + (-1) → (∀ x5_54 : Int32, x5_54 = x5 + 1 → (zx_jumpTarget_37 post x2 x3 n x4_53 x5_54 u))))))))))) := by
  obtain ⟨a0, a1, a2, a3, a4, a5, a6, a7, a8, a9, a10, a11, a12, a13, a14, a15, a16, a17, a18, a19, a20, a21, a22, a23, a24, a25, a26, a27, a28, a29, a30, a31, a32, a33⟩ := u
  show (wX_jumpTarget_37 post x2 x3 a0 a1 a2 a3 a4 a5 a6 a7 a8 a9 a10 a11 a12 a13 a14 a15 a16 a17 a18 a19 a20 a21 a22 a23 a24 a25 a26 a27 a28 a29 a30 a31 a32 a33 (n + 1) x4 x5) = _
  rw [wX_jumpTarget_37]
  dsimp only [zx_jumpTarget_37, xg_accounts, xg_maxDepth, xg_price, xg_feeSum, xg_mintSum, xg_inputWord, xg_frameTotal, xg_logTotal, xg_lastWord, xg_active, xg_cells, xg_lengths, xg_world, xg_records, xg_logAccounts, xg_logWords, xg_frNumber, xg_frKind, xg_frCode, xg_frSelf, xg_frCaller, xg_frValue, xg_frInput, xg_frStatic, xg_frGas, xg_frOwn, xg_frAt, xg_frHeight, xg_frMemSize, xg_frResult, xg_stack, xg_memory, xg_entryWorld, xg_entryLogs]
  try rfl
theorem ex_jumpTarget (post : Int32 → Prop) (u : SX) (p0 : Int32) (p1 : Int32) : (wpX_jumpTarget post u p0 p1) = (wpX_isProgram (fun r_1 => (((r_1 = 0 → (post 0)) ∧ (¬ r_1 = 0 → (((p1 < 0 → (post 0)) ∧ (¬ p1 < 0 → (vp_in p0 8 ∧ (((p1 < ((xg_lengths u) p0.toNatClampNeg) → (∀ x3_40 : Int32, x3_40 = p0 * 32 → (∃ n37 : Nat, zx_jumpTarget_37 post p1 x3_40 n37 0 0 u))) ∧ (¬ p1 < ((xg_lengths u) p0.toNatClampNeg) → (post 0)))))))))))) u p0) := by
  obtain ⟨a0, a1, a2, a3, a4, a5, a6, a7, a8, a9, a10, a11, a12, a13, a14, a15, a16, a17, a18, a19, a20, a21, a22, a23, a24, a25, a26, a27, a28, a29, a30, a31, a32, a33⟩ := u
  dsimp only [zx_jumpTarget_37, xg_accounts, xg_maxDepth, xg_price, xg_feeSum, xg_mintSum, xg_inputWord, xg_frameTotal, xg_logTotal, xg_lastWord, xg_active, xg_cells, xg_lengths, xg_world, xg_records, xg_logAccounts, xg_logWords, xg_frNumber, xg_frKind, xg_frCode, xg_frSelf, xg_frCaller, xg_frValue, xg_frInput, xg_frStatic, xg_frGas, xg_frOwn, xg_frAt, xg_frHeight, xg_frMemSize, xg_frResult, xg_stack, xg_memory, xg_entryWorld, xg_entryLogs]
  try rfl
def zx_jump_32 (post : SX → Prop) (x1 : Int32) (x3 : Int32) (u : SX) : Prop := wX_jump_32 post x1 x3 (xg_accounts u) (xg_maxDepth u) (xg_price u) (xg_feeSum u) (xg_mintSum u) (xg_inputWord u) (xg_frameTotal u) (xg_logTotal u) (xg_lastWord u) (xg_active u) (xg_cells u) (xg_lengths u) (xg_world u) (xg_records u) (xg_logAccounts u) (xg_logWords u) (xg_frNumber u) (xg_frKind u) (xg_frCode u) (xg_frSelf u) (xg_frCaller u) (xg_frValue u) (xg_frInput u) (xg_frStatic u) (xg_frGas u) (xg_frOwn u) (xg_frAt u) (xg_frHeight u) (xg_frMemSize u) (xg_frResult u) (xg_stack u) (xg_memory u) (xg_entryWorld u) (xg_entryLogs u)
theorem ex_jump_32 (post : SX → Prop) (x1 : Int32) (x3 : Int32) (u : SX) : (zx_jump_32 post x1 x3 u) = (vp_in x1 8 ∧ (wpX_jumpTarget (fun r_39 => (((r_39 = 0 → (wpX_endFrame post u 6 0)) ∧ (¬ r_39 = 0 → (vp_in x1 8 ∧ ∀ a_frAt_111 : Nat → Int32, a_frAt_111 = upd (xg_frAt u) x1.toNatClampNeg x3 → (post (xs_frAt a_frAt_111 u))))))) u ((xg_frCode u) x1.toNatClampNeg) x3)) := by
  obtain ⟨a0, a1, a2, a3, a4, a5, a6, a7, a8, a9, a10, a11, a12, a13, a14, a15, a16, a17, a18, a19, a20, a21, a22, a23, a24, a25, a26, a27, a28, a29, a30, a31, a32, a33⟩ := u
  dsimp only [zx_jump_32, xg_accounts, xg_maxDepth, xg_price, xg_feeSum, xg_mintSum, xg_inputWord, xg_frameTotal, xg_logTotal, xg_lastWord, xg_active, xg_cells, xg_lengths, xg_world, xg_records, xg_logAccounts, xg_logWords, xg_frNumber, xg_frKind, xg_frCode, xg_frSelf, xg_frCaller, xg_frValue, xg_frInput, xg_frStatic, xg_frGas, xg_frOwn, xg_frAt, xg_frHeight, xg_frMemSize, xg_frResult, xg_stack, xg_memory, xg_entryWorld, xg_entryLogs, xs_frAt]
  try rfl
theorem ex_jump (post : SX → Prop) (u : SX) (p0 : Int32) (p1 : Int32) : (wpX_jump post u p0 p1) = (((p1 = 16 → (post u)) ∧ (¬ p1 = 16 → (wpX_pop (fun r_2 u1 => (((p1 = 18 → (wpX_pop (fun r_112 u2 => (((r_112 = 0 → (post u2)) ∧ (¬ r_112 = 0 → (zx_jump_32 post p0 r_2 u2))))) u1 p0)) ∧ (¬ p1 = 18 → (zx_jump_32 post p0 r_2 u1))))) u p0)))) := by
  obtain ⟨a0, a1, a2, a3, a4, a5, a6, a7, a8, a9, a10, a11, a12, a13, a14, a15, a16, a17, a18, a19, a20, a21, a22, a23, a24, a25, a26, a27, a28, a29, a30, a31, a32, a33⟩ := u
  try rfl
def zx_useMemory_56 (post : SX → Prop) (x1 : Int32) (x2 : Int32) (x3 : Int32) (u : SX) : Prop := wX_useMemory_56 post x1 x2 x3 (xg_accounts u) (xg_maxDepth u) (xg_price u) (xg_feeSum u) (xg_mintSum u) (xg_inputWord u) (xg_frameTotal u) (xg_logTotal u) (xg_lastWord u) (xg_active u) (xg_cells u) (xg_lengths u) (xg_world u) (xg_records u) (xg_logAccounts u) (xg_logWords u) (xg_frNumber u) (xg_frKind u) (xg_frCode u) (xg_frSelf u) (xg_frCaller u) (xg_frValue u) (xg_frInput u) (xg_frStatic u) (xg_frGas u) (xg_frOwn u) (xg_frAt u) (xg_frHeight u) (xg_frMemSize u) (xg_frResult u) (xg_stack u) (xg_memory u) (xg_entryWorld u) (xg_entryLogs u)
theorem ex_useMemory_56 (post : SX → Prop) (x1 : Int32) (x2 : Int32) (x3 : Int32) (u : SX) : (zx_useMemory_56 post x1 x2 x3 u) = (∀ x4_41 : Int32, x4_41 = (x1 * 16) + x3 → (((x2 = 19 → (vp_in x4_41 128 ∧ (wpX_push post u x1 ((xg_memory u) x4_41.toNatClampNeg)))) ∧ (¬ x2 = 19 → (wpX_pop (fun r_43 u2 => (vp_in x4_41 128 ∧ ∀ a_memory_79 : Nat → Int32, a_memory_79 = upd (xg_memory u2) x4_41.toNatClampNeg r_43 → (post (xs_memory a_memory_79 u2)))) u x1))))) := by
  obtain ⟨a0, a1, a2, a3, a4, a5, a6, a7, a8, a9, a10, a11, a12, a13, a14, a15, a16, a17, a18, a19, a20, a21, a22, a23, a24, a25, a26, a27, a28, a29, a30, a31, a32, a33⟩ := u
  try rfl
theorem ex_useMemory (post : SX → Prop) (u : SX) (p0 : Int32) (p1 : Int32) : (wpX_useMemory post u p0 p1) = (((p1 = 21 → (vp_in p0 8 ∧ (wpX_push post u p0 ((xg_frMemSize u) p0.toNatClampNeg)))) ∧ (¬ p1 = 21 → (wpX_pop (fun r_2 u2 => (((r_2 < 0 → (post u2)) ∧ (¬ r_2 < 0 → (((r_2 < 16 → (vp_in p0 8 ∧ ((((r_2 + 1) ≤ ((xg_frMemSize u2) p0.toNatClampNeg) → (zx_useMemory_56 post p0 p1 r_2 u2)) ∧ (¬ (r_2 + 1) ≤ ((xg_frMemSize u2) p0.toNatClampNeg) → (vp_in p0 8 ∧ ∀ a_frMemSize_117 : Nat → Int32, a_frMemSize_117 = upd (xg_frMemSize u2) p0.toNatClampNeg (r_2 + 1) → (zx_useMemory_56 post p0 p1 r_2 (xs_frMemSize a_frMemSize_117 u2)))))))) ∧ (¬ r_2 < 16 → (post u2)))))))) u p0)))) := by
  obtain ⟨a0, a1, a2, a3, a4, a5, a6, a7, a8, a9, a10, a11, a12, a13, a14, a15, a16, a17, a18, a19, a20, a21, a22, a23, a24, a25, a26, a27, a28, a29, a30, a31, a32, a33⟩ := u
  try rfl
theorem ex_useStorage (post : SX → Prop) (u : SX) (p0 : Int32) (p1 : Int32) : (wpX_useStorage post u p0 p1) = (wpX_pop (fun r_1 u1 => (vp_in p0 8 ∧ (∀ x4_37 : Int32, x4_37 = ((((xg_frSelf u1) p0.toNatClampNeg) * 6) + 2) + (r_1 &&& 3) → (((p1 = 22 → (vp_in x4_37 48 ∧ (wpX_push post u1 p0 ((xg_world u1) x4_37.toNatClampNeg)))) ∧ (¬ p1 = 22 → (wpX_pop (fun r_39 u3 => (vp_in x4_37 48 ∧ ∀ a_world_75 : Nat → Int32, a_world_75 = upd (xg_world u3) x4_37.toNatClampNeg r_39 → (post (xs_world a_world_75 u3)))) u1 p0))))))) u p0) := by
  obtain ⟨a0, a1, a2, a3, a4, a5, a6, a7, a8, a9, a10, a11, a12, a13, a14, a15, a16, a17, a18, a19, a20, a21, a22, a23, a24, a25, a26, a27, a28, a29, a30, a31, a32, a33⟩ := u
  try rfl
theorem ex_addLog (post : SX → Prop) (u : SX) (p0 : Int32) : (wpX_addLog post u p0) = (wpX_pop (fun r_1 u1 => ((((xg_logTotal u1) < 16 → (vp_in p0 8 ∧ (vp_in (xg_logTotal u1) 16 ∧ ∀ a_logAccounts_39 : Nat → Int32, a_logAccounts_39 = upd (xg_logAccounts u1) (xg_logTotal u1).toNatClampNeg ((xg_frSelf u1) p0.toNatClampNeg) → (vp_in (xg_logTotal u1) 16 ∧ ∀ a_logWords_41 : Nat → Int32, a_logWords_41 = upd (xg_logWords u1) (xg_logTotal u1).toNatClampNeg r_1 → (∀ f_logTotal_42 : Int32, f_logTotal_42 = (xg_logTotal u1) + 1 → (post (xm_logTotal_logAccounts_logWords f_logTotal_42 a_logAccounts_39 a_logWords_41 u1))))))) ∧ (¬ (xg_logTotal u1) < 16 → (wpX_endFrame post u1 10 0))))) u p0) := by
  obtain ⟨a0, a1, a2, a3, a4, a5, a6, a7, a8, a9, a10, a11, a12, a13, a14, a15, a16, a17, a18, a19, a20, a21, a22, a23, a24, a25, a26, a27, a28, a29, a30, a31, a32, a33⟩ := u
  try rfl
theorem ex_balanceFor (post : Int32 → SX → Prop) (u : SX) (p0 : Int32) : (wpX_balanceFor post u p0) = (wpX_pop (fun r_1 u1 => (wpX_exists (fun r_36 => (((r_36 = 0 → (post 0 u1)) ∧ (¬ r_36 = 0 → (vp_in ((r_1 * 6) + 1) 48 ∧ (post ((xg_world u1) ((r_1 * 6) + 1).toNatClampNeg) u1)))))) u1 r_1)) u p0) := by
  obtain ⟨a0, a1, a2, a3, a4, a5, a6, a7, a8, a9, a10, a11, a12, a13, a14, a15, a16, a17, a18, a19, a20, a21, a22, a23, a24, a25, a26, a27, a28, a29, a30, a31, a32, a33⟩ := u
  try rfl
def zx_pushFact_106 (post : SX → Prop) (x1 : Int32) (x3 : Int32) (u : SX) : Prop := wX_pushFact_106 post x1 x3 (xg_accounts u) (xg_maxDepth u) (xg_price u) (xg_feeSum u) (xg_mintSum u) (xg_inputWord u) (xg_frameTotal u) (xg_logTotal u) (xg_lastWord u) (xg_active u) (xg_cells u) (xg_lengths u) (xg_world u) (xg_records u) (xg_logAccounts u) (xg_logWords u) (xg_frNumber u) (xg_frKind u) (xg_frCode u) (xg_frSelf u) (xg_frCaller u) (xg_frValue u) (xg_frInput u) (xg_frStatic u) (xg_frGas u) (xg_frOwn u) (xg_frAt u) (xg_frHeight u) (xg_frMemSize u) (xg_frResult u) (xg_stack u) (xg_memory u) (xg_entryWorld u) (xg_entryLogs u)
theorem ex_pushFact_106 (post : SX → Prop) (x1 : Int32) (x3 : Int32) (u : SX) : (zx_pushFact_106 post x1 x3 u) = (wpX_push post u x1 x3) := by
  obtain ⟨a0, a1, a2, a3, a4, a5, a6, a7, a8, a9, a10, a11, a12, a13, a14, a15, a16, a17, a18, a19, a20, a21, a22, a23, a24, a25, a26, a27, a28, a29, a30, a31, a32, a33⟩ := u
  dsimp only [zx_pushFact_106, xg_accounts, xg_maxDepth, xg_price, xg_feeSum, xg_mintSum, xg_inputWord, xg_frameTotal, xg_logTotal, xg_lastWord, xg_active, xg_cells, xg_lengths, xg_world, xg_records, xg_logAccounts, xg_logWords, xg_frNumber, xg_frKind, xg_frCode, xg_frSelf, xg_frCaller, xg_frValue, xg_frInput, xg_frStatic, xg_frGas, xg_frOwn, xg_frAt, xg_frHeight, xg_frMemSize, xg_frResult, xg_stack, xg_memory, xg_entryWorld, xg_entryLogs]
  try rfl
theorem ex_pushFact (post : SX → Prop) (u : SX) (p0 : Int32) (p1 : Int32) : (wpX_pushFact post u p0 p1) = (((p1 < 25 → (vp_in p0 8 ∧ (∀ x3_4 : Int32, x3_4 = (xg_frResult u) p0.toNatClampNeg → (zx_pushFact_106 post p0 x3_4 u)))) ∧ (¬ p1 < 25 → (((30 < p1 → (vp_in p0 8 ∧ (∀ x3_41 : Int32, x3_41 = (xg_frResult u) p0.toNatClampNeg → (zx_pushFact_106 post p0 x3_41 u)))) ∧ (¬ 30 < p1 → (((p1 = 25 → (vp_in p0 8 ∧ (∀ x3_44 : Int32, x3_44 = (xg_frSelf u) p0.toNatClampNeg → (zx_pushFact_106 post p0 x3_44 u)))) ∧ (¬ p1 = 25 → (((p1 = 26 → (vp_in p0 8 ∧ (∀ x3_47 : Int32, x3_47 = (xg_frCaller u) p0.toNatClampNeg → (zx_pushFact_106 post p0 x3_47 u)))) ∧ (¬ p1 = 26 → (((p1 = 27 → (vp_in p0 8 ∧ (∀ x3_50 : Int32, x3_50 = (xg_frValue u) p0.toNatClampNeg → (zx_pushFact_106 post p0 x3_50 u)))) ∧ (¬ p1 = 27 → (((p1 = 28 → (vp_in p0 8 ∧ (∀ x3_53 : Int32, x3_53 = (xg_frInput u) p0.toNatClampNeg → (zx_pushFact_106 post p0 x3_53 u)))) ∧ (¬ p1 = 28 → (((p1 = 29 → (wpX_balanceFor (fun r_55 u1 => (zx_pushFact_106 post p0 r_55 u1)) u p0)) ∧ (¬ p1 = 29 → (((p1 = 30 → (vp_in p0 8 ∧ (∀ x3_92 : Int32, x3_92 = (xg_frGas u) p0.toNatClampNeg → (zx_pushFact_106 post p0 x3_92 u)))) ∧ (¬ p1 = 30 → (True))))))))))))))))))))))))) := by
  obtain ⟨a0, a1, a2, a3, a4, a5, a6, a7, a8, a9, a10, a11, a12, a13, a14, a15, a16, a17, a18, a19, a20, a21, a22, a23, a24, a25, a26, a27, a28, a29, a30, a31, a32, a33⟩ := u
  try rfl
theorem ex_canPay (post : Int32 → Prop) (u : SX) (p0 : Int32) (p1 : Int32) : (wpX_canPay post u p0 p1) = (((p1 < 0 → (post 0)) ∧ (¬ p1 < 0 → (vp_in ((p0 * 6) + 1) 48 ∧ (((((xg_world u) ((p0 * 6) + 1).toNatClampNeg) < p1 → (post 0)) ∧ (¬ ((xg_world u) ((p0 * 6) + 1).toNatClampNeg) < p1 → (post 1)))))))) := by
  obtain ⟨a0, a1, a2, a3, a4, a5, a6, a7, a8, a9, a10, a11, a12, a13, a14, a15, a16, a17, a18, a19, a20, a21, a22, a23, a24, a25, a26, a27, a28, a29, a30, a31, a32, a33⟩ := u
  try rfl
theorem ex_frameFree (post : Int32 → Prop) (u : SX)  : (wpX_frameFree post u ) = ((((xg_maxDepth u) ≤ (xg_active u) → (post 0)) ∧ (¬ (xg_maxDepth u) ≤ (xg_active u) → (((32 ≤ (xg_frameTotal u) → (post 0)) ∧ (¬ 32 ≤ (xg_frameTotal u) → (post 1))))))) := by
  obtain ⟨a0, a1, a2, a3, a4, a5, a6, a7, a8, a9, a10, a11, a12, a13, a14, a15, a16, a17, a18, a19, a20, a21, a22, a23, a24, a25, a26, a27, a28, a29, a30, a31, a32, a33⟩ := u
  try rfl
theorem ex_notEntered (post : SX → Prop) (u : SX) (p0 : Int32) (p1 : Int32) : (wpX_notEntered post u p0 p1) = (vp_in p0 8 ∧ ∀ a_frResult_2 : Nat → Int32, a_frResult_2 = upd (xg_frResult u) p0.toNatClampNeg 0 → (wpX_push post (xs_frResult a_frResult_2 u) p0 p1)) := by
  obtain ⟨a0, a1, a2, a3, a4, a5, a6, a7, a8, a9, a10, a11, a12, a13, a14, a15, a16, a17, a18, a19, a20, a21, a22, a23, a24, a25, a26, a27, a28, a29, a30, a31, a32, a33⟩ := u
  try rfl
theorem ex_gasCap (post : Int32 → Prop) (u : SX) (p0 : Int32) : (wpX_gasCap post u p0) = (vp_in p0 8 ∧ (vp_in p0 8 ∧ (¬ (8 : Int32) = 0 ∧ (post (((xg_frGas u) p0.toNatClampNeg) - (((xg_frGas u) p0.toNatClampNeg) / 8)))))) := by
  obtain ⟨a0, a1, a2, a3, a4, a5, a6, a7, a8, a9, a10, a11, a12, a13, a14, a15, a16, a17, a18, a19, a20, a21, a22, a23, a24, a25, a26, a27, a28, a29, a30, a31, a32, a33⟩ := u
  try rfl
def zx_callAccount_71 (post : SX → Prop) (x1 : Int32) (u : SX) : Prop := wX_callAccount_71 post x1 (xg_accounts u) (xg_maxDepth u) (xg_price u) (xg_feeSum u) (xg_mintSum u) (xg_inputWord u) (xg_frameTotal u) (xg_logTotal u) (xg_lastWord u) (xg_active u) (xg_cells u) (xg_lengths u) (xg_world u) (xg_records u) (xg_logAccounts u) (xg_logWords u) (xg_frNumber u) (xg_frKind u) (xg_frCode u) (xg_frSelf u) (xg_frCaller u) (xg_frValue u) (xg_frInput u) (xg_frStatic u) (xg_frGas u) (xg_frOwn u) (xg_frAt u) (xg_frHeight u) (xg_frMemSize u) (xg_frResult u) (xg_stack u) (xg_memory u) (xg_entryWorld u) (xg_entryLogs u)
theorem ex_callAccount_71 (post : SX → Prop) (x1 : Int32) (u : SX) : (zx_callAccount_71 post x1 u) = (wpX_notEntered post u x1 0) := by
  obtain ⟨a0, a1, a2, a3, a4, a5, a6, a7, a8, a9, a10, a11, a12, a13, a14, a15, a16, a17, a18, a19, a20, a21, a22, a23, a24, a25, a26, a27, a28, a29, a30, a31, a32, a33⟩ := u
  dsimp only [zx_callAccount_71, xg_accounts, xg_maxDepth, xg_price, xg_feeSum, xg_mintSum, xg_inputWord, xg_frameTotal, xg_logTotal, xg_lastWord, xg_active, xg_cells, xg_lengths, xg_world, xg_records, xg_logAccounts, xg_logWords, xg_frNumber, xg_frKind, xg_frCode, xg_frSelf, xg_frCaller, xg_frValue, xg_frInput, xg_frStatic, xg_frGas, xg_frOwn, xg_frAt, xg_frHeight, xg_frMemSize, xg_frResult, xg_stack, xg_memory, xg_entryWorld, xg_entryLogs]
  try rfl
def zx_callAccount_193 (post : SX → Prop) (x1 : Int32) (x9 : Int32) (u : SX) : Prop := wX_callAccount_193 post x1 x9 (xg_accounts u) (xg_maxDepth u) (xg_price u) (xg_feeSum u) (xg_mintSum u) (xg_inputWord u) (xg_frameTotal u) (xg_logTotal u) (xg_lastWord u) (xg_active u) (xg_cells u) (xg_lengths u) (xg_world u) (xg_records u) (xg_logAccounts u) (xg_logWords u) (xg_frNumber u) (xg_frKind u) (xg_frCode u) (xg_frSelf u) (xg_frCaller u) (xg_frValue u) (xg_frInput u) (xg_frStatic u) (xg_frGas u) (xg_frOwn u) (xg_frAt u) (xg_frHeight u) (xg_frMemSize u) (xg_frResult u) (xg_stack u) (xg_memory u) (xg_entryWorld u) (xg_entryLogs u)
theorem ex_callAccount_193 (post : SX → Prop) (x1 : Int32) (x9 : Int32) (u : SX) : (zx_callAccount_193 post x1 x9 u) = (vp_in x1 8 ∧ (vp_in x1 8 ∧ ∀ a_frGas_332 : Nat → Int32, a_frGas_332 = upd (xg_frGas u) x1.toNatClampNeg (((xg_frGas u) x1.toNatClampNeg) - x9) → (wpX_enterFrame post (xs_frGas a_frGas_332 u) x9))) := by
  obtain ⟨a0, a1, a2, a3, a4, a5, a6, a7, a8, a9, a10, a11, a12, a13, a14, a15, a16, a17, a18, a19, a20, a21, a22, a23, a24, a25, a26, a27, a28, a29, a30, a31, a32, a33⟩ := u
  dsimp only [zx_callAccount_193, xg_accounts, xg_maxDepth, xg_price, xg_feeSum, xg_mintSum, xg_inputWord, xg_frameTotal, xg_logTotal, xg_lastWord, xg_active, xg_cells, xg_lengths, xg_world, xg_records, xg_logAccounts, xg_logWords, xg_frNumber, xg_frKind, xg_frCode, xg_frSelf, xg_frCaller, xg_frValue, xg_frInput, xg_frStatic, xg_frGas, xg_frOwn, xg_frAt, xg_frHeight, xg_frMemSize, xg_frResult, xg_stack, xg_memory, xg_entryWorld, xg_entryLogs, xs_frGas]
  try rfl
def zx_callAccount_173 (post : SX → Prop) (x1 : Int32) (x3 : Int32) (u : SX) : Prop := wX_callAccount_173 post x1 x3 (xg_accounts u) (xg_maxDepth u) (xg_price u) (xg_feeSum u) (xg_mintSum u) (xg_inputWord u) (xg_frameTotal u) (xg_logTotal u) (xg_lastWord u) (xg_active u) (xg_cells u) (xg_lengths u) (xg_world u) (xg_records u) (xg_logAccounts u) (xg_logWords u) (xg_frNumber u) (xg_frKind u) (xg_frCode u) (xg_frSelf u) (xg_frCaller u) (xg_frValue u) (xg_frInput u) (xg_frStatic u) (xg_frGas u) (xg_frOwn u) (xg_frAt u) (xg_frHeight u) (xg_frMemSize u) (xg_frResult u) (xg_stack u) (xg_memory u) (xg_entryWorld u) (xg_entryLogs u)
theorem ex_callAccount_173 (post : SX → Prop) (x1 : Int32) (x3 : Int32) (u : SX) : (zx_callAccount_173 post x1 x3 u) = (wpX_gasCap (fun r_294 => (((x3 < 0 → (zx_callAccount_193 post x1 r_294 u)) ∧ (¬ x3 < 0 → (((r_294 ≤ x3 → (zx_callAccount_193 post x1 r_294 u)) ∧ (¬ r_294 ≤ x3 → (zx_callAccount_193 post x1 x3 u)))))))) u x1) := by
  obtain ⟨a0, a1, a2, a3, a4, a5, a6, a7, a8, a9, a10, a11, a12, a13, a14, a15, a16, a17, a18, a19, a20, a21, a22, a23, a24, a25, a26, a27, a28, a29, a30, a31, a32, a33⟩ := u
  dsimp only [zx_callAccount_173, zx_callAccount_193, xg_accounts, xg_maxDepth, xg_price, xg_feeSum, xg_mintSum, xg_inputWord, xg_frameTotal, xg_logTotal, xg_lastWord, xg_active, xg_cells, xg_lengths, xg_world, xg_records, xg_logAccounts, xg_logWords, xg_frNumber, xg_frKind, xg_frCode, xg_frSelf, xg_frCaller, xg_frValue, xg_frInput, xg_frStatic, xg_frGas, xg_frOwn, xg_frAt, xg_frHeight, xg_frMemSize, xg_frResult, xg_stack, xg_memory, xg_entryWorld, xg_entryLogs]
  try rfl
def zx_callAccount_29 (post : SX → Prop) (x1 : Int32) (x2 : Int32) (x3 : Int32) (x4 : Int32) (x5 : Int32) (u : SX) : Prop := wX_callAccount_29 post x1 x2 x3 x4 x5 (xg_accounts u) (xg_maxDepth u) (xg_price u) (xg_feeSum u) (xg_mintSum u) (xg_inputWord u) (xg_frameTotal u) (xg_logTotal u) (xg_lastWord u) (xg_active u) (xg_cells u) (xg_lengths u) (xg_world u) (xg_records u) (xg_logAccounts u) (xg_logWords u) (xg_frNumber u) (xg_frKind u) (xg_frCode u) (xg_frSelf u) (xg_frCaller u) (xg_frValue u) (xg_frInput u) (xg_frStatic u) (xg_frGas u) (xg_frOwn u) (xg_frAt u) (xg_frHeight u) (xg_frMemSize u) (xg_frResult u) (xg_stack u) (xg_memory u) (xg_entryWorld u) (xg_entryLogs u)
theorem ex_callAccount_29 (post : SX → Prop) (x1 : Int32) (x2 : Int32) (x3 : Int32) (x4 : Int32) (x5 : Int32) (u : SX) : (zx_callAccount_29 post x1 x2 x3 x4 x5 u) = (wpX_pop (fun r_72 u1 => (vp_in x1 8 ∧ (∀ x7_108 : Int32, x7_108 = (xg_frSelf u1) x1.toNatClampNeg → (wpX_exists (fun r_109 => (((r_109 = 0 → (zx_callAccount_71 post x1 u1)) ∧ (¬ r_109 = 0 → (wpX_canPay (fun r_180 => (((r_180 = 0 → (zx_callAccount_71 post x1 u1)) ∧ (¬ r_180 = 0 → (wpX_frameFree (fun r_216 => (((r_216 = 0 → (zx_callAccount_71 post x1 u1)) ∧ (¬ r_216 = 0 → (vp_in (x4 * 6) 48 ∧ (∀ x8_253 : Int32, x8_253 = (xg_world u1) (x4 * 6).toNatClampNeg → (((x2 = 32 → (vp_in x1 8 ∧ (wpX_setFrame (fun u2 => (zx_callAccount_173 post x1 x3 u2)) u1 1 x8_253 x4 x7_108 x5 r_72 ((xg_frStatic u1) x1.toNatClampNeg)))) ∧ (¬ x2 = 32 → (((x2 = 33 → (wpX_setFrame (fun u3 => (zx_callAccount_173 post x1 x3 u3)) u1 2 x8_253 x4 x7_108 0 r_72 1)) ∧ (¬ x2 = 33 → (vp_in x1 8 ∧ (vp_in x1 8 ∧ (vp_in x1 8 ∧ (wpX_setFrame (fun u4 => (zx_callAccount_173 post x1 x3 u4)) u1 3 x8_253 x7_108 ((xg_frCaller u1) x1.toNatClampNeg) ((xg_frValue u1) x1.toNatClampNeg) r_72 ((xg_frStatic u1) x1.toNatClampNeg))))))))))))))))) u1))))) u1 x7_108 x5))))) u1 x4)))) u x1) := by
  obtain ⟨a0, a1, a2, a3, a4, a5, a6, a7, a8, a9, a10, a11, a12, a13, a14, a15, a16, a17, a18, a19, a20, a21, a22, a23, a24, a25, a26, a27, a28, a29, a30, a31, a32, a33⟩ := u
  try rfl
theorem ex_callAccount (post : SX → Prop) (u : SX) (p0 : Int32) (p1 : Int32) : (wpX_callAccount post u p0 p1) = (wpX_pop (fun r_1 u1 => (wpX_pop (fun r_36 u2 => (((p1 = 32 → (wpX_pop (fun r_440 u3 => (zx_callAccount_29 post p0 p1 r_1 r_36 r_440 u3)) u2 p0)) ∧ (¬ p1 = 32 → (zx_callAccount_29 post p0 p1 r_1 r_36 0 u2))))) u1 p0)) u p0) := by
  obtain ⟨a0, a1, a2, a3, a4, a5, a6, a7, a8, a9, a10, a11, a12, a13, a14, a15, a16, a17, a18, a19, a20, a21, a22, a23, a24, a25, a26, a27, a28, a29, a30, a31, a32, a33⟩ := u
  try rfl
def zx_firstFree_2 (post : Int32 → Prop) (n : Nat) (x1 : Int32) (u : SX) : Prop := wX_firstFree_2 post (xg_accounts u) (xg_maxDepth u) (xg_price u) (xg_feeSum u) (xg_mintSum u) (xg_inputWord u) (xg_frameTotal u) (xg_logTotal u) (xg_lastWord u) (xg_active u) (xg_cells u) (xg_lengths u) (xg_world u) (xg_records u) (xg_logAccounts u) (xg_logWords u) (xg_frNumber u) (xg_frKind u) (xg_frCode u) (xg_frSelf u) (xg_frCaller u) (xg_frValue u) (xg_frInput u) (xg_frStatic u) (xg_frGas u) (xg_frOwn u) (xg_frAt u) (xg_frHeight u) (xg_frMemSize u) (xg_frResult u) (xg_stack u) (xg_memory u) (xg_entryWorld u) (xg_entryLogs u) n x1
theorem ex_firstFree_2 (post : Int32 → Prop) (n : Nat) (x1 : Int32) (u : SX) : (zx_firstFree_2 post (n + 1) x1 u) = ((((xg_accounts u) ≤ x1 → (post (-1))) ∧ (¬ (xg_accounts u) ≤ x1 → (vp_in (x1 * 6) 48 ∧ (((0 ≤ ((xg_world u) (x1 * 6).toNatClampNeg) → (∀ x1_4 : Int32, x1_4 = x1 + 1 → (zx_firstFree_2 post n x1_4 u))) ∧ (¬ 0 ≤ ((xg_world u) (x1 * 6).toNatClampNeg) → (post x1)))))))) := by
  obtain ⟨a0, a1, a2, a3, a4, a5, a6, a7, a8, a9, a10, a11, a12, a13, a14, a15, a16, a17, a18, a19, a20, a21, a22, a23, a24, a25, a26, a27, a28, a29, a30, a31, a32, a33⟩ := u
  show (wX_firstFree_2 post a0 a1 a2 a3 a4 a5 a6 a7 a8 a9 a10 a11 a12 a13 a14 a15 a16 a17 a18 a19 a20 a21 a22 a23 a24 a25 a26 a27 a28 a29 a30 a31 a32 a33 (n + 1) x1) = _
  rw [wX_firstFree_2]
  dsimp only [zx_firstFree_2, xg_accounts, xg_maxDepth, xg_price, xg_feeSum, xg_mintSum, xg_inputWord, xg_frameTotal, xg_logTotal, xg_lastWord, xg_active, xg_cells, xg_lengths, xg_world, xg_records, xg_logAccounts, xg_logWords, xg_frNumber, xg_frKind, xg_frCode, xg_frSelf, xg_frCaller, xg_frValue, xg_frInput, xg_frStatic, xg_frGas, xg_frOwn, xg_frAt, xg_frHeight, xg_frMemSize, xg_frResult, xg_stack, xg_memory, xg_entryWorld, xg_entryLogs]
  try rfl
theorem ex_firstFree (post : Int32 → Prop) (u : SX)  : (wpX_firstFree post u ) = (∃ n2 : Nat, zx_firstFree_2 post n2 0 u) := by
  obtain ⟨a0, a1, a2, a3, a4, a5, a6, a7, a8, a9, a10, a11, a12, a13, a14, a15, a16, a17, a18, a19, a20, a21, a22, a23, a24, a25, a26, a27, a28, a29, a30, a31, a32, a33⟩ := u
  dsimp only [zx_firstFree_2, xg_accounts, xg_maxDepth, xg_price, xg_feeSum, xg_mintSum, xg_inputWord, xg_frameTotal, xg_logTotal, xg_lastWord, xg_active, xg_cells, xg_lengths, xg_world, xg_records, xg_logAccounts, xg_logWords, xg_frNumber, xg_frKind, xg_frCode, xg_frSelf, xg_frCaller, xg_frValue, xg_frInput, xg_frStatic, xg_frGas, xg_frOwn, xg_frAt, xg_frHeight, xg_frMemSize, xg_frResult, xg_stack, xg_memory, xg_entryWorld, xg_entryLogs]
  try rfl
def zx_createAccount_63 (post : SX → Prop) (x1 : Int32) (u : SX) : Prop := wX_createAccount_63 post x1 (xg_accounts u) (xg_maxDepth u) (xg_price u) (xg_feeSum u) (xg_mintSum u) (xg_inputWord u) (xg_frameTotal u) (xg_logTotal u) (xg_lastWord u) (xg_active u) (xg_cells u) (xg_lengths u) (xg_world u) (xg_records u) (xg_logAccounts u) (xg_logWords u) (xg_frNumber u) (xg_frKind u) (xg_frCode u) (xg_frSelf u) (xg_frCaller u) (xg_frValue u) (xg_frInput u) (xg_frStatic u) (xg_frGas u) (xg_frOwn u) (xg_frAt u) (xg_frHeight u) (xg_frMemSize u) (xg_frResult u) (xg_stack u) (xg_memory u) (xg_entryWorld u) (xg_entryLogs u)
theorem ex_createAccount_63 (post : SX → Prop) (x1 : Int32) (u : SX) : (zx_createAccount_63 post x1 u) = (wpX_notEntered post u x1 (-1)) := by
  obtain ⟨a0, a1, a2, a3, a4, a5, a6, a7, a8, a9, a10, a11, a12, a13, a14, a15, a16, a17, a18, a19, a20, a21, a22, a23, a24, a25, a26, a27, a28, a29, a30, a31, a32, a33⟩ := u
  dsimp only [zx_createAccount_63, xg_accounts, xg_maxDepth, xg_price, xg_feeSum, xg_mintSum, xg_inputWord, xg_frameTotal, xg_logTotal, xg_lastWord, xg_active, xg_cells, xg_lengths, xg_world, xg_records, xg_logAccounts, xg_logWords, xg_frNumber, xg_frKind, xg_frCode, xg_frSelf, xg_frCaller, xg_frValue, xg_frInput, xg_frStatic, xg_frGas, xg_frOwn, xg_frAt, xg_frHeight, xg_frMemSize, xg_frResult, xg_stack, xg_memory, xg_entryWorld, xg_entryLogs]
  try rfl
theorem ex_createAccount (post : SX → Prop) (u : SX) (p0 : Int32) : (wpX_createAccount post u p0) = (wpX_pop (fun r_1 u1 => (wpX_pop (fun r_36 u2 => (wpX_pop (fun r_71 u3 => (vp_in p0 8 ∧ (∀ x5_107 : Int32, x5_107 = (xg_frSelf u3) p0.toNatClampNeg → (wpX_firstFree (fun r_108 => (wpX_isProgram (fun r_143 => (((r_143 = 0 → (zx_createAccount_63 post p0 u3)) ∧ (¬ r_143 = 0 → (((r_108 < 0 → (zx_createAccount_63 post p0 u3)) ∧ (¬ r_108 < 0 → (wpX_canPay (fun r_215 => (((r_215 = 0 → (zx_createAccount_63 post p0 u3)) ∧ (¬ r_215 = 0 → (wpX_frameFree (fun r_251 => (((r_251 = 0 → (zx_createAccount_63 post p0 u3)) ∧ (¬ r_251 = 0 → (wpX_setFrame (fun u4 => (wpX_gasCap (fun r_322 => (vp_in p0 8 ∧ (vp_in p0 8 ∧ ∀ a_frGas_359 : Nat → Int32, a_frGas_359 = upd (xg_frGas u4) p0.toNatClampNeg (((xg_frGas u4) p0.toNatClampNeg) - r_322) → (wpX_enterFrame post (xs_frGas a_frGas_359 u4) r_322)))) u4 p0)) u3 4 r_1 r_108 x5_107 r_36 r_71 0))))) u3))))) u3 x5_107 r_36)))))))) u3 r_1)) u3)))) u2 p0)) u1 p0)) u p0) := by
  obtain ⟨a0, a1, a2, a3, a4, a5, a6, a7, a8, a9, a10, a11, a12, a13, a14, a15, a16, a17, a18, a19, a20, a21, a22, a23, a24, a25, a26, a27, a28, a29, a30, a31, a32, a33⟩ := u
  try rfl
def zx_execute_177 (post : SX → Prop) (x3 : Int32) (z0 : Int32) (u : SX) : Prop := wX_execute_177 post x3 z0 (xg_accounts u) (xg_maxDepth u) (xg_price u) (xg_feeSum u) (xg_mintSum u) (xg_inputWord u) (xg_frameTotal u) (xg_logTotal u) (xg_lastWord u) (xg_active u) (xg_cells u) (xg_lengths u) (xg_world u) (xg_records u) (xg_logAccounts u) (xg_logWords u) (xg_frNumber u) (xg_frKind u) (xg_frCode u) (xg_frSelf u) (xg_frCaller u) (xg_frValue u) (xg_frInput u) (xg_frStatic u) (xg_frGas u) (xg_frOwn u) (xg_frAt u) (xg_frHeight u) (xg_frMemSize u) (xg_frResult u) (xg_stack u) (xg_memory u) (xg_entryWorld u) (xg_entryLogs u)
theorem ex_execute_177 (post : SX → Prop) (x3 : Int32) (z0 : Int32) (u : SX) : (zx_execute_177 post x3 z0 u) = (wpX_endFrame post u z0 x3) := by
  obtain ⟨a0, a1, a2, a3, a4, a5, a6, a7, a8, a9, a10, a11, a12, a13, a14, a15, a16, a17, a18, a19, a20, a21, a22, a23, a24, a25, a26, a27, a28, a29, a30, a31, a32, a33⟩ := u
  dsimp only [zx_execute_177, xg_accounts, xg_maxDepth, xg_price, xg_feeSum, xg_mintSum, xg_inputWord, xg_frameTotal, xg_logTotal, xg_lastWord, xg_active, xg_cells, xg_lengths, xg_world, xg_records, xg_logAccounts, xg_logWords, xg_frNumber, xg_frKind, xg_frCode, xg_frSelf, xg_frCaller, xg_frValue, xg_frInput, xg_frStatic, xg_frGas, xg_frOwn, xg_frAt, xg_frHeight, xg_frMemSize, xg_frResult, xg_stack, xg_memory, xg_entryWorld, xg_entryLogs]
  try rfl
theorem ex_execute (post : SX → Prop) (u : SX) (p0 : Int32) (p1 : Int32) : (wpX_execute post u p0 p1) = (((p1 = 0 → (wpX_endFrame post u 1 0)) ∧ (¬ p1 = 0 → (((4 < p1 → (((8 < p1 → (((15 < p1 → (((18 < p1 → (((21 < p1 → (((23 < p1 → (((p1 = 24 → (wpX_addLog post u p0)) ∧ (¬ p1 = 24 → (((31 < p1 → (((34 < p1 → (((p1 = 35 → (wpX_createAccount post u p0)) ∧ (¬ p1 = 35 → (wpX_pop (fun r_12 u4 => (((p1 = 36 → (zx_execute_177 post r_12 1 u4)) ∧ (¬ p1 = 36 → (zx_execute_177 post r_12 2 u4))))) u p0))))) ∧ (¬ 34 < p1 → (wpX_callAccount post u p0 p1))))) ∧ (¬ 31 < p1 → (wpX_pushFact post u p0 p1)))))))) ∧ (¬ 23 < p1 → (wpX_useStorage post u p0 p1))))) ∧ (¬ 21 < p1 → (wpX_useMemory post u p0 p1))))) ∧ (¬ 18 < p1 → (wpX_jump post u p0 p1))))) ∧ (¬ 15 < p1 → (wpX_calculate post u p0 p1))))) ∧ (¬ 8 < p1 → (wpX_shuffle post u p0 p1))))) ∧ (¬ 4 < p1 → (wpX_pushCells post u p0 p1))))))) := by
  obtain ⟨a0, a1, a2, a3, a4, a5, a6, a7, a8, a9, a10, a11, a12, a13, a14, a15, a16, a17, a18, a19, a20, a21, a22, a23, a24, a25, a26, a27, a28, a29, a30, a31, a32, a33⟩ := u
  try rfl
theorem ex_stepFrame (post : SX → Prop) (u : SX)  : (wpX_stepFrame post u ) = (∀ x1_1 : Int32, x1_1 = (xg_active u) - 1 → (vp_in x1_1 8 ∧ (∀ x2_3 : Int32, x2_3 = (xg_frCode u) x1_1.toNatClampNeg → (vp_in x1_1 8 ∧ (∀ x3_5 : Int32, x3_5 = (xg_frAt u) x1_1.toNatClampNeg → (vp_in x2_3 8 ∧ (((x3_5 < ((xg_lengths u) x2_3.toNatClampNeg) → (vp_in ((x2_3 * 32) + x3_5) 256 ∧ (∀ x4_9 : Int32, x4_9 = (xg_cells u) ((x2_3 * 32) + x3_5).toNatClampNeg → (wpX_faultBefore (fun r_10 => (((r_10 = 0 → (wpX_costOf (fun r_46 => (vp_in x1_1 8 ∧ (((r_46 ≤ ((xg_frGas u) x1_1.toNatClampNeg) → (vp_in x1_1 8 ∧ (vp_in x1_1 8 ∧ ∀ a_frGas_85 : Nat → Int32, a_frGas_85 = upd (xg_frGas u) x1_1.toNatClampNeg (((xg_frGas u) x1_1.toNatClampNeg) - r_46) → (vp_in x1_1 8 ∧ (vp_in x1_1 8 ∧ ∀ a_frOwn_88 : Nat → Int32, a_frOwn_88 = upd (xg_frOwn u) x1_1.toNatClampNeg (((xg_frOwn u) x1_1.toNatClampNeg) + r_46) → (vp_in x1_1 8 ∧ ∀ a_frAt_90 : Nat → Int32, a_frAt_90 = upd (xg_frAt u) x1_1.toNatClampNeg (x3_5 + 1) → (wpX_execute post (xm_frGas_frOwn_frAt a_frGas_85 a_frOwn_88 a_frAt_90 u) x1_1 x4_9))))))) ∧ (¬ r_46 ≤ ((xg_frGas u) x1_1.toNatClampNeg) → (wpX_endFrame post u 3 0)))))) u x1_1 x4_9)) ∧ (¬ r_10 = 0 → (wpX_endFrame post u r_10 0))))) u x1_1 x4_9)))) ∧ (¬ x3_5 < ((xg_lengths u) x2_3.toNatClampNeg) → (wpX_endFrame post u 1 0)))))))))) := by
  obtain ⟨a0, a1, a2, a3, a4, a5, a6, a7, a8, a9, a10, a11, a12, a13, a14, a15, a16, a17, a18, a19, a20, a21, a22, a23, a24, a25, a26, a27, a28, a29, a30, a31, a32, a33⟩ := u
  try rfl
def zx_runFrames_2 (post : SX → Prop) (n : Nat) (x1 : Int32) (u : SX) : Prop := wX_runFrames_2 post n x1 (xg_accounts u) (xg_maxDepth u) (xg_price u) (xg_feeSum u) (xg_mintSum u) (xg_inputWord u) (xg_frameTotal u) (xg_logTotal u) (xg_lastWord u) (xg_active u) (xg_cells u) (xg_lengths u) (xg_world u) (xg_records u) (xg_logAccounts u) (xg_logWords u) (xg_frNumber u) (xg_frKind u) (xg_frCode u) (xg_frSelf u) (xg_frCaller u) (xg_frValue u) (xg_frInput u) (xg_frStatic u) (xg_frGas u) (xg_frOwn u) (xg_frAt u) (xg_frHeight u) (xg_frMemSize u) (xg_frResult u) (xg_stack u) (xg_memory u) (xg_entryWorld u) (xg_entryLogs u)
theorem ex_runFrames_2 (post : SX → Prop) (n : Nat) (x1 : Int32) (u : SX) : (zx_runFrames_2 post (n + 1) x1 u) = (((2032 ≤ x1 → (post u)) ∧ (¬ 2032 ≤ x1 → ((((xg_active u) ≤ 0 → (post u)) ∧ (¬ (xg_active u) ≤ 0 → (wpX_stepFrame (fun u1 => (∀ x1_38 : Int32, x1_38 = x1 + 1 → (zx_runFrames_2 post n x1_38 u1))) u))))))) := by
  obtain ⟨a0, a1, a2, a3, a4, a5, a6, a7, a8, a9, a10, a11, a12, a13, a14, a15, a16, a17, a18, a19, a20, a21, a22, a23, a24, a25, a26, a27, a28, a29, a30, a31, a32, a33⟩ := u
  show (wX_runFrames_2 post (n + 1) x1 a0 a1 a2 a3 a4 a5 a6 a7 a8 a9 a10 a11 a12 a13 a14 a15 a16 a17 a18 a19 a20 a21 a22 a23 a24 a25 a26 a27 a28 a29 a30 a31 a32 a33) = _
  rw [wX_runFrames_2]
  try rfl
theorem ex_runFrames (post : SX → Prop) (u : SX)  : (wpX_runFrames post u ) = (∃ n2 : Nat, zx_runFrames_2 post n2 0 u) := by
  obtain ⟨a0, a1, a2, a3, a4, a5, a6, a7, a8, a9, a10, a11, a12, a13, a14, a15, a16, a17, a18, a19, a20, a21, a22, a23, a24, a25, a26, a27, a28, a29, a30, a31, a32, a33⟩ := u
  dsimp only [zx_runFrames_2, xg_accounts, xg_maxDepth, xg_price, xg_feeSum, xg_mintSum, xg_inputWord, xg_frameTotal, xg_logTotal, xg_lastWord, xg_active, xg_cells, xg_lengths, xg_world, xg_records, xg_logAccounts, xg_logWords, xg_frNumber, xg_frKind, xg_frCode, xg_frSelf, xg_frCaller, xg_frValue, xg_frInput, xg_frStatic, xg_frGas, xg_frOwn, xg_frAt, xg_frHeight, xg_frMemSize, xg_frResult, xg_stack, xg_memory, xg_entryWorld, xg_entryLogs]
  try rfl
theorem ex_runTransaction (post : Int32 → SX → Prop) (u : SX) (p0 : Int32) (p1 : Int32) : (wpX_runTransaction post u p0 p1) = (vp_in ((p0 * 6) + 1) 48 ∧ (vp_in ((p0 * 6) + 1) 48 ∧ ∀ a_world_3 : Nat → Int32, a_world_3 = upd (xg_world u) ((p0 * 6) + 1).toNatClampNeg (((xg_world u) ((p0 * 6) + 1).toNatClampNeg) - (p1 * (xg_price u))) → (wpX_enterFrame (fun u1 => (wpX_runFrames (fun u2 => (∀ x3_74 : Int32, x3_74 = (xg_records u2) 7 → (vp_in ((p0 * 6) + 1) 48 ∧ (vp_in ((p0 * 6) + 1) 48 ∧ ∀ a_world_77 : Nat → Int32, a_world_77 = upd (xg_world u2) ((p0 * 6) + 1).toNatClampNeg (((xg_world u2) ((p0 * 6) + 1).toNatClampNeg) + (x3_74 * (xg_price u2))) → (∀ f_feeSum_78 : Int32, f_feeSum_78 = (xg_feeSum u2) + ((p1 - x3_74) * (xg_price u2)) → (post ((xg_records u2) 5) (xm_feeSum_world f_feeSum_78 a_world_77 u2))))))) u1)) (xm_frameTotal_logTotal_world 0 0 a_world_3 u) p1))) := by
  obtain ⟨a0, a1, a2, a3, a4, a5, a6, a7, a8, a9, a10, a11, a12, a13, a14, a15, a16, a17, a18, a19, a20, a21, a22, a23, a24, a25, a26, a27, a28, a29, a30, a31, a32, a33⟩ := u
  try rfl
theorem ex_transact (post : Int32 → SX → Prop) (u : SX) (p0 : Int32) (p1 : Int32) (p2 : Int32) (p3 : Int32) : (wpX_transact post u p0 p1 p2 p3) = (wpX_exists (fun r_1 => (((r_1 = 0 → (post (-1) u)) ∧ (¬ r_1 = 0 → (wpX_exists (fun r_37 => (((r_37 = 0 → (post (-6) u)) ∧ (¬ r_37 = 0 → (wpX_checkPayment (fun r_73 => (((r_73 = 0 → (vp_in (p1 * 6) 48 ∧ (wpX_setFrame (fun u1 => (wpX_runTransaction post u1 p0 p3)) u 1 ((xg_world u) (p1 * 6).toNatClampNeg) p1 p0 p2 (xg_inputWord u) 0))) ∧ (¬ r_73 = 0 → (post r_73 u))))) u p0 p2 p3))))) u p1))))) u p0) := by
  obtain ⟨a0, a1, a2, a3, a4, a5, a6, a7, a8, a9, a10, a11, a12, a13, a14, a15, a16, a17, a18, a19, a20, a21, a22, a23, a24, a25, a26, a27, a28, a29, a30, a31, a32, a33⟩ := u
  try rfl
theorem ex_transactCreate (post : Int32 → SX → Prop) (u : SX) (p0 : Int32) (p1 : Int32) (p2 : Int32) (p3 : Int32) : (wpX_transactCreate post u p0 p1 p2 p3) = (wpX_exists (fun r_1 => (((r_1 = 0 → (post (-1) u)) ∧ (¬ r_1 = 0 → (wpX_isProgram (fun r_37 => (((r_37 = 0 → (post (-3) u)) ∧ (¬ r_37 = 0 → (wpX_firstFree (fun r_73 => (((0 ≤ r_73 → (wpX_checkPayment (fun r_109 => (((r_109 = 0 → (wpX_setFrame (fun u1 => (wpX_runTransaction post u1 p0 p3)) u 4 p1 r_73 p0 p2 (xg_inputWord u) 0)) ∧ (¬ r_109 = 0 → (post r_109 u))))) u p0 p2 p3)) ∧ (¬ 0 ≤ r_73 → (post (-9) u))))) u))))) u p1))))) u p0) := by
  obtain ⟨a0, a1, a2, a3, a4, a5, a6, a7, a8, a9, a10, a11, a12, a13, a14, a15, a16, a17, a18, a19, a20, a21, a22, a23, a24, a25, a26, a27, a28, a29, a30, a31, a32, a33⟩ := u
  try rfl
theorem ex_programLength (post : Int32 → Prop) (u : SX) (p0 : Int32) : (wpX_programLength post u p0) = (wpX_isProgram (fun r_1 => (((r_1 = 0 → (post (-1))) ∧ (¬ r_1 = 0 → (vp_in p0 8 ∧ (post ((xg_lengths u) p0.toNatClampNeg))))))) u p0) := by
  obtain ⟨a0, a1, a2, a3, a4, a5, a6, a7, a8, a9, a10, a11, a12, a13, a14, a15, a16, a17, a18, a19, a20, a21, a22, a23, a24, a25, a26, a27, a28, a29, a30, a31, a32, a33⟩ := u
  try rfl
theorem ex_programOf (post : Int32 → Prop) (u : SX) (p0 : Int32) : (wpX_programOf post u p0) = (wpX_isAccount (fun r_1 => (((r_1 = 0 → (post (-1))) ∧ (¬ r_1 = 0 → (vp_in (p0 * 6) 48 ∧ (post ((xg_world u) (p0 * 6).toNatClampNeg))))))) u p0) := by
  obtain ⟨a0, a1, a2, a3, a4, a5, a6, a7, a8, a9, a10, a11, a12, a13, a14, a15, a16, a17, a18, a19, a20, a21, a22, a23, a24, a25, a26, a27, a28, a29, a30, a31, a32, a33⟩ := u
  try rfl
theorem ex_balance (post : Int32 → Prop) (u : SX) (p0 : Int32) : (wpX_balance post u p0) = (wpX_isAccount (fun r_1 => (((r_1 = 0 → (post (-1))) ∧ (¬ r_1 = 0 → (vp_in ((p0 * 6) + 1) 48 ∧ (post ((xg_world u) ((p0 * 6) + 1).toNatClampNeg))))))) u p0) := by
  obtain ⟨a0, a1, a2, a3, a4, a5, a6, a7, a8, a9, a10, a11, a12, a13, a14, a15, a16, a17, a18, a19, a20, a21, a22, a23, a24, a25, a26, a27, a28, a29, a30, a31, a32, a33⟩ := u
  try rfl
theorem ex_storage (post : Int32 → Prop) (u : SX) (p0 : Int32) (p1 : Int32) : (wpX_storage post u p0 p1) = (wpX_isAccount (fun r_1 => (((r_1 = 0 → (post 0)) ∧ (¬ r_1 = 0 → (((p1 < 0 → (post 0)) ∧ (¬ p1 < 0 → (((p1 < 4 → (vp_in (((p0 * 6) + 2) + p1) 48 ∧ (post ((xg_world u) (((p0 * 6) + 2) + p1).toNatClampNeg)))) ∧ (¬ p1 < 4 → (post 0))))))))))) u p0) := by
  obtain ⟨a0, a1, a2, a3, a4, a5, a6, a7, a8, a9, a10, a11, a12, a13, a14, a15, a16, a17, a18, a19, a20, a21, a22, a23, a24, a25, a26, a27, a28, a29, a30, a31, a32, a33⟩ := u
  try rfl
theorem ex_fees (post : Int32 → Prop) (u : SX)  : (wpX_fees post u ) = (post (xg_feeSum u)) := by
  obtain ⟨a0, a1, a2, a3, a4, a5, a6, a7, a8, a9, a10, a11, a12, a13, a14, a15, a16, a17, a18, a19, a20, a21, a22, a23, a24, a25, a26, a27, a28, a29, a30, a31, a32, a33⟩ := u
  try rfl
theorem ex_minted (post : Int32 → Prop) (u : SX)  : (wpX_minted post u ) = (post (xg_mintSum u)) := by
  obtain ⟨a0, a1, a2, a3, a4, a5, a6, a7, a8, a9, a10, a11, a12, a13, a14, a15, a16, a17, a18, a19, a20, a21, a22, a23, a24, a25, a26, a27, a28, a29, a30, a31, a32, a33⟩ := u
  try rfl
theorem ex_input (post : Int32 → Prop) (u : SX)  : (wpX_input post u ) = (post (xg_inputWord u)) := by
  obtain ⟨a0, a1, a2, a3, a4, a5, a6, a7, a8, a9, a10, a11, a12, a13, a14, a15, a16, a17, a18, a19, a20, a21, a22, a23, a24, a25, a26, a27, a28, a29, a30, a31, a32, a33⟩ := u
  try rfl
theorem ex_returnWord (post : Int32 → Prop) (u : SX)  : (wpX_returnWord post u ) = (post (xg_lastWord u)) := by
  obtain ⟨a0, a1, a2, a3, a4, a5, a6, a7, a8, a9, a10, a11, a12, a13, a14, a15, a16, a17, a18, a19, a20, a21, a22, a23, a24, a25, a26, a27, a28, a29, a30, a31, a32, a33⟩ := u
  try rfl
theorem ex_frameCount (post : Int32 → Prop) (u : SX)  : (wpX_frameCount post u ) = (post (xg_frameTotal u)) := by
  obtain ⟨a0, a1, a2, a3, a4, a5, a6, a7, a8, a9, a10, a11, a12, a13, a14, a15, a16, a17, a18, a19, a20, a21, a22, a23, a24, a25, a26, a27, a28, a29, a30, a31, a32, a33⟩ := u
  try rfl
theorem ex_frame (post : Int32 → Prop) (u : SX) (p0 : Int32) (p1 : Int32) : (wpX_frame post u p0 p1) = (((p0 < 0 → (post (-1))) ∧ (¬ p0 < 0 → ((((xg_frameTotal u) ≤ p0 → (post (-1))) ∧ (¬ (xg_frameTotal u) ≤ p0 → (((p1 < 0 → (post (-1))) ∧ (¬ p1 < 0 → (((p1 ≤ 9 → (vp_in ((p0 * 10) + p1) 320 ∧ (post ((xg_records u) ((p0 * 10) + p1).toNatClampNeg)))) ∧ (¬ p1 ≤ 9 → (post (-1)))))))))))))) := by
  obtain ⟨a0, a1, a2, a3, a4, a5, a6, a7, a8, a9, a10, a11, a12, a13, a14, a15, a16, a17, a18, a19, a20, a21, a22, a23, a24, a25, a26, a27, a28, a29, a30, a31, a32, a33⟩ := u
  try rfl
theorem ex_logCount (post : Int32 → Prop) (u : SX)  : (wpX_logCount post u ) = (post (xg_logTotal u)) := by
  obtain ⟨a0, a1, a2, a3, a4, a5, a6, a7, a8, a9, a10, a11, a12, a13, a14, a15, a16, a17, a18, a19, a20, a21, a22, a23, a24, a25, a26, a27, a28, a29, a30, a31, a32, a33⟩ := u
  try rfl
theorem ex_logAccount (post : Int32 → Prop) (u : SX) (p0 : Int32) : (wpX_logAccount post u p0) = (((p0 < 0 → (post (-1))) ∧ (¬ p0 < 0 → (((p0 < (xg_logTotal u) → (vp_in p0 16 ∧ (post ((xg_logAccounts u) p0.toNatClampNeg)))) ∧ (¬ p0 < (xg_logTotal u) → (post (-1)))))))) := by
  obtain ⟨a0, a1, a2, a3, a4, a5, a6, a7, a8, a9, a10, a11, a12, a13, a14, a15, a16, a17, a18, a19, a20, a21, a22, a23, a24, a25, a26, a27, a28, a29, a30, a31, a32, a33⟩ := u
  try rfl
theorem ex_logWord (post : Int32 → Prop) (u : SX) (p0 : Int32) : (wpX_logWord post u p0) = (((p0 < 0 → (post 0)) ∧ (¬ p0 < 0 → (((p0 < (xg_logTotal u) → (vp_in p0 16 ∧ (post ((xg_logWords u) p0.toNatClampNeg)))) ∧ (¬ p0 < (xg_logTotal u) → (post 0))))))) := by
  obtain ⟨a0, a1, a2, a3, a4, a5, a6, a7, a8, a9, a10, a11, a12, a13, a14, a15, a16, a17, a18, a19, a20, a21, a22, a23, a24, a25, a26, a27, a28, a29, a30, a31, a32, a33⟩ := u
  try rfl
end
section
theorem ey_emit (post : Int32 → SY → Prop) (u : SY) (p0 : Int32) (p1 : Int32) : (wpY_emit post u p0 p1) = (((p0 < 0 → (post (-3) u)) ∧ (¬ p0 < 0 → (((p0 ≤ 7 → (vp_in p0 8 ∧ (((((yg_length u) p0.toNatClampNeg) < 32 → (vp_in p0 8 ∧ (vp_in ((p0 * 32) + ((yg_length u) p0.toNatClampNeg)) 256 ∧ ∀ a_cells_7 : Nat → Int32, a_cells_7 = upd (yg_cells u) ((p0 * 32) + ((yg_length u) p0.toNatClampNeg)).toNatClampNeg p1 → (vp_in p0 8 ∧ (vp_in p0 8 ∧ ∀ a_length_10 : Nat → Int32, a_length_10 = upd (yg_length u) p0.toNatClampNeg (((yg_length u) p0.toNatClampNeg) + 1) → (vp_in p0 8 ∧ (post (a_length_10 p0.toNatClampNeg) (ym_cells_length a_cells_7 a_length_10 u)))))))) ∧ (¬ ((yg_length u) p0.toNatClampNeg) < 32 → (post (-5) u)))))) ∧ (¬ p0 ≤ 7 → (post (-3) u))))))) := by
  obtain ⟨a0, a1, a2, a3, a4, a5, a6, a7, a8, a9, a10, a11, a12, a13, a14, a15, a16, a17, a18, a19, a20, a21, a22, a23, a24, a25, a26, a27⟩ := u
  try rfl
theorem ey_emit3 (post : Int32 → SY → Prop) (u : SY) (p0 : Int32) (p1 : Int32) (p2 : Int32) (p3 : Int32) : (wpY_emit3 post u p0 p1 p2 p3) = (((p0 < 0 → (post (-3) u)) ∧ (¬ p0 < 0 → (((p0 ≤ 7 → (vp_in p0 8 ∧ (((((yg_length u) p0.toNatClampNeg) ≤ 29 → (wpY_emit (fun r_5 u1 => (wpY_emit (fun r_34 u2 => (wpY_emit post u2 p0 p3)) u1 p0 p2)) u p0 p1)) ∧ (¬ ((yg_length u) p0.toNatClampNeg) ≤ 29 → (post (-5) u)))))) ∧ (¬ p0 ≤ 7 → (post (-3) u))))))) := by
  obtain ⟨a0, a1, a2, a3, a4, a5, a6, a7, a8, a9, a10, a11, a12, a13, a14, a15, a16, a17, a18, a19, a20, a21, a22, a23, a24, a25, a26, a27⟩ := u
  try rfl
theorem ey_clearProgram (post : Int32 → SY → Prop) (u : SY) (p0 : Int32) : (wpY_clearProgram post u p0) = (((p0 < 0 → (post (-3) u)) ∧ (¬ p0 < 0 → (((p0 ≤ 7 → (vp_in p0 8 ∧ ∀ a_length_4 : Nat → Int32, a_length_4 = upd (yg_length u) p0.toNatClampNeg 0 → (post 1 (ys_length a_length_4 u)))) ∧ (¬ p0 ≤ 7 → (post (-3) u))))))) := by
  obtain ⟨a0, a1, a2, a3, a4, a5, a6, a7, a8, a9, a10, a11, a12, a13, a14, a15, a16, a17, a18, a19, a20, a21, a22, a23, a24, a25, a26, a27⟩ := u
  try rfl
theorem ey_openAccount (post : Int32 → SY → Prop) (u : SY) (p0 : Int32) (p1 : Int32) (p2 : Int32) : (wpY_openAccount post u p0 p1 p2) = (((p0 < 0 → (post (-1) u)) ∧ (¬ p0 < 0 → (((p0 < (yg_accounts u) → (vp_in (p0 * 6) 48 ∧ (((((yg_world u) (p0 * 6).toNatClampNeg) < 0 → (((p1 < 0 → (post (-3) u)) ∧ (¬ p1 < 0 → (((p1 ≤ 7 → (((p2 < 0 → (post (-4) u)) ∧ (¬ p2 < 0 → (((p2 ≤ (1000000000 - (yg_minted u)) → (vp_in (p0 * 6) 48 ∧ ∀ a_world_10 : Nat → Int32, a_world_10 = upd (yg_world u) (p0 * 6).toNatClampNeg p1 → (vp_in ((p0 * 6) + 1) 48 ∧ ∀ a_world_12 : Nat → Int32, a_world_12 = upd a_world_10 ((p0 * 6) + 1).toNatClampNeg p2 → (∀ f_minted_13 : Int32, f_minted_13 = (yg_minted u) + p2 → (post 1 (ym_minted_world f_minted_13 a_world_12 u)))))) ∧ (¬ p2 ≤ (1000000000 - (yg_minted u)) → (post (-4) u)))))))) ∧ (¬ p1 ≤ 7 → (post (-3) u)))))))) ∧ (¬ ((yg_world u) (p0 * 6).toNatClampNeg) < 0 → (post (-2) u)))))) ∧ (¬ p0 < (yg_accounts u) → (post (-1) u))))))) := by
  obtain ⟨a0, a1, a2, a3, a4, a5, a6, a7, a8, a9, a10, a11, a12, a13, a14, a15, a16, a17, a18, a19, a20, a21, a22, a23, a24, a25, a26, a27⟩ := u
  try rfl
theorem ey_programOf (post : Int32 → Prop) (u : SY) (p0 : Int32) : (wpY_programOf post u p0) = (((p0 < 0 → (post (-1))) ∧ (¬ p0 < 0 → (((p0 < (yg_accounts u) → (vp_in (p0 * 6) 48 ∧ (post ((yg_world u) (p0 * 6).toNatClampNeg)))) ∧ (¬ p0 < (yg_accounts u) → (post (-1)))))))) := by
  obtain ⟨a0, a1, a2, a3, a4, a5, a6, a7, a8, a9, a10, a11, a12, a13, a14, a15, a16, a17, a18, a19, a20, a21, a22, a23, a24, a25, a26, a27⟩ := u
  try rfl
theorem ey_deposit (post : Int32 → SY → Prop) (u : SY) (p0 : Int32) (p1 : Int32) : (wpY_deposit post u p0 p1) = (wpY_programOf (fun r_1 => (((0 ≤ r_1 → (((p1 < 0 → (post (-4) u)) ∧ (¬ p1 < 0 → (((p1 ≤ (1000000000 - (yg_minted u)) → (vp_in ((p0 * 6) + 1) 48 ∧ (vp_in ((p0 * 6) + 1) 48 ∧ ∀ a_world_35 : Nat → Int32, a_world_35 = upd (yg_world u) ((p0 * 6) + 1).toNatClampNeg (((yg_world u) ((p0 * 6) + 1).toNatClampNeg) + p1) → (∀ f_minted_36 : Int32, f_minted_36 = (yg_minted u) + p1 → (post 1 (ym_minted_world f_minted_36 a_world_35 u)))))) ∧ (¬ p1 ≤ (1000000000 - (yg_minted u)) → (post (-4) u)))))))) ∧ (¬ 0 ≤ r_1 → (post (-1) u))))) u p0) := by
  obtain ⟨a0, a1, a2, a3, a4, a5, a6, a7, a8, a9, a10, a11, a12, a13, a14, a15, a16, a17, a18, a19, a20, a21, a22, a23, a24, a25, a26, a27⟩ := u
  try rfl
theorem ey_setInput (post : SY → Prop) (u : SY) (p0 : Int32) : (wpY_setInput post u p0) = (post (ys_input p0 u)) := by
  obtain ⟨a0, a1, a2, a3, a4, a5, a6, a7, a8, a9, a10, a11, a12, a13, a14, a15, a16, a17, a18, a19, a20, a21, a22, a23, a24, a25, a26, a27⟩ := u
  try rfl
def zy_current_7 (post : Int32 → Prop) (n : Nat) (x1 : Int32) (u : SY) : Prop := wY_current_7 post (yg_accounts u) (yg_maxDepth u) (yg_price u) (yg_fees u) (yg_minted u) (yg_input u) (yg_returnWord u) (yg_frames u) (yg_logs u) (yg_handed u) (yg_cells u) (yg_length u) (yg_world u) (yg_logAccounts u) (yg_logWords u) (yg_rec u) (yg_entry u) (yg_entryLogs u) (yg_left u) (yg_stack u) (yg_height u) (yg_memory u) (yg_memorySize u) (yg_position u) (yg_result u) (yg_callerOf u) (yg_valueOf u) (yg_inputOf u) n x1
theorem ey_current_7 (post : Int32 → Prop) (n : Nat) (x1 : Int32) (u : SY) : (zy_current_7 post (n + 1) x1 u) = (((x1 < 0 → (post (-1))) ∧ (¬ x1 < 0 → (vp_in ((x1 * 10) + 5) 320 ∧ (((((yg_rec u) ((x1 * 10) + 5).toNatClampNeg) = 0 → (post x1)) ∧ (¬ ((yg_rec u) ((x1 * 10) + 5).toNatClampNeg) = 0 → (∀ x1_5 : Int32, x1_5 = x1 + (-1) → (zy_current_7 post n x1_5 u))))))))) := by
  obtain ⟨a0, a1, a2, a3, a4, a5, a6, a7, a8, a9, a10, a11, a12, a13, a14, a15, a16, a17, a18, a19, a20, a21, a22, a23, a24, a25, a26, a27⟩ := u
  show (wY_current_7 post a0 a1 a2 a3 a4 a5 a6 a7 a8 a9 a10 a11 a12 a13 a14 a15 a16 a17 a18 a19 a20 a21 a22 a23 a24 a25 a26 a27 (n + 1) x1) = _
  rw [wY_current_7]
  dsimp only [zy_current_7, yg_accounts, yg_maxDepth, yg_price, yg_fees, yg_minted, yg_input, yg_returnWord, yg_frames, yg_logs, yg_handed, yg_cells, yg_length, yg_world, yg_logAccounts, yg_logWords, yg_rec, yg_entry, yg_entryLogs, yg_left, yg_stack, yg_height, yg_memory, yg_memorySize, yg_position, yg_result, yg_callerOf, yg_valueOf, yg_inputOf]
  try rfl
theorem ey_current (post : Int32 → Prop) (u : SY)  : (wpY_current post u ) = (∀ x1_1 : Int32, x1_1 = (yg_frames u) - 1 → (∃ n7 : Nat, zy_current_7 post n7 x1_1 u)) := by
  obtain ⟨a0, a1, a2, a3, a4, a5, a6, a7, a8, a9, a10, a11, a12, a13, a14, a15, a16, a17, a18, a19, a20, a21, a22, a23, a24, a25, a26, a27⟩ := u
  dsimp only [zy_current_7, yg_accounts, yg_maxDepth, yg_price, yg_fees, yg_minted, yg_input, yg_returnWord, yg_frames, yg_logs, yg_handed, yg_cells, yg_length, yg_world, yg_logAccounts, yg_logWords, yg_rec, yg_entry, yg_entryLogs, yg_left, yg_stack, yg_height, yg_memory, yg_memorySize, yg_position, yg_result, yg_callerOf, yg_valueOf, yg_inputOf]
  try rfl
def zy_enter_312 (post : SY → Prop) (x8 : Int32) (n : Nat) (x10 : Int32) (u : SY) : Prop := wY_enter_312 post x8 (yg_accounts u) (yg_maxDepth u) (yg_price u) (yg_fees u) (yg_minted u) (yg_input u) (yg_returnWord u) (yg_frames u) (yg_logs u) (yg_handed u) n x10 (yg_cells u) (yg_length u) (yg_world u) (yg_logAccounts u) (yg_logWords u) (yg_rec u) (yg_entry u) (yg_entryLogs u) (yg_left u) (yg_stack u) (yg_height u) (yg_memory u) (yg_memorySize u) (yg_position u) (yg_result u) (yg_callerOf u) (yg_valueOf u) (yg_inputOf u)
theorem ey_enter_312 (post : SY → Prop) (x8 : Int32) (n : Nat) (x10 : Int32) (u : SY) : (zy_enter_312 post x8 (n + 1) x10 u) = (((16 ≤ x10 → (∀ f_frames_72 : Int32, f_frames_72 = x8 + 1 → (post (ys_frames f_frames_72 u)))) ∧ (¬ 16 ≤ x10 → (vp_in ((x8 * 16) + x10) 512 ∧ ∀ a_memory_74 : Nat → Int32, a_memory_74 = upd (yg_memory u) ((x8 * 16) + x10).toNatClampNeg 0 → (∀ x10_75 : Int32, x10_75 = x10 + 1 → (zy_enter_312 post x8 n x10_75 (ys_memory a_memory_74 u))))))) := by
  obtain ⟨a0, a1, a2, a3, a4, a5, a6, a7, a8, a9, a10, a11, a12, a13, a14, a15, a16, a17, a18, a19, a20, a21, a22, a23, a24, a25, a26, a27⟩ := u
  show (wY_enter_312 post x8 a0 a1 a2 a3 a4 a5 a6 a7 a8 a9 (n + 1) x10 a10 a11 a12 a13 a14 a15 a16 a17 a18 a19 a20 a21 a22 a23 a24 a25 a26 a27) = _
  rw [wY_enter_312]
  dsimp only [zy_enter_312, yg_accounts, yg_maxDepth, yg_price, yg_fees, yg_minted, yg_input, yg_returnWord, yg_frames, yg_logs, yg_handed, yg_cells, yg_length, yg_world, yg_logAccounts, yg_logWords, yg_rec, yg_entry, yg_entryLogs, yg_left, yg_stack, yg_height, yg_memory, yg_memorySize, yg_position, yg_result, yg_callerOf, yg_valueOf, yg_inputOf, ys_frames, ys_memory]
  try rfl
def zy_enter_128 (post : SY → Prop) (x1 : Int32) (x2 : Int32) (x3 : Int32) (x4 : Int32) (x5 : Int32) (x6 : Int32) (x7 : Int32) (x8 : Int32) (x9 : Int32) (n : Nat) (x10 : Int32) (u : SY) : Prop := wY_enter_128 post x1 x2 x3 x4 x5 x6 x7 x8 x9 (yg_accounts u) (yg_maxDepth u) (yg_price u) (yg_fees u) (yg_minted u) (yg_input u) (yg_returnWord u) (yg_frames u) (yg_logs u) (yg_handed u) n x10 (yg_cells u) (yg_length u) (yg_world u) (yg_logAccounts u) (yg_logWords u) (yg_rec u) (yg_entry u) (yg_entryLogs u) (yg_left u) (yg_stack u) (yg_height u) (yg_memory u) (yg_memorySize u) (yg_position u) (yg_result u) (yg_callerOf u) (yg_valueOf u) (yg_inputOf u)
theorem ey_enter_128 (post : SY → Prop) (x1 : Int32) (x2 : Int32) (x3 : Int32) (x4 : Int32) (x5 : Int32) (x6 : Int32) (x7 : Int32) (x8 : Int32) (x9 : Int32) (n : Nat) (x10 : Int32) (u : SY) : (zy_enter_128 post x1 x2 x3 x4 x5 x6 x7 x8 x9 (n + 1) x10 u) = (((10 ≤ x10 → (vp_in ((x8 * 10) + 0) 320 ∧ ∀ a_rec_44 : Nat → Int32, a_rec_44 = upd (yg_rec u) ((x8 * 10) + 0).toNatClampNeg x1 → (vp_in ((x8 * 10) + 1) 320 ∧ ∀ a_rec_46 : Nat → Int32, a_rec_46 = upd a_rec_44 ((x8 * 10) + 1).toNatClampNeg x9 → (vp_in ((x8 * 10) + 2) 320 ∧ ∀ a_rec_48 : Nat → Int32, a_rec_48 = upd a_rec_46 ((x8 * 10) + 2).toNatClampNeg x3 → (vp_in ((x8 * 10) + 3) 320 ∧ ∀ a_rec_50 : Nat → Int32, a_rec_50 = upd a_rec_48 ((x8 * 10) + 3).toNatClampNeg x2 → (vp_in ((x8 * 10) + 4) 320 ∧ ∀ a_rec_52 : Nat → Int32, a_rec_52 = upd a_rec_50 ((x8 * 10) + 4).toNatClampNeg x7 → (vp_in ((x8 * 10) + 6) 320 ∧ ∀ a_rec_54 : Nat → Int32, a_rec_54 = upd a_rec_52 ((x8 * 10) + 6).toNatClampNeg (yg_handed u) → (vp_in x8 32 ∧ ∀ a_callerOf_56 : Nat → Int32, a_callerOf_56 = upd (yg_callerOf u) x8.toNatClampNeg x4 → (vp_in x8 32 ∧ ∀ a_valueOf_58 : Nat → Int32, a_valueOf_58 = upd (yg_valueOf u) x8.toNatClampNeg x5 → (vp_in x8 32 ∧ ∀ a_inputOf_60 : Nat → Int32, a_inputOf_60 = upd (yg_inputOf u) x8.toNatClampNeg x6 → (vp_in x8 32 ∧ ∀ a_left_62 : Nat → Int32, a_left_62 = upd (yg_left u) x8.toNatClampNeg (yg_handed u) → (vp_in x8 32 ∧ ∀ a_height_64 : Nat → Int32, a_height_64 = upd (yg_height u) x8.toNatClampNeg 0 → (vp_in x8 32 ∧ ∀ a_position_66 : Nat → Int32, a_position_66 = upd (yg_position u) x8.toNatClampNeg 0 → (vp_in x8 32 ∧ ∀ a_memorySize_68 : Nat → Int32, a_memorySize_68 = upd (yg_memorySize u) x8.toNatClampNeg 0 → (vp_in x8 32 ∧ ∀ a_result_70 : Nat → Int32, a_result_70 = upd (yg_result u) x8.toNatClampNeg 0 → (∃ n312 : Nat, zy_enter_312 post x8 n312 0 (ym_rec_left_height_memorySize_position_result_callerOf_valueOf_inputOf a_rec_54 a_left_62 a_height_64 a_memorySize_68 a_position_66 a_result_70 a_callerOf_56 a_valueOf_58 a_inputOf_60 u))))))))))))))))) ∧ (¬ 10 ≤ x10 → (vp_in ((x8 * 10) + x10) 320 ∧ ∀ a_rec_77 : Nat → Int32, a_rec_77 = upd (yg_rec u) ((x8 * 10) + x10).toNatClampNeg 0 → (∀ x10_78 : Int32, x10_78 = x10 + 1 → (zy_enter_128 post x1 x2 x3 x4 x5 x6 x7 x8 x9 n x10_78 (ys_rec a_rec_77 u))))))) := by
  obtain ⟨a0, a1, a2, a3, a4, a5, a6, a7, a8, a9, a10, a11, a12, a13, a14, a15, a16, a17, a18, a19, a20, a21, a22, a23, a24, a25, a26, a27⟩ := u
  show (wY_enter_128 post x1 x2 x3 x4 x5 x6 x7 x8 x9 a0 a1 a2 a3 a4 a5 a6 a7 a8 a9 (n + 1) x10 a10 a11 a12 a13 a14 a15 a16 a17 a18 a19 a20 a21 a22 a23 a24 a25 a26 a27) = _
  rw [wY_enter_128]
  dsimp only [zy_enter_128, zy_enter_312, yg_accounts, yg_maxDepth, yg_price, yg_fees, yg_minted, yg_input, yg_returnWord, yg_frames, yg_logs, yg_handed, yg_cells, yg_length, yg_world, yg_logAccounts, yg_logWords, yg_rec, yg_entry, yg_entryLogs, yg_left, yg_stack, yg_height, yg_memory, yg_memorySize, yg_position, yg_result, yg_callerOf, yg_valueOf, yg_inputOf, ym_rec_left_height_memorySize_position_result_callerOf_valueOf_inputOf, ys_rec]
  try rfl
def zy_enter_92 (post : SY → Prop) (x1 : Int32) (x2 : Int32) (x3 : Int32) (x4 : Int32) (x5 : Int32) (x6 : Int32) (x7 : Int32) (x8 : Int32) (x9 : Int32) (u : SY) : Prop := wY_enter_92 post x1 x2 x3 x4 x5 x6 x7 x8 x9 (yg_accounts u) (yg_maxDepth u) (yg_price u) (yg_fees u) (yg_minted u) (yg_input u) (yg_returnWord u) (yg_frames u) (yg_logs u) (yg_handed u) (yg_cells u) (yg_length u) (yg_world u) (yg_logAccounts u) (yg_logWords u) (yg_rec u) (yg_entry u) (yg_entryLogs u) (yg_left u) (yg_stack u) (yg_height u) (yg_memory u) (yg_memorySize u) (yg_position u) (yg_result u) (yg_callerOf u) (yg_valueOf u) (yg_inputOf u)
theorem ey_enter_92 (post : SY → Prop) (x1 : Int32) (x2 : Int32) (x3 : Int32) (x4 : Int32) (x5 : Int32) (x6 : Int32) (x7 : Int32) (x8 : Int32) (x9 : Int32) (u : SY) : (zy_enter_92 post x1 x2 x3 x4 x5 x6 x7 x8 x9 u) = (vp_in ((x4 * 6) + 1) 48 ∧ (vp_in ((x4 * 6) + 1) 48 ∧ ∀ a_world_38 : Nat → Int32, a_world_38 = upd (yg_world u) ((x4 * 6) + 1).toNatClampNeg (((yg_world u) ((x4 * 6) + 1).toNatClampNeg) - x5) → (vp_in ((x3 * 6) + 1) 48 ∧ (vp_in ((x3 * 6) + 1) 48 ∧ ∀ a_world_41 : Nat → Int32, a_world_41 = upd a_world_38 ((x3 * 6) + 1).toNatClampNeg ((a_world_38 ((x3 * 6) + 1).toNatClampNeg) + x5) → (∃ n128 : Nat, zy_enter_128 post x1 x2 x3 x4 x5 x6 x7 x8 x9 n128 0 (ys_world a_world_41 u)))))) := by
  obtain ⟨a0, a1, a2, a3, a4, a5, a6, a7, a8, a9, a10, a11, a12, a13, a14, a15, a16, a17, a18, a19, a20, a21, a22, a23, a24, a25, a26, a27⟩ := u
  dsimp only [zy_enter_128, zy_enter_92, yg_accounts, yg_maxDepth, yg_price, yg_fees, yg_minted, yg_input, yg_returnWord, yg_frames, yg_logs, yg_handed, yg_cells, yg_length, yg_world, yg_logAccounts, yg_logWords, yg_rec, yg_entry, yg_entryLogs, yg_left, yg_stack, yg_height, yg_memory, yg_memorySize, yg_position, yg_result, yg_callerOf, yg_valueOf, yg_inputOf, ys_world]
  try rfl
def zy_enter_82 (post : SY → Prop) (x1 : Int32) (x2 : Int32) (x3 : Int32) (x4 : Int32) (x5 : Int32) (x6 : Int32) (x7 : Int32) (x8 : Int32) (x9 : Int32) (u : SY) : Prop := wY_enter_82 post x1 x2 x3 x4 x5 x6 x7 x8 x9 (yg_accounts u) (yg_maxDepth u) (yg_price u) (yg_fees u) (yg_minted u) (yg_input u) (yg_returnWord u) (yg_frames u) (yg_logs u) (yg_handed u) (yg_cells u) (yg_length u) (yg_world u) (yg_logAccounts u) (yg_logWords u) (yg_rec u) (yg_entry u) (yg_entryLogs u) (yg_left u) (yg_stack u) (yg_height u) (yg_memory u) (yg_memorySize u) (yg_position u) (yg_result u) (yg_callerOf u) (yg_valueOf u) (yg_inputOf u)
theorem ey_enter_82 (post : SY → Prop) (x1 : Int32) (x2 : Int32) (x3 : Int32) (x4 : Int32) (x5 : Int32) (x6 : Int32) (x7 : Int32) (x8 : Int32) (x9 : Int32) (u : SY) : (zy_enter_82 post x1 x2 x3 x4 x5 x6 x7 x8 x9 u) = (((x1 = 1 → (zy_enter_92 post x1 x2 x3 x4 x5 x6 x7 x8 x9 u)) ∧ (¬ x1 = 1 → (((x1 = 4 → (zy_enter_92 post x1 x2 x3 x4 x5 x6 x7 x8 x9 u)) ∧ (¬ x1 = 4 → (∃ n128 : Nat, zy_enter_128 post x1 x2 x3 x4 x5 x6 x7 x8 x9 n128 0 u))))))) := by
  obtain ⟨a0, a1, a2, a3, a4, a5, a6, a7, a8, a9, a10, a11, a12, a13, a14, a15, a16, a17, a18, a19, a20, a21, a22, a23, a24, a25, a26, a27⟩ := u
  dsimp only [zy_enter_128, zy_enter_82, zy_enter_92, yg_accounts, yg_maxDepth, yg_price, yg_fees, yg_minted, yg_input, yg_returnWord, yg_frames, yg_logs, yg_handed, yg_cells, yg_length, yg_world, yg_logAccounts, yg_logWords, yg_rec, yg_entry, yg_entryLogs, yg_left, yg_stack, yg_height, yg_memory, yg_memorySize, yg_position, yg_result, yg_callerOf, yg_valueOf, yg_inputOf]
  try rfl
def zy_enter_23 (post : SY → Prop) (x1 : Int32) (x2 : Int32) (x3 : Int32) (x4 : Int32) (x5 : Int32) (x6 : Int32) (x7 : Int32) (x8 : Int32) (x9 : Int32) (n : Nat) (x10 : Int32) (u : SY) : Prop := wY_enter_23 post x1 x2 x3 x4 x5 x6 x7 x8 x9 (yg_accounts u) (yg_maxDepth u) (yg_price u) (yg_fees u) (yg_minted u) (yg_input u) (yg_returnWord u) (yg_frames u) (yg_logs u) (yg_handed u) n x10 (yg_cells u) (yg_length u) (yg_world u) (yg_logAccounts u) (yg_logWords u) (yg_rec u) (yg_entry u) (yg_entryLogs u) (yg_left u) (yg_stack u) (yg_height u) (yg_memory u) (yg_memorySize u) (yg_position u) (yg_result u) (yg_callerOf u) (yg_valueOf u) (yg_inputOf u)
theorem ey_enter_23 (post : SY → Prop) (x1 : Int32) (x2 : Int32) (x3 : Int32) (x4 : Int32) (x5 : Int32) (x6 : Int32) (x7 : Int32) (x8 : Int32) (x9 : Int32) (n : Nat) (x10 : Int32) (u : SY) : (zy_enter_23 post x1 x2 x3 x4 x5 x6 x7 x8 x9 (n + 1) x10 u) = (((48 ≤ x10 → (vp_in x8 32 ∧ ∀ a_entryLogs_33 : Nat → Int32, a_entryLogs_33 = upd (yg_entryLogs u) x8.toNatClampNeg (yg_logs u) → (((x1 = 4 → (vp_in (x3 * 6) 48 ∧ ∀ a_world_81 : Nat → Int32, a_world_81 = upd (yg_world u) (x3 * 6).toNatClampNeg x2 → (zy_enter_82 post x1 x2 x3 x4 x5 x6 x7 x8 x9 (ym_world_entryLogs a_world_81 a_entryLogs_33 u)))) ∧ (¬ x1 = 4 → (zy_enter_82 post x1 x2 x3 x4 x5 x6 x7 x8 x9 (ys_entryLogs a_entryLogs_33 u))))))) ∧ (¬ 48 ≤ x10 → (vp_in x10 48 ∧ (vp_in ((x8 * 48) + x10) 1536 ∧ ∀ a_entry_84 : Nat → Int32, a_entry_84 = upd (yg_entry u) ((x8 * 48) + x10).toNatClampNeg ((yg_world u) x10.toNatClampNeg) → (∀ x10_85 : Int32, x10_85 = x10 + 1 → (zy_enter_23 post x1 x2 x3 x4 x5 x6 x7 x8 x9 n x10_85 (ys_entry a_entry_84 u)))))))) := by
  obtain ⟨a0, a1, a2, a3, a4, a5, a6, a7, a8, a9, a10, a11, a12, a13, a14, a15, a16, a17, a18, a19, a20, a21, a22, a23, a24, a25, a26, a27⟩ := u
  show (wY_enter_23 post x1 x2 x3 x4 x5 x6 x7 x8 x9 a0 a1 a2 a3 a4 a5 a6 a7 a8 a9 (n + 1) x10 a10 a11 a12 a13 a14 a15 a16 a17 a18 a19 a20 a21 a22 a23 a24 a25 a26 a27) = _
  rw [wY_enter_23]
  dsimp only [zy_enter_23, zy_enter_82, yg_accounts, yg_maxDepth, yg_price, yg_fees, yg_minted, yg_input, yg_returnWord, yg_frames, yg_logs, yg_handed, yg_cells, yg_length, yg_world, yg_logAccounts, yg_logWords, yg_rec, yg_entry, yg_entryLogs, yg_left, yg_stack, yg_height, yg_memory, yg_memorySize, yg_position, yg_result, yg_callerOf, yg_valueOf, yg_inputOf, ym_world_entryLogs, ys_entry, ys_entryLogs]
  try rfl
theorem ey_enter (post : SY → Prop) (u : SY) (p0 : Int32) (p1 : Int32) (p2 : Int32) (p3 : Int32) (p4 : Int32) (p5 : Int32) (p6 : Int32) : (wpY_enter post u p0 p1 p2 p3 p4 p5 p6) = (wpY_current (fun r_1 => ((((yg_frames u) < 32 → (∃ n23 : Nat, zy_enter_23 post p0 p1 p2 p3 p4 p5 p6 (yg_frames u) r_1 n23 0 u)) ∧ (¬ (yg_frames u) < 32 → (post u))))) u) := by
  obtain ⟨a0, a1, a2, a3, a4, a5, a6, a7, a8, a9, a10, a11, a12, a13, a14, a15, a16, a17, a18, a19, a20, a21, a22, a23, a24, a25, a26, a27⟩ := u
  dsimp only [zy_enter_23, yg_accounts, yg_maxDepth, yg_price, yg_fees, yg_minted, yg_input, yg_returnWord, yg_frames, yg_logs, yg_handed, yg_cells, yg_length, yg_world, yg_logAccounts, yg_logWords, yg_rec, yg_entry, yg_entryLogs, yg_left, yg_stack, yg_height, yg_memory, yg_memorySize, yg_position, yg_result, yg_callerOf, yg_valueOf, yg_inputOf]
  try rfl
theorem ey_push (post : SY → Prop) (u : SY) (p0 : Int32) (p1 : Int32) : (wpY_push post u p0 p1) = (vp_in p0 32 ∧ (((((yg_height u) p0.toNatClampNeg) < 16 → (vp_in p0 32 ∧ (vp_in ((p0 * 16) + ((yg_height u) p0.toNatClampNeg)) 512 ∧ ∀ a_stack_5 : Nat → Int32, a_stack_5 = upd (yg_stack u) ((p0 * 16) + ((yg_height u) p0.toNatClampNeg)).toNatClampNeg p1 → (vp_in p0 32 ∧ (vp_in p0 32 ∧ ∀ a_height_8 : Nat → Int32, a_height_8 = upd (yg_height u) p0.toNatClampNeg (((yg_height u) p0.toNatClampNeg) + 1) → (post (ym_stack_height a_stack_5 a_height_8 u))))))) ∧ (¬ ((yg_height u) p0.toNatClampNeg) < 16 → (post u))))) := by
  obtain ⟨a0, a1, a2, a3, a4, a5, a6, a7, a8, a9, a10, a11, a12, a13, a14, a15, a16, a17, a18, a19, a20, a21, a22, a23, a24, a25, a26, a27⟩ := u
  try rfl
def zy_end_379 (post : SY → Prop) (z0 : Int32) (z1 : Int32) (u : SY) : Prop := wY_end_379 post z0 z1 (yg_accounts u) (yg_maxDepth u) (yg_price u) (yg_fees u) (yg_minted u) (yg_input u) (yg_returnWord u) (yg_frames u) (yg_logs u) (yg_handed u) (yg_cells u) (yg_length u) (yg_world u) (yg_logAccounts u) (yg_logWords u) (yg_rec u) (yg_entry u) (yg_entryLogs u) (yg_left u) (yg_stack u) (yg_height u) (yg_memory u) (yg_memorySize u) (yg_position u) (yg_result u) (yg_callerOf u) (yg_valueOf u) (yg_inputOf u)
theorem ey_end_379 (post : SY → Prop) (z0 : Int32) (z1 : Int32) (u : SY) : (zy_end_379 post z0 z1 u) = (wpY_push post u z1 z0) := by
  obtain ⟨a0, a1, a2, a3, a4, a5, a6, a7, a8, a9, a10, a11, a12, a13, a14, a15, a16, a17, a18, a19, a20, a21, a22, a23, a24, a25, a26, a27⟩ := u
  dsimp only [zy_end_379, yg_accounts, yg_maxDepth, yg_price, yg_fees, yg_minted, yg_input, yg_returnWord, yg_frames, yg_logs, yg_handed, yg_cells, yg_length, yg_world, yg_logAccounts, yg_logWords, yg_rec, yg_entry, yg_entryLogs, yg_left, yg_stack, yg_height, yg_memory, yg_memorySize, yg_position, yg_result, yg_callerOf, yg_valueOf, yg_inputOf]
  try rfl
def zy_end_359 (post : SY → Prop) (z0 : Int32) (z1 : Int32) (u : SY) : Prop := wY_end_359 post z0 z1 (yg_accounts u) (yg_maxDepth u) (yg_price u) (yg_fees u) (yg_minted u) (yg_input u) (yg_returnWord u) (yg_frames u) (yg_logs u) (yg_handed u) (yg_cells u) (yg_length u) (yg_world u) (yg_logAccounts u) (yg_logWords u) (yg_rec u) (yg_entry u) (yg_entryLogs u) (yg_left u) (yg_stack u) (yg_height u) (yg_memory u) (yg_memorySize u) (yg_position u) (yg_result u) (yg_callerOf u) (yg_valueOf u) (yg_inputOf u)
theorem ey_end_359 (post : SY → Prop) (z0 : Int32) (z1 : Int32) (u : SY) : (zy_end_359 post z0 z1 u) = (wpY_push post u z1 z0) := by
  obtain ⟨a0, a1, a2, a3, a4, a5, a6, a7, a8, a9, a10, a11, a12, a13, a14, a15, a16, a17, a18, a19, a20, a21, a22, a23, a24, a25, a26, a27⟩ := u
  dsimp only [zy_end_359, yg_accounts, yg_maxDepth, yg_price, yg_fees, yg_minted, yg_input, yg_returnWord, yg_frames, yg_logs, yg_handed, yg_cells, yg_length, yg_world, yg_logAccounts, yg_logWords, yg_rec, yg_entry, yg_entryLogs, yg_left, yg_stack, yg_height, yg_memory, yg_memorySize, yg_position, yg_result, yg_callerOf, yg_valueOf, yg_inputOf]
  try rfl
def zy_end_227 (post : SY → Prop) (x1 : Int32) (x4 : Int32) (x5 : Int32) (x6 : Int32) (x7 : Int32) (x8 : Int32) (n : Nat) (x9 : Int32) (u : SY) : Prop := wY_end_227 post x1 x4 x5 x6 x7 x8 (yg_accounts u) (yg_maxDepth u) (yg_price u) (yg_fees u) (yg_minted u) (yg_input u) (yg_returnWord u) (yg_frames u) (yg_logs u) (yg_handed u) n x9 (yg_cells u) (yg_length u) (yg_world u) (yg_logAccounts u) (yg_logWords u) (yg_rec u) (yg_entry u) (yg_entryLogs u) (yg_left u) (yg_stack u) (yg_height u) (yg_memory u) (yg_memorySize u) (yg_position u) (yg_result u) (yg_callerOf u) (yg_valueOf u) (yg_inputOf u)
theorem ey_end_227 (post : SY → Prop) (x1 : Int32) (x4 : Int32) (x5 : Int32) (x6 : Int32) (x7 : Int32) (x8 : Int32) (n : Nat) (x9 : Int32) (u : SY) : (zy_end_227 post x1 x4 x5 x6 x7 x8 (n + 1) x9 u) = (((48 ≤ x9 → (vp_in (x4 + 5) 320 ∧ ∀ a_rec_19 : Nat → Int32, a_rec_19 = upd (yg_rec u) (x4 + 5).toNatClampNeg x5 → (vp_in (x4 + 1) 320 ∧ (∀ x9_21 : Int32, x9_21 = a_rec_19 (x4 + 1).toNatClampNeg → (((0 ≤ x9_21 → (vp_in x9_21 32 ∧ (vp_in (x4 + 7) 320 ∧ (vp_in x9_21 32 ∧ ∀ a_left_26 : Nat → Int32, a_left_26 = upd (yg_left u) x9_21.toNatClampNeg (((yg_left u) x9_21.toNatClampNeg) + (a_rec_19 (x4 + 7).toNatClampNeg)) → (vp_in x9_21 32 ∧ ∀ a_result_28 : Nat → Int32, a_result_28 = upd (yg_result u) x9_21.toNatClampNeg x6 → (((x8 = 0 → (((x5 = 1 → (zy_end_379 post 1 x9_21 (ym_rec_left_result a_rec_19 a_left_26 a_result_28 u))) ∧ (¬ x5 = 1 → (zy_end_379 post 0 x9_21 (ym_rec_left_result a_rec_19 a_left_26 a_result_28 u)))))) ∧ (¬ x8 = 0 → (((x5 = 1 → (zy_end_359 post x7 x9_21 (ym_rec_left_result a_rec_19 a_left_26 a_result_28 u))) ∧ (¬ x5 = 1 → (zy_end_359 post (-1) x9_21 (ym_rec_left_result a_rec_19 a_left_26 a_result_28 u))))))))))))) ∧ (¬ 0 ≤ x9_21 → (post (ym_returnWord_rec x6 a_rec_19 u))))))))) ∧ (¬ 48 ≤ x9 → (vp_in x9 48 ∧ (vp_in ((x1 * 48) + x9) 1536 ∧ (((((yg_world u) x9.toNatClampNeg) = ((yg_entry u) ((x1 * 48) + x9).toNatClampNeg) → (∀ x9_93 : Int32, x9_93 = x9 + 1 → (zy_end_227 post x1 x4 x5 x6 x7 x8 n x9_93 u))) ∧ (¬ ((yg_world u) x9.toNatClampNeg) = ((yg_entry u) ((x1 * 48) + x9).toNatClampNeg) → (vp_in (x4 + 9) 320 ∧ (vp_in (x4 + 9) 320 ∧ ∀ a_rec_96 : Nat → Int32, a_rec_96 = upd (yg_rec u) (x4 + 9).toNatClampNeg (((yg_rec u) (x4 + 9).toNatClampNeg) + 1) → (∀ x9_97 : Int32, x9_97 = x9 + 1 → (zy_end_227 post x1 x4 x5 x6 x7 x8 n x9_97 (ys_rec a_rec_96 u))))))))))))) := by
  obtain ⟨a0, a1, a2, a3, a4, a5, a6, a7, a8, a9, a10, a11, a12, a13, a14, a15, a16, a17, a18, a19, a20, a21, a22, a23, a24, a25, a26, a27⟩ := u
  show (wY_end_227 post x1 x4 x5 x6 x7 x8 a0 a1 a2 a3 a4 a5 a6 a7 a8 a9 (n + 1) x9 a10 a11 a12 a13 a14 a15 a16 a17 a18 a19 a20 a21 a22 a23 a24 a25 a26 a27) = _
  rw [wY_end_227]
  dsimp only [zy_end_227, zy_end_359, zy_end_379, yg_accounts, yg_maxDepth, yg_price, yg_fees, yg_minted, yg_input, yg_returnWord, yg_frames, yg_logs, yg_handed, yg_cells, yg_length, yg_world, yg_logAccounts, yg_logWords, yg_rec, yg_entry, yg_entryLogs, yg_left, yg_stack, yg_height, yg_memory, yg_memorySize, yg_position, yg_result, yg_callerOf, yg_valueOf, yg_inputOf, ym_rec_left_result, ym_returnWord_rec, ys_rec]
  try rfl
def zy_end_203 (post : SY → Prop) (x1 : Int32) (x4 : Int32) (x5 : Int32) (x6 : Int32) (x7 : Int32) (x8 : Int32) (u : SY) : Prop := wY_end_203 post x1 x4 x5 x6 x7 x8 (yg_accounts u) (yg_maxDepth u) (yg_price u) (yg_fees u) (yg_minted u) (yg_input u) (yg_returnWord u) (yg_frames u) (yg_logs u) (yg_handed u) (yg_cells u) (yg_length u) (yg_world u) (yg_logAccounts u) (yg_logWords u) (yg_rec u) (yg_entry u) (yg_entryLogs u) (yg_left u) (yg_stack u) (yg_height u) (yg_memory u) (yg_memorySize u) (yg_position u) (yg_result u) (yg_callerOf u) (yg_valueOf u) (yg_inputOf u)
theorem ey_end_203 (post : SY → Prop) (x1 : Int32) (x4 : Int32) (x5 : Int32) (x6 : Int32) (x7 : Int32) (x8 : Int32) (u : SY) : (zy_end_203 post x1 x4 x5 x6 x7 x8 u) = (vp_in x1 32 ∧ (vp_in (x4 + 9) 320 ∧ ∀ a_rec_16 : Nat → Int32, a_rec_16 = upd (yg_rec u) (x4 + 9).toNatClampNeg ((yg_logs u) - ((yg_entryLogs u) x1.toNatClampNeg)) → (∃ n227 : Nat, zy_end_227 post x1 x4 x5 x6 x7 x8 n227 0 (ys_rec a_rec_16 u)))) := by
  obtain ⟨a0, a1, a2, a3, a4, a5, a6, a7, a8, a9, a10, a11, a12, a13, a14, a15, a16, a17, a18, a19, a20, a21, a22, a23, a24, a25, a26, a27⟩ := u
  dsimp only [zy_end_203, zy_end_227, yg_accounts, yg_maxDepth, yg_price, yg_fees, yg_minted, yg_input, yg_returnWord, yg_frames, yg_logs, yg_handed, yg_cells, yg_length, yg_world, yg_logAccounts, yg_logWords, yg_rec, yg_entry, yg_entryLogs, yg_left, yg_stack, yg_height, yg_memory, yg_memorySize, yg_position, yg_result, yg_callerOf, yg_valueOf, yg_inputOf, ys_rec]
  try rfl
def zy_end_165 (post : SY → Prop) (x1 : Int32) (x4 : Int32) (x5 : Int32) (x6 : Int32) (x7 : Int32) (x8 : Int32) (u : SY) : Prop := wY_end_165 post x1 x4 x5 x6 x7 x8 (yg_accounts u) (yg_maxDepth u) (yg_price u) (yg_fees u) (yg_minted u) (yg_input u) (yg_returnWord u) (yg_frames u) (yg_logs u) (yg_handed u) (yg_cells u) (yg_length u) (yg_world u) (yg_logAccounts u) (yg_logWords u) (yg_rec u) (yg_entry u) (yg_entryLogs u) (yg_left u) (yg_stack u) (yg_height u) (yg_memory u) (yg_memorySize u) (yg_position u) (yg_result u) (yg_callerOf u) (yg_valueOf u) (yg_inputOf u)
theorem ey_end_165 (post : SY → Prop) (x1 : Int32) (x4 : Int32) (x5 : Int32) (x6 : Int32) (x7 : Int32) (x8 : Int32) (u : SY) : (zy_end_165 post x1 x4 x5 x6 x7 x8 u) = (vp_in x1 32 ∧ (vp_in (x4 + 7) 320 ∧ ∀ a_rec_13 : Nat → Int32, a_rec_13 = upd (yg_rec u) (x4 + 7).toNatClampNeg ((yg_left u) x1.toNatClampNeg) → (zy_end_203 post x1 x4 x5 x6 x7 x8 (ys_rec a_rec_13 u)))) := by
  obtain ⟨a0, a1, a2, a3, a4, a5, a6, a7, a8, a9, a10, a11, a12, a13, a14, a15, a16, a17, a18, a19, a20, a21, a22, a23, a24, a25, a26, a27⟩ := u
  dsimp only [zy_end_165, zy_end_203, yg_accounts, yg_maxDepth, yg_price, yg_fees, yg_minted, yg_input, yg_returnWord, yg_frames, yg_logs, yg_handed, yg_cells, yg_length, yg_world, yg_logAccounts, yg_logWords, yg_rec, yg_entry, yg_entryLogs, yg_left, yg_stack, yg_height, yg_memory, yg_memorySize, yg_position, yg_result, yg_callerOf, yg_valueOf, yg_inputOf, ys_rec]
  try rfl
def zy_end_115 (post : SY → Prop) (x1 : Int32) (x4 : Int32) (x5 : Int32) (x6 : Int32) (x7 : Int32) (x8 : Int32) (n : Nat) (x9 : Int32) (u : SY) : Prop := wY_end_115 post x1 x4 x5 x6 x7 x8 (yg_accounts u) (yg_maxDepth u) (yg_price u) (yg_fees u) (yg_minted u) (yg_input u) (yg_returnWord u) (yg_frames u) (yg_logs u) (yg_handed u) n x9 (yg_cells u) (yg_length u) (yg_world u) (yg_logAccounts u) (yg_logWords u) (yg_rec u) (yg_entry u) (yg_entryLogs u) (yg_left u) (yg_stack u) (yg_height u) (yg_memory u) (yg_memorySize u) (yg_position u) (yg_result u) (yg_callerOf u) (yg_valueOf u) (yg_inputOf u)
theorem ey_end_115 (post : SY → Prop) (x1 : Int32) (x4 : Int32) (x5 : Int32) (x6 : Int32) (x7 : Int32) (x8 : Int32) (n : Nat) (x9 : Int32) (u : SY) : (zy_end_115 post x1 x4 x5 x6 x7 x8 (n + 1) x9 u) = (((48 ≤ x9 → (((x5 = 1 → (zy_end_165 post x1 x4 x5 x6 x7 x8 u)) ∧ (¬ x5 = 1 → (((x5 = 2 → (zy_end_165 post x1 x4 x5 x6 x7 x8 u)) ∧ (¬ x5 = 2 → (vp_in (x4 + 8) 320 ∧ (vp_in x1 32 ∧ (vp_in (x4 + 8) 320 ∧ ∀ a_rec_102 : Nat → Int32, a_rec_102 = upd (yg_rec u) (x4 + 8).toNatClampNeg (((yg_rec u) (x4 + 8).toNatClampNeg) + ((yg_left u) x1.toNatClampNeg)) → (zy_end_203 post x1 x4 x5 x6 x7 x8 (ys_rec a_rec_102 u)))))))))))) ∧ (¬ 48 ≤ x9 → (((x5 = 1 → (∀ x9_104 : Int32, x9_104 = x9 + 1 → (zy_end_115 post x1 x4 x5 x6 x7 x8 n x9_104 u))) ∧ (¬ x5 = 1 → (vp_in ((x1 * 48) + x9) 1536 ∧ (vp_in x9 48 ∧ ∀ a_world_107 : Nat → Int32, a_world_107 = upd (yg_world u) x9.toNatClampNeg ((yg_entry u) ((x1 * 48) + x9).toNatClampNeg) → (∀ x9_108 : Int32, x9_108 = x9 + 1 → (zy_end_115 post x1 x4 x5 x6 x7 x8 n x9_108 (ys_world a_world_107 u))))))))))) := by
  obtain ⟨a0, a1, a2, a3, a4, a5, a6, a7, a8, a9, a10, a11, a12, a13, a14, a15, a16, a17, a18, a19, a20, a21, a22, a23, a24, a25, a26, a27⟩ := u
  show (wY_end_115 post x1 x4 x5 x6 x7 x8 a0 a1 a2 a3 a4 a5 a6 a7 a8 a9 (n + 1) x9 a10 a11 a12 a13 a14 a15 a16 a17 a18 a19 a20 a21 a22 a23 a24 a25 a26 a27) = _
  rw [wY_end_115]
  dsimp only [zy_end_115, zy_end_165, zy_end_203, yg_accounts, yg_maxDepth, yg_price, yg_fees, yg_minted, yg_input, yg_returnWord, yg_frames, yg_logs, yg_handed, yg_cells, yg_length, yg_world, yg_logAccounts, yg_logWords, yg_rec, yg_entry, yg_entryLogs, yg_left, yg_stack, yg_height, yg_memory, yg_memorySize, yg_position, yg_result, yg_callerOf, yg_valueOf, yg_inputOf, ys_rec, ys_world]
  try rfl
def zy_end_96 (post : SY → Prop) (x1 : Int32) (x4 : Int32) (x5 : Int32) (x6 : Int32) (x7 : Int32) (x8 : Int32) (u : SY) : Prop := wY_end_96 post x1 x4 x5 x6 x7 x8 (yg_accounts u) (yg_maxDepth u) (yg_price u) (yg_fees u) (yg_minted u) (yg_input u) (yg_returnWord u) (yg_frames u) (yg_logs u) (yg_handed u) (yg_cells u) (yg_length u) (yg_world u) (yg_logAccounts u) (yg_logWords u) (yg_rec u) (yg_entry u) (yg_entryLogs u) (yg_left u) (yg_stack u) (yg_height u) (yg_memory u) (yg_memorySize u) (yg_position u) (yg_result u) (yg_callerOf u) (yg_valueOf u) (yg_inputOf u)
theorem ey_end_96 (post : SY → Prop) (x1 : Int32) (x4 : Int32) (x5 : Int32) (x6 : Int32) (x7 : Int32) (x8 : Int32) (u : SY) : (zy_end_96 post x1 x4 x5 x6 x7 x8 u) = (((x5 = 1 → (∃ n115 : Nat, zy_end_115 post x1 x4 x5 x6 x7 x8 n115 0 u)) ∧ (¬ x5 = 1 → (vp_in x1 32 ∧ (∀ f_logs_110 : Int32, f_logs_110 = (yg_entryLogs u) x1.toNatClampNeg → (∃ n115 : Nat, zy_end_115 post x1 x4 x5 x6 x7 x8 n115 0 (ys_logs f_logs_110 u))))))) := by
  obtain ⟨a0, a1, a2, a3, a4, a5, a6, a7, a8, a9, a10, a11, a12, a13, a14, a15, a16, a17, a18, a19, a20, a21, a22, a23, a24, a25, a26, a27⟩ := u
  dsimp only [zy_end_115, zy_end_96, yg_accounts, yg_maxDepth, yg_price, yg_fees, yg_minted, yg_input, yg_returnWord, yg_frames, yg_logs, yg_handed, yg_cells, yg_length, yg_world, yg_logAccounts, yg_logWords, yg_rec, yg_entry, yg_entryLogs, yg_left, yg_stack, yg_height, yg_memory, yg_memorySize, yg_position, yg_result, yg_callerOf, yg_valueOf, yg_inputOf, ys_logs]
  try rfl
def zy_end_73 (post : SY → Prop) (x1 : Int32) (x4 : Int32) (x5 : Int32) (x6 : Int32) (x7 : Int32) (x8 : Int32) (u : SY) : Prop := wY_end_73 post x1 x4 x5 x6 x7 x8 (yg_accounts u) (yg_maxDepth u) (yg_price u) (yg_fees u) (yg_minted u) (yg_input u) (yg_returnWord u) (yg_frames u) (yg_logs u) (yg_handed u) (yg_cells u) (yg_length u) (yg_world u) (yg_logAccounts u) (yg_logWords u) (yg_rec u) (yg_entry u) (yg_entryLogs u) (yg_left u) (yg_stack u) (yg_height u) (yg_memory u) (yg_memorySize u) (yg_position u) (yg_result u) (yg_callerOf u) (yg_valueOf u) (yg_inputOf u)
theorem ey_end_73 (post : SY → Prop) (x1 : Int32) (x4 : Int32) (x5 : Int32) (x6 : Int32) (x7 : Int32) (x8 : Int32) (u : SY) : (zy_end_73 post x1 x4 x5 x6 x7 x8 u) = (((x8 = 0 → (zy_end_96 post x1 x4 x5 x6 x7 x8 u)) ∧ (¬ x8 = 0 → (((x5 = 1 → (vp_in (x7 * 6) 48 ∧ ∀ a_world_113 : Nat → Int32, a_world_113 = upd (yg_world u) (x7 * 6).toNatClampNeg x6 → (zy_end_96 post x1 x4 x5 x6 x7 x8 (ys_world a_world_113 u)))) ∧ (¬ x5 = 1 → (zy_end_96 post x1 x4 x5 x6 x7 x8 u))))))) := by
  obtain ⟨a0, a1, a2, a3, a4, a5, a6, a7, a8, a9, a10, a11, a12, a13, a14, a15, a16, a17, a18, a19, a20, a21, a22, a23, a24, a25, a26, a27⟩ := u
  dsimp only [zy_end_73, zy_end_96, yg_accounts, yg_maxDepth, yg_price, yg_fees, yg_minted, yg_input, yg_returnWord, yg_frames, yg_logs, yg_handed, yg_cells, yg_length, yg_world, yg_logAccounts, yg_logWords, yg_rec, yg_entry, yg_entryLogs, yg_left, yg_stack, yg_height, yg_memory, yg_memorySize, yg_position, yg_result, yg_callerOf, yg_valueOf, yg_inputOf, ys_world]
  try rfl
def zy_end_66 (post : SY → Prop) (x1 : Int32) (x4 : Int32) (x7 : Int32) (x8 : Int32) (u : SY) : Prop := wY_end_66 post x1 x4 x7 x8 (yg_accounts u) (yg_maxDepth u) (yg_price u) (yg_fees u) (yg_minted u) (yg_input u) (yg_returnWord u) (yg_frames u) (yg_logs u) (yg_handed u) (yg_cells u) (yg_length u) (yg_world u) (yg_logAccounts u) (yg_logWords u) (yg_rec u) (yg_entry u) (yg_entryLogs u) (yg_left u) (yg_stack u) (yg_height u) (yg_memory u) (yg_memorySize u) (yg_position u) (yg_result u) (yg_callerOf u) (yg_valueOf u) (yg_inputOf u)
theorem ey_end_66 (post : SY → Prop) (x1 : Int32) (x4 : Int32) (x7 : Int32) (x8 : Int32) (u : SY) : (zy_end_66 post x1 x4 x7 x8 u) = (zy_end_73 post x1 x4 11 0 x7 x8 u) := by
  obtain ⟨a0, a1, a2, a3, a4, a5, a6, a7, a8, a9, a10, a11, a12, a13, a14, a15, a16, a17, a18, a19, a20, a21, a22, a23, a24, a25, a26, a27⟩ := u
  dsimp only [zy_end_66, zy_end_73, yg_accounts, yg_maxDepth, yg_price, yg_fees, yg_minted, yg_input, yg_returnWord, yg_frames, yg_logs, yg_handed, yg_cells, yg_length, yg_world, yg_logAccounts, yg_logWords, yg_rec, yg_entry, yg_entryLogs, yg_left, yg_stack, yg_height, yg_memory, yg_memorySize, yg_position, yg_result, yg_callerOf, yg_valueOf, yg_inputOf]
  try rfl
def zy_end_41 (post : SY → Prop) (x1 : Int32) (x4 : Int32) (x5 : Int32) (x6 : Int32) (x7 : Int32) (z0 : Int32) (u : SY) : Prop := wY_end_41 post x1 x4 x5 x6 x7 z0 (yg_accounts u) (yg_maxDepth u) (yg_price u) (yg_fees u) (yg_minted u) (yg_input u) (yg_returnWord u) (yg_frames u) (yg_logs u) (yg_handed u) (yg_cells u) (yg_length u) (yg_world u) (yg_logAccounts u) (yg_logWords u) (yg_rec u) (yg_entry u) (yg_entryLogs u) (yg_left u) (yg_stack u) (yg_height u) (yg_memory u) (yg_memorySize u) (yg_position u) (yg_result u) (yg_callerOf u) (yg_valueOf u) (yg_inputOf u)
theorem ey_end_41 (post : SY → Prop) (x1 : Int32) (x4 : Int32) (x5 : Int32) (x6 : Int32) (x7 : Int32) (z0 : Int32) (u : SY) : (zy_end_41 post x1 x4 x5 x6 x7 z0 u) = (((z0 = 0 → (zy_end_73 post x1 x4 x5 x6 x7 z0 u)) ∧ (¬ z0 = 0 → (((x5 = 1 → (((x6 < 0 → (zy_end_66 post x1 x4 x7 z0 u)) ∧ (¬ x6 < 0 → (((x6 ≤ 7 → (zy_end_73 post x1 x4 x5 x6 x7 z0 u)) ∧ (¬ x6 ≤ 7 → (zy_end_66 post x1 x4 x7 z0 u)))))))) ∧ (¬ x5 = 1 → (zy_end_73 post x1 x4 x5 x6 x7 z0 u))))))) := by
  obtain ⟨a0, a1, a2, a3, a4, a5, a6, a7, a8, a9, a10, a11, a12, a13, a14, a15, a16, a17, a18, a19, a20, a21, a22, a23, a24, a25, a26, a27⟩ := u
  dsimp only [zy_end_41, zy_end_66, zy_end_73, yg_accounts, yg_maxDepth, yg_price, yg_fees, yg_minted, yg_input, yg_returnWord, yg_frames, yg_logs, yg_handed, yg_cells, yg_length, yg_world, yg_logAccounts, yg_logWords, yg_rec, yg_entry, yg_entryLogs, yg_left, yg_stack, yg_height, yg_memory, yg_memorySize, yg_position, yg_result, yg_callerOf, yg_valueOf, yg_inputOf]
  try rfl
theorem ey_end (post : SY → Prop) (u : SY) (p0 : Int32) (p1 : Int32) (p2 : Int32) : (wpY_end post u p0 p1 p2) = (∀ x4_1 : Int32, x4_1 = p0 * 10 → (vp_in (x4_1 + 2) 320 ∧ (∀ x7_3 : Int32, x7_3 = (yg_rec u) (x4_1 + 2).toNatClampNeg → (vp_in (x4_1 + 0) 320 ∧ (((((yg_rec u) (x4_1 + 0).toNatClampNeg) = 4 → (zy_end_41 post p0 x4_1 p1 p2 x7_3 1 u)) ∧ (¬ ((yg_rec u) (x4_1 + 0).toNatClampNeg) = 4 → (zy_end_41 post p0 x4_1 p1 p2 x7_3 0 u)))))))) := by
  obtain ⟨a0, a1, a2, a3, a4, a5, a6, a7, a8, a9, a10, a11, a12, a13, a14, a15, a16, a17, a18, a19, a20, a21, a22, a23, a24, a25, a26, a27⟩ := u
  dsimp only [zy_end_41, yg_accounts, yg_maxDepth, yg_price, yg_fees, yg_minted, yg_input, yg_returnWord, yg_frames, yg_logs, yg_handed, yg_cells, yg_length, yg_world, yg_logAccounts, yg_logWords, yg_rec, yg_entry, yg_entryLogs, yg_left, yg_stack, yg_height, yg_memory, yg_memorySize, yg_position, yg_result, yg_callerOf, yg_valueOf, yg_inputOf]
  try rfl
theorem ey_programCell (post : Int32 → Prop) (u : SY) (p0 : Int32) (p1 : Int32) : (wpY_programCell post u p0 p1) = (((p0 < 0 → (post 0)) ∧ (¬ p0 < 0 → (((p0 ≤ 7 → (((p1 < 0 → (post 0)) ∧ (¬ p1 < 0 → (vp_in p0 8 ∧ (((p1 < ((yg_length u) p0.toNatClampNeg) → (vp_in ((p0 * 32) + p1) 256 ∧ (post ((yg_cells u) ((p0 * 32) + p1).toNatClampNeg)))) ∧ (¬ p1 < ((yg_length u) p0.toNatClampNeg) → (post 0))))))))) ∧ (¬ p0 ≤ 7 → (post 0))))))) := by
  obtain ⟨a0, a1, a2, a3, a4, a5, a6, a7, a8, a9, a10, a11, a12, a13, a14, a15, a16, a17, a18, a19, a20, a21, a22, a23, a24, a25, a26, a27⟩ := u
  try rfl
def zy_pops_34 (post : Int32 → Prop) (x1 : Int32) (u : SY) : Prop := wY_pops_34 post x1 (yg_accounts u) (yg_maxDepth u) (yg_price u) (yg_fees u) (yg_minted u) (yg_input u) (yg_returnWord u) (yg_frames u) (yg_logs u) (yg_handed u) (yg_cells u) (yg_length u) (yg_world u) (yg_logAccounts u) (yg_logWords u) (yg_rec u) (yg_entry u) (yg_entryLogs u) (yg_left u) (yg_stack u) (yg_height u) (yg_memory u) (yg_memorySize u) (yg_position u) (yg_result u) (yg_callerOf u) (yg_valueOf u) (yg_inputOf u)
theorem ey_pops_34 (post : Int32 → Prop) (x1 : Int32) (u : SY) : (zy_pops_34 post x1 u) = (((x1 = 18 → (post 2)) ∧ (¬ x1 = 18 → (((x1 = 20 → (post 2)) ∧ (¬ x1 = 20 → (((x1 = 23 → (post 2)) ∧ (¬ x1 = 23 → (((x1 = 5 → (post 1)) ∧ (¬ x1 = 5 → (((x1 = 6 → (post 1)) ∧ (¬ x1 = 6 → (((x1 = 15 → (post 1)) ∧ (¬ x1 = 15 → (((x1 = 17 → (post 1)) ∧ (¬ x1 = 17 → (((x1 = 19 → (post 1)) ∧ (¬ x1 = 19 → (((x1 = 22 → (post 1)) ∧ (¬ x1 = 22 → (((x1 = 24 → (post 1)) ∧ (¬ x1 = 24 → (((x1 = 29 → (post 1)) ∧ (¬ x1 = 29 → (((x1 < 36 → (post 0)) ∧ (¬ x1 < 36 → (post 1))))))))))))))))))))))))))))))))))))) := by
  obtain ⟨a0, a1, a2, a3, a4, a5, a6, a7, a8, a9, a10, a11, a12, a13, a14, a15, a16, a17, a18, a19, a20, a21, a22, a23, a24, a25, a26, a27⟩ := u
  dsimp only [zy_pops_34, yg_accounts, yg_maxDepth, yg_price, yg_fees, yg_minted, yg_input, yg_returnWord, yg_frames, yg_logs, yg_handed, yg_cells, yg_length, yg_world, yg_logAccounts, yg_logWords, yg_rec, yg_entry, yg_entryLogs, yg_left, yg_stack, yg_height, yg_memory, yg_memorySize, yg_position, yg_result, yg_callerOf, yg_valueOf, yg_inputOf]
  try rfl
def zy_pops_22 (post : Int32 → Prop) (x1 : Int32) (u : SY) : Prop := wY_pops_22 post x1 (yg_accounts u) (yg_maxDepth u) (yg_price u) (yg_fees u) (yg_minted u) (yg_input u) (yg_returnWord u) (yg_frames u) (yg_logs u) (yg_handed u) (yg_cells u) (yg_length u) (yg_world u) (yg_logAccounts u) (yg_logWords u) (yg_rec u) (yg_entry u) (yg_entryLogs u) (yg_left u) (yg_stack u) (yg_height u) (yg_memory u) (yg_memorySize u) (yg_position u) (yg_result u) (yg_callerOf u) (yg_valueOf u) (yg_inputOf u)
theorem ey_pops_22 (post : Int32 → Prop) (x1 : Int32) (u : SY) : (zy_pops_22 post x1 u) = (((x1 < 7 → (zy_pops_34 post x1 u)) ∧ (¬ x1 < 7 → (((x1 ≤ 14 → (post 2)) ∧ (¬ x1 ≤ 14 → (zy_pops_34 post x1 u))))))) := by
  obtain ⟨a0, a1, a2, a3, a4, a5, a6, a7, a8, a9, a10, a11, a12, a13, a14, a15, a16, a17, a18, a19, a20, a21, a22, a23, a24, a25, a26, a27⟩ := u
  dsimp only [zy_pops_22, zy_pops_34, yg_accounts, yg_maxDepth, yg_price, yg_fees, yg_minted, yg_input, yg_returnWord, yg_frames, yg_logs, yg_handed, yg_cells, yg_length, yg_world, yg_logAccounts, yg_logWords, yg_rec, yg_entry, yg_entryLogs, yg_left, yg_stack, yg_height, yg_memory, yg_memorySize, yg_position, yg_result, yg_callerOf, yg_valueOf, yg_inputOf]
  try rfl
theorem ey_pops (post : Int32 → Prop) (u : SY) (p0 : Int32) : (wpY_pops post u p0) = (((p0 = 32 → (post 4)) ∧ (¬ p0 = 32 → (((p0 < 33 → (zy_pops_22 post p0 u)) ∧ (¬ p0 < 33 → (((35 < p0 → (zy_pops_22 post p0 u)) ∧ (¬ 35 < p0 → (post 3)))))))))) := by
  obtain ⟨a0, a1, a2, a3, a4, a5, a6, a7, a8, a9, a10, a11, a12, a13, a14, a15, a16, a17, a18, a19, a20, a21, a22, a23, a24, a25, a26, a27⟩ := u
  dsimp only [zy_pops_22, yg_accounts, yg_maxDepth, yg_price, yg_fees, yg_minted, yg_input, yg_returnWord, yg_frames, yg_logs, yg_handed, yg_cells, yg_length, yg_world, yg_logAccounts, yg_logWords, yg_rec, yg_entry, yg_entryLogs, yg_left, yg_stack, yg_height, yg_memory, yg_memorySize, yg_position, yg_result, yg_callerOf, yg_valueOf, yg_inputOf]
  try rfl
def zy_pushes_46 (post : Int32 → Prop) (x1 : Int32) (u : SY) : Prop := wY_pushes_46 post x1 (yg_accounts u) (yg_maxDepth u) (yg_price u) (yg_fees u) (yg_minted u) (yg_input u) (yg_returnWord u) (yg_frames u) (yg_logs u) (yg_handed u) (yg_cells u) (yg_length u) (yg_world u) (yg_logAccounts u) (yg_logWords u) (yg_rec u) (yg_entry u) (yg_entryLogs u) (yg_left u) (yg_stack u) (yg_height u) (yg_memory u) (yg_memorySize u) (yg_position u) (yg_result u) (yg_callerOf u) (yg_valueOf u) (yg_inputOf u)
theorem ey_pushes_46 (post : Int32 → Prop) (x1 : Int32) (u : SY) : (zy_pushes_46 post x1 u) = (((x1 = 19 → (post 1)) ∧ (¬ x1 = 19 → (((x1 = 21 → (post 1)) ∧ (¬ x1 = 21 → (((x1 = 22 → (post 1)) ∧ (¬ x1 = 22 → (((x1 < 25 → (post 0)) ∧ (¬ x1 < 25 → (((35 < x1 → (post 0)) ∧ (¬ 35 < x1 → (post 1)))))))))))))))) := by
  obtain ⟨a0, a1, a2, a3, a4, a5, a6, a7, a8, a9, a10, a11, a12, a13, a14, a15, a16, a17, a18, a19, a20, a21, a22, a23, a24, a25, a26, a27⟩ := u
  dsimp only [zy_pushes_46, yg_accounts, yg_maxDepth, yg_price, yg_fees, yg_minted, yg_input, yg_returnWord, yg_frames, yg_logs, yg_handed, yg_cells, yg_length, yg_world, yg_logAccounts, yg_logWords, yg_rec, yg_entry, yg_entryLogs, yg_left, yg_stack, yg_height, yg_memory, yg_memorySize, yg_position, yg_result, yg_callerOf, yg_valueOf, yg_inputOf]
  try rfl
def zy_pushes_12 (post : Int32 → Prop) (x1 : Int32) (u : SY) : Prop := wY_pushes_12 post x1 (yg_accounts u) (yg_maxDepth u) (yg_price u) (yg_fees u) (yg_minted u) (yg_input u) (yg_returnWord u) (yg_frames u) (yg_logs u) (yg_handed u) (yg_cells u) (yg_length u) (yg_world u) (yg_logAccounts u) (yg_logWords u) (yg_rec u) (yg_entry u) (yg_entryLogs u) (yg_left u) (yg_stack u) (yg_height u) (yg_memory u) (yg_memorySize u) (yg_position u) (yg_result u) (yg_callerOf u) (yg_valueOf u) (yg_inputOf u)
theorem ey_pushes_12 (post : Int32 → Prop) (x1 : Int32) (u : SY) : (zy_pushes_12 post x1 u) = (((x1 = 7 → (post 3)) ∧ (¬ x1 = 7 → (((x1 = 6 → (post 2)) ∧ (¬ x1 = 6 → (((x1 = 8 → (post 2)) ∧ (¬ x1 = 8 → (((x1 < 9 → (zy_pushes_46 post x1 u)) ∧ (¬ x1 < 9 → (((x1 ≤ 15 → (post 1)) ∧ (¬ x1 ≤ 15 → (zy_pushes_46 post x1 u)))))))))))))))) := by
  obtain ⟨a0, a1, a2, a3, a4, a5, a6, a7, a8, a9, a10, a11, a12, a13, a14, a15, a16, a17, a18, a19, a20, a21, a22, a23, a24, a25, a26, a27⟩ := u
  dsimp only [zy_pushes_12, zy_pushes_46, yg_accounts, yg_maxDepth, yg_price, yg_fees, yg_minted, yg_input, yg_returnWord, yg_frames, yg_logs, yg_handed, yg_cells, yg_length, yg_world, yg_logAccounts, yg_logWords, yg_rec, yg_entry, yg_entryLogs, yg_left, yg_stack, yg_height, yg_memory, yg_memorySize, yg_position, yg_result, yg_callerOf, yg_valueOf, yg_inputOf]
  try rfl
theorem ey_pushes (post : Int32 → Prop) (u : SY) (p0 : Int32) : (wpY_pushes post u p0) = (((p0 < 1 → (zy_pushes_12 post p0 u)) ∧ (¬ p0 < 1 → (((4 < p0 → (zy_pushes_12 post p0 u)) ∧ (¬ 4 < p0 → (post p0))))))) := by
  obtain ⟨a0, a1, a2, a3, a4, a5, a6, a7, a8, a9, a10, a11, a12, a13, a14, a15, a16, a17, a18, a19, a20, a21, a22, a23, a24, a25, a26, a27⟩ := u
  dsimp only [zy_pushes_12, yg_accounts, yg_maxDepth, yg_price, yg_fees, yg_minted, yg_input, yg_returnWord, yg_frames, yg_logs, yg_handed, yg_cells, yg_length, yg_world, yg_logAccounts, yg_logWords, yg_rec, yg_entry, yg_entryLogs, yg_left, yg_stack, yg_height, yg_memory, yg_memorySize, yg_position, yg_result, yg_callerOf, yg_valueOf, yg_inputOf]
  try rfl
theorem ey_word (post : Int32 → Prop) (u : SY) (p0 : Int32) (p1 : Int32) : (wpY_word post u p0 p1) = (vp_in p0 32 ∧ (∀ x3_2 : Int32, x3_2 = (((yg_height u) p0.toNatClampNeg) - 1) - p1 → (((0 ≤ x3_2 → (vp_in ((p0 * 16) + x3_2) 512 ∧ (post ((yg_stack u) ((p0 * 16) + x3_2).toNatClampNeg)))) ∧ (¬ 0 ≤ x3_2 → (post 0)))))) := by
  obtain ⟨a0, a1, a2, a3, a4, a5, a6, a7, a8, a9, a10, a11, a12, a13, a14, a15, a16, a17, a18, a19, a20, a21, a22, a23, a24, a25, a26, a27⟩ := u
  try rfl
def zy_cost_107 (post : Int32 → Prop) (x6 : Int32) (x7 : Int32) (u : SY) : Prop := wY_cost_107 post x6 x7 (yg_accounts u) (yg_maxDepth u) (yg_price u) (yg_fees u) (yg_minted u) (yg_input u) (yg_returnWord u) (yg_frames u) (yg_logs u) (yg_handed u) (yg_cells u) (yg_length u) (yg_world u) (yg_logAccounts u) (yg_logWords u) (yg_rec u) (yg_entry u) (yg_entryLogs u) (yg_left u) (yg_stack u) (yg_height u) (yg_memory u) (yg_memorySize u) (yg_position u) (yg_result u) (yg_callerOf u) (yg_valueOf u) (yg_inputOf u)
theorem ey_cost_107 (post : Int32 → Prop) (x6 : Int32) (x7 : Int32) (u : SY) : (zy_cost_107 post x6 x7 u) = (¬ (8 : Int32) = 0 ∧ (¬ (8 : Int32) = 0 ∧ (post ((1 + (x7 + ((x7 * x7) / 8))) - (x6 + ((x6 * x6) / 8)))))) := by
  obtain ⟨a0, a1, a2, a3, a4, a5, a6, a7, a8, a9, a10, a11, a12, a13, a14, a15, a16, a17, a18, a19, a20, a21, a22, a23, a24, a25, a26, a27⟩ := u
  dsimp only [zy_cost_107, yg_accounts, yg_maxDepth, yg_price, yg_fees, yg_minted, yg_input, yg_returnWord, yg_frames, yg_logs, yg_handed, yg_cells, yg_length, yg_world, yg_logAccounts, yg_logWords, yg_rec, yg_entry, yg_entryLogs, yg_left, yg_stack, yg_height, yg_memory, yg_memorySize, yg_position, yg_result, yg_callerOf, yg_valueOf, yg_inputOf]
  try rfl
def zy_cost_45 (post : Int32 → Prop) (x1 : Int32) (x2 : Int32) (x3 : Int32) (x4 : Int32) (x5 : Int32) (x6 : Int32) (z0 : Int32) (u : SY) : Prop := wY_cost_45 post x1 x2 x3 x4 x5 x6 z0 (yg_accounts u) (yg_maxDepth u) (yg_price u) (yg_fees u) (yg_minted u) (yg_input u) (yg_returnWord u) (yg_frames u) (yg_logs u) (yg_handed u) (yg_cells u) (yg_length u) (yg_world u) (yg_logAccounts u) (yg_logWords u) (yg_rec u) (yg_entry u) (yg_entryLogs u) (yg_left u) (yg_stack u) (yg_height u) (yg_memory u) (yg_memorySize u) (yg_position u) (yg_result u) (yg_callerOf u) (yg_valueOf u) (yg_inputOf u)
theorem ey_cost_45 (post : Int32 → Prop) (x1 : Int32) (x2 : Int32) (x3 : Int32) (x4 : Int32) (x5 : Int32) (x6 : Int32) (z0 : Int32) (u : SY) : (zy_cost_45 post x1 x2 x3 x4 x5 x6 z0 u) = (((x2 = 0 → (post 0)) ∧ (¬ x2 = 0 → (((x2 < 36 → (((x2 = 11 → (post 2)) ∧ (¬ x2 = 11 → (((x2 = 12 → (post 2)) ∧ (¬ x2 = 12 → (((x2 = 17 → (post 3)) ∧ (¬ x2 = 17 → (((x2 = 29 → (post 3)) ∧ (¬ x2 = 29 → (((x2 = 18 → (post 4)) ∧ (¬ x2 = 18 → (((x2 = 19 → (zy_cost_107 post x6 z0 u)) ∧ (¬ x2 = 19 → (((x2 = 20 → (zy_cost_107 post x6 z0 u)) ∧ (¬ x2 = 20 → (((x2 = 22 → (post 5)) ∧ (¬ x2 = 22 → (((x2 = 23 → (vp_in ((x1 * 10) + 2) 320 ∧ (vp_in (((((yg_rec u) ((x1 * 10) + 2).toNatClampNeg) * 6) + 2) + (x3 &&& 3)) 48 ∧ (((((yg_world u) (((((yg_rec u) ((x1 * 10) + 2).toNatClampNeg) * 6) + 2) + (x3 &&& 3)).toNatClampNeg) = 0 → (((x4 = 0 → (post 10)) ∧ (¬ x4 = 0 → (post 20))))) ∧ (¬ ((yg_world u) (((((yg_rec u) ((x1 * 10) + 2).toNatClampNeg) * 6) + 2) + (x3 &&& 3)).toNatClampNeg) = 0 → (post 10))))))) ∧ (¬ x2 = 23 → (((x2 = 24 → (post 10)) ∧ (¬ x2 = 24 → (((x2 = 32 → (((x5 = 0 → (post 20)) ∧ (¬ x5 = 0 → (post 30))))) ∧ (¬ x2 = 32 → (((x2 = 33 → (post 20)) ∧ (¬ x2 = 33 → (((x2 = 34 → (post 20)) ∧ (¬ x2 = 34 → (((x2 = 35 → (post 50)) ∧ (¬ x2 = 35 → (post 1)))))))))))))))))))))))))))))))))))))))))))) ∧ (¬ x2 < 36 → (post 0))))))) := by
  obtain ⟨a0, a1, a2, a3, a4, a5, a6, a7, a8, a9, a10, a11, a12, a13, a14, a15, a16, a17, a18, a19, a20, a21, a22, a23, a24, a25, a26, a27⟩ := u
  dsimp only [zy_cost_107, zy_cost_45, yg_accounts, yg_maxDepth, yg_price, yg_fees, yg_minted, yg_input, yg_returnWord, yg_frames, yg_logs, yg_handed, yg_cells, yg_length, yg_world, yg_logAccounts, yg_logWords, yg_rec, yg_entry, yg_entryLogs, yg_left, yg_stack, yg_height, yg_memory, yg_memorySize, yg_position, yg_result, yg_callerOf, yg_valueOf, yg_inputOf]
  try rfl
theorem ey_cost (post : Int32 → Prop) (u : SY) (p0 : Int32) (p1 : Int32) : (wpY_cost post u p0 p1) = (wpY_word (fun r_1 => (wpY_word (fun r_30 => (wpY_word (fun r_59 => (vp_in p0 32 ∧ (∀ x6_89 : Int32, x6_89 = (yg_memorySize u) p0.toNatClampNeg → (((r_1 < x6_89 → (zy_cost_45 post p0 p1 r_1 r_30 r_59 x6_89 x6_89 u)) ∧ (¬ r_1 < x6_89 → (zy_cost_45 post p0 p1 r_1 r_30 r_59 x6_89 (r_1 + 1) u))))))) u p0 2)) u p0 1)) u p0 0) := by
  obtain ⟨a0, a1, a2, a3, a4, a5, a6, a7, a8, a9, a10, a11, a12, a13, a14, a15, a16, a17, a18, a19, a20, a21, a22, a23, a24, a25, a26, a27⟩ := u
  dsimp only [zy_cost_45, yg_accounts, yg_maxDepth, yg_price, yg_fees, yg_minted, yg_input, yg_returnWord, yg_frames, yg_logs, yg_handed, yg_cells, yg_length, yg_world, yg_logAccounts, yg_logWords, yg_rec, yg_entry, yg_entryLogs, yg_left, yg_stack, yg_height, yg_memory, yg_memorySize, yg_position, yg_result, yg_callerOf, yg_valueOf, yg_inputOf]
  try rfl
def zy_failure_158 (post : Int32 → Prop) (x1 : Int32) (x2 : Int32) (u : SY) : Prop := wY_failure_158 post x1 x2 (yg_accounts u) (yg_maxDepth u) (yg_price u) (yg_fees u) (yg_minted u) (yg_input u) (yg_returnWord u) (yg_frames u) (yg_logs u) (yg_handed u) (yg_cells u) (yg_length u) (yg_world u) (yg_logAccounts u) (yg_logWords u) (yg_rec u) (yg_entry u) (yg_entryLogs u) (yg_left u) (yg_stack u) (yg_height u) (yg_memory u) (yg_memorySize u) (yg_position u) (yg_result u) (yg_callerOf u) (yg_valueOf u) (yg_inputOf u)
theorem ey_failure_158 (post : Int32 → Prop) (x1 : Int32) (x2 : Int32) (u : SY) : (zy_failure_158 post x1 x2 u) = (wpY_cost (fun r_129 => (vp_in x1 32 ∧ (((r_129 ≤ ((yg_left u) x1.toNatClampNeg) → (post 0)) ∧ (¬ r_129 ≤ ((yg_left u) x1.toNatClampNeg) → (post 3)))))) u x1 x2) := by
  obtain ⟨a0, a1, a2, a3, a4, a5, a6, a7, a8, a9, a10, a11, a12, a13, a14, a15, a16, a17, a18, a19, a20, a21, a22, a23, a24, a25, a26, a27⟩ := u
  dsimp only [zy_failure_158, yg_accounts, yg_maxDepth, yg_price, yg_fees, yg_minted, yg_input, yg_returnWord, yg_frames, yg_logs, yg_handed, yg_cells, yg_length, yg_world, yg_logAccounts, yg_logWords, yg_rec, yg_entry, yg_entryLogs, yg_left, yg_stack, yg_height, yg_memory, yg_memorySize, yg_position, yg_result, yg_callerOf, yg_valueOf, yg_inputOf]
  try rfl
def zy_failure_143 (post : Int32 → Prop) (x1 : Int32) (x2 : Int32) (x5 : Int32) (u : SY) : Prop := wY_failure_143 post x1 x2 x5 (yg_accounts u) (yg_maxDepth u) (yg_price u) (yg_fees u) (yg_minted u) (yg_input u) (yg_returnWord u) (yg_frames u) (yg_logs u) (yg_handed u) (yg_cells u) (yg_length u) (yg_world u) (yg_logAccounts u) (yg_logWords u) (yg_rec u) (yg_entry u) (yg_entryLogs u) (yg_left u) (yg_stack u) (yg_height u) (yg_memory u) (yg_memorySize u) (yg_position u) (yg_result u) (yg_callerOf u) (yg_valueOf u) (yg_inputOf u)
theorem ey_failure_143 (post : Int32 → Prop) (x1 : Int32) (x2 : Int32) (x5 : Int32) (u : SY) : (zy_failure_143 post x1 x2 x5 u) = (((x5 < 0 → (post 9)) ∧ (¬ x5 < 0 → (((x5 ≤ 15 → (zy_failure_158 post x1 x2 u)) ∧ (¬ x5 ≤ 15 → (post 9))))))) := by
  obtain ⟨a0, a1, a2, a3, a4, a5, a6, a7, a8, a9, a10, a11, a12, a13, a14, a15, a16, a17, a18, a19, a20, a21, a22, a23, a24, a25, a26, a27⟩ := u
  dsimp only [zy_failure_143, zy_failure_158, yg_accounts, yg_maxDepth, yg_price, yg_fees, yg_minted, yg_input, yg_returnWord, yg_frames, yg_logs, yg_handed, yg_cells, yg_length, yg_world, yg_logAccounts, yg_logWords, yg_rec, yg_entry, yg_entryLogs, yg_left, yg_stack, yg_height, yg_memory, yg_memorySize, yg_position, yg_result, yg_callerOf, yg_valueOf, yg_inputOf]
  try rfl
def zy_failure_131 (post : Int32 → Prop) (x1 : Int32) (x2 : Int32) (x5 : Int32) (u : SY) : Prop := wY_failure_131 post x1 x2 x5 (yg_accounts u) (yg_maxDepth u) (yg_price u) (yg_fees u) (yg_minted u) (yg_input u) (yg_returnWord u) (yg_frames u) (yg_logs u) (yg_handed u) (yg_cells u) (yg_length u) (yg_world u) (yg_logAccounts u) (yg_logWords u) (yg_rec u) (yg_entry u) (yg_entryLogs u) (yg_left u) (yg_stack u) (yg_height u) (yg_memory u) (yg_memorySize u) (yg_position u) (yg_result u) (yg_callerOf u) (yg_valueOf u) (yg_inputOf u)
theorem ey_failure_131 (post : Int32 → Prop) (x1 : Int32) (x2 : Int32) (x5 : Int32) (u : SY) : (zy_failure_131 post x1 x2 x5 u) = (((x2 = 19 → (zy_failure_143 post x1 x2 x5 u)) ∧ (¬ x2 = 19 → (((x2 = 20 → (zy_failure_143 post x1 x2 x5 u)) ∧ (¬ x2 = 20 → (zy_failure_158 post x1 x2 u))))))) := by
  obtain ⟨a0, a1, a2, a3, a4, a5, a6, a7, a8, a9, a10, a11, a12, a13, a14, a15, a16, a17, a18, a19, a20, a21, a22, a23, a24, a25, a26, a27⟩ := u
  dsimp only [zy_failure_131, zy_failure_143, zy_failure_158, yg_accounts, yg_maxDepth, yg_price, yg_fees, yg_minted, yg_input, yg_returnWord, yg_frames, yg_logs, yg_handed, yg_cells, yg_length, yg_world, yg_logAccounts, yg_logWords, yg_rec, yg_entry, yg_entryLogs, yg_left, yg_stack, yg_height, yg_memory, yg_memorySize, yg_position, yg_result, yg_callerOf, yg_valueOf, yg_inputOf]
  try rfl
def zy_failure_106 (post : Int32 → Prop) (x1 : Int32) (x2 : Int32) (x5 : Int32) (z0 : Int32) (u : SY) : Prop := wY_failure_106 post x1 x2 x5 z0 (yg_accounts u) (yg_maxDepth u) (yg_price u) (yg_fees u) (yg_minted u) (yg_input u) (yg_returnWord u) (yg_frames u) (yg_logs u) (yg_handed u) (yg_cells u) (yg_length u) (yg_world u) (yg_logAccounts u) (yg_logWords u) (yg_rec u) (yg_entry u) (yg_entryLogs u) (yg_left u) (yg_stack u) (yg_height u) (yg_memory u) (yg_memorySize u) (yg_position u) (yg_result u) (yg_callerOf u) (yg_valueOf u) (yg_inputOf u)
theorem ey_failure_106 (post : Int32 → Prop) (x1 : Int32) (x2 : Int32) (x5 : Int32) (z0 : Int32) (u : SY) : (zy_failure_106 post x1 x2 x5 z0 u) = (vp_in ((x1 * 10) + 4) 320 ∧ (((((yg_rec u) ((x1 * 10) + 4).toNatClampNeg) = 1 → (((z0 = 0 → (zy_failure_131 post x1 x2 x5 u)) ∧ (¬ z0 = 0 → (post 8))))) ∧ (¬ ((yg_rec u) ((x1 * 10) + 4).toNatClampNeg) = 1 → (zy_failure_131 post x1 x2 x5 u))))) := by
  obtain ⟨a0, a1, a2, a3, a4, a5, a6, a7, a8, a9, a10, a11, a12, a13, a14, a15, a16, a17, a18, a19, a20, a21, a22, a23, a24, a25, a26, a27⟩ := u
  dsimp only [zy_failure_106, zy_failure_131, yg_accounts, yg_maxDepth, yg_price, yg_fees, yg_minted, yg_input, yg_returnWord, yg_frames, yg_logs, yg_handed, yg_cells, yg_length, yg_world, yg_logAccounts, yg_logWords, yg_rec, yg_entry, yg_entryLogs, yg_left, yg_stack, yg_height, yg_memory, yg_memorySize, yg_position, yg_result, yg_callerOf, yg_valueOf, yg_inputOf]
  try rfl
def zy_failure_101 (post : Int32 → Prop) (x1 : Int32) (x2 : Int32) (x5 : Int32) (u : SY) : Prop := wY_failure_101 post x1 x2 x5 (yg_accounts u) (yg_maxDepth u) (yg_price u) (yg_fees u) (yg_minted u) (yg_input u) (yg_returnWord u) (yg_frames u) (yg_logs u) (yg_handed u) (yg_cells u) (yg_length u) (yg_world u) (yg_logAccounts u) (yg_logWords u) (yg_rec u) (yg_entry u) (yg_entryLogs u) (yg_left u) (yg_stack u) (yg_height u) (yg_memory u) (yg_memorySize u) (yg_position u) (yg_result u) (yg_callerOf u) (yg_valueOf u) (yg_inputOf u)
theorem ey_failure_101 (post : Int32 → Prop) (x1 : Int32) (x2 : Int32) (x5 : Int32) (u : SY) : (zy_failure_101 post x1 x2 x5 u) = (zy_failure_106 post x1 x2 x5 1 u) := by
  obtain ⟨a0, a1, a2, a3, a4, a5, a6, a7, a8, a9, a10, a11, a12, a13, a14, a15, a16, a17, a18, a19, a20, a21, a22, a23, a24, a25, a26, a27⟩ := u
  dsimp only [zy_failure_101, zy_failure_106, yg_accounts, yg_maxDepth, yg_price, yg_fees, yg_minted, yg_input, yg_returnWord, yg_frames, yg_logs, yg_handed, yg_cells, yg_length, yg_world, yg_logAccounts, yg_logWords, yg_rec, yg_entry, yg_entryLogs, yg_left, yg_stack, yg_height, yg_memory, yg_memorySize, yg_position, yg_result, yg_callerOf, yg_valueOf, yg_inputOf]
  try rfl
def zy_failure_105 (post : Int32 → Prop) (x1 : Int32) (x2 : Int32) (x5 : Int32) (u : SY) : Prop := wY_failure_105 post x1 x2 x5 (yg_accounts u) (yg_maxDepth u) (yg_price u) (yg_fees u) (yg_minted u) (yg_input u) (yg_returnWord u) (yg_frames u) (yg_logs u) (yg_handed u) (yg_cells u) (yg_length u) (yg_world u) (yg_logAccounts u) (yg_logWords u) (yg_rec u) (yg_entry u) (yg_entryLogs u) (yg_left u) (yg_stack u) (yg_height u) (yg_memory u) (yg_memorySize u) (yg_position u) (yg_result u) (yg_callerOf u) (yg_valueOf u) (yg_inputOf u)
theorem ey_failure_105 (post : Int32 → Prop) (x1 : Int32) (x2 : Int32) (x5 : Int32) (u : SY) : (zy_failure_105 post x1 x2 x5 u) = (zy_failure_106 post x1 x2 x5 0 u) := by
  obtain ⟨a0, a1, a2, a3, a4, a5, a6, a7, a8, a9, a10, a11, a12, a13, a14, a15, a16, a17, a18, a19, a20, a21, a22, a23, a24, a25, a26, a27⟩ := u
  dsimp only [zy_failure_105, zy_failure_106, yg_accounts, yg_maxDepth, yg_price, yg_fees, yg_minted, yg_input, yg_returnWord, yg_frames, yg_logs, yg_handed, yg_cells, yg_length, yg_world, yg_logAccounts, yg_logWords, yg_rec, yg_entry, yg_entryLogs, yg_left, yg_stack, yg_height, yg_memory, yg_memorySize, yg_position, yg_result, yg_callerOf, yg_valueOf, yg_inputOf]
  try rfl
theorem ey_failure (post : Int32 → Prop) (u : SY) (p0 : Int32) (p1 : Int32) : (wpY_failure post u p0 p1) = (((p1 < 0 → (post 7)) ∧ (¬ p1 < 0 → (((p1 ≤ 37 → (wpY_pops (fun r_3 => (wpY_pushes (fun r_32 => (vp_in p0 32 ∧ (((r_3 ≤ ((yg_height u) p0.toNatClampNeg) → (vp_in p0 32 ∧ (((((((yg_height u) p0.toNatClampNeg) - r_3) + r_32) ≤ 16 → (wpY_word (fun r_65 => (wpY_word (fun r_94 => (((p1 = 23 → (zy_failure_101 post p0 p1 r_65 u)) ∧ (¬ p1 = 23 → (((p1 = 24 → (zy_failure_101 post p0 p1 r_65 u)) ∧ (¬ p1 = 24 → (((p1 = 35 → (zy_failure_101 post p0 p1 r_65 u)) ∧ (¬ p1 = 35 → (((p1 = 32 → (((r_94 = 0 → (zy_failure_105 post p0 p1 r_65 u)) ∧ (¬ r_94 = 0 → (zy_failure_101 post p0 p1 r_65 u))))) ∧ (¬ p1 = 32 → (zy_failure_105 post p0 p1 r_65 u)))))))))))))) u p0 2)) u p0 0)) ∧ (¬ ((((yg_height u) p0.toNatClampNeg) - r_3) + r_32) ≤ 16 → (post 5)))))) ∧ (¬ r_3 ≤ ((yg_height u) p0.toNatClampNeg) → (post 4)))))) u p1)) u p1)) ∧ (¬ p1 ≤ 37 → (post 7))))))) := by
  obtain ⟨a0, a1, a2, a3, a4, a5, a6, a7, a8, a9, a10, a11, a12, a13, a14, a15, a16, a17, a18, a19, a20, a21, a22, a23, a24, a25, a26, a27⟩ := u
  dsimp only [zy_failure_101, zy_failure_105, yg_accounts, yg_maxDepth, yg_price, yg_fees, yg_minted, yg_input, yg_returnWord, yg_frames, yg_logs, yg_handed, yg_cells, yg_length, yg_world, yg_logAccounts, yg_logWords, yg_rec, yg_entry, yg_entryLogs, yg_left, yg_stack, yg_height, yg_memory, yg_memorySize, yg_position, yg_result, yg_callerOf, yg_valueOf, yg_inputOf]
  try rfl
def zy_firstFree_2 (post : Int32 → Prop) (n : Nat) (x1 : Int32) (u : SY) : Prop := wY_firstFree_2 post (yg_accounts u) (yg_maxDepth u) (yg_price u) (yg_fees u) (yg_minted u) (yg_input u) (yg_returnWord u) (yg_frames u) (yg_logs u) (yg_handed u) (yg_cells u) (yg_length u) (yg_world u) (yg_logAccounts u) (yg_logWords u) (yg_rec u) (yg_entry u) (yg_entryLogs u) (yg_left u) (yg_stack u) (yg_height u) (yg_memory u) (yg_memorySize u) (yg_position u) (yg_result u) (yg_callerOf u) (yg_valueOf u) (yg_inputOf u) n x1
theorem ey_firstFree_2 (post : Int32 → Prop) (n : Nat) (x1 : Int32) (u : SY) : (zy_firstFree_2 post (n + 1) x1 u) = ((((yg_accounts u) ≤ x1 → (post (-1))) ∧ (¬ (yg_accounts u) ≤ x1 → (vp_in (x1 * 6) 48 ∧ (((0 ≤ ((yg_world u) (x1 * 6).toNatClampNeg) → (∀ x1_4 : Int32, x1_4 = x1 + 1 → (zy_firstFree_2 post n x1_4 u))) ∧ (¬ 0 ≤ ((yg_world u) (x1 * 6).toNatClampNeg) → (post x1)))))))) := by
  obtain ⟨a0, a1, a2, a3, a4, a5, a6, a7, a8, a9, a10, a11, a12, a13, a14, a15, a16, a17, a18, a19, a20, a21, a22, a23, a24, a25, a26, a27⟩ := u
  show (wY_firstFree_2 post a0 a1 a2 a3 a4 a5 a6 a7 a8 a9 a10 a11 a12 a13 a14 a15 a16 a17 a18 a19 a20 a21 a22 a23 a24 a25 a26 a27 (n + 1) x1) = _
  rw [wY_firstFree_2]
  dsimp only [zy_firstFree_2, yg_accounts, yg_maxDepth, yg_price, yg_fees, yg_minted, yg_input, yg_returnWord, yg_frames, yg_logs, yg_handed, yg_cells, yg_length, yg_world, yg_logAccounts, yg_logWords, yg_rec, yg_entry, yg_entryLogs, yg_left, yg_stack, yg_height, yg_memory, yg_memorySize, yg_position, yg_result, yg_callerOf, yg_valueOf, yg_inputOf]
  try rfl
theorem ey_firstFree (post : Int32 → Prop) (u : SY)  : (wpY_firstFree post u ) = (∃ n2 : Nat, zy_firstFree_2 post n2 0 u) := by
  obtain ⟨a0, a1, a2, a3, a4, a5, a6, a7, a8, a9, a10, a11, a12, a13, a14, a15, a16, a17, a18, a19, a20, a21, a22, a23, a24, a25, a26, a27⟩ := u
  dsimp only [zy_firstFree_2, yg_accounts, yg_maxDepth, yg_price, yg_fees, yg_minted, yg_input, yg_returnWord, yg_frames, yg_logs, yg_handed, yg_cells, yg_length, yg_world, yg_logAccounts, yg_logWords, yg_rec, yg_entry, yg_entryLogs, yg_left, yg_stack, yg_height, yg_memory, yg_memorySize, yg_position, yg_result, yg_callerOf, yg_valueOf, yg_inputOf]
  try rfl
def zy_activeFrames_4 (post : Int32 → Prop) (n : Nat) (x1 : Int32) (x2 : Int32) (u : SY) : Prop := wY_activeFrames_4 post (yg_accounts u) (yg_maxDepth u) (yg_price u) (yg_fees u) (yg_minted u) (yg_input u) (yg_returnWord u) (yg_frames u) (yg_logs u) (yg_handed u) (yg_cells u) (yg_length u) (yg_world u) (yg_logAccounts u) (yg_logWords u) (yg_rec u) (yg_entry u) (yg_entryLogs u) (yg_left u) (yg_stack u) (yg_height u) (yg_memory u) (yg_memorySize u) (yg_position u) (yg_result u) (yg_callerOf u) (yg_valueOf u) (yg_inputOf u) n x1 x2
theorem ey_activeFrames_4 (post : Int32 → Prop) (n : Nat) (x1 : Int32) (x2 : Int32) (u : SY) : (zy_activeFrames_4 post (n + 1) x1 x2 u) = ((((yg_frames u) ≤ x2 → (post x1)) ∧ (¬ (yg_frames u) ≤ x2 → (vp_in ((x2 * 10) + 5) 320 ∧ (((((yg_rec u) ((x2 * 10) + 5).toNatClampNeg) = 0 → (∀ x1_5 : Int32, x1_5 = x1 + 1 → (∀ x2_6 : Int32, x2_6 = x2 + 1 → (zy_activeFrames_4 post n x1_5 x2_6 u)))) ∧ (¬ ((yg_rec u) ((x2 * 10) + 5).toNatClampNeg) = 0 → (∀ x2_4 : Int32, x2_4 = x2 + 1 → (zy_activeFrames_4 post n x1 x2_4 u))))))))) := by
  obtain ⟨a0, a1, a2, a3, a4, a5, a6, a7, a8, a9, a10, a11, a12, a13, a14, a15, a16, a17, a18, a19, a20, a21, a22, a23, a24, a25, a26, a27⟩ := u
  show (wY_activeFrames_4 post a0 a1 a2 a3 a4 a5 a6 a7 a8 a9 a10 a11 a12 a13 a14 a15 a16 a17 a18 a19 a20 a21 a22 a23 a24 a25 a26 a27 (n + 1) x1 x2) = _
  rw [wY_activeFrames_4]
  dsimp only [zy_activeFrames_4, yg_accounts, yg_maxDepth, yg_price, yg_fees, yg_minted, yg_input, yg_returnWord, yg_frames, yg_logs, yg_handed, yg_cells, yg_length, yg_world, yg_logAccounts, yg_logWords, yg_rec, yg_entry, yg_entryLogs, yg_left, yg_stack, yg_height, yg_memory, yg_memorySize, yg_position, yg_result, yg_callerOf, yg_valueOf, yg_inputOf]
  try rfl
theorem ey_activeFrames (post : Int32 → Prop) (u : SY)  : (wpY_activeFrames post u ) = (∃ n4 : Nat, zy_activeFrames_4 post n4 0 0 u) := by
  obtain ⟨a0, a1, a2, a3, a4, a5, a6, a7, a8, a9, a10, a11, a12, a13, a14, a15, a16, a17, a18, a19, a20, a21, a22, a23, a24, a25, a26, a27⟩ := u
  dsimp only [zy_activeFrames_4, yg_accounts, yg_maxDepth, yg_price, yg_fees, yg_minted, yg_input, yg_returnWord, yg_frames, yg_logs, yg_handed, yg_cells, yg_length, yg_world, yg_logAccounts, yg_logWords, yg_rec, yg_entry, yg_entryLogs, yg_left, yg_stack, yg_height, yg_memory, yg_memorySize, yg_position, yg_result, yg_callerOf, yg_valueOf, yg_inputOf]
  try rfl
def zy_callOrCreate_179 (post : SY → Prop) (x1 : Int32) (z0 : Int32) (z1 : Int32) (u : SY) : Prop := wY_callOrCreate_179 post x1 z0 z1 (yg_accounts u) (yg_maxDepth u) (yg_price u) (yg_fees u) (yg_minted u) (yg_input u) (yg_returnWord u) (yg_frames u) (yg_logs u) (yg_handed u) (yg_cells u) (yg_length u) (yg_world u) (yg_logAccounts u) (yg_logWords u) (yg_rec u) (yg_entry u) (yg_entryLogs u) (yg_left u) (yg_stack u) (yg_height u) (yg_memory u) (yg_memorySize u) (yg_position u) (yg_result u) (yg_callerOf u) (yg_valueOf u) (yg_inputOf u)
theorem ey_callOrCreate_179 (post : SY → Prop) (x1 : Int32) (z0 : Int32) (z1 : Int32) (u : SY) : (zy_callOrCreate_179 post x1 z0 z1 u) = (wpY_push (fun u1 => (vp_in x1 32 ∧ ∀ a_result_101 : Nat → Int32, a_result_101 = upd (yg_result u1) x1.toNatClampNeg 0 → (post (ys_result a_result_101 u1)))) u z1 z0) := by
  obtain ⟨a0, a1, a2, a3, a4, a5, a6, a7, a8, a9, a10, a11, a12, a13, a14, a15, a16, a17, a18, a19, a20, a21, a22, a23, a24, a25, a26, a27⟩ := u
  try rfl
def zy_callOrCreate_166 (post : SY → Prop) (x1 : Int32) (x2 : Int32) (u : SY) : Prop := wY_callOrCreate_166 post x1 x2 (yg_accounts u) (yg_maxDepth u) (yg_price u) (yg_fees u) (yg_minted u) (yg_input u) (yg_returnWord u) (yg_frames u) (yg_logs u) (yg_handed u) (yg_cells u) (yg_length u) (yg_world u) (yg_logAccounts u) (yg_logWords u) (yg_rec u) (yg_entry u) (yg_entryLogs u) (yg_left u) (yg_stack u) (yg_height u) (yg_memory u) (yg_memorySize u) (yg_position u) (yg_result u) (yg_callerOf u) (yg_valueOf u) (yg_inputOf u)
theorem ey_callOrCreate_166 (post : SY → Prop) (x1 : Int32) (x2 : Int32) (u : SY) : (zy_callOrCreate_166 post x1 x2 u) = (((x2 = 35 → (zy_callOrCreate_179 post x1 (-1) x1 u)) ∧ (¬ x2 = 35 → (zy_callOrCreate_179 post x1 0 x1 u)))) := by
  obtain ⟨a0, a1, a2, a3, a4, a5, a6, a7, a8, a9, a10, a11, a12, a13, a14, a15, a16, a17, a18, a19, a20, a21, a22, a23, a24, a25, a26, a27⟩ := u
  dsimp only [zy_callOrCreate_166, zy_callOrCreate_179, yg_accounts, yg_maxDepth, yg_price, yg_fees, yg_minted, yg_input, yg_returnWord, yg_frames, yg_logs, yg_handed, yg_cells, yg_length, yg_world, yg_logAccounts, yg_logWords, yg_rec, yg_entry, yg_entryLogs, yg_left, yg_stack, yg_height, yg_memory, yg_memorySize, yg_position, yg_result, yg_callerOf, yg_valueOf, yg_inputOf]
  try rfl
def zy_callOrCreate_301 (post : SY → Prop) (x2 : Int32) (x7 : Int32) (x10 : Int32) (x12 : Int32) (x13 : Int32) (x14 : Int32) (u : SY) : Prop := wY_callOrCreate_301 post x2 x7 x10 x12 x13 x14 (yg_accounts u) (yg_maxDepth u) (yg_price u) (yg_fees u) (yg_minted u) (yg_input u) (yg_returnWord u) (yg_frames u) (yg_logs u) (yg_handed u) (yg_cells u) (yg_length u) (yg_world u) (yg_logAccounts u) (yg_logWords u) (yg_rec u) (yg_entry u) (yg_entryLogs u) (yg_left u) (yg_stack u) (yg_height u) (yg_memory u) (yg_memorySize u) (yg_position u) (yg_result u) (yg_callerOf u) (yg_valueOf u) (yg_inputOf u)
theorem ey_callOrCreate_301 (post : SY → Prop) (x2 : Int32) (x7 : Int32) (x10 : Int32) (x12 : Int32) (x13 : Int32) (x14 : Int32) (u : SY) : (zy_callOrCreate_301 post x2 x7 x10 x12 x13 x14 u) = (((x2 = 35 → (wpY_enter post u 4 x14 x10 x7 x12 x13 0)) ∧ (¬ x2 = 35 → (post u)))) := by
  obtain ⟨a0, a1, a2, a3, a4, a5, a6, a7, a8, a9, a10, a11, a12, a13, a14, a15, a16, a17, a18, a19, a20, a21, a22, a23, a24, a25, a26, a27⟩ := u
  dsimp only [zy_callOrCreate_301, yg_accounts, yg_maxDepth, yg_price, yg_fees, yg_minted, yg_input, yg_returnWord, yg_frames, yg_logs, yg_handed, yg_cells, yg_length, yg_world, yg_logAccounts, yg_logWords, yg_rec, yg_entry, yg_entryLogs, yg_left, yg_stack, yg_height, yg_memory, yg_memorySize, yg_position, yg_result, yg_callerOf, yg_valueOf, yg_inputOf]
  try rfl
def zy_callOrCreate_270 (post : SY → Prop) (x1 : Int32) (x2 : Int32) (x7 : Int32) (x8 : Int32) (x10 : Int32) (x12 : Int32) (x13 : Int32) (x14 : Int32) (u : SY) : Prop := wY_callOrCreate_270 post x1 x2 x7 x8 x10 x12 x13 x14 (yg_accounts u) (yg_maxDepth u) (yg_price u) (yg_fees u) (yg_minted u) (yg_input u) (yg_returnWord u) (yg_frames u) (yg_logs u) (yg_handed u) (yg_cells u) (yg_length u) (yg_world u) (yg_logAccounts u) (yg_logWords u) (yg_rec u) (yg_entry u) (yg_entryLogs u) (yg_left u) (yg_stack u) (yg_height u) (yg_memory u) (yg_memorySize u) (yg_position u) (yg_result u) (yg_callerOf u) (yg_valueOf u) (yg_inputOf u)
theorem ey_callOrCreate_270 (post : SY → Prop) (x1 : Int32) (x2 : Int32) (x7 : Int32) (x8 : Int32) (x10 : Int32) (x12 : Int32) (x13 : Int32) (x14 : Int32) (u : SY) : (zy_callOrCreate_270 post x1 x2 x7 x8 x10 x12 x13 x14 u) = (((x2 = 34 → (vp_in x1 32 ∧ (vp_in x1 32 ∧ (wpY_enter (fun u1 => (zy_callOrCreate_301 post x2 x7 x10 x12 x13 x14 u1)) u 3 x14 x7 ((yg_callerOf u) x1.toNatClampNeg) ((yg_valueOf u) x1.toNatClampNeg) x13 x8)))) ∧ (¬ x2 = 34 → (zy_callOrCreate_301 post x2 x7 x10 x12 x13 x14 u)))) := by
  obtain ⟨a0, a1, a2, a3, a4, a5, a6, a7, a8, a9, a10, a11, a12, a13, a14, a15, a16, a17, a18, a19, a20, a21, a22, a23, a24, a25, a26, a27⟩ := u
  try rfl
def zy_callOrCreate_249 (post : SY → Prop) (x1 : Int32) (x2 : Int32) (x7 : Int32) (x8 : Int32) (x10 : Int32) (x12 : Int32) (x13 : Int32) (x14 : Int32) (u : SY) : Prop := wY_callOrCreate_249 post x1 x2 x7 x8 x10 x12 x13 x14 (yg_accounts u) (yg_maxDepth u) (yg_price u) (yg_fees u) (yg_minted u) (yg_input u) (yg_returnWord u) (yg_frames u) (yg_logs u) (yg_handed u) (yg_cells u) (yg_length u) (yg_world u) (yg_logAccounts u) (yg_logWords u) (yg_rec u) (yg_entry u) (yg_entryLogs u) (yg_left u) (yg_stack u) (yg_height u) (yg_memory u) (yg_memorySize u) (yg_position u) (yg_result u) (yg_callerOf u) (yg_valueOf u) (yg_inputOf u)
theorem ey_callOrCreate_249 (post : SY → Prop) (x1 : Int32) (x2 : Int32) (x7 : Int32) (x8 : Int32) (x10 : Int32) (x12 : Int32) (x13 : Int32) (x14 : Int32) (u : SY) : (zy_callOrCreate_249 post x1 x2 x7 x8 x10 x12 x13 x14 u) = (((x2 = 33 → (wpY_enter (fun u1 => (zy_callOrCreate_270 post x1 x2 x7 x8 x10 x12 x13 x14 u1)) u 2 x14 x10 x7 0 x13 1)) ∧ (¬ x2 = 33 → (zy_callOrCreate_270 post x1 x2 x7 x8 x10 x12 x13 x14 u)))) := by
  obtain ⟨a0, a1, a2, a3, a4, a5, a6, a7, a8, a9, a10, a11, a12, a13, a14, a15, a16, a17, a18, a19, a20, a21, a22, a23, a24, a25, a26, a27⟩ := u
  try rfl
def zy_callOrCreate_210 (post : SY → Prop) (x1 : Int32) (x2 : Int32) (x7 : Int32) (x8 : Int32) (x10 : Int32) (x12 : Int32) (x13 : Int32) (x14 : Int32) (z0 : Int32) (u : SY) : Prop := wY_callOrCreate_210 post x1 x2 x7 x8 x10 x12 x13 x14 z0 (yg_accounts u) (yg_maxDepth u) (yg_price u) (yg_fees u) (yg_minted u) (yg_input u) (yg_returnWord u) (yg_frames u) (yg_logs u) (yg_handed u) (yg_cells u) (yg_length u) (yg_world u) (yg_logAccounts u) (yg_logWords u) (yg_rec u) (yg_entry u) (yg_entryLogs u) (yg_left u) (yg_stack u) (yg_height u) (yg_memory u) (yg_memorySize u) (yg_position u) (yg_result u) (yg_callerOf u) (yg_valueOf u) (yg_inputOf u)
theorem ey_callOrCreate_210 (post : SY → Prop) (x1 : Int32) (x2 : Int32) (x7 : Int32) (x8 : Int32) (x10 : Int32) (x12 : Int32) (x13 : Int32) (x14 : Int32) (z0 : Int32) (u : SY) : (zy_callOrCreate_210 post x1 x2 x7 x8 x10 x12 x13 x14 z0 u) = (vp_in x1 32 ∧ (vp_in x1 32 ∧ ∀ a_left_112 : Nat → Int32, a_left_112 = upd (yg_left u) x1.toNatClampNeg (((yg_left u) x1.toNatClampNeg) - z0) → (((x2 = 32 → (wpY_enter (fun u1 => (zy_callOrCreate_249 post x1 x2 x7 x8 x10 x12 x13 x14 u1)) (ym_handed_left z0 a_left_112 u) 1 x14 x10 x7 x12 x13 x8)) ∧ (¬ x2 = 32 → (zy_callOrCreate_249 post x1 x2 x7 x8 x10 x12 x13 x14 (ym_handed_left z0 a_left_112 u))))))) := by
  obtain ⟨a0, a1, a2, a3, a4, a5, a6, a7, a8, a9, a10, a11, a12, a13, a14, a15, a16, a17, a18, a19, a20, a21, a22, a23, a24, a25, a26, a27⟩ := u
  try rfl
def zy_callOrCreate_203 (post : SY → Prop) (x1 : Int32) (x2 : Int32) (x7 : Int32) (x8 : Int32) (x9 : Int32) (x10 : Int32) (x12 : Int32) (x13 : Int32) (x14 : Int32) (u : SY) : Prop := wY_callOrCreate_203 post x1 x2 x7 x8 x9 x10 x12 x13 x14 (yg_accounts u) (yg_maxDepth u) (yg_price u) (yg_fees u) (yg_minted u) (yg_input u) (yg_returnWord u) (yg_frames u) (yg_logs u) (yg_handed u) (yg_cells u) (yg_length u) (yg_world u) (yg_logAccounts u) (yg_logWords u) (yg_rec u) (yg_entry u) (yg_entryLogs u) (yg_left u) (yg_stack u) (yg_height u) (yg_memory u) (yg_memorySize u) (yg_position u) (yg_result u) (yg_callerOf u) (yg_valueOf u) (yg_inputOf u)
theorem ey_callOrCreate_203 (post : SY → Prop) (x1 : Int32) (x2 : Int32) (x7 : Int32) (x8 : Int32) (x9 : Int32) (x10 : Int32) (x12 : Int32) (x13 : Int32) (x14 : Int32) (u : SY) : (zy_callOrCreate_203 post x1 x2 x7 x8 x9 x10 x12 x13 x14 u) = (zy_callOrCreate_210 post x1 x2 x7 x8 x10 x12 x13 x14 x9 u) := by
  obtain ⟨a0, a1, a2, a3, a4, a5, a6, a7, a8, a9, a10, a11, a12, a13, a14, a15, a16, a17, a18, a19, a20, a21, a22, a23, a24, a25, a26, a27⟩ := u
  dsimp only [zy_callOrCreate_203, zy_callOrCreate_210, yg_accounts, yg_maxDepth, yg_price, yg_fees, yg_minted, yg_input, yg_returnWord, yg_frames, yg_logs, yg_handed, yg_cells, yg_length, yg_world, yg_logAccounts, yg_logWords, yg_rec, yg_entry, yg_entryLogs, yg_left, yg_stack, yg_height, yg_memory, yg_memorySize, yg_position, yg_result, yg_callerOf, yg_valueOf, yg_inputOf]
  try rfl
def zy_callOrCreate_103 (post : SY → Prop) (x1 : Int32) (x2 : Int32) (x7 : Int32) (x8 : Int32) (x9 : Int32) (x10 : Int32) (x11 : Int32) (x12 : Int32) (x13 : Int32) (x14 : Int32) (u : SY) : Prop := wY_callOrCreate_103 post x1 x2 x7 x8 x9 x10 x11 x12 x13 x14 (yg_accounts u) (yg_maxDepth u) (yg_price u) (yg_fees u) (yg_minted u) (yg_input u) (yg_returnWord u) (yg_frames u) (yg_logs u) (yg_handed u) (yg_cells u) (yg_length u) (yg_world u) (yg_logAccounts u) (yg_logWords u) (yg_rec u) (yg_entry u) (yg_entryLogs u) (yg_left u) (yg_stack u) (yg_height u) (yg_memory u) (yg_memorySize u) (yg_position u) (yg_result u) (yg_callerOf u) (yg_valueOf u) (yg_inputOf u)
theorem ey_callOrCreate_103 (post : SY → Prop) (x1 : Int32) (x2 : Int32) (x7 : Int32) (x8 : Int32) (x9 : Int32) (x10 : Int32) (x11 : Int32) (x12 : Int32) (x13 : Int32) (x14 : Int32) (u : SY) : (zy_callOrCreate_103 post x1 x2 x7 x8 x9 x10 x11 x12 x13 x14 u) = (wpY_activeFrames (fun r_40 => (((x14 < 0 → (zy_callOrCreate_166 post x1 x2 u)) ∧ (¬ x14 < 0 → (((7 < x14 → (zy_callOrCreate_166 post x1 x2 u)) ∧ (¬ 7 < x14 → (((x10 < 0 → (zy_callOrCreate_166 post x1 x2 u)) ∧ (¬ x10 < 0 → (((x12 < 0 → (zy_callOrCreate_166 post x1 x2 u)) ∧ (¬ x12 < 0 → (vp_in ((x7 * 6) + 1) 48 ∧ (((((yg_world u) ((x7 * 6) + 1).toNatClampNeg) < x12 → (zy_callOrCreate_166 post x1 x2 u)) ∧ (¬ ((yg_world u) ((x7 * 6) + 1).toNatClampNeg) < x12 → ((((yg_maxDepth u) ≤ r_40 → (zy_callOrCreate_166 post x1 x2 u)) ∧ (¬ (yg_maxDepth u) ≤ r_40 → ((((yg_frames u) < 32 → (((x11 < 0 → (zy_callOrCreate_203 post x1 x2 x7 x8 x9 x10 x12 x13 x14 u)) ∧ (¬ x11 < 0 → (((x11 ≤ x9 → (zy_callOrCreate_210 post x1 x2 x7 x8 x10 x12 x13 x14 x11 u)) ∧ (¬ x11 ≤ x9 → (zy_callOrCreate_203 post x1 x2 x7 x8 x9 x10 x12 x13 x14 u)))))))) ∧ (¬ (yg_frames u) < 32 → (zy_callOrCreate_166 post x1 x2 u)))))))))))))))))))))))) u) := by
  obtain ⟨a0, a1, a2, a3, a4, a5, a6, a7, a8, a9, a10, a11, a12, a13, a14, a15, a16, a17, a18, a19, a20, a21, a22, a23, a24, a25, a26, a27⟩ := u
  dsimp only [zy_callOrCreate_103, zy_callOrCreate_166, zy_callOrCreate_203, zy_callOrCreate_210, yg_accounts, yg_maxDepth, yg_price, yg_fees, yg_minted, yg_input, yg_returnWord, yg_frames, yg_logs, yg_handed, yg_cells, yg_length, yg_world, yg_logAccounts, yg_logWords, yg_rec, yg_entry, yg_entryLogs, yg_left, yg_stack, yg_height, yg_memory, yg_memorySize, yg_position, yg_result, yg_callerOf, yg_valueOf, yg_inputOf]
  try rfl
def zy_callOrCreate_80 (post : SY → Prop) (x1 : Int32) (x2 : Int32) (x3 : Int32) (x4 : Int32) (x7 : Int32) (x8 : Int32) (x9 : Int32) (x10 : Int32) (x11 : Int32) (x12 : Int32) (x13 : Int32) (x14 : Int32) (u : SY) : Prop := wY_callOrCreate_80 post x1 x2 x3 x4 x7 x8 x9 x10 x11 x12 x13 x14 (yg_accounts u) (yg_maxDepth u) (yg_price u) (yg_fees u) (yg_minted u) (yg_input u) (yg_returnWord u) (yg_frames u) (yg_logs u) (yg_handed u) (yg_cells u) (yg_length u) (yg_world u) (yg_logAccounts u) (yg_logWords u) (yg_rec u) (yg_entry u) (yg_entryLogs u) (yg_left u) (yg_stack u) (yg_height u) (yg_memory u) (yg_memorySize u) (yg_position u) (yg_result u) (yg_callerOf u) (yg_valueOf u) (yg_inputOf u)
theorem ey_callOrCreate_80 (post : SY → Prop) (x1 : Int32) (x2 : Int32) (x3 : Int32) (x4 : Int32) (x7 : Int32) (x8 : Int32) (x9 : Int32) (x10 : Int32) (x11 : Int32) (x12 : Int32) (x13 : Int32) (x14 : Int32) (u : SY) : (zy_callOrCreate_80 post x1 x2 x3 x4 x7 x8 x9 x10 x11 x12 x13 x14 u) = (((x2 = 35 → (wpY_firstFree (fun r_236 => (zy_callOrCreate_103 post x1 x2 x7 x8 x9 r_236 x9 x4 x13 x3 u)) u)) ∧ (¬ x2 = 35 → (zy_callOrCreate_103 post x1 x2 x7 x8 x9 x10 x11 x12 x13 x14 u)))) := by
  obtain ⟨a0, a1, a2, a3, a4, a5, a6, a7, a8, a9, a10, a11, a12, a13, a14, a15, a16, a17, a18, a19, a20, a21, a22, a23, a24, a25, a26, a27⟩ := u
  dsimp only [zy_callOrCreate_103, zy_callOrCreate_80, yg_accounts, yg_maxDepth, yg_price, yg_fees, yg_minted, yg_input, yg_returnWord, yg_frames, yg_logs, yg_handed, yg_cells, yg_length, yg_world, yg_logAccounts, yg_logWords, yg_rec, yg_entry, yg_entryLogs, yg_left, yg_stack, yg_height, yg_memory, yg_memorySize, yg_position, yg_result, yg_callerOf, yg_valueOf, yg_inputOf]
  try rfl
theorem ey_callOrCreate (post : SY → Prop) (u : SY) (p0 : Int32) (p1 : Int32) (p2 : Int32) (p3 : Int32) (p4 : Int32) (p5 : Int32) : (wpY_callOrCreate post u p0 p1 p2 p3 p4 p5) = (vp_in ((p0 * 10) + 2) 320 ∧ (∀ x7_2 : Int32, x7_2 = (yg_rec u) ((p0 * 10) + 2).toNatClampNeg → (vp_in ((p0 * 10) + 4) 320 ∧ (∀ x8_4 : Int32, x8_4 = (yg_rec u) ((p0 * 10) + 4).toNatClampNeg → (vp_in p0 32 ∧ (vp_in p0 32 ∧ (¬ (8 : Int32) = 0 ∧ (∀ x9_8 : Int32, x9_8 = ((yg_left u) p0.toNatClampNeg) - (((yg_left u) p0.toNatClampNeg) / 8) → (wpY_programOf (fun r_9 => (((p1 = 32 → (zy_callOrCreate_80 post p0 p1 p2 p3 x7_2 x8_4 x9_8 p3 p2 p4 p5 r_9 u)) ∧ (¬ p1 = 32 → (zy_callOrCreate_80 post p0 p1 p2 p3 x7_2 x8_4 x9_8 p3 p2 0 p4 r_9 u))))) u p3))))))))) := by
  obtain ⟨a0, a1, a2, a3, a4, a5, a6, a7, a8, a9, a10, a11, a12, a13, a14, a15, a16, a17, a18, a19, a20, a21, a22, a23, a24, a25, a26, a27⟩ := u
  dsimp only [zy_callOrCreate_80, yg_accounts, yg_maxDepth, yg_price, yg_fees, yg_minted, yg_input, yg_returnWord, yg_frames, yg_logs, yg_handed, yg_cells, yg_length, yg_world, yg_logAccounts, yg_logWords, yg_rec, yg_entry, yg_entryLogs, yg_left, yg_stack, yg_height, yg_memory, yg_memorySize, yg_position, yg_result, yg_callerOf, yg_valueOf, yg_inputOf]
  try rfl
def zy_jumpTarget_14 (post : Int32 → Prop) (x1 : Int32) (x2 : Int32) (n : Nat) (x3 : Int32) (u : SY) : Prop := wY_jumpTarget_14 post x1 x2 (yg_accounts u) (yg_maxDepth u) (yg_price u) (yg_fees u) (yg_minted u) (yg_input u) (yg_returnWord u) (yg_frames u) (yg_logs u) (yg_handed u) (yg_cells u) (yg_length u) (yg_world u) (yg_logAccounts u) (yg_logWords u) (yg_rec u) (yg_entry u) (yg_entryLogs u) (yg_left u) (yg_stack u) (yg_height u) (yg_memory u) (yg_memorySize u) (yg_position u) (yg_result u) (yg_callerOf u) (yg_valueOf u) (yg_inputOf u) n x3
theorem ey_jumpTarget_14 (post : Int32 → Prop) (x1 : Int32) (x2 : Int32) (n : Nat) (x3 : Int32) (u : SY) : (zy_jumpTarget_14 post x1 x2 (n + 1) x3 u) = (vp_in x1 8 ∧ (((((yg_length u) x1.toNatClampNeg) ≤ x3 → (post 0)) ∧ (¬ ((yg_length u) x1.toNatClampNeg) ≤ x3 → (vp_in ((x1 * 32) + x3) 256 ∧ (∀ x4_6 : Int32, x4_6 = (yg_cells u) ((x1 * 32) + x3).toNatClampNeg → (((x3 = x2 → (((x4_6 = 16 → (post 1)) ∧ (¬ x4_6 = 16 → (post 0))))) ∧ (¬ x3 = x2 → (((x4_6 < 1 → (∀ x3_9 : Int32, x3_9 = x3 + 1 → (zy_jumpTarget_14 post x1 x2 n x3_9 u))) ∧ (¬ x4_6 < 1 → (((4 < x4_6 → (∀ x3_11 : Int32, x3_11 = x3 + 1 → (zy_jumpTarget_14 post x1 x2 n x3_11 u))) ∧ (¬ 4 < x4_6 → (∀ x3_12 : Int32, x3_12 = x3 + x4_6 → (∀ x3_13 : Int32, x3_13 = x3_12 + 1 → (zy_jumpTarget_14 post x1 x2 n x3_13 u)))))))))))))))))) := by
  obtain ⟨a0, a1, a2, a3, a4, a5, a6, a7, a8, a9, a10, a11, a12, a13, a14, a15, a16, a17, a18, a19, a20, a21, a22, a23, a24, a25, a26, a27⟩ := u
  show (wY_jumpTarget_14 post x1 x2 a0 a1 a2 a3 a4 a5 a6 a7 a8 a9 a10 a11 a12 a13 a14 a15 a16 a17 a18 a19 a20 a21 a22 a23 a24 a25 a26 a27 (n + 1) x3) = _
  rw [wY_jumpTarget_14]
  dsimp only [zy_jumpTarget_14, yg_accounts, yg_maxDepth, yg_price, yg_fees, yg_minted, yg_input, yg_returnWord, yg_frames, yg_logs, yg_handed, yg_cells, yg_length, yg_world, yg_logAccounts, yg_logWords, yg_rec, yg_entry, yg_entryLogs, yg_left, yg_stack, yg_height, yg_memory, yg_memorySize, yg_position, yg_result, yg_callerOf, yg_valueOf, yg_inputOf]
  try rfl
theorem ey_jumpTarget (post : Int32 → Prop) (u : SY) (p0 : Int32) (p1 : Int32) : (wpY_jumpTarget post u p0 p1) = (((p0 < 0 → (post 0)) ∧ (¬ p0 < 0 → (((p0 ≤ 7 → (∃ n14 : Nat, zy_jumpTarget_14 post p0 p1 n14 0 u)) ∧ (¬ p0 ≤ 7 → (post 0))))))) := by
  obtain ⟨a0, a1, a2, a3, a4, a5, a6, a7, a8, a9, a10, a11, a12, a13, a14, a15, a16, a17, a18, a19, a20, a21, a22, a23, a24, a25, a26, a27⟩ := u
  dsimp only [zy_jumpTarget_14, yg_accounts, yg_maxDepth, yg_price, yg_fees, yg_minted, yg_input, yg_returnWord, yg_frames, yg_logs, yg_handed, yg_cells, yg_length, yg_world, yg_logAccounts, yg_logWords, yg_rec, yg_entry, yg_entryLogs, yg_left, yg_stack, yg_height, yg_memory, yg_memorySize, yg_position, yg_result, yg_callerOf, yg_valueOf, yg_inputOf]
  try rfl
theorem ey_balance (post : Int32 → Prop) (u : SY) (p0 : Int32) : (wpY_balance post u p0) = (((p0 < 0 → (post (-1))) ∧ (¬ p0 < 0 → (((p0 < (yg_accounts u) → (vp_in ((p0 * 6) + 1) 48 ∧ (post ((yg_world u) ((p0 * 6) + 1).toNatClampNeg)))) ∧ (¬ p0 < (yg_accounts u) → (post (-1)))))))) := by
  obtain ⟨a0, a1, a2, a3, a4, a5, a6, a7, a8, a9, a10, a11, a12, a13, a14, a15, a16, a17, a18, a19, a20, a21, a22, a23, a24, a25, a26, a27⟩ := u
  try rfl
def zy_step_651 (post : SY → Prop) (z0 : Int32) (z1 : Int32) (u : SY) : Prop := wY_step_651 post z0 z1 (yg_accounts u) (yg_maxDepth u) (yg_price u) (yg_fees u) (yg_minted u) (yg_input u) (yg_returnWord u) (yg_frames u) (yg_logs u) (yg_handed u) (yg_cells u) (yg_length u) (yg_world u) (yg_logAccounts u) (yg_logWords u) (yg_rec u) (yg_entry u) (yg_entryLogs u) (yg_left u) (yg_stack u) (yg_height u) (yg_memory u) (yg_memorySize u) (yg_position u) (yg_result u) (yg_callerOf u) (yg_valueOf u) (yg_inputOf u)
theorem ey_step_651 (post : SY → Prop) (z0 : Int32) (z1 : Int32) (u : SY) : (zy_step_651 post z0 z1 u) = (wpY_push post u z1 z0) := by
  obtain ⟨a0, a1, a2, a3, a4, a5, a6, a7, a8, a9, a10, a11, a12, a13, a14, a15, a16, a17, a18, a19, a20, a21, a22, a23, a24, a25, a26, a27⟩ := u
  dsimp only [zy_step_651, yg_accounts, yg_maxDepth, yg_price, yg_fees, yg_minted, yg_input, yg_returnWord, yg_frames, yg_logs, yg_handed, yg_cells, yg_length, yg_world, yg_logAccounts, yg_logWords, yg_rec, yg_entry, yg_entryLogs, yg_left, yg_stack, yg_height, yg_memory, yg_memorySize, yg_position, yg_result, yg_callerOf, yg_valueOf, yg_inputOf]
  try rfl
def zy_step_671 (post : SY → Prop) (z0 : Int32) (z1 : Int32) (u : SY) : Prop := wY_step_671 post z0 z1 (yg_accounts u) (yg_maxDepth u) (yg_price u) (yg_fees u) (yg_minted u) (yg_input u) (yg_returnWord u) (yg_frames u) (yg_logs u) (yg_handed u) (yg_cells u) (yg_length u) (yg_world u) (yg_logAccounts u) (yg_logWords u) (yg_rec u) (yg_entry u) (yg_entryLogs u) (yg_left u) (yg_stack u) (yg_height u) (yg_memory u) (yg_memorySize u) (yg_position u) (yg_result u) (yg_callerOf u) (yg_valueOf u) (yg_inputOf u)
theorem ey_step_671 (post : SY → Prop) (z0 : Int32) (z1 : Int32) (u : SY) : (zy_step_671 post z0 z1 u) = (wpY_push post u z1 z0) := by
  obtain ⟨a0, a1, a2, a3, a4, a5, a6, a7, a8, a9, a10, a11, a12, a13, a14, a15, a16, a17, a18, a19, a20, a21, a22, a23, a24, a25, a26, a27⟩ := u
  dsimp only [zy_step_671, yg_accounts, yg_maxDepth, yg_price, yg_fees, yg_minted, yg_input, yg_returnWord, yg_frames, yg_logs, yg_handed, yg_cells, yg_length, yg_world, yg_logAccounts, yg_logWords, yg_rec, yg_entry, yg_entryLogs, yg_left, yg_stack, yg_height, yg_memory, yg_memorySize, yg_position, yg_result, yg_callerOf, yg_valueOf, yg_inputOf]
  try rfl
def zy_step_691 (post : SY → Prop) (z0 : Int32) (z1 : Int32) (u : SY) : Prop := wY_step_691 post z0 z1 (yg_accounts u) (yg_maxDepth u) (yg_price u) (yg_fees u) (yg_minted u) (yg_input u) (yg_returnWord u) (yg_frames u) (yg_logs u) (yg_handed u) (yg_cells u) (yg_length u) (yg_world u) (yg_logAccounts u) (yg_logWords u) (yg_rec u) (yg_entry u) (yg_entryLogs u) (yg_left u) (yg_stack u) (yg_height u) (yg_memory u) (yg_memorySize u) (yg_position u) (yg_result u) (yg_callerOf u) (yg_valueOf u) (yg_inputOf u)
theorem ey_step_691 (post : SY → Prop) (z0 : Int32) (z1 : Int32) (u : SY) : (zy_step_691 post z0 z1 u) = (wpY_push post u z1 z0) := by
  obtain ⟨a0, a1, a2, a3, a4, a5, a6, a7, a8, a9, a10, a11, a12, a13, a14, a15, a16, a17, a18, a19, a20, a21, a22, a23, a24, a25, a26, a27⟩ := u
  dsimp only [zy_step_691, yg_accounts, yg_maxDepth, yg_price, yg_fees, yg_minted, yg_input, yg_returnWord, yg_frames, yg_logs, yg_handed, yg_cells, yg_length, yg_world, yg_logAccounts, yg_logWords, yg_rec, yg_entry, yg_entryLogs, yg_left, yg_stack, yg_height, yg_memory, yg_memorySize, yg_position, yg_result, yg_callerOf, yg_valueOf, yg_inputOf]
  try rfl
def zy_step_709 (post : SY → Prop) (z0 : Int32) (z1 : Int32) (u : SY) : Prop := wY_step_709 post z0 z1 (yg_accounts u) (yg_maxDepth u) (yg_price u) (yg_fees u) (yg_minted u) (yg_input u) (yg_returnWord u) (yg_frames u) (yg_logs u) (yg_handed u) (yg_cells u) (yg_length u) (yg_world u) (yg_logAccounts u) (yg_logWords u) (yg_rec u) (yg_entry u) (yg_entryLogs u) (yg_left u) (yg_stack u) (yg_height u) (yg_memory u) (yg_memorySize u) (yg_position u) (yg_result u) (yg_callerOf u) (yg_valueOf u) (yg_inputOf u)
theorem ey_step_709 (post : SY → Prop) (z0 : Int32) (z1 : Int32) (u : SY) : (zy_step_709 post z0 z1 u) = (wpY_push post u z1 z0) := by
  obtain ⟨a0, a1, a2, a3, a4, a5, a6, a7, a8, a9, a10, a11, a12, a13, a14, a15, a16, a17, a18, a19, a20, a21, a22, a23, a24, a25, a26, a27⟩ := u
  dsimp only [zy_step_709, yg_accounts, yg_maxDepth, yg_price, yg_fees, yg_minted, yg_input, yg_returnWord, yg_frames, yg_logs, yg_handed, yg_cells, yg_length, yg_world, yg_logAccounts, yg_logWords, yg_rec, yg_entry, yg_entryLogs, yg_left, yg_stack, yg_height, yg_memory, yg_memorySize, yg_position, yg_result, yg_callerOf, yg_valueOf, yg_inputOf]
  try rfl
def zy_step_943 (post : SY → Prop) (z0 : Int32) (z1 : Int32) (u : SY) : Prop := wY_step_943 post z0 z1 (yg_accounts u) (yg_maxDepth u) (yg_price u) (yg_fees u) (yg_minted u) (yg_input u) (yg_returnWord u) (yg_frames u) (yg_logs u) (yg_handed u) (yg_cells u) (yg_length u) (yg_world u) (yg_logAccounts u) (yg_logWords u) (yg_rec u) (yg_entry u) (yg_entryLogs u) (yg_left u) (yg_stack u) (yg_height u) (yg_memory u) (yg_memorySize u) (yg_position u) (yg_result u) (yg_callerOf u) (yg_valueOf u) (yg_inputOf u)
theorem ey_step_943 (post : SY → Prop) (z0 : Int32) (z1 : Int32) (u : SY) : (zy_step_943 post z0 z1 u) = (wpY_push post u z1 z0) := by
  obtain ⟨a0, a1, a2, a3, a4, a5, a6, a7, a8, a9, a10, a11, a12, a13, a14, a15, a16, a17, a18, a19, a20, a21, a22, a23, a24, a25, a26, a27⟩ := u
  dsimp only [zy_step_943, yg_accounts, yg_maxDepth, yg_price, yg_fees, yg_minted, yg_input, yg_returnWord, yg_frames, yg_logs, yg_handed, yg_cells, yg_length, yg_world, yg_logAccounts, yg_logWords, yg_rec, yg_entry, yg_entryLogs, yg_left, yg_stack, yg_height, yg_memory, yg_memorySize, yg_position, yg_result, yg_callerOf, yg_valueOf, yg_inputOf]
  try rfl
def zy_step_306 (post : SY → Prop) (x1 : Int32) (x2 : Int32) (x3 : Int32) (x4 : Int32) (x5 : Int32) (x9 : Int32) (x10 : Int32) (n : Nat) (x13 : Int32) (u : SY) : Prop := wY_step_306 post x1 x2 x3 x4 x5 x9 x10 n x13 (yg_accounts u) (yg_maxDepth u) (yg_price u) (yg_fees u) (yg_minted u) (yg_input u) (yg_returnWord u) (yg_frames u) (yg_logs u) (yg_handed u) (yg_cells u) (yg_length u) (yg_world u) (yg_logAccounts u) (yg_logWords u) (yg_rec u) (yg_entry u) (yg_entryLogs u) (yg_left u) (yg_stack u) (yg_height u) (yg_memory u) (yg_memorySize u) (yg_position u) (yg_result u) (yg_callerOf u) (yg_valueOf u) (yg_inputOf u)
theorem ey_step_306 (post : SY → Prop) (x1 : Int32) (x2 : Int32) (x3 : Int32) (x4 : Int32) (x5 : Int32) (x9 : Int32) (x10 : Int32) (n : Nat) (x13 : Int32) (u : SY) : (zy_step_306 post x1 x2 x3 x4 x5 x9 x10 (n + 1) x13 u) = (((4 < x13 → (((x5 < 0 → (post u)) ∧ (¬ x5 < 0 → (((37 < x5 → (post u)) ∧ (¬ 37 < x5 → (((x5 = 0 → (wpY_end post u x1 1 0)) ∧ (¬ x5 = 0 → (((x5 = 1 → (post u)) ∧ (¬ x5 = 1 → (((x5 = 2 → (post u)) ∧ (¬ x5 = 2 → (((x5 = 3 → (post u)) ∧ (¬ x5 = 3 → (((x5 = 4 → (post u)) ∧ (¬ x5 = 4 → (((x5 = 5 → (post u)) ∧ (¬ x5 = 5 → (((x5 = 6 → (wpY_push (fun u2 => (wpY_push post u2 x1 x9)) u x1 x9)) ∧ (¬ x5 = 6 → (((x5 = 7 → (wpY_push (fun u4 => (wpY_push (fun u5 => (wpY_push post u5 x1 x10)) u4 x1 x9)) u x1 x10)) ∧ (¬ x5 = 7 → (((x5 = 8 → (wpY_push (fun u7 => (wpY_push post u7 x1 x10)) u x1 x9)) ∧ (¬ x5 = 8 → (((x5 = 9 → (wpY_push post u x1 (x10 + x9))) ∧ (¬ x5 = 9 → (((x5 = 10 → (wpY_push post u x1 (x10 - x9))) ∧ (¬ x5 = 10 → (((x5 = 11 → (wpY_push post u x1 (x10 * x9))) ∧ (¬ x5 = 11 → (((x5 = 12 → (((x9 = 0 → (zy_step_651 post 0 x1 u)) ∧ (¬ x9 = 0 → (¬ x9 = 0 ∧ (zy_step_651 post (x10 / x9) x1 u)))))) ∧ (¬ x5 = 12 → (((x5 = 13 → (((x9 ≤ x10 → (zy_step_671 post 0 x1 u)) ∧ (¬ x9 ≤ x10 → (zy_step_671 post 1 x1 u))))) ∧ (¬ x5 = 13 → (((x5 = 14 → (((x10 = x9 → (zy_step_691 post 1 x1 u)) ∧ (¬ x10 = x9 → (zy_step_691 post 0 x1 u))))) ∧ (¬ x5 = 14 → (((x5 = 15 → (((x9 = 0 → (zy_step_709 post 1 x1 u)) ∧ (¬ x9 = 0 → (zy_step_709 post 0 x1 u))))) ∧ (¬ x5 = 15 → (((x5 = 16 → (post u)) ∧ (¬ x5 = 16 → (((x5 = 17 → (post u)) ∧ (¬ x5 = 17 → (((x5 = 18 → (post u)) ∧ (¬ x5 = 18 → (((x5 = 19 → (vp_in ((x1 * 16) + (x9 &&& 15)) 512 ∧ (wpY_push post u x1 ((yg_memory u) ((x1 * 16) + (x9 &&& 15)).toNatClampNeg)))) ∧ (¬ x5 = 19 → (((x5 = 20 → (vp_in ((x1 * 16) + (x9 &&& 15)) 512 ∧ ∀ a_memory_842 : Nat → Int32, a_memory_842 = upd (yg_memory u) ((x1 * 16) + (x9 &&& 15)).toNatClampNeg x10 → (post (ys_memory a_memory_842 u)))) ∧ (¬ x5 = 20 → (((x5 = 21 → (vp_in x1 32 ∧ (wpY_push post u x1 ((yg_memorySize u) x1.toNatClampNeg)))) ∧ (¬ x5 = 21 → (((x5 = 22 → (vp_in (((x3 * 6) + 2) + (x9 &&& 3)) 48 ∧ (wpY_push post u x1 ((yg_world u) (((x3 * 6) + 2) + (x9 &&& 3)).toNatClampNeg)))) ∧ (¬ x5 = 22 → (((x5 = 23 → (vp_in (((x3 * 6) + 2) + (x9 &&& 3)) 48 ∧ ∀ a_world_907 : Nat → Int32, a_world_907 = upd (yg_world u) (((x3 * 6) + 2) + (x9 &&& 3)).toNatClampNeg x10 → (post (ys_world a_world_907 u)))) ∧ (¬ x5 = 23 → (((x5 = 24 → ((((yg_logs u) < 16 → (vp_in (yg_logs u) 16 ∧ ∀ a_logAccounts_911 : Nat → Int32, a_logAccounts_911 = upd (yg_logAccounts u) (yg_logs u).toNatClampNeg x3 → (vp_in (yg_logs u) 16 ∧ ∀ a_logWords_913 : Nat → Int32, a_logWords_913 = upd (yg_logWords u) (yg_logs u).toNatClampNeg x9 → (∀ f_logs_914 : Int32, f_logs_914 = (yg_logs u) + 1 → (post (ym_logs_logAccounts_logWords f_logs_914 a_logAccounts_911 a_logWords_913 u)))))) ∧ (¬ (yg_logs u) < 16 → (wpY_end post u x1 10 0))))) ∧ (¬ x5 = 24 → (((x5 = 25 → (wpY_push post u x1 x3)) ∧ (¬ x5 = 25 → (((x5 = 26 → (vp_in x1 32 ∧ (wpY_push post u x1 ((yg_callerOf u) x1.toNatClampNeg)))) ∧ (¬ x5 = 26 → (((x5 = 27 → (vp_in x1 32 ∧ (wpY_push post u x1 ((yg_valueOf u) x1.toNatClampNeg)))) ∧ (¬ x5 = 27 → (((x5 = 28 → (vp_in x1 32 ∧ (wpY_push post u x1 ((yg_inputOf u) x1.toNatClampNeg)))) ∧ (¬ x5 = 28 → (((x5 = 29 → (wpY_balance (fun r_1068 => (((0 ≤ r_1068 → (zy_step_943 post r_1068 x1 u)) ∧ (¬ 0 ≤ r_1068 → (zy_step_943 post 0 x1 u))))) u x9)) ∧ (¬ x5 = 29 → (((x5 = 30 → (vp_in x1 32 ∧ (wpY_push post u x1 ((yg_left u) x1.toNatClampNeg)))) ∧ (¬ x5 = 30 → (((x5 = 31 → (vp_in x1 32 ∧ (wpY_push post u x1 ((yg_result u) x1.toNatClampNeg)))) ∧ (¬ x5 = 31 → (((x5 = 32 → (post u)) ∧ (¬ x5 = 32 → (((x5 = 33 → (post u)) ∧ (¬ x5 = 33 → (((x5 = 34 → (post u)) ∧ (¬ x5 = 34 → (((x5 = 35 → (post u)) ∧ (¬ x5 = 35 → (((x5 = 36 → (wpY_end post u x1 1 x9)) ∧ (¬ x5 = 36 → (((x5 = 37 → (wpY_end post u x1 2 x9)) ∧ (¬ x5 = 37 → (True)))))))))))))))))))))))))))))))))))))))))))))))))))))))))))))))))))))))))))))))))))))))))))))))))))))))))))))))))))))))))) ∧ (¬ 4 < x13 → (wpY_programCell (fun r_1253 => (((4 < x5 → (∀ x13_1283 : Int32, x13_1283 = x13 + 1 → (zy_step_306 post x1 x2 x3 x4 x5 x9 x10 n x13_1283 u))) ∧ (¬ 4 < x5 → (((x5 < x13 → (∀ x13_1285 : Int32, x13_1285 = x13 + 1 → (zy_step_306 post x1 x2 x3 x4 x5 x9 x10 n x13_1285 u))) ∧ (¬ x5 < x13 → (wpY_push (fun u24 => (vp_in x1 32 ∧ (vp_in x1 32 ∧ ∀ a_position_1317 : Nat → Int32, a_position_1317 = upd (yg_position u24) x1.toNatClampNeg (((yg_position u24) x1.toNatClampNeg) + 1) → (∀ x13_1318 : Int32, x13_1318 = x13 + 1 → (zy_step_306 post x1 x2 x3 x4 x5 x9 x10 n x13_1318 (ys_position a_position_1317 u24)))))) u x1 r_1253)))))))) u x2 (x4 + x13))))) := by
  obtain ⟨a0, a1, a2, a3, a4, a5, a6, a7, a8, a9, a10, a11, a12, a13, a14, a15, a16, a17, a18, a19, a20, a21, a22, a23, a24, a25, a26, a27⟩ := u
  show (wY_step_306 post x1 x2 x3 x4 x5 x9 x10 (n + 1) x13 a0 a1 a2 a3 a4 a5 a6 a7 a8 a9 a10 a11 a12 a13 a14 a15 a16 a17 a18 a19 a20 a21 a22 a23 a24 a25 a26 a27) = _
  rw [wY_step_306]
  try rfl
def zy_step_274 (post : SY → Prop) (x1 : Int32) (x2 : Int32) (x3 : Int32) (x4 : Int32) (x5 : Int32) (x9 : Int32) (x10 : Int32) (u : SY) : Prop := wY_step_274 post x1 x2 x3 x4 x5 x9 x10 (yg_accounts u) (yg_maxDepth u) (yg_price u) (yg_fees u) (yg_minted u) (yg_input u) (yg_returnWord u) (yg_frames u) (yg_logs u) (yg_handed u) (yg_cells u) (yg_length u) (yg_world u) (yg_logAccounts u) (yg_logWords u) (yg_rec u) (yg_entry u) (yg_entryLogs u) (yg_left u) (yg_stack u) (yg_height u) (yg_memory u) (yg_memorySize u) (yg_position u) (yg_result u) (yg_callerOf u) (yg_valueOf u) (yg_inputOf u)
theorem ey_step_274 (post : SY → Prop) (x1 : Int32) (x2 : Int32) (x3 : Int32) (x4 : Int32) (x5 : Int32) (x9 : Int32) (x10 : Int32) (u : SY) : (zy_step_274 post x1 x2 x3 x4 x5 x9 x10 u) = (wpY_jumpTarget (fun r_288 => (((r_288 = 0 → (wpY_end (fun u1 => (∃ n306 : Nat, zy_step_306 post x1 x2 x3 x4 x5 x9 x10 n306 1 u1)) u x1 6 0)) ∧ (¬ r_288 = 0 → (vp_in x1 32 ∧ ∀ a_position_1320 : Nat → Int32, a_position_1320 = upd (yg_position u) x1.toNatClampNeg x9 → (∃ n306 : Nat, zy_step_306 post x1 x2 x3 x4 x5 x9 x10 n306 1 (ys_position a_position_1320 u))))))) u x2 x9) := by
  obtain ⟨a0, a1, a2, a3, a4, a5, a6, a7, a8, a9, a10, a11, a12, a13, a14, a15, a16, a17, a18, a19, a20, a21, a22, a23, a24, a25, a26, a27⟩ := u
  show wY_step_274 post x1 x2 x3 x4 x5 x9 x10 a0 a1 a2 a3 a4 a5 a6 a7 a8 a9 a10 a11 a12 a13 a14 a15 a16 a17 a18 a19 a20 a21 a22 a23 a24 a25 a26 a27 = _
  unfold wY_step_274
  refine congrArg (fun P => wpY_jumpTarget P (a0, a1, a2, a3, a4, a5, a6, a7, a8, a9, a10, a11, a12, a13, a14, a15, a16, a17, a18, a19, a20, a21, a22, a23, a24, a25, a26, a27) x2 x9) (funext fun r => ?_)
  refine congr (congrArg And (forall_congr fun _ => ?_)) rfl
  refine congrArg (fun P => wpY_end P (a0, a1, a2, a3, a4, a5, a6, a7, a8, a9, a10, a11, a12, a13, a14, a15, a16, a17, a18, a19, a20, a21, a22, a23, a24, a25, a26, a27) x1 6 0) (funext fun u => ?_)
  obtain ⟨a0, a1, a2, a3, a4, a5, a6, a7, a8, a9, a10, a11, a12, a13, a14, a15, a16, a17, a18, a19, a20, a21, a22, a23, a24, a25, a26, a27⟩ := u
  rfl
def zy_step_255 (post : SY → Prop) (x1 : Int32) (x2 : Int32) (x3 : Int32) (x4 : Int32) (x5 : Int32) (x9 : Int32) (x10 : Int32) (u : SY) : Prop := wY_step_255 post x1 x2 x3 x4 x5 x9 x10 (yg_accounts u) (yg_maxDepth u) (yg_price u) (yg_fees u) (yg_minted u) (yg_input u) (yg_returnWord u) (yg_frames u) (yg_logs u) (yg_handed u) (yg_cells u) (yg_length u) (yg_world u) (yg_logAccounts u) (yg_logWords u) (yg_rec u) (yg_entry u) (yg_entryLogs u) (yg_left u) (yg_stack u) (yg_height u) (yg_memory u) (yg_memorySize u) (yg_position u) (yg_result u) (yg_callerOf u) (yg_valueOf u) (yg_inputOf u)
theorem ey_step_255 (post : SY → Prop) (x1 : Int32) (x2 : Int32) (x3 : Int32) (x4 : Int32) (x5 : Int32) (x9 : Int32) (x10 : Int32) (u : SY) : (zy_step_255 post x1 x2 x3 x4 x5 x9 x10 u) = (((x5 = 17 → (zy_step_274 post x1 x2 x3 x4 x5 x9 x10 u)) ∧ (¬ x5 = 17 → (((x5 = 18 → (((x10 = 0 → (∃ n306 : Nat, zy_step_306 post x1 x2 x3 x4 x5 x9 x10 n306 1 u)) ∧ (¬ x10 = 0 → (zy_step_274 post x1 x2 x3 x4 x5 x9 x10 u))))) ∧ (¬ x5 = 18 → (∃ n306 : Nat, zy_step_306 post x1 x2 x3 x4 x5 x9 x10 n306 1 u))))))) := by
  obtain ⟨a0, a1, a2, a3, a4, a5, a6, a7, a8, a9, a10, a11, a12, a13, a14, a15, a16, a17, a18, a19, a20, a21, a22, a23, a24, a25, a26, a27⟩ := u
  dsimp only [zy_step_255, zy_step_274, zy_step_306, yg_accounts, yg_maxDepth, yg_price, yg_fees, yg_minted, yg_input, yg_returnWord, yg_frames, yg_logs, yg_handed, yg_cells, yg_length, yg_world, yg_logAccounts, yg_logWords, yg_rec, yg_entry, yg_entryLogs, yg_left, yg_stack, yg_height, yg_memory, yg_memorySize, yg_position, yg_result, yg_callerOf, yg_valueOf, yg_inputOf]
  try rfl
def zy_step_226 (post : SY → Prop) (x1 : Int32) (x2 : Int32) (x3 : Int32) (x4 : Int32) (x5 : Int32) (x9 : Int32) (x10 : Int32) (x11 : Int32) (x12 : Int32) (u : SY) : Prop := wY_step_226 post x1 x2 x3 x4 x5 x9 x10 x11 x12 (yg_accounts u) (yg_maxDepth u) (yg_price u) (yg_fees u) (yg_minted u) (yg_input u) (yg_returnWord u) (yg_frames u) (yg_logs u) (yg_handed u) (yg_cells u) (yg_length u) (yg_world u) (yg_logAccounts u) (yg_logWords u) (yg_rec u) (yg_entry u) (yg_entryLogs u) (yg_left u) (yg_stack u) (yg_height u) (yg_memory u) (yg_memorySize u) (yg_position u) (yg_result u) (yg_callerOf u) (yg_valueOf u) (yg_inputOf u)
theorem ey_step_226 (post : SY → Prop) (x1 : Int32) (x2 : Int32) (x3 : Int32) (x4 : Int32) (x5 : Int32) (x9 : Int32) (x10 : Int32) (x11 : Int32) (x12 : Int32) (u : SY) : (zy_step_226 post x1 x2 x3 x4 x5 x9 x10 x11 x12 u) = (((x5 < 32 → (zy_step_255 post x1 x2 x3 x4 x5 x9 x10 u)) ∧ (¬ x5 < 32 → (((35 < x5 → (zy_step_255 post x1 x2 x3 x4 x5 x9 x10 u)) ∧ (¬ 35 < x5 → (wpY_callOrCreate (fun u1 => (zy_step_255 post x1 x2 x3 x4 x5 x9 x10 u1)) u x1 x5 x9 x10 x11 x12))))))) := by
  obtain ⟨a0, a1, a2, a3, a4, a5, a6, a7, a8, a9, a10, a11, a12, a13, a14, a15, a16, a17, a18, a19, a20, a21, a22, a23, a24, a25, a26, a27⟩ := u
  try rfl
def zy_step_205 (post : SY → Prop) (x1 : Int32) (x2 : Int32) (x3 : Int32) (x4 : Int32) (x5 : Int32) (x9 : Int32) (x10 : Int32) (x11 : Int32) (x12 : Int32) (u : SY) : Prop := wY_step_205 post x1 x2 x3 x4 x5 x9 x10 x11 x12 (yg_accounts u) (yg_maxDepth u) (yg_price u) (yg_fees u) (yg_minted u) (yg_input u) (yg_returnWord u) (yg_frames u) (yg_logs u) (yg_handed u) (yg_cells u) (yg_length u) (yg_world u) (yg_logAccounts u) (yg_logWords u) (yg_rec u) (yg_entry u) (yg_entryLogs u) (yg_left u) (yg_stack u) (yg_height u) (yg_memory u) (yg_memorySize u) (yg_position u) (yg_result u) (yg_callerOf u) (yg_valueOf u) (yg_inputOf u)
theorem ey_step_205 (post : SY → Prop) (x1 : Int32) (x2 : Int32) (x3 : Int32) (x4 : Int32) (x5 : Int32) (x9 : Int32) (x10 : Int32) (x11 : Int32) (x12 : Int32) (u : SY) : (zy_step_205 post x1 x2 x3 x4 x5 x9 x10 x11 x12 u) = (vp_in x1 32 ∧ (((x9 < ((yg_memorySize u) x1.toNatClampNeg) → (zy_step_226 post x1 x2 x3 x4 x5 x9 x10 x11 x12 u)) ∧ (¬ x9 < ((yg_memorySize u) x1.toNatClampNeg) → (vp_in x1 32 ∧ ∀ a_memorySize_1354 : Nat → Int32, a_memorySize_1354 = upd (yg_memorySize u) x1.toNatClampNeg (x9 + 1) → (zy_step_226 post x1 x2 x3 x4 x5 x9 x10 x11 x12 (ys_memorySize a_memorySize_1354 u))))))) := by
  obtain ⟨a0, a1, a2, a3, a4, a5, a6, a7, a8, a9, a10, a11, a12, a13, a14, a15, a16, a17, a18, a19, a20, a21, a22, a23, a24, a25, a26, a27⟩ := u
  dsimp only [zy_step_205, zy_step_226, yg_accounts, yg_maxDepth, yg_price, yg_fees, yg_minted, yg_input, yg_returnWord, yg_frames, yg_logs, yg_handed, yg_cells, yg_length, yg_world, yg_logAccounts, yg_logWords, yg_rec, yg_entry, yg_entryLogs, yg_left, yg_stack, yg_height, yg_memory, yg_memorySize, yg_position, yg_result, yg_callerOf, yg_valueOf, yg_inputOf, ys_memorySize]
  try rfl
theorem ey_step (post : SY → Prop) (u : SY)  : (wpY_step post u ) = (wpY_current (fun r_1 => (((0 ≤ r_1 → (vp_in ((r_1 * 10) + 3) 320 ∧ (∀ x2_32 : Int32, x2_32 = (yg_rec u) ((r_1 * 10) + 3).toNatClampNeg → (vp_in ((r_1 * 10) + 2) 320 ∧ (∀ x3_34 : Int32, x3_34 = (yg_rec u) ((r_1 * 10) + 2).toNatClampNeg → (vp_in r_1 32 ∧ (∀ x4_36 : Int32, x4_36 = (yg_position u) r_1.toNatClampNeg → (vp_in x2_32 8 ∧ (((x4_36 < ((yg_length u) x2_32.toNatClampNeg) → (wpY_programCell (fun r_39 => (wpY_failure (fun r_68 => (((r_68 = 0 → (wpY_cost (fun r_98 => (wpY_pops (fun r_127 => (vp_in r_1 32 ∧ (vp_in r_1 32 ∧ ∀ a_left_158 : Nat → Int32, a_left_158 = upd (yg_left u) r_1.toNatClampNeg (((yg_left u) r_1.toNatClampNeg) - r_98) → (vp_in ((r_1 * 10) + 8) 320 ∧ (vp_in ((r_1 * 10) + 8) 320 ∧ ∀ a_rec_161 : Nat → Int32, a_rec_161 = upd (yg_rec u) ((r_1 * 10) + 8).toNatClampNeg (((yg_rec u) ((r_1 * 10) + 8).toNatClampNeg) + r_98) → (wpY_word (fun r_162 => (wpY_word (fun r_191 => (wpY_word (fun r_220 => (wpY_word (fun r_249 => (vp_in r_1 32 ∧ (vp_in r_1 32 ∧ ∀ a_height_280 : Nat → Int32, a_height_280 = upd (yg_height u) r_1.toNatClampNeg (((yg_height u) r_1.toNatClampNeg) - r_127) → (vp_in r_1 32 ∧ ∀ a_position_282 : Nat → Int32, a_position_282 = upd (yg_position u) r_1.toNatClampNeg (x4_36 + 1) → (((r_39 = 19 → (zy_step_205 post r_1 x2_32 x3_34 x4_36 r_39 r_162 r_191 r_220 r_249 (ym_rec_left_height_position a_rec_161 a_left_158 a_height_280 a_position_282 u))) ∧ (¬ r_39 = 19 → (((r_39 = 20 → (zy_step_205 post r_1 x2_32 x3_34 x4_36 r_39 r_162 r_191 r_220 r_249 (ym_rec_left_height_position a_rec_161 a_left_158 a_height_280 a_position_282 u))) ∧ (¬ r_39 = 20 → (zy_step_226 post r_1 x2_32 x3_34 x4_36 r_39 r_162 r_191 r_220 r_249 (ym_rec_left_height_position a_rec_161 a_left_158 a_height_280 a_position_282 u)))))))))))) (ym_rec_left a_rec_161 a_left_158 u) r_1 3)) (ym_rec_left a_rec_161 a_left_158 u) r_1 2)) (ym_rec_left a_rec_161 a_left_158 u) r_1 1)) (ym_rec_left a_rec_161 a_left_158 u) r_1 0)))))) u r_39)) u r_1 r_39)) ∧ (¬ r_68 = 0 → (wpY_end post u r_1 r_68 0))))) u r_1 r_39)) u x2_32 x4_36)) ∧ (¬ x4_36 < ((yg_length u) x2_32.toNatClampNeg) → (wpY_end post u r_1 1 0)))))))))))) ∧ (¬ 0 ≤ r_1 → (post u))))) u) := by
  obtain ⟨a0, a1, a2, a3, a4, a5, a6, a7, a8, a9, a10, a11, a12, a13, a14, a15, a16, a17, a18, a19, a20, a21, a22, a23, a24, a25, a26, a27⟩ := u
  dsimp only [zy_step_205, zy_step_226, yg_accounts, yg_maxDepth, yg_price, yg_fees, yg_minted, yg_input, yg_returnWord, yg_frames, yg_logs, yg_handed, yg_cells, yg_length, yg_world, yg_logAccounts, yg_logWords, yg_rec, yg_entry, yg_entryLogs, yg_left, yg_stack, yg_height, yg_memory, yg_memorySize, yg_position, yg_result, yg_callerOf, yg_valueOf, yg_inputOf, ym_rec_left, ym_rec_left_height_position]
  try rfl
def zy_run_152 (post : Int32 → SY → Prop) (x6 : Int32) (x7 : Int32) (u : SY) : Prop := wY_run_152 post x6 x7 (yg_accounts u) (yg_maxDepth u) (yg_price u) (yg_fees u) (yg_minted u) (yg_input u) (yg_returnWord u) (yg_frames u) (yg_logs u) (yg_handed u) (yg_cells u) (yg_length u) (yg_world u) (yg_logAccounts u) (yg_logWords u) (yg_rec u) (yg_entry u) (yg_entryLogs u) (yg_left u) (yg_stack u) (yg_height u) (yg_memory u) (yg_memorySize u) (yg_position u) (yg_result u) (yg_callerOf u) (yg_valueOf u) (yg_inputOf u)
theorem ey_run_152 (post : Int32 → SY → Prop) (x6 : Int32) (x7 : Int32) (u : SY) : (zy_run_152 post x6 x7 u) = (vp_in x7 48 ∧ (vp_in x7 48 ∧ ∀ a_world_44 : Nat → Int32, a_world_44 = upd (yg_world u) x7.toNatClampNeg (((yg_world u) x7.toNatClampNeg) + (((yg_rec u) 7) * (yg_price u))) → (∀ f_fees_45 : Int32, f_fees_45 = (yg_fees u) + ((x6 - ((yg_rec u) 7)) * (yg_price u)) → (post ((yg_rec u) 5) (ym_fees_world f_fees_45 a_world_44 u))))) := by
  obtain ⟨a0, a1, a2, a3, a4, a5, a6, a7, a8, a9, a10, a11, a12, a13, a14, a15, a16, a17, a18, a19, a20, a21, a22, a23, a24, a25, a26, a27⟩ := u
  dsimp only [zy_run_152, yg_accounts, yg_maxDepth, yg_price, yg_fees, yg_minted, yg_input, yg_returnWord, yg_frames, yg_logs, yg_handed, yg_cells, yg_length, yg_world, yg_logAccounts, yg_logWords, yg_rec, yg_entry, yg_entryLogs, yg_left, yg_stack, yg_height, yg_memory, yg_memorySize, yg_position, yg_result, yg_callerOf, yg_valueOf, yg_inputOf, ym_fees_world]
  try rfl
def zy_run_125 (post : Int32 → SY → Prop) (x6 : Int32) (x7 : Int32) (n : Nat) (x8 : Int32) (u : SY) : Prop := wY_run_125 post x6 x7 n x8 (yg_accounts u) (yg_maxDepth u) (yg_price u) (yg_fees u) (yg_minted u) (yg_input u) (yg_returnWord u) (yg_frames u) (yg_logs u) (yg_handed u) (yg_cells u) (yg_length u) (yg_world u) (yg_logAccounts u) (yg_logWords u) (yg_rec u) (yg_entry u) (yg_entryLogs u) (yg_left u) (yg_stack u) (yg_height u) (yg_memory u) (yg_memorySize u) (yg_position u) (yg_result u) (yg_callerOf u) (yg_valueOf u) (yg_inputOf u)
theorem ey_run_125 (post : Int32 → SY → Prop) (x6 : Int32) (x7 : Int32) (n : Nat) (x8 : Int32) (u : SY) : (zy_run_125 post x6 x7 (n + 1) x8 u) = (((4000 ≤ x8 → (zy_run_152 post x6 x7 u)) ∧ (¬ 4000 ≤ x8 → (((((yg_rec u) 5) = 0 → (wpY_step (fun u1 => (∀ x8_76 : Int32, x8_76 = x8 + 1 → (zy_run_125 post x6 x7 n x8_76 u1))) u)) ∧ (¬ ((yg_rec u) 5) = 0 → (zy_run_152 post x6 x7 u))))))) := by
  obtain ⟨a0, a1, a2, a3, a4, a5, a6, a7, a8, a9, a10, a11, a12, a13, a14, a15, a16, a17, a18, a19, a20, a21, a22, a23, a24, a25, a26, a27⟩ := u
  show (wY_run_125 post x6 x7 (n + 1) x8 a0 a1 a2 a3 a4 a5 a6 a7 a8 a9 a10 a11 a12 a13 a14 a15 a16 a17 a18 a19 a20 a21 a22 a23 a24 a25 a26 a27) = _
  rw [wY_run_125]
  try rfl
theorem ey_run (post : Int32 → SY → Prop) (u : SY) (p0 : Int32) (p1 : Int32) (p2 : Int32) (p3 : Int32) (p4 : Int32) (p5 : Int32) : (wpY_run post u p0 p1 p2 p3 p4 p5) = (((p5 < 1 → (post (-7) u)) ∧ (¬ p5 < 1 → (((p5 ≤ 2000 → (((0 ≤ p4 → (∀ x7_4 : Int32, x7_4 = (p0 * 6) + 1 → (vp_in x7_4 48 ∧ (((((yg_world u) x7_4.toNatClampNeg) < (p5 * (yg_price u)) → (post (-8) u)) ∧ (¬ ((yg_world u) x7_4.toNatClampNeg) < (p5 * (yg_price u)) → (vp_in x7_4 48 ∧ (((p4 ≤ (((yg_world u) x7_4.toNatClampNeg) - (p5 * (yg_price u))) → (vp_in x7_4 48 ∧ (vp_in x7_4 48 ∧ ∀ a_world_11 : Nat → Int32, a_world_11 = upd (yg_world u) x7_4.toNatClampNeg (((yg_world u) x7_4.toNatClampNeg) - (p5 * (yg_price u))) → (wpY_enter (fun u1 => (∃ n125 : Nat, zy_run_125 post p5 x7_4 n125 0 u1)) (ym_frames_logs_handed_world 0 0 p5 a_world_11 u) p1 p2 p3 p0 p4 (yg_input u) 0)))) ∧ (¬ p4 ≤ (((yg_world u) x7_4.toNatClampNeg) - (p5 * (yg_price u))) → (post (-8) u))))))))))) ∧ (¬ 0 ≤ p4 → (post (-4) u))))) ∧ (¬ p5 ≤ 2000 → (post (-7) u))))))) := by
  obtain ⟨a0, a1, a2, a3, a4, a5, a6, a7, a8, a9, a10, a11, a12, a13, a14, a15, a16, a17, a18, a19, a20, a21, a22, a23, a24, a25, a26, a27⟩ := u
  try rfl
theorem ey_transact (post : Int32 → SY → Prop) (u : SY) (p0 : Int32) (p1 : Int32) (p2 : Int32) (p3 : Int32) : (wpY_transact post u p0 p1 p2 p3) = (wpY_programOf (fun r_1 => (((0 ≤ r_1 → (wpY_programOf (fun r_31 => (((0 ≤ r_31 → (wpY_run post u p0 1 r_31 p1 p2 p3)) ∧ (¬ 0 ≤ r_31 → (post (-6) u))))) u p1)) ∧ (¬ 0 ≤ r_1 → (post (-1) u))))) u p0) := by
  obtain ⟨a0, a1, a2, a3, a4, a5, a6, a7, a8, a9, a10, a11, a12, a13, a14, a15, a16, a17, a18, a19, a20, a21, a22, a23, a24, a25, a26, a27⟩ := u
  try rfl
theorem ey_transactCreate (post : Int32 → SY → Prop) (u : SY) (p0 : Int32) (p1 : Int32) (p2 : Int32) (p3 : Int32) : (wpY_transactCreate post u p0 p1 p2 p3) = (wpY_programOf (fun r_1 => (((0 ≤ r_1 → (((p1 < 0 → (post (-3) u)) ∧ (¬ p1 < 0 → (((p1 ≤ 7 → (wpY_firstFree (fun r_33 => (((0 ≤ r_33 → (wpY_run post u p0 4 p1 r_33 p2 p3)) ∧ (¬ 0 ≤ r_33 → (post (-9) u))))) u)) ∧ (¬ p1 ≤ 7 → (post (-3) u)))))))) ∧ (¬ 0 ≤ r_1 → (post (-1) u))))) u p0) := by
  obtain ⟨a0, a1, a2, a3, a4, a5, a6, a7, a8, a9, a10, a11, a12, a13, a14, a15, a16, a17, a18, a19, a20, a21, a22, a23, a24, a25, a26, a27⟩ := u
  try rfl
theorem ey_programLength (post : Int32 → Prop) (u : SY) (p0 : Int32) : (wpY_programLength post u p0) = (((p0 < 0 → (post (-1))) ∧ (¬ p0 < 0 → (((p0 ≤ 7 → (vp_in p0 8 ∧ (post ((yg_length u) p0.toNatClampNeg)))) ∧ (¬ p0 ≤ 7 → (post (-1)))))))) := by
  obtain ⟨a0, a1, a2, a3, a4, a5, a6, a7, a8, a9, a10, a11, a12, a13, a14, a15, a16, a17, a18, a19, a20, a21, a22, a23, a24, a25, a26, a27⟩ := u
  try rfl
theorem ey_storage (post : Int32 → Prop) (u : SY) (p0 : Int32) (p1 : Int32) : (wpY_storage post u p0 p1) = (((p0 < 0 → (post 0)) ∧ (¬ p0 < 0 → ((((yg_accounts u) ≤ p0 → (post 0)) ∧ (¬ (yg_accounts u) ≤ p0 → (((p1 < 0 → (post 0)) ∧ (¬ p1 < 0 → (((p1 ≤ 3 → (vp_in (((p0 * 6) + 2) + p1) 48 ∧ (post ((yg_world u) (((p0 * 6) + 2) + p1).toNatClampNeg)))) ∧ (¬ p1 ≤ 3 → (post 0))))))))))))) := by
  obtain ⟨a0, a1, a2, a3, a4, a5, a6, a7, a8, a9, a10, a11, a12, a13, a14, a15, a16, a17, a18, a19, a20, a21, a22, a23, a24, a25, a26, a27⟩ := u
  try rfl
theorem ey_fees (post : Int32 → Prop) (u : SY)  : (wpY_fees post u ) = (post (yg_fees u)) := by
  obtain ⟨a0, a1, a2, a3, a4, a5, a6, a7, a8, a9, a10, a11, a12, a13, a14, a15, a16, a17, a18, a19, a20, a21, a22, a23, a24, a25, a26, a27⟩ := u
  try rfl
theorem ey_minted (post : Int32 → Prop) (u : SY)  : (wpY_minted post u ) = (post (yg_minted u)) := by
  obtain ⟨a0, a1, a2, a3, a4, a5, a6, a7, a8, a9, a10, a11, a12, a13, a14, a15, a16, a17, a18, a19, a20, a21, a22, a23, a24, a25, a26, a27⟩ := u
  try rfl
theorem ey_input (post : Int32 → Prop) (u : SY)  : (wpY_input post u ) = (post (yg_input u)) := by
  obtain ⟨a0, a1, a2, a3, a4, a5, a6, a7, a8, a9, a10, a11, a12, a13, a14, a15, a16, a17, a18, a19, a20, a21, a22, a23, a24, a25, a26, a27⟩ := u
  try rfl
theorem ey_returnWord (post : Int32 → Prop) (u : SY)  : (wpY_returnWord post u ) = (post (yg_returnWord u)) := by
  obtain ⟨a0, a1, a2, a3, a4, a5, a6, a7, a8, a9, a10, a11, a12, a13, a14, a15, a16, a17, a18, a19, a20, a21, a22, a23, a24, a25, a26, a27⟩ := u
  try rfl
theorem ey_frameCount (post : Int32 → Prop) (u : SY)  : (wpY_frameCount post u ) = (post (yg_frames u)) := by
  obtain ⟨a0, a1, a2, a3, a4, a5, a6, a7, a8, a9, a10, a11, a12, a13, a14, a15, a16, a17, a18, a19, a20, a21, a22, a23, a24, a25, a26, a27⟩ := u
  try rfl
theorem ey_frame (post : Int32 → Prop) (u : SY) (p0 : Int32) (p1 : Int32) : (wpY_frame post u p0 p1) = (((p0 < 0 → (post (-1))) ∧ (¬ p0 < 0 → ((((yg_frames u) ≤ p0 → (post (-1))) ∧ (¬ (yg_frames u) ≤ p0 → (((p1 < 0 → (post (-1))) ∧ (¬ p1 < 0 → (((p1 ≤ 9 → (vp_in ((p0 * 10) + p1) 320 ∧ (post ((yg_rec u) ((p0 * 10) + p1).toNatClampNeg)))) ∧ (¬ p1 ≤ 9 → (post (-1)))))))))))))) := by
  obtain ⟨a0, a1, a2, a3, a4, a5, a6, a7, a8, a9, a10, a11, a12, a13, a14, a15, a16, a17, a18, a19, a20, a21, a22, a23, a24, a25, a26, a27⟩ := u
  try rfl
theorem ey_logCount (post : Int32 → Prop) (u : SY)  : (wpY_logCount post u ) = (post (yg_logs u)) := by
  obtain ⟨a0, a1, a2, a3, a4, a5, a6, a7, a8, a9, a10, a11, a12, a13, a14, a15, a16, a17, a18, a19, a20, a21, a22, a23, a24, a25, a26, a27⟩ := u
  try rfl
theorem ey_logAccount (post : Int32 → Prop) (u : SY) (p0 : Int32) : (wpY_logAccount post u p0) = (((p0 < 0 → (post (-1))) ∧ (¬ p0 < 0 → (((p0 < (yg_logs u) → (vp_in p0 16 ∧ (post ((yg_logAccounts u) p0.toNatClampNeg)))) ∧ (¬ p0 < (yg_logs u) → (post (-1)))))))) := by
  obtain ⟨a0, a1, a2, a3, a4, a5, a6, a7, a8, a9, a10, a11, a12, a13, a14, a15, a16, a17, a18, a19, a20, a21, a22, a23, a24, a25, a26, a27⟩ := u
  try rfl
theorem ey_logWord (post : Int32 → Prop) (u : SY) (p0 : Int32) : (wpY_logWord post u p0) = (((p0 < 0 → (post 0)) ∧ (¬ p0 < 0 → (((p0 < (yg_logs u) → (vp_in p0 16 ∧ (post ((yg_logWords u) p0.toNatClampNeg)))) ∧ (¬ p0 < (yg_logs u) → (post 0))))))) := by
  obtain ⟨a0, a1, a2, a3, a4, a5, a6, a7, a8, a9, a10, a11, a12, a13, a14, a15, a16, a17, a18, a19, a20, a21, a22, a23, a24, a25, a26, a27⟩ := u
  try rfl
end
section
/-! X's small methods, in lens form: what each gives -/
def xu_hgt (f k : Nat) (u : SX) : SX := xs_frHeight (upd (xg_frHeight u) f (nI k)) u
def xu_push (f : Nat) (w : Int32) (h : Nat) (u : SX) : SX := xm_frHeight_stack (upd (xg_frHeight u) f (nI (h + 1))) (upd (xg_stack u) (f * 16 + h) w) u
def xu_word (u : SX) (f h k : Nat) : Int32 := if k < h then xg_stack u (f * 16 + (h - 1 - k)) else 0
theorem xw_push {post : SX → Prop} {u : SX} {f h : Nat} {w : Int32} (hf : f < 8) (hh : xg_frHeight u f = nI h) (h16 : h < 16) (H : post (xu_push f w h u)) : wpX_push post u (nI f) w := by
  have e1 : (16 ≤ h) = False := eq_false (by omega)
  simp (disch := omega) only [ex_push, hh, e1, nI_clamp, nu_m6, nu_m10, nu_m16, nu_m32, nu_m48, nI_add, nu_a0, nu_a1, nu_a2, nu_a3, nu_a4, nu_a5, nu_a6, nu_a7, nu_a8, nu_a9, nI_pred, nu_s1, nu_s2, nu_s3, nu_s4, nu_vp, nu_lt0, nu_le0, nu_eq0, nu_clt0, nu_cle0, nu_lt1, nu_le1, nu_eq1, nu_clt1, nu_cle1, nu_lt2, nu_le2, nu_eq2, nu_clt2, nu_cle2, nu_lt3, nu_le3, nu_eq3, nu_clt3, nu_cle3, nu_lt4, nu_le4, nu_eq4, nu_clt4, nu_cle4, nu_lt5, nu_le5, nu_eq5, nu_clt5, nu_cle5, nu_lt7, nu_le7, nu_eq7, nu_clt7, nu_cle7, nu_lt8, nu_le8, nu_eq8, nu_clt8, nu_cle8, nu_lt9, nu_le9, nu_eq9, nu_clt9, nu_cle9, nu_lt10, nu_le10, nu_eq10, nu_clt10, nu_cle10, nu_lt16, nu_le16, nu_eq16, nu_clt16, nu_cle16, nu_lt29, nu_le29, nu_eq29, nu_clt29, nu_cle29, nu_lt32, nu_le32, nu_eq32, nu_clt32, nu_cle32, nu_lt36, nu_le36, nu_eq36, nu_clt36, nu_cle36, nu_lt37, nu_le37, nu_eq37, nu_clt37, nu_cle37, nu_lt48, nu_le48, nu_eq48, nu_clt48, nu_cle48, nu_lt2000, nu_le2000, nu_eq2000, nu_clt2000, nu_cle2000, nu_lt2032, nu_le2032, nu_eq2032, nu_clt2032, nu_cle2032, nu_lt4000, nu_le4000, nu_eq4000, nu_clt4000, nu_cle4000, nu_le, nu_lt, nu_eq, pk_us, forall_eq, true_and, and_true, false_implies, true_implies, implies_true, not_false_eq_true, not_true_eq_false, and_self]
  exact H
theorem xw_push_no {post : SX → Prop} {u : SX} {f : Nat} {w : Int32} (hf : f < 8) (hh : xg_frHeight u f = nI 16) (H : post u) : wpX_push post u (nI f) w := by
  have e1 : (16 ≤ 16) = True := eq_true (by omega)
  simp (disch := omega) only [ex_push, hh, e1, nI_clamp, nu_m6, nu_m10, nu_m16, nu_m32, nu_m48, nI_add, nu_a0, nu_a1, nu_a2, nu_a3, nu_a4, nu_a5, nu_a6, nu_a7, nu_a8, nu_a9, nI_pred, nu_s1, nu_s2, nu_s3, nu_s4, nu_vp, nu_lt0, nu_le0, nu_eq0, nu_clt0, nu_cle0, nu_lt1, nu_le1, nu_eq1, nu_clt1, nu_cle1, nu_lt2, nu_le2, nu_eq2, nu_clt2, nu_cle2, nu_lt3, nu_le3, nu_eq3, nu_clt3, nu_cle3, nu_lt4, nu_le4, nu_eq4, nu_clt4, nu_cle4, nu_lt5, nu_le5, nu_eq5, nu_clt5, nu_cle5, nu_lt7, nu_le7, nu_eq7, nu_clt7, nu_cle7, nu_lt8, nu_le8, nu_eq8, nu_clt8, nu_cle8, nu_lt9, nu_le9, nu_eq9, nu_clt9, nu_cle9, nu_lt10, nu_le10, nu_eq10, nu_clt10, nu_cle10, nu_lt16, nu_le16, nu_eq16, nu_clt16, nu_cle16, nu_lt29, nu_le29, nu_eq29, nu_clt29, nu_cle29, nu_lt32, nu_le32, nu_eq32, nu_clt32, nu_cle32, nu_lt36, nu_le36, nu_eq36, nu_clt36, nu_cle36, nu_lt37, nu_le37, nu_eq37, nu_clt37, nu_cle37, nu_lt48, nu_le48, nu_eq48, nu_clt48, nu_cle48, nu_lt2000, nu_le2000, nu_eq2000, nu_clt2000, nu_cle2000, nu_lt2032, nu_le2032, nu_eq2032, nu_clt2032, nu_cle2032, nu_lt4000, nu_le4000, nu_eq4000, nu_clt4000, nu_cle4000, nu_le, nu_lt, nu_eq, pk_us, forall_eq, true_and, and_true, false_implies, true_implies, implies_true, not_false_eq_true, not_true_eq_false, and_self]
  exact H
theorem xw_pop {post : Int32 → SX → Prop} {u : SX} {f h : Nat} (hf : f < 8) (hh : xg_frHeight u f = nI (h + 1)) (h16 : h < 16) (H : post (xg_stack u (f * 16 + h)) (xu_hgt f h u)) : wpX_pop post u (nI f) := by
  have e1 : (0 < h + 1) = True := eq_true (by omega)
  simp (disch := omega) only [ex_pop, hh, e1, nI_clamp, nu_m6, nu_m10, nu_m16, nu_m32, nu_m48, nI_add, nu_a0, nu_a1, nu_a2, nu_a3, nu_a4, nu_a5, nu_a6, nu_a7, nu_a8, nu_a9, nI_pred, nu_s1, nu_s2, nu_s3, nu_s4, nu_vp, nu_lt0, nu_le0, nu_eq0, nu_clt0, nu_cle0, nu_lt1, nu_le1, nu_eq1, nu_clt1, nu_cle1, nu_lt2, nu_le2, nu_eq2, nu_clt2, nu_cle2, nu_lt3, nu_le3, nu_eq3, nu_clt3, nu_cle3, nu_lt4, nu_le4, nu_eq4, nu_clt4, nu_cle4, nu_lt5, nu_le5, nu_eq5, nu_clt5, nu_cle5, nu_lt7, nu_le7, nu_eq7, nu_clt7, nu_cle7, nu_lt8, nu_le8, nu_eq8, nu_clt8, nu_cle8, nu_lt9, nu_le9, nu_eq9, nu_clt9, nu_cle9, nu_lt10, nu_le10, nu_eq10, nu_clt10, nu_cle10, nu_lt16, nu_le16, nu_eq16, nu_clt16, nu_cle16, nu_lt29, nu_le29, nu_eq29, nu_clt29, nu_cle29, nu_lt32, nu_le32, nu_eq32, nu_clt32, nu_cle32, nu_lt36, nu_le36, nu_eq36, nu_clt36, nu_cle36, nu_lt37, nu_le37, nu_eq37, nu_clt37, nu_cle37, nu_lt48, nu_le48, nu_eq48, nu_clt48, nu_cle48, nu_lt2000, nu_le2000, nu_eq2000, nu_clt2000, nu_cle2000, nu_lt2032, nu_le2032, nu_eq2032, nu_clt2032, nu_cle2032, nu_lt4000, nu_le4000, nu_eq4000, nu_clt4000, nu_cle4000, nu_le, nu_lt, nu_eq, pk_us, forall_eq, true_and, and_true, false_implies, true_implies, implies_true, not_false_eq_true, not_true_eq_false, and_self]
  exact H
theorem nu_subsub (a b : Nat) : nI a - 1 - nI b = nI a - nI (b + 1) := by
  rw [← nI_1 b]
  grind
theorem nu_pk_neg {h k : Nat} (hh : h ≤ k) (hk : k < 100) : (0 ≤ nI h - 1 - nI k) = False := by
  rw [nu_subsub]
  refine eq_false fun z => ?_
  have := pk_sneg (a := h) (b := k + 1) (by omega) (by omega)
  exact absurd z (Int32.not_le.mpr this)
theorem nu_pk_pos {h k : Nat} (hh : k < h) (hh2 : h ≤ 100) : nI h - 1 - nI k = nI (h - 1 - k) := by
  rw [nu_subsub, pk_sub (by omega)]
  exact congrArg nI (by omega)
theorem xw_peek {post : Int32 → Prop} {u : SX} {f h : Nat} (k : Nat) (hf : f < 8) (hh : xg_frHeight u f = nI h) (h16 : h ≤ 16) (hk : k < 10) (H : post (xu_word u f h k)) : wpX_peek post u (nI f) (nI k) := by
  unfold xu_word at H
  by_cases z : k < h
  · rw [if_pos z] at H
    rw [ex_peek, nI_clamp (n := f) (by omega), hh, nu_pk_pos z (by omega)]
    refine ⟨vp_in_nI hf (by decide), nm_e (br_t (nI_pos' (by omega)) ?_)⟩
    rw [nu_m16, nI_add, nI_clamp (n := f * 16 + (h - 1 - k)) (by omega)]
    exact ⟨vp_in_nI (by omega) (by decide), H⟩
  · rw [if_neg z] at H
    simp (disch := omega) only [ex_peek, nI_clamp, hh, nu_pk_neg (by omega : h ≤ k) (by omega : k < 100), nu_vp, forall_eq, true_and, and_true, false_implies, true_implies, implies_true, not_false_eq_true, not_true_eq_false, and_self]
    exact H
theorem xw_isProgram_t {post : Int32 → Prop} {u : SX} {k : Nat} (hk : k < 8) (H : post 1) : wpX_isProgram post u (nI k) := by
  rw [ex_isProgram]
  exact br_f (nI_pos (by omega)) (br_f (nI_ge (b := 8) hk (by decide)) H)
theorem nu_not {p : Int32} {n : Nat} (hn : n < 2 ^ 31) (h : ¬ ∃ k, k < n ∧ p = nI k) : p < 0 ∨ (¬ p < 0 ∧ nI n ≤ p) := by
  rcases nu_cases p n hn with z | ⟨z, _⟩
  · exact absurd z h
  · exact z
theorem xw_isProgram_f {post : Int32 → Prop} {u : SX} {p : Int32} (hp : ¬ ∃ k, k < 8 ∧ p = nI k) (H : post 0) : wpX_isProgram post u p := by
  rw [ex_isProgram]
  rcases nu_not (by decide) hp with z | ⟨z, y⟩
  · exact br_t z H
  · exact br_f z (br_t y H)
theorem xw_isAccount_t {post : Int32 → Prop} {u : SX} {k A : Nat} (hA : xg_accounts u = nI A) (hA8 : A ≤ 8) (hk : k < A) (H : post 1) : wpX_isAccount post u (nI k) := by
  rw [ex_isAccount, hA]
  exact br_f (nI_pos (by omega)) (br_f (nI_ge hk (by omega)) H)
theorem xw_isAccount_f {post : Int32 → Prop} {u : SX} {p : Int32} {A : Nat} (hA : xg_accounts u = nI A) (hA8 : A ≤ 8) (hp : ¬ ∃ k, k < A ∧ p = nI k) (H : post 0) : wpX_isAccount post u p := by
  rw [ex_isAccount, hA]
  rcases nu_not (by omega) hp with z | ⟨z, y⟩
  · exact br_t z H
  · exact br_f z (br_t y H)
theorem xw_exists_t {post : Int32 → Prop} {u : SX} {k A c : Nat} (hA : xg_accounts u = nI A) (hA8 : A ≤ 8) (hk : k < A) (hc : c < 8) (hw : xg_world u (k * 6) = nI c) (H : post 1) : wpX_exists post u (nI k) := by
  rw [ex_exists, hA]
  refine br_f (nI_pos (by omega)) (br_f (nI_ge hk (by omega)) ?_)
  have e1 : (c < 0) = False := eq_false (by omega)
  simp (disch := omega) only [hw, e1, nI_clamp, nu_m6, nu_m10, nu_m16, nu_m32, nu_m48, nI_add, nu_a0, nu_a1, nu_a2, nu_a3, nu_a4, nu_a5, nu_a6, nu_a7, nu_a8, nu_a9, nI_pred, nu_s1, nu_s2, nu_s3, nu_s4, nu_vp, nu_lt0, nu_le0, nu_eq0, nu_clt0, nu_cle0, nu_lt1, nu_le1, nu_eq1, nu_clt1, nu_cle1, nu_lt2, nu_le2, nu_eq2, nu_clt2, nu_cle2, nu_lt3, nu_le3, nu_eq3, nu_clt3, nu_cle3, nu_lt4, nu_le4, nu_eq4, nu_clt4, nu_cle4, nu_lt5, nu_le5, nu_eq5, nu_clt5, nu_cle5, nu_lt7, nu_le7, nu_eq7, nu_clt7, nu_cle7, nu_lt8, nu_le8, nu_eq8, nu_clt8, nu_cle8, nu_lt9, nu_le9, nu_eq9, nu_clt9, nu_cle9, nu_lt10, nu_le10, nu_eq10, nu_clt10, nu_cle10, nu_lt16, nu_le16, nu_eq16, nu_clt16, nu_cle16, nu_lt29, nu_le29, nu_eq29, nu_clt29, nu_cle29, nu_lt32, nu_le32, nu_eq32, nu_clt32, nu_cle32, nu_lt36, nu_le36, nu_eq36, nu_clt36, nu_cle36, nu_lt37, nu_le37, nu_eq37, nu_clt37, nu_cle37, nu_lt48, nu_le48, nu_eq48, nu_clt48, nu_cle48, nu_lt2000, nu_le2000, nu_eq2000, nu_clt2000, nu_cle2000, nu_lt2032, nu_le2032, nu_eq2032, nu_clt2032, nu_cle2032, nu_lt4000, nu_le4000, nu_eq4000, nu_clt4000, nu_cle4000, nu_le, nu_lt, nu_eq, pk_us, forall_eq, true_and, and_true, false_implies, true_implies, implies_true, not_false_eq_true, not_true_eq_false, and_self]
  exact H
theorem xw_exists_n {post : Int32 → Prop} {u : SX} {k A : Nat} (hA : xg_accounts u = nI A) (hA8 : A ≤ 8) (hk : k < A) (hw : xg_world u (k * 6) = -1) (H : post 0) : wpX_exists post u (nI k) := by
  rw [ex_exists, hA]
  refine br_f (nI_pos (by omega)) (br_f (nI_ge hk (by omega)) ?_)
  simp (disch := omega) only [nI_clamp, nu_m6, nu_vp, true_and, hw]
  exact br_t (by decide) H
theorem xw_exists_f {post : Int32 → Prop} {u : SX} {p : Int32} {A : Nat} (hA : xg_accounts u = nI A) (hA8 : A ≤ 8) (hp : ¬ ∃ k, k < A ∧ p = nI k) (H : post 0) : wpX_exists post u p := by
  rw [ex_exists, hA]
  rcases nu_not (by omega) hp with z | ⟨z, y⟩
  · exact br_t z H
  · exact br_f z (br_t y H)
theorem xw_canPay_t {post : Int32 → Prop} {u : SX} {s : Nat} {x : Int32} (hs : s < 8) (h0 : ¬ x < 0) (h1 : ¬ xg_world u (s * 6 + 1) < x) (H : post 1) : wpX_canPay post u (nI s) x := by
  rw [ex_canPay]
  refine br_f h0 ?_
  simp (disch := omega) only [nI_clamp, nu_m6, nu_a1, nu_vp, true_and]
  exact br_f h1 H
theorem xw_canPay_f {post : Int32 → Prop} {u : SX} {s : Nat} {x : Int32} (hs : s < 8) (h : ¬ (¬ x < 0 ∧ ¬ xg_world u (s * 6 + 1) < x)) (H : post 0) : wpX_canPay post u (nI s) x := by
  rw [ex_canPay]
  by_cases h0 : x < 0
  · exact br_t h0 H
  · refine br_f h0 ?_
    have h1 : xg_world u (s * 6 + 1) < x := Classical.byContradiction fun z => h ⟨h0, z⟩
    simp (disch := omega) only [nI_clamp, nu_m6, nu_a1, nu_vp, true_and]
    exact br_t h1 H
theorem xw_frameFree_t {post : Int32 → Prop} {u : SX} {d D n : Nat} (hd : xg_active u = nI d) (hD : xg_maxDepth u = nI D) (hN : xg_frameTotal u = nI n) (h1 : d < D) (h2 : D ≤ 8) (h3 : n < 32) (H : post 1) : wpX_frameFree post u := by
  rw [ex_frameFree, hd, hD, hN]
  exact br_f (nI_ge h1 (by omega)) (br_f (nI_ge (b := 32) h3 (by decide)) H)
theorem xw_frameFree_f {post : Int32 → Prop} {u : SX} {d D n : Nat} (hd : xg_active u = nI d) (hD : xg_maxDepth u = nI D) (hN : xg_frameTotal u = nI n) (h0 : d ≤ 8) (h2 : D ≤ 8) (h3 : n ≤ 32) (h : ¬ (d < D ∧ n < 32)) (H : post 0) : wpX_frameFree post u := by
  rw [ex_frameFree, hd, hD, hN]
  by_cases h1 : d < D
  · exact br_f (nI_ge h1 (by omega)) (br_t (nI_le (a := 32) (by omega) (by omega)) H)
  · exact br_t (nI_le (by omega) (by omega)) H
theorem xw_gasCap {post : Int32 → Prop} {u : SX} {f g : Nat} (hf : f < 8) (hg : xg_frGas u f = nI g) (g2 : g ≤ 2000) (H : post (nI (g - g / 8))) : wpX_gasCap post u (nI f) := by
  rw [ex_gasCap, nI_clamp (by omega), hg]
  have e : nI g - nI g / 8 = nI (g - g / 8) := by
    rw [show nI g / 8 = nI (g / 8) from pk_div (d := 8) (by omega) (by decide) (by decide), pk_sub (Nat.div_le_self _ _)]
  rw [e]
  exact ⟨vp_in_nI hf (by decide), vp_in_nI hf (by decide), by decide, H⟩
theorem xw_notEntered {post : SX → Prop} {u : SX} {f h : Nat} {w : Int32} (hf : f < 8) (hh : xg_frHeight u f = nI h) (h16 : h < 16) (H : post (xu_push f w h (xs_frResult (upd (xg_frResult u) f 0) u))) : wpX_notEntered post u (nI f) w := by
  rw [ex_notEntered, nI_clamp (by omega)]
  exact ⟨vp_in_nI hf (by decide), nm_e (xw_push hf hh h16 H)⟩
def xu_set (f : Nat) (k c s a x i z : Int32) (u : SX) : SX := xm_frKind_frCode_frSelf_frCaller_frValue_frInput_frStatic (upd (xg_frKind u) f k) (upd (xg_frCode u) f c) (upd (xg_frSelf u) f s) (upd (xg_frCaller u) f a) (upd (xg_frValue u) f x) (upd (xg_frInput u) f i) (upd (xg_frStatic u) f z) u
theorem xw_setFrame {post : SX → Prop} {u : SX} {f : Nat} {k c s a x i z : Int32} (hf : f < 8) (hd : xg_active u = nI f) (H : post (xu_set f k c s a x i z u)) : wpX_setFrame post u k c s a x i z := by
  have v := vp_in_nI hf (N := 8) (by decide)
  rw [ex_setFrame, hd, nI_clamp (by omega)]
  exact ⟨v, nm_e ⟨v, nm_e ⟨v, nm_e ⟨v, nm_e ⟨v, nm_e ⟨v, nm_e ⟨v, nm_e H⟩⟩⟩⟩⟩⟩⟩
end
section
theorem xq_entryWorld_entryWorld (z : Nat → Int32) (u : SX) : xg_entryWorld (xs_entryWorld z u) = z := id rfl
theorem xq_entryWorld_world (z : Nat → Int32) (u : SX) : xg_entryWorld (xs_world z u) = xg_entryWorld u := id rfl
theorem xq_world_entryWorld (z : Nat → Int32) (u : SX) : xg_world (xs_entryWorld z u) = xg_world u := id rfl
theorem xq_world_world (z : Nat → Int32) (u : SX) : xg_world (xs_world z u) = z := id rfl
theorem xx_entryWorld (y z : Nat → Int32) (u : SX) : xs_entryWorld y (xs_entryWorld z u) = xs_entryWorld y u := id rfl
theorem xx_world (y z : Nat → Int32) (u : SX) : xs_world y (xs_world z u) = xs_world y u := id rfl
/-! X: saving, restoring, counting; the end of a frame, the entry of one -/
theorem xs_eself (u : SX) : xs_entryWorld (xg_entryWorld u) u = u := id rfl
theorem xs_wself (u : SX) : xs_world (xg_world u) u = u := id rfl
def xu_save (f : Nat) (u : SX) : SX := (u.1, u.2.1, u.2.2.1, u.2.2.2.1, u.2.2.2.2.1, u.2.2.2.2.2.1, u.2.2.2.2.2.2.1, u.2.2.2.2.2.2.2.1, u.2.2.2.2.2.2.2.2.1, u.2.2.2.2.2.2.2.2.2.1, u.2.2.2.2.2.2.2.2.2.2.1, u.2.2.2.2.2.2.2.2.2.2.2.1, u.2.2.2.2.2.2.2.2.2.2.2.2.1, u.2.2.2.2.2.2.2.2.2.2.2.2.2.1, u.2.2.2.2.2.2.2.2.2.2.2.2.2.2.1, u.2.2.2.2.2.2.2.2.2.2.2.2.2.2.2.1, u.2.2.2.2.2.2.2.2.2.2.2.2.2.2.2.2.1, u.2.2.2.2.2.2.2.2.2.2.2.2.2.2.2.2.2.1, u.2.2.2.2.2.2.2.2.2.2.2.2.2.2.2.2.2.2.1, u.2.2.2.2.2.2.2.2.2.2.2.2.2.2.2.2.2.2.2.1, u.2.2.2.2.2.2.2.2.2.2.2.2.2.2.2.2.2.2.2.2.1, u.2.2.2.2.2.2.2.2.2.2.2.2.2.2.2.2.2.2.2.2.2.1, u.2.2.2.2.2.2.2.2.2.2.2.2.2.2.2.2.2.2.2.2.2.2.1, u.2.2.2.2.2.2.2.2.2.2.2.2.2.2.2.2.2.2.2.2.2.2.2.1, u.2.2.2.2.2.2.2.2.2.2.2.2.2.2.2.2.2.2.2.2.2.2.2.2.1, u.2.2.2.2.2.2.2.2.2.2.2.2.2.2.2.2.2.2.2.2.2.2.2.2.2.1, u.2.2.2.2.2.2.2.2.2.2.2.2.2.2.2.2.2.2.2.2.2.2.2.2.2.2.1, u.2.2.2.2.2.2.2.2.2.2.2.2.2.2.2.2.2.2.2.2.2.2.2.2.2.2.2.1, u.2.2.2.2.2.2.2.2.2.2.2.2.2.2.2.2.2.2.2.2.2.2.2.2.2.2.2.2.1, u.2.2.2.2.2.2.2.2.2.2.2.2.2.2.2.2.2.2.2.2.2.2.2.2.2.2.2.2.2.1, u.2.2.2.2.2.2.2.2.2.2.2.2.2.2.2.2.2.2.2.2.2.2.2.2.2.2.2.2.2.2.1, u.2.2.2.2.2.2.2.2.2.2.2.2.2.2.2.2.2.2.2.2.2.2.2.2.2.2.2.2.2.2.2.1, cp_ (xg_entryWorld u) (xg_world u) (f * 48) 48, upd (xg_entryLogs u) f (xg_logTotal u))
theorem xl_save {post : SX → Prop} {u : SX} {f : Nat} (hf : f < 8) (H : post (xu_save f u)) : ∀ k i n, i + k = 48 → k < n → zx_saveEntry_2 post (nI f) n (nI i) (xs_entryWorld (cp_ (xg_entryWorld u) (xg_world u) (f * 48) i) u) := by
  intro k
  induction k with
  | zero =>
    intro i n hi hn
    obtain ⟨m, rfl⟩ : ∃ m, n = m + 1 := ⟨n - 1, by omega⟩
    obtain rfl : i = 48 := by omega
    have e1 : (48 ≤ 48) = True := eq_true (by omega)
    simp (disch := omega) only [ex_saveEntry_2, e1, nI_clamp, nu_m6, nu_m10, nu_m16, nu_m32, nu_m48, nI_add, nu_a0, nu_a1, nu_a2, nu_a3, nu_a4, nu_a5, nu_a6, nu_a7, nu_a8, nu_a9, nI_pred, nu_s1, nu_s2, nu_s3, nu_s4, nu_vp, nu_lt0, nu_le0, nu_eq0, nu_clt0, nu_cle0, nu_lt1, nu_le1, nu_eq1, nu_clt1, nu_cle1, nu_lt2, nu_le2, nu_eq2, nu_clt2, nu_cle2, nu_lt3, nu_le3, nu_eq3, nu_clt3, nu_cle3, nu_lt4, nu_le4, nu_eq4, nu_clt4, nu_cle4, nu_lt5, nu_le5, nu_eq5, nu_clt5, nu_cle5, nu_lt7, nu_le7, nu_eq7, nu_clt7, nu_cle7, nu_lt8, nu_le8, nu_eq8, nu_clt8, nu_cle8, nu_lt9, nu_le9, nu_eq9, nu_clt9, nu_cle9, nu_lt10, nu_le10, nu_eq10, nu_clt10, nu_cle10, nu_lt16, nu_le16, nu_eq16, nu_clt16, nu_cle16, nu_lt29, nu_le29, nu_eq29, nu_clt29, nu_cle29, nu_lt32, nu_le32, nu_eq32, nu_clt32, nu_cle32, nu_lt36, nu_le36, nu_eq36, nu_clt36, nu_cle36, nu_lt37, nu_le37, nu_eq37, nu_clt37, nu_cle37, nu_lt48, nu_le48, nu_eq48, nu_clt48, nu_cle48, nu_lt2000, nu_le2000, nu_eq2000, nu_clt2000, nu_cle2000, nu_lt2032, nu_le2032, nu_eq2032, nu_clt2032, nu_cle2032, nu_lt4000, nu_le4000, nu_eq4000, nu_clt4000, nu_cle4000, nu_le, nu_lt, nu_eq, pk_us, forall_eq, true_and, and_true, false_implies, true_implies, implies_true, not_false_eq_true, not_true_eq_false, and_self]
    exact H
  | succ k ih =>
    intro i n hi hn
    obtain ⟨m, rfl⟩ : ∃ m, n = m + 1 := ⟨n - 1, by omega⟩
    have e1 : (48 ≤ i) = False := eq_false (by omega)
    simp (disch := omega) only [ex_saveEntry_2, e1, xq_entryWorld_entryWorld, xq_world_entryWorld, xx_entryWorld, cp_s, nI_clamp, nu_m6, nu_m10, nu_m16, nu_m32, nu_m48, nI_add, nu_a0, nu_a1, nu_a2, nu_a3, nu_a4, nu_a5, nu_a6, nu_a7, nu_a8, nu_a9, nI_pred, nu_s1, nu_s2, nu_s3, nu_s4, nu_vp, nu_lt0, nu_le0, nu_eq0, nu_clt0, nu_cle0, nu_lt1, nu_le1, nu_eq1, nu_clt1, nu_cle1, nu_lt2, nu_le2, nu_eq2, nu_clt2, nu_cle2, nu_lt3, nu_le3, nu_eq3, nu_clt3, nu_cle3, nu_lt4, nu_le4, nu_eq4, nu_clt4, nu_cle4, nu_lt5, nu_le5, nu_eq5, nu_clt5, nu_cle5, nu_lt7, nu_le7, nu_eq7, nu_clt7, nu_cle7, nu_lt8, nu_le8, nu_eq8, nu_clt8, nu_cle8, nu_lt9, nu_le9, nu_eq9, nu_clt9, nu_cle9, nu_lt10, nu_le10, nu_eq10, nu_clt10, nu_cle10, nu_lt16, nu_le16, nu_eq16, nu_clt16, nu_cle16, nu_lt29, nu_le29, nu_eq29, nu_clt29, nu_cle29, nu_lt32, nu_le32, nu_eq32, nu_clt32, nu_cle32, nu_lt36, nu_le36, nu_eq36, nu_clt36, nu_cle36, nu_lt37, nu_le37, nu_eq37, nu_clt37, nu_cle37, nu_lt48, nu_le48, nu_eq48, nu_clt48, nu_cle48, nu_lt2000, nu_le2000, nu_eq2000, nu_clt2000, nu_cle2000, nu_lt2032, nu_le2032, nu_eq2032, nu_clt2032, nu_cle2032, nu_lt4000, nu_le4000, nu_eq4000, nu_clt4000, nu_cle4000, nu_le, nu_lt, nu_eq, pk_us, forall_eq, true_and, and_true, false_implies, true_implies, implies_true, not_false_eq_true, not_true_eq_false, and_self]
    exact ih (i + 1) m (by omega) (by omega)
theorem xw_save {post : SX → Prop} {u : SX} {f : Nat} (hf : f < 8) (H : post (xu_save f u)) : wpX_saveEntry post u (nI f) := by
  rw [ex_saveEntry]
  refine ⟨49, ?_⟩
  have h := xl_save hf H 48 0 49 (by omega) (by omega)
  rw [cp_0, xs_eself] at h
  exact h
def xu_rest (f : Nat) (u : SX) : SX := (u.1, u.2.1, u.2.2.1, u.2.2.2.1, u.2.2.2.2.1, u.2.2.2.2.2.1, u.2.2.2.2.2.2.1, xg_entryLogs u f, u.2.2.2.2.2.2.2.2.1, u.2.2.2.2.2.2.2.2.2.1, u.2.2.2.2.2.2.2.2.2.2.1, u.2.2.2.2.2.2.2.2.2.2.2.1, cp_ (xg_world u) (fun i => xg_entryWorld u (f * 48 + i)) 0 48, u.2.2.2.2.2.2.2.2.2.2.2.2.2.1, u.2.2.2.2.2.2.2.2.2.2.2.2.2.2.1, u.2.2.2.2.2.2.2.2.2.2.2.2.2.2.2.1, u.2.2.2.2.2.2.2.2.2.2.2.2.2.2.2.2.1, u.2.2.2.2.2.2.2.2.2.2.2.2.2.2.2.2.2.1, u.2.2.2.2.2.2.2.2.2.2.2.2.2.2.2.2.2.2.1, u.2.2.2.2.2.2.2.2.2.2.2.2.2.2.2.2.2.2.2.1, u.2.2.2.2.2.2.2.2.2.2.2.2.2.2.2.2.2.2.2.2.1, u.2.2.2.2.2.2.2.2.2.2.2.2.2.2.2.2.2.2.2.2.2.1, u.2.2.2.2.2.2.2.2.2.2.2.2.2.2.2.2.2.2.2.2.2.2.1, u.2.2.2.2.2.2.2.2.2.2.2.2.2.2.2.2.2.2.2.2.2.2.2.1, u.2.2.2.2.2.2.2.2.2.2.2.2.2.2.2.2.2.2.2.2.2.2.2.2.1, u.2.2.2.2.2.2.2.2.2.2.2.2.2.2.2.2.2.2.2.2.2.2.2.2.2.1, u.2.2.2.2.2.2.2.2.2.2.2.2.2.2.2.2.2.2.2.2.2.2.2.2.2.2.1, u.2.2.2.2.2.2.2.2.2.2.2.2.2.2.2.2.2.2.2.2.2.2.2.2.2.2.2.1, u.2.2.2.2.2.2.2.2.2.2.2.2.2.2.2.2.2.2.2.2.2.2.2.2.2.2.2.2.1, u.2.2.2.2.2.2.2.2.2.2.2.2.2.2.2.2.2.2.2.2.2.2.2.2.2.2.2.2.2.1, u.2.2.2.2.2.2.2.2.2.2.2.2.2.2.2.2.2.2.2.2.2.2.2.2.2.2.2.2.2.2.1, u.2.2.2.2.2.2.2.2.2.2.2.2.2.2.2.2.2.2.2.2.2.2.2.2.2.2.2.2.2.2.2.1, u.2.2.2.2.2.2.2.2.2.2.2.2.2.2.2.2.2.2.2.2.2.2.2.2.2.2.2.2.2.2.2.2.1, u.2.2.2.2.2.2.2.2.2.2.2.2.2.2.2.2.2.2.2.2.2.2.2.2.2.2.2.2.2.2.2.2.2)
theorem cp_s0 (dst src : Nat → Int32) (n : Nat) : upd (cp_ dst src 0 n) n (src n) = cp_ dst src 0 (n + 1) := by
  have h := cp_s dst src 0 n
  rw [Nat.zero_add] at h
  exact h
theorem xl_rest {post : SX → Prop} {u : SX} {f : Nat} (hf : f < 8) (H : post (xu_rest f u)) : ∀ k i n, i + k = 48 → k < n → zx_restoreEntry_2 post (nI f) n (nI i) (xs_world (cp_ (xg_world u) (fun i => xg_entryWorld u (f * 48 + i)) 0 i) u) := by
  intro k
  induction k with
  | zero =>
    intro i n hi hn
    obtain ⟨m, rfl⟩ : ∃ m, n = m + 1 := ⟨n - 1, by omega⟩
    obtain rfl : i = 48 := by omega
    have e1 : (48 ≤ 48) = True := eq_true (by omega)
    simp (disch := omega) only [ex_restoreEntry_2, e1, nI_clamp, nu_m6, nu_m10, nu_m16, nu_m32, nu_m48, nI_add, nu_a0, nu_a1, nu_a2, nu_a3, nu_a4, nu_a5, nu_a6, nu_a7, nu_a8, nu_a9, nI_pred, nu_s1, nu_s2, nu_s3, nu_s4, nu_vp, nu_lt0, nu_le0, nu_eq0, nu_clt0, nu_cle0, nu_lt1, nu_le1, nu_eq1, nu_clt1, nu_cle1, nu_lt2, nu_le2, nu_eq2, nu_clt2, nu_cle2, nu_lt3, nu_le3, nu_eq3, nu_clt3, nu_cle3, nu_lt4, nu_le4, nu_eq4, nu_clt4, nu_cle4, nu_lt5, nu_le5, nu_eq5, nu_clt5, nu_cle5, nu_lt7, nu_le7, nu_eq7, nu_clt7, nu_cle7, nu_lt8, nu_le8, nu_eq8, nu_clt8, nu_cle8, nu_lt9, nu_le9, nu_eq9, nu_clt9, nu_cle9, nu_lt10, nu_le10, nu_eq10, nu_clt10, nu_cle10, nu_lt16, nu_le16, nu_eq16, nu_clt16, nu_cle16, nu_lt29, nu_le29, nu_eq29, nu_clt29, nu_cle29, nu_lt32, nu_le32, nu_eq32, nu_clt32, nu_cle32, nu_lt36, nu_le36, nu_eq36, nu_clt36, nu_cle36, nu_lt37, nu_le37, nu_eq37, nu_clt37, nu_cle37, nu_lt48, nu_le48, nu_eq48, nu_clt48, nu_cle48, nu_lt2000, nu_le2000, nu_eq2000, nu_clt2000, nu_cle2000, nu_lt2032, nu_le2032, nu_eq2032, nu_clt2032, nu_cle2032, nu_lt4000, nu_le4000, nu_eq4000, nu_clt4000, nu_cle4000, nu_le, nu_lt, nu_eq, pk_us, forall_eq, true_and, and_true, false_implies, true_implies, implies_true, not_false_eq_true, not_true_eq_false, and_self]
    exact H
  | succ k ih =>
    intro i n hi hn
    obtain ⟨m, rfl⟩ : ∃ m, n = m + 1 := ⟨n - 1, by omega⟩
    have e1 : (48 ≤ i) = False := eq_false (by omega)
    simp (disch := omega) only [ex_restoreEntry_2, e1, xq_entryWorld_world, xq_world_world, xx_world, nI_clamp, nu_m6, nu_m10, nu_m16, nu_m32, nu_m48, nI_add, nu_a0, nu_a1, nu_a2, nu_a3, nu_a4, nu_a5, nu_a6, nu_a7, nu_a8, nu_a9, nI_pred, nu_s1, nu_s2, nu_s3, nu_s4, nu_vp, nu_lt0, nu_le0, nu_eq0, nu_clt0, nu_cle0, nu_lt1, nu_le1, nu_eq1, nu_clt1, nu_cle1, nu_lt2, nu_le2, nu_eq2, nu_clt2, nu_cle2, nu_lt3, nu_le3, nu_eq3, nu_clt3, nu_cle3, nu_lt4, nu_le4, nu_eq4, nu_clt4, nu_cle4, nu_lt5, nu_le5, nu_eq5, nu_clt5, nu_cle5, nu_lt7, nu_le7, nu_eq7, nu_clt7, nu_cle7, nu_lt8, nu_le8, nu_eq8, nu_clt8, nu_cle8, nu_lt9, nu_le9, nu_eq9, nu_clt9, nu_cle9, nu_lt10, nu_le10, nu_eq10, nu_clt10, nu_cle10, nu_lt16, nu_le16, nu_eq16, nu_clt16, nu_cle16, nu_lt29, nu_le29, nu_eq29, nu_clt29, nu_cle29, nu_lt32, nu_le32, nu_eq32, nu_clt32, nu_cle32, nu_lt36, nu_le36, nu_eq36, nu_clt36, nu_cle36, nu_lt37, nu_le37, nu_eq37, nu_clt37, nu_cle37, nu_lt48, nu_le48, nu_eq48, nu_clt48, nu_cle48, nu_lt2000, nu_le2000, nu_eq2000, nu_clt2000, nu_cle2000, nu_lt2032, nu_le2032, nu_eq2032, nu_clt2032, nu_cle2032, nu_lt4000, nu_le4000, nu_eq4000, nu_clt4000, nu_cle4000, nu_le, nu_lt, nu_eq, pk_us, forall_eq, true_and, and_true, false_implies, true_implies, implies_true, not_false_eq_true, not_true_eq_false, and_self]
    rw [cp_s0 (xg_world u) (fun i => xg_entryWorld u (f * 48 + i)) i]
    exact ih (i + 1) m (by omega) (by omega)
theorem xw_rest {post : SX → Prop} {u : SX} {f : Nat} (hf : f < 8) (H : post (xu_rest f u)) : wpX_restoreEntry post u (nI f) := by
  rw [ex_restoreEntry]
  refine ⟨49, ?_⟩
  have h := xl_rest hf H 48 0 49 (by omega) (by omega)
  rw [cp_0, xs_wself] at h
  exact h
theorem xl_count {post : Int32 → Prop} {u : SX} {f : Nat} {c : Int32} (hf : f < 8) (H : post (cn_ (xg_world u) (fun i => xg_entryWorld u (f * 48 + i)) c 48)) : ∀ k i n, i + k = 48 → k < n → zx_countChanges_14 post (nI f) n (cn_ (xg_world u) (fun i => xg_entryWorld u (f * 48 + i)) c i) (nI i) u := by
  intro k
  induction k with
  | zero =>
    intro i n hi hn
    obtain ⟨m, rfl⟩ : ∃ m, n = m + 1 := ⟨n - 1, by omega⟩
    obtain rfl : i = 48 := by omega
    rw [ex_countChanges_14]
    exact br_t (nI_le (a := 48) (by omega) (by decide)) H
  | succ k ih =>
    intro i n hi hn
    obtain ⟨m, rfl⟩ : ∃ m, n = m + 1 := ⟨n - 1, by omega⟩
    have h := ih (i + 1) m (by omega) (by omega)
    unfold cn_ at h
    rw [ex_countChanges_14]
    refine br_f (nI_ge (b := 48) (by omega) (by decide)) ?_
    simp (disch := omega) only [nI_clamp, nu_m48, nI_add, nu_vp, nu_a1, forall_eq, true_and]
    refine br_c (fun z => ?_) (fun z => ?_)
    · rw [if_pos z] at h; exact h
    · rw [if_neg z] at h; exact h
theorem xw_count {post : Int32 → Prop} {u : SX} {f : Nat} (hf : f < 8) (H : post (cn_ (xg_world u) (fun i => xg_entryWorld u (f * 48 + i)) (xg_logTotal u - xg_entryLogs u f) 48)) : wpX_countChanges post u (nI f) := by
  rw [ex_countChanges, nI_clamp (n := f) (by omega)]
  exact ⟨vp_in_nI hf (by decide), nm_e ⟨49, xl_count hf H 48 0 49 (by omega) (by omega)⟩⟩
def ab_ans (k s out : Int32) : Int32 := if k = 4 then (if out = 1 then s else -1) else (if out = 1 then 1 else 0)
theorem xw_resume {post : SX → Prop} {u : SX} {f : Nat} {out ret r : Int32} (hf : f + 1 < 8) (H : wpX_push post (xm_frGas_frResult (upd (xg_frGas u) f (xg_frGas u f + r)) (upd (xg_frResult u) f ret) u) (nI f) (ab_ans (xg_frKind u (f + 1)) (xg_frSelf u (f + 1)) out)) : wpX_resumeParent post u (nI (f + 1)) out ret r := by
  have v := vp_in_nI (n := f) (N := 8) (by omega) (by decide)
  have v1 := vp_in_nI hf (N := 8) (by decide)
  rw [ex_resumeParent, nI_pred]
  refine nm_e ?_
  rw [nI_clamp (n := f) (by omega), nI_clamp (n := f + 1) (by omega)]
  unfold ab_ans at H
  refine ⟨v, v, nm_e ⟨v, nm_e ⟨v1, br_c (fun z => ?_) (fun z => ?_)⟩⟩⟩
  · rw [if_pos z] at H
    refine br_c (fun y => ?_) (fun y => ?_)
    · rw [if_pos y] at H
      refine ⟨v1, ?_⟩
      rw [ex_resumeParent_50, ex_resumeParent_67]; exact H
    · rw [if_neg y] at H
      rw [ex_resumeParent_50, ex_resumeParent_67]; exact H
  · rw [if_neg z] at H
    refine br_c (fun y => ?_) (fun y => ?_)
    · rw [if_pos y] at H
      rw [ex_resumeParent_65, ex_resumeParent_67]; exact H
    · rw [if_neg y] at H
      rw [ex_resumeParent_65, ex_resumeParent_67]; exact H
def rc_ (R : Nat → Int32) (F : Nat) (out r o c : Int32) : Nat → Int32 := upd (upd (upd (upd R (F * 10 + 5) out) (F * 10 + 7) r) (F * 10 + 8) o) (F * 10 + 9) c
theorem xw_end114 {post : SX → Prop} {u : SX} {f F : Nat} {out ret r : Int32} (hf : f < 8) (hd : xg_active u = nI (f + 1)) (hF : xg_frNumber u f = nI F) (F32 : F < 32)
    (H0 : f = 0 → post (xm_lastWord_active_records ret (nI f) (rc_ (xg_records u) F out r (xg_frOwn u f) (cn_ (xg_world u) (fun i => xg_entryWorld u (f * 48 + i)) (xg_logTotal u - xg_entryLogs u f) 48)) u))
    (H1 : 0 < f → wpX_resumeParent post (xm_active_records (nI f) (rc_ (xg_records u) F out r (xg_frOwn u f) (cn_ (xg_world u) (fun i => xg_entryWorld u (f * 48 + i)) (xg_logTotal u - xg_entryLogs u f) 48)) u) (nI f) out ret r) : zx_endFrame_114 post (nI f) out ret r u := by
  rw [ex_endFrame_114, nI_clamp (n := f) (by omega), hF, hd, nI_pred]
  have v := vp_in_nI hf (N := 8) (by decide)
  refine ⟨v, nm_e (xw_count hf ?_)⟩
  simp (disch := omega) only [nu_m10, nu_a5, nu_a7, nu_a8, nu_a9, nI_clamp, nu_vp, forall_eq, true_and]
  by_cases z : f = 0
  · exact br_t (nI_le (b := 0) (by omega) (by decide)) (H0 z)
  · exact br_f (nI_nle (by omega) (by omega)) (H1 (by omega))
def xu_end (O W R : Nat → Int32) (L : Int32) (f : Nat) (u : SX) : SX := (u.1, u.2.1, u.2.2.1, u.2.2.2.1, u.2.2.2.2.1, u.2.2.2.2.2.1, u.2.2.2.2.2.2.1, L, u.2.2.2.2.2.2.2.2.1, nI f, u.2.2.2.2.2.2.2.2.2.2.1, u.2.2.2.2.2.2.2.2.2.2.2.1, W, R, u.2.2.2.2.2.2.2.2.2.2.2.2.2.2.1, u.2.2.2.2.2.2.2.2.2.2.2.2.2.2.2.1, u.2.2.2.2.2.2.2.2.2.2.2.2.2.2.2.2.1, u.2.2.2.2.2.2.2.2.2.2.2.2.2.2.2.2.2.1, u.2.2.2.2.2.2.2.2.2.2.2.2.2.2.2.2.2.2.1, u.2.2.2.2.2.2.2.2.2.2.2.2.2.2.2.2.2.2.2.1, u.2.2.2.2.2.2.2.2.2.2.2.2.2.2.2.2.2.2.2.2.1, u.2.2.2.2.2.2.2.2.2.2.2.2.2.2.2.2.2.2.2.2.2.1, u.2.2.2.2.2.2.2.2.2.2.2.2.2.2.2.2.2.2.2.2.2.2.1, u.2.2.2.2.2.2.2.2.2.2.2.2.2.2.2.2.2.2.2.2.2.2.2.1, u.2.2.2.2.2.2.2.2.2.2.2.2.2.2.2.2.2.2.2.2.2.2.2.2.1, O, u.2.2.2.2.2.2.2.2.2.2.2.2.2.2.2.2.2.2.2.2.2.2.2.2.2.2.1, u.2.2.2.2.2.2.2.2.2.2.2.2.2.2.2.2.2.2.2.2.2.2.2.2.2.2.2.1, u.2.2.2.2.2.2.2.2.2.2.2.2.2.2.2.2.2.2.2.2.2.2.2.2.2.2.2.2.1, u.2.2.2.2.2.2.2.2.2.2.2.2.2.2.2.2.2.2.2.2.2.2.2.2.2.2.2.2.2.1, u.2.2.2.2.2.2.2.2.2.2.2.2.2.2.2.2.2.2.2.2.2.2.2.2.2.2.2.2.2.2.1, u.2.2.2.2.2.2.2.2.2.2.2.2.2.2.2.2.2.2.2.2.2.2.2.2.2.2.2.2.2.2.2.1, u.2.2.2.2.2.2.2.2.2.2.2.2.2.2.2.2.2.2.2.2.2.2.2.2.2.2.2.2.2.2.2.2.1, u.2.2.2.2.2.2.2.2.2.2.2.2.2.2.2.2.2.2.2.2.2.2.2.2.2.2.2.2.2.2.2.2.2)
def xd_R (O W : Nat → Int32) (L out r : Int32) (f F : Nat) (u : SX) : Nat → Int32 := rc_ (xg_records u) F out r (O f) (cn_ W (fun i => xg_entryWorld u (f * 48 + i)) (L - xg_entryLogs u f) 48)
/-- how a frame's outcome decides world, logs, own gas and returned gas -/
def ab_case (out : Int32) (w0 w1 o0 o1 : Nat → Int32) (l0 l1 g : Int32) (W O : Nat → Int32) (L r : Int32) : Prop :=
  (out = 1 ∧ W = w0 ∧ L = l0 ∧ O = o0 ∧ r = g) ∨ (out = 2 ∧ W = w1 ∧ L = l1 ∧ O = o0 ∧ r = g) ∨ (out ≠ 1 ∧ out ≠ 2 ∧ W = w1 ∧ L = l1 ∧ O = o1 ∧ r = 0)
theorem xw_end62 {post : SX → Prop} {u : SX} {f F : Nat} {out ret r L : Int32} {W O : Nat → Int32} (hf : f < 8) (hd : xg_active u = nI (f + 1)) (hF : xg_frNumber u f = nI F) (F32 : F < 32)
    (hc : ab_case out (xg_world u) (cp_ (xg_world u) (fun i => xg_entryWorld u (f * 48 + i)) 0 48) (xg_frOwn u) (upd (xg_frOwn u) f (xg_frOwn u f + xg_frGas u f)) (xg_logTotal u) (xg_entryLogs u f) (xg_frGas u f) W O L r)
    (H0 : f = 0 → post (xs_lastWord ret (xu_end O W (xd_R O W L out r f F u) L f u)))
    (H1 : 0 < f → wpX_resumeParent post (xu_end O W (xd_R O W L out r f F u) L f u) (nI f) out ret r) : zx_endFrame_62 post (nI f) out ret u := by
  have v := vp_in_nI hf (N := 8) (by decide)
  rw [ex_endFrame_62]
  rcases hc with ⟨rfl, rfl, rfl, rfl, rfl⟩ | ⟨rfl, rfl, rfl, rfl, rfl⟩ | ⟨h1, h2, rfl, rfl, rfl, rfl⟩
  · refine br_t rfl ?_
    rw [ex_endFrame_73]
    refine br_t rfl ?_
    rw [ex_endFrame_88, nI_clamp (n := f) (by omega)]
    exact ⟨v, nm_e (xw_end114 hf hd hF F32 H0 H1)⟩
  · refine br_f (by decide) (xw_rest hf ?_)
    rw [ex_endFrame_73]
    refine br_f (by decide) (br_t rfl ?_)
    rw [ex_endFrame_88, nI_clamp (n := f) (by omega)]
    exact ⟨v, nm_e (xw_end114 (u := xu_rest f u) hf hd hF F32 H0 H1)⟩
  · refine br_f h1 (xw_rest hf ?_)
    rw [ex_endFrame_73]
    refine br_f h1 (br_f h2 ?_)
    rw [nI_clamp (n := f) (by omega)]
    refine ⟨v, v, v, nm_e ?_⟩
    refine xw_end114 (u := xs_frOwn (upd (xg_frOwn u) f (xg_frOwn u f + xg_frGas u f)) (xu_rest f u)) hf hd hF F32 ?_ ?_
    · exact H0
    · exact H1
end
section
theorem xq_memory_memory (z : Nat → Int32) (u : SX) : xg_memory (xs_memory z u) = z := id rfl
theorem xx_memory (y z : Nat → Int32) (u : SX) : xs_memory y (xs_memory z u) = xs_memory y u := id rfl
/-! X: the entry of a frame -/
def re_ (R : Nat → Int32) (F : Nat) (k par s c z g : Int32) : Nat → Int32 := upd (upd (upd (upd (upd (upd R (F * 10) k) (F * 10 + 1) par) (F * 10 + 2) s) (F * 10 + 3) c) (F * 10 + 4) z) (F * 10 + 6) g
theorem xw_record {post : SX → Prop} {u : SX} {f F : Nat} {par : Int32} (hf : f < 8) (hF : xg_frNumber u f = nI F) (F32 : F < 32) (hp : (f = 0 ∧ par = -1) ∨ (0 < f ∧ par = xg_frNumber u (f - 1)))
    (H : post (xs_records (re_ (xg_records u) F (xg_frKind u f) par (xg_frSelf u f) (xg_frCode u f) (xg_frStatic u f) (xg_frGas u f)) u)) : wpX_recordEntry post u (nI f) := by
  have v := vp_in_nI hf (N := 8) (by decide)
  have K : zx_recordEntry_25 post (nI f) (nI (F * 10)) par u := by
    rw [ex_recordEntry_25]
    simp (disch := omega) only [nI_clamp, nu_a0, nu_a1, nu_a2, nu_a3, nu_a4, nu_a6, nu_vp, forall_eq, true_and]
    exact H
  rw [ex_recordEntry, nI_clamp (n := f) (by omega), hF, nu_m10]
  refine ⟨v, nm_e ?_⟩
  rcases hp with ⟨h0, rfl⟩ | ⟨h0, rfl⟩
  · exact br_t (nI_le (b := 0) (by omega) (by decide)) K
  · refine br_f (nI_nle (by omega) (by omega)) ?_
    rw [nu_s1 (by omega), nI_clamp (n := f - 1) (by omega)]
    exact ⟨vp_in_nI (by omega) (by decide), nm_e K⟩
def xu_fin (f F : Nat) (par : Int32) (u : SX) : SX := (u.1, u.2.1, u.2.2.1, u.2.2.2.1, u.2.2.2.2.1, u.2.2.2.2.2.1, nI (F + 1), u.2.2.2.2.2.2.2.1, u.2.2.2.2.2.2.2.2.1, nI (f + 1), u.2.2.2.2.2.2.2.2.2.2.1, u.2.2.2.2.2.2.2.2.2.2.2.1, u.2.2.2.2.2.2.2.2.2.2.2.2.1, re_ (xg_records u) F (xg_frKind u f) par (xg_frSelf u f) (xg_frCode u f) (xg_frStatic u f) (xg_frGas u f), u.2.2.2.2.2.2.2.2.2.2.2.2.2.2.1, u.2.2.2.2.2.2.2.2.2.2.2.2.2.2.2.1, u.2.2.2.2.2.2.2.2.2.2.2.2.2.2.2.2.1, u.2.2.2.2.2.2.2.2.2.2.2.2.2.2.2.2.2.1, u.2.2.2.2.2.2.2.2.2.2.2.2.2.2.2.2.2.2.1, u.2.2.2.2.2.2.2.2.2.2.2.2.2.2.2.2.2.2.2.1, u.2.2.2.2.2.2.2.2.2.2.2.2.2.2.2.2.2.2.2.2.1, u.2.2.2.2.2.2.2.2.2.2.2.2.2.2.2.2.2.2.2.2.2.1, u.2.2.2.2.2.2.2.2.2.2.2.2.2.2.2.2.2.2.2.2.2.2.1, u.2.2.2.2.2.2.2.2.2.2.2.2.2.2.2.2.2.2.2.2.2.2.2.1, u.2.2.2.2.2.2.2.2.2.2.2.2.2.2.2.2.2.2.2.2.2.2.2.2.1, u.2.2.2.2.2.2.2.2.2.2.2.2.2.2.2.2.2.2.2.2.2.2.2.2.2.1, u.2.2.2.2.2.2.2.2.2.2.2.2.2.2.2.2.2.2.2.2.2.2.2.2.2.2.1, u.2.2.2.2.2.2.2.2.2.2.2.2.2.2.2.2.2.2.2.2.2.2.2.2.2.2.2.1, u.2.2.2.2.2.2.2.2.2.2.2.2.2.2.2.2.2.2.2.2.2.2.2.2.2.2.2.2.1, u.2.2.2.2.2.2.2.2.2.2.2.2.2.2.2.2.2.2.2.2.2.2.2.2.2.2.2.2.2.1, u.2.2.2.2.2.2.2.2.2.2.2.2.2.2.2.2.2.2.2.2.2.2.2.2.2.2.2.2.2.2.1, u.2.2.2.2.2.2.2.2.2.2.2.2.2.2.2.2.2.2.2.2.2.2.2.2.2.2.2.2.2.2.2.1, u.2.2.2.2.2.2.2.2.2.2.2.2.2.2.2.2.2.2.2.2.2.2.2.2.2.2.2.2.2.2.2.2.1, u.2.2.2.2.2.2.2.2.2.2.2.2.2.2.2.2.2.2.2.2.2.2.2.2.2.2.2.2.2.2.2.2.2)
theorem xl_ent157 {post : SX → Prop} {u : SX} {f F : Nat} {par : Int32} (hf : f < 8) (hd : xg_active u = nI f) (hN : xg_frameTotal u = nI F) (hF : xg_frNumber u f = nI F) (F32 : F < 32) (hp : (f = 0 ∧ par = -1) ∨ (0 < f ∧ par = xg_frNumber u (f - 1)))
    (H : post (xu_fin f F par (xs_memory (cp_ (xg_memory u) (fun _ => 0) (f * 16) 16) u))) : ∀ k i n, i + k = 16 → k < n → zx_enterFrame_157 post (nI f) n (nI i) (xs_memory (cp_ (xg_memory u) (fun _ => 0) (f * 16) i) u) := by
  intro k
  induction k with
  | zero =>
    intro i n hi hn
    obtain ⟨m, rfl⟩ : ∃ m, n = m + 1 := ⟨n - 1, by omega⟩
    obtain rfl : i = 16 := by omega
    rw [ex_enterFrame_157]
    refine br_t (nI_le (a := 16) (by omega) (by decide)) ?_
    refine xw_record hf (u := xs_memory (cp_ (xg_memory u) (fun _ => 0) (f * 16) 16) u) hF F32 hp ?_
    refine nm_r (e' := nI (F + 1)) ?_ (nm_r (e' := nI (f + 1)) ?_ H)
    · show xg_frameTotal u + 1 = _
      rw [hN, nI_1]
    · show xg_active u + 1 = _
      rw [hd, nI_1]
  | succ k ih =>
    intro i n hi hn
    obtain ⟨m, rfl⟩ : ∃ m, n = m + 1 := ⟨n - 1, by omega⟩
    have e1 : (16 ≤ i) = False := eq_false (by omega)
    simp (disch := omega) only [ex_enterFrame_157, e1, xq_memory_memory, xx_memory, nI_clamp, nu_m6, nu_m10, nu_m16, nu_m32, nu_m48, nI_add, nu_a0, nu_a1, nu_a2, nu_a3, nu_a4, nu_a5, nu_a6, nu_a7, nu_a8, nu_a9, nI_pred, nu_s1, nu_s2, nu_s3, nu_s4, nu_vp, nu_lt0, nu_le0, nu_eq0, nu_clt0, nu_cle0, nu_lt1, nu_le1, nu_eq1, nu_clt1, nu_cle1, nu_lt2, nu_le2, nu_eq2, nu_clt2, nu_cle2, nu_lt3, nu_le3, nu_eq3, nu_clt3, nu_cle3, nu_lt4, nu_le4, nu_eq4, nu_clt4, nu_cle4, nu_lt5, nu_le5, nu_eq5, nu_clt5, nu_cle5, nu_lt7, nu_le7, nu_eq7, nu_clt7, nu_cle7, nu_lt8, nu_le8, nu_eq8, nu_clt8, nu_cle8, nu_lt9, nu_le9, nu_eq9, nu_clt9, nu_cle9, nu_lt10, nu_le10, nu_eq10, nu_clt10, nu_cle10, nu_lt16, nu_le16, nu_eq16, nu_clt16, nu_cle16, nu_lt29, nu_le29, nu_eq29, nu_clt29, nu_cle29, nu_lt32, nu_le32, nu_eq32, nu_clt32, nu_cle32, nu_lt36, nu_le36, nu_eq36, nu_clt36, nu_cle36, nu_lt37, nu_le37, nu_eq37, nu_clt37, nu_cle37, nu_lt48, nu_le48, nu_eq48, nu_clt48, nu_cle48, nu_lt2000, nu_le2000, nu_eq2000, nu_clt2000, nu_cle2000, nu_lt2032, nu_le2032, nu_eq2032, nu_clt2032, nu_cle2032, nu_lt4000, nu_le4000, nu_eq4000, nu_clt4000, nu_cle4000, nu_le, nu_lt, nu_eq, pk_us, forall_eq, true_and, and_true, false_implies, true_implies, implies_true, not_false_eq_true, not_true_eq_false, and_self]
    rw [cp_s (xg_memory u) (fun _ => 0) (f * 16) i]
    exact ih (i + 1) m (by omega) (by omega)
def xu_new (f : Nat) (g : Int32) (u : SX) : SX := xm_frNumber_frGas_frOwn_frAt_frHeight_frMemSize_frResult (upd (xg_frNumber u) f (xg_frameTotal u)) (upd (xg_frGas u) f g) (upd (xg_frOwn u) f 0) (upd (xg_frAt u) f 0) (upd (xg_frHeight u) f 0) (upd (xg_frMemSize u) f 0) (upd (xg_frResult u) f 0) u
theorem xs_mself (u : SX) : xs_memory (xg_memory u) u = u := id rfl
def xu_mem0 (f : Nat) (u : SX) : SX := xs_memory (cp_ (xg_memory u) (fun _ => 0) (f * 16) 16) u
theorem xw_ent102 {post : SX → Prop} {u : SX} {f F : Nat} {g par : Int32} (hf : f < 8) (hd : xg_active u = nI f) (hN : xg_frameTotal u = nI F) (F32 : F < 32) (hp : (f = 0 ∧ par = -1) ∨ (0 < f ∧ par = xg_frNumber u (f - 1)))
    (H : post (xu_fin f F par (xu_mem0 f (xu_new f g u)))) : zx_enterFrame_102 post g (nI f) u := by
  have v := vp_in_nI hf (N := 8) (by decide)
  rw [ex_enterFrame_102, nI_clamp (n := f) (by omega)]
  refine ⟨v, nm_e ⟨v, nm_e ⟨v, nm_e ⟨v, nm_e ⟨v, nm_e ⟨v, nm_e ⟨v, nm_e ⟨17, ?_⟩⟩⟩⟩⟩⟩⟩⟩
  have h := xl_ent157 (u := xu_new f g u) (par := par) hf hd hN (F := F) ?_ F32 ?_ H 16 0 17 (by omega) (by omega)
  · rw [cp_0, xs_mself] at h
    exact h
  · show upd (xg_frNumber u) f (xg_frameTotal u) f = _
    rw [pk_us, hN]
  · rcases hp with z | ⟨h0, e⟩
    · exact Or.inl z
    · refine Or.inr ⟨h0, ?_⟩
      show par = upd (xg_frNumber u) f (xg_frameTotal u) (f - 1)
      rw [pk_un (by omega), e]
def wt_ (w : Nat → Int32) (a s : Nat) (x : Int32) : Nat → Int32 := upd (upd w (a * 6 + 1) (w (a * 6 + 1) - x)) (s * 6 + 1) (upd w (a * 6 + 1) (w (a * 6 + 1) - x) (s * 6 + 1) + x)
/-- the world as a frame's entry leaves it -/
def ab_ew (k : Int32) (w : Nat → Int32) (a s : Nat) (c x : Int32) (W : Nat → Int32) : Prop :=
  (k = 1 ∧ a < 8 ∧ W = wt_ w a s x) ∨ (k = 4 ∧ a < 8 ∧ W = wt_ (upd w (s * 6) c) a s x) ∨ (k ≠ 1 ∧ k ≠ 4 ∧ W = w)
theorem xw_ent56 {post : SX → Prop} {u : SX} {f F a s : Nat} {g par : Int32} (hf : f < 8) (hd : xg_active u = nI f) (hN : xg_frameTotal u = nI F) (F32 : F < 32) (hp : (f = 0 ∧ par = -1) ∨ (0 < f ∧ par = xg_frNumber u (f - 1)))
    (ha : a < 8) (hs : s < 8) (hca : xg_frCaller u f = nI a)
    (H : post (xu_fin f F par (xu_mem0 f (xu_new f g (xs_world (wt_ (xg_world u) a s (xg_frValue u f)) u))))) : zx_enterFrame_56 post g (nI f) (nI s) u := by
  rw [ex_enterFrame_56]
  simp (disch := omega) only [nI_clamp, hca, nu_m6, nu_a1, nu_vp, forall_eq, true_and]
  exact xw_ent102 (u := xs_world (wt_ (xg_world u) a s (xg_frValue u f)) u) hf hd hN F32 hp H
theorem xw_enter {post : SX → Prop} {u : SX} {f F a s : Nat} {g par : Int32} {W : Nat → Int32} (hf : f < 8) (hd : xg_active u = nI f) (hN : xg_frameTotal u = nI F) (F32 : F < 32) (hp : (f = 0 ∧ par = -1) ∨ (0 < f ∧ par = xg_frNumber u (f - 1)))
    (hs : s < 8) (hse : xg_frSelf u f = nI s) (hca : xg_frKind u f = 1 ∨ xg_frKind u f = 4 → xg_frCaller u f = nI a)
    (hW : ab_ew (xg_frKind u f) (xg_world u) a s (xg_frCode u f) (xg_frValue u f) W)
    (H : post (xu_fin f F par (xu_mem0 f (xu_new f g (xs_world W (xu_save f u)))))) : wpX_enterFrame post u g := by
  have v := vp_in_nI hf (N := 8) (by decide)
  rw [ex_enterFrame, hd]
  refine xw_save hf ?_
  rw [nI_clamp (n := f) (by omega)]
  refine ⟨v, nm_r (e' := xg_frKind u f) rfl ⟨v, nm_r (e' := nI s) hse ?_⟩⟩
  rcases hW with ⟨k1, ha, rfl⟩ | ⟨k4, ha, rfl⟩ | ⟨k1, k4, rfl⟩
  · refine br_f (by rw [k1]; decide) ?_
    rw [ex_enterFrame_46]
    exact br_t k1 (xw_ent56 (u := xu_save f u) hf hd hN F32 hp ha hs (hca (Or.inl k1)) H)
  · refine br_t k4 ?_
    rw [nu_m6, nI_clamp (n := s * 6) (by omega)]
    refine ⟨v, vp_in_nI (by omega) (by decide), nm_e ?_⟩
    rw [ex_enterFrame_46]
    exact br_f (by rw [k4]; decide) (br_t k4 (xw_ent56 (u := xs_world (upd (xg_world u) (s * 6) (xg_frCode u f)) (xu_save f u)) hf hd hN F32 hp ha hs (hca (Or.inr k4)) (by rw [xx_world]; exact H)))
  · refine br_f k4 ?_
    rw [ex_enterFrame_46]
    exact br_f k1 (br_f k4 (xw_ent102 (u := xu_save f u) hf hd hN F32 hp H))
end
section
def pp_ (k : Nat) : Nat := [0, 0, 0, 0, 0, 1, 1, 2, 2, 2, 2, 2, 2, 2, 2, 1, 0, 1, 2, 1, 2, 0, 1, 2, 1, 0, 0, 0, 0, 1, 0, 0, 4, 3, 3, 3, 1, 1].getD k 0
def pu_ (k : Nat) : Nat := [0, 1, 2, 3, 4, 0, 2, 3, 2, 1, 1, 1, 1, 1, 1, 1, 0, 0, 0, 1, 0, 1, 1, 0, 0, 1, 1, 1, 1, 1, 1, 1, 1, 1, 1, 1, 0, 0].getD k 0
def ct_ (k : Nat) : Nat := [0, 1, 1, 1, 1, 1, 1, 1, 1, 1, 1, 2, 2, 1, 1, 1, 1, 3, 4, 0, 0, 1, 5, 0, 10, 1, 1, 1, 1, 3, 1, 1, 0, 20, 20, 50, 0, 0].getD k 0
theorem xw_pops {post : Int32 → Prop} {u : SX} : ∀ {k : Nat}, k < 38 → post (nI (pp_ k)) → wpX_popsOf post u (nI k)
  | 0, _, H => by rw [ex_popsOf]; exact br_t (by decide) (H)
  | 1, _, H => by rw [ex_popsOf]; exact br_t (by decide) (H)
  | 2, _, H => by rw [ex_popsOf]; exact br_t (by decide) (H)
  | 3, _, H => by rw [ex_popsOf]; exact br_t (by decide) (H)
  | 4, _, H => by rw [ex_popsOf]; exact br_t (by decide) (H)
  | 5, _, H => by rw [ex_popsOf]; exact br_f (by decide) (br_f (by decide) (br_t (by decide) (H)))
  | 6, _, H => by rw [ex_popsOf]; exact br_f (by decide) (br_f (by decide) (br_f (by decide) (br_t (by decide) (H))))
  | 7, _, H => by rw [ex_popsOf]; exact br_f (by decide) (br_f (by decide) (br_f (by decide) (br_f (by decide) (br_t (by decide) (H)))))
  | 8, _, H => by rw [ex_popsOf]; exact br_f (by decide) (br_f (by decide) (br_f (by decide) (br_f (by decide) (br_f (by decide) (br_t (by decide) (H))))))
  | 9, _, H => by rw [ex_popsOf]; exact br_f (by decide) (br_f (by decide) (br_f (by decide) (br_f (by decide) (br_f (by decide) (br_f (by decide) (br_t (by decide) (H)))))))
  | 10, _, H => by rw [ex_popsOf]; exact br_f (by decide) (br_f (by decide) (br_f (by decide) (br_f (by decide) (br_f (by decide) (br_f (by decide) (br_f (by decide) (br_t (by decide) (H))))))))
  | 11, _, H => by rw [ex_popsOf]; exact br_f (by decide) (br_f (by decide) (br_f (by decide) (br_f (by decide) (br_f (by decide) (br_f (by decide) (br_f (by decide) (br_f (by decide) (br_t (by decide) (H)))))))))
  | 12, _, H => by rw [ex_popsOf]; exact br_f (by decide) (br_f (by decide) (br_f (by decide) (br_f (by decide) (br_f (by decide) (br_f (by decide) (br_f (by decide) (br_f (by decide) (br_f (by decide) (br_t (by decide) (H))))))))))
  | 13, _, H => by rw [ex_popsOf]; exact br_f (by decide) (br_f (by decide) (br_f (by decide) (br_f (by decide) (br_f (by decide) (br_f (by decide) (br_f (by decide) (br_f (by decide) (br_f (by decide) (br_f (by decide) (br_t (by decide) (H)))))))))))
  | 14, _, H => by rw [ex_popsOf]; exact br_f (by decide) (br_f (by decide) (br_f (by decide) (br_f (by decide) (br_f (by decide) (br_f (by decide) (br_f (by decide) (br_f (by decide) (br_f (by decide) (br_f (by decide) (br_f (by decide) (br_t (by decide) (H))))))))))))
  | 15, _, H => by rw [ex_popsOf]; exact br_f (by decide) (br_f (by decide) (br_f (by decide) (br_f (by decide) (br_f (by decide) (br_f (by decide) (br_f (by decide) (br_f (by decide) (br_f (by decide) (br_f (by decide) (br_f (by decide) (br_f (by decide) (br_t (by decide) (H)))))))))))))
  | 16, _, H => by rw [ex_popsOf]; exact br_f (by decide) (br_f (by decide) (br_f (by decide) (br_f (by decide) (br_f (by decide) (br_f (by decide) (br_f (by decide) (br_f (by decide) (br_f (by decide) (br_f (by decide) (br_f (by decide) (br_f (by decide) (br_f (by decide) (br_t (by decide) (H))))))))))))))
  | 17, _, H => by rw [ex_popsOf]; exact br_f (by decide) (br_f (by decide) (br_f (by decide) (br_f (by decide) (br_f (by decide) (br_f (by decide) (br_f (by decide) (br_f (by decide) (br_f (by decide) (br_f (by decide) (br_f (by decide) (br_f (by decide) (br_f (by decide) (br_f (by decide) (br_t (by decide) (H)))))))))))))))
  | 18, _, H => by rw [ex_popsOf]; exact br_f (by decide) (br_f (by decide) (br_f (by decide) (br_f (by decide) (br_f (by decide) (br_f (by decide) (br_f (by decide) (br_f (by decide) (br_f (by decide) (br_f (by decide) (br_f (by decide) (br_f (by decide) (br_f (by decide) (br_f (by decide) (br_f (by decide) (br_t (by decide) (H))))))))))))))))
  | 19, _, H => by rw [ex_popsOf]; exact br_f (by decide) (br_f (by decide) (br_f (by decide) (br_f (by decide) (br_f (by decide) (br_f (by decide) (br_f (by decide) (br_f (by decide) (br_f (by decide) (br_f (by decide) (br_f (by decide) (br_f (by decide) (br_f (by decide) (br_f (by decide) (br_f (by decide) (br_f (by decide) (br_t (by decide) (H)))))))))))))))))
  | 20, _, H => by rw [ex_popsOf]; exact br_f (by decide) (br_f (by decide) (br_f (by decide) (br_f (by decide) (br_f (by decide) (br_f (by decide) (br_f (by decide) (br_f (by decide) (br_f (by decide) (br_f (by decide) (br_f (by decide) (br_f (by decide) (br_f (by decide) (br_f (by decide) (br_f (by decide) (br_f (by decide) (br_f (by decide) (br_t (by decide) (H))))))))))))))))))
  | 21, _, H => by rw [ex_popsOf]; exact br_f (by decide) (br_f (by decide) (br_f (by decide) (br_f (by decide) (br_f (by decide) (br_f (by decide) (br_f (by decide) (br_f (by decide) (br_f (by decide) (br_f (by decide) (br_f (by decide) (br_f (by decide) (br_f (by decide) (br_f (by decide) (br_f (by decide) (br_f (by decide) (br_f (by decide) (br_f (by decide) (br_t (by decide) (H)))))))))))))))))))
  | 22, _, H => by rw [ex_popsOf]; exact br_f (by decide) (br_f (by decide) (br_f (by decide) (br_f (by decide) (br_f (by decide) (br_f (by decide) (br_f (by decide) (br_f (by decide) (br_f (by decide) (br_f (by decide) (br_f (by decide) (br_f (by decide) (br_f (by decide) (br_f (by decide) (br_f (by decide) (br_f (by decide) (br_f (by decide) (br_f (by decide) (br_f (by decide) (br_t (by decide) (H))))))))))))))))))))
  | 23, _, H => by rw [ex_popsOf]; exact br_f (by decide) (br_f (by decide) (br_f (by decide) (br_f (by decide) (br_f (by decide) (br_f (by decide) (br_f (by decide) (br_f (by decide) (br_f (by decide) (br_f (by decide) (br_f (by decide) (br_f (by decide) (br_f (by decide) (br_f (by decide) (br_f (by decide) (br_f (by decide) (br_f (by decide) (br_f (by decide) (br_f (by decide) (br_f (by decide) (br_t (by decide) (H)))))))))))))))))))))
  | 24, _, H => by rw [ex_popsOf]; exact br_f (by decide) (br_f (by decide) (br_f (by decide) (br_f (by decide) (br_f (by decide) (br_f (by decide) (br_f (by decide) (br_f (by decide) (br_f (by decide) (br_f (by decide) (br_f (by decide) (br_f (by decide) (br_f (by decide) (br_f (by decide) (br_f (by decide) (br_f (by decide) (br_f (by decide) (br_f (by decide) (br_f (by decide) (br_f (by decide) (br_f (by decide) (br_t (by decide) (H))))))))))))))))))))))
  | 25, _, H => by rw [ex_popsOf]; exact br_f (by decide) (br_f (by decide) (br_f (by decide) (br_f (by decide) (br_f (by decide) (br_f (by decide) (br_f (by decide) (br_f (by decide) (br_f (by decide) (br_f (by decide) (br_f (by decide) (br_f (by decide) (br_f (by decide) (br_f (by decide) (br_f (by decide) (br_f (by decide) (br_f (by decide) (br_f (by decide) (br_f (by decide) (br_f (by decide) (br_f (by decide) (br_f (by decide) (br_t (by decide) (H)))))))))))))))))))))))
  | 26, _, H => by rw [ex_popsOf]; exact br_f (by decide) (br_f (by decide) (br_f (by decide) (br_f (by decide) (br_f (by decide) (br_f (by decide) (br_f (by decide) (br_f (by decide) (br_f (by decide) (br_f (by decide) (br_f (by decide) (br_f (by decide) (br_f (by decide) (br_f (by decide) (br_f (by decide) (br_f (by decide) (br_f (by decide) (br_f (by decide) (br_f (by decide) (br_f (by decide) (br_f (by decide) (br_f (by decide) (br_f (by decide) (br_t (by decide) (H))))))))))))))))))))))))
  | 27, _, H => by rw [ex_popsOf]; exact br_f (by decide) (br_f (by decide) (br_f (by decide) (br_f (by decide) (br_f (by decide) (br_f (by decide) (br_f (by decide) (br_f (by decide) (br_f (by decide) (br_f (by decide) (br_f (by decide) (br_f (by decide) (br_f (by decide) (br_f (by decide) (br_f (by decide) (br_f (by decide) (br_f (by decide) (br_f (by decide) (br_f (by decide) (br_f (by decide) (br_f (by decide) (br_f (by decide) (br_f (by decide) (br_f (by decide) (br_t (by decide) (H)))))))))))))))))))))))))
  | 28, _, H => by rw [ex_popsOf]; exact br_f (by decide) (br_f (by decide) (br_f (by decide) (br_f (by decide) (br_f (by decide) (br_f (by decide) (br_f (by decide) (br_f (by decide) (br_f (by decide) (br_f (by decide) (br_f (by decide) (br_f (by decide) (br_f (by decide) (br_f (by decide) (br_f (by decide) (br_f (by decide) (br_f (by decide) (br_f (by decide) (br_f (by decide) (br_f (by decide) (br_f (by decide) (br_f (by decide) (br_f (by decide) (br_f (by decide) (br_f (by decide) (br_t (by decide) (H))))))))))))))))))))))))))
  | 29, _, H => by rw [ex_popsOf]; exact br_f (by decide) (br_f (by decide) (br_f (by decide) (br_f (by decide) (br_f (by decide) (br_f (by decide) (br_f (by decide) (br_f (by decide) (br_f (by decide) (br_f (by decide) (br_f (by decide) (br_f (by decide) (br_f (by decide) (br_f (by decide) (br_f (by decide) (br_f (by decide) (br_f (by decide) (br_f (by decide) (br_f (by decide) (br_f (by decide) (br_f (by decide) (br_f (by decide) (br_f (by decide) (br_f (by decide) (br_f (by decide) (br_f (by decide) (br_t (by decide) (H)))))))))))))))))))))))))))
  | 30, _, H => by rw [ex_popsOf]; exact br_f (by decide) (br_f (by decide) (br_f (by decide) (br_f (by decide) (br_f (by decide) (br_f (by decide) (br_f (by decide) (br_f (by decide) (br_f (by decide) (br_f (by decide) (br_f (by decide) (br_f (by decide) (br_f (by decide) (br_f (by decide) (br_f (by decide) (br_f (by decide) (br_f (by decide) (br_f (by decide) (br_f (by decide) (br_f (by decide) (br_f (by decide) (br_f (by decide) (br_f (by decide) (br_f (by decide) (br_f (by decide) (br_f (by decide) (br_f (by decide) (br_t (by decide) (H))))))))))))))))))))))))))))
  | 31, _, H => by rw [ex_popsOf]; exact br_f (by decide) (br_f (by decide) (br_f (by decide) (br_f (by decide) (br_f (by decide) (br_f (by decide) (br_f (by decide) (br_f (by decide) (br_f (by decide) (br_f (by decide) (br_f (by decide) (br_f (by decide) (br_f (by decide) (br_f (by decide) (br_f (by decide) (br_f (by decide) (br_f (by decide) (br_f (by decide) (br_f (by decide) (br_f (by decide) (br_f (by decide) (br_f (by decide) (br_f (by decide) (br_f (by decide) (br_f (by decide) (br_f (by decide) (br_f (by decide) (br_f (by decide) (br_t (by decide) (H)))))))))))))))))))))))))))))
  | 32, _, H => by rw [ex_popsOf]; exact br_f (by decide) (br_f (by decide) (br_f (by decide) (br_f (by decide) (br_f (by decide) (br_f (by decide) (br_f (by decide) (br_f (by decide) (br_f (by decide) (br_f (by decide) (br_f (by decide) (br_f (by decide) (br_f (by decide) (br_f (by decide) (br_f (by decide) (br_f (by decide) (br_f (by decide) (br_f (by decide) (br_f (by decide) (br_f (by decide) (br_f (by decide) (br_f (by decide) (br_f (by decide) (br_f (by decide) (br_f (by decide) (br_f (by decide) (br_f (by decide) (br_f (by decide) (br_f (by decide) (br_t (by decide) (H))))))))))))))))))))))))))))))
  | 33, _, H => by rw [ex_popsOf]; exact br_f (by decide) (br_f (by decide) (br_f (by decide) (br_f (by decide) (br_f (by decide) (br_f (by decide) (br_f (by decide) (br_f (by decide) (br_f (by decide) (br_f (by decide) (br_f (by decide) (br_f (by decide) (br_f (by decide) (br_f (by decide) (br_f (by decide) (br_f (by decide) (br_f (by decide) (br_f (by decide) (br_f (by decide) (br_f (by decide) (br_f (by decide) (br_f (by decide) (br_f (by decide) (br_f (by decide) (br_f (by decide) (br_f (by decide) (br_f (by decide) (br_f (by decide) (br_f (by decide) (br_f (by decide) (br_t (by decide) (H)))))))))))))))))))))))))))))))
  | 34, _, H => by rw [ex_popsOf]; exact br_f (by decide) (br_f (by decide) (br_f (by decide) (br_f (by decide) (br_f (by decide) (br_f (by decide) (br_f (by decide) (br_f (by decide) (br_f (by decide) (br_f (by decide) (br_f (by decide) (br_f (by decide) (br_f (by decide) (br_f (by decide) (br_f (by decide) (br_f (by decide) (br_f (by decide) (br_f (by decide) (br_f (by decide) (br_f (by decide) (br_f (by decide) (br_f (by decide) (br_f (by decide) (br_f (by decide) (br_f (by decide) (br_f (by decide) (br_f (by decide) (br_f (by decide) (br_f (by decide) (br_f (by decide) (br_f (by decide) (br_t (by decide) (H))))))))))))))))))))))))))))))))
  | 35, _, H => by rw [ex_popsOf]; exact br_f (by decide) (br_f (by decide) (br_f (by decide) (br_f (by decide) (br_f (by decide) (br_f (by decide) (br_f (by decide) (br_f (by decide) (br_f (by decide) (br_f (by decide) (br_f (by decide) (br_f (by decide) (br_f (by decide) (br_f (by decide) (br_f (by decide) (br_f (by decide) (br_f (by decide) (br_f (by decide) (br_f (by decide) (br_f (by decide) (br_f (by decide) (br_f (by decide) (br_f (by decide) (br_f (by decide) (br_f (by decide) (br_f (by decide) (br_f (by decide) (br_f (by decide) (br_f (by decide) (br_f (by decide) (br_f (by decide) (br_f (by decide) (br_t (by decide) (H)))))))))))))))))))))))))))))))))
  | 36, _, H => by rw [ex_popsOf]; exact br_f (by decide) (br_f (by decide) (br_f (by decide) (br_f (by decide) (br_f (by decide) (br_f (by decide) (br_f (by decide) (br_f (by decide) (br_f (by decide) (br_f (by decide) (br_f (by decide) (br_f (by decide) (br_f (by decide) (br_f (by decide) (br_f (by decide) (br_f (by decide) (br_f (by decide) (br_f (by decide) (br_f (by decide) (br_f (by decide) (br_f (by decide) (br_f (by decide) (br_f (by decide) (br_f (by decide) (br_f (by decide) (br_f (by decide) (br_f (by decide) (br_f (by decide) (br_f (by decide) (br_f (by decide) (br_f (by decide) (br_f (by decide) (br_f (by decide) (br_t (by decide) (H))))))))))))))))))))))))))))))))))
  | 37, _, H => by rw [ex_popsOf]; exact br_f (by decide) (br_f (by decide) (br_f (by decide) (br_f (by decide) (br_f (by decide) (br_f (by decide) (br_f (by decide) (br_f (by decide) (br_f (by decide) (br_f (by decide) (br_f (by decide) (br_f (by decide) (br_f (by decide) (br_f (by decide) (br_f (by decide) (br_f (by decide) (br_f (by decide) (br_f (by decide) (br_f (by decide) (br_f (by decide) (br_f (by decide) (br_f (by decide) (br_f (by decide) (br_f (by decide) (br_f (by decide) (br_f (by decide) (br_f (by decide) (br_f (by decide) (br_f (by decide) (br_f (by decide) (br_f (by decide) (br_f (by decide) (br_f (by decide) (br_f (by decide) (br_t (by decide) (H)))))))))))))))))))))))))))))))))))
  | _ + 38, h, _ => absurd h (by omega)
theorem xw_pushes {post : Int32 → Prop} {u : SX} : ∀ {k : Nat}, k < 38 → post (nI (pu_ k)) → wpX_pushesOf post u (nI k)
  | 0, _, H => by rw [ex_pushesOf]; exact br_f (by decide) (br_f (by decide) (br_t (by decide) (H)))
  | 1, _, H => by rw [ex_pushesOf]; exact br_f (by decide) (br_f (by decide) (br_f (by decide) (br_t (by decide) (H))))
  | 2, _, H => by rw [ex_pushesOf]; exact br_f (by decide) (br_f (by decide) (br_f (by decide) (br_f (by decide) (br_t (by decide) (H)))))
  | 3, _, H => by rw [ex_pushesOf]; exact br_f (by decide) (br_f (by decide) (br_f (by decide) (br_f (by decide) (br_f (by decide) (br_t (by decide) (H))))))
  | 4, _, H => by rw [ex_pushesOf]; exact br_f (by decide) (br_f (by decide) (br_f (by decide) (br_f (by decide) (br_f (by decide) (br_f (by decide) (br_t (by decide) (H)))))))
  | 5, _, H => by rw [ex_pushesOf]; exact br_f (by decide) (br_f (by decide) (br_f (by decide) (br_f (by decide) (br_f (by decide) (br_f (by decide) (br_f (by decide) (br_t (by decide) (H))))))))
  | 6, _, H => by rw [ex_pushesOf]; exact br_f (by decide) (br_f (by decide) (br_f (by decide) (br_f (by decide) (br_f (by decide) (br_f (by decide) (br_f (by decide) (br_f (by decide) (br_t (by decide) (H)))))))))
  | 7, _, H => by rw [ex_pushesOf]; exact br_f (by decide) (br_f (by decide) (br_f (by decide) (br_f (by decide) (br_f (by decide) (br_f (by decide) (br_f (by decide) (br_f (by decide) (br_f (by decide) (br_t (by decide) (H))))))))))
  | 8, _, H => by rw [ex_pushesOf]; exact br_f (by decide) (br_f (by decide) (br_f (by decide) (br_f (by decide) (br_f (by decide) (br_f (by decide) (br_f (by decide) (br_f (by decide) (br_f (by decide) (br_f (by decide) (br_t (by decide) (H)))))))))))
  | 9, _, H => by rw [ex_pushesOf]; exact br_f (by decide) (br_f (by decide) (br_f (by decide) (br_f (by decide) (br_f (by decide) (br_f (by decide) (br_f (by decide) (br_f (by decide) (br_f (by decide) (br_f (by decide) (br_f (by decide) (br_t (by decide) (H))))))))))))
  | 10, _, H => by rw [ex_pushesOf]; exact br_f (by decide) (br_f (by decide) (br_f (by decide) (br_f (by decide) (br_f (by decide) (br_f (by decide) (br_f (by decide) (br_f (by decide) (br_f (by decide) (br_f (by decide) (br_f (by decide) (br_f (by decide) (br_t (by decide) (H)))))))))))))
  | 11, _, H => by rw [ex_pushesOf]; exact br_f (by decide) (br_f (by decide) (br_f (by decide) (br_f (by decide) (br_f (by decide) (br_f (by decide) (br_f (by decide) (br_f (by decide) (br_f (by decide) (br_f (by decide) (br_f (by decide) (br_f (by decide) (br_f (by decide) (br_t (by decide) (H))))))))))))))
  | 12, _, H => by rw [ex_pushesOf]; exact br_f (by decide) (br_f (by decide) (br_f (by decide) (br_f (by decide) (br_f (by decide) (br_f (by decide) (br_f (by decide) (br_f (by decide) (br_f (by decide) (br_f (by decide) (br_f (by decide) (br_f (by decide) (br_f (by decide) (br_f (by decide) (br_t (by decide) (H)))))))))))))))
  | 13, _, H => by rw [ex_pushesOf]; exact br_f (by decide) (br_f (by decide) (br_f (by decide) (br_f (by decide) (br_f (by decide) (br_f (by decide) (br_f (by decide) (br_f (by decide) (br_f (by decide) (br_f (by decide) (br_f (by decide) (br_f (by decide) (br_f (by decide) (br_f (by decide) (br_f (by decide) (br_t (by decide) (H))))))))))))))))
  | 14, _, H => by rw [ex_pushesOf]; exact br_f (by decide) (br_f (by decide) (br_f (by decide) (br_f (by decide) (br_f (by decide) (br_f (by decide) (br_f (by decide) (br_f (by decide) (br_f (by decide) (br_f (by decide) (br_f (by decide) (br_f (by decide) (br_f (by decide) (br_f (by decide) (br_f (by decide) (br_f (by decide) (br_t (by decide) (H)))))))))))))))))
  | 15, _, H => by rw [ex_pushesOf]; exact br_f (by decide) (br_f (by decide) (br_f (by decide) (br_f (by decide) (br_f (by decide) (br_f (by decide) (br_f (by decide) (br_f (by decide) (br_f (by decide) (br_f (by decide) (br_f (by decide) (br_f (by decide) (br_f (by decide) (br_f (by decide) (br_f (by decide) (br_f (by decide) (br_f (by decide) (br_t (by decide) (H))))))))))))))))))
  | 16, _, H => by rw [ex_pushesOf]; exact br_f (by decide) (br_f (by decide) (br_f (by decide) (br_f (by decide) (br_f (by decide) (br_f (by decide) (br_f (by decide) (br_f (by decide) (br_f (by decide) (br_f (by decide) (br_f (by decide) (br_f (by decide) (br_f (by decide) (br_f (by decide) (br_f (by decide) (br_f (by decide) (br_f (by decide) (br_f (by decide) (br_t (by decide) (H)))))))))))))))))))
  | 17, _, H => by rw [ex_pushesOf]; exact br_f (by decide) (br_f (by decide) (br_f (by decide) (br_f (by decide) (br_f (by decide) (br_f (by decide) (br_f (by decide) (br_f (by decide) (br_f (by decide) (br_f (by decide) (br_f (by decide) (br_f (by decide) (br_f (by decide) (br_f (by decide) (br_f (by decide) (br_f (by decide) (br_f (by decide) (br_f (by decide) (br_f (by decide) (br_t (by decide) (H))))))))))))))))))))
  | 18, _, H => by rw [ex_pushesOf]; exact br_f (by decide) (br_f (by decide) (br_f (by decide) (br_f (by decide) (br_f (by decide) (br_f (by decide) (br_f (by decide) (br_f (by decide) (br_f (by decide) (br_f (by decide) (br_f (by decide) (br_f (by decide) (br_f (by decide) (br_f (by decide) (br_f (by decide) (br_f (by decide) (br_f (by decide) (br_f (by decide) (br_f (by decide) (br_f (by decide) (br_t (by decide) (H)))))))))))))))))))))
  | 19, _, H => by rw [ex_pushesOf]; exact br_f (by decide) (br_f (by decide) (br_f (by decide) (br_f (by decide) (br_f (by decide) (br_f (by decide) (br_f (by decide) (br_f (by decide) (br_f (by decide) (br_f (by decide) (br_f (by decide) (br_f (by decide) (br_f (by decide) (br_f (by decide) (br_f (by decide) (br_f (by decide) (br_f (by decide) (br_f (by decide) (br_f (by decide) (br_f (by decide) (br_f (by decide) (br_t (by decide) (H))))))))))))))))))))))
  | 20, _, H => by rw [ex_pushesOf]; exact br_f (by decide) (br_f (by decide) (br_f (by decide) (br_f (by decide) (br_f (by decide) (br_f (by decide) (br_f (by decide) (br_f (by decide) (br_f (by decide) (br_f (by decide) (br_f (by decide) (br_f (by decide) (br_f (by decide) (br_f (by decide) (br_f (by decide) (br_f (by decide) (br_f (by decide) (br_f (by decide) (br_f (by decide) (br_f (by decide) (br_f (by decide) (br_f (by decide) (br_t (by decide) (H)))))))))))))))))))))))
  | 21, _, H => by rw [ex_pushesOf]; exact br_f (by decide) (br_f (by decide) (br_f (by decide) (br_f (by decide) (br_f (by decide) (br_f (by decide) (br_f (by decide) (br_f (by decide) (br_f (by decide) (br_f (by decide) (br_f (by decide) (br_f (by decide) (br_f (by decide) (br_f (by decide) (br_f (by decide) (br_f (by decide) (br_f (by decide) (br_f (by decide) (br_f (by decide) (br_f (by decide) (br_f (by decide) (br_f (by decide) (br_f (by decide) (br_t (by decide) (H))))))))))))))))))))))))
  | 22, _, H => by rw [ex_pushesOf]; exact br_f (by decide) (br_f (by decide) (br_f (by decide) (br_f (by decide) (br_f (by decide) (br_f (by decide) (br_f (by decide) (br_f (by decide) (br_f (by decide) (br_f (by decide) (br_f (by decide) (br_f (by decide) (br_f (by decide) (br_f (by decide) (br_f (by decide) (br_f (by decide) (br_f (by decide) (br_f (by decide) (br_f (by decide) (br_f (by decide) (br_f (by decide) (br_f (by decide) (br_f (by decide) (br_f (by decide) (br_t (by decide) (H)))))))))))))))))))))))))
  | 23, _, H => by rw [ex_pushesOf]; exact br_f (by decide) (br_f (by decide) (br_f (by decide) (br_f (by decide) (br_f (by decide) (br_f (by decide) (br_f (by decide) (br_f (by decide) (br_f (by decide) (br_f (by decide) (br_f (by decide) (br_f (by decide) (br_f (by decide) (br_f (by decide) (br_f (by decide) (br_f (by decide) (br_f (by decide) (br_f (by decide) (br_f (by decide) (br_f (by decide) (br_f (by decide) (br_f (by decide) (br_f (by decide) (br_f (by decide) (br_f (by decide) (br_t (by decide) (H))))))))))))))))))))))))))
  | 24, _, H => by rw [ex_pushesOf]; exact br_f (by decide) (br_f (by decide) (br_f (by decide) (br_f (by decide) (br_f (by decide) (br_f (by decide) (br_f (by decide) (br_f (by decide) (br_f (by decide) (br_f (by decide) (br_f (by decide) (br_f (by decide) (br_f (by decide) (br_f (by decide) (br_f (by decide) (br_f (by decide) (br_f (by decide) (br_f (by decide) (br_f (by decide) (br_f (by decide) (br_f (by decide) (br_f (by decide) (br_f (by decide) (br_f (by decide) (br_f (by decide) (br_f (by decide) (br_t (by decide) (H)))))))))))))))))))))))))))
  | 25, _, H => by rw [ex_pushesOf]; exact br_f (by decide) (br_f (by decide) (br_f (by decide) (br_f (by decide) (br_f (by decide) (br_f (by decide) (br_f (by decide) (br_f (by decide) (br_f (by decide) (br_f (by decide) (br_f (by decide) (br_f (by decide) (br_f (by decide) (br_f (by decide) (br_f (by decide) (br_f (by decide) (br_f (by decide) (br_f (by decide) (br_f (by decide) (br_f (by decide) (br_f (by decide) (br_f (by decide) (br_f (by decide) (br_f (by decide) (br_f (by decide) (br_f (by decide) (br_f (by decide) (br_t (by decide) (H))))))))))))))))))))))))))))
  | 26, _, H => by rw [ex_pushesOf]; exact br_f (by decide) (br_f (by decide) (br_f (by decide) (br_f (by decide) (br_f (by decide) (br_f (by decide) (br_f (by decide) (br_f (by decide) (br_f (by decide) (br_f (by decide) (br_f (by decide) (br_f (by decide) (br_f (by decide) (br_f (by decide) (br_f (by decide) (br_f (by decide) (br_f (by decide) (br_f (by decide) (br_f (by decide) (br_f (by decide) (br_f (by decide) (br_f (by decide) (br_f (by decide) (br_f (by decide) (br_f (by decide) (br_f (by decide) (br_f (by decide) (br_f (by decide) (br_t (by decide) (H)))))))))))))))))))))))))))))
  | 27, _, H => by rw [ex_pushesOf]; exact br_f (by decide) (br_f (by decide) (br_f (by decide) (br_f (by decide) (br_f (by decide) (br_f (by decide) (br_f (by decide) (br_f (by decide) (br_f (by decide) (br_f (by decide) (br_f (by decide) (br_f (by decide) (br_f (by decide) (br_f (by decide) (br_f (by decide) (br_f (by decide) (br_f (by decide) (br_f (by decide) (br_f (by decide) (br_f (by decide) (br_f (by decide) (br_f (by decide) (br_f (by decide) (br_f (by decide) (br_f (by decide) (br_f (by decide) (br_f (by decide) (br_f (by decide) (br_f (by decide) (br_t (by decide) (H))))))))))))))))))))))))))))))
  | 28, _, H => by rw [ex_pushesOf]; exact br_f (by decide) (br_f (by decide) (br_f (by decide) (br_f (by decide) (br_f (by decide) (br_f (by decide) (br_f (by decide) (br_f (by decide) (br_f (by decide) (br_f (by decide) (br_f (by decide) (br_f (by decide) (br_f (by decide) (br_f (by decide) (br_f (by decide) (br_f (by decide) (br_f (by decide) (br_f (by decide) (br_f (by decide) (br_f (by decide) (br_f (by decide) (br_f (by decide) (br_f (by decide) (br_f (by decide) (br_f (by decide) (br_f (by decide) (br_f (by decide) (br_f (by decide) (br_f (by decide) (br_f (by decide) (br_t (by decide) (H)))))))))))))))))))))))))))))))
  | 29, _, H => by rw [ex_pushesOf]; exact br_f (by decide) (br_f (by decide) (br_f (by decide) (br_f (by decide) (br_f (by decide) (br_f (by decide) (br_f (by decide) (br_f (by decide) (br_f (by decide) (br_f (by decide) (br_f (by decide) (br_f (by decide) (br_f (by decide) (br_f (by decide) (br_f (by decide) (br_f (by decide) (br_f (by decide) (br_f (by decide) (br_f (by decide) (br_f (by decide) (br_f (by decide) (br_f (by decide) (br_f (by decide) (br_f (by decide) (br_f (by decide) (br_f (by decide) (br_f (by decide) (br_f (by decide) (br_f (by decide) (br_f (by decide) (br_f (by decide) (br_t (by decide) (H))))))))))))))))))))))))))))))))
  | 30, _, H => by rw [ex_pushesOf]; exact br_f (by decide) (br_f (by decide) (br_f (by decide) (br_f (by decide) (br_f (by decide) (br_f (by decide) (br_f (by decide) (br_f (by decide) (br_f (by decide) (br_f (by decide) (br_f (by decide) (br_f (by decide) (br_f (by decide) (br_f (by decide) (br_f (by decide) (br_f (by decide) (br_f (by decide) (br_f (by decide) (br_f (by decide) (br_f (by decide) (br_f (by decide) (br_f (by decide) (br_f (by decide) (br_f (by decide) (br_f (by decide) (br_f (by decide) (br_f (by decide) (br_f (by decide) (br_f (by decide) (br_f (by decide) (br_f (by decide) (br_f (by decide) (br_t (by decide) (H)))))))))))))))))))))))))))))))))
  | 31, _, H => by rw [ex_pushesOf]; exact br_f (by decide) (br_f (by decide) (br_f (by decide) (br_f (by decide) (br_f (by decide) (br_f (by decide) (br_f (by decide) (br_f (by decide) (br_f (by decide) (br_f (by decide) (br_f (by decide) (br_f (by decide) (br_f (by decide) (br_f (by decide) (br_f (by decide) (br_f (by decide) (br_f (by decide) (br_f (by decide) (br_f (by decide) (br_f (by decide) (br_f (by decide) (br_f (by decide) (br_f (by decide) (br_f (by decide) (br_f (by decide) (br_f (by decide) (br_f (by decide) (br_f (by decide) (br_f (by decide) (br_f (by decide) (br_f (by decide) (br_f (by decide) (br_f (by decide) (br_t (by decide) (H))))))))))))))))))))))))))))))))))
  | 32, _, H => by rw [ex_pushesOf]; exact br_f (by decide) (br_f (by decide) (br_f (by decide) (br_f (by decide) (br_f (by decide) (br_f (by decide) (br_f (by decide) (br_f (by decide) (br_f (by decide) (br_f (by decide) (br_f (by decide) (br_f (by decide) (br_f (by decide) (br_f (by decide) (br_f (by decide) (br_f (by decide) (br_f (by decide) (br_f (by decide) (br_f (by decide) (br_f (by decide) (br_f (by decide) (br_f (by decide) (br_f (by decide) (br_f (by decide) (br_f (by decide) (br_f (by decide) (br_f (by decide) (br_f (by decide) (br_f (by decide) (br_f (by decide) (br_f (by decide) (br_f (by decide) (br_f (by decide) (br_f (by decide) (br_t (by decide) (H)))))))))))))))))))))))))))))))))))
  | 33, _, H => by rw [ex_pushesOf]; exact br_f (by decide) (br_f (by decide) (br_f (by decide) (br_f (by decide) (br_f (by decide) (br_f (by decide) (br_f (by decide) (br_f (by decide) (br_f (by decide) (br_f (by decide) (br_f (by decide) (br_f (by decide) (br_f (by decide) (br_f (by decide) (br_f (by decide) (br_f (by decide) (br_f (by decide) (br_f (by decide) (br_f (by decide) (br_f (by decide) (br_f (by decide) (br_f (by decide) (br_f (by decide) (br_f (by decide) (br_f (by decide) (br_f (by decide) (br_f (by decide) (br_f (by decide) (br_f (by decide) (br_f (by decide) (br_f (by decide) (br_f (by decide) (br_f (by decide) (br_f (by decide) (br_f (by decide) (br_t (by decide) (H))))))))))))))))))))))))))))))))))))
  | 34, _, H => by rw [ex_pushesOf]; exact br_f (by decide) (br_f (by decide) (br_f (by decide) (br_f (by decide) (br_f (by decide) (br_f (by decide) (br_f (by decide) (br_f (by decide) (br_f (by decide) (br_f (by decide) (br_f (by decide) (br_f (by decide) (br_f (by decide) (br_f (by decide) (br_f (by decide) (br_f (by decide) (br_f (by decide) (br_f (by decide) (br_f (by decide) (br_f (by decide) (br_f (by decide) (br_f (by decide) (br_f (by decide) (br_f (by decide) (br_f (by decide) (br_f (by decide) (br_f (by decide) (br_f (by decide) (br_f (by decide) (br_f (by decide) (br_f (by decide) (br_f (by decide) (br_f (by decide) (br_f (by decide) (br_f (by decide) (br_f (by decide) (br_t (by decide) (H)))))))))))))))))))))))))))))))))))))
  | 35, _, H => by rw [ex_pushesOf]; exact br_f (by decide) (br_f (by decide) (br_f (by decide) (br_f (by decide) (br_f (by decide) (br_f (by decide) (br_f (by decide) (br_f (by decide) (br_f (by decide) (br_f (by decide) (br_f (by decide) (br_f (by decide) (br_f (by decide) (br_f (by decide) (br_f (by decide) (br_f (by decide) (br_f (by decide) (br_f (by decide) (br_f (by decide) (br_f (by decide) (br_f (by decide) (br_f (by decide) (br_f (by decide) (br_f (by decide) (br_f (by decide) (br_f (by decide) (br_f (by decide) (br_f (by decide) (br_f (by decide) (br_f (by decide) (br_f (by decide) (br_f (by decide) (br_f (by decide) (br_f (by decide) (br_f (by decide) (br_f (by decide) (br_f (by decide) (br_t (by decide) (H))))))))))))))))))))))))))))))))))))))
  | 36, _, H => by rw [ex_pushesOf]; exact br_f (by decide) (br_f (by decide) (br_f (by decide) (br_f (by decide) (br_f (by decide) (br_f (by decide) (br_f (by decide) (br_f (by decide) (br_f (by decide) (br_f (by decide) (br_f (by decide) (br_f (by decide) (br_f (by decide) (br_f (by decide) (br_f (by decide) (br_f (by decide) (br_f (by decide) (br_f (by decide) (br_f (by decide) (br_f (by decide) (br_f (by decide) (br_f (by decide) (br_f (by decide) (br_f (by decide) (br_f (by decide) (br_f (by decide) (br_f (by decide) (br_f (by decide) (br_f (by decide) (br_f (by decide) (br_f (by decide) (br_f (by decide) (br_f (by decide) (br_f (by decide) (br_f (by decide) (br_f (by decide) (br_f (by decide) (br_f (by decide) (br_t (by decide) (H)))))))))))))))))))))))))))))))))))))))
  | 37, _, H => by rw [ex_pushesOf]; exact br_f (by decide) (br_f (by decide) (br_f (by decide) (br_f (by decide) (br_f (by decide) (br_f (by decide) (br_f (by decide) (br_f (by decide) (br_f (by decide) (br_f (by decide) (br_f (by decide) (br_f (by decide) (br_f (by decide) (br_f (by decide) (br_f (by decide) (br_f (by decide) (br_f (by decide) (br_f (by decide) (br_f (by decide) (br_f (by decide) (br_f (by decide) (br_f (by decide) (br_f (by decide) (br_f (by decide) (br_f (by decide) (br_f (by decide) (br_f (by decide) (br_f (by decide) (br_f (by decide) (br_f (by decide) (br_f (by decide) (br_f (by decide) (br_f (by decide) (br_f (by decide) (br_f (by decide) (br_f (by decide) (br_f (by decide) (br_f (by decide) (br_f (by decide) (br_t (by decide) (H))))))))))))))))))))))))))))))))))))))))
  | _ + 38, h, _ => absurd h (by omega)
theorem yw_pops {post : Int32 → Prop} {u : SY} : ∀ {k : Nat}, k < 38 → post (nI (pp_ k)) → wpY_pops post u (nI k)
  | 0, _, H => by rw [ey_pops]; exact br_f (by decide) (br_t (by decide) (by rw [ey_pops_22]; exact br_t (by decide) (by rw [ey_pops_34]; exact br_f (by decide) (br_f (by decide) (br_f (by decide) (br_f (by decide) (br_f (by decide) (br_f (by decide) (br_f (by decide) (br_f (by decide) (br_f (by decide) (br_f (by decide) (br_f (by decide) (br_t (by decide) (H)))))))))))))))
  | 1, _, H => by rw [ey_pops]; exact br_f (by decide) (br_t (by decide) (by rw [ey_pops_22]; exact br_t (by decide) (by rw [ey_pops_34]; exact br_f (by decide) (br_f (by decide) (br_f (by decide) (br_f (by decide) (br_f (by decide) (br_f (by decide) (br_f (by decide) (br_f (by decide) (br_f (by decide) (br_f (by decide) (br_f (by decide) (br_t (by decide) (H)))))))))))))))
  | 2, _, H => by rw [ey_pops]; exact br_f (by decide) (br_t (by decide) (by rw [ey_pops_22]; exact br_t (by decide) (by rw [ey_pops_34]; exact br_f (by decide) (br_f (by decide) (br_f (by decide) (br_f (by decide) (br_f (by decide) (br_f (by decide) (br_f (by decide) (br_f (by decide) (br_f (by decide) (br_f (by decide) (br_f (by decide) (br_t (by decide) (H)))))))))))))))
  | 3, _, H => by rw [ey_pops]; exact br_f (by decide) (br_t (by decide) (by rw [ey_pops_22]; exact br_t (by decide) (by rw [ey_pops_34]; exact br_f (by decide) (br_f (by decide) (br_f (by decide) (br_f (by decide) (br_f (by decide) (br_f (by decide) (br_f (by decide) (br_f (by decide) (br_f (by decide) (br_f (by decide) (br_f (by decide) (br_t (by decide) (H)))))))))))))))
  | 4, _, H => by rw [ey_pops]; exact br_f (by decide) (br_t (by decide) (by rw [ey_pops_22]; exact br_t (by decide) (by rw [ey_pops_34]; exact br_f (by decide) (br_f (by decide) (br_f (by decide) (br_f (by decide) (br_f (by decide) (br_f (by decide) (br_f (by decide) (br_f (by decide) (br_f (by decide) (br_f (by decide) (br_f (by decide) (br_t (by decide) (H)))))))))))))))
  | 5, _, H => by rw [ey_pops]; exact br_f (by decide) (br_t (by decide) (by rw [ey_pops_22]; exact br_t (by decide) (by rw [ey_pops_34]; exact br_f (by decide) (br_f (by decide) (br_f (by decide) (br_t (by decide) (H)))))))
  | 6, _, H => by rw [ey_pops]; exact br_f (by decide) (br_t (by decide) (by rw [ey_pops_22]; exact br_t (by decide) (by rw [ey_pops_34]; exact br_f (by decide) (br_f (by decide) (br_f (by decide) (br_f (by decide) (br_t (by decide) (H))))))))
  | 7, _, H => by rw [ey_pops]; exact br_f (by decide) (br_t (by decide) (by rw [ey_pops_22]; exact br_f (by decide) (br_t (by decide) (H))))
  | 8, _, H => by rw [ey_pops]; exact br_f (by decide) (br_t (by decide) (by rw [ey_pops_22]; exact br_f (by decide) (br_t (by decide) (H))))
  | 9, _, H => by rw [ey_pops]; exact br_f (by decide) (br_t (by decide) (by rw [ey_pops_22]; exact br_f (by decide) (br_t (by decide) (H))))
  | 10, _, H => by rw [ey_pops]; exact br_f (by decide) (br_t (by decide) (by rw [ey_pops_22]; exact br_f (by decide) (br_t (by decide) (H))))
  | 11, _, H => by rw [ey_pops]; exact br_f (by decide) (br_t (by decide) (by rw [ey_pops_22]; exact br_f (by decide) (br_t (by decide) (H))))
  | 12, _, H => by rw [ey_pops]; exact br_f (by decide) (br_t (by decide) (by rw [ey_pops_22]; exact br_f (by decide) (br_t (by decide) (H))))
  | 13, _, H => by rw [ey_pops]; exact br_f (by decide) (br_t (by decide) (by rw [ey_pops_22]; exact br_f (by decide) (br_t (by decide) (H))))
  | 14, _, H => by rw [ey_pops]; exact br_f (by decide) (br_t (by decide) (by rw [ey_pops_22]; exact br_f (by decide) (br_t (by decide) (H))))
  | 15, _, H => by rw [ey_pops]; exact br_f (by decide) (br_t (by decide) (by rw [ey_pops_22]; exact br_f (by decide) (br_f (by decide) (by rw [ey_pops_34]; exact br_f (by decide) (br_f (by decide) (br_f (by decide) (br_f (by decide) (br_f (by decide) (br_t (by decide) (H))))))))))
  | 16, _, H => by rw [ey_pops]; exact br_f (by decide) (br_t (by decide) (by rw [ey_pops_22]; exact br_f (by decide) (br_f (by decide) (by rw [ey_pops_34]; exact br_f (by decide) (br_f (by decide) (br_f (by decide) (br_f (by decide) (br_f (by decide) (br_f (by decide) (br_f (by decide) (br_f (by decide) (br_f (by decide) (br_f (by decide) (br_f (by decide) (br_t (by decide) (H))))))))))))))))
  | 17, _, H => by rw [ey_pops]; exact br_f (by decide) (br_t (by decide) (by rw [ey_pops_22]; exact br_f (by decide) (br_f (by decide) (by rw [ey_pops_34]; exact br_f (by decide) (br_f (by decide) (br_f (by decide) (br_f (by decide) (br_f (by decide) (br_f (by decide) (br_t (by decide) (H)))))))))))
  | 18, _, H => by rw [ey_pops]; exact br_f (by decide) (br_t (by decide) (by rw [ey_pops_22]; exact br_f (by decide) (br_f (by decide) (by rw [ey_pops_34]; exact br_t (by decide) (H)))))
  | 19, _, H => by rw [ey_pops]; exact br_f (by decide) (br_t (by decide) (by rw [ey_pops_22]; exact br_f (by decide) (br_f (by decide) (by rw [ey_pops_34]; exact br_f (by decide) (br_f (by decide) (br_f (by decide) (br_f (by decide) (br_f (by decide) (br_f (by decide) (br_f (by decide) (br_t (by decide) (H))))))))))))
  | 20, _, H => by rw [ey_pops]; exact br_f (by decide) (br_t (by decide) (by rw [ey_pops_22]; exact br_f (by decide) (br_f (by decide) (by rw [ey_pops_34]; exact br_f (by decide) (br_t (by decide) (H))))))
  | 21, _, H => by rw [ey_pops]; exact br_f (by decide) (br_t (by decide) (by rw [ey_pops_22]; exact br_f (by decide) (br_f (by decide) (by rw [ey_pops_34]; exact br_f (by decide) (br_f (by decide) (br_f (by decide) (br_f (by decide) (br_f (by decide) (br_f (by decide) (br_f (by decide) (br_f (by decide) (br_f (by decide) (br_f (by decide) (br_f (by decide) (br_t (by decide) (H))))))))))))))))
  | 22, _, H => by rw [ey_pops]; exact br_f (by decide) (br_t (by decide) (by rw [ey_pops_22]; exact br_f (by decide) (br_f (by decide) (by rw [ey_pops_34]; exact br_f (by decide) (br_f (by decide) (br_f (by decide) (br_f (by decide) (br_f (by decide) (br_f (by decide) (br_f (by decide) (br_f (by decide) (br_t (by decide) (H)))))))))))))
  | 23, _, H => by rw [ey_pops]; exact br_f (by decide) (br_t (by decide) (by rw [ey_pops_22]; exact br_f (by decide) (br_f (by decide) (by rw [ey_pops_34]; exact br_f (by decide) (br_f (by decide) (br_t (by decide) (H)))))))
  | 24, _, H => by rw [ey_pops]; exact br_f (by decide) (br_t (by decide) (by rw [ey_pops_22]; exact br_f (by decide) (br_f (by decide) (by rw [ey_pops_34]; exact br_f (by decide) (br_f (by decide) (br_f (by decide) (br_f (by decide) (br_f (by decide) (br_f (by decide) (br_f (by decide) (br_f (by decide) (br_f (by decide) (br_t (by decide) (H))))))))))))))
  | 25, _, H => by rw [ey_pops]; exact br_f (by decide) (br_t (by decide) (by rw [ey_pops_22]; exact br_f (by decide) (br_f (by decide) (by rw [ey_pops_34]; exact br_f (by decide) (br_f (by decide) (br_f (by decide) (br_f (by decide) (br_f (by decide) (br_f (by decide) (br_f (by decide) (br_f (by decide) (br_f (by decide) (br_f (by decide) (br_f (by decide) (br_t (by decide) (H))))))))))))))))
  | 26, _, H => by rw [ey_pops]; exact br_f (by decide) (br_t (by decide) (by rw [ey_pops_22]; exact br_f (by decide) (br_f (by decide) (by rw [ey_pops_34]; exact br_f (by decide) (br_f (by decide) (br_f (by decide) (br_f (by decide) (br_f (by decide) (br_f (by decide) (br_f (by decide) (br_f (by decide) (br_f (by decide) (br_f (by decide) (br_f (by decide) (br_t (by decide) (H))))))))))))))))
  | 27, _, H => by rw [ey_pops]; exact br_f (by decide) (br_t (by decide) (by rw [ey_pops_22]; exact br_f (by decide) (br_f (by decide) (by rw [ey_pops_34]; exact br_f (by decide) (br_f (by decide) (br_f (by decide) (br_f (by decide) (br_f (by decide) (br_f (by decide) (br_f (by decide) (br_f (by decide) (br_f (by decide) (br_f (by decide) (br_f (by decide) (br_t (by decide) (H))))))))))))))))
  | 28, _, H => by rw [ey_pops]; exact br_f (by decide) (br_t (by decide) (by rw [ey_pops_22]; exact br_f (by decide) (br_f (by decide) (by rw [ey_pops_34]; exact br_f (by decide) (br_f (by decide) (br_f (by decide) (br_f (by decide) (br_f (by decide) (br_f (by decide) (br_f (by decide) (br_f (by decide) (br_f (by decide) (br_f (by decide) (br_f (by decide) (br_t (by decide) (H))))))))))))))))
  | 29, _, H => by rw [ey_pops]; exact br_f (by decide) (br_t (by decide) (by rw [ey_pops_22]; exact br_f (by decide) (br_f (by decide) (by rw [ey_pops_34]; exact br_f (by decide) (br_f (by decide) (br_f (by decide) (br_f (by decide) (br_f (by decide) (br_f (by decide) (br_f (by decide) (br_f (by decide) (br_f (by decide) (br_f (by decide) (br_t (by decide) (H)))))))))))))))
  | 30, _, H => by rw [ey_pops]; exact br_f (by decide) (br_t (by decide) (by rw [ey_pops_22]; exact br_f (by decide) (br_f (by decide) (by rw [ey_pops_34]; exact br_f (by decide) (br_f (by decide) (br_f (by decide) (br_f (by decide) (br_f (by decide) (br_f (by decide) (br_f (by decide) (br_f (by decide) (br_f (by decide) (br_f (by decide) (br_f (by decide) (br_t (by decide) (H))))))))))))))))
  | 31, _, H => by rw [ey_pops]; exact br_f (by decide) (br_t (by decide) (by rw [ey_pops_22]; exact br_f (by decide) (br_f (by decide) (by rw [ey_pops_34]; exact br_f (by decide) (br_f (by decide) (br_f (by decide) (br_f (by decide) (br_f (by decide) (br_f (by decide) (br_f (by decide) (br_f (by decide) (br_f (by decide) (br_f (by decide) (br_f (by decide) (br_t (by decide) (H))))))))))))))))
  | 32, _, H => by rw [ey_pops]; exact br_t (by decide) (H)
  | 33, _, H => by rw [ey_pops]; exact br_f (by decide) (br_f (by decide) (br_f (by decide) (H)))
  | 34, _, H => by rw [ey_pops]; exact br_f (by decide) (br_f (by decide) (br_f (by decide) (H)))
  | 35, _, H => by rw [ey_pops]; exact br_f (by decide) (br_f (by decide) (br_f (by decide) (H)))
  | 36, _, H => by rw [ey_pops]; exact br_f (by decide) (br_f (by decide) (br_t (by decide) (by rw [ey_pops_22]; exact br_f (by decide) (br_f (by decide) (by rw [ey_pops_34]; exact br_f (by decide) (br_f (by decide) (br_f (by decide) (br_f (by decide) (br_f (by decide) (br_f (by decide) (br_f (by decide) (br_f (by decide) (br_f (by decide) (br_f (by decide) (br_f (by decide) (br_f (by decide) (H)))))))))))))))))
  | 37, _, H => by rw [ey_pops]; exact br_f (by decide) (br_f (by decide) (br_t (by decide) (by rw [ey_pops_22]; exact br_f (by decide) (br_f (by decide) (by rw [ey_pops_34]; exact br_f (by decide) (br_f (by decide) (br_f (by decide) (br_f (by decide) (br_f (by decide) (br_f (by decide) (br_f (by decide) (br_f (by decide) (br_f (by decide) (br_f (by decide) (br_f (by decide) (br_f (by decide) (H)))))))))))))))))
  | _ + 38, h, _ => absurd h (by omega)
theorem yw_pushes {post : Int32 → Prop} {u : SY} : ∀ {k : Nat}, k < 38 → post (nI (pu_ k)) → wpY_pushes post u (nI k)
  | 0, _, H => by rw [ey_pushes]; exact br_t (by decide) (by rw [ey_pushes_12]; exact br_f (by decide) (br_f (by decide) (br_f (by decide) (br_t (by decide) (by rw [ey_pushes_46]; exact br_f (by decide) (br_f (by decide) (br_f (by decide) (br_t (by decide) (H)))))))))
  | 1, _, H => by rw [ey_pushes]; exact br_f (by decide) (br_f (by decide) (H))
  | 2, _, H => by rw [ey_pushes]; exact br_f (by decide) (br_f (by decide) (H))
  | 3, _, H => by rw [ey_pushes]; exact br_f (by decide) (br_f (by decide) (H))
  | 4, _, H => by rw [ey_pushes]; exact br_f (by decide) (br_f (by decide) (H))
  | 5, _, H => by rw [ey_pushes]; exact br_f (by decide) (br_t (by decide) (by rw [ey_pushes_12]; exact br_f (by decide) (br_f (by decide) (br_f (by decide) (br_t (by decide) (by rw [ey_pushes_46]; exact br_f (by decide) (br_f (by decide) (br_f (by decide) (br_t (by decide) (H))))))))))
  | 6, _, H => by rw [ey_pushes]; exact br_f (by decide) (br_t (by decide) (by rw [ey_pushes_12]; exact br_f (by decide) (br_t (by decide) (H))))
  | 7, _, H => by rw [ey_pushes]; exact br_f (by decide) (br_t (by decide) (by rw [ey_pushes_12]; exact br_t (by decide) (H)))
  | 8, _, H => by rw [ey_pushes]; exact br_f (by decide) (br_t (by decide) (by rw [ey_pushes_12]; exact br_f (by decide) (br_f (by decide) (br_t (by decide) (H)))))
  | 9, _, H => by rw [ey_pushes]; exact br_f (by decide) (br_t (by decide) (by rw [ey_pushes_12]; exact br_f (by decide) (br_f (by decide) (br_f (by decide) (br_f (by decide) (br_t (by decide) (H)))))))
  | 10, _, H => by rw [ey_pushes]; exact br_f (by decide) (br_t (by decide) (by rw [ey_pushes_12]; exact br_f (by decide) (br_f (by decide) (br_f (by decide) (br_f (by decide) (br_t (by decide) (H)))))))
  | 11, _, H => by rw [ey_pushes]; exact br_f (by decide) (br_t (by decide) (by rw [ey_pushes_12]; exact br_f (by decide) (br_f (by decide) (br_f (by decide) (br_f (by decide) (br_t (by decide) (H)))))))
  | 12, _, H => by rw [ey_pushes]; exact br_f (by decide) (br_t (by decide) (by rw [ey_pushes_12]; exact br_f (by decide) (br_f (by decide) (br_f (by decide) (br_f (by decide) (br_t (by decide) (H)))))))
  | 13, _, H => by rw [ey_pushes]; exact br_f (by decide) (br_t (by decide) (by rw [ey_pushes_12]; exact br_f (by decide) (br_f (by decide) (br_f (by decide) (br_f (by decide) (br_t (by decide) (H)))))))
  | 14, _, H => by rw [ey_pushes]; exact br_f (by decide) (br_t (by decide) (by rw [ey_pushes_12]; exact br_f (by decide) (br_f (by decide) (br_f (by decide) (br_f (by decide) (br_t (by decide) (H)))))))
  | 15, _, H => by rw [ey_pushes]; exact br_f (by decide) (br_t (by decide) (by rw [ey_pushes_12]; exact br_f (by decide) (br_f (by decide) (br_f (by decide) (br_f (by decide) (br_t (by decide) (H)))))))
  | 16, _, H => by rw [ey_pushes]; exact br_f (by decide) (br_t (by decide) (by rw [ey_pushes_12]; exact br_f (by decide) (br_f (by decide) (br_f (by decide) (br_f (by decide) (br_f (by decide) (by rw [ey_pushes_46]; exact br_f (by decide) (br_f (by decide) (br_f (by decide) (br_t (by decide) (H)))))))))))
  | 17, _, H => by rw [ey_pushes]; exact br_f (by decide) (br_t (by decide) (by rw [ey_pushes_12]; exact br_f (by decide) (br_f (by decide) (br_f (by decide) (br_f (by decide) (br_f (by decide) (by rw [ey_pushes_46]; exact br_f (by decide) (br_f (by decide) (br_f (by decide) (br_t (by decide) (H)))))))))))
  | 18, _, H => by rw [ey_pushes]; exact br_f (by decide) (br_t (by decide) (by rw [ey_pushes_12]; exact br_f (by decide) (br_f (by decide) (br_f (by decide) (br_f (by decide) (br_f (by decide) (by rw [ey_pushes_46]; exact br_f (by decide) (br_f (by decide) (br_f (by decide) (br_t (by decide) (H)))))))))))
  | 19, _, H => by rw [ey_pushes]; exact br_f (by decide) (br_t (by decide) (by rw [ey_pushes_12]; exact br_f (by decide) (br_f (by decide) (br_f (by decide) (br_f (by decide) (br_f (by decide) (by rw [ey_pushes_46]; exact br_t (by decide) (H))))))))
  | 20, _, H => by rw [ey_pushes]; exact br_f (by decide) (br_t (by decide) (by rw [ey_pushes_12]; exact br_f (by decide) (br_f (by decide) (br_f (by decide) (br_f (by decide) (br_f (by decide) (by rw [ey_pushes_46]; exact br_f (by decide) (br_f (by decide) (br_f (by decide) (br_t (by decide) (H)))))))))))
  | 21, _, H => by rw [ey_pushes]; exact br_f (by decide) (br_t (by decide) (by rw [ey_pushes_12]; exact br_f (by decide) (br_f (by decide) (br_f (by decide) (br_f (by decide) (br_f (by decide) (by rw [ey_pushes_46]; exact br_f (by decide) (br_t (by decide) (H)))))))))
  | 22, _, H => by rw [ey_pushes]; exact br_f (by decide) (br_t (by decide) (by rw [ey_pushes_12]; exact br_f (by decide) (br_f (by decide) (br_f (by decide) (br_f (by decide) (br_f (by decide) (by rw [ey_pushes_46]; exact br_f (by decide) (br_f (by decide) (br_t (by decide) (H))))))))))
  | 23, _, H => by rw [ey_pushes]; exact br_f (by decide) (br_t (by decide) (by rw [ey_pushes_12]; exact br_f (by decide) (br_f (by decide) (br_f (by decide) (br_f (by decide) (br_f (by decide) (by rw [ey_pushes_46]; exact br_f (by decide) (br_f (by decide) (br_f (by decide) (br_t (by decide) (H)))))))))))
  | 24, _, H => by rw [ey_pushes]; exact br_f (by decide) (br_t (by decide) (by rw [ey_pushes_12]; exact br_f (by decide) (br_f (by decide) (br_f (by decide) (br_f (by decide) (br_f (by decide) (by rw [ey_pushes_46]; exact br_f (by decide) (br_f (by decide) (br_f (by decide) (br_t (by decide) (H)))))))))))
  | 25, _, H => by rw [ey_pushes]; exact br_f (by decide) (br_t (by decide) (by rw [ey_pushes_12]; exact br_f (by decide) (br_f (by decide) (br_f (by decide) (br_f (by decide) (br_f (by decide) (by rw [ey_pushes_46]; exact br_f (by decide) (br_f (by decide) (br_f (by decide) (br_f (by decide) (br_f (by decide) (H))))))))))))
  | 26, _, H => by rw [ey_pushes]; exact br_f (by decide) (br_t (by decide) (by rw [ey_pushes_12]; exact br_f (by decide) (br_f (by decide) (br_f (by decide) (br_f (by decide) (br_f (by decide) (by rw [ey_pushes_46]; exact br_f (by decide) (br_f (by decide) (br_f (by decide) (br_f (by decide) (br_f (by decide) (H))))))))))))
  | 27, _, H => by rw [ey_pushes]; exact br_f (by decide) (br_t (by decide) (by rw [ey_pushes_12]; exact br_f (by decide) (br_f (by decide) (br_f (by decide) (br_f (by decide) (br_f (by decide) (by rw [ey_pushes_46]; exact br_f (by decide) (br_f (by decide) (br_f (by decide) (br_f (by decide) (br_f (by decide) (H))))))))))))
  | 28, _, H => by rw [ey_pushes]; exact br_f (by decide) (br_t (by decide) (by rw [ey_pushes_12]; exact br_f (by decide) (br_f (by decide) (br_f (by decide) (br_f (by decide) (br_f (by decide) (by rw [ey_pushes_46]; exact br_f (by decide) (br_f (by decide) (br_f (by decide) (br_f (by decide) (br_f (by decide) (H))))))))))))
  | 29, _, H => by rw [ey_pushes]; exact br_f (by decide) (br_t (by decide) (by rw [ey_pushes_12]; exact br_f (by decide) (br_f (by decide) (br_f (by decide) (br_f (by decide) (br_f (by decide) (by rw [ey_pushes_46]; exact br_f (by decide) (br_f (by decide) (br_f (by decide) (br_f (by decide) (br_f (by decide) (H))))))))))))
  | 30, _, H => by rw [ey_pushes]; exact br_f (by decide) (br_t (by decide) (by rw [ey_pushes_12]; exact br_f (by decide) (br_f (by decide) (br_f (by decide) (br_f (by decide) (br_f (by decide) (by rw [ey_pushes_46]; exact br_f (by decide) (br_f (by decide) (br_f (by decide) (br_f (by decide) (br_f (by decide) (H))))))))))))
  | 31, _, H => by rw [ey_pushes]; exact br_f (by decide) (br_t (by decide) (by rw [ey_pushes_12]; exact br_f (by decide) (br_f (by decide) (br_f (by decide) (br_f (by decide) (br_f (by decide) (by rw [ey_pushes_46]; exact br_f (by decide) (br_f (by decide) (br_f (by decide) (br_f (by decide) (br_f (by decide) (H))))))))))))
  | 32, _, H => by rw [ey_pushes]; exact br_f (by decide) (br_t (by decide) (by rw [ey_pushes_12]; exact br_f (by decide) (br_f (by decide) (br_f (by decide) (br_f (by decide) (br_f (by decide) (by rw [ey_pushes_46]; exact br_f (by decide) (br_f (by decide) (br_f (by decide) (br_f (by decide) (br_f (by decide) (H))))))))))))
  | 33, _, H => by rw [ey_pushes]; exact br_f (by decide) (br_t (by decide) (by rw [ey_pushes_12]; exact br_f (by decide) (br_f (by decide) (br_f (by decide) (br_f (by decide) (br_f (by decide) (by rw [ey_pushes_46]; exact br_f (by decide) (br_f (by decide) (br_f (by decide) (br_f (by decide) (br_f (by decide) (H))))))))))))
  | 34, _, H => by rw [ey_pushes]; exact br_f (by decide) (br_t (by decide) (by rw [ey_pushes_12]; exact br_f (by decide) (br_f (by decide) (br_f (by decide) (br_f (by decide) (br_f (by decide) (by rw [ey_pushes_46]; exact br_f (by decide) (br_f (by decide) (br_f (by decide) (br_f (by decide) (br_f (by decide) (H))))))))))))
  | 35, _, H => by rw [ey_pushes]; exact br_f (by decide) (br_t (by decide) (by rw [ey_pushes_12]; exact br_f (by decide) (br_f (by decide) (br_f (by decide) (br_f (by decide) (br_f (by decide) (by rw [ey_pushes_46]; exact br_f (by decide) (br_f (by decide) (br_f (by decide) (br_f (by decide) (br_f (by decide) (H))))))))))))
  | 36, _, H => by rw [ey_pushes]; exact br_f (by decide) (br_t (by decide) (by rw [ey_pushes_12]; exact br_f (by decide) (br_f (by decide) (br_f (by decide) (br_f (by decide) (br_f (by decide) (by rw [ey_pushes_46]; exact br_f (by decide) (br_f (by decide) (br_f (by decide) (br_f (by decide) (br_t (by decide) (H))))))))))))
  | 37, _, H => by rw [ey_pushes]; exact br_f (by decide) (br_t (by decide) (by rw [ey_pushes_12]; exact br_f (by decide) (br_f (by decide) (br_f (by decide) (br_f (by decide) (br_f (by decide) (by rw [ey_pushes_46]; exact br_f (by decide) (br_f (by decide) (br_f (by decide) (br_f (by decide) (br_t (by decide) (H))))))))))))
  | _ + 38, h, _ => absurd h (by omega)
theorem xw_cost {post : Int32 → Prop} {u : SX} {p0 : Int32} : ∀ {k : Nat}, k < 38 → (k = 19 ∨ k = 20 → zx_costOf_176 post p0 u) → (k = 23 → wpX_storeCost post u p0) → (k = 32 → wpX_callCost post u p0) → (k ≠ 19 ∧ k ≠ 20 ∧ k ≠ 23 ∧ k ≠ 32 → post (nI (ct_ k))) → wpX_costOf post u p0 (nI k)
  | 0, _, h1, h2, h3, H => by rw [ex_costOf]; exact br_f (by decide) (br_f (by decide) (br_t (by decide) (H (by decide))))
  | 1, _, h1, h2, h3, H => by rw [ex_costOf]; exact br_f (by decide) (br_f (by decide) (br_f (by decide) (br_t (by decide) (H (by decide)))))
  | 2, _, h1, h2, h3, H => by rw [ex_costOf]; exact br_f (by decide) (br_f (by decide) (br_f (by decide) (br_f (by decide) (br_t (by decide) (H (by decide))))))
  | 3, _, h1, h2, h3, H => by rw [ex_costOf]; exact br_f (by decide) (br_f (by decide) (br_f (by decide) (br_f (by decide) (br_f (by decide) (br_t (by decide) (H (by decide)))))))
  | 4, _, h1, h2, h3, H => by rw [ex_costOf]; exact br_f (by decide) (br_f (by decide) (br_f (by decide) (br_f (by decide) (br_f (by decide) (br_f (by decide) (br_t (by decide) (H (by decide))))))))
  | 5, _, h1, h2, h3, H => by rw [ex_costOf]; exact br_f (by decide) (br_f (by decide) (br_f (by decide) (br_f (by decide) (br_f (by decide) (br_f (by decide) (br_f (by decide) (br_t (by decide) (H (by decide)))))))))
  | 6, _, h1, h2, h3, H => by rw [ex_costOf]; exact br_f (by decide) (br_f (by decide) (br_f (by decide) (br_f (by decide) (br_f (by decide) (br_f (by decide) (br_f (by decide) (br_f (by decide) (br_t (by decide) (H (by decide))))))))))
  | 7, _, h1, h2, h3, H => by rw [ex_costOf]; exact br_f (by decide) (br_f (by decide) (br_f (by decide) (br_f (by decide) (br_f (by decide) (br_f (by decide) (br_f (by decide) (br_f (by decide) (br_f (by decide) (br_t (by decide) (H (by decide)))))))))))
  | 8, _, h1, h2, h3, H => by rw [ex_costOf]; exact br_f (by decide) (br_f (by decide) (br_f (by decide) (br_f (by decide) (br_f (by decide) (br_f (by decide) (br_f (by decide) (br_f (by decide) (br_f (by decide) (br_f (by decide) (br_t (by decide) (H (by decide))))))))))))
  | 9, _, h1, h2, h3, H => by rw [ex_costOf]; exact br_f (by decide) (br_f (by decide) (br_f (by decide) (br_f (by decide) (br_f (by decide) (br_f (by decide) (br_f (by decide) (br_f (by decide) (br_f (by decide) (br_f (by decide) (br_f (by decide) (br_t (by decide) (H (by decide)))))))))))))
  | 10, _, h1, h2, h3, H => by rw [ex_costOf]; exact br_f (by decide) (br_f (by decide) (br_f (by decide) (br_f (by decide) (br_f (by decide) (br_f (by decide) (br_f (by decide) (br_f (by decide) (br_f (by decide) (br_f (by decide) (br_f (by decide) (br_f (by decide) (br_t (by decide) (H (by decide))))))))))))))
  | 11, _, h1, h2, h3, H => by rw [ex_costOf]; exact br_f (by decide) (br_f (by decide) (br_f (by decide) (br_f (by decide) (br_f (by decide) (br_f (by decide) (br_f (by decide) (br_f (by decide) (br_f (by decide) (br_f (by decide) (br_f (by decide) (br_f (by decide) (br_f (by decide) (br_t (by decide) (H (by decide)))))))))))))))
  | 12, _, h1, h2, h3, H => by rw [ex_costOf]; exact br_f (by decide) (br_f (by decide) (br_f (by decide) (br_f (by decide) (br_f (by decide) (br_f (by decide) (br_f (by decide) (br_f (by decide) (br_f (by decide) (br_f (by decide) (br_f (by decide) (br_f (by decide) (br_f (by decide) (br_f (by decide) (br_t (by decide) (H (by decide))))))))))))))))
  | 13, _, h1, h2, h3, H => by rw [ex_costOf]; exact br_f (by decide) (br_f (by decide) (br_f (by decide) (br_f (by decide) (br_f (by decide) (br_f (by decide) (br_f (by decide) (br_f (by decide) (br_f (by decide) (br_f (by decide) (br_f (by decide) (br_f (by decide) (br_f (by decide) (br_f (by decide) (br_f (by decide) (br_t (by decide) (H (by decide)))))))))))))))))
  | 14, _, h1, h2, h3, H => by rw [ex_costOf]; exact br_f (by decide) (br_f (by decide) (br_f (by decide) (br_f (by decide) (br_f (by decide) (br_f (by decide) (br_f (by decide) (br_f (by decide) (br_f (by decide) (br_f (by decide) (br_f (by decide) (br_f (by decide) (br_f (by decide) (br_f (by decide) (br_f (by decide) (br_f (by decide) (br_t (by decide) (H (by decide))))))))))))))))))
  | 15, _, h1, h2, h3, H => by rw [ex_costOf]; exact br_f (by decide) (br_f (by decide) (br_f (by decide) (br_f (by decide) (br_f (by decide) (br_f (by decide) (br_f (by decide) (br_f (by decide) (br_f (by decide) (br_f (by decide) (br_f (by decide) (br_f (by decide) (br_f (by decide) (br_f (by decide) (br_f (by decide) (br_f (by decide) (br_f (by decide) (br_t (by decide) (H (by decide)))))))))))))))))))
  | 16, _, h1, h2, h3, H => by rw [ex_costOf]; exact br_f (by decide) (br_f (by decide) (br_f (by decide) (br_f (by decide) (br_f (by decide) (br_f (by decide) (br_f (by decide) (br_f (by decide) (br_f (by decide) (br_f (by decide) (br_f (by decide) (br_f (by decide) (br_f (by decide) (br_f (by decide) (br_f (by decide) (br_f (by decide) (br_f (by decide) (br_f (by decide) (br_t (by decide) (H (by decide))))))))))))))))))))
  | 17, _, h1, h2, h3, H => by rw [ex_costOf]; exact br_f (by decide) (br_f (by decide) (br_f (by decide) (br_f (by decide) (br_f (by decide) (br_f (by decide) (br_f (by decide) (br_f (by decide) (br_f (by decide) (br_f (by decide) (br_f (by decide) (br_f (by decide) (br_f (by decide) (br_f (by decide) (br_f (by decide) (br_f (by decide) (br_f (by decide) (br_f (by decide) (br_f (by decide) (br_t (by decide) (H (by decide)))))))))))))))))))))
  | 18, _, h1, h2, h3, H => by rw [ex_costOf]; exact br_f (by decide) (br_f (by decide) (br_f (by decide) (br_f (by decide) (br_f (by decide) (br_f (by decide) (br_f (by decide) (br_f (by decide) (br_f (by decide) (br_f (by decide) (br_f (by decide) (br_f (by decide) (br_f (by decide) (br_f (by decide) (br_f (by decide) (br_f (by decide) (br_f (by decide) (br_f (by decide) (br_f (by decide) (br_f (by decide) (br_t (by decide) (H (by decide))))))))))))))))))))))
  | 19, _, h1, h2, h3, H => by rw [ex_costOf]; exact br_f (by decide) (br_f (by decide) (br_f (by decide) (br_f (by decide) (br_f (by decide) (br_f (by decide) (br_f (by decide) (br_f (by decide) (br_f (by decide) (br_f (by decide) (br_f (by decide) (br_f (by decide) (br_f (by decide) (br_f (by decide) (br_f (by decide) (br_f (by decide) (br_f (by decide) (br_f (by decide) (br_f (by decide) (br_f (by decide) (br_f (by decide) (br_t (by decide) (h1 (Or.inl rfl)))))))))))))))))))))))
  | 20, _, h1, h2, h3, H => by rw [ex_costOf]; exact br_f (by decide) (br_f (by decide) (br_f (by decide) (br_f (by decide) (br_f (by decide) (br_f (by decide) (br_f (by decide) (br_f (by decide) (br_f (by decide) (br_f (by decide) (br_f (by decide) (br_f (by decide) (br_f (by decide) (br_f (by decide) (br_f (by decide) (br_f (by decide) (br_f (by decide) (br_f (by decide) (br_f (by decide) (br_f (by decide) (br_f (by decide) (br_f (by decide) (br_t (by decide) (h1 (Or.inr rfl))))))))))))))))))))))))
  | 21, _, h1, h2, h3, H => by rw [ex_costOf]; exact br_f (by decide) (br_f (by decide) (br_f (by decide) (br_f (by decide) (br_f (by decide) (br_f (by decide) (br_f (by decide) (br_f (by decide) (br_f (by decide) (br_f (by decide) (br_f (by decide) (br_f (by decide) (br_f (by decide) (br_f (by decide) (br_f (by decide) (br_f (by decide) (br_f (by decide) (br_f (by decide) (br_f (by decide) (br_f (by decide) (br_f (by decide) (br_f (by decide) (br_f (by decide) (br_t (by decide) (H (by decide)))))))))))))))))))))))))
  | 22, _, h1, h2, h3, H => by rw [ex_costOf]; exact br_f (by decide) (br_f (by decide) (br_f (by decide) (br_f (by decide) (br_f (by decide) (br_f (by decide) (br_f (by decide) (br_f (by decide) (br_f (by decide) (br_f (by decide) (br_f (by decide) (br_f (by decide) (br_f (by decide) (br_f (by decide) (br_f (by decide) (br_f (by decide) (br_f (by decide) (br_f (by decide) (br_f (by decide) (br_f (by decide) (br_f (by decide) (br_f (by decide) (br_f (by decide) (br_f (by decide) (br_t (by decide) (H (by decide))))))))))))))))))))))))))
  | 23, _, h1, h2, h3, H => by rw [ex_costOf]; exact br_f (by decide) (br_f (by decide) (br_f (by decide) (br_f (by decide) (br_f (by decide) (br_f (by decide) (br_f (by decide) (br_f (by decide) (br_f (by decide) (br_f (by decide) (br_f (by decide) (br_f (by decide) (br_f (by decide) (br_f (by decide) (br_f (by decide) (br_f (by decide) (br_f (by decide) (br_f (by decide) (br_f (by decide) (br_f (by decide) (br_f (by decide) (br_f (by decide) (br_f (by decide) (br_f (by decide) (br_f (by decide) (br_t (by decide) (h2 rfl))))))))))))))))))))))))))
  | 24, _, h1, h2, h3, H => by rw [ex_costOf]; exact br_f (by decide) (br_f (by decide) (br_f (by decide) (br_f (by decide) (br_f (by decide) (br_f (by decide) (br_f (by decide) (br_f (by decide) (br_f (by decide) (br_f (by decide) (br_f (by decide) (br_f (by decide) (br_f (by decide) (br_f (by decide) (br_f (by decide) (br_f (by decide) (br_f (by decide) (br_f (by decide) (br_f (by decide) (br_f (by decide) (br_f (by decide) (br_f (by decide) (br_f (by decide) (br_f (by decide) (br_f (by decide) (br_f (by decide) (br_t (by decide) (H (by decide))))))))))))))))))))))))))))
  | 25, _, h1, h2, h3, H => by rw [ex_costOf]; exact br_f (by decide) (br_f (by decide) (br_f (by decide) (br_f (by decide) (br_f (by decide) (br_f (by decide) (br_f (by decide) (br_f (by decide) (br_f (by decide) (br_f (by decide) (br_f (by decide) (br_f (by decide) (br_f (by decide) (br_f (by decide) (br_f (by decide) (br_f (by decide) (br_f (by decide) (br_f (by decide) (br_f (by decide) (br_f (by decide) (br_f (by decide) (br_f (by decide) (br_f (by decide) (br_f (by decide) (br_f (by decide) (br_f (by decide) (br_f (by decide) (br_t (by decide) (H (by decide)))))))))))))))))))))))))))))
  | 26, _, h1, h2, h3, H => by rw [ex_costOf]; exact br_f (by decide) (br_f (by decide) (br_f (by decide) (br_f (by decide) (br_f (by decide) (br_f (by decide) (br_f (by decide) (br_f (by decide) (br_f (by decide) (br_f (by decide) (br_f (by decide) (br_f (by decide) (br_f (by decide) (br_f (by decide) (br_f (by decide) (br_f (by decide) (br_f (by decide) (br_f (by decide) (br_f (by decide) (br_f (by decide) (br_f (by decide) (br_f (by decide) (br_f (by decide) (br_f (by decide) (br_f (by decide) (br_f (by decide) (br_f (by decide) (br_f (by decide) (br_t (by decide) (H (by decide))))))))))))))))))))))))))))))
  | 27, _, h1, h2, h3, H => by rw [ex_costOf]; exact br_f (by decide) (br_f (by decide) (br_f (by decide) (br_f (by decide) (br_f (by decide) (br_f (by decide) (br_f (by decide) (br_f (by decide) (br_f (by decide) (br_f (by decide) (br_f (by decide) (br_f (by decide) (br_f (by decide) (br_f (by decide) (br_f (by decide) (br_f (by decide) (br_f (by decide) (br_f (by decide) (br_f (by decide) (br_f (by decide) (br_f (by decide) (br_f (by decide) (br_f (by decide) (br_f (by decide) (br_f (by decide) (br_f (by decide) (br_f (by decide) (br_f (by decide) (br_f (by decide) (br_t (by decide) (H (by decide)))))))))))))))))))))))))))))))
  | 28, _, h1, h2, h3, H => by rw [ex_costOf]; exact br_f (by decide) (br_f (by decide) (br_f (by decide) (br_f (by decide) (br_f (by decide) (br_f (by decide) (br_f (by decide) (br_f (by decide) (br_f (by decide) (br_f (by decide) (br_f (by decide) (br_f (by decide) (br_f (by decide) (br_f (by decide) (br_f (by decide) (br_f (by decide) (br_f (by decide) (br_f (by decide) (br_f (by decide) (br_f (by decide) (br_f (by decide) (br_f (by decide) (br_f (by decide) (br_f (by decide) (br_f (by decide) (br_f (by decide) (br_f (by decide) (br_f (by decide) (br_f (by decide) (br_f (by decide) (br_t (by decide) (H (by decide))))))))))))))))))))))))))))))))
  | 29, _, h1, h2, h3, H => by rw [ex_costOf]; exact br_f (by decide) (br_f (by decide) (br_f (by decide) (br_f (by decide) (br_f (by decide) (br_f (by decide) (br_f (by decide) (br_f (by decide) (br_f (by decide) (br_f (by decide) (br_f (by decide) (br_f (by decide) (br_f (by decide) (br_f (by decide) (br_f (by decide) (br_f (by decide) (br_f (by decide) (br_f (by decide) (br_f (by decide) (br_f (by decide) (br_f (by decide) (br_f (by decide) (br_f (by decide) (br_f (by decide) (br_f (by decide) (br_f (by decide) (br_f (by decide) (br_f (by decide) (br_f (by decide) (br_f (by decide) (br_f (by decide) (br_t (by decide) (H (by decide)))))))))))))))))))))))))))))))))
  | 30, _, h1, h2, h3, H => by rw [ex_costOf]; exact br_f (by decide) (br_f (by decide) (br_f (by decide) (br_f (by decide) (br_f (by decide) (br_f (by decide) (br_f (by decide) (br_f (by decide) (br_f (by decide) (br_f (by decide) (br_f (by decide) (br_f (by decide) (br_f (by decide) (br_f (by decide) (br_f (by decide) (br_f (by decide) (br_f (by decide) (br_f (by decide) (br_f (by decide) (br_f (by decide) (br_f (by decide) (br_f (by decide) (br_f (by decide) (br_f (by decide) (br_f (by decide) (br_f (by decide) (br_f (by decide) (br_f (by decide) (br_f (by decide) (br_f (by decide) (br_f (by decide) (br_f (by decide) (br_t (by decide) (H (by decide))))))))))))))))))))))))))))))))))
  | 31, _, h1, h2, h3, H => by rw [ex_costOf]; exact br_f (by decide) (br_f (by decide) (br_f (by decide) (br_f (by decide) (br_f (by decide) (br_f (by decide) (br_f (by decide) (br_f (by decide) (br_f (by decide) (br_f (by decide) (br_f (by decide) (br_f (by decide) (br_f (by decide) (br_f (by decide) (br_f (by decide) (br_f (by decide) (br_f (by decide) (br_f (by decide) (br_f (by decide) (br_f (by decide) (br_f (by decide) (br_f (by decide) (br_f (by decide) (br_f (by decide) (br_f (by decide) (br_f (by decide) (br_f (by decide) (br_f (by decide) (br_f (by decide) (br_f (by decide) (br_f (by decide) (br_f (by decide) (br_f (by decide) (br_t (by decide) (H (by decide)))))))))))))))))))))))))))))))))))
  | 32, _, h1, h2, h3, H => by rw [ex_costOf]; exact br_f (by decide) (br_f (by decide) (br_f (by decide) (br_f (by decide) (br_f (by decide) (br_f (by decide) (br_f (by decide) (br_f (by decide) (br_f (by decide) (br_f (by decide) (br_f (by decide) (br_f (by decide) (br_f (by decide) (br_f (by decide) (br_f (by decide) (br_f (by decide) (br_f (by decide) (br_f (by decide) (br_f (by decide) (br_f (by decide) (br_f (by decide) (br_f (by decide) (br_f (by decide) (br_f (by decide) (br_f (by decide) (br_f (by decide) (br_f (by decide) (br_f (by decide) (br_f (by decide) (br_f (by decide) (br_f (by decide) (br_f (by decide) (br_f (by decide) (br_f (by decide) (br_t (by decide) (h3 rfl)))))))))))))))))))))))))))))))))))
  | 33, _, h1, h2, h3, H => by rw [ex_costOf]; exact br_f (by decide) (br_f (by decide) (br_f (by decide) (br_f (by decide) (br_f (by decide) (br_f (by decide) (br_f (by decide) (br_f (by decide) (br_f (by decide) (br_f (by decide) (br_f (by decide) (br_f (by decide) (br_f (by decide) (br_f (by decide) (br_f (by decide) (br_f (by decide) (br_f (by decide) (br_f (by decide) (br_f (by decide) (br_f (by decide) (br_f (by decide) (br_f (by decide) (br_f (by decide) (br_f (by decide) (br_f (by decide) (br_f (by decide) (br_f (by decide) (br_f (by decide) (br_f (by decide) (br_f (by decide) (br_f (by decide) (br_f (by decide) (br_f (by decide) (br_f (by decide) (br_f (by decide) (br_t (by decide) (H (by decide)))))))))))))))))))))))))))))))))))))
  | 34, _, h1, h2, h3, H => by rw [ex_costOf]; exact br_f (by decide) (br_f (by decide) (br_f (by decide) (br_f (by decide) (br_f (by decide) (br_f (by decide) (br_f (by decide) (br_f (by decide) (br_f (by decide) (br_f (by decide) (br_f (by decide) (br_f (by decide) (br_f (by decide) (br_f (by decide) (br_f (by decide) (br_f (by decide) (br_f (by decide) (br_f (by decide) (br_f (by decide) (br_f (by decide) (br_f (by decide) (br_f (by decide) (br_f (by decide) (br_f (by decide) (br_f (by decide) (br_f (by decide) (br_f (by decide) (br_f (by decide) (br_f (by decide) (br_f (by decide) (br_f (by decide) (br_f (by decide) (br_f (by decide) (br_f (by decide) (br_f (by decide) (br_f (by decide) (br_t (by decide) (H (by decide))))))))))))))))))))))))))))))))))))))
  | 35, _, h1, h2, h3, H => by rw [ex_costOf]; exact br_f (by decide) (br_f (by decide) (br_f (by decide) (br_f (by decide) (br_f (by decide) (br_f (by decide) (br_f (by decide) (br_f (by decide) (br_f (by decide) (br_f (by decide) (br_f (by decide) (br_f (by decide) (br_f (by decide) (br_f (by decide) (br_f (by decide) (br_f (by decide) (br_f (by decide) (br_f (by decide) (br_f (by decide) (br_f (by decide) (br_f (by decide) (br_f (by decide) (br_f (by decide) (br_f (by decide) (br_f (by decide) (br_f (by decide) (br_f (by decide) (br_f (by decide) (br_f (by decide) (br_f (by decide) (br_f (by decide) (br_f (by decide) (br_f (by decide) (br_f (by decide) (br_f (by decide) (br_f (by decide) (br_f (by decide) (br_t (by decide) (H (by decide)))))))))))))))))))))))))))))))))))))))
  | 36, _, h1, h2, h3, H => by rw [ex_costOf]; exact br_f (by decide) (br_f (by decide) (br_f (by decide) (br_f (by decide) (br_f (by decide) (br_f (by decide) (br_f (by decide) (br_f (by decide) (br_f (by decide) (br_f (by decide) (br_f (by decide) (br_f (by decide) (br_f (by decide) (br_f (by decide) (br_f (by decide) (br_f (by decide) (br_f (by decide) (br_f (by decide) (br_f (by decide) (br_f (by decide) (br_f (by decide) (br_f (by decide) (br_f (by decide) (br_f (by decide) (br_f (by decide) (br_f (by decide) (br_f (by decide) (br_f (by decide) (br_f (by decide) (br_f (by decide) (br_f (by decide) (br_f (by decide) (br_f (by decide) (br_f (by decide) (br_f (by decide) (br_f (by decide) (br_f (by decide) (br_f (by decide) (br_t (by decide) (H (by decide))))))))))))))))))))))))))))))))))))))))
  | 37, _, h1, h2, h3, H => by rw [ex_costOf]; exact br_f (by decide) (br_f (by decide) (br_f (by decide) (br_f (by decide) (br_f (by decide) (br_f (by decide) (br_f (by decide) (br_f (by decide) (br_f (by decide) (br_f (by decide) (br_f (by decide) (br_f (by decide) (br_f (by decide) (br_f (by decide) (br_f (by decide) (br_f (by decide) (br_f (by decide) (br_f (by decide) (br_f (by decide) (br_f (by decide) (br_f (by decide) (br_f (by decide) (br_f (by decide) (br_f (by decide) (br_f (by decide) (br_f (by decide) (br_f (by decide) (br_f (by decide) (br_f (by decide) (br_f (by decide) (br_f (by decide) (br_f (by decide) (br_f (by decide) (br_f (by decide) (br_f (by decide) (br_f (by decide) (br_f (by decide) (br_f (by decide) (br_f (by decide) (br_t (by decide) (H (by decide)))))))))))))))))))))))))))))))))))))))))
  | _ + 38, h, _, _, _, _ => absurd h (by omega)
theorem yw_cost45 {post : Int32 → Prop} {u : SY} {x1 x3 x4 x5 x6 z0 : Int32} : ∀ {k : Nat}, k < 38 → (k = 19 ∨ k = 20 → zy_cost_107 post x6 z0 u) → (k = 23 → (vp_in ((x1 * 10) + 2) 320 ∧ (vp_in (((((yg_rec u) ((x1 * 10) + 2).toNatClampNeg) * 6) + 2) + (x3 &&& 3)) 48 ∧ (((((yg_world u) (((((yg_rec u) ((x1 * 10) + 2).toNatClampNeg) * 6) + 2) + (x3 &&& 3)).toNatClampNeg) = 0 → (((x4 = 0 → (post 10)) ∧ (¬ x4 = 0 → (post 20))))) ∧ (¬ ((yg_world u) (((((yg_rec u) ((x1 * 10) + 2).toNatClampNeg) * 6) + 2) + (x3 &&& 3)).toNatClampNeg) = 0 → (post 10))))))) → (k = 32 → ((x5 = 0 → (post 20)) ∧ (¬ x5 = 0 → (post 30)))) → (k ≠ 19 ∧ k ≠ 20 ∧ k ≠ 23 ∧ k ≠ 32 → post (nI (ct_ k))) → zy_cost_45 post x1 (nI k) x3 x4 x5 x6 z0 u
  | 0, _, h1, h2, h3, H => by rw [ey_cost_45]; exact br_t (by decide) (H (by decide))
  | 1, _, h1, h2, h3, H => by rw [ey_cost_45]; exact br_f (by decide) (br_t (by decide) (br_f (by decide) (br_f (by decide) (br_f (by decide) (br_f (by decide) (br_f (by decide) (br_f (by decide) (br_f (by decide) (br_f (by decide) (br_f (by decide) (br_f (by decide) (br_f (by decide) (br_f (by decide) (br_f (by decide) (br_f (by decide) (H (by decide)))))))))))))))))
  | 2, _, h1, h2, h3, H => by rw [ey_cost_45]; exact br_f (by decide) (br_t (by decide) (br_f (by decide) (br_f (by decide) (br_f (by decide) (br_f (by decide) (br_f (by decide) (br_f (by decide) (br_f (by decide) (br_f (by decide) (br_f (by decide) (br_f (by decide) (br_f (by decide) (br_f (by decide) (br_f (by decide) (br_f (by decide) (H (by decide)))))))))))))))))
  | 3, _, h1, h2, h3, H => by rw [ey_cost_45]; exact br_f (by decide) (br_t (by decide) (br_f (by decide) (br_f (by decide) (br_f (by decide) (br_f (by decide) (br_f (by decide) (br_f (by decide) (br_f (by decide) (br_f (by decide) (br_f (by decide) (br_f (by decide) (br_f (by decide) (br_f (by decide) (br_f (by decide) (br_f (by decide) (H (by decide)))))))))))))))))
  | 4, _, h1, h2, h3, H => by rw [ey_cost_45]; exact br_f (by decide) (br_t (by decide) (br_f (by decide) (br_f (by decide) (br_f (by decide) (br_f (by decide) (br_f (by decide) (br_f (by decide) (br_f (by decide) (br_f (by decide) (br_f (by decide) (br_f (by decide) (br_f (by decide) (br_f (by decide) (br_f (by decide) (br_f (by decide) (H (by decide)))))))))))))))))
  | 5, _, h1, h2, h3, H => by rw [ey_cost_45]; exact br_f (by decide) (br_t (by decide) (br_f (by decide) (br_f (by decide) (br_f (by decide) (br_f (by decide) (br_f (by decide) (br_f (by decide) (br_f (by decide) (br_f (by decide) (br_f (by decide) (br_f (by decide) (br_f (by decide) (br_f (by decide) (br_f (by decide) (br_f (by decide) (H (by decide)))))))))))))))))
  | 6, _, h1, h2, h3, H => by rw [ey_cost_45]; exact br_f (by decide) (br_t (by decide) (br_f (by decide) (br_f (by decide) (br_f (by decide) (br_f (by decide) (br_f (by decide) (br_f (by decide) (br_f (by decide) (br_f (by decide) (br_f (by decide) (br_f (by decide) (br_f (by decide) (br_f (by decide) (br_f (by decide) (br_f (by decide) (H (by decide)))))))))))))))))
  | 7, _, h1, h2, h3, H => by rw [ey_cost_45]; exact br_f (by decide) (br_t (by decide) (br_f (by decide) (br_f (by decide) (br_f (by decide) (br_f (by decide) (br_f (by decide) (br_f (by decide) (br_f (by decide) (br_f (by decide) (br_f (by decide) (br_f (by decide) (br_f (by decide) (br_f (by decide) (br_f (by decide) (br_f (by decide) (H (by decide)))))))))))))))))
  | 8, _, h1, h2, h3, H => by rw [ey_cost_45]; exact br_f (by decide) (br_t (by decide) (br_f (by decide) (br_f (by decide) (br_f (by decide) (br_f (by decide) (br_f (by decide) (br_f (by decide) (br_f (by decide) (br_f (by decide) (br_f (by decide) (br_f (by decide) (br_f (by decide) (br_f (by decide) (br_f (by decide) (br_f (by decide) (H (by decide)))))))))))))))))
  | 9, _, h1, h2, h3, H => by rw [ey_cost_45]; exact br_f (by decide) (br_t (by decide) (br_f (by decide) (br_f (by decide) (br_f (by decide) (br_f (by decide) (br_f (by decide) (br_f (by decide) (br_f (by decide) (br_f (by decide) (br_f (by decide) (br_f (by decide) (br_f (by decide) (br_f (by decide) (br_f (by decide) (br_f (by decide) (H (by decide)))))))))))))))))
  | 10, _, h1, h2, h3, H => by rw [ey_cost_45]; exact br_f (by decide) (br_t (by decide) (br_f (by decide) (br_f (by decide) (br_f (by decide) (br_f (by decide) (br_f (by decide) (br_f (by decide) (br_f (by decide) (br_f (by decide) (br_f (by decide) (br_f (by decide) (br_f (by decide) (br_f (by decide) (br_f (by decide) (br_f (by decide) (H (by decide)))))))))))))))))
  | 11, _, h1, h2, h3, H => by rw [ey_cost_45]; exact br_f (by decide) (br_t (by decide) (br_t (by decide) (H (by decide))))
  | 12, _, h1, h2, h3, H => by rw [ey_cost_45]; exact br_f (by decide) (br_t (by decide) (br_f (by decide) (br_t (by decide) (H (by decide)))))
  | 13, _, h1, h2, h3, H => by rw [ey_cost_45]; exact br_f (by decide) (br_t (by decide) (br_f (by decide) (br_f (by decide) (br_f (by decide) (br_f (by decide) (br_f (by decide) (br_f (by decide) (br_f (by decide) (br_f (by decide) (br_f (by decide) (br_f (by decide) (br_f (by decide) (br_f (by decide) (br_f (by decide) (br_f (by decide) (H (by decide)))))))))))))))))
  | 14, _, h1, h2, h3, H => by rw [ey_cost_45]; exact br_f (by decide) (br_t (by decide) (br_f (by decide) (br_f (by decide) (br_f (by decide) (br_f (by decide) (br_f (by decide) (br_f (by decide) (br_f (by decide) (br_f (by decide) (br_f (by decide) (br_f (by decide) (br_f (by decide) (br_f (by decide) (br_f (by decide) (br_f (by decide) (H (by decide)))))))))))))))))
  | 15, _, h1, h2, h3, H => by rw [ey_cost_45]; exact br_f (by decide) (br_t (by decide) (br_f (by decide) (br_f (by decide) (br_f (by decide) (br_f (by decide) (br_f (by decide) (br_f (by decide) (br_f (by decide) (br_f (by decide) (br_f (by decide) (br_f (by decide) (br_f (by decide) (br_f (by decide) (br_f (by decide) (br_f (by decide) (H (by decide)))))))))))))))))
  | 16, _, h1, h2, h3, H => by rw [ey_cost_45]; exact br_f (by decide) (br_t (by decide) (br_f (by decide) (br_f (by decide) (br_f (by decide) (br_f (by decide) (br_f (by decide) (br_f (by decide) (br_f (by decide) (br_f (by decide) (br_f (by decide) (br_f (by decide) (br_f (by decide) (br_f (by decide) (br_f (by decide) (br_f (by decide) (H (by decide)))))))))))))))))
  | 17, _, h1, h2, h3, H => by rw [ey_cost_45]; exact br_f (by decide) (br_t (by decide) (br_f (by decide) (br_f (by decide) (br_t (by decide) (H (by decide))))))
  | 18, _, h1, h2, h3, H => by rw [ey_cost_45]; exact br_f (by decide) (br_t (by decide) (br_f (by decide) (br_f (by decide) (br_f (by decide) (br_f (by decide) (br_t (by decide) (H (by decide))))))))
  | 19, _, h1, h2, h3, H => by rw [ey_cost_45]; exact br_f (by decide) (br_t (by decide) (br_f (by decide) (br_f (by decide) (br_f (by decide) (br_f (by decide) (br_f (by decide) (br_t (by decide) (h1 (Or.inl rfl)))))))))
  | 20, _, h1, h2, h3, H => by rw [ey_cost_45]; exact br_f (by decide) (br_t (by decide) (br_f (by decide) (br_f (by decide) (br_f (by decide) (br_f (by decide) (br_f (by decide) (br_f (by decide) (br_t (by decide) (h1 (Or.inr rfl))))))))))
  | 21, _, h1, h2, h3, H => by rw [ey_cost_45]; exact br_f (by decide) (br_t (by decide) (br_f (by decide) (br_f (by decide) (br_f (by decide) (br_f (by decide) (br_f (by decide) (br_f (by decide) (br_f (by decide) (br_f (by decide) (br_f (by decide) (br_f (by decide) (br_f (by decide) (br_f (by decide) (br_f (by decide) (br_f (by decide) (H (by decide)))))))))))))))))
  | 22, _, h1, h2, h3, H => by rw [ey_cost_45]; exact br_f (by decide) (br_t (by decide) (br_f (by decide) (br_f (by decide) (br_f (by decide) (br_f (by decide) (br_f (by decide) (br_f (by decide) (br_f (by decide) (br_t (by decide) (H (by decide)))))))))))
  | 23, _, h1, h2, h3, H => by rw [ey_cost_45]; exact br_f (by decide) (br_t (by decide) (br_f (by decide) (br_f (by decide) (br_f (by decide) (br_f (by decide) (br_f (by decide) (br_f (by decide) (br_f (by decide) (br_f (by decide) (br_t (by decide) (h2 rfl)))))))))))
  | 24, _, h1, h2, h3, H => by rw [ey_cost_45]; exact br_f (by decide) (br_t (by decide) (br_f (by decide) (br_f (by decide) (br_f (by decide) (br_f (by decide) (br_f (by decide) (br_f (by decide) (br_f (by decide) (br_f (by decide) (br_f (by decide) (br_t (by decide) (H (by decide)))))))))))))
  | 25, _, h1, h2, h3, H => by rw [ey_cost_45]; exact br_f (by decide) (br_t (by decide) (br_f (by decide) (br_f (by decide) (br_f (by decide) (br_f (by decide) (br_f (by decide) (br_f (by decide) (br_f (by decide) (br_f (by decide) (br_f (by decide) (br_f (by decide) (br_f (by decide) (br_f (by decide) (br_f (by decide) (br_f (by decide) (H (by decide)))))))))))))))))
  | 26, _, h1, h2, h3, H => by rw [ey_cost_45]; exact br_f (by decide) (br_t (by decide) (br_f (by decide) (br_f (by decide) (br_f (by decide) (br_f (by decide) (br_f (by decide) (br_f (by decide) (br_f (by decide) (br_f (by decide) (br_f (by decide) (br_f (by decide) (br_f (by decide) (br_f (by decide) (br_f (by decide) (br_f (by decide) (H (by decide)))))))))))))))))
  | 27, _, h1, h2, h3, H => by rw [ey_cost_45]; exact br_f (by decide) (br_t (by decide) (br_f (by decide) (br_f (by decide) (br_f (by decide) (br_f (by decide) (br_f (by decide) (br_f (by decide) (br_f (by decide) (br_f (by decide) (br_f (by decide) (br_f (by decide) (br_f (by decide) (br_f (by decide) (br_f (by decide) (br_f (by decide) (H (by decide)))))))))))))))))
  | 28, _, h1, h2, h3, H => by rw [ey_cost_45]; exact br_f (by decide) (br_t (by decide) (br_f (by decide) (br_f (by decide) (br_f (by decide) (br_f (by decide) (br_f (by decide) (br_f (by decide) (br_f (by decide) (br_f (by decide) (br_f (by decide) (br_f (by decide) (br_f (by decide) (br_f (by decide) (br_f (by decide) (br_f (by decide) (H (by decide)))))))))))))))))
  | 29, _, h1, h2, h3, H => by rw [ey_cost_45]; exact br_f (by decide) (br_t (by decide) (br_f (by decide) (br_f (by decide) (br_f (by decide) (br_t (by decide) (H (by decide)))))))
  | 30, _, h1, h2, h3, H => by rw [ey_cost_45]; exact br_f (by decide) (br_t (by decide) (br_f (by decide) (br_f (by decide) (br_f (by decide) (br_f (by decide) (br_f (by decide) (br_f (by decide) (br_f (by decide) (br_f (by decide) (br_f (by decide) (br_f (by decide) (br_f (by decide) (br_f (by decide) (br_f (by decide) (br_f (by decide) (H (by decide)))))))))))))))))
  | 31, _, h1, h2, h3, H => by rw [ey_cost_45]; exact br_f (by decide) (br_t (by decide) (br_f (by decide) (br_f (by decide) (br_f (by decide) (br_f (by decide) (br_f (by decide) (br_f (by decide) (br_f (by decide) (br_f (by decide) (br_f (by decide) (br_f (by decide) (br_f (by decide) (br_f (by decide) (br_f (by decide) (br_f (by decide) (H (by decide)))))))))))))))))
  | 32, _, h1, h2, h3, H => by rw [ey_cost_45]; exact br_f (by decide) (br_t (by decide) (br_f (by decide) (br_f (by decide) (br_f (by decide) (br_f (by decide) (br_f (by decide) (br_f (by decide) (br_f (by decide) (br_f (by decide) (br_f (by decide) (br_f (by decide) (br_t (by decide) (h3 rfl)))))))))))))
  | 33, _, h1, h2, h3, H => by rw [ey_cost_45]; exact br_f (by decide) (br_t (by decide) (br_f (by decide) (br_f (by decide) (br_f (by decide) (br_f (by decide) (br_f (by decide) (br_f (by decide) (br_f (by decide) (br_f (by decide) (br_f (by decide) (br_f (by decide) (br_f (by decide) (br_t (by decide) (H (by decide)))))))))))))))
  | 34, _, h1, h2, h3, H => by rw [ey_cost_45]; exact br_f (by decide) (br_t (by decide) (br_f (by decide) (br_f (by decide) (br_f (by decide) (br_f (by decide) (br_f (by decide) (br_f (by decide) (br_f (by decide) (br_f (by decide) (br_f (by decide) (br_f (by decide) (br_f (by decide) (br_f (by decide) (br_t (by decide) (H (by decide))))))))))))))))
  | 35, _, h1, h2, h3, H => by rw [ey_cost_45]; exact br_f (by decide) (br_t (by decide) (br_f (by decide) (br_f (by decide) (br_f (by decide) (br_f (by decide) (br_f (by decide) (br_f (by decide) (br_f (by decide) (br_f (by decide) (br_f (by decide) (br_f (by decide) (br_f (by decide) (br_f (by decide) (br_f (by decide) (br_t (by decide) (H (by decide)))))))))))))))))
  | 36, _, h1, h2, h3, H => by rw [ey_cost_45]; exact br_f (by decide) (br_f (by decide) (H (by decide)))
  | 37, _, h1, h2, h3, H => by rw [ey_cost_45]; exact br_f (by decide) (br_f (by decide) (H (by decide)))
  | _ + 38, h, _, _, _, _ => absurd h (by omega)
theorem xd_0 {post : SX → Prop} {u : SX} {p0 : Int32} (H : wpX_endFrame post u 1 0) : wpX_execute post u p0 0 := by rw [ex_execute]; exact br_t (by decide) (H)
theorem xd_1 {post : SX → Prop} {u : SX} {p0 : Int32} (H : wpX_pushCells post u p0 (1 : Int32)) : wpX_execute post u p0 1 := by rw [ex_execute]; exact br_f (by decide) (br_f (by decide) (H))
theorem xd_2 {post : SX → Prop} {u : SX} {p0 : Int32} (H : wpX_pushCells post u p0 (2 : Int32)) : wpX_execute post u p0 2 := by rw [ex_execute]; exact br_f (by decide) (br_f (by decide) (H))
theorem xd_3 {post : SX → Prop} {u : SX} {p0 : Int32} (H : wpX_pushCells post u p0 (3 : Int32)) : wpX_execute post u p0 3 := by rw [ex_execute]; exact br_f (by decide) (br_f (by decide) (H))
theorem xd_4 {post : SX → Prop} {u : SX} {p0 : Int32} (H : wpX_pushCells post u p0 (4 : Int32)) : wpX_execute post u p0 4 := by rw [ex_execute]; exact br_f (by decide) (br_f (by decide) (H))
theorem xd_5 {post : SX → Prop} {u : SX} {p0 : Int32} (H : vp_in p0 8 ∧ (vp_in p0 8 ∧ ∀ a_frHeight_286 : Nat → Int32, a_frHeight_286 = upd (xg_frHeight u) p0.toNatClampNeg (((xg_frHeight u) p0.toNatClampNeg) - 1) → (post (xs_frHeight a_frHeight_286 u)))) : wpX_execute post u p0 5 := by rw [ex_execute]; exact br_f (by decide) (br_t (by decide) (br_f (by decide) (by rw [ex_shuffle]; exact br_t (by decide) (H))))
theorem xd_6 {post : SX → Prop} {u : SX} {p0 : Int32} (H : wpX_peek (fun r_214 => (wpX_push post u p0 r_214)) u p0 0) : wpX_execute post u p0 6 := by rw [ex_execute]; exact br_f (by decide) (br_t (by decide) (br_f (by decide) (by rw [ex_shuffle]; exact br_f (by decide) (br_t (by decide) (H)))))
theorem xd_7 {post : SX → Prop} {u : SX} {p0 : Int32} (H : wpX_peek (fun r_144 => (wpX_push post u p0 r_144)) u p0 1) : wpX_execute post u p0 7 := by rw [ex_execute]; exact br_f (by decide) (br_t (by decide) (br_f (by decide) (by rw [ex_shuffle]; exact br_f (by decide) (br_f (by decide) (br_t (by decide) (H))))))
theorem xd_8 {post : SX → Prop} {u : SX} {p0 : Int32} (H : wpX_pop (fun r_4 u3 => (wpX_pop (fun r_39 u4 => (wpX_push (fun u5 => (wpX_push post u5 p0 r_39)) u4 p0 r_4)) u3 p0)) u p0) : wpX_execute post u p0 8 := by rw [ex_execute]; exact br_f (by decide) (br_t (by decide) (br_f (by decide) (by rw [ex_shuffle]; exact br_f (by decide) (br_f (by decide) (br_f (by decide) (H))))))
theorem xd_9 {post : SX → Prop} {u : SX} {p0 : Int32} (H : wpX_calculate post u p0 (9 : Int32)) : wpX_execute post u p0 9 := by rw [ex_execute]; exact br_f (by decide) (br_t (by decide) (br_t (by decide) (br_f (by decide) (H))))
theorem xd_10 {post : SX → Prop} {u : SX} {p0 : Int32} (H : wpX_calculate post u p0 (10 : Int32)) : wpX_execute post u p0 10 := by rw [ex_execute]; exact br_f (by decide) (br_t (by decide) (br_t (by decide) (br_f (by decide) (H))))
theorem xd_11 {post : SX → Prop} {u : SX} {p0 : Int32} (H : wpX_calculate post u p0 (11 : Int32)) : wpX_execute post u p0 11 := by rw [ex_execute]; exact br_f (by decide) (br_t (by decide) (br_t (by decide) (br_f (by decide) (H))))
theorem xd_12 {post : SX → Prop} {u : SX} {p0 : Int32} (H : wpX_calculate post u p0 (12 : Int32)) : wpX_execute post u p0 12 := by rw [ex_execute]; exact br_f (by decide) (br_t (by decide) (br_t (by decide) (br_f (by decide) (H))))
theorem xd_13 {post : SX → Prop} {u : SX} {p0 : Int32} (H : wpX_calculate post u p0 (13 : Int32)) : wpX_execute post u p0 13 := by rw [ex_execute]; exact br_f (by decide) (br_t (by decide) (br_t (by decide) (br_f (by decide) (H))))
theorem xd_14 {post : SX → Prop} {u : SX} {p0 : Int32} (H : wpX_calculate post u p0 (14 : Int32)) : wpX_execute post u p0 14 := by rw [ex_execute]; exact br_f (by decide) (br_t (by decide) (br_t (by decide) (br_f (by decide) (H))))
theorem xd_15 {post : SX → Prop} {u : SX} {p0 : Int32} (H : wpX_calculate post u p0 (15 : Int32)) : wpX_execute post u p0 15 := by rw [ex_execute]; exact br_f (by decide) (br_t (by decide) (br_t (by decide) (br_f (by decide) (H))))
theorem xd_16 {post : SX → Prop} {u : SX} {p0 : Int32} (H : post u) : wpX_execute post u p0 16 := by rw [ex_execute]; exact br_f (by decide) (br_t (by decide) (br_t (by decide) (br_t (by decide) (br_f (by decide) (by rw [ex_jump]; exact br_t (by decide) (H))))))
theorem xd_17 {post : SX → Prop} {u : SX} {p0 : Int32} (H : wpX_pop (fun r_2 u1 => ((((17 : Int32) = 18 → (wpX_pop (fun r_112 u2 => (((r_112 = 0 → (post u2)) ∧ (¬ r_112 = 0 → (zx_jump_32 post p0 r_2 u2))))) u1 p0)) ∧ (¬ (17 : Int32) = 18 → (zx_jump_32 post p0 r_2 u1))))) u p0) : wpX_execute post u p0 17 := by rw [ex_execute]; exact br_f (by decide) (br_t (by decide) (br_t (by decide) (br_t (by decide) (br_f (by decide) (by rw [ex_jump]; exact br_f (by decide) (H))))))
theorem xd_18 {post : SX → Prop} {u : SX} {p0 : Int32} (H : wpX_pop (fun r_2 u1 => ((((18 : Int32) = 18 → (wpX_pop (fun r_112 u2 => (((r_112 = 0 → (post u2)) ∧ (¬ r_112 = 0 → (zx_jump_32 post p0 r_2 u2))))) u1 p0)) ∧ (¬ (18 : Int32) = 18 → (zx_jump_32 post p0 r_2 u1))))) u p0) : wpX_execute post u p0 18 := by rw [ex_execute]; exact br_f (by decide) (br_t (by decide) (br_t (by decide) (br_t (by decide) (br_f (by decide) (by rw [ex_jump]; exact br_f (by decide) (H))))))
theorem xd_19 {post : SX → Prop} {u : SX} {p0 : Int32} (H : wpX_pop (fun r_2 u2 => (((r_2 < 0 → (post u2)) ∧ (¬ r_2 < 0 → (((r_2 < 16 → (vp_in p0 8 ∧ ((((r_2 + 1) ≤ ((xg_frMemSize u2) p0.toNatClampNeg) → (zx_useMemory_56 post p0 (19 : Int32) r_2 u2)) ∧ (¬ (r_2 + 1) ≤ ((xg_frMemSize u2) p0.toNatClampNeg) → (vp_in p0 8 ∧ ∀ a_frMemSize_117 : Nat → Int32, a_frMemSize_117 = upd (xg_frMemSize u2) p0.toNatClampNeg (r_2 + 1) → (zx_useMemory_56 post p0 (19 : Int32) r_2 (xs_frMemSize a_frMemSize_117 u2)))))))) ∧ (¬ r_2 < 16 → (post u2)))))))) u p0) : wpX_execute post u p0 19 := by rw [ex_execute]; exact br_f (by decide) (br_t (by decide) (br_t (by decide) (br_t (by decide) (br_t (by decide) (br_f (by decide) (by rw [ex_useMemory]; exact br_f (by decide) (H)))))))
theorem xd_20 {post : SX → Prop} {u : SX} {p0 : Int32} (H : wpX_pop (fun r_2 u2 => (((r_2 < 0 → (post u2)) ∧ (¬ r_2 < 0 → (((r_2 < 16 → (vp_in p0 8 ∧ ((((r_2 + 1) ≤ ((xg_frMemSize u2) p0.toNatClampNeg) → (zx_useMemory_56 post p0 (20 : Int32) r_2 u2)) ∧ (¬ (r_2 + 1) ≤ ((xg_frMemSize u2) p0.toNatClampNeg) → (vp_in p0 8 ∧ ∀ a_frMemSize_117 : Nat → Int32, a_frMemSize_117 = upd (xg_frMemSize u2) p0.toNatClampNeg (r_2 + 1) → (zx_useMemory_56 post p0 (20 : Int32) r_2 (xs_frMemSize a_frMemSize_117 u2)))))))) ∧ (¬ r_2 < 16 → (post u2)))))))) u p0) : wpX_execute post u p0 20 := by rw [ex_execute]; exact br_f (by decide) (br_t (by decide) (br_t (by decide) (br_t (by decide) (br_t (by decide) (br_f (by decide) (by rw [ex_useMemory]; exact br_f (by decide) (H)))))))
theorem xd_21 {post : SX → Prop} {u : SX} {p0 : Int32} (H : vp_in p0 8 ∧ (wpX_push post u p0 ((xg_frMemSize u) p0.toNatClampNeg))) : wpX_execute post u p0 21 := by rw [ex_execute]; exact br_f (by decide) (br_t (by decide) (br_t (by decide) (br_t (by decide) (br_t (by decide) (br_f (by decide) (by rw [ex_useMemory]; exact br_t (by decide) (H)))))))
theorem xd_22 {post : SX → Prop} {u : SX} {p0 : Int32} (H : wpX_useStorage post u p0 (22 : Int32)) : wpX_execute post u p0 22 := by rw [ex_execute]; exact br_f (by decide) (br_t (by decide) (br_t (by decide) (br_t (by decide) (br_t (by decide) (br_t (by decide) (br_f (by decide) (H)))))))
theorem xd_23 {post : SX → Prop} {u : SX} {p0 : Int32} (H : wpX_useStorage post u p0 (23 : Int32)) : wpX_execute post u p0 23 := by rw [ex_execute]; exact br_f (by decide) (br_t (by decide) (br_t (by decide) (br_t (by decide) (br_t (by decide) (br_t (by decide) (br_f (by decide) (H)))))))
theorem xd_24 {post : SX → Prop} {u : SX} {p0 : Int32} (H : wpX_addLog post u p0) : wpX_execute post u p0 24 := by rw [ex_execute]; exact br_f (by decide) (br_t (by decide) (br_t (by decide) (br_t (by decide) (br_t (by decide) (br_t (by decide) (br_t (by decide) (br_t (by decide) (H))))))))
theorem xd_25 {post : SX → Prop} {u : SX} {p0 : Int32} (H : vp_in p0 8 ∧ (∀ x3_44 : Int32, x3_44 = (xg_frSelf u) p0.toNatClampNeg → (zx_pushFact_106 post p0 x3_44 u))) : wpX_execute post u p0 25 := by rw [ex_execute]; exact br_f (by decide) (br_t (by decide) (br_t (by decide) (br_t (by decide) (br_t (by decide) (br_t (by decide) (br_t (by decide) (br_f (by decide) (br_f (by decide) (by rw [ex_pushFact]; exact br_f (by decide) (br_f (by decide) (br_t (by decide) (H))))))))))))
theorem xd_26 {post : SX → Prop} {u : SX} {p0 : Int32} (H : vp_in p0 8 ∧ (∀ x3_47 : Int32, x3_47 = (xg_frCaller u) p0.toNatClampNeg → (zx_pushFact_106 post p0 x3_47 u))) : wpX_execute post u p0 26 := by rw [ex_execute]; exact br_f (by decide) (br_t (by decide) (br_t (by decide) (br_t (by decide) (br_t (by decide) (br_t (by decide) (br_t (by decide) (br_f (by decide) (br_f (by decide) (by rw [ex_pushFact]; exact br_f (by decide) (br_f (by decide) (br_f (by decide) (br_t (by decide) (H)))))))))))))
theorem xd_27 {post : SX → Prop} {u : SX} {p0 : Int32} (H : vp_in p0 8 ∧ (∀ x3_50 : Int32, x3_50 = (xg_frValue u) p0.toNatClampNeg → (zx_pushFact_106 post p0 x3_50 u))) : wpX_execute post u p0 27 := by rw [ex_execute]; exact br_f (by decide) (br_t (by decide) (br_t (by decide) (br_t (by decide) (br_t (by decide) (br_t (by decide) (br_t (by decide) (br_f (by decide) (br_f (by decide) (by rw [ex_pushFact]; exact br_f (by decide) (br_f (by decide) (br_f (by decide) (br_f (by decide) (br_t (by decide) (H))))))))))))))
theorem xd_28 {post : SX → Prop} {u : SX} {p0 : Int32} (H : vp_in p0 8 ∧ (∀ x3_53 : Int32, x3_53 = (xg_frInput u) p0.toNatClampNeg → (zx_pushFact_106 post p0 x3_53 u))) : wpX_execute post u p0 28 := by rw [ex_execute]; exact br_f (by decide) (br_t (by decide) (br_t (by decide) (br_t (by decide) (br_t (by decide) (br_t (by decide) (br_t (by decide) (br_f (by decide) (br_f (by decide) (by rw [ex_pushFact]; exact br_f (by decide) (br_f (by decide) (br_f (by decide) (br_f (by decide) (br_f (by decide) (br_t (by decide) (H)))))))))))))))
theorem xd_29 {post : SX → Prop} {u : SX} {p0 : Int32} (H : wpX_balanceFor (fun r_55 u1 => (zx_pushFact_106 post p0 r_55 u1)) u p0) : wpX_execute post u p0 29 := by rw [ex_execute]; exact br_f (by decide) (br_t (by decide) (br_t (by decide) (br_t (by decide) (br_t (by decide) (br_t (by decide) (br_t (by decide) (br_f (by decide) (br_f (by decide) (by rw [ex_pushFact]; exact br_f (by decide) (br_f (by decide) (br_f (by decide) (br_f (by decide) (br_f (by decide) (br_f (by decide) (br_t (by decide) (H))))))))))))))))
theorem xd_30 {post : SX → Prop} {u : SX} {p0 : Int32} (H : vp_in p0 8 ∧ (∀ x3_92 : Int32, x3_92 = (xg_frGas u) p0.toNatClampNeg → (zx_pushFact_106 post p0 x3_92 u))) : wpX_execute post u p0 30 := by rw [ex_execute]; exact br_f (by decide) (br_t (by decide) (br_t (by decide) (br_t (by decide) (br_t (by decide) (br_t (by decide) (br_t (by decide) (br_f (by decide) (br_f (by decide) (by rw [ex_pushFact]; exact br_f (by decide) (br_f (by decide) (br_f (by decide) (br_f (by decide) (br_f (by decide) (br_f (by decide) (br_f (by decide) (br_t (by decide) (H)))))))))))))))))
theorem xd_31 {post : SX → Prop} {u : SX} {p0 : Int32} (H : vp_in p0 8 ∧ (∀ x3_41 : Int32, x3_41 = (xg_frResult u) p0.toNatClampNeg → (zx_pushFact_106 post p0 x3_41 u))) : wpX_execute post u p0 31 := by rw [ex_execute]; exact br_f (by decide) (br_t (by decide) (br_t (by decide) (br_t (by decide) (br_t (by decide) (br_t (by decide) (br_t (by decide) (br_f (by decide) (br_f (by decide) (by rw [ex_pushFact]; exact br_f (by decide) (br_t (by decide) (H)))))))))))
theorem xd_32 {post : SX → Prop} {u : SX} {p0 : Int32} (H : wpX_callAccount post u p0 (32 : Int32)) : wpX_execute post u p0 32 := by rw [ex_execute]; exact br_f (by decide) (br_t (by decide) (br_t (by decide) (br_t (by decide) (br_t (by decide) (br_t (by decide) (br_t (by decide) (br_f (by decide) (br_t (by decide) (br_f (by decide) (H))))))))))
theorem xd_33 {post : SX → Prop} {u : SX} {p0 : Int32} (H : wpX_callAccount post u p0 (33 : Int32)) : wpX_execute post u p0 33 := by rw [ex_execute]; exact br_f (by decide) (br_t (by decide) (br_t (by decide) (br_t (by decide) (br_t (by decide) (br_t (by decide) (br_t (by decide) (br_f (by decide) (br_t (by decide) (br_f (by decide) (H))))))))))
theorem xd_34 {post : SX → Prop} {u : SX} {p0 : Int32} (H : wpX_callAccount post u p0 (34 : Int32)) : wpX_execute post u p0 34 := by rw [ex_execute]; exact br_f (by decide) (br_t (by decide) (br_t (by decide) (br_t (by decide) (br_t (by decide) (br_t (by decide) (br_t (by decide) (br_f (by decide) (br_t (by decide) (br_f (by decide) (H))))))))))
theorem xd_35 {post : SX → Prop} {u : SX} {p0 : Int32} (H : wpX_createAccount post u p0) : wpX_execute post u p0 35 := by rw [ex_execute]; exact br_f (by decide) (br_t (by decide) (br_t (by decide) (br_t (by decide) (br_t (by decide) (br_t (by decide) (br_t (by decide) (br_f (by decide) (br_t (by decide) (br_t (by decide) (br_t (by decide) (H)))))))))))
theorem xd_36 {post : SX → Prop} {u : SX} {p0 : Int32} (H : wpX_pop (fun r_12 u4 => ((((36 : Int32) = 36 → (zx_execute_177 post r_12 1 u4)) ∧ (¬ (36 : Int32) = 36 → (zx_execute_177 post r_12 2 u4))))) u p0) : wpX_execute post u p0 36 := by rw [ex_execute]; exact br_f (by decide) (br_t (by decide) (br_t (by decide) (br_t (by decide) (br_t (by decide) (br_t (by decide) (br_t (by decide) (br_f (by decide) (br_t (by decide) (br_t (by decide) (br_f (by decide) (H)))))))))))
theorem xd_37 {post : SX → Prop} {u : SX} {p0 : Int32} (H : wpX_pop (fun r_12 u4 => ((((37 : Int32) = 36 → (zx_execute_177 post r_12 1 u4)) ∧ (¬ (37 : Int32) = 36 → (zx_execute_177 post r_12 2 u4))))) u p0) : wpX_execute post u p0 37 := by rw [ex_execute]; exact br_f (by decide) (br_t (by decide) (br_t (by decide) (br_t (by decide) (br_t (by decide) (br_t (by decide) (br_t (by decide) (br_f (by decide) (br_t (by decide) (br_t (by decide) (br_f (by decide) (H)))))))))))
theorem yd_0 {post : SY → Prop} {u : SY} {x1 x2 x3 x4 x9 x10 : Int32} {n : Nat} (H : wpY_end post u x1 1 0) : zy_step_306 post x1 x2 x3 x4 0 x9 x10 (n + 1) 5 u := by rw [ey_step_306]; exact br_t (by decide) (br_f (by decide) (br_f (by decide) (br_t (by decide) (H))))
theorem yd_1 {post : SY → Prop} {u : SY} {x1 x2 x3 x4 x9 x10 : Int32} {n : Nat} (H : post u) : zy_step_306 post x1 x2 x3 x4 1 x9 x10 (n + 1) 5 u := by rw [ey_step_306]; exact br_t (by decide) (br_f (by decide) (br_f (by decide) (br_f (by decide) (br_t (by decide) (H)))))
theorem yd_2 {post : SY → Prop} {u : SY} {x1 x2 x3 x4 x9 x10 : Int32} {n : Nat} (H : post u) : zy_step_306 post x1 x2 x3 x4 2 x9 x10 (n + 1) 5 u := by rw [ey_step_306]; exact br_t (by decide) (br_f (by decide) (br_f (by decide) (br_f (by decide) (br_f (by decide) (br_t (by decide) (H))))))
theorem yd_3 {post : SY → Prop} {u : SY} {x1 x2 x3 x4 x9 x10 : Int32} {n : Nat} (H : post u) : zy_step_306 post x1 x2 x3 x4 3 x9 x10 (n + 1) 5 u := by rw [ey_step_306]; exact br_t (by decide) (br_f (by decide) (br_f (by decide) (br_f (by decide) (br_f (by decide) (br_f (by decide) (br_t (by decide) (H)))))))
theorem yd_4 {post : SY → Prop} {u : SY} {x1 x2 x3 x4 x9 x10 : Int32} {n : Nat} (H : post u) : zy_step_306 post x1 x2 x3 x4 4 x9 x10 (n + 1) 5 u := by rw [ey_step_306]; exact br_t (by decide) (br_f (by decide) (br_f (by decide) (br_f (by decide) (br_f (by decide) (br_f (by decide) (br_f (by decide) (br_t (by decide) (H))))))))
theorem yd_5 {post : SY → Prop} {u : SY} {x1 x2 x3 x4 x9 x10 : Int32} {n : Nat} (H : post u) : zy_step_306 post x1 x2 x3 x4 5 x9 x10 (n + 1) 5 u := by rw [ey_step_306]; exact br_t (by decide) (br_f (by decide) (br_f (by decide) (br_f (by decide) (br_f (by decide) (br_f (by decide) (br_f (by decide) (br_f (by decide) (br_t (by decide) (H)))))))))
theorem yd_6 {post : SY → Prop} {u : SY} {x1 x2 x3 x4 x9 x10 : Int32} {n : Nat} (H : wpY_push (fun u2 => (wpY_push post u2 x1 x9)) u x1 x9) : zy_step_306 post x1 x2 x3 x4 6 x9 x10 (n + 1) 5 u := by rw [ey_step_306]; exact br_t (by decide) (br_f (by decide) (br_f (by decide) (br_f (by decide) (br_f (by decide) (br_f (by decide) (br_f (by decide) (br_f (by decide) (br_f (by decide) (br_t (by decide) (H))))))))))
theorem yd_7 {post : SY → Prop} {u : SY} {x1 x2 x3 x4 x9 x10 : Int32} {n : Nat} (H : wpY_push (fun u4 => (wpY_push (fun u5 => (wpY_push post u5 x1 x10)) u4 x1 x9)) u x1 x10) : zy_step_306 post x1 x2 x3 x4 7 x9 x10 (n + 1) 5 u := by rw [ey_step_306]; exact br_t (by decide) (br_f (by decide) (br_f (by decide) (br_f (by decide) (br_f (by decide) (br_f (by decide) (br_f (by decide) (br_f (by decide) (br_f (by decide) (br_f (by decide) (br_t (by decide) (H)))))))))))
theorem yd_8 {post : SY → Prop} {u : SY} {x1 x2 x3 x4 x9 x10 : Int32} {n : Nat} (H : wpY_push (fun u7 => (wpY_push post u7 x1 x10)) u x1 x9) : zy_step_306 post x1 x2 x3 x4 8 x9 x10 (n + 1) 5 u := by rw [ey_step_306]; exact br_t (by decide) (br_f (by decide) (br_f (by decide) (br_f (by decide) (br_f (by decide) (br_f (by decide) (br_f (by decide) (br_f (by decide) (br_f (by decide) (br_f (by decide) (br_f (by decide) (br_t (by decide) (H))))))))))))
theorem yd_9 {post : SY → Prop} {u : SY} {x1 x2 x3 x4 x9 x10 : Int32} {n : Nat} (H : wpY_push post u x1 (x10 + x9)) : zy_step_306 post x1 x2 x3 x4 9 x9 x10 (n + 1) 5 u := by rw [ey_step_306]; exact br_t (by decide) (br_f (by decide) (br_f (by decide) (br_f (by decide) (br_f (by decide) (br_f (by decide) (br_f (by decide) (br_f (by decide) (br_f (by decide) (br_f (by decide) (br_f (by decide) (br_f (by decide) (br_t (by decide) (H)))))))))))))
theorem yd_10 {post : SY → Prop} {u : SY} {x1 x2 x3 x4 x9 x10 : Int32} {n : Nat} (H : wpY_push post u x1 (x10 - x9)) : zy_step_306 post x1 x2 x3 x4 10 x9 x10 (n + 1) 5 u := by rw [ey_step_306]; exact br_t (by decide) (br_f (by decide) (br_f (by decide) (br_f (by decide) (br_f (by decide) (br_f (by decide) (br_f (by decide) (br_f (by decide) (br_f (by decide) (br_f (by decide) (br_f (by decide) (br_f (by decide) (br_f (by decide) (br_t (by decide) (H))))))))))))))
theorem yd_11 {post : SY → Prop} {u : SY} {x1 x2 x3 x4 x9 x10 : Int32} {n : Nat} (H : wpY_push post u x1 (x10 * x9)) : zy_step_306 post x1 x2 x3 x4 11 x9 x10 (n + 1) 5 u := by rw [ey_step_306]; exact br_t (by decide) (br_f (by decide) (br_f (by decide) (br_f (by decide) (br_f (by decide) (br_f (by decide) (br_f (by decide) (br_f (by decide) (br_f (by decide) (br_f (by decide) (br_f (by decide) (br_f (by decide) (br_f (by decide) (br_f (by decide) (br_t (by decide) (H)))))))))))))))
theorem yd_12 {post : SY → Prop} {u : SY} {x1 x2 x3 x4 x9 x10 : Int32} {n : Nat} (H : (x9 = 0 → (zy_step_651 post 0 x1 u)) ∧ (¬ x9 = 0 → (¬ x9 = 0 ∧ (zy_step_651 post (x10 / x9) x1 u)))) : zy_step_306 post x1 x2 x3 x4 12 x9 x10 (n + 1) 5 u := by rw [ey_step_306]; exact br_t (by decide) (br_f (by decide) (br_f (by decide) (br_f (by decide) (br_f (by decide) (br_f (by decide) (br_f (by decide) (br_f (by decide) (br_f (by decide) (br_f (by decide) (br_f (by decide) (br_f (by decide) (br_f (by decide) (br_f (by decide) (br_f (by decide) (br_t (by decide) (H))))))))))))))))
theorem yd_13 {post : SY → Prop} {u : SY} {x1 x2 x3 x4 x9 x10 : Int32} {n : Nat} (H : (x9 ≤ x10 → (zy_step_671 post 0 x1 u)) ∧ (¬ x9 ≤ x10 → (zy_step_671 post 1 x1 u))) : zy_step_306 post x1 x2 x3 x4 13 x9 x10 (n + 1) 5 u := by rw [ey_step_306]; exact br_t (by decide) (br_f (by decide) (br_f (by decide) (br_f (by decide) (br_f (by decide) (br_f (by decide) (br_f (by decide) (br_f (by decide) (br_f (by decide) (br_f (by decide) (br_f (by decide) (br_f (by decide) (br_f (by decide) (br_f (by decide) (br_f (by decide) (br_f (by decide) (br_t (by decide) (H)))))))))))))))))
theorem yd_14 {post : SY → Prop} {u : SY} {x1 x2 x3 x4 x9 x10 : Int32} {n : Nat} (H : (x10 = x9 → (zy_step_691 post 1 x1 u)) ∧ (¬ x10 = x9 → (zy_step_691 post 0 x1 u))) : zy_step_306 post x1 x2 x3 x4 14 x9 x10 (n + 1) 5 u := by rw [ey_step_306]; exact br_t (by decide) (br_f (by decide) (br_f (by decide) (br_f (by decide) (br_f (by decide) (br_f (by decide) (br_f (by decide) (br_f (by decide) (br_f (by decide) (br_f (by decide) (br_f (by decide) (br_f (by decide) (br_f (by decide) (br_f (by decide) (br_f (by decide) (br_f (by decide) (br_f (by decide) (br_t (by decide) (H))))))))))))))))))
theorem yd_15 {post : SY → Prop} {u : SY} {x1 x2 x3 x4 x9 x10 : Int32} {n : Nat} (H : (x9 = 0 → (zy_step_709 post 1 x1 u)) ∧ (¬ x9 = 0 → (zy_step_709 post 0 x1 u))) : zy_step_306 post x1 x2 x3 x4 15 x9 x10 (n + 1) 5 u := by rw [ey_step_306]; exact br_t (by decide) (br_f (by decide) (br_f (by decide) (br_f (by decide) (br_f (by decide) (br_f (by decide) (br_f (by decide) (br_f (by decide) (br_f (by decide) (br_f (by decide) (br_f (by decide) (br_f (by decide) (br_f (by decide) (br_f (by decide) (br_f (by decide) (br_f (by decide) (br_f (by decide) (br_f (by decide) (br_t (by decide) (H)))))))))))))))))))
theorem yd_16 {post : SY → Prop} {u : SY} {x1 x2 x3 x4 x9 x10 : Int32} {n : Nat} (H : post u) : zy_step_306 post x1 x2 x3 x4 16 x9 x10 (n + 1) 5 u := by rw [ey_step_306]; exact br_t (by decide) (br_f (by decide) (br_f (by decide) (br_f (by decide) (br_f (by decide) (br_f (by decide) (br_f (by decide) (br_f (by decide) (br_f (by decide) (br_f (by decide) (br_f (by decide) (br_f (by decide) (br_f (by decide) (br_f (by decide) (br_f (by decide) (br_f (by decide) (br_f (by decide) (br_f (by decide) (br_f (by decide) (br_t (by decide) (H))))))))))))))))))))
theorem yd_17 {post : SY → Prop} {u : SY} {x1 x2 x3 x4 x9 x10 : Int32} {n : Nat} (H : post u) : zy_step_306 post x1 x2 x3 x4 17 x9 x10 (n + 1) 5 u := by rw [ey_step_306]; exact br_t (by decide) (br_f (by decide) (br_f (by decide) (br_f (by decide) (br_f (by decide) (br_f (by decide) (br_f (by decide) (br_f (by decide) (br_f (by decide) (br_f (by decide) (br_f (by decide) (br_f (by decide) (br_f (by decide) (br_f (by decide) (br_f (by decide) (br_f (by decide) (br_f (by decide) (br_f (by decide) (br_f (by decide) (br_f (by decide) (br_t (by decide) (H)))))))))))))))))))))
theorem yd_18 {post : SY → Prop} {u : SY} {x1 x2 x3 x4 x9 x10 : Int32} {n : Nat} (H : post u) : zy_step_306 post x1 x2 x3 x4 18 x9 x10 (n + 1) 5 u := by rw [ey_step_306]; exact br_t (by decide) (br_f (by decide) (br_f (by decide) (br_f (by decide) (br_f (by decide) (br_f (by decide) (br_f (by decide) (br_f (by decide) (br_f (by decide) (br_f (by decide) (br_f (by decide) (br_f (by decide) (br_f (by decide) (br_f (by decide) (br_f (by decide) (br_f (by decide) (br_f (by decide) (br_f (by decide) (br_f (by decide) (br_f (by decide) (br_f (by decide) (br_t (by decide) (H))))))))))))))))))))))
theorem yd_19 {post : SY → Prop} {u : SY} {x1 x2 x3 x4 x9 x10 : Int32} {n : Nat} (H : vp_in ((x1 * 16) + (x9 &&& 15)) 512 ∧ (wpY_push post u x1 ((yg_memory u) ((x1 * 16) + (x9 &&& 15)).toNatClampNeg))) : zy_step_306 post x1 x2 x3 x4 19 x9 x10 (n + 1) 5 u := by rw [ey_step_306]; exact br_t (by decide) (br_f (by decide) (br_f (by decide) (br_f (by decide) (br_f (by decide) (br_f (by decide) (br_f (by decide) (br_f (by decide) (br_f (by decide) (br_f (by decide) (br_f (by decide) (br_f (by decide) (br_f (by decide) (br_f (by decide) (br_f (by decide) (br_f (by decide) (br_f (by decide) (br_f (by decide) (br_f (by decide) (br_f (by decide) (br_f (by decide) (br_f (by decide) (br_t (by decide) (H)))))))))))))))))))))))
theorem yd_20 {post : SY → Prop} {u : SY} {x1 x2 x3 x4 x9 x10 : Int32} {n : Nat} (H : vp_in ((x1 * 16) + (x9 &&& 15)) 512 ∧ ∀ a_memory_842 : Nat → Int32, a_memory_842 = upd (yg_memory u) ((x1 * 16) + (x9 &&& 15)).toNatClampNeg x10 → (post (ys_memory a_memory_842 u))) : zy_step_306 post x1 x2 x3 x4 20 x9 x10 (n + 1) 5 u := by rw [ey_step_306]; exact br_t (by decide) (br_f (by decide) (br_f (by decide) (br_f (by decide) (br_f (by decide) (br_f (by decide) (br_f (by decide) (br_f (by decide) (br_f (by decide) (br_f (by decide) (br_f (by decide) (br_f (by decide) (br_f (by decide) (br_f (by decide) (br_f (by decide) (br_f (by decide) (br_f (by decide) (br_f (by decide) (br_f (by decide) (br_f (by decide) (br_f (by decide) (br_f (by decide) (br_f (by decide) (br_t (by decide) (H))))))))))))))))))))))))
theorem yd_21 {post : SY → Prop} {u : SY} {x1 x2 x3 x4 x9 x10 : Int32} {n : Nat} (H : vp_in x1 32 ∧ (wpY_push post u x1 ((yg_memorySize u) x1.toNatClampNeg))) : zy_step_306 post x1 x2 x3 x4 21 x9 x10 (n + 1) 5 u := by rw [ey_step_306]; exact br_t (by decide) (br_f (by decide) (br_f (by decide) (br_f (by decide) (br_f (by decide) (br_f (by decide) (br_f (by decide) (br_f (by decide) (br_f (by decide) (br_f (by decide) (br_f (by decide) (br_f (by decide) (br_f (by decide) (br_f (by decide) (br_f (by decide) (br_f (by decide) (br_f (by decide) (br_f (by decide) (br_f (by decide) (br_f (by decide) (br_f (by decide) (br_f (by decide) (br_f (by decide) (br_f (by decide) (br_t (by decide) (H)))))))))))))))))))))))))
theorem yd_22 {post : SY → Prop} {u : SY} {x1 x2 x3 x4 x9 x10 : Int32} {n : Nat} (H : vp_in (((x3 * 6) + 2) + (x9 &&& 3)) 48 ∧ (wpY_push post u x1 ((yg_world u) (((x3 * 6) + 2) + (x9 &&& 3)).toNatClampNeg))) : zy_step_306 post x1 x2 x3 x4 22 x9 x10 (n + 1) 5 u := by rw [ey_step_306]; exact br_t (by decide) (br_f (by decide) (br_f (by decide) (br_f (by decide) (br_f (by decide) (br_f (by decide) (br_f (by decide) (br_f (by decide) (br_f (by decide) (br_f (by decide) (br_f (by decide) (br_f (by decide) (br_f (by decide) (br_f (by decide) (br_f (by decide) (br_f (by decide) (br_f (by decide) (br_f (by decide) (br_f (by decide) (br_f (by decide) (br_f (by decide) (br_f (by decide) (br_f (by decide) (br_f (by decide) (br_f (by decide) (br_t (by decide) (H))))))))))))))))))))))))))
theorem yd_23 {post : SY → Prop} {u : SY} {x1 x2 x3 x4 x9 x10 : Int32} {n : Nat} (H : vp_in (((x3 * 6) + 2) + (x9 &&& 3)) 48 ∧ ∀ a_world_907 : Nat → Int32, a_world_907 = upd (yg_world u) (((x3 * 6) + 2) + (x9 &&& 3)).toNatClampNeg x10 → (post (ys_world a_world_907 u))) : zy_step_306 post x1 x2 x3 x4 23 x9 x10 (n + 1) 5 u := by rw [ey_step_306]; exact br_t (by decide) (br_f (by decide) (br_f (by decide) (br_f (by decide) (br_f (by decide) (br_f (by decide) (br_f (by decide) (br_f (by decide) (br_f (by decide) (br_f (by decide) (br_f (by decide) (br_f (by decide) (br_f (by decide) (br_f (by decide) (br_f (by decide) (br_f (by decide) (br_f (by decide) (br_f (by decide) (br_f (by decide) (br_f (by decide) (br_f (by decide) (br_f (by decide) (br_f (by decide) (br_f (by decide) (br_f (by decide) (br_f (by decide) (br_t (by decide) (H)))))))))))))))))))))))))))
theorem yd_24 {post : SY → Prop} {u : SY} {x1 x2 x3 x4 x9 x10 : Int32} {n : Nat} (H : ((yg_logs u) < 16 → (vp_in (yg_logs u) 16 ∧ ∀ a_logAccounts_911 : Nat → Int32, a_logAccounts_911 = upd (yg_logAccounts u) (yg_logs u).toNatClampNeg x3 → (vp_in (yg_logs u) 16 ∧ ∀ a_logWords_913 : Nat → Int32, a_logWords_913 = upd (yg_logWords u) (yg_logs u).toNatClampNeg x9 → (∀ f_logs_914 : Int32, f_logs_914 = (yg_logs u) + 1 → (post (ym_logs_logAccounts_logWords f_logs_914 a_logAccounts_911 a_logWords_913 u)))))) ∧ (¬ (yg_logs u) < 16 → (wpY_end post u x1 10 0))) : zy_step_306 post x1 x2 x3 x4 24 x9 x10 (n + 1) 5 u := by rw [ey_step_306]; exact br_t (by decide) (br_f (by decide) (br_f (by decide) (br_f (by decide) (br_f (by decide) (br_f (by decide) (br_f (by decide) (br_f (by decide) (br_f (by decide) (br_f (by decide) (br_f (by decide) (br_f (by decide) (br_f (by decide) (br_f (by decide) (br_f (by decide) (br_f (by decide) (br_f (by decide) (br_f (by decide) (br_f (by decide) (br_f (by decide) (br_f (by decide) (br_f (by decide) (br_f (by decide) (br_f (by decide) (br_f (by decide) (br_f (by decide) (br_f (by decide) (br_t (by decide) (H))))))))))))))))))))))))))))
theorem yd_25 {post : SY → Prop} {u : SY} {x1 x2 x3 x4 x9 x10 : Int32} {n : Nat} (H : wpY_push post u x1 x3) : zy_step_306 post x1 x2 x3 x4 25 x9 x10 (n + 1) 5 u := by rw [ey_step_306]; exact br_t (by decide) (br_f (by decide) (br_f (by decide) (br_f (by decide) (br_f (by decide) (br_f (by decide) (br_f (by decide) (br_f (by decide) (br_f (by decide) (br_f (by decide) (br_f (by decide) (br_f (by decide) (br_f (by decide) (br_f (by decide) (br_f (by decide) (br_f (by decide) (br_f (by decide) (br_f (by decide) (br_f (by decide) (br_f (by decide) (br_f (by decide) (br_f (by decide) (br_f (by decide) (br_f (by decide) (br_f (by decide) (br_f (by decide) (br_f (by decide) (br_f (by decide) (br_t (by decide) (H)))))))))))))))))))))))))))))
theorem yd_26 {post : SY → Prop} {u : SY} {x1 x2 x3 x4 x9 x10 : Int32} {n : Nat} (H : vp_in x1 32 ∧ (wpY_push post u x1 ((yg_callerOf u) x1.toNatClampNeg))) : zy_step_306 post x1 x2 x3 x4 26 x9 x10 (n + 1) 5 u := by rw [ey_step_306]; exact br_t (by decide) (br_f (by decide) (br_f (by decide) (br_f (by decide) (br_f (by decide) (br_f (by decide) (br_f (by decide) (br_f (by decide) (br_f (by decide) (br_f (by decide) (br_f (by decide) (br_f (by decide) (br_f (by decide) (br_f (by decide) (br_f (by decide) (br_f (by decide) (br_f (by decide) (br_f (by decide) (br_f (by decide) (br_f (by decide) (br_f (by decide) (br_f (by decide) (br_f (by decide) (br_f (by decide) (br_f (by decide) (br_f (by decide) (br_f (by decide) (br_f (by decide) (br_f (by decide) (br_t (by decide) (H))))))))))))))))))))))))))))))
theorem yd_27 {post : SY → Prop} {u : SY} {x1 x2 x3 x4 x9 x10 : Int32} {n : Nat} (H : vp_in x1 32 ∧ (wpY_push post u x1 ((yg_valueOf u) x1.toNatClampNeg))) : zy_step_306 post x1 x2 x3 x4 27 x9 x10 (n + 1) 5 u := by rw [ey_step_306]; exact br_t (by decide) (br_f (by decide) (br_f (by decide) (br_f (by decide) (br_f (by decide) (br_f (by decide) (br_f (by decide) (br_f (by decide) (br_f (by decide) (br_f (by decide) (br_f (by decide) (br_f (by decide) (br_f (by decide) (br_f (by decide) (br_f (by decide) (br_f (by decide) (br_f (by decide) (br_f (by decide) (br_f (by decide) (br_f (by decide) (br_f (by decide) (br_f (by decide) (br_f (by decide) (br_f (by decide) (br_f (by decide) (br_f (by decide) (br_f (by decide) (br_f (by decide) (br_f (by decide) (br_f (by decide) (br_t (by decide) (H)))))))))))))))))))))))))))))))
theorem yd_28 {post : SY → Prop} {u : SY} {x1 x2 x3 x4 x9 x10 : Int32} {n : Nat} (H : vp_in x1 32 ∧ (wpY_push post u x1 ((yg_inputOf u) x1.toNatClampNeg))) : zy_step_306 post x1 x2 x3 x4 28 x9 x10 (n + 1) 5 u := by rw [ey_step_306]; exact br_t (by decide) (br_f (by decide) (br_f (by decide) (br_f (by decide) (br_f (by decide) (br_f (by decide) (br_f (by decide) (br_f (by decide) (br_f (by decide) (br_f (by decide) (br_f (by decide) (br_f (by decide) (br_f (by decide) (br_f (by decide) (br_f (by decide) (br_f (by decide) (br_f (by decide) (br_f (by decide) (br_f (by decide) (br_f (by decide) (br_f (by decide) (br_f (by decide) (br_f (by decide) (br_f (by decide) (br_f (by decide) (br_f (by decide) (br_f (by decide) (br_f (by decide) (br_f (by decide) (br_f (by decide) (br_f (by decide) (br_t (by decide) (H))))))))))))))))))))))))))))))))
theorem yd_29 {post : SY → Prop} {u : SY} {x1 x2 x3 x4 x9 x10 : Int32} {n : Nat} (H : wpY_balance (fun r_1068 => (((0 ≤ r_1068 → (zy_step_943 post r_1068 x1 u)) ∧ (¬ 0 ≤ r_1068 → (zy_step_943 post 0 x1 u))))) u x9) : zy_step_306 post x1 x2 x3 x4 29 x9 x10 (n + 1) 5 u := by rw [ey_step_306]; exact br_t (by decide) (br_f (by decide) (br_f (by decide) (br_f (by decide) (br_f (by decide) (br_f (by decide) (br_f (by decide) (br_f (by decide) (br_f (by decide) (br_f (by decide) (br_f (by decide) (br_f (by decide) (br_f (by decide) (br_f (by decide) (br_f (by decide) (br_f (by decide) (br_f (by decide) (br_f (by decide) (br_f (by decide) (br_f (by decide) (br_f (by decide) (br_f (by decide) (br_f (by decide) (br_f (by decide) (br_f (by decide) (br_f (by decide) (br_f (by decide) (br_f (by decide) (br_f (by decide) (br_f (by decide) (br_f (by decide) (br_f (by decide) (br_t (by decide) (H)))))))))))))))))))))))))))))))))
theorem yd_30 {post : SY → Prop} {u : SY} {x1 x2 x3 x4 x9 x10 : Int32} {n : Nat} (H : vp_in x1 32 ∧ (wpY_push post u x1 ((yg_left u) x1.toNatClampNeg))) : zy_step_306 post x1 x2 x3 x4 30 x9 x10 (n + 1) 5 u := by rw [ey_step_306]; exact br_t (by decide) (br_f (by decide) (br_f (by decide) (br_f (by decide) (br_f (by decide) (br_f (by decide) (br_f (by decide) (br_f (by decide) (br_f (by decide) (br_f (by decide) (br_f (by decide) (br_f (by decide) (br_f (by decide) (br_f (by decide) (br_f (by decide) (br_f (by decide) (br_f (by decide) (br_f (by decide) (br_f (by decide) (br_f (by decide) (br_f (by decide) (br_f (by decide) (br_f (by decide) (br_f (by decide) (br_f (by decide) (br_f (by decide) (br_f (by decide) (br_f (by decide) (br_f (by decide) (br_f (by decide) (br_f (by decide) (br_f (by decide) (br_f (by decide) (br_t (by decide) (H))))))))))))))))))))))))))))))))))
theorem yd_31 {post : SY → Prop} {u : SY} {x1 x2 x3 x4 x9 x10 : Int32} {n : Nat} (H : vp_in x1 32 ∧ (wpY_push post u x1 ((yg_result u) x1.toNatClampNeg))) : zy_step_306 post x1 x2 x3 x4 31 x9 x10 (n + 1) 5 u := by rw [ey_step_306]; exact br_t (by decide) (br_f (by decide) (br_f (by decide) (br_f (by decide) (br_f (by decide) (br_f (by decide) (br_f (by decide) (br_f (by decide) (br_f (by decide) (br_f (by decide) (br_f (by decide) (br_f (by decide) (br_f (by decide) (br_f (by decide) (br_f (by decide) (br_f (by decide) (br_f (by decide) (br_f (by decide) (br_f (by decide) (br_f (by decide) (br_f (by decide) (br_f (by decide) (br_f (by decide) (br_f (by decide) (br_f (by decide) (br_f (by decide) (br_f (by decide) (br_f (by decide) (br_f (by decide) (br_f (by decide) (br_f (by decide) (br_f (by decide) (br_f (by decide) (br_f (by decide) (br_t (by decide) (H)))))))))))))))))))))))))))))))))))
theorem yd_32 {post : SY → Prop} {u : SY} {x1 x2 x3 x4 x9 x10 : Int32} {n : Nat} (H : post u) : zy_step_306 post x1 x2 x3 x4 32 x9 x10 (n + 1) 5 u := by rw [ey_step_306]; exact br_t (by decide) (br_f (by decide) (br_f (by decide) (br_f (by decide) (br_f (by decide) (br_f (by decide) (br_f (by decide) (br_f (by decide) (br_f (by decide) (br_f (by decide) (br_f (by decide) (br_f (by decide) (br_f (by decide) (br_f (by decide) (br_f (by decide) (br_f (by decide) (br_f (by decide) (br_f (by decide) (br_f (by decide) (br_f (by decide) (br_f (by decide) (br_f (by decide) (br_f (by decide) (br_f (by decide) (br_f (by decide) (br_f (by decide) (br_f (by decide) (br_f (by decide) (br_f (by decide) (br_f (by decide) (br_f (by decide) (br_f (by decide) (br_f (by decide) (br_f (by decide) (br_f (by decide) (br_t (by decide) (H))))))))))))))))))))))))))))))))))))
theorem yd_33 {post : SY → Prop} {u : SY} {x1 x2 x3 x4 x9 x10 : Int32} {n : Nat} (H : post u) : zy_step_306 post x1 x2 x3 x4 33 x9 x10 (n + 1) 5 u := by rw [ey_step_306]; exact br_t (by decide) (br_f (by decide) (br_f (by decide) (br_f (by decide) (br_f (by decide) (br_f (by decide) (br_f (by decide) (br_f (by decide) (br_f (by decide) (br_f (by decide) (br_f (by decide) (br_f (by decide) (br_f (by decide) (br_f (by decide) (br_f (by decide) (br_f (by decide) (br_f (by decide) (br_f (by decide) (br_f (by decide) (br_f (by decide) (br_f (by decide) (br_f (by decide) (br_f (by decide) (br_f (by decide) (br_f (by decide) (br_f (by decide) (br_f (by decide) (br_f (by decide) (br_f (by decide) (br_f (by decide) (br_f (by decide) (br_f (by decide) (br_f (by decide) (br_f (by decide) (br_f (by decide) (br_f (by decide) (br_t (by decide) (H)))))))))))))))))))))))))))))))))))))
theorem yd_34 {post : SY → Prop} {u : SY} {x1 x2 x3 x4 x9 x10 : Int32} {n : Nat} (H : post u) : zy_step_306 post x1 x2 x3 x4 34 x9 x10 (n + 1) 5 u := by rw [ey_step_306]; exact br_t (by decide) (br_f (by decide) (br_f (by decide) (br_f (by decide) (br_f (by decide) (br_f (by decide) (br_f (by decide) (br_f (by decide) (br_f (by decide) (br_f (by decide) (br_f (by decide) (br_f (by decide) (br_f (by decide) (br_f (by decide) (br_f (by decide) (br_f (by decide) (br_f (by decide) (br_f (by decide) (br_f (by decide) (br_f (by decide) (br_f (by decide) (br_f (by decide) (br_f (by decide) (br_f (by decide) (br_f (by decide) (br_f (by decide) (br_f (by decide) (br_f (by decide) (br_f (by decide) (br_f (by decide) (br_f (by decide) (br_f (by decide) (br_f (by decide) (br_f (by decide) (br_f (by decide) (br_f (by decide) (br_f (by decide) (br_t (by decide) (H))))))))))))))))))))))))))))))))))))))
theorem yd_35 {post : SY → Prop} {u : SY} {x1 x2 x3 x4 x9 x10 : Int32} {n : Nat} (H : post u) : zy_step_306 post x1 x2 x3 x4 35 x9 x10 (n + 1) 5 u := by rw [ey_step_306]; exact br_t (by decide) (br_f (by decide) (br_f (by decide) (br_f (by decide) (br_f (by decide) (br_f (by decide) (br_f (by decide) (br_f (by decide) (br_f (by decide) (br_f (by decide) (br_f (by decide) (br_f (by decide) (br_f (by decide) (br_f (by decide) (br_f (by decide) (br_f (by decide) (br_f (by decide) (br_f (by decide) (br_f (by decide) (br_f (by decide) (br_f (by decide) (br_f (by decide) (br_f (by decide) (br_f (by decide) (br_f (by decide) (br_f (by decide) (br_f (by decide) (br_f (by decide) (br_f (by decide) (br_f (by decide) (br_f (by decide) (br_f (by decide) (br_f (by decide) (br_f (by decide) (br_f (by decide) (br_f (by decide) (br_f (by decide) (br_f (by decide) (br_t (by decide) (H)))))))))))))))))))))))))))))))))))))))
theorem yd_36 {post : SY → Prop} {u : SY} {x1 x2 x3 x4 x9 x10 : Int32} {n : Nat} (H : wpY_end post u x1 1 x9) : zy_step_306 post x1 x2 x3 x4 36 x9 x10 (n + 1) 5 u := by rw [ey_step_306]; exact br_t (by decide) (br_f (by decide) (br_f (by decide) (br_f (by decide) (br_f (by decide) (br_f (by decide) (br_f (by decide) (br_f (by decide) (br_f (by decide) (br_f (by decide) (br_f (by decide) (br_f (by decide) (br_f (by decide) (br_f (by decide) (br_f (by decide) (br_f (by decide) (br_f (by decide) (br_f (by decide) (br_f (by decide) (br_f (by decide) (br_f (by decide) (br_f (by decide) (br_f (by decide) (br_f (by decide) (br_f (by decide) (br_f (by decide) (br_f (by decide) (br_f (by decide) (br_f (by decide) (br_f (by decide) (br_f (by decide) (br_f (by decide) (br_f (by decide) (br_f (by decide) (br_f (by decide) (br_f (by decide) (br_f (by decide) (br_f (by decide) (br_f (by decide) (br_t (by decide) (H))))))))))))))))))))))))))))))))))))))))
theorem yd_37 {post : SY → Prop} {u : SY} {x1 x2 x3 x4 x9 x10 : Int32} {n : Nat} (H : wpY_end post u x1 2 x9) : zy_step_306 post x1 x2 x3 x4 37 x9 x10 (n + 1) 5 u := by rw [ey_step_306]; exact br_t (by decide) (br_f (by decide) (br_f (by decide) (br_f (by decide) (br_f (by decide) (br_f (by decide) (br_f (by decide) (br_f (by decide) (br_f (by decide) (br_f (by decide) (br_f (by decide) (br_f (by decide) (br_f (by decide) (br_f (by decide) (br_f (by decide) (br_f (by decide) (br_f (by decide) (br_f (by decide) (br_f (by decide) (br_f (by decide) (br_f (by decide) (br_f (by decide) (br_f (by decide) (br_f (by decide) (br_f (by decide) (br_f (by decide) (br_f (by decide) (br_f (by decide) (br_f (by decide) (br_f (by decide) (br_f (by decide) (br_f (by decide) (br_f (by decide) (br_f (by decide) (br_f (by decide) (br_f (by decide) (br_f (by decide) (br_f (by decide) (br_f (by decide) (br_f (by decide) (br_t (by decide) (H)))))))))))))))))))))))))))))))))))))))))
end
section
/-! Y's small methods, in lens form -/
def yu_hgt (F k : Nat) (v : SY) : SY := ys_height (upd (yg_height v) F (nI k)) v
def yu_push (F : Nat) (w : Int32) (h : Nat) (v : SY) : SY := ym_stack_height (upd (yg_stack v) (F * 16 + h) w) (upd (yg_height v) F (nI (h + 1))) v
def yu_word (v : SY) (F h k : Nat) : Int32 := if k < h then yg_stack v (F * 16 + (h - 1 - k)) else 0
theorem yw_push {post : SY → Prop} {v : SY} {F h : Nat} {w : Int32} (hF : F < 32) (hh : yg_height v F = nI h) (h16 : h < 16) (H : post (yu_push F w h v)) : wpY_push post v (nI F) w := by
  have e1 : (h < 16) = True := eq_true (by omega)
  simp (disch := omega) only [ey_push, hh, e1, nI_clamp, nu_m6, nu_m10, nu_m16, nu_m32, nu_m48, nI_add, nu_a0, nu_a1, nu_a2, nu_a3, nu_a4, nu_a5, nu_a6, nu_a7, nu_a8, nu_a9, nI_pred, nu_s1, nu_s2, nu_s3, nu_s4, nu_vp, nu_lt0, nu_le0, nu_eq0, nu_clt0, nu_cle0, nu_lt1, nu_le1, nu_eq1, nu_clt1, nu_cle1, nu_lt2, nu_le2, nu_eq2, nu_clt2, nu_cle2, nu_lt3, nu_le3, nu_eq3, nu_clt3, nu_cle3, nu_lt4, nu_le4, nu_eq4, nu_clt4, nu_cle4, nu_lt5, nu_le5, nu_eq5, nu_clt5, nu_cle5, nu_lt7, nu_le7, nu_eq7, nu_clt7, nu_cle7, nu_lt8, nu_le8, nu_eq8, nu_clt8, nu_cle8, nu_lt9, nu_le9, nu_eq9, nu_clt9, nu_cle9, nu_lt10, nu_le10, nu_eq10, nu_clt10, nu_cle10, nu_lt16, nu_le16, nu_eq16, nu_clt16, nu_cle16, nu_lt29, nu_le29, nu_eq29, nu_clt29, nu_cle29, nu_lt32, nu_le32, nu_eq32, nu_clt32, nu_cle32, nu_lt36, nu_le36, nu_eq36, nu_clt36, nu_cle36, nu_lt37, nu_le37, nu_eq37, nu_clt37, nu_cle37, nu_lt48, nu_le48, nu_eq48, nu_clt48, nu_cle48, nu_lt2000, nu_le2000, nu_eq2000, nu_clt2000, nu_cle2000, nu_lt2032, nu_le2032, nu_eq2032, nu_clt2032, nu_cle2032, nu_lt4000, nu_le4000, nu_eq4000, nu_clt4000, nu_cle4000, nu_le, nu_lt, nu_eq, pk_us, forall_eq, true_and, and_true, false_implies, true_implies, implies_true, not_false_eq_true, not_true_eq_false, and_self]
  exact H
theorem yw_push_no {post : SY → Prop} {v : SY} {F : Nat} {w : Int32} (hF : F < 32) (hh : yg_height v F = nI 16) (H : post v) : wpY_push post v (nI F) w := by
  have e1 : (16 < 16) = False := eq_false (by omega)
  simp (disch := omega) only [ey_push, hh, e1, nI_clamp, nu_m6, nu_m10, nu_m16, nu_m32, nu_m48, nI_add, nu_a0, nu_a1, nu_a2, nu_a3, nu_a4, nu_a5, nu_a6, nu_a7, nu_a8, nu_a9, nI_pred, nu_s1, nu_s2, nu_s3, nu_s4, nu_vp, nu_lt0, nu_le0, nu_eq0, nu_clt0, nu_cle0, nu_lt1, nu_le1, nu_eq1, nu_clt1, nu_cle1, nu_lt2, nu_le2, nu_eq2, nu_clt2, nu_cle2, nu_lt3, nu_le3, nu_eq3, nu_clt3, nu_cle3, nu_lt4, nu_le4, nu_eq4, nu_clt4, nu_cle4, nu_lt5, nu_le5, nu_eq5, nu_clt5, nu_cle5, nu_lt7, nu_le7, nu_eq7, nu_clt7, nu_cle7, nu_lt8, nu_le8, nu_eq8, nu_clt8, nu_cle8, nu_lt9, nu_le9, nu_eq9, nu_clt9, nu_cle9, nu_lt10, nu_le10, nu_eq10, nu_clt10, nu_cle10, nu_lt16, nu_le16, nu_eq16, nu_clt16, nu_cle16, nu_lt29, nu_le29, nu_eq29, nu_clt29, nu_cle29, nu_lt32, nu_le32, nu_eq32, nu_clt32, nu_cle32, nu_lt36, nu_le36, nu_eq36, nu_clt36, nu_cle36, nu_lt37, nu_le37, nu_eq37, nu_clt37, nu_cle37, nu_lt48, nu_le48, nu_eq48, nu_clt48, nu_cle48, nu_lt2000, nu_le2000, nu_eq2000, nu_clt2000, nu_cle2000, nu_lt2032, nu_le2032, nu_eq2032, nu_clt2032, nu_cle2032, nu_lt4000, nu_le4000, nu_eq4000, nu_clt4000, nu_cle4000, nu_le, nu_lt, nu_eq, pk_us, forall_eq, true_and, and_true, false_implies, true_implies, implies_true, not_false_eq_true, not_true_eq_false, and_self]
  exact H
theorem yw_word {post : Int32 → Prop} {v : SY} {F h : Nat} (k : Nat) (hF : F < 32) (hh : yg_height v F = nI h) (h16 : h ≤ 16) (hk : k < 10) (H : post (yu_word v F h k)) : wpY_word post v (nI F) (nI k) := by
  unfold yu_word at H
  by_cases z : k < h
  · rw [if_pos z] at H
    rw [ey_word, nI_clamp (n := F) (by omega), hh, nu_pk_pos z (by omega)]
    refine ⟨vp_in_nI hF (by decide), nm_e (br_t (nI_pos' (by omega)) ?_)⟩
    rw [nu_m16, nI_add, nI_clamp (n := F * 16 + (h - 1 - k)) (by omega)]
    exact ⟨vp_in_nI (by omega) (by decide), H⟩
  · rw [if_neg z] at H
    simp (disch := omega) only [ey_word, nI_clamp, hh, nu_pk_neg (by omega : h ≤ k) (by omega : k < 100), nu_vp, forall_eq, true_and, and_true, false_implies, true_implies, implies_true, not_false_eq_true, not_true_eq_false, and_self]
    exact H
theorem yl_current {post : Int32 → Prop} {v : SY} {F N : Nat} (hN : N ≤ 32) (h0 : yg_rec v (F * 10 + 5) = 0) (h1 : ∀ E, F < E → E < N → yg_rec v (E * 10 + 5) ≠ 0) (H : post (nI F)) : ∀ k i n, i = F + k → i < N → k < n → zy_current_7 post n (nI i) v := by
  intro k
  induction k with
  | zero =>
    intro i n hi hN2 hn
    obtain ⟨m, rfl⟩ : ∃ m, n = m + 1 := ⟨n - 1, by omega⟩
    obtain rfl : i = F := by omega
    rw [ey_current_7]
    refine br_f (nI_pos (by omega)) ?_
    simp (disch := omega) only [nu_m10, nu_a5, nI_clamp, nu_vp, true_and]
    exact br_t h0 H
  | succ k ih =>
    intro i n hi hN2 hn
    obtain ⟨m, rfl⟩ : ∃ m, n = m + 1 := ⟨n - 1, by omega⟩
    rw [ey_current_7]
    refine br_f (nI_pos (by omega)) ?_
    simp (disch := omega) only [nu_m10, nu_a5, nI_clamp, nu_vp, true_and]
    refine br_f (h1 i (by omega) (by omega)) ?_
    obtain ⟨j, rfl⟩ : ∃ j, i = j + 1 := ⟨i - 1, by omega⟩
    rw [pk_m1]
    exact nm_e (ih j m (by omega) (by omega) (by omega))
theorem yw_current {post : Int32 → Prop} {v : SY} {F N : Nat} (hfr : yg_frames v = nI N) (hN : N ≤ 32) (hF : F < N) (h0 : yg_rec v (F * 10 + 5) = 0) (h1 : ∀ E, F < E → E < N → yg_rec v (E * 10 + 5) ≠ 0) (H : post (nI F)) : wpY_current post v := by
  rw [ey_current, hfr, nu_s1 (by omega)]
  exact nm_e ⟨33, yl_current hN h0 h1 H (N - 1 - F) (N - 1) 33 (by omega) (by omega) (by omega)⟩
theorem yw_current_0 {post : Int32 → Prop} {v : SY} (hfr : yg_frames v = 0) (H : post (-1)) : wpY_current post v := by
  rw [ey_current, hfr]
  refine nm_e ⟨1, ?_⟩
  show zy_current_7 post (0 + 1) (-1) v
  rw [ey_current_7]
  exact br_t (by decide) H
theorem yl_active {post : Int32 → Prop} {v : SY} {N d : Nat} {q : Nat → Nat} (hfr : yg_frames v = nI N) (hN : N ≤ 32) (hd : d ≤ 8) (hq : ∀ i j, i < j → j < d → q i < q j) (hqN : ∀ j, j < d → q j < N) (h0 : ∀ j, j < d → yg_rec v (q j * 10 + 5) = 0) (h1 : ∀ E, E < N → (∀ j, j < d → q j ≠ E) → yg_rec v (E * 10 + 5) ≠ 0) (H : post (nI d)) :
    ∀ k i c n, i + k = N → k < n → c ≤ d → (∀ j, j < c → q j < i) → (∀ j, c ≤ j → j < d → i ≤ q j) → zy_activeFrames_4 post n (nI c) (nI i) v := by
  intro k
  induction k with
  | zero =>
    intro i c n hi hn hc a1 a2
    obtain ⟨m, rfl⟩ : ∃ m, n = m + 1 := ⟨n - 1, by omega⟩
    rw [ey_activeFrames_4, hfr]
    have e : c = d := by
      rcases Nat.lt_or_ge c d with z | z
      · have := a2 c (Nat.le_refl _) z
        have := hqN c z
        omega
      · omega
    subst e
    exact br_t (nI_le (by omega) (by omega)) H
  | succ k ih =>
    intro i c n hi hn hc a1 a2
    obtain ⟨m, rfl⟩ : ∃ m, n = m + 1 := ⟨n - 1, by omega⟩
    rw [ey_activeFrames_4, hfr]
    refine br_f (nI_ge (by omega) (by omega)) ?_
    simp (disch := omega) only [nu_m10, nu_a5, nI_clamp, nu_vp, true_and]
    refine br_c (fun z => ?_) (fun z => ?_)
    · have ex : ∃ j, j < d ∧ q j = i := Classical.byContradiction fun no => h1 i (by omega) (fun j hj e => no ⟨j, hj, e⟩) z
      obtain ⟨j, hj, e⟩ := ex
      have cj : c ≤ j := Classical.byContradiction fun no => by
        have := a1 j (by omega)
        omega
      have ce : c = j := by
        rcases Nat.lt_or_ge c j with y | y
        · have := hq c j y hj
          have := a2 c (Nat.le_refl _) (by omega)
          omega
        · omega
      subst ce
      rw [nI_1, nI_1]
      refine nm_e (nm_e (ih (i + 1) (c + 1) m (by omega) (by omega) (by omega) ?_ ?_))
      · intro j' hj'
        rcases Nat.lt_or_ge j' c with y | y
        · have := a1 j' y
          omega
        · obtain rfl : j' = c := by omega
          omega
      · intro j' hj' hd'
        have := hq c j' (by omega) hd'
        omega
    · rw [nI_1]
      refine nm_e (ih (i + 1) c m (by omega) (by omega) hc (fun j' hj' => by have := a1 j' hj'; omega) ?_)
      intro j' hj' hd'
      have := a2 j' hj' hd'
      rcases Nat.lt_or_ge i (q j') with y | y
      · omega
      · have e : q j' = i := by omega
        have := h0 j' hd'
        rw [e] at this
        exact absurd this z
theorem yw_active {post : Int32 → Prop} {v : SY} {N d : Nat} {q : Nat → Nat} (hfr : yg_frames v = nI N) (hN : N ≤ 32) (hd : d ≤ 8) (hq : ∀ i j, i < j → j < d → q i < q j) (hqN : ∀ j, j < d → q j < N) (h0 : ∀ j, j < d → yg_rec v (q j * 10 + 5) = 0) (h1 : ∀ E, E < N → (∀ j, j < d → q j ≠ E) → yg_rec v (E * 10 + 5) ≠ 0) (H : post (nI d)) : wpY_activeFrames post v := by
  rw [ey_activeFrames]
  exact ⟨33, yl_active hfr hN hd hq hqN h0 h1 H N 0 0 33 (by omega) (by omega) (by omega) (fun j hj => by omega) (fun j _ _ => by omega)⟩
theorem yw_programOf_t {post : Int32 → Prop} {v : SY} {k A : Nat} (hA : yg_accounts v = nI A) (hA8 : A ≤ 8) (hk : k < A) (H : post (yg_world v (k * 6))) : wpY_programOf post v (nI k) := by
  rw [ey_programOf, hA]
  refine br_f (nI_pos (by omega)) (br_t (nI_lt hk (by omega)) ?_)
  simp (disch := omega) only [nu_m6, nI_clamp, nu_vp, true_and]
  exact H
theorem nu_nlt {x : Int32} {n : Nat} (h : nI n ≤ x) : ¬ x < nI n := Int32.not_lt.mpr h
theorem yw_programOf_f {post : Int32 → Prop} {v : SY} {p : Int32} {A : Nat} (hA : yg_accounts v = nI A) (hA8 : A ≤ 8) (hp : ¬ ∃ k, k < A ∧ p = nI k) (H : post (-1)) : wpY_programOf post v p := by
  rw [ey_programOf, hA]
  rcases nu_not (by omega) hp with z | ⟨z, y⟩
  · exact br_t z H
  · exact br_f z (br_f (nu_nlt y) H)
theorem yw_balance_t {post : Int32 → Prop} {v : SY} {k A : Nat} (hA : yg_accounts v = nI A) (hA8 : A ≤ 8) (hk : k < A) (H : post (yg_world v (k * 6 + 1))) : wpY_balance post v (nI k) := by
  rw [ey_balance, hA]
  refine br_f (nI_pos (by omega)) (br_t (nI_lt hk (by omega)) ?_)
  simp (disch := omega) only [nu_m6, nu_a1, nI_clamp, nu_vp, true_and]
  exact H
theorem yw_balance_f {post : Int32 → Prop} {v : SY} {p : Int32} {A : Nat} (hA : yg_accounts v = nI A) (hA8 : A ≤ 8) (hp : ¬ ∃ k, k < A ∧ p = nI k) (H : post (-1)) : wpY_balance post v p := by
  rw [ey_balance, hA]
  rcases nu_not (by omega) hp with z | ⟨z, y⟩
  · exact br_t z H
  · exact br_f z (br_f (nu_nlt y) H)
def pc_ (cells : Nat → Int32) (c l i : Nat) : Int32 := if i < l then cells (c * 32 + i) else 0
theorem xw_cell {post : Int32 → Prop} {u : SX} {c l i : Nat} (hc : c < 8) (hl : xg_lengths u c = nI l) (l32 : l ≤ 32) (hi : i < 2 ^ 31) (H : post (pc_ (xg_cells u) c l i)) : wpX_programCell post u (nI c) (nI i) := by
  rw [ex_programCell]
  refine xw_isProgram_t hc (br_f (by decide) (br_f (nI_pos hi) ?_))
  rw [nI_clamp (n := c) (by omega), hl]
  refine ⟨vp_in_nI hc (by decide), ?_⟩
  unfold pc_ at H
  by_cases z : i < l
  · rw [if_pos z] at H
    refine br_t (nI_lt z (by omega)) ?_
    simp (disch := omega) only [nu_m32, nI_add, nI_clamp, nu_vp, true_and]
    exact H
  · rw [if_neg z] at H
    exact br_f (nI_nlt (by omega) hi) H
theorem yw_cell {post : Int32 → Prop} {v : SY} {c l i : Nat} (hc : c < 8) (hl : yg_length v c = nI l) (l32 : l ≤ 32) (hi : i < 2 ^ 31) (H : post (pc_ (yg_cells v) c l i)) : wpY_programCell post v (nI c) (nI i) := by
  rw [ey_programCell]
  refine br_f (nI_pos (by omega)) (br_t (nI_le (b := 7) (by omega) (by decide)) (br_f (nI_pos hi) ?_))
  rw [nI_clamp (n := c) (by omega), hl]
  refine ⟨vp_in_nI hc (by decide), ?_⟩
  unfold pc_ at H
  by_cases z : i < l
  · rw [if_pos z] at H
    refine br_t (nI_lt z (by omega)) ?_
    simp (disch := omega) only [nu_m32, nI_add, nI_clamp, nu_vp, true_and]
    exact H
  · rw [if_neg z] at H
    exact br_f (nI_nlt (by omega) hi) H
/-- the first free account: one answer for both -/
theorem ff_loop {u : SX} {v : SY} {A : Nat} (hA : xg_accounts u = nI A) (hB : yg_accounts v = nI A) (hA8 : A ≤ 8) (hw : yg_world v = xg_world u) (hc : ∀ a, a < 8 → xg_world u (a * 6) = -1 ∨ ∃ c, c < 8 ∧ xg_world u (a * 6) = nI c) :
    ∀ k i, i + k = A → ∃ r : Int32, (r = -1 ∨ ∃ a, a < A ∧ r = nI a ∧ xg_world u (a * 6) = -1) ∧ (∀ (post : Int32 → Prop) n, k < n → post r → zx_firstFree_2 post n (nI i) u) ∧ (∀ (post : Int32 → Prop) n, k < n → post r → zy_firstFree_2 post n (nI i) v) := by
  intro k
  induction k with
  | zero =>
    intro i hi
    refine ⟨-1, Or.inl rfl, fun post n hn H => ?_, fun post n hn H => ?_⟩
    · obtain ⟨m, rfl⟩ : ∃ m, n = m + 1 := ⟨n - 1, by omega⟩
      rw [ex_firstFree_2, hA]
      exact br_t (nI_le (by omega) (by omega)) H
    · obtain ⟨m, rfl⟩ : ∃ m, n = m + 1 := ⟨n - 1, by omega⟩
      rw [ey_firstFree_2, hB]
      exact br_t (nI_le (by omega) (by omega)) H
  | succ k ih =>
    intro i hi
    rcases hc i (by omega) with z | ⟨c, c8, z⟩
    · refine ⟨nI i, Or.inr ⟨i, by omega, rfl, z⟩, fun post n hn H => ?_, fun post n hn H => ?_⟩
      · obtain ⟨m, rfl⟩ : ∃ m, n = m + 1 := ⟨n - 1, by omega⟩
        rw [ex_firstFree_2, hA]
        refine br_f (nI_ge (by omega) (by omega)) ?_
        simp (disch := omega) only [nu_m6, nI_clamp, nu_vp, true_and, z]
        exact br_f (by decide) H
      · obtain ⟨m, rfl⟩ : ∃ m, n = m + 1 := ⟨n - 1, by omega⟩
        rw [ey_firstFree_2, hB, hw]
        refine br_f (nI_ge (by omega) (by omega)) ?_
        simp (disch := omega) only [nu_m6, nI_clamp, nu_vp, true_and, z]
        exact br_f (by decide) H
    · obtain ⟨r, hr, hX, hY⟩ := ih (i + 1) (by omega)
      refine ⟨r, hr, fun post n hn H => ?_, fun post n hn H => ?_⟩
      · obtain ⟨m, rfl⟩ : ∃ m, n = m + 1 := ⟨n - 1, by omega⟩
        rw [ex_firstFree_2, hA]
        refine br_f (nI_ge (by omega) (by omega)) ?_
        simp (disch := omega) only [nu_m6, nI_clamp, nu_vp, true_and, z, nI_1]
        exact br_t (nI_pos' (by omega)) (nm_e (hX post m (by omega) H))
      · obtain ⟨m, rfl⟩ : ∃ m, n = m + 1 := ⟨n - 1, by omega⟩
        rw [ey_firstFree_2, hB, hw]
        refine br_f (nI_ge (by omega) (by omega)) ?_
        simp (disch := omega) only [nu_m6, nI_clamp, nu_vp, true_and, z, nI_1]
        exact br_t (nI_pos' (by omega)) (nm_e (hY post m (by omega) H))
theorem ff_both {u : SX} {v : SY} {A : Nat} (hA : xg_accounts u = nI A) (hB : yg_accounts v = nI A) (hA8 : A ≤ 8) (hw : yg_world v = xg_world u) (hc : ∀ a, a < 8 → xg_world u (a * 6) = -1 ∨ ∃ c, c < 8 ∧ xg_world u (a * 6) = nI c) :
    ∃ r : Int32, (r = -1 ∨ ∃ a, a < A ∧ r = nI a ∧ xg_world u (a * 6) = -1) ∧ (∀ (post : Int32 → Prop), post r → wpX_firstFree post u) ∧ (∀ (post : Int32 → Prop), post r → wpY_firstFree post v) := by
  obtain ⟨r, hr, hX, hY⟩ := ff_loop hA hB hA8 hw hc A 0 (by omega)
  refine ⟨r, hr, fun post H => ?_, fun post H => ?_⟩
  · rw [ex_firstFree]
    exact ⟨9, hX post 9 (by omega) H⟩
  · rw [ey_firstFree]
    exact ⟨9, hY post 9 (by omega) H⟩
end
section
/-! jumpTarget: X's skip counter against Y's leaps -/
theorem jt_no {post : Int32 → Prop} {v : SY} {c l : Nat} {p : Int32} (hc : c < 8) (hl : yg_length v c = nI l) (l32 : l ≤ 32) (H : post 0) : ∀ k a n, l - a ≤ k → a < 100 → k < n → (∀ b, a ≤ b → b < l → nI b ≠ p) → zy_jumpTarget_14 post (nI c) p n (nI a) v := by
  intro k
  induction k with
  | zero =>
    intro a n hk ha hn hb
    obtain ⟨m, rfl⟩ : ∃ m, n = m + 1 := ⟨n - 1, by omega⟩
    rw [ey_jumpTarget_14, nI_clamp (n := c) (by omega), hl]
    exact ⟨vp_in_nI hc (by decide), br_t (nI_le (by omega) (by omega)) H⟩
  | succ k ih =>
    intro a n hk ha hn hb
    obtain ⟨m, rfl⟩ : ∃ m, n = m + 1 := ⟨n - 1, by omega⟩
    rw [ey_jumpTarget_14, nI_clamp (n := c) (by omega), hl]
    refine ⟨vp_in_nI hc (by decide), ?_⟩
    by_cases z : l ≤ a
    · exact br_t (nI_le z (by omega)) H
    · refine br_f (nI_ge (by omega) (by omega)) ?_
      simp (disch := omega) only [nu_m32, nI_add, nI_clamp, nu_vp, true_and]
      refine nm_e (br_f (hb a (Nat.le_refl _) (by omega)) (br_c (fun y => ?_) (fun y => br_c (fun y2 => ?_) (fun y2 => ?_))))
      · rw [nI_1]
        exact nm_e (ih (a + 1) m (by omega) (by omega) (by omega) (fun b h1 h2 => hb b (by omega) h2))
      · rw [nI_1]
        exact nm_e (ih (a + 1) m (by omega) (by omega) (by omega) (fun b h1 h2 => hb b (by omega) h2))
      · obtain ⟨w, w4, e⟩ := nI_of2 (x := yg_cells v (c * 32 + a)) (M := 4) (n := 4) (by decide) (fun h0 => y (Int32.lt_of_lt_of_le h0 (by decide))) (Int32.not_lt.mp y2)
        rw [e, nI_add]
        exact nm_e (nm_r (nI_1 _) (ih (a + w + 1) m (by omega) (by omega) (by omega) (fun b h1 h2 => hb b (by omega) h2)))
theorem jt_over {post : Int32 → Prop} {u : SX} {c j : Nat} (hc : c < 8) (j32 : j < 32) (H : post 0) : ∀ k a s n, a + k = j → k < s → s < 10 → k < n → zx_jumpTarget_37 post (nI j) (nI (c * 32)) n (nI s) (nI a) u := by
  intro k
  induction k with
  | zero =>
    intro a s n ha hs hs2 hn
    obtain ⟨m, rfl⟩ : ∃ m, n = m + 1 := ⟨n - 1, by omega⟩
    rw [ex_jumpTarget_37]
    exact br_t (nI_le (by omega) (by omega)) (br_f (nI_ne0 (by omega) (by omega)) H)
  | succ k ih =>
    intro a s n ha hs hs2 hn
    obtain ⟨m, rfl⟩ : ∃ m, n = m + 1 := ⟨n - 1, by omega⟩
    obtain ⟨t, rfl⟩ : ∃ t, s = t + 1 := ⟨s - 1, by omega⟩
    rw [ex_jumpTarget_37]
    refine br_f (nI_ge (by omega) (by omega)) ?_
    rw [nI_add, pk_m1, nI_1]
    exact ⟨vp_in_nI (by omega) (by decide), nm_e (br_f (nI_nle (by omega) (by omega)) (nm_e (nm_e (ih (a + 1) t m (by omega) (by omega) (by omega) (by omega)))))⟩
theorem jt_skip {post : Int32 → Prop} {u : SX} {c j : Nat} (hc : c < 8) (j32 : j < 32) : ∀ s a n, a + s ≤ j → s < 10 → s < n → (zx_jumpTarget_37 post (nI j) (nI (c * 32)) (n - s) 0 (nI (a + s)) u) → zx_jumpTarget_37 post (nI j) (nI (c * 32)) n (nI s) (nI a) u := by
  intro s
  induction s with
  | zero =>
    intro a n ha hs hn H
    exact H
  | succ t ih =>
    intro a n ha hs hn H
    obtain ⟨m, rfl⟩ : ∃ m, n = m + 1 := ⟨n - 1, by omega⟩
    rw [ex_jumpTarget_37]
    refine br_f (nI_ge (by omega) (by omega)) ?_
    rw [nI_add, pk_m1, nI_1]
    refine ⟨vp_in_nI (by omega) (by decide), nm_e (br_f (nI_nle (by omega) (by omega)) (nm_e (nm_e (ih (a + 1) m (by omega) (by omega) (by omega) ?_))))⟩
    have e1 : m + 1 - (t + 1) = m - t := by omega
    have e2 : a + (t + 1) = a + 1 + t := by omega
    rw [e1, e2] at H
    exact H
theorem jt_in {u : SX} {v : SY} {c l j : Nat} (hc : c < 8) (hl : yg_length v c = nI l) (l32 : l ≤ 32) (hj : j < l) (hC : yg_cells v = xg_cells u) :
    ∀ k a, a ≤ j → j - a ≤ k → ∃ r : Int32, (r = 0 ∨ r = 1) ∧ (∀ (post : Int32 → Prop) n, j - a < n → post r → zx_jumpTarget_37 post (nI j) (nI (c * 32)) n 0 (nI a) u) ∧ (∀ (post : Int32 → Prop) n, l - a < n → post r → zy_jumpTarget_14 post (nI c) (nI j) n (nI a) v) := by
  intro k
  induction k with
  | zero =>
    intro a ha hk
    obtain rfl : a = j := by omega
    by_cases z : xg_cells u (c * 32 + a) = 16
    · refine ⟨1, Or.inr rfl, fun post n hn H => ?_, fun post n hn H => ?_⟩
      · obtain ⟨m, rfl⟩ : ∃ m, n = m + 1 := ⟨n - 1, by omega⟩
        rw [ex_jumpTarget_37, nI_add, nI_clamp (n := c * 32 + a) (by omega)]
        exact br_t (nI_le (by omega) (by omega)) (br_t rfl ⟨vp_in_nI (by omega) (by decide), br_t z H⟩)
      · obtain ⟨m, rfl⟩ : ∃ m, n = m + 1 := ⟨n - 1, by omega⟩
        rw [ey_jumpTarget_14, nu_m32, nI_add, nI_clamp (n := c) (by omega), nI_clamp (n := c * 32 + a) (by omega), hl, hC]
        exact ⟨vp_in_nI hc (by decide), br_f (nI_ge (by omega) (by omega)) ⟨vp_in_nI (by omega) (by decide), nm_e (br_t rfl (br_t z H))⟩⟩
    · refine ⟨0, Or.inl rfl, fun post n hn H => ?_, fun post n hn H => ?_⟩
      · obtain ⟨m, rfl⟩ : ∃ m, n = m + 1 := ⟨n - 1, by omega⟩
        rw [ex_jumpTarget_37, nI_add, nI_clamp (n := c * 32 + a) (by omega)]
        exact br_t (nI_le (by omega) (by omega)) (br_t rfl ⟨vp_in_nI (by omega) (by decide), br_f z H⟩)
      · obtain ⟨m, rfl⟩ : ∃ m, n = m + 1 := ⟨n - 1, by omega⟩
        rw [ey_jumpTarget_14, nu_m32, nI_add, nI_clamp (n := c) (by omega), nI_clamp (n := c * 32 + a) (by omega), hl, hC]
        exact ⟨vp_in_nI hc (by decide), br_f (nI_ge (by omega) (by omega)) ⟨vp_in_nI (by omega) (by decide), nm_e (br_t rfl (br_f z H))⟩⟩
  | succ k ih =>
    intro a ha hk
    by_cases aj : a = j
    · exact ih a ha (by omega)
    · have ne : ¬ nI a = nI j := fun e => aj ((nI_eq (by omega) (by omega)).mp e)
      by_cases y : xg_cells u (c * 32 + a) < 1
      · obtain ⟨r, hr, hX, hY⟩ := ih (a + 1) (by omega) (by omega)
        refine ⟨r, hr, fun post n hn H => ?_, fun post n hn H => ?_⟩
        · obtain ⟨m, rfl⟩ : ∃ m, n = m + 1 := ⟨n - 1, by omega⟩
          rw [ex_jumpTarget_37, nI_add (c * 32) a, nI_clamp (n := c * 32 + a) (by omega), nI_1 a]
          exact br_f (nI_ge (by omega) (by omega)) ⟨vp_in_nI (by omega) (by decide), nm_e (br_t (by decide) (br_t y (nm_e (hX post m (by omega) H))))⟩
        · obtain ⟨m, rfl⟩ : ∃ m, n = m + 1 := ⟨n - 1, by omega⟩
          rw [ey_jumpTarget_14, nu_m32, nI_add, nI_clamp (n := c) (by omega), nI_clamp (n := c * 32 + a) (by omega), hl, hC, nI_1 a]
          exact ⟨vp_in_nI hc (by decide), br_f (nI_ge (by omega) (by omega)) ⟨vp_in_nI (by omega) (by decide), nm_e (br_f ne (br_t y (nm_e (hY post m (by omega) H))))⟩⟩
      · by_cases y2 : 4 < xg_cells u (c * 32 + a)
        · obtain ⟨r, hr, hX, hY⟩ := ih (a + 1) (by omega) (by omega)
          refine ⟨r, hr, fun post n hn H => ?_, fun post n hn H => ?_⟩
          · obtain ⟨m, rfl⟩ : ∃ m, n = m + 1 := ⟨n - 1, by omega⟩
            rw [ex_jumpTarget_37, nI_add (c * 32) a, nI_clamp (n := c * 32 + a) (by omega), nI_1 a]
            exact br_f (nI_ge (by omega) (by omega)) ⟨vp_in_nI (by omega) (by decide), nm_e (br_t (by decide) (br_f y (br_t y2 (nm_e (hX post m (by omega) H)))))⟩
          · obtain ⟨m, rfl⟩ : ∃ m, n = m + 1 := ⟨n - 1, by omega⟩
            rw [ey_jumpTarget_14, nu_m32, nI_add, nI_clamp (n := c) (by omega), nI_clamp (n := c * 32 + a) (by omega), hl, hC, nI_1 a]
            exact ⟨vp_in_nI hc (by decide), br_f (nI_ge (by omega) (by omega)) ⟨vp_in_nI (by omega) (by decide), nm_e (br_f ne (br_f y (br_t y2 (nm_e (hY post m (by omega) H)))))⟩⟩
        · obtain ⟨w, w4, e⟩ := nI_of2 (x := xg_cells u (c * 32 + a)) (M := 4) (n := 4) (by decide) (fun h0 => y (Int32.lt_of_lt_of_le h0 (by decide))) (Int32.not_lt.mp y2)
          have w1 : 0 < w := by
            rcases Nat.eq_zero_or_pos w with z | z
            · subst z
              exact absurd (by rw [e]; decide) y
            · exact z
          by_cases big : a + 1 + w ≤ j
          · obtain ⟨r, hr, hX, hY⟩ := ih (a + 1 + w) big (by omega)
            refine ⟨r, hr, fun post n hn H => ?_, fun post n hn H => ?_⟩
            · obtain ⟨m, rfl⟩ : ∃ m, n = m + 1 := ⟨n - 1, by omega⟩
              rw [ex_jumpTarget_37, nI_add (c * 32) a, nI_clamp (n := c * 32 + a) (by omega), nI_1 a]
              refine br_f (nI_ge (by omega) (by omega)) ⟨vp_in_nI (by omega) (by decide), nm_e (br_t (by decide) (br_f y (br_f y2 (nm_e ?_))))⟩
              rw [e]
              exact jt_skip hc (by omega) w (a + 1) m big (by omega) (by omega) (hX post (m - w) (by omega) H)
            · obtain ⟨m, rfl⟩ : ∃ m, n = m + 1 := ⟨n - 1, by omega⟩
              rw [ey_jumpTarget_14, nu_m32, nI_add, nI_clamp (n := c) (by omega), nI_clamp (n := c * 32 + a) (by omega), hl, hC, nI_1 a]
              refine ⟨vp_in_nI hc (by decide), br_f (nI_ge (by omega) (by omega)) ⟨vp_in_nI (by omega) (by decide), nm_e (br_f ne (br_f y (br_f y2 ?_)))⟩⟩
              rw [e, nI_add]
              have e2 : nI (a + w) + 1 = nI (a + 1 + w) := by
                rw [nI_1]
                exact congrArg nI (by omega)
              exact nm_e (nm_r e2 (hY post m (by omega) H))
          · refine ⟨0, Or.inl rfl, fun post n hn H => ?_, fun post n hn H => ?_⟩
            · obtain ⟨m, rfl⟩ : ∃ m, n = m + 1 := ⟨n - 1, by omega⟩
              rw [ex_jumpTarget_37, nI_add (c * 32) a, nI_clamp (n := c * 32 + a) (by omega), nI_1 a]
              refine br_f (nI_ge (by omega) (by omega)) ⟨vp_in_nI (by omega) (by decide), nm_e (br_t (by decide) (br_f y (br_f y2 (nm_e ?_))))⟩
              rw [e]
              exact jt_over hc (by omega) H (j - (a + 1)) (a + 1) w m (by omega) (by omega) (by omega) (by omega)
            · obtain ⟨m, rfl⟩ : ∃ m, n = m + 1 := ⟨n - 1, by omega⟩
              rw [ey_jumpTarget_14, nu_m32, nI_add, nI_clamp (n := c) (by omega), nI_clamp (n := c * 32 + a) (by omega), hl, hC, nI_1 a]
              refine ⟨vp_in_nI hc (by decide), br_f (nI_ge (by omega) (by omega)) ⟨vp_in_nI (by omega) (by decide), nm_e (br_f ne (br_f y (br_f y2 ?_)))⟩⟩
              rw [e, nI_add]
              refine nm_e (nm_r (nI_1 _) (jt_no hc hl l32 H (l - (a + w + 1)) (a + w + 1) m (by omega) (by omega) (by omega) (fun b h1 h2 e3 => ?_)))
              have := (nI_eq (by omega) (by omega)).mp e3
              omega
/-- one answer of jumpTarget for both, at a program c -/
theorem jt_both {u : SX} {v : SY} {c l : Nat} (p : Int32) (hc : c < 8) (hx : xg_lengths u c = nI l) (hl : yg_length v c = nI l) (l32 : l ≤ 32) (hC : yg_cells v = xg_cells u) :
    ∃ r : Int32, (r = 0 ∨ r = 1 ∧ ∃ j, j < l ∧ p = nI j) ∧ (∀ (post : Int32 → Prop), post r → wpX_jumpTarget post u (nI c) p) ∧ (∀ (post : Int32 → Prop), post r → wpY_jumpTarget post v (nI c) p) := by
  rcases nu_cases p l (by omega) with ⟨j, hj, rfl⟩ | ⟨z, no⟩
  · obtain ⟨r, hr, hX, hY⟩ := jt_in (u := u) hc hl l32 hj hC j 0 (by omega) (by omega)
    refine ⟨r, ?_, fun post H => ?_, fun post H => ?_⟩
    · rcases hr with e | e
      · exact Or.inl e
      · exact Or.inr ⟨e, j, hj, rfl⟩
    · rw [ex_jumpTarget, nI_clamp (n := c) (by omega), hx, nu_m32]
      exact xw_isProgram_t hc (br_f (by decide) (br_f (nI_pos (by omega)) ⟨vp_in_nI hc (by decide), br_t (nI_lt hj (by omega)) (nm_e ⟨40, hX post 40 (by omega) H⟩)⟩))
    · rw [ey_jumpTarget]
      exact br_f (nI_pos (by omega)) (br_t (nI_le (b := 7) (by omega) (by decide)) ⟨40, hY post 40 (by omega) H⟩)
  · refine ⟨0, Or.inl rfl, fun post H => ?_, fun post H => ?_⟩
    · rw [ex_jumpTarget, nI_clamp (n := c) (by omega), hx]
      refine xw_isProgram_t hc (br_f (by decide) ?_)
      rcases z with z | ⟨z, y⟩
      · exact br_t z H
      · exact br_f z ⟨vp_in_nI hc (by decide), br_f (nu_nlt y) H⟩
    · rw [ey_jumpTarget]
      exact br_f (nI_pos (by omega)) (br_t (nI_le (b := 7) (by omega) (by decide)) ⟨40, jt_no hc hl l32 H l 0 40 (by omega) (by omega) (by omega) (fun b _ h2 e => no ⟨b, h2, e.symm⟩)⟩)
end
section
theorem yq_entryLogs_logs (z : Int32) (u : SY) : yg_entryLogs (ys_logs z u) = yg_entryLogs u := id rfl
theorem yq_entryLogs_rec (z : Nat → Int32) (u : SY) : yg_entryLogs (ys_rec z u) = yg_entryLogs u := id rfl
theorem yq_entryLogs_world (z : Nat → Int32) (u : SY) : yg_entryLogs (ys_world z u) = yg_entryLogs u := id rfl
theorem yq_entry_logs (z : Int32) (u : SY) : yg_entry (ys_logs z u) = yg_entry u := id rfl
theorem yq_entry_rec (z : Nat → Int32) (u : SY) : yg_entry (ys_rec z u) = yg_entry u := id rfl
theorem yq_entry_world (z : Nat → Int32) (u : SY) : yg_entry (ys_world z u) = yg_entry u := id rfl
theorem yq_left_logs (z : Int32) (u : SY) : yg_left (ys_logs z u) = yg_left u := id rfl
theorem yq_left_rec (z : Nat → Int32) (u : SY) : yg_left (ys_rec z u) = yg_left u := id rfl
theorem yq_left_world (z : Nat → Int32) (u : SY) : yg_left (ys_world z u) = yg_left u := id rfl
theorem yq_logs_logs (z : Int32) (u : SY) : yg_logs (ys_logs z u) = z := id rfl
theorem yq_logs_rec (z : Nat → Int32) (u : SY) : yg_logs (ys_rec z u) = yg_logs u := id rfl
theorem yq_logs_world (z : Nat → Int32) (u : SY) : yg_logs (ys_world z u) = yg_logs u := id rfl
theorem yq_rec_logs (z : Int32) (u : SY) : yg_rec (ys_logs z u) = yg_rec u := id rfl
theorem yq_rec_rec (z : Nat → Int32) (u : SY) : yg_rec (ys_rec z u) = z := id rfl
theorem yq_rec_world (z : Nat → Int32) (u : SY) : yg_rec (ys_world z u) = yg_rec u := id rfl
theorem yq_result_logs (z : Int32) (u : SY) : yg_result (ys_logs z u) = yg_result u := id rfl
theorem yq_result_rec (z : Nat → Int32) (u : SY) : yg_result (ys_rec z u) = yg_result u := id rfl
theorem yq_result_world (z : Nat → Int32) (u : SY) : yg_result (ys_world z u) = yg_result u := id rfl
theorem yq_world_logs (z : Int32) (u : SY) : yg_world (ys_logs z u) = yg_world u := id rfl
theorem yq_world_rec (z : Nat → Int32) (u : SY) : yg_world (ys_rec z u) = yg_world u := id rfl
theorem yq_world_world (z : Nat → Int32) (u : SY) : yg_world (ys_world z u) = z := id rfl
/-! Y: the end of a frame -/
def yd_R (R : Nat → Int32) (F : Nat) (cnt out : Int32) : Nat → Int32 := upd (upd R (F * 10 + 9) cnt) (F * 10 + 5) out
theorem yl_227 {post : SY → Prop} {v : SY} {F : Nat} {out w s cr c k : Int32} (hF : F < 32) (hk : (k = 4 ∧ cr = 1) ∨ (k ≠ 4 ∧ cr = 0))
    (hp : (yg_rec v (F * 10 + 1) = -1 ∧ post (ym_returnWord_rec w (yd_R (yg_rec v) F (cn_ (yg_world v) (fun i => yg_entry v (F * 48 + i)) c 48) out) v)) ∨
      ∃ P, P < 32 ∧ yg_rec v (F * 10 + 1) = nI P ∧ wpY_push post (ym_rec_left_result (yd_R (yg_rec v) F (cn_ (yg_world v) (fun i => yg_entry v (F * 48 + i)) c 48) out) (upd (yg_left v) P (yg_left v P + yg_rec v (F * 10 + 7))) (upd (yg_result v) P w) v) (nI P) (ab_ans k s out)) :
    ∀ m i n, i + m = 48 → m < n → zy_end_227 post (nI F) (nI (F * 10)) out w s cr n (nI i) (ys_rec (upd (yg_rec v) (F * 10 + 9) (cn_ (yg_world v) (fun i => yg_entry v (F * 48 + i)) c i)) v) := by
  intro m
  induction m with
  | zero =>
    intro i n hi hn
    obtain ⟨n, rfl⟩ : ∃ j, n = j + 1 := ⟨n - 1, by omega⟩
    obtain rfl : i = 48 := by omega
    rw [ey_end_227]
    refine br_t (nI_le (a := 48) (by omega) (by decide)) ?_
    rw [nu_a5, nu_a1, nu_a7, nI_clamp (n := F * 10 + 5) (by omega), nI_clamp (n := F * 10 + 1) (by omega), nI_clamp (n := F * 10 + 7) (by omega)]
    refine ⟨vp_in_nI (by omega) (by decide), nm_r (e' := yd_R (yg_rec v) F (cn_ (yg_world v) (fun i => yg_entry v (F * 48 + i)) c 48) out) rfl ⟨vp_in_nI (by omega) (by decide), ?_⟩⟩
    have e1 : yd_R (yg_rec v) F (cn_ (yg_world v) (fun i => yg_entry v (F * 48 + i)) c 48) out (F * 10 + 1) = yg_rec v (F * 10 + 1) := by
      unfold yd_R
      rw [pk_un (by omega), pk_un (by omega)]
    have e7 : yd_R (yg_rec v) F (cn_ (yg_world v) (fun i => yg_entry v (F * 48 + i)) c 48) out (F * 10 + 7) = yg_rec v (F * 10 + 7) := by
      unfold yd_R
      rw [pk_un (by omega), pk_un (by omega)]
    rw [e1, e7]
    rcases hp with ⟨hp, H⟩ | ⟨P, P32, hp, H⟩
    · rw [hp]
      exact nm_e (br_f (by decide) H)
    · rw [hp]
      refine nm_e (br_t (nI_pos' (by omega)) ?_)
      rw [nI_clamp (n := P) (by omega)]
      have vP := vp_in_nI P32 (N := 32) (by decide)
      refine ⟨vP, vp_in_nI (by omega) (by decide), vP, nm_e ⟨vP, nm_e ?_⟩⟩
      unfold ab_ans at H
      rcases hk with ⟨k4, rfl⟩ | ⟨k4, rfl⟩
      · rw [if_pos k4] at H
        refine br_f (by decide) (br_c (fun y => ?_) (fun y => ?_))
        · rw [if_pos y] at H
          rw [ey_end_359]
          exact H
        · rw [if_neg y] at H
          rw [ey_end_359]
          exact H
      · rw [if_neg k4] at H
        refine br_t rfl (br_c (fun y => ?_) (fun y => ?_))
        · rw [if_pos y] at H
          rw [ey_end_379]
          exact H
        · rw [if_neg y] at H
          rw [ey_end_379]
          exact H
  | succ m ih =>
    intro i n hi hn
    obtain ⟨n, rfl⟩ : ∃ j, n = j + 1 := ⟨n - 1, by omega⟩
    have h := ih (i + 1) n (by omega) (by omega)
    unfold cn_ at h
    rw [ey_end_227]
    refine br_f (nI_ge (b := 48) (by omega) (by decide)) ?_
    rw [nu_m48, nI_add, nI_clamp (n := i) (by omega), nI_clamp (n := F * 48 + i) (by omega), nI_1 i, nu_a9, nI_clamp (n := F * 10 + 9) (by omega)]
    refine ⟨vp_in_nI (by omega) (by decide), vp_in_nI (by omega) (by decide), br_c (fun z => ?_) (fun z => ?_)⟩
    · have z' : yg_world v i = yg_entry v (F * 48 + i) := z
      rw [if_pos z'] at h
      exact nm_e h
    · have z' : ¬ yg_world v i = yg_entry v (F * 48 + i) := z
      rw [if_neg z'] at h
      refine ⟨vp_in_nI (by omega) (by decide), vp_in_nI (by omega) (by decide), ?_⟩
      refine nm_r (e' := upd (yg_rec v) (F * 10 + 9) (cn_ (yg_world v) (fun i => yg_entry v (F * 48 + i)) c i + 1)) ?_ (nm_e h)
      rw [yq_rec_rec, nu_uu, pk_us]
theorem yw_end203 {post : SY → Prop} {v : SY} {F : Nat} {out w s cr k : Int32} (hF : F < 32) (hk : (k = 4 ∧ cr = 1) ∨ (k ≠ 4 ∧ cr = 0))
    (hp : (yg_rec v (F * 10 + 1) = -1 ∧ post (ym_returnWord_rec w (yd_R (yg_rec v) F (cn_ (yg_world v) (fun i => yg_entry v (F * 48 + i)) (yg_logs v - yg_entryLogs v F) 48) out) v)) ∨
      ∃ P, P < 32 ∧ yg_rec v (F * 10 + 1) = nI P ∧ wpY_push post (ym_rec_left_result (yd_R (yg_rec v) F (cn_ (yg_world v) (fun i => yg_entry v (F * 48 + i)) (yg_logs v - yg_entryLogs v F) 48) out) (upd (yg_left v) P (yg_left v P + yg_rec v (F * 10 + 7))) (upd (yg_result v) P w) v) (nI P) (ab_ans k s out)) :
    zy_end_203 post (nI F) (nI (F * 10)) out w s cr v := by
  rw [ey_end_203, nu_a9, nI_clamp (n := F * 10 + 9) (by omega), nI_clamp (n := F) (by omega)]
  exact ⟨vp_in_nI hF (by decide), vp_in_nI (by omega) (by decide), nm_e ⟨49, yl_227 (c := yg_logs v - yg_entryLogs v F) hF hk hp 48 0 49 (by omega) (by omega)⟩⟩
def yu_end (W R : Nat → Int32) (L : Int32) (v : SY) : SY := (v.1, v.2.1, v.2.2.1, v.2.2.2.1, v.2.2.2.2.1, v.2.2.2.2.2.1, v.2.2.2.2.2.2.1, v.2.2.2.2.2.2.2.1, L, v.2.2.2.2.2.2.2.2.2.1, v.2.2.2.2.2.2.2.2.2.2.1, v.2.2.2.2.2.2.2.2.2.2.2.1, W, v.2.2.2.2.2.2.2.2.2.2.2.2.2.1, v.2.2.2.2.2.2.2.2.2.2.2.2.2.2.1, R, v.2.2.2.2.2.2.2.2.2.2.2.2.2.2.2.2.1, v.2.2.2.2.2.2.2.2.2.2.2.2.2.2.2.2.2.1, v.2.2.2.2.2.2.2.2.2.2.2.2.2.2.2.2.2.2.1, v.2.2.2.2.2.2.2.2.2.2.2.2.2.2.2.2.2.2.2.1, v.2.2.2.2.2.2.2.2.2.2.2.2.2.2.2.2.2.2.2.2.1, v.2.2.2.2.2.2.2.2.2.2.2.2.2.2.2.2.2.2.2.2.2.1, v.2.2.2.2.2.2.2.2.2.2.2.2.2.2.2.2.2.2.2.2.2.2.1, v.2.2.2.2.2.2.2.2.2.2.2.2.2.2.2.2.2.2.2.2.2.2.2.1, v.2.2.2.2.2.2.2.2.2.2.2.2.2.2.2.2.2.2.2.2.2.2.2.2.1, v.2.2.2.2.2.2.2.2.2.2.2.2.2.2.2.2.2.2.2.2.2.2.2.2.2.1, v.2.2.2.2.2.2.2.2.2.2.2.2.2.2.2.2.2.2.2.2.2.2.2.2.2.2.1, v.2.2.2.2.2.2.2.2.2.2.2.2.2.2.2.2.2.2.2.2.2.2.2.2.2.2.2)
/-- the loop that restores (or only runs), for an outcome 1 -/
theorem yl_115_1 {post : SY → Prop} {v : SY} {F : Nat} {w s cr : Int32} (hF : F < 32) (H : zy_end_165 post (nI F) (nI (F * 10)) 1 w s cr v) : ∀ m i n, i + m = 48 → m < n → zy_end_115 post (nI F) (nI (F * 10)) 1 w s cr n (nI i) v := by
  intro m
  induction m with
  | zero =>
    intro i n hi hn
    obtain ⟨n, rfl⟩ : ∃ j, n = j + 1 := ⟨n - 1, by omega⟩
    rw [ey_end_115]
    exact br_t (nI_le (a := 48) (by omega) (by omega)) (br_t rfl H)
  | succ m ih =>
    intro i n hi hn
    obtain ⟨n, rfl⟩ : ∃ j, n = j + 1 := ⟨n - 1, by omega⟩
    rw [ey_end_115, nI_1]
    exact br_f (nI_ge (b := 48) (by omega) (by decide)) (br_t rfl (nm_e (ih (i + 1) n (by omega) (by omega))))
theorem yl_115_n {post : SY → Prop} {v : SY} {F : Nat} {out w s cr : Int32} (hF : F < 32) (h1 : out ≠ 1)
    (H : ((out = 2 → zy_end_165 post (nI F) (nI (F * 10)) out w s cr (ys_world (cp_ (yg_world v) (fun i => yg_entry v (F * 48 + i)) 0 48) v)) ∧ (out ≠ 2 → zy_end_203 post (nI F) (nI (F * 10)) out w s cr (ys_rec (upd (yg_rec v) (F * 10 + 8) (yg_rec v (F * 10 + 8) + yg_left v F)) (ys_world (cp_ (yg_world v) (fun i => yg_entry v (F * 48 + i)) 0 48) v))))) : ∀ m i n, i + m = 48 → m < n → zy_end_115 post (nI F) (nI (F * 10)) out w s cr n (nI i) (ys_world (cp_ (yg_world v) (fun i => yg_entry v (F * 48 + i)) 0 i) v) := by
  intro m
  induction m with
  | zero =>
    intro i n hi hn
    obtain ⟨n, rfl⟩ : ∃ j, n = j + 1 := ⟨n - 1, by omega⟩
    obtain rfl : i = 48 := by omega
    rw [ey_end_115]
    refine br_t (nI_le (a := 48) (by omega) (by omega)) (br_f h1 (br_c H.1 (fun h2 => ?_)))
    rw [nu_a8, nI_clamp (n := F * 10 + 8) (by omega), nI_clamp (n := F) (by omega)]
    exact ⟨vp_in_nI (by omega) (by decide), vp_in_nI hF (by decide), vp_in_nI (by omega) (by decide), nm_e (H.2 h2)⟩
  | succ m ih =>
    intro i n hi hn
    obtain ⟨n, rfl⟩ : ∃ j, n = j + 1 := ⟨n - 1, by omega⟩
    rw [ey_end_115]
    refine br_f (nI_ge (b := 48) (by omega) (by decide)) (br_f h1 ?_)
    rw [nu_m48, nI_add, nI_clamp (n := i) (by omega), nI_clamp (n := F * 48 + i) (by omega), nI_1 i]
    refine ⟨vp_in_nI (by omega) (by decide), vp_in_nI (by omega) (by decide), ?_⟩
    refine nm_r (e' := cp_ (yg_world v) (fun i => yg_entry v (F * 48 + i)) 0 (i + 1)) (cp_s0 (yg_world v) (fun i => yg_entry v (F * 48 + i)) i) (nm_e (ih (i + 1) n (by omega) (by omega)))
def yb_case (out : Int32) (w0 w1 r0 r1 : Nat → Int32) (l0 l1 : Int32) (W R : Nat → Int32) (L : Int32) : Prop :=
  (out = 1 ∧ W = w0 ∧ L = l0 ∧ R = r0) ∨ (out = 2 ∧ W = w1 ∧ L = l1 ∧ R = r0) ∨ (out ≠ 1 ∧ out ≠ 2 ∧ W = w1 ∧ L = l1 ∧ R = r1)
theorem ye_a (w : Int32) (R0 R : Nat → Int32) (v : SY) : ym_returnWord_rec w R (ys_rec R0 v) = ys_returnWord w (yu_end (yg_world v) R (yg_logs v) v) := by
  obtain ⟨aa0, aa1, aa2, aa3, aa4, aa5, aa6, aa7, aa8, aa9, aa10, aa11, aa12, aa13, aa14, aa15, aa16, aa17, aa18, aa19, aa20, aa21, aa22, aa23, aa24, aa25, aa26, aa27⟩ := v
  dsimp only [ym_returnWord_rec, ys_rec, ys_returnWord, yu_end, yg_accounts, yg_maxDepth, yg_price, yg_fees, yg_minted, yg_input, yg_returnWord, yg_frames, yg_logs, yg_handed, yg_cells, yg_length, yg_world, yg_logAccounts, yg_logWords, yg_rec, yg_entry, yg_entryLogs, yg_left, yg_stack, yg_height, yg_memory, yg_memorySize, yg_position, yg_result, yg_callerOf, yg_valueOf, yg_inputOf]
theorem ye_b (R0 R A B : Nat → Int32) (v : SY) : ym_rec_left_result R A B (ys_rec R0 v) = ys_result B (ys_left A (yu_end (yg_world v) R (yg_logs v) v)) := by
  obtain ⟨aa0, aa1, aa2, aa3, aa4, aa5, aa6, aa7, aa8, aa9, aa10, aa11, aa12, aa13, aa14, aa15, aa16, aa17, aa18, aa19, aa20, aa21, aa22, aa23, aa24, aa25, aa26, aa27⟩ := v
  dsimp only [ym_rec_left_result, ys_rec, ys_result, ys_left, yu_end, yg_accounts, yg_maxDepth, yg_price, yg_fees, yg_minted, yg_input, yg_returnWord, yg_frames, yg_logs, yg_handed, yg_cells, yg_length, yg_world, yg_logAccounts, yg_logWords, yg_rec, yg_entry, yg_entryLogs, yg_left, yg_stack, yg_height, yg_memory, yg_memorySize, yg_position, yg_result, yg_callerOf, yg_valueOf, yg_inputOf]
theorem ye_c (w L : Int32) (R0 R W : Nat → Int32) (v : SY) : ym_returnWord_rec w R (ys_rec R0 (ys_world W (ys_logs L v))) = ys_returnWord w (yu_end W R L v) := by
  obtain ⟨aa0, aa1, aa2, aa3, aa4, aa5, aa6, aa7, aa8, aa9, aa10, aa11, aa12, aa13, aa14, aa15, aa16, aa17, aa18, aa19, aa20, aa21, aa22, aa23, aa24, aa25, aa26, aa27⟩ := v
  dsimp only [ym_returnWord_rec, ys_rec, ys_returnWord, ys_world, ys_logs, yu_end, yg_accounts, yg_maxDepth, yg_price, yg_fees, yg_minted, yg_input, yg_returnWord, yg_frames, yg_logs, yg_handed, yg_cells, yg_length, yg_world, yg_logAccounts, yg_logWords, yg_rec, yg_entry, yg_entryLogs, yg_left, yg_stack, yg_height, yg_memory, yg_memorySize, yg_position, yg_result, yg_callerOf, yg_valueOf, yg_inputOf]
theorem ye_d (L : Int32) (R0 R W A B : Nat → Int32) (v : SY) : ym_rec_left_result R A B (ys_rec R0 (ys_world W (ys_logs L v))) = ys_result B (ys_left A (yu_end W R L v)) := by
  obtain ⟨aa0, aa1, aa2, aa3, aa4, aa5, aa6, aa7, aa8, aa9, aa10, aa11, aa12, aa13, aa14, aa15, aa16, aa17, aa18, aa19, aa20, aa21, aa22, aa23, aa24, aa25, aa26, aa27⟩ := v
  dsimp only [ym_rec_left_result, ys_rec, ys_result, ys_left, ys_world, ys_logs, yu_end, yg_accounts, yg_maxDepth, yg_price, yg_fees, yg_minted, yg_input, yg_returnWord, yg_frames, yg_logs, yg_handed, yg_cells, yg_length, yg_world, yg_logAccounts, yg_logWords, yg_rec, yg_entry, yg_entryLogs, yg_left, yg_stack, yg_height, yg_memory, yg_memorySize, yg_position, yg_result, yg_callerOf, yg_valueOf, yg_inputOf]
theorem yw_e203 {post : SY → Prop} {v v' : SY} {F : Nat} {out w s cr k L : Int32} {W R : Nat → Int32} (hF : F < 32) (hk : (k = 4 ∧ cr = 1) ∨ (k ≠ 4 ∧ cr = 0))
    (e1 : yg_rec v' = R) (e2 : yg_world v' = W) (e3 : yg_entry v' = yg_entry v) (e4 : yg_logs v' = L) (e5 : yg_entryLogs v' = yg_entryLogs v) (e6 : yg_left v' = yg_left v) (e7 : yg_result v' = yg_result v) (e8 : R (F * 10 + 1) = yg_rec v (F * 10 + 1))
    (es : ∀ R, ym_returnWord_rec w R v' = ys_returnWord w (yu_end W R L v)) (es2 : ∀ R A B, ym_rec_left_result R A B v' = ys_result B (ys_left A (yu_end W R L v)))
    (hp : (yg_rec v (F * 10 + 1) = -1 ∧ post (ys_returnWord w (yu_end W (yd_R R F (cn_ W (fun i => yg_entry v (F * 48 + i)) (L - yg_entryLogs v F) 48) out) L v))) ∨
      ∃ P, P < 32 ∧ yg_rec v (F * 10 + 1) = nI P ∧ wpY_push post (ys_result (upd (yg_result v) P w) (ys_left (upd (yg_left v) P (yg_left v P + R (F * 10 + 7))) (yu_end W (yd_R R F (cn_ W (fun i => yg_entry v (F * 48 + i)) (L - yg_entryLogs v F) 48) out) L v))) (nI P) (ab_ans k s out)) :
    zy_end_203 post (nI F) (nI (F * 10)) out w s cr v' := by
  refine yw_end203 hF hk ?_
  rw [e1, e2, e3, e4, e5, e6, e7, e8]
  rcases hp with ⟨e, H⟩ | ⟨P, P32, e, H⟩
  · refine Or.inl ⟨e, ?_⟩
    rw [es]
    exact H
  · refine Or.inr ⟨P, P32, e, ?_⟩
    rw [es2]
    exact H
theorem yw_end96 {post : SY → Prop} {v : SY} {F : Nat} {out w s cr k L : Int32} {W R : Nat → Int32} (hF : F < 32) (hk : (k = 4 ∧ cr = 1) ∨ (k ≠ 4 ∧ cr = 0))
    (hc : yb_case out (yg_world v) (cp_ (yg_world v) (fun i => yg_entry v (F * 48 + i)) 0 48) (upd (yg_rec v) (F * 10 + 7) (yg_left v F)) (upd (yg_rec v) (F * 10 + 8) (yg_rec v (F * 10 + 8) + yg_left v F)) (yg_logs v) (yg_entryLogs v F) W R L)
    (hp : (yg_rec v (F * 10 + 1) = -1 ∧ post (ys_returnWord w (yu_end W (yd_R R F (cn_ W (fun i => yg_entry v (F * 48 + i)) (L - yg_entryLogs v F) 48) out) L v))) ∨
      ∃ P, P < 32 ∧ yg_rec v (F * 10 + 1) = nI P ∧ wpY_push post (ys_result (upd (yg_result v) P w) (ys_left (upd (yg_left v) P (yg_left v P + R (F * 10 + 7))) (yu_end W (yd_R R F (cn_ W (fun i => yg_entry v (F * 48 + i)) (L - yg_entryLogs v F) 48) out) L v))) (nI P) (ab_ans k s out)) :
    zy_end_96 post (nI F) (nI (F * 10)) out w s cr v := by
  have vF := vp_in_nI hF (N := 32) (by decide)
  rw [ey_end_96]
  rcases hc with ⟨rfl, rfl, rfl, rfl⟩ | ⟨rfl, rfl, rfl, rfl⟩ | ⟨h1, h2, rfl, rfl, rfl⟩
  · refine br_t rfl ⟨49, yl_115_1 hF ?_ 48 0 49 (by omega) (by omega)⟩
    rw [ey_end_165, nu_a7, nI_clamp (n := F * 10 + 7) (by omega), nI_clamp (n := F) (by omega)]
    exact ⟨vF, vp_in_nI (by omega) (by decide), nm_e (yw_e203 (v := v) hF hk rfl rfl rfl rfl rfl rfl rfl (pk_un (by omega)) (fun R => ye_a w _ R v) (fun R A B => ye_b _ R A B v) hp)⟩
  · refine br_f (by decide) ?_
    rw [nI_clamp (n := F) (by omega)]
    refine ⟨vF, nm_e ⟨49, ?_⟩⟩
    have h := yl_115_n (post := post) (v := ys_logs (yg_entryLogs v F) v) (out := 2) (w := w) (s := s) (cr := cr) hF (by decide) ⟨fun _ => ?_, fun h => absurd rfl h⟩ 48 0 49 (by omega) (by omega)
    · rw [cp_0] at h
      exact h
    · rw [ey_end_165, nu_a7, nI_clamp (n := F * 10 + 7) (by omega), nI_clamp (n := F) (by omega), yq_world_logs, yq_entry_logs, yq_rec_world, yq_rec_logs, yq_left_world, yq_left_logs]
      exact ⟨vF, vp_in_nI (by omega) (by decide), nm_e (yw_e203 (v := v) hF hk (yq_rec_rec _ _) ((yq_world_rec _ _).trans (yq_world_world _ _)) ((yq_entry_rec _ _).trans ((yq_entry_world _ _).trans (yq_entry_logs _ _))) ((yq_logs_rec _ _).trans ((yq_logs_world _ _).trans (yq_logs_logs _ _))) ((yq_entryLogs_rec _ _).trans ((yq_entryLogs_world _ _).trans (yq_entryLogs_logs _ _))) ((yq_left_rec _ _).trans ((yq_left_world _ _).trans (yq_left_logs _ _))) ((yq_result_rec _ _).trans ((yq_result_world _ _).trans (yq_result_logs _ _))) (pk_un (by omega)) (fun R => ye_c w _ _ R _ v) (fun R A B => ye_d _ _ R _ A B v) hp)⟩
  · refine br_f h1 ?_
    rw [nI_clamp (n := F) (by omega)]
    refine ⟨vF, nm_e ⟨49, ?_⟩⟩
    have h := yl_115_n (post := post) (v := ys_logs (yg_entryLogs v F) v) (out := out) (w := w) (s := s) (cr := cr) hF h1 ⟨fun h => absurd h h2, fun _ => ?_⟩ 48 0 49 (by omega) (by omega)
    · rw [cp_0] at h
      exact h
    · rw [yq_world_logs, yq_entry_logs, yq_rec_logs, yq_left_logs]
      exact yw_e203 (v := v) hF hk (yq_rec_rec _ _) ((yq_world_rec _ _).trans (yq_world_world _ _)) ((yq_entry_rec _ _).trans ((yq_entry_world _ _).trans (yq_entry_logs _ _))) ((yq_logs_rec _ _).trans ((yq_logs_world _ _).trans (yq_logs_logs _ _))) ((yq_entryLogs_rec _ _).trans ((yq_entryLogs_world _ _).trans (yq_entryLogs_logs _ _))) ((yq_left_rec _ _).trans ((yq_left_world _ _).trans (yq_left_logs _ _))) ((yq_result_rec _ _).trans ((yq_result_world _ _).trans (yq_result_logs _ _))) (pk_un (by omega)) (fun R => ye_c w _ _ R _ v) (fun R A B => ye_d _ _ R _ A B v) hp
end
section
theorem yq_callerOf_rec (z : Nat → Int32) (u : SY) : yg_callerOf (ys_rec z u) = yg_callerOf u := id rfl
theorem yq_entryLogs_entry (z : Nat → Int32) (u : SY) : yg_entryLogs (ys_entry z u) = yg_entryLogs u := id rfl
theorem yq_handed_rec (z : Nat → Int32) (u : SY) : yg_handed (ys_rec z u) = yg_handed u := id rfl
theorem yq_height_rec (z : Nat → Int32) (u : SY) : yg_height (ys_rec z u) = yg_height u := id rfl
theorem yq_inputOf_rec (z : Nat → Int32) (u : SY) : yg_inputOf (ys_rec z u) = yg_inputOf u := id rfl
theorem yq_logs_entry (z : Nat → Int32) (u : SY) : yg_logs (ys_entry z u) = yg_logs u := id rfl
theorem yq_memorySize_rec (z : Nat → Int32) (u : SY) : yg_memorySize (ys_rec z u) = yg_memorySize u := id rfl
theorem yq_position_rec (z : Nat → Int32) (u : SY) : yg_position (ys_rec z u) = yg_position u := id rfl
theorem yq_valueOf_rec (z : Nat → Int32) (u : SY) : yg_valueOf (ys_rec z u) = yg_valueOf u := id rfl
theorem yq_world_entry (z : Nat → Int32) (u : SY) : yg_world (ys_entry z u) = yg_world u := id rfl
theorem yx_world (y z : Nat → Int32) (u : SY) : ys_world y (ys_world z u) = ys_world y u := id rfl
/-! Y: the entry of a frame -/
theorem ys_mself (v : SY) : ys_memory (yg_memory v) v = v := id rfl
theorem ys_rself (v : SY) : ys_rec (yg_rec v) v = v := id rfl
theorem ys_eself (v : SY) : ys_entry (yg_entry v) v = v := id rfl
theorem yb_rec (R0 R a b c d e f g h : Nat → Int32) (v : SY) : ym_rec_left_height_memorySize_position_result_callerOf_valueOf_inputOf R a b c d e f g h (ys_rec R0 v) = ym_rec_left_height_memorySize_position_result_callerOf_valueOf_inputOf R a b c d e f g h v := by
  obtain ⟨aa0, aa1, aa2, aa3, aa4, aa5, aa6, aa7, aa8, aa9, aa10, aa11, aa12, aa13, aa14, aa15, aa16, aa17, aa18, aa19, aa20, aa21, aa22, aa23, aa24, aa25, aa26, aa27⟩ := v
  dsimp only [ym_rec_left_height_memorySize_position_result_callerOf_valueOf_inputOf, ys_rec]
def yu_new (F : Nat) (R : Nat → Int32) (a x i g : Int32) (v : SY) : SY := ym_rec_left_height_memorySize_position_result_callerOf_valueOf_inputOf R (upd (yg_left v) F g) (upd (yg_height v) F 0) (upd (yg_memorySize v) F 0) (upd (yg_position v) F 0) (upd (yg_result v) F 0) (upd (yg_callerOf v) F a) (upd (yg_valueOf v) F x) (upd (yg_inputOf v) F i) v
def yu_mem0 (F : Nat) (v : SY) : SY := ys_memory (cp_ (yg_memory v) (fun _ => 0) (F * 16) 16) v
theorem yl_312 {post : SY → Prop} {v : SY} {F : Nat} (hF : F < 32) (H : post (ys_frames (nI (F + 1)) (yu_mem0 F v))) : ∀ m i n, i + m = 16 → m < n → zy_enter_312 post (nI F) n (nI i) (ys_memory (cp_ (yg_memory v) (fun _ => 0) (F * 16) i) v) := by
  intro m
  induction m with
  | zero =>
    intro i n hi hn
    obtain ⟨n, rfl⟩ : ∃ j, n = j + 1 := ⟨n - 1, by omega⟩
    obtain rfl : i = 16 := by omega
    rw [ey_enter_312, nI_1]
    exact br_t (nI_le (a := 16) (by omega) (by omega)) (nm_e H)
  | succ m ih =>
    intro i n hi hn
    obtain ⟨n, rfl⟩ : ∃ j, n = j + 1 := ⟨n - 1, by omega⟩
    rw [ey_enter_312]
    refine br_f (nI_ge (b := 16) (by omega) (by decide)) ?_
    rw [nu_m16, nI_add, nI_clamp (n := F * 16 + i) (by omega), nI_1 i]
    exact ⟨vp_in_nI (by omega) (by decide), nm_r (e' := cp_ (yg_memory v) (fun _ => 0) (F * 16) (i + 1)) (cp_s (yg_memory v) (fun _ => 0) (F * 16) i) (nm_e (ih (i + 1) n (by omega) (by omega)))⟩
def yu_rec (F : Nat) (k par s c z : Int32) (v : SY) : Nat → Int32 := re_ (cp_ (yg_rec v) (fun _ => 0) (F * 10) 10) F k par s c z (yg_handed v)
theorem yl_128 {post : SY → Prop} {v : SY} {F : Nat} {k c s a x i z par : Int32} (hF : F < 32) (H : post (ys_frames (nI (F + 1)) (yu_mem0 F (yu_new F (yu_rec F k par s c z v) a x i (yg_handed v) v)))) :
    ∀ m j n, j + m = 10 → m < n → zy_enter_128 post k c s a x i z (nI F) par n (nI j) (ys_rec (cp_ (yg_rec v) (fun _ => 0) (F * 10) j) v) := by
  intro m
  induction m with
  | zero =>
    intro j n hi hn
    obtain ⟨n, rfl⟩ : ∃ j, n = j + 1 := ⟨n - 1, by omega⟩
    obtain rfl : j = 10 := by omega
    have vF := vp_in_nI hF (N := 32) (by decide)
    rw [ey_enter_128]
    refine br_t (nI_le (a := 10) (by omega) (by omega)) ?_
    rw [nu_m10, nu_a0, nu_a1, nu_a2, nu_a3, nu_a4, nu_a6, nI_clamp (n := F * 10 + 0) (by omega), nI_clamp (n := F * 10 + 1) (by omega), nI_clamp (n := F * 10 + 2) (by omega), nI_clamp (n := F * 10 + 3) (by omega), nI_clamp (n := F * 10 + 4) (by omega), nI_clamp (n := F * 10 + 6) (by omega), nI_clamp (n := F) (by omega), yq_rec_rec, yq_handed_rec, yq_callerOf_rec, yq_valueOf_rec, yq_inputOf_rec, yq_left_rec, yq_height_rec, yq_position_rec, yq_memorySize_rec, yq_result_rec]
    refine ⟨vp_in_nI (by omega) (by decide), nm_e ⟨vp_in_nI (by omega) (by decide), nm_e ⟨vp_in_nI (by omega) (by decide), nm_e ⟨vp_in_nI (by omega) (by decide), nm_e ⟨vp_in_nI (by omega) (by decide), nm_e ⟨vp_in_nI (by omega) (by decide), nm_e ⟨vF, nm_e ⟨vF, nm_e ⟨vF, nm_e ⟨vF, nm_e ⟨vF, nm_e ⟨vF, nm_e ⟨vF, nm_e ⟨vF, nm_e ⟨17, ?_⟩⟩⟩⟩⟩⟩⟩⟩⟩⟩⟩⟩⟩⟩⟩
    have h := yl_312 (v := yu_new F (yu_rec F k par s c z v) a x i (yg_handed v) v) hF H 16 0 17 (by omega) (by omega)
    rw [cp_0, ys_mself] at h
    rw [yb_rec]
    exact h
  | succ m ih =>
    intro j n hi hn
    obtain ⟨n, rfl⟩ : ∃ j, n = j + 1 := ⟨n - 1, by omega⟩
    rw [ey_enter_128]
    refine br_f (nI_ge (b := 10) (by omega) (by decide)) ?_
    rw [nu_m10, nI_add, nI_clamp (n := F * 10 + j) (by omega), nI_1 j]
    exact ⟨vp_in_nI (by omega) (by decide), nm_r (e' := cp_ (yg_rec v) (fun _ => 0) (F * 10) (j + 1)) (cp_s (yg_rec v) (fun _ => 0) (F * 10) j) (nm_e (ih (j + 1) n (by omega) (by omega)))⟩
theorem yw_128 {post : SY → Prop} {v : SY} {F : Nat} {k c s a x i z par : Int32} (hF : F < 32) (H : post (ys_frames (nI (F + 1)) (yu_mem0 F (yu_new F (yu_rec F k par s c z v) a x i (yg_handed v) v)))) : ∃ n, zy_enter_128 post k c s a x i z (nI F) par n 0 v := by
  have h := yl_128 hF H 10 0 11 (by omega) (by omega)
  rw [cp_0, ys_rself] at h
  exact ⟨11, h⟩
def yu_save (F : Nat) (v : SY) : SY := (v.1, v.2.1, v.2.2.1, v.2.2.2.1, v.2.2.2.2.1, v.2.2.2.2.2.1, v.2.2.2.2.2.2.1, v.2.2.2.2.2.2.2.1, v.2.2.2.2.2.2.2.2.1, v.2.2.2.2.2.2.2.2.2.1, v.2.2.2.2.2.2.2.2.2.2.1, v.2.2.2.2.2.2.2.2.2.2.2.1, v.2.2.2.2.2.2.2.2.2.2.2.2.1, v.2.2.2.2.2.2.2.2.2.2.2.2.2.1, v.2.2.2.2.2.2.2.2.2.2.2.2.2.2.1, v.2.2.2.2.2.2.2.2.2.2.2.2.2.2.2.1, cp_ (yg_entry v) (yg_world v) (F * 48) 48, upd (yg_entryLogs v) F (yg_logs v), v.2.2.2.2.2.2.2.2.2.2.2.2.2.2.2.2.2.2.1, v.2.2.2.2.2.2.2.2.2.2.2.2.2.2.2.2.2.2.2.1, v.2.2.2.2.2.2.2.2.2.2.2.2.2.2.2.2.2.2.2.2.1, v.2.2.2.2.2.2.2.2.2.2.2.2.2.2.2.2.2.2.2.2.2.1, v.2.2.2.2.2.2.2.2.2.2.2.2.2.2.2.2.2.2.2.2.2.2.1, v.2.2.2.2.2.2.2.2.2.2.2.2.2.2.2.2.2.2.2.2.2.2.2.1, v.2.2.2.2.2.2.2.2.2.2.2.2.2.2.2.2.2.2.2.2.2.2.2.2.1, v.2.2.2.2.2.2.2.2.2.2.2.2.2.2.2.2.2.2.2.2.2.2.2.2.2.1, v.2.2.2.2.2.2.2.2.2.2.2.2.2.2.2.2.2.2.2.2.2.2.2.2.2.2.1, v.2.2.2.2.2.2.2.2.2.2.2.2.2.2.2.2.2.2.2.2.2.2.2.2.2.2.2)
theorem yl_s1 (F : Nat) (v : SY) : ys_entryLogs (upd (yg_entryLogs v) F (yg_logs v)) (ys_entry (cp_ (yg_entry v) (yg_world v) (F * 48) 48) v) = yu_save F v := by
  obtain ⟨aa0, aa1, aa2, aa3, aa4, aa5, aa6, aa7, aa8, aa9, aa10, aa11, aa12, aa13, aa14, aa15, aa16, aa17, aa18, aa19, aa20, aa21, aa22, aa23, aa24, aa25, aa26, aa27⟩ := v
  dsimp only [yu_save, ys_entry, ys_entryLogs, yg_accounts, yg_maxDepth, yg_price, yg_fees, yg_minted, yg_input, yg_returnWord, yg_frames, yg_logs, yg_handed, yg_cells, yg_length, yg_world, yg_logAccounts, yg_logWords, yg_rec, yg_entry, yg_entryLogs, yg_left, yg_stack, yg_height, yg_memory, yg_memorySize, yg_position, yg_result, yg_callerOf, yg_valueOf, yg_inputOf]
theorem yl_s2 (F : Nat) (W : Nat → Int32) (v : SY) : ym_world_entryLogs W (upd (yg_entryLogs v) F (yg_logs v)) (ys_entry (cp_ (yg_entry v) (yg_world v) (F * 48) 48) v) = ys_world W (yu_save F v) := by
  obtain ⟨aa0, aa1, aa2, aa3, aa4, aa5, aa6, aa7, aa8, aa9, aa10, aa11, aa12, aa13, aa14, aa15, aa16, aa17, aa18, aa19, aa20, aa21, aa22, aa23, aa24, aa25, aa26, aa27⟩ := v
  dsimp only [yu_save, ys_entry, ys_world, ym_world_entryLogs, yg_accounts, yg_maxDepth, yg_price, yg_fees, yg_minted, yg_input, yg_returnWord, yg_frames, yg_logs, yg_handed, yg_cells, yg_length, yg_world, yg_logAccounts, yg_logWords, yg_rec, yg_entry, yg_entryLogs, yg_left, yg_stack, yg_height, yg_memory, yg_memorySize, yg_position, yg_result, yg_callerOf, yg_valueOf, yg_inputOf]
theorem yl_s3 (F : Nat) (v : SY) : yg_world (yu_save F v) = yg_world v := id rfl
theorem yl_s4 (F : Nat) (v : SY) : ys_world (yg_world v) (yu_save F v) = yu_save F v := id rfl
theorem yw_enter {post : SY → Prop} {v : SY} {F a s : Nat} {k c x i z par ca : Int32} {W : Nat → Int32} (hF : F < 32) (hfr : yg_frames v = nI F) (hs : s < 8) (hca : k = 1 ∨ k = 4 → ca = nI a)
    (hcur : ∀ (p : Int32 → Prop), p par → wpY_current p v) (hW : ab_ew k (yg_world v) a s c x W)
    (H : post (ys_frames (nI (F + 1)) (yu_mem0 F (yu_new F (yu_rec F k par (nI s) c z (ys_world W (yu_save F v))) ca x i (yg_handed (ys_world W (yu_save F v))) (ys_world W (yu_save F v)))))) : wpY_enter post v k c (nI s) ca x i z := by
  rw [ey_enter, hfr]
  refine hcur _ (br_t (nI_lt (b := 32) hF (by decide)) ⟨49, ?_⟩)
  have K : ∀ m j n, j + m = 48 → m < n → zy_enter_23 post k c (nI s) ca x i z (nI F) par n (nI j) (ys_entry (cp_ (yg_entry v) (yg_world v) (F * 48) j) v) := by
    intro m
    induction m with
    | zero =>
      intro j n hi hn
      obtain ⟨n, rfl⟩ : ∃ j, n = j + 1 := ⟨n - 1, by omega⟩
      obtain rfl : j = 48 := by omega
      rw [ey_enter_23, nI_clamp (n := F) (by omega), yq_entryLogs_entry, yq_logs_entry, yq_world_entry]
      refine br_t (nI_le (a := 48) (by omega) (by omega)) ⟨vp_in_nI hF (by decide), nm_e ?_⟩
      rcases hW with ⟨k1, ha, rfl⟩ | ⟨k4, ha, rfl⟩ | ⟨k1, k4, rfl⟩
      · have e := hca (Or.inl k1)
        subst e
        refine br_f (by rw [k1]; decide) ?_
        rw [yl_s1, ey_enter_82]
        refine br_t k1 ?_
        rw [ey_enter_92, yl_s3, nu_m6, nu_m6, nu_a1, nu_a1, nI_clamp (n := a * 6 + 1) (by omega), nI_clamp (n := s * 6 + 1) (by omega)]
        exact ⟨vp_in_nI (by omega) (by decide), vp_in_nI (by omega) (by decide), nm_e ⟨vp_in_nI (by omega) (by decide), vp_in_nI (by omega) (by decide), nm_e (yw_128 hF H)⟩⟩
      · have e := hca (Or.inr k4)
        subst e
        refine br_t k4 ?_
        rw [nu_m6, nI_clamp (n := s * 6) (by omega)]
        refine ⟨vp_in_nI (by omega) (by decide), nm_e ?_⟩
        rw [yl_s2, ey_enter_82]
        refine br_f (by rw [k4]; decide) (br_t k4 ?_)
        rw [ey_enter_92, yq_world_world, nu_m6, nu_m6, nu_a1, nu_a1, nI_clamp (n := a * 6 + 1) (by omega), nI_clamp (n := s * 6 + 1) (by omega)]
        exact ⟨vp_in_nI (by omega) (by decide), vp_in_nI (by omega) (by decide), nm_e ⟨vp_in_nI (by omega) (by decide), vp_in_nI (by omega) (by decide), nm_e (by rw [yx_world]; exact yw_128 hF H)⟩⟩
      · refine br_f k4 ?_
        rw [yl_s4] at H
        rw [yl_s1, ey_enter_82]
        exact br_f k1 (br_f k4 (yw_128 hF H))
    | succ m ih =>
      intro j n hi hn
      obtain ⟨n, rfl⟩ : ∃ j, n = j + 1 := ⟨n - 1, by omega⟩
      rw [ey_enter_23]
      refine br_f (nI_ge (b := 48) (by omega) (by decide)) ?_
      rw [nu_m48, nI_add, nI_clamp (n := F * 48 + j) (by omega), nI_clamp (n := j) (by omega), nI_1 j]
      exact ⟨vp_in_nI (by omega) (by decide), vp_in_nI (by omega) (by decide), nm_r (e' := cp_ (yg_entry v) (yg_world v) (F * 48) (j + 1)) (cp_s (yg_entry v) (yg_world v) (F * 48) j) (nm_e (ih (j + 1) n (by omega) (by omega)))⟩
  have h := K 48 0 49 (by omega) (by omega)
  rw [cp_0, ys_eself] at h
  exact h
end
section
/-! the world: programs, balances, their sum -/
def ws_ (w : Nat → Int32) : Nat → Nat
  | 0 => 0
  | n + 1 => ws_ w n + (w (n * 6 + 1)).toNatClampNeg
theorem ws_ext {w w' : Nat → Int32} : ∀ n, (∀ a, a < n → w (a * 6 + 1) = w' (a * 6 + 1)) → ws_ w n = ws_ w' n
  | 0, _ => rfl
  | n + 1, h => by
    unfold ws_
    rw [ws_ext n (fun i hi => h i (by omega)), h n (by omega)]
theorem ws_upd {w : Nat → Int32} {a : Nat} {x : Int32} : ∀ n, a < n → ws_ (upd w (a * 6 + 1) x) n + (w (a * 6 + 1)).toNatClampNeg = ws_ w n + x.toNatClampNeg
  | 0, h => by omega
  | n + 1, h => by
    unfold ws_
    by_cases e : a = n
    · subst e
      rw [pk_us, ws_ext (w := upd w (a * 6 + 1) x) (w' := w) a (fun i hi => pk_un (by omega))]
      omega
    · have := ws_upd (w := w) (a := a) (x := x) n (by omega)
      rw [pk_un (by omega)]
      omega
theorem ws_le {w : Nat → Int32} : ∀ {n a : Nat}, a < n → (w (a * 6 + 1)).toNatClampNeg ≤ ws_ w n
  | 0, _, h => by omega
  | n + 1, a, h => by
    unfold ws_
    by_cases e : a = n
    · subst e; omega
    · have := ws_le (w := w) (n := n) (a := a) (by omega)
      omega
def Wb_ (T : Nat) (w : Nat → Int32) : Prop := (∀ a, a < 8 → w (a * 6) = -1 ∨ ∃ c, c < 8 ∧ w (a * 6) = nI c) ∧ (∀ a, a < 8 → ∃ b, b ≤ T ∧ w (a * 6 + 1) = nI b) ∧ (∀ a, a < 8 → w (a * 6) = -1 → w (a * 6 + 1) = 0) ∧ ws_ w 8 = T ∧ T ≤ 1000000000
theorem Wb_ext {T : Nat} {w w' : Nat → Int32} (h : Wb_ T w) (e : ∀ i, i < 48 → w' i = w i) : Wb_ T w' := by
  obtain ⟨h1, h2, h3, h4, h5⟩ := h
  refine ⟨fun a ha => ?_, fun a ha => ?_, fun a ha => ?_, ?_, h5⟩
  · rw [e _ (by omega)]; exact h1 a ha
  · rw [e _ (by omega)]; exact h2 a ha
  · rw [e _ (by omega), e _ (by omega)]; exact h3 a ha
  · rw [← h4]; exact ws_ext 8 (fun a ha => e _ (by omega))
theorem nu_m1 {c : Nat} (hc : c < 2 ^ 31) : nI c ≠ -1 := fun h => nI_pos hc (nu_lneg h)
theorem Wb_code {T s c : Nat} {w : Nat → Int32} (h : Wb_ T w) (hs : s < 8) (hc : c < 8) : Wb_ T (upd w (s * 6) (nI c)) := by
  obtain ⟨h1, h2, h3, h4, h5⟩ := h
  refine ⟨fun a ha => ?_, fun a ha => ?_, fun a ha z => ?_, ?_, h5⟩
  · by_cases e : a = s
    · subst e; rw [pk_us]; exact Or.inr ⟨c, hc, rfl⟩
    · rw [pk_un (by omega)]; exact h1 a ha
  · rw [pk_un (by omega)]; exact h2 a ha
  · by_cases e : a = s
    · subst e; rw [pk_us] at z; exact absurd z (nu_m1 (by omega))
    · rw [pk_un (by omega)] at z
      rw [pk_un (by omega)]; exact h3 a ha z
  · rw [← h4]; exact ws_ext 8 (fun a ha => pk_un (by omega))
theorem Wb_store {T k : Nat} {x : Int32} {w : Nat → Int32} (h : Wb_ T w) (hk : k % 6 ≠ 0) (hk1 : k % 6 ≠ 1) : Wb_ T (upd w k x) := by
  obtain ⟨h1, h2, h3, h4, h5⟩ := h
  refine ⟨fun a ha => ?_, fun a ha => ?_, fun a ha => ?_, ?_, h5⟩
  · rw [pk_un (by omega)]; exact h1 a ha
  · rw [pk_un (by omega)]; exact h2 a ha
  · rw [pk_un (by omega), pk_un (by omega)]; exact h3 a ha
  · rw [← h4]; exact ws_ext 8 (fun a ha => pk_un (by omega))
theorem Wb_bal {T T' a b0 b : Nat} {w : Nat → Int32} (h : Wb_ T w) (ha : a < 8) (hb0 : w (a * 6 + 1) = nI b0) (hT : T' + b0 = T + b) (hT9 : T' ≤ 1000000000) (hb : b ≤ 1000000000) (hb2 : b0 ≤ T) (hz : w (a * 6) = -1 → b = 0) : Wb_ T' (upd w (a * 6 + 1) (nI b)) := by
  obtain ⟨h1, h2, h3, h4, h5⟩ := h
  have hs := ws_upd (w := w) (a := a) (x := nI b) 8 ha
  rw [hb0, nI_clamp (by omega), nI_clamp (by omega), h4] at hs
  have hs' : ws_ (upd w (a * 6 + 1) (nI b)) 8 = T' := by omega
  refine ⟨fun c hc => ?_, fun c hc => ?_, fun c hc z => ?_, hs', hT9⟩
  · rw [pk_un (by omega)]; exact h1 c hc
  · by_cases e : c = a
    · subst e
      have := ws_le (w := upd w (c * 6 + 1) (nI b)) (n := 8) (a := c) hc
      rw [pk_us, nI_clamp (by omega)] at this
      rw [pk_us]; exact ⟨b, by omega, rfl⟩
    · have := ws_le (w := upd w (a * 6 + 1) (nI b)) (n := 8) (a := c) hc
      obtain ⟨b', hb', e'⟩ := h2 c hc
      rw [pk_un (by omega), e', nI_clamp (by omega)] at this
      rw [pk_un (by omega)]; exact ⟨b', by omega, e'⟩
  · rw [pk_un (by omega)] at z
    by_cases e : c = a
    · subst e; rw [pk_us, hz z]; rfl
    · rw [pk_un (by omega)]; exact h3 c hc z
theorem Wb_b {T a : Nat} {w : Nat → Int32} (h : Wb_ T w) (ha : a < 8) : ∃ b, b ≤ T ∧ w (a * 6 + 1) = nI b ∧ T ≤ 1000000000 := by
  obtain ⟨b, hb, e⟩ := h.2.1 a ha
  exact ⟨b, hb, e, h.2.2.2.2⟩
theorem Wb_move {T a s : Nat} {x : Int32} {w : Nat → Int32} (h : Wb_ T w) (ha : a < 8) (hs : s < 8) (h0 : ¬ x < 0) (h1 : ¬ w (a * 6 + 1) < x) (he : w (s * 6) ≠ -1) : Wb_ T (wt_ w a s x) := by
  obtain ⟨b, hb, e, hT⟩ := Wb_b h ha
  obtain ⟨y, hy, rfl⟩ := nI_of h0
  have yb : y ≤ b := by
    rw [e, nI_ltI (by omega) hy] at h1
    omega
  unfold wt_
  rw [e, pk_sub yb]
  have k1 : Wb_ (T - y) (upd w (a * 6 + 1) (nI (b - y))) := Wb_bal h ha e (by omega) (by omega) (by omega) hb (fun z => by
    have := h.2.2.1 a ha z
    rw [e] at this
    have := (nI_eq (a := b) (b := 0) (by omega) (by decide)).mp this
    omega)
  obtain ⟨b1, hb1, e1, _⟩ := Wb_b k1 hs
  rw [e1, nI_add]
  exact Wb_bal k1 hs e1 (by omega) hT (by omega) hb1 (fun z => by
    rw [pk_un (by omega)] at z
    exact absurd z he)
/-- with an account that exists in every world of a transaction: T holds what was minted, the sum, that account and the price -/
def Wd_ (T : Nat) (w : Nat → Int32) : Prop := Wb_ (T / 64 % 1000000001) w ∧ w (T / 8 % 8 * 6) ≠ -1
theorem Wd_ext {T : Nat} {w w' : Nat → Int32} (h : Wd_ T w) (e : ∀ i, i < 48 → w' i = w i) : Wd_ T w' := ⟨Wb_ext h.1 e, by
  have : T / 8 % 8 < 8 := Nat.mod_lt _ (by decide)
  rw [e _ (by omega)]; exact h.2⟩
theorem Wd_code {T s c : Nat} {w : Nat → Int32} (h : Wd_ T w) (hs : s < 8) (hc : c < 8) : Wd_ T (upd w (s * 6) (nI c)) := ⟨Wb_code h.1 hs hc, by
  by_cases e : T / 8 % 8 = s
  · rw [e, pk_us]; exact nu_m1 (by omega)
  · rw [pk_un (by omega)]; exact h.2⟩
theorem Wd_store {T k : Nat} {x : Int32} {w : Nat → Int32} (h : Wd_ T w) (hk : k % 6 ≠ 0) (hk1 : k % 6 ≠ 1) : Wd_ T (upd w k x) := ⟨Wb_store h.1 hk hk1, by
  rw [pk_un (by omega)]; exact h.2⟩
theorem Wd_b {T a : Nat} {w : Nat → Int32} (h : Wd_ T w) (ha : a < 8) : ∃ b, b ≤ 1000000000 ∧ w (a * 6 + 1) = nI b ∧ True := by
  obtain ⟨b, hb, e, hT⟩ := Wb_b h.1 ha
  exact ⟨b, by omega, e, trivial⟩
theorem Wd_move {T a s : Nat} {x : Int32} {w : Nat → Int32} (h : Wd_ T w) (ha : a < 8) (hs : s < 8) (h0 : ¬ x < 0) (h1 : ¬ w (a * 6 + 1) < x) (he : w (s * 6) ≠ -1) : Wd_ T (wt_ w a s x) := ⟨Wb_move h.1 ha hs h0 h1 he, by
  unfold wt_
  rw [pk_un (by omega), pk_un (by omega)]; exact h.2⟩
end
section
/-! the relation inside a transaction -/
def Sh_ (u : SX) (v : SY) : Prop := yg_accounts v = xg_accounts u ∧ yg_maxDepth v = xg_maxDepth u ∧ yg_price v = xg_price u ∧ yg_fees v = xg_feeSum u ∧ yg_minted v = xg_mintSum u ∧ yg_input v = xg_inputWord u ∧ yg_returnWord v = xg_lastWord u ∧ yg_frames v = xg_frameTotal u ∧ yg_logs v = xg_logTotal u ∧ yg_cells v = xg_cells u ∧ yg_length v = xg_lengths u ∧ yg_world v = xg_world u ∧ yg_logAccounts v = xg_logAccounts u ∧ yg_logWords v = xg_logWords u
def En_ (T A D : Nat) (u : SX) : Prop := (2 ≤ A ∧ A ≤ 8 ∧ xg_accounts u = nI A) ∧ (1 ≤ D ∧ D ≤ 8 ∧ xg_maxDepth u = nI D) ∧ (T % 8 ≤ 5 ∧ xg_price u = nI (T % 8) ∧ xg_mintSum u = nI (T / 64000000064)) ∧ ∀ p, p < 8 → ∃ l, l ≤ 32 ∧ xg_lengths u p = nI l
def LV_ (T : Nat) (u : SX) (v : SY) (j F : Nat) : Prop :=
  xg_frNumber u j = nI F ∧
  (∃ c, c < 8 ∧ xg_frCode u j = nI c) ∧ yg_rec v (F * 10 + 3) = xg_frCode u j ∧
  (∃ s, s < 8 ∧ xg_frSelf u j = nI s) ∧ yg_rec v (F * 10 + 2) = xg_frSelf u j ∧
  (∃ h, h ≤ 16 ∧ xg_frHeight u j = nI h ∧ ∀ i, i < h → yg_stack v (F * 16 + i) = xg_stack u (j * 16 + i)) ∧ yg_height v F = xg_frHeight u j ∧
  (∃ m, m ≤ 16 ∧ xg_frMemSize u j = nI m) ∧ yg_memorySize v F = xg_frMemSize u j ∧
  (∃ p, p ≤ 40 ∧ xg_frAt u j = nI p) ∧ yg_position v F = xg_frAt u j ∧
  (∃ g, g ≤ 2000 ∧ xg_frGas u j = nI g) ∧ yg_left v F = xg_frGas u j ∧
  (∃ e, e ≤ 16 ∧ xg_entryLogs u j = nI e) ∧ yg_entryLogs v F = xg_entryLogs u j ∧
  yg_rec v (F * 10) = xg_frKind u j ∧
  (xg_frStatic u j = 0 ∨ xg_frStatic u j = 1) ∧ yg_rec v (F * 10 + 4) = xg_frStatic u j ∧
  yg_rec v (F * 10 + 5) = 0 ∧ yg_rec v (F * 10 + 7) = 0 ∧
  yg_rec v (F * 10 + 8) = xg_frOwn u j ∧
  yg_callerOf v F = xg_frCaller u j ∧ yg_valueOf v F = xg_frValue u j ∧ yg_inputOf v F = xg_frInput u j ∧ yg_result v F = xg_frResult u j ∧
  (∀ i, i < 16 → yg_memory v (F * 16 + i) = xg_memory u (j * 16 + i)) ∧
  (∀ i, i < 48 → yg_entry v (F * 48 + i) = xg_entryWorld u (j * 48 + i)) ∧
  Wd_ T (fun i => xg_entryWorld u (j * 48 + i)) ∧
  (∀ k, k = 0 ∨ k = 1 ∨ k = 2 ∨ k = 3 ∨ k = 4 ∨ k = 6 → xg_records u (F * 10 + k) = yg_rec v (F * 10 + k))
def Ax_ (f : Nat) (u u' : SX) : Prop := ∀ j, j ≠ f →
  xg_frNumber u' j = xg_frNumber u j ∧ xg_frKind u' j = xg_frKind u j ∧ xg_frCode u' j = xg_frCode u j ∧ xg_frSelf u' j = xg_frSelf u j ∧ xg_frCaller u' j = xg_frCaller u j ∧ xg_frValue u' j = xg_frValue u j ∧ xg_frInput u' j = xg_frInput u j ∧ xg_frStatic u' j = xg_frStatic u j ∧ xg_frGas u' j = xg_frGas u j ∧ xg_frOwn u' j = xg_frOwn u j ∧ xg_frAt u' j = xg_frAt u j ∧ xg_frHeight u' j = xg_frHeight u j ∧ xg_frMemSize u' j = xg_frMemSize u j ∧ xg_frResult u' j = xg_frResult u j ∧ xg_entryLogs u' j = xg_entryLogs u j ∧
  (∀ i, i < 16 → xg_stack u' (j * 16 + i) = xg_stack u (j * 16 + i)) ∧ (∀ i, i < 16 → xg_memory u' (j * 16 + i) = xg_memory u (j * 16 + i)) ∧ (∀ i, i < 48 → xg_entryWorld u' (j * 48 + i) = xg_entryWorld u (j * 48 + i))
def Ay_ (F : Nat) (v v' : SY) : Prop := ∀ j, j ≠ F →
  (∀ k, k < 10 → yg_rec v' (j * 10 + k) = yg_rec v (j * 10 + k)) ∧ yg_entryLogs v' j = yg_entryLogs v j ∧ yg_left v' j = yg_left v j ∧ yg_height v' j = yg_height v j ∧ yg_memorySize v' j = yg_memorySize v j ∧ yg_position v' j = yg_position v j ∧ yg_result v' j = yg_result v j ∧ yg_callerOf v' j = yg_callerOf v j ∧ yg_valueOf v' j = yg_valueOf v j ∧ yg_inputOf v' j = yg_inputOf v j ∧
  (∀ i, i < 16 → yg_stack v' (j * 16 + i) = yg_stack v (j * 16 + i)) ∧ (∀ i, i < 16 → yg_memory v' (j * 16 + i) = yg_memory v (j * 16 + i)) ∧ (∀ i, i < 48 → yg_entry v' (j * 48 + i) = yg_entry v (j * 48 + i))
theorem LV_keep {T : Nat} {u u' : SX} {v v' : SY} {j E f F : Nat} (h : LV_ T u v j E) (hx : Ax_ f u u') (hy : Ay_ F v v') (jf : j ≠ f) (EF : E ≠ F) (hr : ∀ k, k < 10 → xg_records u' (E * 10 + k) = xg_records u (E * 10 + k)) : LV_ T u' v' j E := by
  obtain ⟨a1, a2, a3, a4, a5, a6, a7, a8, a9, a10, a11, a12, a13, a14, a15, a16, a17, a18, a19, a20, a21, a22, a23, a24, a25, a26, a27, a28, a29⟩ := h
  obtain ⟨c1, c2, c3, c4, c5, c6, c7, c8, c9, c10, c11, c12, c13, c14, c15, c16, c17, c18⟩ := hx j jf
  obtain ⟨d1, d2, d3, d4, d5, d6, d7, d8, d9, d10, d11, d12, d13⟩ := hy E EF
  unfold LV_
  rw [c1, c2, c3, c4, c5, c6, c7, c8, c9, c10, c11, c12, c13, c14, c15, d2, d3, d4, d5, d6, d7, d8, d9, d10, d1 3 (by decide), d1 2 (by decide), d1 4 (by decide), d1 5 (by decide), d1 7 (by decide), d1 8 (by decide)]
  refine ⟨a1, a2, a3, a4, a5, ?_, a7, a8, a9, a10, a11, a12, a13, a14, a15, ?_, a17, a18, a19, a20, a21, a22, a23, a24, a25, ?_, ?_, ?_, ?_⟩
  · obtain ⟨h, h16, e, hs⟩ := a6
    exact ⟨h, h16, e, fun i hi => by rw [d11 i (by omega), c16 i (by omega)]; exact hs i hi⟩
  · have := d1 0 (by decide)
    rw [Nat.add_zero] at this
    rw [this]; exact a16
  · intro i hi
    rw [d12 i hi, c17 i hi]; exact a26 i hi
  · intro i hi
    rw [d13 i hi, c18 i hi]; exact a27 i hi
  · exact Wd_ext a28 (fun i hi => c18 i hi)
  · intro k hk
    rw [hr k (by omega), d1 k (by omega)]; exact a29 k hk
def pr_ (q : Nat → Nat) (j : Nat) : Int32 := if j = 0 then -1 else nI (q (j - 1))
def Qr (G T A D M d N : Nat) (q : Nat → Nat) (u : SX) (v : SY) : Prop :=
  Sh_ u v ∧ En_ T A D u ∧ Wd_ T (xg_world u) ∧ (∃ L, L ≤ 16 ∧ xg_logTotal u = nI L) ∧
  (d ≤ D ∧ xg_active u = nI d) ∧ (N ≤ 32 ∧ xg_frameTotal u = nI N) ∧
  ((∀ i j, i < j → j < d → q i < q j) ∧ (∀ j, j < d → q j < N) ∧ (0 < d → q 0 = 0)) ∧
  (∀ j, j < d → LV_ T u v j (q j)) ∧
  (∀ j, j < d → yg_rec v (q j * 10 + 1) = pr_ q j) ∧
  (∀ E, E < N → (∀ j, j < d → q j ≠ E) → yg_rec v (E * 10 + 5) ≠ 0 ∧ ∀ k, k < 10 → xg_records u (E * 10 + k) = yg_rec v (E * 10 + k)) ∧
  (gs_ (xg_frGas u) d ≤ G ∧ gs_ (xg_frGas u) d + (32 - N) + d ≤ M ∧ G ≤ 2000) ∧
  (d = 0 → 0 < N → ∃ r, r ≤ G ∧ yg_rec v 7 = nI r)
/-- the top frame alone has changed -/
theorem Q_top {G G' T A D M M' f N : Nat} {q : Nat → Nat} {u u' : SX} {v v' : SY} (Q : Qr G T A D M (f + 1) N q u v) (hx : Ax_ f u u') (hy : Ay_ (q f) v v') (hS : Sh_ u' v') (hE : En_ T A D u') (hW : Wd_ T (xg_world u')) (hL : ∃ L, L ≤ 16 ∧ xg_logTotal u' = nI L)
    (ha : xg_active u' = xg_active u) (hN : xg_frameTotal u' = xg_frameTotal u) (hr : xg_records u' = xg_records u) (hl : LV_ T u' v' f (q f)) (hp : yg_rec v' (q f * 10 + 1) = yg_rec v (q f * 10 + 1))
    (hg : gs_ (xg_frGas u') f + (xg_frGas u' f).toNatClampNeg ≤ G' ∧ gs_ (xg_frGas u') f + (xg_frGas u' f).toNatClampNeg + (32 - N) + (f + 1) ≤ M' ∧ G' ≤ 2000) : Qr G' T A D M' (f + 1) N q u' v' := by
  obtain ⟨b1, b2, b3, b4, b5, b6, b7, b8, b9, b10, b11, b12⟩ := Q
  refine ⟨hS, hE, hW, hL, ⟨b5.1, ha.trans b5.2⟩, ⟨b6.1, hN.trans b6.2⟩, b7, ?_, ?_, ?_, hg, fun h => by omega⟩
  · intro j hj
    by_cases e : j = f
    · subst e; exact hl
    · have := b7.1 j f (by omega) (by omega)
      exact LV_keep (b8 j hj) hx hy e (by omega) (fun k _ => by rw [hr])
  · intro j hj
    by_cases e : j = f
    · subst e; exact hp.trans (b9 j hj)
    · have := b7.1 j f (by omega) (by omega)
      rw [(hy (q j) (by omega)).1 1 (by omega)]
      exact b9 j hj
  · intro E hE hn
    have ne : E ≠ q f := fun e => hn f (by omega) e.symm
    obtain ⟨h5, hk⟩ := b10 E hE hn
    refine ⟨?_, fun k k10 => ?_⟩
    · rw [(hy E ne).1 5 (by omega)]; exact h5
    · rw [(hy E ne).1 k k10, hr]; exact hk k k10
end
section
/-! the small steps of a frame keep the relation -/
theorem LV_stk {T : Nat} {u : SX} {v : SY} {j F h : Nat} (hl : LV_ T u v j F) (hh : xg_frHeight u j = nI h) (h16 : h ≤ 16) : ∀ i, i < h → yg_stack v (F * 16 + i) = xg_stack u (j * 16 + i) := by
  obtain ⟨a1, a2, a3, a4, a5, a6, a7, a8, a9, a10, a11, a12, a13, a14, a15, a16, a17, a18, a19, a20, a21, a22, a23, a24, a25, a26, a27, a28, a29⟩ := hl
  obtain ⟨h', h'16, e, hs⟩ := a6
  have : h' = h := (nI_eq (by omega) (by omega)).mp (e.symm.trans hh)
  subst this
  exact hs
section
variable {G T A D M f N : Nat} {q : Nat → Nat} {u : SX} {v : SY}
theorem Q_lv (Q : Qr G T A D M (f + 1) N q u v) : LV_ T u v f (q f) := Q.2.2.2.2.2.2.2.1 f (by omega)
theorem Q_gs (Q : Qr G T A D M (f + 1) N q u v) : gs_ (xg_frGas u) f + (xg_frGas u f).toNatClampNeg ≤ G ∧ gs_ (xg_frGas u) f + (xg_frGas u f).toNatClampNeg + (32 - N) + (f + 1) ≤ M ∧ G ≤ 2000 := Q.2.2.2.2.2.2.2.2.2.2.1
theorem Q_hgt (Q : Qr G T A D M (f + 1) N q u v) {h k : Nat} (hh : xg_frHeight u f = nI h) (h16 : h ≤ 16) (hk : k ≤ h) : Qr G T A D M (f + 1) N q (xu_hgt f k u) (yu_hgt (q f) k v) := by
  have hs := LV_stk (Q_lv Q) hh h16
  have hgs := Q_gs Q
  obtain ⟨a1, a2, a3, a4, a5, a6, a7, a8, a9, a10, a11, a12, a13, a14, a15, a16, a17, a18, a19, a20, a21, a22, a23, a24, a25, a26, a27, a28, a29⟩ := Q_lv Q
  exact Q_top Q (fun j hj => ⟨rfl, rfl, rfl, rfl, rfl, rfl, rfl, rfl, rfl, rfl, rfl, pk_un hj, rfl, rfl, rfl, fun _ _ => rfl, fun _ _ => rfl, fun _ _ => rfl⟩) (fun j hj => ⟨fun _ _ => rfl, rfl, rfl, pk_un hj, rfl, rfl, rfl, rfl, rfl, rfl, fun _ _ => rfl, fun _ _ => rfl, fun _ _ => rfl⟩) Q.1 Q.2.1 Q.2.2.1 Q.2.2.2.1 rfl rfl rfl ⟨a1, a2, a3, a4, a5, ⟨k, by omega, pk_us, fun i hi => hs i (by omega)⟩, pk_us.trans pk_us.symm, a8, a9, a10, a11, a12, a13, a14, a15, a16, a17, a18, a19, a20, a21, a22, a23, a24, a25, a26, a27, a28, a29⟩ rfl hgs
theorem Q_push (Q : Qr G T A D M (f + 1) N q u v) {h : Nat} (w : Int32) (hh : xg_frHeight u f = nI h) (h16 : h < 16) : Qr G T A D M (f + 1) N q (xu_push f w h u) (yu_push (q f) w h v) := by
  have hs := LV_stk (Q_lv Q) hh (by omega)
  have hgs := Q_gs Q
  obtain ⟨a1, a2, a3, a4, a5, a6, a7, a8, a9, a10, a11, a12, a13, a14, a15, a16, a17, a18, a19, a20, a21, a22, a23, a24, a25, a26, a27, a28, a29⟩ := Q_lv Q
  refine Q_top Q (fun j hj => ⟨rfl, rfl, rfl, rfl, rfl, rfl, rfl, rfl, rfl, rfl, rfl, pk_un hj, rfl, rfl, rfl, fun i hi => pk_un (by omega), fun _ _ => rfl, fun _ _ => rfl⟩) (fun j hj => ⟨fun _ _ => rfl, rfl, rfl, pk_un hj, rfl, rfl, rfl, rfl, rfl, rfl, fun i hi => pk_un (by omega), fun _ _ => rfl, fun _ _ => rfl⟩) Q.1 Q.2.1 Q.2.2.1 Q.2.2.2.1 rfl rfl rfl ⟨a1, a2, a3, a4, a5, ⟨h + 1, by omega, pk_us, fun i hi => ?_⟩, pk_us.trans pk_us.symm, a8, a9, a10, a11, a12, a13, a14, a15, a16, a17, a18, a19, a20, a21, a22, a23, a24, a25, a26, a27, a28, a29⟩ rfl hgs
  show upd (yg_stack v) (q f * 16 + h) w (q f * 16 + i) = upd (xg_stack u) (f * 16 + h) w (f * 16 + i)
  by_cases e : i = h
  · subst e; rw [pk_us, pk_us]
  · rw [pk_un (by omega), pk_un (by omega)]
    exact hs i (by omega)
def xu_hdr (f g p : Nat) (x : Int32) (u : SX) : SX := xm_frGas_frOwn_frAt (upd (xg_frGas u) f (nI g)) (upd (xg_frOwn u) f (xg_frOwn u f + x)) (upd (xg_frAt u) f (nI p)) u
def yu_hdr (F g p : Nat) (x : Int32) (v : SY) : SY := (v.1, v.2.1, v.2.2.1, v.2.2.2.1, v.2.2.2.2.1, v.2.2.2.2.2.1, v.2.2.2.2.2.2.1, v.2.2.2.2.2.2.2.1, v.2.2.2.2.2.2.2.2.1, v.2.2.2.2.2.2.2.2.2.1, v.2.2.2.2.2.2.2.2.2.2.1, v.2.2.2.2.2.2.2.2.2.2.2.1, v.2.2.2.2.2.2.2.2.2.2.2.2.1, v.2.2.2.2.2.2.2.2.2.2.2.2.2.1, v.2.2.2.2.2.2.2.2.2.2.2.2.2.2.1, upd (yg_rec v) (F * 10 + 8) (yg_rec v (F * 10 + 8) + x), v.2.2.2.2.2.2.2.2.2.2.2.2.2.2.2.2.1, v.2.2.2.2.2.2.2.2.2.2.2.2.2.2.2.2.2.1, upd (yg_left v) F (nI g), v.2.2.2.2.2.2.2.2.2.2.2.2.2.2.2.2.2.2.2.1, v.2.2.2.2.2.2.2.2.2.2.2.2.2.2.2.2.2.2.2.2.1, v.2.2.2.2.2.2.2.2.2.2.2.2.2.2.2.2.2.2.2.2.2.1, v.2.2.2.2.2.2.2.2.2.2.2.2.2.2.2.2.2.2.2.2.2.2.1, upd (yg_position v) F (nI p), v.2.2.2.2.2.2.2.2.2.2.2.2.2.2.2.2.2.2.2.2.2.2.2.2.1, v.2.2.2.2.2.2.2.2.2.2.2.2.2.2.2.2.2.2.2.2.2.2.2.2.2.1, v.2.2.2.2.2.2.2.2.2.2.2.2.2.2.2.2.2.2.2.2.2.2.2.2.2.2.1, v.2.2.2.2.2.2.2.2.2.2.2.2.2.2.2.2.2.2.2.2.2.2.2.2.2.2.2)
theorem Q_hdr (Q : Qr G T A D M (f + 1) N q u v) {g g' c p : Nat} (x : Int32) (hg : xg_frGas u f = nI g) (hc : g' + c = g) (g2 : g ≤ 2000) (hp : p ≤ 40) : Qr G T A D (M - c) (f + 1) N q (xu_hdr f g' p x u) (yu_hdr (q f) g' p x v) := by
  have hgs := Q_gs Q
  obtain ⟨a1, a2, a3, a4, a5, a6, a7, a8, a9, a10, a11, a12, a13, a14, a15, a16, a17, a18, a19, a20, a21, a22, a23, a24, a25, a26, a27, a28, a29⟩ := Q_lv Q
  have r : ∀ k, k ≠ 8 → k < 10 → upd (yg_rec v) (q f * 10 + 8) (yg_rec v (q f * 10 + 8) + x) (q f * 10 + k) = yg_rec v (q f * 10 + k) := fun k hk _ => pk_un (by omega)
  refine Q_top Q (fun j hj => ⟨rfl, rfl, rfl, rfl, rfl, rfl, rfl, rfl, pk_un hj, pk_un hj, pk_un hj, rfl, rfl, rfl, rfl, fun _ _ => rfl, fun _ _ => rfl, fun _ _ => rfl⟩) (fun j hj => ⟨fun k hk => pk_un (by omega), rfl, pk_un hj, rfl, rfl, pk_un hj, rfl, rfl, rfl, rfl, fun _ _ => rfl, fun _ _ => rfl, fun _ _ => rfl⟩) Q.1 Q.2.1 Q.2.2.1 Q.2.2.2.1 rfl rfl rfl ⟨a1, a2, (r 3 (by decide) (by decide)).trans a3, a4, (r 2 (by decide) (by decide)).trans a5, a6, a7, a8, a9, ⟨p, hp, pk_us⟩, pk_us.trans pk_us.symm, ⟨g', by omega, pk_us⟩, pk_us.trans pk_us.symm, a14, a15, (r 0 (by decide) (by decide)).trans a16, a17, (r 4 (by decide) (by decide)).trans a18, (r 5 (by decide) (by decide)).trans a19, (r 7 (by decide) (by decide)).trans a20, ?_, a22, a23, a24, a25, a26, a27, a28, fun k hk => (a29 k hk).trans (r k (by omega) (by omega)).symm⟩ (r 1 (by decide) (by decide)) ?_
  · show upd (yg_rec v) (q f * 10 + 8) (yg_rec v (q f * 10 + 8) + x) (q f * 10 + 8) = upd (xg_frOwn u) f (xg_frOwn u f + x) f
    rw [pk_us, pk_us, a21]
  · show gs_ (upd (xg_frGas u) f (nI g')) f + (upd (xg_frGas u) f (nI g') f).toNatClampNeg ≤ G ∧ gs_ (upd (xg_frGas u) f (nI g')) f + (upd (xg_frGas u) f (nI g') f).toNatClampNeg + (32 - N) + (f + 1) ≤ M - c ∧ G ≤ 2000
    rw [gs_upd (Nat.le_refl _), pk_us, nI_clamp (by omega)]
    rw [hg, nI_clamp (by omega)] at hgs
    omega
theorem Q_gas (Q : Qr G T A D M (f + 1) N q u v) {g g' G' M' : Nat} (hg : xg_frGas u f = nI g) (g2 : g ≤ 2000) (g3 : g' ≤ 2000) (hG : G + g' ≤ G' + g) (hM : M + g' ≤ M' + g) (hG2 : G' ≤ 2000) : Qr G' T A D M' (f + 1) N q (xs_frGas (upd (xg_frGas u) f (nI g')) u) (ys_left (upd (yg_left v) (q f) (nI g')) v) := by
  have hgs := Q_gs Q
  obtain ⟨a1, a2, a3, a4, a5, a6, a7, a8, a9, a10, a11, a12, a13, a14, a15, a16, a17, a18, a19, a20, a21, a22, a23, a24, a25, a26, a27, a28, a29⟩ := Q_lv Q
  refine Q_top Q (fun j hj => ⟨rfl, rfl, rfl, rfl, rfl, rfl, rfl, rfl, pk_un hj, rfl, rfl, rfl, rfl, rfl, rfl, fun _ _ => rfl, fun _ _ => rfl, fun _ _ => rfl⟩) (fun j hj => ⟨fun _ _ => rfl, rfl, pk_un hj, rfl, rfl, rfl, rfl, rfl, rfl, rfl, fun _ _ => rfl, fun _ _ => rfl, fun _ _ => rfl⟩) Q.1 Q.2.1 Q.2.2.1 Q.2.2.2.1 rfl rfl rfl ⟨a1, a2, a3, a4, a5, a6, a7, a8, a9, a10, a11, ⟨g', by omega, pk_us⟩, pk_us.trans pk_us.symm, a14, a15, a16, a17, a18, a19, a20, a21, a22, a23, a24, a25, a26, a27, a28, a29⟩ rfl ?_
  show gs_ (upd (xg_frGas u) f (nI g')) f + (upd (xg_frGas u) f (nI g') f).toNatClampNeg ≤ G' ∧ gs_ (upd (xg_frGas u) f (nI g')) f + (upd (xg_frGas u) f (nI g') f).toNatClampNeg + (32 - N) + (f + 1) ≤ M' ∧ G' ≤ 2000
  rw [gs_upd (Nat.le_refl _), pk_us, nI_clamp (by omega)]
  rw [hg, nI_clamp (by omega)] at hgs
  omega
theorem Q_at (Q : Qr G T A D M (f + 1) N q u v) {p : Nat} (hp : p ≤ 40) : Qr G T A D M (f + 1) N q (xs_frAt (upd (xg_frAt u) f (nI p)) u) (ys_position (upd (yg_position v) (q f) (nI p)) v) := by
  have hgs := Q_gs Q
  obtain ⟨a1, a2, a3, a4, a5, a6, a7, a8, a9, a10, a11, a12, a13, a14, a15, a16, a17, a18, a19, a20, a21, a22, a23, a24, a25, a26, a27, a28, a29⟩ := Q_lv Q
  exact Q_top Q (fun j hj => ⟨rfl, rfl, rfl, rfl, rfl, rfl, rfl, rfl, rfl, rfl, pk_un hj, rfl, rfl, rfl, rfl, fun _ _ => rfl, fun _ _ => rfl, fun _ _ => rfl⟩) (fun j hj => ⟨fun _ _ => rfl, rfl, rfl, rfl, rfl, pk_un hj, rfl, rfl, rfl, rfl, fun _ _ => rfl, fun _ _ => rfl, fun _ _ => rfl⟩) Q.1 Q.2.1 Q.2.2.1 Q.2.2.2.1 rfl rfl rfl ⟨a1, a2, a3, a4, a5, a6, a7, a8, a9, ⟨p, hp, pk_us⟩, pk_us.trans pk_us.symm, a12, a13, a14, a15, a16, a17, a18, a19, a20, a21, a22, a23, a24, a25, a26, a27, a28, a29⟩ rfl hgs
theorem Q_msz (Q : Qr G T A D M (f + 1) N q u v) {m : Nat} (hm : m ≤ 16) : Qr G T A D M (f + 1) N q (xs_frMemSize (upd (xg_frMemSize u) f (nI m)) u) (ys_memorySize (upd (yg_memorySize v) (q f) (nI m)) v) := by
  have hgs := Q_gs Q
  obtain ⟨a1, a2, a3, a4, a5, a6, a7, a8, a9, a10, a11, a12, a13, a14, a15, a16, a17, a18, a19, a20, a21, a22, a23, a24, a25, a26, a27, a28, a29⟩ := Q_lv Q
  exact Q_top Q (fun j hj => ⟨rfl, rfl, rfl, rfl, rfl, rfl, rfl, rfl, rfl, rfl, rfl, rfl, pk_un hj, rfl, rfl, fun _ _ => rfl, fun _ _ => rfl, fun _ _ => rfl⟩) (fun j hj => ⟨fun _ _ => rfl, rfl, rfl, rfl, pk_un hj, rfl, rfl, rfl, rfl, rfl, fun _ _ => rfl, fun _ _ => rfl, fun _ _ => rfl⟩) Q.1 Q.2.1 Q.2.2.1 Q.2.2.2.1 rfl rfl rfl ⟨a1, a2, a3, a4, a5, a6, a7, ⟨m, hm, pk_us⟩, pk_us.trans pk_us.symm, a10, a11, a12, a13, a14, a15, a16, a17, a18, a19, a20, a21, a22, a23, a24, a25, a26, a27, a28, a29⟩ rfl hgs
theorem Q_res (Q : Qr G T A D M (f + 1) N q u v) (x : Int32) : Qr G T A D M (f + 1) N q (xs_frResult (upd (xg_frResult u) f x) u) (ys_result (upd (yg_result v) (q f) x) v) := by
  have hgs := Q_gs Q
  obtain ⟨a1, a2, a3, a4, a5, a6, a7, a8, a9, a10, a11, a12, a13, a14, a15, a16, a17, a18, a19, a20, a21, a22, a23, a24, a25, a26, a27, a28, a29⟩ := Q_lv Q
  exact Q_top Q (fun j hj => ⟨rfl, rfl, rfl, rfl, rfl, rfl, rfl, rfl, rfl, rfl, rfl, rfl, rfl, pk_un hj, rfl, fun _ _ => rfl, fun _ _ => rfl, fun _ _ => rfl⟩) (fun j hj => ⟨fun _ _ => rfl, rfl, rfl, rfl, rfl, rfl, pk_un hj, rfl, rfl, rfl, fun _ _ => rfl, fun _ _ => rfl, fun _ _ => rfl⟩) Q.1 Q.2.1 Q.2.2.1 Q.2.2.2.1 rfl rfl rfl ⟨a1, a2, a3, a4, a5, a6, a7, a8, a9, a10, a11, a12, a13, a14, a15, a16, a17, a18, a19, a20, a21, a22, a23, a24, pk_us.trans pk_us.symm, a26, a27, a28, a29⟩ rfl hgs
theorem Q_mem (Q : Qr G T A D M (f + 1) N q u v) {o : Nat} (ho : o < 16) (x : Int32) : Qr G T A D M (f + 1) N q (xs_memory (upd (xg_memory u) (f * 16 + o) x) u) (ys_memory (upd (yg_memory v) (q f * 16 + o) x) v) := by
  have hgs := Q_gs Q
  obtain ⟨a1, a2, a3, a4, a5, a6, a7, a8, a9, a10, a11, a12, a13, a14, a15, a16, a17, a18, a19, a20, a21, a22, a23, a24, a25, a26, a27, a28, a29⟩ := Q_lv Q
  refine Q_top Q (fun j hj => ⟨rfl, rfl, rfl, rfl, rfl, rfl, rfl, rfl, rfl, rfl, rfl, rfl, rfl, rfl, rfl, fun _ _ => rfl, fun i hi => pk_un (by omega), fun _ _ => rfl⟩) (fun j hj => ⟨fun _ _ => rfl, rfl, rfl, rfl, rfl, rfl, rfl, rfl, rfl, rfl, fun _ _ => rfl, fun i hi => pk_un (by omega), fun _ _ => rfl⟩) Q.1 Q.2.1 Q.2.2.1 Q.2.2.2.1 rfl rfl rfl ⟨a1, a2, a3, a4, a5, a6, a7, a8, a9, a10, a11, a12, a13, a14, a15, a16, a17, a18, a19, a20, a21, a22, a23, a24, a25, fun i hi => ?_, a27, a28, a29⟩ rfl hgs
  show upd (yg_memory v) (q f * 16 + o) x (q f * 16 + i) = upd (xg_memory u) (f * 16 + o) x (f * 16 + i)
  by_cases e : i = o
  · subst e; rw [pk_us, pk_us]
  · rw [pk_un (by omega), pk_un (by omega)]
    exact a26 i hi
theorem Q_world (Q : Qr G T A D M (f + 1) N q u v) {W : Nat → Int32} (hW : Wd_ T W) : Qr G T A D M (f + 1) N q (xs_world W u) (ys_world W v) := by
  have hgs := Q_gs Q
  obtain ⟨a1, a2, a3, a4, a5, a6, a7, a8, a9, a10, a11, a12, a13, a14, a15, a16, a17, a18, a19, a20, a21, a22, a23, a24, a25, a26, a27, a28, a29⟩ := Q_lv Q
  obtain ⟨s1, s2, s3, s4, s5, s6, s7, s8, s9, s10, s11, s12, s13, s14⟩ := Q.1
  exact Q_top Q (fun j hj => ⟨rfl, rfl, rfl, rfl, rfl, rfl, rfl, rfl, rfl, rfl, rfl, rfl, rfl, rfl, rfl, fun _ _ => rfl, fun _ _ => rfl, fun _ _ => rfl⟩) (fun j hj => ⟨fun _ _ => rfl, rfl, rfl, rfl, rfl, rfl, rfl, rfl, rfl, rfl, fun _ _ => rfl, fun _ _ => rfl, fun _ _ => rfl⟩) ⟨s1, s2, s3, s4, s5, s6, s7, s8, s9, s10, s11, rfl, s13, s14⟩ Q.2.1 hW Q.2.2.2.1 rfl rfl rfl ⟨a1, a2, a3, a4, a5, a6, a7, a8, a9, a10, a11, a12, a13, a14, a15, a16, a17, a18, a19, a20, a21, a22, a23, a24, a25, a26, a27, a28, a29⟩ rfl hgs
theorem Q_log (Q : Qr G T A D M (f + 1) N q u v) {L : Nat} {la lw : Nat → Int32} (hL : L ≤ 16) : Qr G T A D M (f + 1) N q (xm_logTotal_logAccounts_logWords (nI L) la lw u) (ym_logs_logAccounts_logWords (nI L) la lw v) := by
  have hgs := Q_gs Q
  obtain ⟨a1, a2, a3, a4, a5, a6, a7, a8, a9, a10, a11, a12, a13, a14, a15, a16, a17, a18, a19, a20, a21, a22, a23, a24, a25, a26, a27, a28, a29⟩ := Q_lv Q
  obtain ⟨s1, s2, s3, s4, s5, s6, s7, s8, s9, s10, s11, s12, s13, s14⟩ := Q.1
  exact Q_top Q (fun j hj => ⟨rfl, rfl, rfl, rfl, rfl, rfl, rfl, rfl, rfl, rfl, rfl, rfl, rfl, rfl, rfl, fun _ _ => rfl, fun _ _ => rfl, fun _ _ => rfl⟩) (fun j hj => ⟨fun _ _ => rfl, rfl, rfl, rfl, rfl, rfl, rfl, rfl, rfl, rfl, fun _ _ => rfl, fun _ _ => rfl, fun _ _ => rfl⟩) ⟨s1, s2, s3, s4, s5, s6, s7, s8, rfl, s10, s11, s12, rfl, rfl⟩ Q.2.1 Q.2.2.1 ⟨L, hL, rfl⟩ rfl rfl rfl ⟨a1, a2, a3, a4, a5, a6, a7, a8, a9, a10, a11, a12, a13, a14, a15, a16, a17, a18, a19, a20, a21, a22, a23, a24, a25, a26, a27, a28, a29⟩ rfl hgs
end
end
section
theorem yq_height_left (z : Nat → Int32) (u : SY) : yg_height (ys_left z u) = yg_height u := id rfl
theorem yq_height_result (z : Nat → Int32) (u : SY) : yg_height (ys_result z u) = yg_height u := id rfl
/-! the end of the running frame, both sides -/
theorem cp_ext {dst s1 s2 : Nat → Int32} {b n : Nat} (h : ∀ i, i < n → s1 i = s2 i) : cp_ dst s1 b n = cp_ dst s2 b n := by
  funext i
  unfold cp_
  by_cases z : b ≤ i ∧ i < b + n
  · rw [if_pos z, if_pos z, h (i - b) (by omega)]
  · rw [if_neg z, if_neg z]
theorem rc_off {R : Nat → Int32} {F E k : Nat} {o r x c : Int32} (h : E ≠ F) (hk : k < 10) : rc_ R F o r x c (E * 10 + k) = R (E * 10 + k) := by
  unfold rc_
  rw [pk_un (by omega), pk_un (by omega), pk_un (by omega), pk_un (by omega)]
theorem rc_k {R : Nat → Int32} {F k : Nat} {o r x c : Int32} (h : k = 0 ∨ k = 1 ∨ k = 2 ∨ k = 3 ∨ k = 4 ∨ k = 6) : rc_ R F o r x c (F * 10 + k) = R (F * 10 + k) := by
  unfold rc_
  rw [pk_un (by omega), pk_un (by omega), pk_un (by omega), pk_un (by omega)]
theorem rc_5 {R : Nat → Int32} {F : Nat} {o r x c : Int32} : rc_ R F o r x c (F * 10 + 5) = o := by
  unfold rc_
  rw [pk_un (by omega), pk_un (by omega), pk_un (by omega), pk_us]
theorem rc_7 {R : Nat → Int32} {F : Nat} {o r x c : Int32} : rc_ R F o r x c (F * 10 + 7) = r := by
  unfold rc_
  rw [pk_un (by omega), pk_un (by omega), pk_us]
theorem rc_8 {R : Nat → Int32} {F : Nat} {o r x c : Int32} : rc_ R F o r x c (F * 10 + 8) = x := by
  unfold rc_
  rw [pk_un (by omega), pk_us]
theorem rc_9 {R : Nat → Int32} {F : Nat} {o r x c : Int32} : rc_ R F o r x c (F * 10 + 9) = c := by
  unfold rc_
  rw [pk_us]
theorem yR_off {R : Nat → Int32} {F E k : Nat} {c o : Int32} (h : E ≠ F) (hk : k < 10) : yd_R R F c o (E * 10 + k) = R (E * 10 + k) := by
  unfold yd_R
  rw [pk_un (by omega), pk_un (by omega)]
theorem yR_k {R : Nat → Int32} {F k : Nat} {c o : Int32} (h5 : k ≠ 5) (h9 : k ≠ 9) : yd_R R F c o (F * 10 + k) = R (F * 10 + k) := by
  unfold yd_R
  rw [pk_un (by omega), pk_un (by omega)]
theorem yR_5 {R : Nat → Int32} {F : Nat} {c o : Int32} : yd_R R F c o (F * 10 + 5) = o := pk_us
theorem yR_9 {R : Nat → Int32} {F : Nat} {c o : Int32} : yd_R R F c o (F * 10 + 9) = c := by
  unfold yd_R
  rw [pk_un (by omega), pk_us]
section
variable {G T A D M f N : Nat} {q : Nat → Nat} {u : SX} {v : SY}
theorem Q_close (Q : Qr G T A D M (f + 1) N q u v) {G' M' r L : Nat} {O W R R' : Nat → Int32} (hO : ∀ j, j ≠ f → O j = xg_frOwn u j) (hW : Wd_ T W) (hL : L ≤ 16)
    (hR : ∀ E, E ≠ q f → ∀ k, k < 10 → R (E * 10 + k) = xg_records u (E * 10 + k)) (hR' : ∀ E, E ≠ q f → ∀ k, k < 10 → R' (E * 10 + k) = yg_rec v (E * 10 + k))
    (hRR : ∀ k, k < 10 → R (q f * 10 + k) = R' (q f * 10 + k)) (h5 : R' (q f * 10 + 5) ≠ 0) (h7 : R' (q f * 10 + 7) = nI r)
    (hG : gs_ (xg_frGas u) f ≤ G') (hM : gs_ (xg_frGas u) f + (32 - N) + f ≤ M') (hG2 : G' ≤ 2000) (hr : f = 0 → r ≤ G') :
    Qr G' T A D M' f N q (xu_end O W R (nI L) f u) (yu_end W R' (nI L) v) := by
  obtain ⟨b1, b2, b3, b4, b5, b6, b7, b8, b9, b10, b11, b12⟩ := Q
  have hx : Ax_ f u (xu_end O W R (nI L) f u) := (fun j hj => ⟨rfl, rfl, rfl, rfl, rfl, rfl, rfl, rfl, rfl, hO j hj, rfl, rfl, rfl, rfl, rfl, fun _ _ => rfl, fun _ _ => rfl, fun _ _ => rfl⟩)
  have hy : Ay_ (q f) v (yu_end W R' (nI L) v) := (fun j hj => ⟨hR' j hj, rfl, rfl, rfl, rfl, rfl, rfl, rfl, rfl, rfl, fun _ _ => rfl, fun _ _ => rfl, fun _ _ => rfl⟩)
  obtain ⟨s1, s2, s3, s4, s5, s6, s7, s8, s9, s10, s11, s12, s13, s14⟩ := b1
  refine ⟨⟨s1, s2, s3, s4, s5, s6, s7, s8, rfl, s10, s11, rfl, s13, s14⟩, b2, hW, ⟨L, hL, rfl⟩, ⟨by omega, rfl⟩, b6, ⟨fun i j hi hj => b7.1 i j hi (by omega), fun j hj => b7.2.1 j (by omega), fun _ => b7.2.2 (by omega)⟩, ?_, ?_, ?_, ⟨hG, hM, hG2⟩, ?_⟩
  · intro j hj
    have := b7.1 j f (by omega) (by omega)
    exact LV_keep (b8 j (by omega)) hx hy (by omega) (by omega) (fun k hk => hR (q j) (by omega) k hk)
  · intro j hj
    have := b7.1 j f (by omega) (by omega)
    exact (hR' (q j) (by omega) 1 (by omega)).trans (b9 j (by omega))
  · intro E hE hn
    by_cases e : E = q f
    · subst e
      exact ⟨h5, hRR⟩
    · obtain ⟨h5', hk⟩ := b10 E hE (fun j hj => by
        by_cases z : j = f
        · subst z; exact fun h => e h.symm
        · exact hn j (by omega))
      refine ⟨?_, fun k k10 => ?_⟩
      · show R' (E * 10 + 5) ≠ 0
        rw [hR' E e 5 (by omega)]; exact h5'
      · show R (E * 10 + k) = R' (E * 10 + k)
        rw [hR E e k k10, hR' E e k k10]; exact hk k k10
  · intro f0 _
    subst f0
    have q0 := b7.2.2 (by omega)
    rw [q0] at h7
    exact ⟨r, hr rfl, h7⟩
theorem Q_gasres (Q : Qr G T A D M (f + 1) N q u v) {g g' G' M' : Nat} (x : Int32) (hg : xg_frGas u f = nI g) (g2 : g ≤ 2000) (g3 : g' ≤ 2000) (hG : G + g' ≤ G' + g) (hM : M + g' ≤ M' + g) (hG2 : G' ≤ 2000) : Qr G' T A D M' (f + 1) N q (xm_frGas_frResult (upd (xg_frGas u) f (nI g')) (upd (xg_frResult u) f x) u) (ys_result (upd (yg_result v) (q f) x) (ys_left (upd (yg_left v) (q f) (nI g')) v)) := by
  have hgs := Q_gs Q
  obtain ⟨a1, a2, a3, a4, a5, a6, a7, a8, a9, a10, a11, a12, a13, a14, a15, a16, a17, a18, a19, a20, a21, a22, a23, a24, a25, a26, a27, a28, a29⟩ := Q_lv Q
  refine Q_top Q (fun j hj => ⟨rfl, rfl, rfl, rfl, rfl, rfl, rfl, rfl, pk_un hj, rfl, rfl, rfl, rfl, pk_un hj, rfl, fun _ _ => rfl, fun _ _ => rfl, fun _ _ => rfl⟩) (fun j hj => ⟨fun _ _ => rfl, rfl, pk_un hj, rfl, rfl, rfl, pk_un hj, rfl, rfl, rfl, fun _ _ => rfl, fun _ _ => rfl, fun _ _ => rfl⟩) Q.1 Q.2.1 Q.2.2.1 Q.2.2.2.1 rfl rfl rfl ⟨a1, a2, a3, a4, a5, a6, a7, a8, a9, a10, a11, ⟨g', by omega, pk_us⟩, pk_us.trans pk_us.symm, a14, a15, a16, a17, a18, a19, a20, a21, a22, a23, a24, pk_us.trans pk_us.symm, a26, a27, a28, a29⟩ rfl ?_
  show gs_ (upd (xg_frGas u) f (nI g')) f + (upd (xg_frGas u) f (nI g') f).toNatClampNeg ≤ G' ∧ gs_ (upd (xg_frGas u) f (nI g')) f + (upd (xg_frGas u) f (nI g') f).toNatClampNeg + (32 - N) + (f + 1) ≤ M' ∧ G' ≤ 2000
  rw [gs_upd (Nat.le_refl _), pk_us, nI_clamp (by omega)]
  rw [hg, nI_clamp (by omega)] at hgs
  omega
theorem hx_1 {O W R : Nat → Int32} {L : Int32} : xg_frHeight (xu_end O W R L f u) = xg_frHeight u := id rfl
theorem hx_2 {a b : Nat → Int32} : xg_frHeight (xm_frGas_frResult a b u) = xg_frHeight u := id rfl
theorem hx_k {O W R : Nat → Int32} {L : Int32} : xg_frKind (xu_end O W R L f u) = xg_frKind u := id rfl
theorem hx_s {O W R : Nat → Int32} {L : Int32} : xg_frSelf (xu_end O W R L f u) = xg_frSelf u := id rfl
theorem hx_g {O W R : Nat → Int32} {L : Int32} : xg_frGas (xu_end O W R L f u) = xg_frGas u := id rfl
theorem hy_1 {W R : Nat → Int32} {L : Int32} : yg_height (yu_end W R L v) = yg_height v := id rfl
theorem hy_2 {W R : Nat → Int32} {L : Int32} : yg_left (yu_end W R L v) = yg_left v := id rfl
theorem hy_3 {W R : Nat → Int32} {L : Int32} : yg_result (yu_end W R L v) = yg_result v := id rfl
theorem Q_last {d : Nat} (Q : Qr G T A D M d N q u v) (w : Int32) : Qr G T A D M d N q (xs_lastWord w u) (ys_returnWord w v) := by
  obtain ⟨⟨s1, s2, s3, s4, s5, s6, s7, s8, s9, s10, s11, s12, s13, s14⟩, Q2⟩ := Q
  exact ⟨⟨s1, s2, s3, s4, s5, s6, rfl, s8, s9, s10, s11, s12, s13, s14⟩, Q2⟩
/-- what an outcome makes of world, logs, gas: one choice for both sides -/
theorem end_pick (Q : Qr G T A D M (f + 1) N q u v) (out : Int32) : ∃ (W O R : Nat → Int32) (L r g : Nat),
    ab_case out (xg_world u) (cp_ (xg_world u) (fun i => xg_entryWorld u (f * 48 + i)) 0 48) (xg_frOwn u) (upd (xg_frOwn u) f (xg_frOwn u f + xg_frGas u f)) (xg_logTotal u) (xg_entryLogs u f) (xg_frGas u f) W O (nI L) (nI r) ∧
    yb_case out (yg_world v) (cp_ (yg_world v) (fun i => yg_entry v (q f * 48 + i)) 0 48) (upd (yg_rec v) (q f * 10 + 7) (yg_left v (q f))) (upd (yg_rec v) (q f * 10 + 8) (yg_rec v (q f * 10 + 8) + yg_left v (q f))) (yg_logs v) (yg_entryLogs v (q f)) W R (nI L) ∧
    Wd_ T W ∧ L ≤ 16 ∧ r ≤ g ∧ g ≤ 2000 ∧ xg_frGas u f = nI g ∧ (∀ j, j ≠ f → O j = xg_frOwn u j) ∧ R (q f * 10 + 7) = nI r ∧ R (q f * 10 + 8) = O f ∧ (∀ k, k ≠ 7 → k ≠ 8 → k < 10 → R (q f * 10 + k) = yg_rec v (q f * 10 + k)) ∧ (∀ E, E ≠ q f → ∀ k, k < 10 → R (E * 10 + k) = yg_rec v (E * 10 + k)) := by
  obtain ⟨s1, s2, s3, s4, s5, s6, s7, s8, s9, s10, s11, s12, s13, s14⟩ := Q.1
  obtain ⟨L, hL, eL⟩ := Q.2.2.2.1
  have hW := Q.2.2.1
  obtain ⟨a1, a2, a3, a4, a5, a6, a7, a8, a9, a10, a11, a12, a13, a14, a15, a16, a17, a18, a19, a20, a21, a22, a23, a24, a25, a26, a27, a28, a29⟩ := Q_lv Q
  obtain ⟨g, g2, eg⟩ := a12
  obtain ⟨e, e16, ee⟩ := a14
  have hcp : cp_ (yg_world v) (fun i => yg_entry v (q f * 48 + i)) 0 48 = cp_ (xg_world u) (fun i => xg_entryWorld u (f * 48 + i)) 0 48 := by
    rw [s12]
    exact cp_ext (fun i hi => a27 i hi)
  have hW2 : Wd_ T (cp_ (xg_world u) (fun i => xg_entryWorld u (f * 48 + i)) 0 48) := Wd_ext a28 (fun i hi => by
    have := cp_in (dst := xg_world u) (src := fun i => xg_entryWorld u (f * 48 + i)) (b := 0) (n := 48) (i := i) hi
    rw [Nat.zero_add] at this
    exact this)
  by_cases o1 : out = 1
  · refine ⟨xg_world u, xg_frOwn u, upd (yg_rec v) (q f * 10 + 7) (yg_left v (q f)), L, g, g, Or.inl ⟨o1, rfl, eL.symm, rfl, eg.symm⟩, Or.inl ⟨o1, s12.symm, (s9.trans eL).symm, rfl⟩, hW, hL, Nat.le_refl _, g2, eg, fun _ _ => rfl, ?_, ?_, ?_, ?_⟩
    · rw [pk_us, a13, eg]
    · rw [pk_un (by omega), a21]
    · exact fun k h7 _ _ => pk_un (by omega)
    · exact fun E hE k hk => pk_un (by omega)
  · by_cases o2 : out = 2
    · refine ⟨cp_ (xg_world u) (fun i => xg_entryWorld u (f * 48 + i)) 0 48, xg_frOwn u, upd (yg_rec v) (q f * 10 + 7) (yg_left v (q f)), e, g, g, Or.inr (Or.inl ⟨o2, rfl, ee.symm, rfl, eg.symm⟩), Or.inr (Or.inl ⟨o2, hcp.symm, (a15.trans ee).symm, rfl⟩), hW2, e16, Nat.le_refl _, g2, eg, fun _ _ => rfl, ?_, ?_, ?_, ?_⟩
      · rw [pk_us, a13, eg]
      · rw [pk_un (by omega), a21]
      · exact fun k h7 _ _ => pk_un (by omega)
      · exact fun E hE k hk => pk_un (by omega)
    · refine ⟨cp_ (xg_world u) (fun i => xg_entryWorld u (f * 48 + i)) 0 48, upd (xg_frOwn u) f (xg_frOwn u f + xg_frGas u f), upd (yg_rec v) (q f * 10 + 8) (yg_rec v (q f * 10 + 8) + yg_left v (q f)), e, 0, g, Or.inr (Or.inr ⟨o1, o2, rfl, ee.symm, rfl, rfl⟩), Or.inr (Or.inr ⟨o1, o2, hcp.symm, (a15.trans ee).symm, rfl⟩), hW2, e16, Nat.zero_le _, g2, eg, fun j hj => pk_un hj, ?_, ?_, ?_, ?_⟩
      · rw [pk_un (by omega), a20]; rfl
      · rw [pk_us, pk_us, a21, a13]
      · exact fun k _ h8 _ => pk_un (by omega)
      · exact fun E hE k hk => pk_un (by omega)
theorem end_core (Q : Qr G T A D M (f + 1) N q u v) (out w : Int32) (ho : out ≠ 0) : ∃ (M' : Nat) (u' : SX) (v' : SY), M' < M ∧ Qr G T A D M' f N q u' v' ∧ (∀ post : SX → Prop, post u' → zx_endFrame_62 post (nI f) out w u) ∧
    (∀ (post : SY → Prop) (cr : Int32), ((xg_frKind u f = 4 ∧ cr = 1) ∨ (xg_frKind u f ≠ 4 ∧ cr = 0)) → post v' → zy_end_96 post (nI (q f)) (nI (q f * 10)) out w (xg_frSelf u f) cr v) := by
  obtain ⟨W, O, R, L, r, g, hX, hY, hW, hL, hr, g2, eg, hO, r7, r8, rk, rE⟩ := end_pick Q out
  have hgs := Q_gs Q
  rw [eg, nI_clamp (by omega)] at hgs
  have lv := Q_lv Q
  have QQ := Q
  obtain ⟨b1, b2, b3, b4, b5, b6, b7, b8, b9, b10, b11, b12⟩ := Q
  obtain ⟨a1, a2, a3, a4, a5, a6, a7, a8, a9, a10, a11, a12, a13, a14, a15, a16, a17, a18, a19, a20, a21, a22, a23, a24, a25, a26, a27, a28, a29⟩ := lv
  have f8 : f < 8 := by have := b2.2.1.2.1; omega
  have q32 : q f < 32 := by have := b7.2.1 f (by omega); omega
  have s9 := b1.2.2.2.2.2.2.2.2.1
  -- the count, one for both
  have ec : cn_ W (fun i => yg_entry v (q f * 48 + i)) (nI L - yg_entryLogs v (q f)) 48 = cn_ W (fun i => xg_entryWorld u (f * 48 + i)) (nI L - xg_entryLogs u f) 48 := by
    rw [a15]
    exact cn_ext 48 (fun _ _ => rfl) (fun i hi => a27 i hi)
  have hRR : ∀ k, k < 10 → xd_R O W (nI L) out (nI r) f (q f) u (q f * 10 + k) = yd_R R (q f) (cn_ W (fun i => yg_entry v (q f * 48 + i)) (nI L - yg_entryLogs v (q f)) 48) out (q f * 10 + k) := by
    intro k hk
    unfold xd_R
    rw [ec]
    by_cases k5 : k = 5
    · subst k5; rw [rc_5, yR_5]
    · by_cases k7 : k = 7
      · subst k7; rw [rc_7, yR_k (by decide) (by decide), r7]
      · by_cases k8 : k = 8
        · subst k8; rw [rc_8, yR_k (by decide) (by decide), r8]
        · by_cases k9 : k = 9
          · subst k9; rw [rc_9, yR_9]
          · rw [rc_k (by omega), yR_k k5 k9, rk k k7 k8 hk]
            exact a29 k (by omega)
  have hR : ∀ E, E ≠ q f → ∀ k, k < 10 → xd_R O W (nI L) out (nI r) f (q f) u (E * 10 + k) = xg_records u (E * 10 + k) := fun E hE k hk => rc_off hE hk
  have hR' : ∀ E, E ≠ q f → ∀ k, k < 10 → yd_R R (q f) (cn_ W (fun i => yg_entry v (q f * 48 + i)) (nI L - yg_entryLogs v (q f)) 48) out (E * 10 + k) = yg_rec v (E * 10 + k) := fun E hE k hk => (yR_off hE hk).trans (rE E hE k hk)
  have h5 : yd_R R (q f) (cn_ W (fun i => yg_entry v (q f * 48 + i)) (nI L - yg_entryLogs v (q f)) 48) out (q f * 10 + 5) ≠ 0 := by rw [yR_5]; exact ho
  have h7 : yd_R R (q f) (cn_ W (fun i => yg_entry v (q f * 48 + i)) (nI L - yg_entryLogs v (q f)) 48) out (q f * 10 + 7) = nI r := by rw [yR_k (by decide) (by decide), r7]
  rcases Nat.eq_zero_or_pos f with f0 | fp
  · subst f0
    have Q1 := Q_close QQ (G' := G) (M' := M - 1) hO hW hL hR hR' hRR h5 h7 (by omega) (by omega) (by omega) (fun _ => by omega)
    refine ⟨M - 1, _, _, by omega, Q_last Q1 w, fun post H => ?_, fun post cr hk H => ?_⟩
    · exact xw_end62 f8 b5.2 a1 q32 hX (fun _ => H) (fun h => by omega)
    · exact yw_end96 q32 hk hY (Or.inl ⟨b9 0 (by omega), H⟩)
  · obtain ⟨e, rfl⟩ : ∃ e, f = e + 1 := ⟨f - 1, by omega⟩
    have Q1 := Q_close QQ (G' := G - r) (M' := M - 1 - r) hO hW hL hR hR' hRR h5 h7 (by omega) (by omega) (by omega) (fun h => by omega)
    have ge := b8 e (by omega)
    obtain ⟨gp, gp2, egp⟩ := ge.2.2.2.2.2.2.2.2.2.2.2.1
    obtain ⟨h, h16, eh, _⟩ := ge.2.2.2.2.2.1
    have eyh := ge.2.2.2.2.2.2.1
    have eyg := ge.2.2.2.2.2.2.2.2.2.2.2.2.1
    have hsum : gs_ (xg_frGas u) e + gp + g ≤ G := by
      have h1 := hgs.1
      unfold gs_ at h1
      rw [egp, nI_clamp (by omega)] at h1
      exact h1
    have Q2 := Q_gasres Q1 (g := gp) (g' := gp + r) (G' := G) (M' := M - 1) w ((congrFun hx_g e).trans egp) gp2 (by omega) (by omega) (by omega) (by omega)
    rw [hy_2, hy_3] at Q2
    have ep : yg_rec v (q (e + 1) * 10 + 1) = nI (q e) := b9 (e + 1) (by omega)
    have qe32 : q e < 32 := by have := b7.2.1 e (by omega); omega
    by_cases hh : h < 16
    · refine ⟨M - 1, _, _, by omega, Q_push Q2 (ab_ans (xg_frKind u (e + 1)) (xg_frSelf u (e + 1)) out) (by rw [hx_2, hx_1]; exact eh) hh, fun post H => ?_, fun post cr hk H => ?_⟩
      · refine xw_end62 f8 b5.2 a1 q32 hX (fun h => by omega) (fun _ => xw_resume f8 ?_)
        have e1 : xg_frGas (xu_end O W (xd_R O W (nI L) out (nI r) (e + 1) (q (e + 1)) u) (nI L) (e + 1) u) e + nI r = nI (gp + r) := by
          rw [hx_g, egp, nI_add]
        rw [e1, hx_k, hx_s]
        exact xw_push (by omega) (by rw [hx_2, hx_1]; exact eh) hh H
      · refine yw_end96 q32 hk hY (Or.inr ⟨q e, qe32, ep, ?_⟩)
        rw [r7, eyg, egp, nI_add]
        exact yw_push qe32 (by rw [yq_height_result, yq_height_left, hy_1]; exact eyh.trans eh) hh H
    · obtain rfl : h = 16 := by omega
      refine ⟨M - 1, _, _, by omega, Q2, fun post H => ?_, fun post cr hk H => ?_⟩
      · refine xw_end62 f8 b5.2 a1 q32 hX (fun h => by omega) (fun _ => xw_resume f8 ?_)
        have e1 : xg_frGas (xu_end O W (xd_R O W (nI L) out (nI r) (e + 1) (q (e + 1)) u) (nI L) (e + 1) u) e + nI r = nI (gp + r) := by
          rw [hx_g, egp, nI_add]
        rw [e1, hx_k, hx_s]
        exact xw_push_no (by omega) (by rw [hx_2, hx_1]; exact eh) H
      · refine yw_end96 q32 hk hY (Or.inr ⟨q e, qe32, ep, ?_⟩)
        rw [r7, eyg, egp, nI_add]
        exact yw_push_no qe32 (by rw [yq_height_result, yq_height_left, hy_1]; exact eyh.trans eh) H
theorem end_both (Q : Qr G T A D M (f + 1) N q u v) (out w : Int32) (ho : out ≠ 0) : ∃ (M' : Nat) (u' : SX) (v' : SY), M' < M ∧ Qr G T A D M' f N q u' v' ∧ (∀ post : SX → Prop, post u' → wpX_endFrame post u out w) ∧ (∀ post : SY → Prop, post v' → wpY_end post v (nI (q f)) out w) := by
  have lv := Q_lv Q
  obtain ⟨a1, a2, a3, a4, a5, a6, a7, a8, a9, a10, a11, a12, a13, a14, a15, a16, a17, a18, a19, a20, a21, a22, a23, a24, a25, a26, a27, a28, a29⟩ := lv
  obtain ⟨s, s8, es⟩ := a4
  have f8 : f < 8 := by
    have h1 := Q.2.1.2.1.2.1
    have h2 := Q.2.2.2.2.1.1
    omega
  have q32 : q f < 32 := by
    have h1 := Q.2.2.2.2.2.2.1.2.1 f (by omega)
    have h2 := Q.2.2.2.2.2.1.1
    omega
  have ea : xg_active u = nI (f + 1) := Q.2.2.2.2.1.2
  have v1 := vp_in_nI f8 (N := 8) (by decide)
  -- heads
  have HX : ∀ post : SX → Prop, ((xg_frKind u f = 4 → ((out = 1 → wpX_isProgram (fun r => (r = 0 → zx_endFrame_62 post (nI f) 11 0 u) ∧ (¬ r = 0 → zx_endFrame_62 post (nI f) out w (xs_world (upd (xg_world u) (s * 6) w) u))) u w) ∧ (¬ out = 1 → zx_endFrame_62 post (nI f) out w u))) ∧ (¬ xg_frKind u f = 4 → zx_endFrame_62 post (nI f) out w u)) → wpX_endFrame post u out w := by
    intro post H
    rw [ex_endFrame, ea, nI_pred]
    refine nm_e ?_
    rw [nI_clamp (n := f) (by omega), es, nu_m6, nI_clamp (n := s * 6) (by omega)]
    refine ⟨v1, br_c (fun z => br_c (fun y => ?_) (fun y => (H.1 z).2 y)) H.2⟩
    have K := (H.1 z).1 y
    rw [ex_isProgram] at K ⊢
    refine ⟨fun a => ⟨fun b => ?_, fun b => absurd rfl b⟩, fun a => ⟨fun b => ⟨fun c => ?_, fun c => absurd rfl c⟩, fun b => ⟨fun c => absurd c (by decide), fun c => ?_⟩⟩⟩
    · exact (K.1 a).1 rfl
    · exact ((K.2 a).1 b).1 rfl
    · exact ⟨v1, vp_in_nI (by omega) (by decide), nm_e (((K.2 a).2 b).2 (by decide))⟩
  have HY : ∀ post : SY → Prop, ((xg_frKind u f = 4 → zy_end_41 post (nI (q f)) (nI (q f * 10)) out w (nI s) 1 v) ∧ (¬ xg_frKind u f = 4 → zy_end_41 post (nI (q f)) (nI (q f * 10)) out w (nI s) 0 v)) → wpY_end post v (nI (q f)) out w := by
    intro post H
    rw [ey_end, nu_m10]
    refine nm_e ?_
    have a16' : yg_rec v (q f * 10 + 0) = xg_frKind u f := a16
    rw [nu_a2, nu_a0, nI_clamp (n := q f * 10 + 2) (by omega), nI_clamp (n := q f * 10 + 0) (by omega), a5, es, a16']
    exact ⟨vp_in_nI (by omega) (by decide), nm_e ⟨vp_in_nI (by omega) (by decide), H⟩⟩
  by_cases k4 : xg_frKind u f = 4
  · by_cases o1 : out = 1
    · subst o1
      by_cases hp : ∃ c, c < 8 ∧ w = nI c
      · obtain ⟨c, c8, rfl⟩ := hp
        have Q' := Q_world Q (Wd_code Q.2.2.1 s8 c8)
        obtain ⟨M', u', v', hM, Q1, hX, hY⟩ := end_core Q' 1 (nI c) (by decide)
        refine ⟨M', u', v', hM, Q1, fun post H => ?_, fun post H => ?_⟩
        · refine HX post (br_t k4 (br_t rfl (xw_isProgram_t c8 (br_f (by decide) (hX post H)))))
        · refine HY post (br_t k4 ?_)
          have y := hY post 1 (Or.inl ⟨k4, rfl⟩) H
          rw [show xg_frSelf (xs_world (upd (xg_world u) (s * 6) (nI c)) u) f = nI s from es] at y
          rw [ey_end_41]
          refine br_f (by decide) (br_t rfl (br_f (nI_pos (by omega)) (br_t (nI_le (b := 7) (by omega) (by decide)) ?_)))
          rw [ey_end_73, nu_m6, nI_clamp (n := s * 6) (by omega), Q.1.2.2.2.2.2.2.2.2.2.2.2.1]
          exact br_f (by decide) (br_t rfl ⟨vp_in_nI (by omega) (by decide), nm_e y⟩)
      · obtain ⟨M', u', v', hM, Q1, hX, hY⟩ := end_core Q 11 0 (by decide)
        refine ⟨M', u', v', hM, Q1, fun post H => ?_, fun post H => ?_⟩
        · exact HX post (br_t k4 (br_t rfl (xw_isProgram_f hp (br_t rfl (hX post H)))))
        · refine HY post (br_t k4 ?_)
          have y := hY post 1 (Or.inl ⟨k4, rfl⟩) H
          rw [es] at y
          have K : zy_end_66 post (nI (q f)) (nI (q f * 10)) (nI s) 1 v := by
            rw [ey_end_66, ey_end_73]
            exact br_f (by decide) (br_f (by decide) y)
          rw [ey_end_41]
          refine br_f (by decide) (br_t rfl ?_)
          rcases nu_not (by decide) hp with z | ⟨z, y2⟩
          · exact br_t z K
          · refine br_f z (br_f ?_ K)
            intro h7
            exact absurd (Int32.le_trans y2 h7) (by decide)
    · obtain ⟨M', u', v', hM, Q1, hX, hY⟩ := end_core Q out w ho
      refine ⟨M', u', v', hM, Q1, fun post H => ?_, fun post H => ?_⟩
      · exact HX post (br_t k4 (br_f o1 (hX post H)))
      · refine HY post (br_t k4 ?_)
        have y := hY post 1 (Or.inl ⟨k4, rfl⟩) H
        rw [es] at y
        rw [ey_end_41]
        refine br_f (by decide) (br_f o1 ?_)
        rw [ey_end_73]
        exact br_f (by decide) (br_f o1 y)
  · obtain ⟨M', u', v', hM, Q1, hX, hY⟩ := end_core Q out w ho
    refine ⟨M', u', v', hM, Q1, fun post H => ?_, fun post H => ?_⟩
    · exact HX post (br_f k4 (hX post H))
    · refine HY post (br_f k4 ?_)
      have y := hY post 0 (Or.inr ⟨k4, rfl⟩) H
      rw [es] at y
      rw [ey_end_41]
      refine br_t rfl ?_
      rw [ey_end_73]
      exact br_t rfl y
end
end
section
/-! the entry of a frame, both sides -/
theorem re_off {R : Nat → Int32} {F E k : Nat} {a b c d e g : Int32} (h : E ≠ F) (hk : k < 10) : re_ R F a b c d e g (E * 10 + k) = R (E * 10 + k) := by
  unfold re_
  rw [pk_un (by omega), pk_un (by omega), pk_un (by omega), pk_un (by omega), pk_un (by omega), pk_un (by omega)]
theorem re_k {R : Nat → Int32} {F k : Nat} {a b c d e g : Int32} (h : k = 5 ∨ 7 ≤ k) : re_ R F a b c d e g (F * 10 + k) = R (F * 10 + k) := by
  unfold re_
  rw [pk_un (by omega), pk_un (by omega), pk_un (by omega), pk_un (by omega), pk_un (by omega), pk_un (by omega)]
theorem re_0 {R : Nat → Int32} {F : Nat} {a b c d e g : Int32} : re_ R F a b c d e g (F * 10) = a := by
  unfold re_
  rw [pk_un (by omega), pk_un (by omega), pk_un (by omega), pk_un (by omega), pk_un (by omega), pk_us]
theorem re_1 {R : Nat → Int32} {F : Nat} {a b c d e g : Int32} : re_ R F a b c d e g (F * 10 + 1) = b := by
  unfold re_
  rw [pk_un (by omega), pk_un (by omega), pk_un (by omega), pk_un (by omega), pk_us]
theorem re_2 {R : Nat → Int32} {F : Nat} {a b c d e g : Int32} : re_ R F a b c d e g (F * 10 + 2) = c := by
  unfold re_
  rw [pk_un (by omega), pk_un (by omega), pk_un (by omega), pk_us]
theorem re_3 {R : Nat → Int32} {F : Nat} {a b c d e g : Int32} : re_ R F a b c d e g (F * 10 + 3) = d := by
  unfold re_
  rw [pk_un (by omega), pk_un (by omega), pk_us]
theorem re_4 {R : Nat → Int32} {F : Nat} {a b c d e g : Int32} : re_ R F a b c d e g (F * 10 + 4) = e := by
  unfold re_
  rw [pk_un (by omega), pk_us]
theorem re_6 {R : Nat → Int32} {F : Nat} {a b c d e g : Int32} : re_ R F a b c d e g (F * 10 + 6) = g := by
  unfold re_
  rw [pk_us]
theorem re_both {R R' : Nat → Int32} {F k : Nat} {a b c d e g : Int32} (h : k = 0 ∨ k = 1 ∨ k = 2 ∨ k = 3 ∨ k = 4 ∨ k = 6) : re_ R F a b c d e g (F * 10 + k) = re_ R' F a b c d e g (F * 10 + k) := by
  rcases h with rfl | rfl | rfl | rfl | rfl | rfl
  · rw [Nat.add_zero, re_0, re_0]
  · rw [re_1, re_1]
  · rw [re_2, re_2]
  · rw [re_3, re_3]
  · rw [re_4, re_4]
  · rw [re_6, re_6]
def xu_ent (d N : Nat) (par : Int32) (g : Nat) (W : Nat → Int32) (k c s a x i z : Int32) (u : SX) : SX := (u.1, u.2.1, u.2.2.1, u.2.2.2.1, u.2.2.2.2.1, u.2.2.2.2.2.1, nI (N + 1), u.2.2.2.2.2.2.2.1, u.2.2.2.2.2.2.2.2.1, nI (d + 1), u.2.2.2.2.2.2.2.2.2.2.1, u.2.2.2.2.2.2.2.2.2.2.2.1, W, re_ (xg_records u) N k par s c z (nI g), u.2.2.2.2.2.2.2.2.2.2.2.2.2.2.1, u.2.2.2.2.2.2.2.2.2.2.2.2.2.2.2.1, upd (xg_frNumber u) d (nI N), upd (xg_frKind u) d k, upd (xg_frCode u) d c, upd (xg_frSelf u) d s, upd (xg_frCaller u) d a, upd (xg_frValue u) d x, upd (xg_frInput u) d i, upd (xg_frStatic u) d z, upd (xg_frGas u) d (nI g), upd (xg_frOwn u) d 0, upd (xg_frAt u) d 0, upd (xg_frHeight u) d 0, upd (xg_frMemSize u) d 0, upd (xg_frResult u) d 0, u.2.2.2.2.2.2.2.2.2.2.2.2.2.2.2.2.2.2.2.2.2.2.2.2.2.2.2.2.2.2.1, cp_ (xg_memory u) (fun _ => 0) (d * 16) 16, cp_ (xg_entryWorld u) (xg_world u) (d * 48) 48, upd (xg_entryLogs u) d (xg_logTotal u))
def yu_ent (N : Nat) (par : Int32) (g : Nat) (W : Nat → Int32) (k c s a x i z : Int32) (v : SY) : SY := (v.1, v.2.1, v.2.2.1, v.2.2.2.1, v.2.2.2.2.1, v.2.2.2.2.2.1, v.2.2.2.2.2.2.1, nI (N + 1), v.2.2.2.2.2.2.2.2.1, v.2.2.2.2.2.2.2.2.2.1, v.2.2.2.2.2.2.2.2.2.2.1, v.2.2.2.2.2.2.2.2.2.2.2.1, W, v.2.2.2.2.2.2.2.2.2.2.2.2.2.1, v.2.2.2.2.2.2.2.2.2.2.2.2.2.2.1, re_ (cp_ (yg_rec v) (fun _ => 0) (N * 10) 10) N k par s c z (nI g), cp_ (yg_entry v) (yg_world v) (N * 48) 48, upd (yg_entryLogs v) N (yg_logs v), upd (yg_left v) N (nI g), v.2.2.2.2.2.2.2.2.2.2.2.2.2.2.2.2.2.2.2.1, upd (yg_height v) N 0, cp_ (yg_memory v) (fun _ => 0) (N * 16) 16, upd (yg_memorySize v) N 0, upd (yg_position v) N 0, upd (yg_result v) N 0, upd (yg_callerOf v) N a, upd (yg_valueOf v) N x, upd (yg_inputOf v) N i)
def qu_ (q : Nat → Nat) (d N : Nat) : Nat → Nat := fun j => if j = d then N else q j
theorem qu_d {q : Nat → Nat} {d N : Nat} : qu_ q d N d = N := if_pos rfl
theorem qu_n {q : Nat → Nat} {d N j : Nat} (h : j ≠ d) : qu_ q d N j = q j := if_neg h
theorem pr_qu {q : Nat → Nat} {d N j : Nat} (h : j ≤ d) : pr_ (qu_ q d N) j = pr_ q j := by
  unfold pr_
  by_cases z : j = 0
  · rw [if_pos z, if_pos z]
  · rw [if_neg z, if_neg z, qu_n (by omega)]
theorem rec0_in {R : Nat → Int32} {N k : Nat} (hk : k < 10) : cp_ R (fun _ => 0) (N * 10) 10 (N * 10 + k) = 0 := cp_in hk
theorem xu_enteq {d N g : Nat} {par : Int32} {W : Nat → Int32} {k c s a x i z : Int32} {u : SX} (hN : xg_frameTotal u = nI N) : xu_fin d N par (xu_mem0 d (xu_new d (nI g) (xs_world W (xu_save d (xu_set d k c s a x i z u))))) = xu_ent d N par g W k c s a x i z u := by
  obtain ⟨aa0, aa1, aa2, aa3, aa4, aa5, aa6, aa7, aa8, aa9, aa10, aa11, aa12, aa13, aa14, aa15, aa16, aa17, aa18, aa19, aa20, aa21, aa22, aa23, aa24, aa25, aa26, aa27, aa28, aa29, aa30, aa31, aa32, aa33⟩ := u
  have hN' : aa6 = nI N := hN
  subst hN'
  unfold xu_ent xu_fin xu_mem0 xu_new xu_save xu_set
  dsimp only [xm_frNumber_frGas_frOwn_frAt_frHeight_frMemSize_frResult, xm_frKind_frCode_frSelf_frCaller_frValue_frInput_frStatic, xs_memory, xs_world, xg_accounts, xg_maxDepth, xg_price, xg_feeSum, xg_mintSum, xg_inputWord, xg_frameTotal, xg_logTotal, xg_lastWord, xg_active, xg_cells, xg_lengths, xg_world, xg_records, xg_logAccounts, xg_logWords, xg_frNumber, xg_frKind, xg_frCode, xg_frSelf, xg_frCaller, xg_frValue, xg_frInput, xg_frStatic, xg_frGas, xg_frOwn, xg_frAt, xg_frHeight, xg_frMemSize, xg_frResult, xg_stack, xg_memory, xg_entryWorld, xg_entryLogs]
  rw [pk_us, pk_us, pk_us, pk_us, pk_us]
theorem yu_enteq {N g : Nat} {par : Int32} {W : Nat → Int32} {k c s a x i z : Int32} {v : SY} : ys_frames (nI (N + 1)) (yu_mem0 N (yu_new N (yu_rec N k par s c z (ys_world W (yu_save N (ys_handed (nI g) v)))) a x i (yg_handed (ys_world W (yu_save N (ys_handed (nI g) v)))) (ys_world W (yu_save N (ys_handed (nI g) v))))) = ys_handed (nI g) (yu_ent N par g W k c s a x i z v) := by
  obtain ⟨aa0, aa1, aa2, aa3, aa4, aa5, aa6, aa7, aa8, aa9, aa10, aa11, aa12, aa13, aa14, aa15, aa16, aa17, aa18, aa19, aa20, aa21, aa22, aa23, aa24, aa25, aa26, aa27⟩ := v
  unfold yu_ent yu_mem0 yu_new yu_rec yu_save
  dsimp only [ym_rec_left_height_memorySize_position_result_callerOf_valueOf_inputOf, ys_memory, ys_world, ys_handed, ys_frames, yg_accounts, yg_maxDepth, yg_price, yg_fees, yg_minted, yg_input, yg_returnWord, yg_frames, yg_logs, yg_handed, yg_cells, yg_length, yg_world, yg_logAccounts, yg_logWords, yg_rec, yg_entry, yg_entryLogs, yg_left, yg_stack, yg_height, yg_memory, yg_memorySize, yg_position, yg_result, yg_callerOf, yg_valueOf, yg_inputOf]
section
variable {G T A D M d N : Nat} {q : Nat → Nat} {u : SX} {v : SY}
theorem Q_enter (Q : Qr G T A D M d N q u v) {G' M' g c s : Nat} {W : Nat → Int32} {k a x i z : Int32} (hd : d < D) (hN : N < 32) (hW : Wd_ T W) (g2 : g ≤ 2000) (c8 : c < 8) (s8 : s < 8) (hz : z = 0 ∨ z = 1) (h0 : d = 0 → N = 0)
    (hG : gs_ (xg_frGas u) d + g ≤ G') (hM : gs_ (xg_frGas u) d + g + (32 - (N + 1)) + (d + 1) ≤ M') (hG2 : G' ≤ 2000) :
    Qr G' T A D M' (d + 1) (N + 1) (qu_ q d N) (xu_ent d N (pr_ q d) g W k (nI c) (nI s) a x i z u) (yu_ent N (pr_ q d) g W k (nI c) (nI s) a x i z v) := by
  obtain ⟨b1, b2, b3, b4, b5, b6, b7, b8, b9, b10, b11, b12⟩ := Q
  have hx : Ax_ d u (xu_ent d N (pr_ q d) g W k (nI c) (nI s) a x i z u) := (fun j hj => ⟨pk_un hj, pk_un hj, pk_un hj, pk_un hj, pk_un hj, pk_un hj, pk_un hj, pk_un hj, pk_un hj, pk_un hj, pk_un hj, pk_un hj, pk_un hj, pk_un hj, pk_un hj, fun _ _ => rfl, fun i hi => cp_out (dst := xg_memory u) (src := fun _ => 0) (b := d * 16) (n := 16) (by omega), fun i hi => cp_out (dst := xg_entryWorld u) (src := xg_world u) (b := d * 48) (n := 48) (by omega)⟩)
  have hy : Ay_ N v (yu_ent N (pr_ q d) g W k (nI c) (nI s) a x i z v) := (fun j hj => ⟨fun k hk => (re_off hj hk).trans (cp_out (dst := yg_rec v) (src := fun _ => 0) (b := N * 10) (n := 10) (by omega)), pk_un hj, pk_un hj, pk_un hj, pk_un hj, pk_un hj, pk_un hj, pk_un hj, pk_un hj, pk_un hj, fun _ _ => rfl, fun i hi => cp_out (dst := yg_memory v) (src := fun _ => 0) (b := N * 16) (n := 16) (by omega), fun i hi => cp_out (dst := yg_entry v) (src := yg_world v) (b := N * 48) (n := 48) (by omega)⟩)
  have hr : xg_records (xu_ent d N (pr_ q d) g W k (nI c) (nI s) a x i z u) = re_ (xg_records u) N k (pr_ q d) (nI s) (nI c) z (nI g) := rfl
  obtain ⟨s1, s2, s3, s4, s5, s6, s7, s8', s9, s10, s11, s12, s13, s14⟩ := b1
  obtain ⟨L, L16, eL⟩ := b4
  refine ⟨⟨s1, s2, s3, s4, s5, s6, s7, rfl, s9, s10, s11, rfl, s13, s14⟩, b2, hW, ⟨L, L16, eL⟩, ⟨hd, rfl⟩, ⟨hN, rfl⟩, ⟨?_, ?_, ?_⟩, ?_, ?_, ?_, ?_, fun h => by omega⟩
  · intro i j hi hj
    rw [qu_n (j := i) (by omega)]
    by_cases e : j = d
    · subst e
      rw [qu_d]
      exact b7.2.1 i hi
    · rw [qu_n e]
      exact b7.1 i j hi (by omega)
  · intro j hj
    by_cases e : j = d
    · subst e; rw [qu_d]; omega
    · rw [qu_n e]
      have := b7.2.1 j (by omega)
      omega
  · intro _
    by_cases e : d = 0
    · subst e; rw [qu_d]; exact h0 rfl
    · rw [qu_n (fun h => e h.symm)]
      exact b7.2.2 (by omega)
  · intro j hj
    by_cases e : j = d
    · subst e
      rw [qu_d]
      have m3 : yg_rec (yu_ent N (pr_ q j) g W k (nI c) (nI s) a x i z v) = re_ (cp_ (yg_rec v) (fun _ => 0) (N * 10) 10) N k (pr_ q j) (nI s) (nI c) z (nI g) := rfl
      refine ⟨pk_us, ⟨c, c8, pk_us⟩, ?_, ⟨s, s8, pk_us⟩, ?_, ⟨0, by omega, pk_us, fun i hi => by omega⟩, pk_us.trans pk_us.symm, ⟨0, by omega, pk_us⟩, pk_us.trans pk_us.symm, ⟨0, by omega, pk_us⟩, pk_us.trans pk_us.symm, ⟨g, g2, pk_us⟩, pk_us.trans pk_us.symm, ⟨L, L16, pk_us.trans eL⟩, ?_, ?_, ?_, ?_, ?_, ?_, ?_, pk_us.trans pk_us.symm, pk_us.trans pk_us.symm, pk_us.trans pk_us.symm, pk_us.trans pk_us.symm, ?_, ?_, ?_, ?_⟩
      · rw [m3, re_3]; exact pk_us.symm
      · rw [m3, re_2]; exact pk_us.symm
      · exact pk_us.trans (s9.trans pk_us.symm)
      · rw [m3, re_0]; exact pk_us.symm
      · show upd (xg_frStatic u) j z j = 0 ∨ upd (xg_frStatic u) j z j = 1
        rw [pk_us]; exact hz
      · rw [m3, re_4]; exact pk_us.symm
      · rw [m3, re_k (Or.inl rfl)]; exact rec0_in (by decide)
      · rw [m3, re_k (by decide)]; exact rec0_in (by decide)
      · rw [m3, re_k (by decide), rec0_in (by decide)]; exact pk_us.symm
      · intro i hi
        exact (cp_in (dst := yg_memory v) (src := fun _ => 0) (b := N * 16) hi).trans (cp_in (dst := xg_memory u) (src := fun _ => 0) (b := j * 16) hi).symm
      · intro i hi
        show cp_ (yg_entry v) (yg_world v) (N * 48) 48 (N * 48 + i) = cp_ (xg_entryWorld u) (xg_world u) (j * 48) 48 (j * 48 + i)
        rw [cp_in hi, cp_in hi, s12]
      · refine Wd_ext b3 (fun i hi => ?_)
        exact cp_in hi
      · intro k hk
        rw [m3, hr]
        exact re_both hk
    · rw [qu_n e]
      have := b7.2.1 j (by omega)
      refine LV_keep (b8 j (by omega)) hx hy e (by omega) (fun k hk => ?_)
      rw [hr]
      exact re_off (by omega) hk
  · intro j hj
    rw [pr_qu (by omega)]
    by_cases e : j = d
    · subst e
      rw [qu_d]
      exact re_1
    · rw [qu_n e]
      have := b7.2.1 j (by omega)
      exact ((hy (q j) (by omega)).1 1 (by omega)).trans (b9 j (by omega))
  · intro E hE hn
    have ne : E ≠ N := fun e => hn d (by omega) (by rw [qu_d, e])
    obtain ⟨h5, hk⟩ := b10 E (by omega) (fun j hj => by
      have := hn j (by omega)
      rw [qu_n (by omega)] at this
      exact this)
    refine ⟨?_, fun k k10 => ?_⟩
    · rw [(hy E ne).1 5 (by omega)]; exact h5
    · rw [(hy E ne).1 k k10, hr, re_off ne k10]; exact hk k k10
  · have e : gs_ (xg_frGas (xu_ent d N (pr_ q d) g W k (nI c) (nI s) a x i z u)) (d + 1) = gs_ (xg_frGas u) d + g := by
      show gs_ (upd (xg_frGas u) d (nI g)) d + (upd (xg_frGas u) d (nI g) d).toNatClampNeg = _
      rw [gs_upd (Nat.le_refl _), pk_us, nI_clamp (by omega)]
    rw [e]
    exact ⟨hG, hM, hG2⟩
theorem x_enter (Q : Qr G T A D M d N q u v) {post : SX → Prop} {g c s b : Nat} {W : Nat → Int32} {k a x i z : Int32} (hd : d < D) (hN : N < 32) (s8 : s < 8) (ha : k = 1 ∨ k = 4 → a = nI b) (hW : ab_ew k (xg_world u) b s (nI c) x W)
    (H : post (xu_ent d N (pr_ q d) g W k (nI c) (nI s) a x i z u)) : wpX_enterFrame post (xu_set d k (nI c) (nI s) a x i z u) (nI g) := by
  obtain ⟨b1, b2, b3, b4, b5, b6, b7, b8, b9, b10, b11, b12⟩ := Q
  have d8 : d < 8 := by have := b2.2.1.2.1; omega
  refine xw_enter (a := b) (W := W) (par := pr_ q d) d8 b5.2 b6.2 hN ?_ s8 pk_us ?_ ?_ (by rw [xu_enteq b6.2]; exact H)
  · unfold pr_
    by_cases e : d = 0
    · exact Or.inl ⟨e, if_pos e⟩
    · refine Or.inr ⟨by omega, ?_⟩
      rw [if_neg e]
      exact (b8 (d - 1) (by omega)).1.symm
  · show upd (xg_frKind u) d k d = 1 ∨ upd (xg_frKind u) d k d = 4 → upd (xg_frCaller u) d a d = nI b
    rw [pk_us, pk_us]; exact ha
  · show ab_ew (upd (xg_frKind u) d k d) (xg_world u) b s (upd (xg_frCode u) d (nI c) d) (upd (xg_frValue u) d x d) W
    rw [pk_us, pk_us, pk_us]; exact hW
theorem y_current (Q : Qr G T A D M d N q u v) (h0 : d = 0 → N = 0) {post : Int32 → Prop} (H : post (pr_ q d)) : wpY_current post v := by
  obtain ⟨b1, b2, b3, b4, b5, b6, b7, b8, b9, b10, b11, b12⟩ := Q
  have efr : yg_frames v = nI N := b1.2.2.2.2.2.2.2.1.trans b6.2
  unfold pr_ at H
  by_cases e : d = 0
  · rw [if_pos e] at H
    have := h0 e
    subst this
    exact yw_current_0 efr H
  · rw [if_neg e] at H
    refine yw_current efr b6.1 (b7.2.1 (d - 1) (by omega)) ((b8 (d - 1) (by omega)).2.2.2.2.2.2.2.2.2.2.2.2.2.2.2.2.2.2.1) (fun E h1 h2 => (b10 E h2 (fun j hj => ?_)).1) H
    by_cases z : j = d - 1
    · subst z; omega
    · have := b7.1 j (d - 1) (by omega) (by omega)
      omega
theorem y_enter (Q : Qr G T A D M d N q u v) {post : SY → Prop} {g c s b : Nat} {W : Nat → Int32} {k a x i z : Int32} (hN : N < 32) (h0 : d = 0 → N = 0) (s8 : s < 8) (ha : k = 1 ∨ k = 4 → a = nI b) (hW : ab_ew k (xg_world u) b s (nI c) x W)
    (H : post (ys_handed (nI g) (yu_ent N (pr_ q d) g W k (nI c) (nI s) a x i z v))) : wpY_enter post (ys_handed (nI g) v) k (nI c) (nI s) a x i z := by
  have efr : yg_frames v = nI N := Q.1.2.2.2.2.2.2.2.1.trans Q.2.2.2.2.2.1.2
  refine yw_enter (a := b) (W := W) (par := pr_ q d) hN efr s8 ha (fun p hp => ?_) ?_ (by rw [yu_enteq]; exact H)
  · exact y_current (v := ys_handed (nI g) v) Q h0 hp
  · show ab_ew k (yg_world v) b s (nI c) x W
    rw [Q.1.2.2.2.2.2.2.2.2.2.2.2.1]; exact hW
end
end
section
/-! the checks ahead of an instruction, and its cost -/
theorem pp_le : ∀ k, k < 38 → pp_ k ≤ 4 ∧ pu_ k ≤ 4 ∧ ct_ k ≤ 50 := by decide +kernel
theorem ct_pos0 : ∀ k, k < 38 → 1 ≤ ct_ k ∨ k = 0 ∨ k = 36 ∨ k = 37 ∨ k = 19 ∨ k = 20 ∨ k = 23 ∨ k = 32 := by decide +kernel
theorem ct_pos (k : Nat) (h : k < 38) (h0 : k ≠ 0) (h1 : k ≠ 36) (h2 : k ≠ 37) (h3 : k ≠ 19) (h4 : k ≠ 20) (h5 : k ≠ 23) (h6 : k ≠ 32) : 1 ≤ ct_ k := by
  have := ct_pos0 k h
  omega
def fb_ (k h : Nat) (z w0 w2 : Int32) : Int32 := if h < pp_ k then 4 else if 16 < h - pp_ k + pu_ k then 5 else if z ≠ 0 ∧ (k = 23 ∨ k = 24 ∨ k = 35 ∨ (k = 32 ∧ w2 ≠ 0)) then 8 else if (k = 19 ∨ k = 20) ∧ (w0 < 0 ∨ ¬ w0 < 16) then 9 else 0
theorem xw_f108 {post : Int32 → Prop} {u : SX} {f h k : Nat} (hf : f < 8) (hh : xg_frHeight u f = nI h) (h16 : h ≤ 16) (hk : k < 38) (H : post (if (k = 19 ∨ k = 20) ∧ (xu_word u f h 0 < 0 ∨ ¬ xu_word u f h 0 < 16) then 9 else 0)) : zx_faultBefore_108 post (nI f) (nI k) u := by
  have K : k = 19 ∨ k = 20 → zx_faultBefore_120 post (nI f) u := by
    intro hk2
    rw [ex_faultBefore_120]
    refine xw_peek 0 hf hh h16 (by decide) (br_c (fun z => ?_) (fun z => br_c (fun y => ?_) (fun y => ?_)))
    · rw [if_pos ⟨hk2, Or.inl z⟩] at H; exact H
    · rw [if_neg (fun e => e.2.elim z (fun n => n y))] at H; exact H
    · rw [if_pos ⟨hk2, Or.inr y⟩] at H; exact H
  rw [ex_faultBefore_108]
  refine pk_eq k 19 (fun e => K (Or.inl e)) (fun e => pk_eq k 20 (fun e => K (Or.inr e)) (fun e2 => ?_))
  rw [if_neg (fun z => z.1.elim e e2)] at H
  exact H
theorem xw_fault {post : Int32 → Prop} {u : SX} {f h k : Nat} {z : Int32} (hf : f < 8) (hh : xg_frHeight u f = nI h) (h16 : h ≤ 16) (hz : xg_frStatic u f = z) (hk : k < 38) (H : post (fb_ k h z (xu_word u f h 0) (xu_word u f h 2))) : wpX_faultBefore post u (nI f) (nI k) := by
  have v := vp_in_nI hf (N := 8) (by decide)
  obtain ⟨p4, u4, _⟩ := pp_le k hk
  unfold fb_ at H
  rw [ex_faultBefore]
  refine br_f (nI_pos (by omega)) (br_t (nI_le (b := 37) (by omega) (by decide)) (xw_pops hk (xw_pushes hk ?_)))
  rw [nI_clamp (n := f) (by omega), hh, hz]
  refine ⟨v, pk_le (pp_ k) h (fun a => ?_) (fun a => ?_)⟩
  · rw [if_neg (by omega)] at H
    rw [pk_sub a, nI_add]
    refine ⟨v, pk_le (h - pp_ k + pu_ k) 16 (fun b => ?_) (fun b => ?_)⟩
    · rw [if_neg (by omega)] at H
      refine ⟨v, br_c (fun y => ?_) (fun y => ?_)⟩
      · rw [if_neg (fun e => e.1 y)] at H
        exact xw_f108 hf hh h16 hk H
      · refine pk_eq k 23 (fun e => ?_) (fun e1 => pk_eq k 24 (fun e => ?_) (fun e2 => pk_eq k 35 (fun e => ?_) (fun e3 => pk_eq k 32 (fun e => ?_) (fun e4 => ?_))))
        · rw [if_pos ⟨y, Or.inl e⟩] at H; exact H
        · rw [if_pos ⟨y, Or.inr (Or.inl e)⟩] at H; exact H
        · rw [if_pos ⟨y, Or.inr (Or.inr (Or.inl e))⟩] at H; exact H
        · refine xw_peek 2 hf hh h16 (by decide) (br_c (fun x => ?_) (fun x => ?_))
          · rw [if_neg (fun t => t.2.elim e1 (fun t => t.elim e2 (fun t => t.elim e3 (fun t => t.2 x))))] at H
            exact xw_f108 hf hh h16 hk H
          · rw [if_pos ⟨y, Or.inr (Or.inr (Or.inr ⟨e, x⟩))⟩] at H; exact H
        · rw [if_neg (fun t => t.2.elim e1 (fun t => t.elim e2 (fun t => t.elim e3 (fun t => e4 t.1))))] at H
          exact xw_f108 hf hh h16 hk H
    · rw [if_pos (by omega)] at H; exact H
  · rw [if_pos (by omega)] at H; exact H
theorem yw_f131 {post : Int32 → Prop} {v : SY} {F k : Nat} {w0 : Int32} (hk : k < 38) (H9 : (k = 19 ∨ k = 20) ∧ (w0 < 0 ∨ ¬ w0 < 16) → post 9) (H0 : ¬ ((k = 19 ∨ k = 20) ∧ (w0 < 0 ∨ ¬ w0 < 16)) → zy_failure_158 post (nI F) (nI k) v) : zy_failure_131 post (nI F) (nI k) w0 v := by
  have K : k = 19 ∨ k = 20 → zy_failure_143 post (nI F) (nI k) w0 v := by
    intro hk2
    rw [ey_failure_143]
    refine br_c (fun z => H9 ⟨hk2, Or.inl z⟩) (fun z => br_c (fun y => ?_) (fun y => ?_))
    · refine H0 (fun e => e.2.elim z (fun n => n ?_))
      exact Int32.lt_of_le_of_lt y (by decide)
    · refine H9 ⟨hk2, Or.inr (fun n => y ?_)⟩
      rw [Int32.lt_iff_toInt_lt, show (16 : Int32).toInt = 16 from by decide] at n
      rw [Int32.le_iff_toInt_le, show (15 : Int32).toInt = 15 from by decide]
      omega
  rw [ey_failure_131]
  exact pk_eq k 19 (fun e => K (Or.inl e)) (fun e => pk_eq k 20 (fun e => K (Or.inr e)) (fun e2 => H0 (fun z => z.1.elim e e2)))
theorem yw_fault {post : Int32 → Prop} {v : SY} {F h k : Nat} {z : Int32} (hF : F < 32) (hh : yg_height v F = nI h) (h16 : h ≤ 16) (hz : yg_rec v (F * 10 + 4) = z) (hz2 : z = 0 ∨ z = 1) (hk : k < 38)
    (H : fb_ k h z (yu_word v F h 0) (yu_word v F h 2) ≠ 0 → post (fb_ k h z (yu_word v F h 0) (yu_word v F h 2))) (H0 : fb_ k h z (yu_word v F h 0) (yu_word v F h 2) = 0 → zy_failure_158 post (nI F) (nI k) v) : wpY_failure post v (nI F) (nI k) := by
  have vF := vp_in_nI hF (N := 32) (by decide)
  obtain ⟨p4, u4, _⟩ := pp_le k hk
  unfold fb_ at H H0
  rw [ey_failure]
  refine br_f (nI_pos (by omega)) (br_t (nI_le (b := 37) (by omega) (by decide)) (yw_pops hk (yw_pushes hk ?_)))
  rw [nI_clamp (n := F) (by omega), hh]
  refine ⟨vF, pk_le (pp_ k) h (fun a => ?_) (fun a => ?_)⟩
  · rw [if_neg (by omega)] at H H0
    rw [pk_sub a, nI_add]
    refine ⟨vF, pk_le (h - pp_ k + pu_ k) 16 (fun b => ?_) (fun b => ?_)⟩
    · rw [if_neg (by omega)] at H H0
      refine yw_word 0 hF hh h16 (by decide) (yw_word 2 hF hh h16 (by decide) ?_)
      -- the two tails
      have K1 : (k = 23 ∨ k = 24 ∨ k = 35 ∨ (k = 32 ∧ yu_word v F h 2 ≠ 0)) → zy_failure_101 post (nI F) (nI k) (yu_word v F h 0) v := by
        intro hw
        rw [ey_failure_101, ey_failure_106, nu_m10, nu_a4, nI_clamp (n := F * 10 + 4) (by omega), hz]
        refine ⟨vp_in_nI (by omega) (by decide), br_c (fun y => br_f (by decide) ?_) (fun y => ?_)⟩
        · rw [if_pos ⟨by rw [y]; decide, hw⟩] at H
          exact H (by decide)
        · have y0 : z = 0 := hz2.elim id (fun e => absurd e y)
          rw [if_neg (fun e => e.1 y0)] at H H0
          refine yw_f131 hk (fun e => ?_) (fun e => ?_)
          · rw [if_pos e] at H; exact H (by decide)
          · rw [if_neg e] at H0; exact H0 rfl
      have K2 : ¬ (k = 23 ∨ k = 24 ∨ k = 35 ∨ (k = 32 ∧ yu_word v F h 2 ≠ 0)) → zy_failure_105 post (nI F) (nI k) (yu_word v F h 0) v := by
        intro hw
        rw [if_neg (fun e => hw e.2)] at H H0
        have L : zy_failure_131 post (nI F) (nI k) (yu_word v F h 0) v := by
          refine yw_f131 hk (fun e => ?_) (fun e => ?_)
          · rw [if_pos e] at H; exact H (by decide)
          · rw [if_neg e] at H0; exact H0 rfl
        rw [ey_failure_105, ey_failure_106, nu_m10, nu_a4, nI_clamp (n := F * 10 + 4) (by omega), hz]
        exact ⟨vp_in_nI (by omega) (by decide), br_c (fun y => br_t rfl L) (fun y => L)⟩
      refine pk_eq k 23 (fun e => K1 (Or.inl e)) (fun e1 => pk_eq k 24 (fun e => K1 (Or.inr (Or.inl e))) (fun e2 => pk_eq k 35 (fun e => K1 (Or.inr (Or.inr (Or.inl e)))) (fun e3 => pk_eq k 32 (fun e => br_c (fun x => K2 ?_) (fun x => K1 (Or.inr (Or.inr (Or.inr ⟨e, x⟩))))) (fun e4 => K2 ?_))))
      · exact fun t => t.elim e1 (fun t => t.elim e2 (fun t => t.elim e3 (fun t => t.2 x)))
      · exact fun t => t.elim e1 (fun t => t.elim e2 (fun t => t.elim e3 (fun t => e4 t.1)))
    · rw [if_pos (by omega)] at H; exact H (by decide)
  · rw [if_pos (by omega)] at H; exact H (by decide)
def mc_ (n m : Nat) : Nat := 1 + (n + n * n / 8) - (m + m * m / 8)
theorem mc_ge {n m : Nat} (h : m ≤ n) : 1 ≤ mc_ n m := by
  have := Nat.div_le_div_right (c := 8) (Nat.mul_le_mul h h)
  unfold mc_
  omega
theorem mc_le {n m : Nat} (h : n ≤ 16) : mc_ n m ≤ 1000 := by
  have := Nat.div_le_div_right (c := 8) (Nat.mul_le_mul h h)
  unfold mc_
  omega
theorem mc_eq {n m : Nat} (hm : m ≤ n) (hn : n ≤ 16) : (1 + (nI n + nI n * nI n / 8)) - (nI m + nI m * nI m / 8) = nI (mc_ n m) := by
  have e1 : n * n ≤ 16 * 16 := Nat.mul_le_mul hn hn
  have e2 : m * m ≤ n * n := Nat.mul_le_mul hm hm
  have e3 := Nat.div_le_div_right (c := 8) e2
  rw [pk_mul, pk_mul, show nI (n * n) / 8 = nI (n * n / 8) from pk_div (d := 8) (by omega) (by decide) (by decide), show nI (m * m) / 8 = nI (m * m / 8) from pk_div (d := 8) (by omega) (by decide) (by decide), nI_add, nI_add, show 1 + nI (n + n * n / 8) = nI (1 + (n + n * n / 8)) from nI_add 1 _, pk_sub (by omega)]
  rfl
theorem and3 (x : Int32) : ∃ j, j < 4 ∧ x &&& 3 = nI j := pk_andE x 2 (by decide)
theorem cost_both {u : SX} {v : SY} {f F h k m s : Nat} (hf : f < 8) (hF : F < 32) (hh : xg_frHeight u f = nI h) (hh' : yg_height v F = nI h) (h16 : h ≤ 16) (hk : k < 38) (hm : xg_frMemSize u f = nI m) (hm' : yg_memorySize v F = nI m) (m16 : m ≤ 16)
    (hs : xg_frSelf u f = nI s) (hs' : yg_rec v (F * 10 + 2) = nI s) (s8 : s < 8) (hw : yg_world v = xg_world u) (hwd : ∀ j, j < 3 → yu_word v F h j = xu_word u f h j) (ho : k = 19 ∨ k = 20 → ∃ o, o < 16 ∧ xu_word u f h 0 = nI o) :
    ∃ c : Nat, c ≤ 1000 ∧ (k ≠ 0 → k ≠ 36 → k ≠ 37 → 1 ≤ c) ∧ (∀ post : Int32 → Prop, post (nI c) → wpX_costOf post u (nI f) (nI k)) ∧ (∀ post : Int32 → Prop, post (nI c) → wpY_cost post v (nI F) (nI k)) := by
  have v8 := vp_in_nI hf (N := 8) (by decide)
  have vF := vp_in_nI hF (N := 32) (by decide)
  -- Y's head
  have HY : ∀ post : Int32 → Prop, ((xu_word u f h 0 < nI m → zy_cost_45 post (nI F) (nI k) (xu_word u f h 0) (xu_word u f h 1) (xu_word u f h 2) (nI m) (nI m) v) ∧ (¬ xu_word u f h 0 < nI m → zy_cost_45 post (nI F) (nI k) (xu_word u f h 0) (xu_word u f h 1) (xu_word u f h 2) (nI m) (xu_word u f h 0 + 1) v)) → wpY_cost post v (nI F) (nI k) := by
    intro post H
    rw [ey_cost]
    refine yw_word 0 hF hh' h16 (by decide) (yw_word 1 hF hh' h16 (by decide) (yw_word 2 hF hh' h16 (by decide) ?_))
    rw [nI_clamp (n := F) (by omega), hm', hwd 0 (by omega), hwd 1 (by omega), hwd 2 (by omega)]
    exact ⟨vF, nm_e H⟩
  by_cases k1920 : k = 19 ∨ k = 20
  · obtain ⟨o, o16, eo⟩ := ho k1920
    by_cases hmo : o < m
    · refine ⟨1, by omega, fun _ _ _ => by omega, fun post H => ?_, fun post H => ?_⟩
      · refine xw_cost hk (fun _ => ?_) (fun e => by omega) (fun e => by omega) (fun e => by omega)
        rw [ex_costOf_176, ex_memoryCost]
        refine xw_peek 0 hf hh h16 (by decide) ?_
        rw [nI_clamp (n := f) (by omega), hm, eo, nI_1]
        exact ⟨v8, nm_e (nm_e (br_f (nI_nlt (by omega) (by omega)) H))⟩
      · refine HY post (br_t (by rw [eo]; exact nI_lt hmo (by omega)) ?_)
        refine yw_cost45 hk (fun _ => ?_) (fun e => by omega) (fun e => by omega) (fun e => by omega)
        rw [ey_cost_107, mc_eq (Nat.le_refl _) m16]
        have e1 : mc_ m m = 1 := by unfold mc_; omega
        rw [e1]
        exact ⟨by decide, by decide, H⟩
    · refine ⟨mc_ (o + 1) m, mc_le (by omega), fun _ _ _ => mc_ge (by omega), fun post H => ?_, fun post H => ?_⟩
      · refine xw_cost hk (fun _ => ?_) (fun e => by omega) (fun e => by omega) (fun e => by omega)
        rw [ex_costOf_176, ex_memoryCost]
        refine xw_peek 0 hf hh h16 (by decide) ?_
        rw [nI_clamp (n := f) (by omega), hm, eo, nI_1]
        refine ⟨v8, nm_e (nm_e (br_t (nI_lt (by omega) (by omega)) ⟨by decide, nm_e ⟨by decide, nm_e ?_⟩⟩))⟩
        rw [mc_eq (by omega) (by omega)]
        exact H
      · refine HY post (br_f (by rw [eo]; exact nI_nlt (by omega) (by omega)) ?_)
        refine yw_cost45 hk (fun _ => ?_) (fun e => by omega) (fun e => by omega) (fun e => by omega)
        rw [ey_cost_107, eo, nI_1, mc_eq (by omega) (by omega)]
        exact ⟨by decide, by decide, H⟩
  · by_cases k23 : k = 23
    · obtain ⟨j, j4, ej⟩ := and3 (xu_word u f h 0)
      by_cases hc : xg_world u (s * 6 + 2 + j) = 0 ∧ xu_word u f h 1 ≠ 0
      · refine ⟨20, by omega, fun _ _ _ => by omega, fun post H => ?_, fun post H => ?_⟩
        · refine xw_cost hk (fun e => absurd e k1920) (fun _ => ?_) (fun e => by omega) (fun e => by omega)
          rw [ex_storeCost]
          refine xw_peek 0 hf hh h16 (by decide) (xw_peek 1 hf hh h16 (by decide) ?_)
          rw [nI_clamp (n := f) (by omega), hs, ej, nu_m6, nu_a2, nI_add, nI_clamp (n := s * 6 + 2 + j) (by omega)]
          exact ⟨v8, vp_in_nI (by omega) (by decide), nm_e (br_t hc.1 (br_f hc.2 H))⟩
        · have Y : ∀ z0, zy_cost_45 post (nI F) (nI k) (xu_word u f h 0) (xu_word u f h 1) (xu_word u f h 2) (nI m) z0 v := by
            intro z0
            refine yw_cost45 hk (fun e => absurd e k1920) (fun _ => ?_) (fun e => by omega) (fun e => by omega)
            rw [nu_m10, nu_a2 (F * 10), nI_clamp (n := F * 10 + 2) (by omega), hs', ej, nu_m6, nu_a2, nI_add, nI_clamp (n := s * 6 + 2 + j) (by omega), hw]
            exact ⟨vp_in_nI (by omega) (by decide), vp_in_nI (by omega) (by decide), br_t hc.1 (br_f hc.2 H)⟩
          exact HY post ⟨fun _ => Y _, fun _ => Y _⟩
      · refine ⟨10, by omega, fun _ _ _ => by omega, fun post H => ?_, fun post H => ?_⟩
        · refine xw_cost hk (fun e => absurd e k1920) (fun _ => ?_) (fun e => by omega) (fun e => by omega)
          rw [ex_storeCost]
          refine xw_peek 0 hf hh h16 (by decide) (xw_peek 1 hf hh h16 (by decide) ?_)
          rw [nI_clamp (n := f) (by omega), hs, ej, nu_m6, nu_a2, nI_add, nI_clamp (n := s * 6 + 2 + j) (by omega)]
          exact ⟨v8, vp_in_nI (by omega) (by decide), nm_e (br_c (fun z => br_c (fun _ => H) (fun y => absurd ⟨z, y⟩ hc)) (fun _ => H))⟩
        · have Y : ∀ z0, zy_cost_45 post (nI F) (nI k) (xu_word u f h 0) (xu_word u f h 1) (xu_word u f h 2) (nI m) z0 v := by
            intro z0
            refine yw_cost45 hk (fun e => absurd e k1920) (fun _ => ?_) (fun e => by omega) (fun e => by omega)
            rw [nu_m10, nu_a2 (F * 10), nI_clamp (n := F * 10 + 2) (by omega), hs', ej, nu_m6, nu_a2, nI_add, nI_clamp (n := s * 6 + 2 + j) (by omega), hw]
            exact ⟨vp_in_nI (by omega) (by decide), vp_in_nI (by omega) (by decide), br_c (fun z => br_c (fun _ => H) (fun y => absurd ⟨z, y⟩ hc)) (fun _ => H)⟩
          exact HY post ⟨fun _ => Y _, fun _ => Y _⟩
    · by_cases k32 : k = 32
      · by_cases hc : xu_word u f h 2 = 0
        · refine ⟨20, by omega, fun _ _ _ => by omega, fun post H => ?_, fun post H => ?_⟩
          · refine xw_cost hk (fun e => absurd e k1920) (fun e => absurd e k23) (fun _ => ?_) (fun e => by omega)
            rw [ex_callCost]
            exact xw_peek 2 hf hh h16 (by decide) (br_t hc H)
          · have Y : ∀ z0, zy_cost_45 post (nI F) (nI k) (xu_word u f h 0) (xu_word u f h 1) (xu_word u f h 2) (nI m) z0 v := by
              intro z0
              exact yw_cost45 hk (fun e => absurd e k1920) (fun e => absurd e k23) (fun _ => br_t hc H) (fun e => by omega)
            exact HY post ⟨fun _ => Y _, fun _ => Y _⟩
        · refine ⟨30, by omega, fun _ _ _ => by omega, fun post H => ?_, fun post H => ?_⟩
          · refine xw_cost hk (fun e => absurd e k1920) (fun e => absurd e k23) (fun _ => ?_) (fun e => by omega)
            rw [ex_callCost]
            exact xw_peek 2 hf hh h16 (by decide) (br_f hc H)
          · have Y : ∀ z0, zy_cost_45 post (nI F) (nI k) (xu_word u f h 0) (xu_word u f h 1) (xu_word u f h 2) (nI m) z0 v := by
              intro z0
              exact yw_cost45 hk (fun e => absurd e k1920) (fun e => absurd e k23) (fun _ => br_f hc H) (fun e => by omega)
            exact HY post ⟨fun _ => Y _, fun _ => Y _⟩
      · refine ⟨ct_ k, by have := (pp_le k hk).2.2; omega, fun h0 h1 h2 => ct_pos k hk h0 h1 h2 (by omega) (by omega) k23 k32, fun post H => ?_, fun post H => ?_⟩
        · exact xw_cost hk (fun e => absurd e k1920) (fun e => absurd e k23) (fun e => absurd e k32) (fun _ => H)
        · have Y : ∀ z0, zy_cost_45 post (nI F) (nI k) (xu_word u f h 0) (xu_word u f h 1) (xu_word u f h 2) (nI m) z0 v := by
            intro z0
            exact yw_cost45 hk (fun e => absurd e k1920) (fun e => absurd e k23) (fun e => absurd e k32) (fun _ => H)
          exact HY post ⟨fun _ => Y _, fun _ => Y _⟩
end
section
theorem xq_frHeight_frHeight (z : Nat → Int32) (u : SX) : xg_frHeight (xs_frHeight z u) = z := id rfl
theorem xq_stack_frHeight (z : Nat → Int32) (u : SX) : xg_stack (xs_frHeight z u) = xg_stack u := id rfl
/-! the instructions that only touch the running frame, the world's storage and the logs -/
def Ou (G T A D B N : Nat) (WX : (SX → Prop) → Prop) (WY : (SY → Prop) → Prop) : Prop := ∃ (M d N' : Nat) (q : Nat → Nat) (u : SX) (v : SY), M < B ∧ N ≤ N' ∧ Qr G T A D M d N' q u v ∧ (∀ post : SX → Prop, post u → WX post) ∧ (∀ post : SY → Prop, post v → WY post)
theorem xu_hh (f a b : Nat) (u : SX) : xu_hgt f a (xu_hgt f b u) = xu_hgt f a u := by
  show xs_frHeight (upd (upd (xg_frHeight u) f (nI b)) f (nI a)) u = xs_frHeight (upd (xg_frHeight u) f (nI a)) u
  rw [nu_uu]
theorem xs_hself (u : SX) : xs_frHeight (xg_frHeight u) u = u := rfl
theorem xu_self {f h : Nat} {u : SX} (hh : xg_frHeight u f = nI h) : xu_hgt f h u = u := by
  unfold xu_hgt
  rw [nu_self hh, xs_hself]
theorem xw_pop' {post : Int32 → SX → Prop} {u : SX} {f h : Nat} (hf : f < 8) (h16 : h < 16) (H : post (xg_stack u (f * 16 + h)) (xu_hgt f h u)) : wpX_pop post (xu_hgt f (h + 1) u) (nI f) := by
  refine xw_pop hf pk_us h16 ?_
  rw [xu_hh]
  exact H
/-- Y's loop over four cells does nothing for an opcode above 4 -/
theorem yt_1 {post : SY → Prop} {v : SY} {c l p i n : Nat} {x1 x3 x5 x9 x10 : Int32} (hc : c < 8) (hl : yg_length v c = nI l) (l32 : l ≤ 32) (hp : p ≤ 40) (hi : i ≤ 4) (h4 : 4 < x5) (H : zy_step_306 post x1 (nI c) x3 (nI p) x5 x9 x10 n (nI (i + 1)) v) : zy_step_306 post x1 (nI c) x3 (nI p) x5 x9 x10 (n + 1) (nI i) v := by
  rw [ey_step_306]
  refine br_f (nI_nlt (b := i) (a := 4) hi (by decide)) ?_
  rw [nI_add, nI_1]
  exact yw_cell hc hl l32 (by omega) (br_t h4 (nm_e H))
theorem yt_loop {post : SY → Prop} {v : SY} {c l p : Nat} {x1 x3 x5 x9 x10 : Int32} (hc : c < 8) (hl : yg_length v c = nI l) (l32 : l ≤ 32) (hp : p ≤ 40) (h4 : 4 < x5) (H : zy_step_306 post x1 (nI c) x3 (nI p) x5 x9 x10 (0 + 1) 5 v) : ∃ n, zy_step_306 post x1 (nI c) x3 (nI p) x5 x9 x10 n 1 v :=
  ⟨5, yt_1 (i := 1) hc hl l32 hp (by omega) h4 (yt_1 (i := 2) hc hl l32 hp (by omega) h4 (yt_1 (i := 3) hc hl l32 hp (by omega) h4 (yt_1 (i := 4) hc hl l32 hp (by omega) h4 H)))⟩
theorem yt_255 {post : SY → Prop} {v : SY} {c l p : Nat} {x1 x3 x5 x9 x10 : Int32} (hc : c < 8) (hl : yg_length v c = nI l) (l32 : l ≤ 32) (hp : p ≤ 40) (h4 : 4 < x5) (h17 : ¬ x5 = 17) (h18 : ¬ x5 = 18) (H : zy_step_306 post x1 (nI c) x3 (nI p) x5 x9 x10 (0 + 1) 5 v) : zy_step_255 post x1 (nI c) x3 (nI p) x5 x9 x10 v := by
  rw [ey_step_255]
  exact br_f h17 (br_f h18 (yt_loop hc hl l32 hp h4 H))
theorem yt_226 {post : SY → Prop} {v : SY} {x1 x2 x3 x4 x5 x9 x10 x11 x12 : Int32} (h : x5 < 32 ∨ ¬ x5 < 32 ∧ 35 < x5) (H : zy_step_255 post x1 x2 x3 x4 x5 x9 x10 v) : zy_step_226 post x1 x2 x3 x4 x5 x9 x10 x11 x12 v := by
  rw [ey_step_226]
  rcases h with h | ⟨h, h2⟩
  · exact br_t h H
  · exact br_f h (br_t h2 H)
section
variable {G T A D M f N B t c l p : Nat} {q : Nat → Nat} {u : SX} {v : SY} {x3 x9 x10 x11 x12 : Int32}
theorem Q_f8 (Q : Qr G T A D M (f + 1) N q u v) : f < 8 := by
  have h1 := Q.2.1.2.1.2.1
  have h2 := Q.2.2.2.2.1.1
  omega
theorem Q_q32 (Q : Qr G T A D M (f + 1) N q u v) : q f < 32 := by
  have h1 := Q.2.2.2.2.2.2.1.2.1 f (by omega)
  have h2 := Q.2.2.2.2.2.1.1
  omega
theorem Q_len {d : Nat} (Q : Qr G T A D M d N q u v) (hc : c < 8) : ∃ l, l ≤ 32 ∧ xg_lengths u c = nI l ∧ yg_length v c = nI l := by
  obtain ⟨l, l32, e⟩ := Q.2.1.2.2.2 c hc
  exact ⟨l, l32, e, by rw [Q.1.2.2.2.2.2.2.2.2.2.2.1]; exact e⟩
/-- a plain instruction's tail on Y's side -/
theorem yt_all {post : SY → Prop} {d : Nat} {x1 x5 : Int32} (Q : Qr G T A D M d N q u v) (hc : c < 8) (hp : p ≤ 40) (h4 : 4 < x5) (h17 : ¬ x5 = 17) (h18 : ¬ x5 = 18) (h : x5 < 32 ∨ ¬ x5 < 32 ∧ 35 < x5) (H : zy_step_306 post x1 (nI c) x3 (nI p) x5 x9 x10 (0 + 1) 5 v) : zy_step_226 post x1 (nI c) x3 (nI p) x5 x9 x10 x11 x12 v := by
  obtain ⟨l, l32, _, e⟩ := Q_len Q hc
  exact yt_226 h (yt_255 hc e l32 hp h4 h17 h18 H)
/-- one word pushed behind the pops -/
theorem op_push {WX : (SX → Prop) → Prop} {WY : (SY → Prop) → Prop} (Q : Qr G T A D M (f + 1) N q u v) {h : Nat} (hh : xg_frHeight u f = nI h) (h16 : h ≤ 16) (ht : t ≤ h) (t16 : t < 16) (hB : M < B) (w : Int32)
    (hX : ∀ post : SX → Prop, wpX_push post (xu_hgt f t u) (nI f) w → WX post) (hY : ∀ post : SY → Prop, wpY_push post (yu_hgt (q f) t v) (nI (q f)) w → WY post) : Ou G T A D B N WX WY :=
  ⟨M, f + 1, N, q, _, _, hB, Nat.le_refl _, Q_push (Q_hgt Q hh h16 ht) w pk_us t16, fun post H => hX post (xw_push (Q_f8 Q) pk_us t16 H), fun post H => hY post (yw_push (Q_q32 Q) pk_us t16 H)⟩
theorem op_5 (Q : Qr G T A D M (f + 1) N q u v) (hh : xg_frHeight u f = nI (t + 1)) (h16 : t + 1 ≤ 16) (hc : c < 8) (hp : p ≤ 40) (hB : M < B) : Ou G T A D B N (fun post => wpX_execute post u (nI f) 5) (fun post => zy_step_226 post (nI (q f)) (nI c) x3 (nI p) 5 (xg_stack u (f * 16 + t)) x10 x11 x12 (yu_hgt (q f) t v)) := by
  refine ⟨M, f + 1, N, q, _, _, hB, Nat.le_refl _, Q_hgt Q hh h16 (k := t) (by omega), fun post H => xd_5 ?_, fun post H => yt_all (Q_hgt Q hh h16 (by omega)) hc hp (by decide) (by decide) (by decide) (Or.inl (by decide)) (yd_5 H)⟩
  rw [nI_clamp (n := f) (by have := Q_f8 Q; omega), hh, nI_pred]
  exact ⟨vp_in_nI (Q_f8 Q) (by decide), vp_in_nI (Q_f8 Q) (by decide), nm_e H⟩
theorem xm_self2 (A B : Nat → Int32) (u : SX) : xm_frHeight_stack B (xg_stack u) (xs_frHeight A u) = xs_frHeight B u := by
  obtain ⟨aa0, aa1, aa2, aa3, aa4, aa5, aa6, aa7, aa8, aa9, aa10, aa11, aa12, aa13, aa14, aa15, aa16, aa17, aa18, aa19, aa20, aa21, aa22, aa23, aa24, aa25, aa26, aa27, aa28, aa29, aa30, aa31, aa32, aa33⟩ := u
  dsimp only [xm_frHeight_stack, xs_frHeight, xg_stack]
theorem xu_top1 {h : Nat} : xu_push f (xg_stack u (f * 16 + h)) h (xu_hgt f h u) = xu_hgt f (h + 1) u := by
  unfold xu_push xu_hgt
  rw [xq_frHeight_frHeight, xq_stack_frHeight, nu_uu, nu_self rfl]
  exact xm_self2 _ _ u
theorem xu_top {h : Nat} (hh : xg_frHeight u f = nI (h + 1)) : xu_push f (xg_stack u (f * 16 + h)) h (xu_hgt f h u) = u := by
  rw [xu_top1, xu_self hh]
theorem xu_top2 {h : Nat} (hh : xg_frHeight u f = nI (h + 2)) : xu_push f (xg_stack u (f * 16 + (h + 1))) (h + 1) (xu_push f (xg_stack u (f * 16 + h)) h (xu_hgt f h u)) = u := by
  rw [xu_top1, xu_top1, xu_self hh]
theorem op_6 (Q : Qr G T A D M (f + 1) N q u v) (hh : xg_frHeight u f = nI (t + 1)) (h16 : t + 1 ≤ 16) (hc : c < 8) (hp : p ≤ 40) (hB : M < B) (h15 : t + 1 < 16) : Ou G T A D B N (fun post => wpX_execute post u (nI f) 6) (fun post => zy_step_226 post (nI (q f)) (nI c) x3 (nI p) 6 (xg_stack u (f * 16 + t)) x10 x11 x12 (yu_hgt (q f) t v)) := by
  have Q1 := Q_push (Q_hgt Q hh h16 (k := t) (by omega)) (xg_stack u (f * 16 + t)) pk_us (by omega)
  have Q2 := Q_push Q1 (xg_stack u (f * 16 + t)) (h := t + 1) pk_us h15
  refine ⟨M, f + 1, N, q, _, _, hB, Nat.le_refl _, Q2, fun post H => xd_6 (xw_peek 0 (Q_f8 Q) hh h16 (by decide) ?_), fun post H => yt_all (Q_hgt Q hh h16 (by omega)) hc hp (by decide) (by decide) (by decide) (Or.inl (by decide)) (yd_6 (yw_push (Q_q32 Q) pk_us (by omega) (yw_push (Q_q32 Q) pk_us h15 H)))⟩
  rw [xu_top hh] at H
  have e : xu_word u f (t + 1) 0 = xg_stack u (f * 16 + t) := if_pos (by omega)
  rw [e]
  exact xw_push (Q_f8 Q) hh h15 H
theorem op_7 (Q : Qr G T A D M (f + 1) N q u v) (hh : xg_frHeight u f = nI (t + 2)) (h16 : t + 2 ≤ 16) (hc : c < 8) (hp : p ≤ 40) (hB : M < B) (h15 : t + 2 < 16) : Ou G T A D B N (fun post => wpX_execute post u (nI f) 7) (fun post => zy_step_226 post (nI (q f)) (nI c) x3 (nI p) 7 (xg_stack u (f * 16 + (t + 1))) (xg_stack u (f * 16 + t)) x11 x12 (yu_hgt (q f) t v)) := by
  have Q1 := Q_push (Q_hgt Q hh h16 (k := t) (by omega)) (xg_stack u (f * 16 + t)) pk_us (by omega)
  have Q2 := Q_push Q1 (xg_stack u (f * 16 + (t + 1))) (h := t + 1) pk_us (by omega)
  have Q3 := Q_push Q2 (xg_stack u (f * 16 + t)) (h := t + 2) pk_us h15
  refine ⟨M, f + 1, N, q, _, _, hB, Nat.le_refl _, Q3, fun post H => xd_7 (xw_peek 1 (Q_f8 Q) hh h16 (by decide) ?_), fun post H => yt_all (Q_hgt Q hh h16 (by omega)) hc hp (by decide) (by decide) (by decide) (Or.inl (by decide)) (yd_7 (yw_push (Q_q32 Q) pk_us (by omega) (yw_push (Q_q32 Q) pk_us (by omega) (yw_push (Q_q32 Q) pk_us h15 H))))⟩
  rw [xu_top2 hh] at H
  have e : xu_word u f (t + 2) 1 = xg_stack u (f * 16 + t) := if_pos (by omega)
  rw [e]
  exact xw_push (Q_f8 Q) hh h15 H
theorem op_8 (Q : Qr G T A D M (f + 1) N q u v) (hh : xg_frHeight u f = nI (t + 2)) (h16 : t + 2 ≤ 16) (hc : c < 8) (hp : p ≤ 40) (hB : M < B) : Ou G T A D B N (fun post => wpX_execute post u (nI f) 8) (fun post => zy_step_226 post (nI (q f)) (nI c) x3 (nI p) 8 (xg_stack u (f * 16 + (t + 1))) (xg_stack u (f * 16 + t)) x11 x12 (yu_hgt (q f) t v)) := by
  have Q1 := Q_push (Q_hgt Q hh h16 (k := t) (by omega)) (xg_stack u (f * 16 + (t + 1))) pk_us (by omega)
  have Q2 := Q_push Q1 (xg_stack u (f * 16 + t)) (h := t + 1) pk_us (by omega)
  refine ⟨M, f + 1, N, q, _, _, hB, Nat.le_refl _, Q2, fun post H => xd_8 ?_, fun post H => yt_all (Q_hgt Q hh h16 (by omega)) hc hp (by decide) (by decide) (by decide) (Or.inl (by decide)) (yd_8 (yw_push (Q_q32 Q) pk_us (by omega) (yw_push (Q_q32 Q) pk_us (by omega) H)))⟩
  exact xw_pop (Q_f8 Q) hh (by omega) (xw_pop' (Q_f8 Q) (by omega) (xw_push (Q_f8 Q) pk_us (by omega) (xw_push (Q_f8 Q) pk_us (by omega) H)))
theorem op_9 (Q : Qr G T A D M (f + 1) N q u v) (hh : xg_frHeight u f = nI (t + 2)) (h16 : t + 2 ≤ 16) (hc : c < 8) (hp : p ≤ 40) (hB : M < B) : Ou G T A D B N (fun post => wpX_execute post u (nI f) 9) (fun post => zy_step_226 post (nI (q f)) (nI c) x3 (nI p) 9 (xg_stack u (f * 16 + (t + 1))) (xg_stack u (f * 16 + t)) x11 x12 (yu_hgt (q f) t v)) := by
  refine op_push Q hh h16 (t := t) (by omega) (by omega) hB (xg_stack u (f * 16 + t) + xg_stack u (f * 16 + (t + 1))) (fun post H => xd_9 ?_) (fun post H => yt_all (Q_hgt Q hh h16 (by omega)) hc hp (by decide) (by decide) (by decide) (Or.inl (by decide)) (yd_9 H))
  rw [ex_calculate]
  refine xw_pop (Q_f8 Q) hh (by omega) (br_f (by decide) (xw_pop' (Q_f8 Q) (by omega) ?_))
  rw [ex_binary]
  exact br_f (by decide) (br_f (by decide) (br_t (by decide) (H)))
theorem op_10 (Q : Qr G T A D M (f + 1) N q u v) (hh : xg_frHeight u f = nI (t + 2)) (h16 : t + 2 ≤ 16) (hc : c < 8) (hp : p ≤ 40) (hB : M < B) : Ou G T A D B N (fun post => wpX_execute post u (nI f) 10) (fun post => zy_step_226 post (nI (q f)) (nI c) x3 (nI p) 10 (xg_stack u (f * 16 + (t + 1))) (xg_stack u (f * 16 + t)) x11 x12 (yu_hgt (q f) t v)) := by
  refine op_push Q hh h16 (t := t) (by omega) (by omega) hB (xg_stack u (f * 16 + t) - xg_stack u (f * 16 + (t + 1))) (fun post H => xd_10 ?_) (fun post H => yt_all (Q_hgt Q hh h16 (by omega)) hc hp (by decide) (by decide) (by decide) (Or.inl (by decide)) (yd_10 H))
  rw [ex_calculate]
  refine xw_pop (Q_f8 Q) hh (by omega) (br_f (by decide) (xw_pop' (Q_f8 Q) (by omega) ?_))
  rw [ex_binary]
  exact br_f (by decide) (br_f (by decide) (br_f (by decide) (br_t (by decide) (H))))
theorem op_11 (Q : Qr G T A D M (f + 1) N q u v) (hh : xg_frHeight u f = nI (t + 2)) (h16 : t + 2 ≤ 16) (hc : c < 8) (hp : p ≤ 40) (hB : M < B) : Ou G T A D B N (fun post => wpX_execute post u (nI f) 11) (fun post => zy_step_226 post (nI (q f)) (nI c) x3 (nI p) 11 (xg_stack u (f * 16 + (t + 1))) (xg_stack u (f * 16 + t)) x11 x12 (yu_hgt (q f) t v)) := by
  refine op_push Q hh h16 (t := t) (by omega) (by omega) hB (xg_stack u (f * 16 + t) * xg_stack u (f * 16 + (t + 1))) (fun post H => xd_11 ?_) (fun post H => yt_all (Q_hgt Q hh h16 (by omega)) hc hp (by decide) (by decide) (by decide) (Or.inl (by decide)) (yd_11 H))
  rw [ex_calculate]
  refine xw_pop (Q_f8 Q) hh (by omega) (br_f (by decide) (xw_pop' (Q_f8 Q) (by omega) ?_))
  rw [ex_binary]
  exact br_f (by decide) (br_f (by decide) (br_f (by decide) (br_f (by decide) (br_t (by decide) (H)))))
theorem op_12 (Q : Qr G T A D M (f + 1) N q u v) (hh : xg_frHeight u f = nI (t + 2)) (h16 : t + 2 ≤ 16) (hc : c < 8) (hp : p ≤ 40) (hB : M < B) : Ou G T A D B N (fun post => wpX_execute post u (nI f) 12) (fun post => zy_step_226 post (nI (q f)) (nI c) x3 (nI p) 12 (xg_stack u (f * 16 + (t + 1))) (xg_stack u (f * 16 + t)) x11 x12 (yu_hgt (q f) t v)) := by
  by_cases z : xg_stack u (f * 16 + (t + 1)) = 0
  · refine op_push Q hh h16 (t := t) (by omega) (by omega) hB 0 (fun post H => xd_12 ?_) (fun post H => yt_all (Q_hgt Q hh h16 (by omega)) hc hp (by decide) (by decide) (by decide) (Or.inl (by decide)) (yd_12 (br_t z (by rw [ey_step_651]; exact H))))
    rw [ex_calculate]
    refine xw_pop (Q_f8 Q) hh (by omega) (br_f (by decide) (xw_pop' (Q_f8 Q) (by omega) ?_))
    rw [ex_binary]
    exact br_f (by decide) (br_f (by decide) (br_f (by decide) (br_f (by decide) (br_f (by decide) (br_t (by decide) (br_t z H))))))
  · refine op_push Q hh h16 (t := t) (by omega) (by omega) hB (xg_stack u (f * 16 + t) / xg_stack u (f * 16 + (t + 1))) (fun post H => xd_12 ?_) (fun post H => yt_all (Q_hgt Q hh h16 (by omega)) hc hp (by decide) (by decide) (by decide) (Or.inl (by decide)) (yd_12 (br_f z ⟨z, by rw [ey_step_651]; exact H⟩)))
    rw [ex_calculate]
    refine xw_pop (Q_f8 Q) hh (by omega) (br_f (by decide) (xw_pop' (Q_f8 Q) (by omega) ?_))
    rw [ex_binary]
    exact br_f (by decide) (br_f (by decide) (br_f (by decide) (br_f (by decide) (br_f (by decide) (br_t (by decide) (br_f z ⟨z, H⟩))))))
theorem op_13 (Q : Qr G T A D M (f + 1) N q u v) (hh : xg_frHeight u f = nI (t + 2)) (h16 : t + 2 ≤ 16) (hc : c < 8) (hp : p ≤ 40) (hB : M < B) : Ou G T A D B N (fun post => wpX_execute post u (nI f) 13) (fun post => zy_step_226 post (nI (q f)) (nI c) x3 (nI p) 13 (xg_stack u (f * 16 + (t + 1))) (xg_stack u (f * 16 + t)) x11 x12 (yu_hgt (q f) t v)) := by
  by_cases z : xg_stack u (f * 16 + (t + 1)) ≤ xg_stack u (f * 16 + t)
  · refine op_push Q hh h16 (t := t) (by omega) (by omega) hB 0 (fun post H => xd_13 ?_) (fun post H => yt_all (Q_hgt Q hh h16 (by omega)) hc hp (by decide) (by decide) (by decide) (Or.inl (by decide)) (yd_13 (br_t z (by rw [ey_step_671]; exact H))))
    rw [ex_calculate]
    refine xw_pop (Q_f8 Q) hh (by omega) (br_f (by decide) (xw_pop' (Q_f8 Q) (by omega) ?_))
    rw [ex_binary]
    exact br_f (by decide) (br_f (by decide) (br_f (by decide) (br_f (by decide) (br_f (by decide) (br_f (by decide) (br_t (by decide) (br_t z H)))))))
  · refine op_push Q hh h16 (t := t) (by omega) (by omega) hB 1 (fun post H => xd_13 ?_) (fun post H => yt_all (Q_hgt Q hh h16 (by omega)) hc hp (by decide) (by decide) (by decide) (Or.inl (by decide)) (yd_13 (br_f z (by rw [ey_step_671]; exact H))))
    rw [ex_calculate]
    refine xw_pop (Q_f8 Q) hh (by omega) (br_f (by decide) (xw_pop' (Q_f8 Q) (by omega) ?_))
    rw [ex_binary]
    exact br_f (by decide) (br_f (by decide) (br_f (by decide) (br_f (by decide) (br_f (by decide) (br_f (by decide) (br_t (by decide) (br_f z H)))))))
theorem op_14 (Q : Qr G T A D M (f + 1) N q u v) (hh : xg_frHeight u f = nI (t + 2)) (h16 : t + 2 ≤ 16) (hc : c < 8) (hp : p ≤ 40) (hB : M < B) : Ou G T A D B N (fun post => wpX_execute post u (nI f) 14) (fun post => zy_step_226 post (nI (q f)) (nI c) x3 (nI p) 14 (xg_stack u (f * 16 + (t + 1))) (xg_stack u (f * 16 + t)) x11 x12 (yu_hgt (q f) t v)) := by
  by_cases z : xg_stack u (f * 16 + t) = xg_stack u (f * 16 + (t + 1))
  · refine op_push Q hh h16 (t := t) (by omega) (by omega) hB 1 (fun post H => xd_14 ?_) (fun post H => yt_all (Q_hgt Q hh h16 (by omega)) hc hp (by decide) (by decide) (by decide) (Or.inl (by decide)) (yd_14 (br_t z (by rw [ey_step_691]; exact H))))
    rw [ex_calculate]
    refine xw_pop (Q_f8 Q) hh (by omega) (br_f (by decide) (xw_pop' (Q_f8 Q) (by omega) ?_))
    rw [ex_binary]
    exact br_f (by decide) (br_t (by decide) (br_t z H))
  · refine op_push Q hh h16 (t := t) (by omega) (by omega) hB 0 (fun post H => xd_14 ?_) (fun post H => yt_all (Q_hgt Q hh h16 (by omega)) hc hp (by decide) (by decide) (by decide) (Or.inl (by decide)) (yd_14 (br_f z (by rw [ey_step_691]; exact H))))
    rw [ex_calculate]
    refine xw_pop (Q_f8 Q) hh (by omega) (br_f (by decide) (xw_pop' (Q_f8 Q) (by omega) ?_))
    rw [ex_binary]
    exact br_f (by decide) (br_t (by decide) (br_f z H))
theorem op_15 (Q : Qr G T A D M (f + 1) N q u v) (hh : xg_frHeight u f = nI (t + 1)) (h16 : t + 1 ≤ 16) (hc : c < 8) (hp : p ≤ 40) (hB : M < B) : Ou G T A D B N (fun post => wpX_execute post u (nI f) 15) (fun post => zy_step_226 post (nI (q f)) (nI c) x3 (nI p) 15 (xg_stack u (f * 16 + t)) x10 x11 x12 (yu_hgt (q f) t v)) := by
  by_cases z : xg_stack u (f * 16 + t) = 0
  · refine op_push Q hh h16 (t := t) (by omega) (by omega) hB 1 (fun post H => xd_15 ?_) (fun post H => yt_all (Q_hgt Q hh h16 (by omega)) hc hp (by decide) (by decide) (by decide) (Or.inl (by decide)) (yd_15 (br_t z (by rw [ey_step_709]; exact H))))
    rw [ex_calculate]
    refine xw_pop (Q_f8 Q) hh (by omega) (br_t (by decide) (br_t z ?_))
    rw [ex_calculate_23]
    exact H
  · refine op_push Q hh h16 (t := t) (by omega) (by omega) hB 0 (fun post H => xd_15 ?_) (fun post H => yt_all (Q_hgt Q hh h16 (by omega)) hc hp (by decide) (by decide) (by decide) (Or.inl (by decide)) (yd_15 (br_f z (by rw [ey_step_709]; exact H))))
    rw [ex_calculate]
    refine xw_pop (Q_f8 Q) hh (by omega) (br_t (by decide) (br_f z ?_))
    rw [ex_calculate_23]
    exact H
theorem op_16 (Q : Qr G T A D M (f + 1) N q u v) (hh : xg_frHeight u f = nI t) (h16 : t ≤ 16) (hc : c < 8) (hp : p ≤ 40) (hB : M < B) : Ou G T A D B N (fun post => wpX_execute post u (nI f) 16) (fun post => zy_step_226 post (nI (q f)) (nI c) x3 (nI p) 16 x9 x10 x11 x12 (yu_hgt (q f) t v)) := by
  have Q1 := Q_hgt Q hh h16 (k := t) (by omega)
  refine ⟨M, f + 1, N, q, _, _, hB, Nat.le_refl _, Q1, fun post H => xd_16 ?_, fun post H => yt_all (Q_hgt Q hh h16 (by omega)) hc hp (by decide) (by decide) (by decide) (Or.inl (by decide)) (yd_16 H)⟩
  rw [xu_self hh] at H
  exact H
theorem op_21 (Q : Qr G T A D M (f + 1) N q u v) (hh : xg_frHeight u f = nI t) (h16 : t ≤ 16) (hc : c < 8) (hp : p ≤ 40) (hB : M < B) (h15 : t < 16) : Ou G T A D B N (fun post => wpX_execute post u (nI f) 21) (fun post => zy_step_226 post (nI (q f)) (nI c) x3 (nI p) 21 x9 x10 x11 x12 (yu_hgt (q f) t v)) := by
  refine op_push Q hh h16 (t := t) (by omega) h15 hB (xg_frMemSize u f) (fun post H => xd_21 ?_) (fun post H => yt_all (Q_hgt Q hh h16 (by omega)) hc hp (by decide) (by decide) (by decide) (Or.inl (by decide)) (yd_21 ?_))
  · rw [xu_self hh] at H
    rw [nI_clamp (n := f) (by have := Q_f8 Q; omega)]
    exact ⟨vp_in_nI (Q_f8 Q) (by decide), H⟩
  · rw [nI_clamp (n := q f) (by have := Q_q32 Q; omega)]
    refine ⟨vp_in_nI (Q_q32 Q) (by decide), ?_⟩
    rw [show yg_memorySize (yu_hgt (q f) t v) (q f) = (xg_frMemSize u f) from (Q_lv Q).2.2.2.2.2.2.2.2.1]
    exact H
theorem op_26 (Q : Qr G T A D M (f + 1) N q u v) (hh : xg_frHeight u f = nI t) (h16 : t ≤ 16) (hc : c < 8) (hp : p ≤ 40) (hB : M < B) (h15 : t < 16) : Ou G T A D B N (fun post => wpX_execute post u (nI f) 26) (fun post => zy_step_226 post (nI (q f)) (nI c) x3 (nI p) 26 x9 x10 x11 x12 (yu_hgt (q f) t v)) := by
  refine op_push Q hh h16 (t := t) (by omega) h15 hB (xg_frCaller u f) (fun post H => xd_26 ?_) (fun post H => yt_all (Q_hgt Q hh h16 (by omega)) hc hp (by decide) (by decide) (by decide) (Or.inl (by decide)) (yd_26 ?_))
  · rw [xu_self hh] at H
    rw [nI_clamp (n := f) (by have := Q_f8 Q; omega)]
    exact ⟨vp_in_nI (Q_f8 Q) (by decide), nm_e (by rw [ex_pushFact_106]; exact H)⟩
  · rw [nI_clamp (n := q f) (by have := Q_q32 Q; omega)]
    refine ⟨vp_in_nI (Q_q32 Q) (by decide), ?_⟩
    rw [show yg_callerOf (yu_hgt (q f) t v) (q f) = (xg_frCaller u f) from (Q_lv Q).2.2.2.2.2.2.2.2.2.2.2.2.2.2.2.2.2.2.2.2.2.1]
    exact H
theorem op_27 (Q : Qr G T A D M (f + 1) N q u v) (hh : xg_frHeight u f = nI t) (h16 : t ≤ 16) (hc : c < 8) (hp : p ≤ 40) (hB : M < B) (h15 : t < 16) : Ou G T A D B N (fun post => wpX_execute post u (nI f) 27) (fun post => zy_step_226 post (nI (q f)) (nI c) x3 (nI p) 27 x9 x10 x11 x12 (yu_hgt (q f) t v)) := by
  refine op_push Q hh h16 (t := t) (by omega) h15 hB (xg_frValue u f) (fun post H => xd_27 ?_) (fun post H => yt_all (Q_hgt Q hh h16 (by omega)) hc hp (by decide) (by decide) (by decide) (Or.inl (by decide)) (yd_27 ?_))
  · rw [xu_self hh] at H
    rw [nI_clamp (n := f) (by have := Q_f8 Q; omega)]
    exact ⟨vp_in_nI (Q_f8 Q) (by decide), nm_e (by rw [ex_pushFact_106]; exact H)⟩
  · rw [nI_clamp (n := q f) (by have := Q_q32 Q; omega)]
    refine ⟨vp_in_nI (Q_q32 Q) (by decide), ?_⟩
    rw [show yg_valueOf (yu_hgt (q f) t v) (q f) = (xg_frValue u f) from (Q_lv Q).2.2.2.2.2.2.2.2.2.2.2.2.2.2.2.2.2.2.2.2.2.2.1]
    exact H
theorem op_28 (Q : Qr G T A D M (f + 1) N q u v) (hh : xg_frHeight u f = nI t) (h16 : t ≤ 16) (hc : c < 8) (hp : p ≤ 40) (hB : M < B) (h15 : t < 16) : Ou G T A D B N (fun post => wpX_execute post u (nI f) 28) (fun post => zy_step_226 post (nI (q f)) (nI c) x3 (nI p) 28 x9 x10 x11 x12 (yu_hgt (q f) t v)) := by
  refine op_push Q hh h16 (t := t) (by omega) h15 hB (xg_frInput u f) (fun post H => xd_28 ?_) (fun post H => yt_all (Q_hgt Q hh h16 (by omega)) hc hp (by decide) (by decide) (by decide) (Or.inl (by decide)) (yd_28 ?_))
  · rw [xu_self hh] at H
    rw [nI_clamp (n := f) (by have := Q_f8 Q; omega)]
    exact ⟨vp_in_nI (Q_f8 Q) (by decide), nm_e (by rw [ex_pushFact_106]; exact H)⟩
  · rw [nI_clamp (n := q f) (by have := Q_q32 Q; omega)]
    refine ⟨vp_in_nI (Q_q32 Q) (by decide), ?_⟩
    rw [show yg_inputOf (yu_hgt (q f) t v) (q f) = (xg_frInput u f) from (Q_lv Q).2.2.2.2.2.2.2.2.2.2.2.2.2.2.2.2.2.2.2.2.2.2.2.1]
    exact H
theorem op_30 (Q : Qr G T A D M (f + 1) N q u v) (hh : xg_frHeight u f = nI t) (h16 : t ≤ 16) (hc : c < 8) (hp : p ≤ 40) (hB : M < B) (h15 : t < 16) : Ou G T A D B N (fun post => wpX_execute post u (nI f) 30) (fun post => zy_step_226 post (nI (q f)) (nI c) x3 (nI p) 30 x9 x10 x11 x12 (yu_hgt (q f) t v)) := by
  refine op_push Q hh h16 (t := t) (by omega) h15 hB (xg_frGas u f) (fun post H => xd_30 ?_) (fun post H => yt_all (Q_hgt Q hh h16 (by omega)) hc hp (by decide) (by decide) (by decide) (Or.inl (by decide)) (yd_30 ?_))
  · rw [xu_self hh] at H
    rw [nI_clamp (n := f) (by have := Q_f8 Q; omega)]
    exact ⟨vp_in_nI (Q_f8 Q) (by decide), nm_e (by rw [ex_pushFact_106]; exact H)⟩
  · rw [nI_clamp (n := q f) (by have := Q_q32 Q; omega)]
    refine ⟨vp_in_nI (Q_q32 Q) (by decide), ?_⟩
    rw [show yg_left (yu_hgt (q f) t v) (q f) = (xg_frGas u f) from (Q_lv Q).2.2.2.2.2.2.2.2.2.2.2.2.1]
    exact H
theorem op_31 (Q : Qr G T A D M (f + 1) N q u v) (hh : xg_frHeight u f = nI t) (h16 : t ≤ 16) (hc : c < 8) (hp : p ≤ 40) (hB : M < B) (h15 : t < 16) : Ou G T A D B N (fun post => wpX_execute post u (nI f) 31) (fun post => zy_step_226 post (nI (q f)) (nI c) x3 (nI p) 31 x9 x10 x11 x12 (yu_hgt (q f) t v)) := by
  refine op_push Q hh h16 (t := t) (by omega) h15 hB (xg_frResult u f) (fun post H => xd_31 ?_) (fun post H => yt_all (Q_hgt Q hh h16 (by omega)) hc hp (by decide) (by decide) (by decide) (Or.inl (by decide)) (yd_31 ?_))
  · rw [xu_self hh] at H
    rw [nI_clamp (n := f) (by have := Q_f8 Q; omega)]
    exact ⟨vp_in_nI (Q_f8 Q) (by decide), nm_e (by rw [ex_pushFact_106]; exact H)⟩
  · rw [nI_clamp (n := q f) (by have := Q_q32 Q; omega)]
    refine ⟨vp_in_nI (Q_q32 Q) (by decide), ?_⟩
    rw [show yg_result (yu_hgt (q f) t v) (q f) = (xg_frResult u f) from (Q_lv Q).2.2.2.2.2.2.2.2.2.2.2.2.2.2.2.2.2.2.2.2.2.2.2.2.1]
    exact H
theorem op_25 (Q : Qr G T A D M (f + 1) N q u v) (hh : xg_frHeight u f = nI t) (h16 : t ≤ 16) (hc : c < 8) (hp : p ≤ 40) (hB : M < B) (h15 : t < 16) : Ou G T A D B N (fun post => wpX_execute post u (nI f) 25) (fun post => zy_step_226 post (nI (q f)) (nI c) (xg_frSelf u f) (nI p) 25 x9 x10 x11 x12 (yu_hgt (q f) t v)) := by
  refine op_push Q hh h16 (t := t) (by omega) h15 hB (xg_frSelf u f) (fun post H => xd_25 ?_) (fun post H => yt_all (Q_hgt Q hh h16 (by omega)) hc hp (by decide) (by decide) (by decide) (Or.inl (by decide)) (yd_25 H))
  rw [xu_self hh] at H
  rw [nI_clamp (n := f) (by have := Q_f8 Q; omega)]
  exact ⟨vp_in_nI (Q_f8 Q) (by decide), nm_e (by rw [ex_pushFact_106]; exact H)⟩
theorem op_29 (Q : Qr G T A D M (f + 1) N q u v) (hh : xg_frHeight u f = nI (t + 1)) (h16 : t + 1 ≤ 16) (hc : c < 8) (hp : p ≤ 40) (hB : M < B) : Ou G T A D B N (fun post => wpX_execute post u (nI f) 29) (fun post => zy_step_226 post (nI (q f)) (nI c) x3 (nI p) 29 (xg_stack u (f * 16 + t)) x10 x11 x12 (yu_hgt (q f) t v)) := by
  have hS := Q.1
  have hA := Q.2.1.1.2.2
  have hA8 := Q.2.1.1.2.1
  have hA' : yg_accounts v = nI A := hS.1.trans hA
  have hw : yg_world v = xg_world u := hS.2.2.2.2.2.2.2.2.2.2.2.1
  have hW := Q.2.2.1
  rcases nu_cases (xg_stack u (f * 16 + t)) A (by omega) with ⟨k, kA, ek⟩ | ⟨_, no⟩
  · obtain ⟨b, hb, eb, hT⟩ := Wd_b hW (a := k) (by omega)
    have HY : ∀ post : SY → Prop, wpY_push post (yu_hgt (q f) t v) (nI (q f)) (nI b) → zy_step_226 post (nI (q f)) (nI c) x3 (nI p) 29 (xg_stack u (f * 16 + t)) x10 x11 x12 (yu_hgt (q f) t v) := by
      intro post H
      refine yt_all (Q_hgt Q hh h16 (by omega)) hc hp (by decide) (by decide) (by decide) (Or.inl (by decide)) (yd_29 ?_)
      rw [ek]
      refine yw_balance_t (A := A) hA' hA8 kA ?_
      rw [show yg_world (yu_hgt (q f) t v) (k * 6 + 1) = nI b from (congrFun hw _).trans eb]
      refine br_t (nI_pos' (by omega)) ?_
      rw [ey_step_943]
      exact H
    rcases hW.1.1 k (by omega) with z | ⟨pc, p8, z⟩
    · have b0 : nI b = 0 := eb.symm.trans (hW.1.2.2.1 k (by omega) z)
      rw [b0] at HY
      refine op_push Q hh h16 (t := t) (by omega) (by omega) hB 0 (fun post H => xd_29 ?_) HY
      rw [ex_balanceFor]
      refine xw_pop (Q_f8 Q) hh (by omega) ?_
      rw [ek]
      refine xw_exists_n (A := A) hA hA8 kA z (br_t rfl ?_)
      rw [ex_pushFact_106]
      exact H
    · refine op_push Q hh h16 (t := t) (by omega) (by omega) hB (nI b) (fun post H => xd_29 ?_) HY
      rw [ex_balanceFor]
      refine xw_pop (Q_f8 Q) hh (by omega) ?_
      rw [ek]
      refine xw_exists_t (A := A) hA hA8 kA p8 z (br_f (by decide) ?_)
      rw [nu_m6, nu_a1, nI_clamp (n := k * 6 + 1) (by omega)]
      refine ⟨vp_in_nI (by omega) (by decide), ?_⟩
      rw [show xg_world (xu_hgt f t u) (k * 6 + 1) = nI b from eb, ex_pushFact_106]
      exact H
  · refine op_push Q hh h16 (t := t) (by omega) (by omega) hB 0 (fun post H => xd_29 ?_) (fun post H => yt_all (Q_hgt Q hh h16 (by omega)) hc hp (by decide) (by decide) (by decide) (Or.inl (by decide)) (yd_29 ?_))
    · rw [ex_balanceFor]
      refine xw_pop (Q_f8 Q) hh (by omega) (xw_exists_f (A := A) hA hA8 no (br_t rfl ?_))
      rw [ex_pushFact_106]
      exact H
    · refine yw_balance_f (A := A) hA' hA8 no (br_f (by decide) ?_)
      rw [ey_step_943]
      exact H
theorem op_22 (Q : Qr G T A D M (f + 1) N q u v) (hh : xg_frHeight u f = nI (t + 1)) (h16 : t + 1 ≤ 16) (hc : c < 8) (hp : p ≤ 40) (hB : M < B) {s : Nat} (s8 : s < 8) (es : xg_frSelf u f = nI s) : Ou G T A D B N (fun post => wpX_execute post u (nI f) 22) (fun post => zy_step_226 post (nI (q f)) (nI c) (nI s) (nI p) 22 (xg_stack u (f * 16 + t)) x10 x11 x12 (yu_hgt (q f) t v)) := by
  have hw : yg_world v = xg_world u := Q.1.2.2.2.2.2.2.2.2.2.2.2.1
  obtain ⟨j, j4, ej⟩ := and3 (xg_stack u (f * 16 + t))
  refine op_push Q hh h16 (t := t) (by omega) (by omega) hB (xg_world u (s * 6 + 2 + j)) (fun post H => xd_22 ?_) (fun post H => yt_all (Q_hgt Q hh h16 (by omega)) hc hp (by decide) (by decide) (by decide) (Or.inl (by decide)) (yd_22 ?_))
  · rw [ex_useStorage]
    refine xw_pop (Q_f8 Q) hh (by omega) ?_
    rw [nI_clamp (n := f) (by have := Q_f8 Q; omega), show xg_frSelf (xu_hgt f t u) f = nI s from es, ej, nu_m6, nu_a2, nI_add]
    refine ⟨vp_in_nI (Q_f8 Q) (by decide), nm_e (br_t (by decide) ?_)⟩
    rw [nI_clamp (n := s * 6 + 2 + j) (by omega)]
    exact ⟨vp_in_nI (by omega) (by decide), H⟩
  · rw [ej, nu_m6, nu_a2, nI_add, nI_clamp (n := s * 6 + 2 + j) (by omega)]
    refine ⟨vp_in_nI (by omega) (by decide), ?_⟩
    rw [show yg_world (yu_hgt (q f) t v) (s * 6 + 2 + j) = xg_world u (s * 6 + 2 + j) from congrFun hw _]
    exact H
theorem op_23 (Q : Qr G T A D M (f + 1) N q u v) (hh : xg_frHeight u f = nI (t + 2)) (h16 : t + 2 ≤ 16) (hc : c < 8) (hp : p ≤ 40) (hB : M < B) {s : Nat} (s8 : s < 8) (es : xg_frSelf u f = nI s) : Ou G T A D B N (fun post => wpX_execute post u (nI f) 23) (fun post => zy_step_226 post (nI (q f)) (nI c) (nI s) (nI p) 23 (xg_stack u (f * 16 + (t + 1))) (xg_stack u (f * 16 + t)) x11 x12 (yu_hgt (q f) t v)) := by
  have hw : yg_world v = xg_world u := Q.1.2.2.2.2.2.2.2.2.2.2.2.1
  obtain ⟨j, j4, ej⟩ := and3 (xg_stack u (f * 16 + (t + 1)))
  have Q1 := Q_world (Q_hgt Q hh h16 (k := t) (by omega)) (W := upd (xg_world u) (s * 6 + 2 + j) (xg_stack u (f * 16 + t))) (Wd_store Q.2.2.1 (by omega) (by omega))
  refine ⟨M, f + 1, N, q, _, _, hB, Nat.le_refl _, Q1, fun post H => xd_23 ?_, fun post H => yt_all (Q_hgt Q hh h16 (by omega)) hc hp (by decide) (by decide) (by decide) (Or.inl (by decide)) (yd_23 ?_)⟩
  · rw [ex_useStorage]
    refine xw_pop (Q_f8 Q) hh (by omega) ?_
    rw [nI_clamp (n := f) (by have := Q_f8 Q; omega), show xg_frSelf (xu_hgt f (t + 1) u) f = nI s from es, ej, nu_m6, nu_a2, nI_add]
    refine ⟨vp_in_nI (Q_f8 Q) (by decide), nm_e (br_f (by decide) (xw_pop' (Q_f8 Q) (by omega) ?_))⟩
    rw [nI_clamp (n := s * 6 + 2 + j) (by omega)]
    exact ⟨vp_in_nI (by omega) (by decide), nm_e H⟩
  · rw [ej, nu_m6, nu_a2, nI_add, nI_clamp (n := s * 6 + 2 + j) (by omega)]
    refine ⟨vp_in_nI (by omega) (by decide), nm_r (e' := upd (xg_world u) (s * 6 + 2 + j) (xg_stack u (f * 16 + t))) ?_ H⟩
    show upd (yg_world v) _ _ = _
    rw [hw]
theorem op_0 (Q : Qr G T A D M (f + 1) N q u v) (hh : xg_frHeight u f = nI t) (h16 : t ≤ 16) (hc : c < 8) (hp : p ≤ 40) (hB : M ≤ B) : Ou G T A D B N (fun post => wpX_execute post u (nI f) 0) (fun post => zy_step_226 post (nI (q f)) (nI c) x3 (nI p) 0 x9 x10 x11 x12 (yu_hgt (q f) t v)) := by
  obtain ⟨M', u', v', hM, Q1, hX, hY⟩ := end_both (Q_hgt Q hh h16 (k := t) (by omega)) 1 0 (by decide)
  rw [xu_self hh] at hX
  refine ⟨M', f, N, q, u', v', by omega, Nat.le_refl _, Q1, fun post H => xd_0 (hX post H), fun post H => yt_226 (Or.inl (by decide)) ?_⟩
  obtain ⟨l, l32, _, el⟩ := Q_len (Q_hgt Q hh h16 (k := t) (by omega)) hc
  rw [ey_step_255]
  have Z : ∀ i n, i ≤ 4 → 1 ≤ i → zy_step_306 post (nI (q f)) (nI c) x3 (nI p) 0 x9 x10 n (nI (i + 1)) (yu_hgt (q f) t v) → zy_step_306 post (nI (q f)) (nI c) x3 (nI p) 0 x9 x10 (n + 1) (nI i) (yu_hgt (q f) t v) := by
    intro i n hi hi1 K
    rw [ey_step_306]
    refine br_f (nI_nlt (b := i) (a := 4) hi (by decide)) ?_
    rw [nI_add, nI_1]
    exact yw_cell hc el l32 (by omega) (br_f (by decide) (br_t (nI_lt (a := 0) (by omega) (by omega)) (nm_e K)))
  exact br_f (by decide) (br_f (by decide) ⟨5, Z 1 4 (by omega) (by omega) (Z 2 3 (by omega) (by omega) (Z 3 2 (by omega) (by omega) (Z 4 1 (by omega) (by omega) (yd_0 (n := 0) (hY post H)))))⟩)
theorem op_36 (Q : Qr G T A D M (f + 1) N q u v) (hh : xg_frHeight u f = nI (t + 1)) (h16 : t + 1 ≤ 16) (hc : c < 8) (hp : p ≤ 40) (hB : M ≤ B) : Ou G T A D B N (fun post => wpX_execute post u (nI f) 36) (fun post => zy_step_226 post (nI (q f)) (nI c) x3 (nI p) 36 (xg_stack u (f * 16 + t)) x10 x11 x12 (yu_hgt (q f) t v)) := by
  obtain ⟨M', u', v', hM, Q1, hX, hY⟩ := end_both (Q_hgt Q hh h16 (k := t) (by omega)) 1 (xg_stack u (f * 16 + t)) (by decide)
  refine ⟨M', f, N, q, u', v', by omega, Nat.le_refl _, Q1, fun post H => xd_36 (xw_pop (Q_f8 Q) hh (by omega) (br_t (by decide) ?_)), fun post H => yt_all (Q_hgt Q hh h16 (by omega)) hc hp (by decide) (by decide) (by decide) (Or.inr ⟨by decide, by decide⟩) (yd_36 (hY post H))⟩
  rw [ex_execute_177]
  exact hX post H
theorem op_37 (Q : Qr G T A D M (f + 1) N q u v) (hh : xg_frHeight u f = nI (t + 1)) (h16 : t + 1 ≤ 16) (hc : c < 8) (hp : p ≤ 40) (hB : M ≤ B) : Ou G T A D B N (fun post => wpX_execute post u (nI f) 37) (fun post => zy_step_226 post (nI (q f)) (nI c) x3 (nI p) 37 (xg_stack u (f * 16 + t)) x10 x11 x12 (yu_hgt (q f) t v)) := by
  obtain ⟨M', u', v', hM, Q1, hX, hY⟩ := end_both (Q_hgt Q hh h16 (k := t) (by omega)) 2 (xg_stack u (f * 16 + t)) (by decide)
  refine ⟨M', f, N, q, u', v', by omega, Nat.le_refl _, Q1, fun post H => xd_37 (xw_pop (Q_f8 Q) hh (by omega) (br_f (by decide) ?_)), fun post H => yt_all (Q_hgt Q hh h16 (by omega)) hc hp (by decide) (by decide) (by decide) (Or.inr ⟨by decide, by decide⟩) (yd_37 (hY post H))⟩
  rw [ex_execute_177]
  exact hX post H
theorem op_24 (Q : Qr G T A D M (f + 1) N q u v) (hh : xg_frHeight u f = nI (t + 1)) (h16 : t + 1 ≤ 16) (hc : c < 8) (hp : p ≤ 40) (hB : M < B) : Ou G T A D B N (fun post => wpX_execute post u (nI f) 24) (fun post => zy_step_226 post (nI (q f)) (nI c) (xg_frSelf u f) (nI p) 24 (xg_stack u (f * 16 + t)) x10 x11 x12 (yu_hgt (q f) t v)) := by
  obtain ⟨L, L16, eL⟩ := Q.2.2.2.1
  obtain ⟨s1, s2, s3, s4, s5, s6, s7, s8, s9, s10, s11, s12, s13, s14⟩ := Q.1
  have eL' : yg_logs (yu_hgt (q f) t v) = nI L := s9.trans eL
  by_cases hL : L < 16
  · have Q1 := Q_log (Q_hgt Q hh h16 (k := t) (by omega)) (L := L + 1) (la := upd (xg_logAccounts u) L (xg_frSelf u f)) (lw := upd (xg_logWords u) L (xg_stack u (f * 16 + t))) (by omega)
    refine ⟨M, f + 1, N, q, _, _, hB, Nat.le_refl _, Q1, fun post H => xd_24 ?_, fun post H => yt_all (Q_hgt Q hh h16 (by omega)) hc hp (by decide) (by decide) (by decide) (Or.inl (by decide)) (yd_24 ?_)⟩
    · rw [ex_addLog]
      refine xw_pop (Q_f8 Q) hh (by omega) ?_
      rw [show xg_logTotal (xu_hgt f t u) = nI L from eL, nI_clamp (n := L) (by omega), nI_clamp (n := f) (by have := Q_f8 Q; omega), nI_1]
      exact br_t (nI_lt (b := 16) hL (by decide)) ⟨vp_in_nI (Q_f8 Q) (by decide), vp_in_nI hL (by decide), nm_e ⟨vp_in_nI hL (by decide), nm_e (nm_e H)⟩⟩
    · rw [eL', nI_clamp (n := L) (by omega), nI_1]
      refine br_t (nI_lt (b := 16) hL (by decide)) ⟨vp_in_nI hL (by decide), nm_r (e' := upd (xg_logAccounts u) L (xg_frSelf u f)) ?_ ⟨vp_in_nI hL (by decide), nm_r (e' := upd (xg_logWords u) L (xg_stack u (f * 16 + t))) ?_ (nm_e H)⟩⟩
      · show upd (yg_logAccounts v) _ _ = _
        rw [s13]
      · show upd (yg_logWords v) _ _ = _
        rw [s14]
  · obtain ⟨M', u', v', hM, Q1, hX, hY⟩ := end_both (Q_hgt Q hh h16 (k := t) (by omega)) 10 0 (by decide)
    refine ⟨M', f, N, q, u', v', by omega, Nat.le_refl _, Q1, fun post H => xd_24 ?_, fun post H => yt_all (Q_hgt Q hh h16 (by omega)) hc hp (by decide) (by decide) (by decide) (Or.inl (by decide)) (yd_24 ?_)⟩
    · rw [ex_addLog]
      refine xw_pop (Q_f8 Q) hh (by omega) ?_
      rw [show xg_logTotal (xu_hgt f t u) = nI L from eL]
      exact br_f (nI_nlt (b := 16) (by omega) (by omega)) (hX post H)
    · rw [eL']
      exact br_f (nI_nlt (b := 16) (by omega) (by omega)) (hY post H)
end
end
section
theorem xq_memory_frMemSize (z : Nat → Int32) (u : SX) : xg_memory (xs_frMemSize z u) = xg_memory u := id rfl
theorem xq_stack_frMemSize (z : Nat → Int32) (u : SX) : xg_stack (xs_frMemSize z u) = xg_stack u := id rfl
theorem yq_memory_memorySize (z : Nat → Int32) (u : SY) : yg_memory (ys_memorySize z u) = yg_memory u := id rfl
/-! pushed cells, jumps, memory -/
def xp_s (f : Nat) (w : Nat → Int32) (h : Nat) (u : SX) : Nat → SX
  | 0 => u
  | n + 1 => xu_push f (w n) (h + n) (xp_s f w h u n)
def yp_s (F : Nat) (w : Nat → Int32) (h p : Nat) (v : SY) : Nat → SY
  | 0 => v
  | n + 1 => ys_position (upd (yg_position (yp_s F w h p v n)) F (nI (p + (n + 1)))) (yu_push F (w n) (h + n) (yp_s F w h p v n))
theorem xp_inv {f h : Nat} {w : Nat → Int32} {u : SX} (hh : xg_frHeight u f = nI h) : ∀ n, xg_frHeight (xp_s f w h u n) f = nI (h + n) ∧ xg_frAt (xp_s f w h u n) = xg_frAt u ∧ xg_cells (xp_s f w h u n) = xg_cells u ∧ xg_lengths (xp_s f w h u n) = xg_lengths u ∧ xg_frCode (xp_s f w h u n) = xg_frCode u
  | 0 => ⟨hh, rfl, rfl, rfl, rfl⟩
  | n + 1 => by
    obtain ⟨_, h2, h3, h4, h5⟩ := xp_inv (w := w) hh n
    exact ⟨pk_us, h2, h3, h4, h5⟩
theorem yp_inv {F h p : Nat} {w : Nat → Int32} {v : SY} (hh : yg_height v F = nI h) (hp : yg_position v F = nI p) : ∀ n, yg_height (yp_s F w h p v n) F = nI (h + n) ∧ yg_position (yp_s F w h p v n) F = nI (p + n) ∧ yg_cells (yp_s F w h p v n) = yg_cells v ∧ yg_length (yp_s F w h p v n) = yg_length v
  | 0 => ⟨hh, hp, rfl, rfl⟩
  | n + 1 => by
    obtain ⟨_, h2, h3, h4⟩ := yp_inv (w := w) hh hp n
    exact ⟨pk_us, pk_us, h3, h4⟩
section
variable {G T A D M f N B t c l p : Nat} {q : Nat → Nat} {u : SX} {v : SY} {x3 x9 x10 x11 x12 : Int32}
theorem xa_push (B A : Nat → Int32) (w : Int32) (h : Nat) (u : SX) : xs_frAt B (xu_push f w h (xs_frAt A u)) = xs_frAt B (xu_push f w h u) := by
  obtain ⟨aa0, aa1, aa2, aa3, aa4, aa5, aa6, aa7, aa8, aa9, aa10, aa11, aa12, aa13, aa14, aa15, aa16, aa17, aa18, aa19, aa20, aa21, aa22, aa23, aa24, aa25, aa26, aa27, aa28, aa29, aa30, aa31, aa32, aa33⟩ := u
  dsimp only [xu_push, xm_frHeight_stack, xs_frAt, xg_frHeight, xg_stack]
theorem xa_get (A : Nat → Int32) (w : Int32) (h : Nat) (u : SX) : xg_frAt (xu_push f w h (xs_frAt A u)) = A := id rfl
theorem xa_hgt (A : Nat → Int32) (u : SX) : xg_frHeight (xs_frAt A u) = xg_frHeight u := id rfl
theorem ya_get (F : Nat) (w : Int32) (h : Nat) (v : SY) : yg_position (yu_push F w h v) = yg_position v := id rfl
theorem xa_self (u : SX) : xs_frAt (xg_frAt u) u = u := id rfl
theorem Q_cells (Q : Qr G T A D M (f + 1) N q u v) {h : Nat} (w : Nat → Int32) (hh : xg_frHeight u f = nI h) (hp : xg_frAt u f = nI p) (hp2 : p ≤ 36) : ∀ n, n ≤ 4 → h + n ≤ 16 → Qr G T A D M (f + 1) N q (xs_frAt (upd (xg_frAt u) f (nI (p + n))) (xp_s f w h u n)) (yp_s (q f) w h p v n) := by
  intro n
  induction n with
  | zero =>
    intro _ _
    show Qr G T A D M (f + 1) N q (xs_frAt (upd (xg_frAt u) f (nI p)) u) v
    rw [nu_self hp, xa_self]
    exact Q
  | succ n ih =>
    intro hn hh2
    have Q1 := Q_at (Q_push (ih (by omega) (by omega)) (w n) (h := h + n) (by rw [xa_hgt]; exact (xp_inv (w := w) hh n).1) (by omega)) (p := p + (n + 1)) (by omega)
    rw [xa_get, xa_push, nu_uu, ya_get] at Q1
    exact Q1
theorem op_cells {k : Nat} (Q : Qr G T A D M (f + 1) N q u v) (hh : xg_frHeight u f = nI t) (hk : 1 ≤ k) (hk4 : k ≤ 4) (h16 : t + k ≤ 16) (hc : c < 8) (ec : xg_frCode u f = nI c) (hp : p ≤ 32) (ep : xg_frAt u f = nI (p + 1)) (hB : M < B) :
    Ou G T A D B N (fun post => wpX_pushCells post u (nI f) (nI k)) (fun post => (∀ v' : SY, post v' → zy_step_306 post (nI (q f)) (nI c) x3 (nI p) (nI k) x9 x10 (0 + 1) 5 v') → zy_step_226 post (nI (q f)) (nI c) x3 (nI p) (nI k) x9 x10 x11 x12 (yu_hgt (q f) t v)) := by
  have Q0 := Q_hgt Q hh (by omega) (k := t) (by omega)
  rw [xu_self hh] at Q0
  obtain ⟨l, l32, el, el'⟩ := Q_len Q hc
  have f8 := Q_f8 Q
  have q32 := Q_q32 Q
  have ep' : yg_position (yu_hgt (q f) t v) (q f) = nI (p + 1) := (Q_lv Q).2.2.2.2.2.2.2.2.2.2.1.trans ep
  have hC : yg_cells v = xg_cells u := Q.1.2.2.2.2.2.2.2.2.2.1
  have Q1 := Q_cells Q0 (fun i => pc_ (xg_cells u) c l (p + 1 + i)) hh ep (by omega) k hk4 h16
  refine ⟨M, f + 1, N, q, _, _, hB, Nat.le_refl _, Q1, fun post H => ?_, fun post H K => ?_⟩
  · have L : ∀ m i n, i + m = k → m < n → zx_pushCells_10 post (nI f) (nI k) (nI (p + 1)) n (nI i) (xp_s f (fun i => pc_ (xg_cells u) c l (p + 1 + i)) t u i) := by
      intro m
      induction m with
      | zero =>
        intro i n hi hn
        obtain ⟨n, rfl⟩ : ∃ j, n = j + 1 := ⟨n - 1, by omega⟩
        obtain rfl : i = k := by omega
        obtain ⟨_, iv2, _, _, _⟩ := xp_inv (f := f) (w := fun i => pc_ (xg_cells u) c l (p + 1 + i)) hh i
        rw [ex_pushCells_10, nI_clamp (n := f) (by omega), nI_add, iv2]
        exact br_t (nI_le (by omega) (by omega)) ⟨vp_in_nI f8 (by decide), nm_e H⟩
      | succ m ih =>
        intro i n hi hn
        obtain ⟨n, rfl⟩ : ∃ j, n = j + 1 := ⟨n - 1, by omega⟩
        obtain ⟨iv1, iv2, iv3, iv4, iv5⟩ := xp_inv (f := f) (w := fun i => pc_ (xg_cells u) c l (p + 1 + i)) hh i
        rw [ex_pushCells_10, nI_clamp (n := f) (by omega), nI_add (p + 1) i, iv5, ec, nI_1 i]
        refine br_f (nI_ge (by omega) (by omega)) ⟨vp_in_nI f8 (by decide), ?_⟩
        refine xw_cell hc (by rw [iv4]; exact el) l32 (by omega) ?_
        rw [iv3]
        exact xw_push f8 iv1 (by omega) (nm_e (ih (i + 1) n (by omega) (by omega)))
    show wpX_pushCells post u (nI f) (nI k)
    rw [ex_pushCells, nI_clamp (n := f) (by omega), ep]
    exact ⟨vp_in_nI f8 (by decide), nm_e ⟨5, L k 0 5 (by omega) (by omega)⟩⟩
  · refine yt_226 (Or.inl (nI_lt (b := 32) (by omega) (by decide))) ?_
    have S : ∀ i n, i ≤ 4 → k < i → zy_step_306 post (nI (q f)) (nI c) x3 (nI p) (nI k) x9 x10 n (nI (i + 1)) (yp_s (q f) (fun i => pc_ (xg_cells u) c l (p + 1 + i)) t (p + 1) (yu_hgt (q f) t v) k) → zy_step_306 post (nI (q f)) (nI c) x3 (nI p) (nI k) x9 x10 (n + 1) (nI i) (yp_s (q f) (fun i => pc_ (xg_cells u) c l (p + 1 + i)) t (p + 1) (yu_hgt (q f) t v) k) := by
      intro i n hi hki J
      obtain ⟨_, _, iv3, iv4⟩ := yp_inv (F := q f) (v := yu_hgt (q f) t v) (w := fun i => pc_ (xg_cells u) c l (p + 1 + i)) pk_us ep' k
      rw [ey_step_306]
      refine br_f (nI_nlt (b := i) (a := 4) hi (by decide)) ?_
      rw [nI_add, nI_1]
      refine yw_cell hc (by rw [iv4]; exact el') l32 (by omega) (br_f (nI_nlt (a := 4) (b := k) (by omega) (by decide)) (br_t (nI_lt hki (by omega)) (nm_e J)))
    have E : ∀ m i, i + m = 5 → k < i → zy_step_306 post (nI (q f)) (nI c) x3 (nI p) (nI k) x9 x10 (m + 1) (nI i) (yp_s (q f) (fun i => pc_ (xg_cells u) c l (p + 1 + i)) t (p + 1) (yu_hgt (q f) t v) k) := by
      intro m
      induction m with
      | zero =>
        intro i hi hki
        obtain rfl : i = 5 := by omega
        exact K _ H
      | succ m ih =>
        intro i hi hki
        exact S i (m + 1) (by omega) hki (ih (i + 1) (by omega) (by omega))
    have L : ∀ m i, i + m = k → zy_step_306 post (nI (q f)) (nI c) x3 (nI p) (nI k) x9 x10 (5 - i) (nI (i + 1)) (yp_s (q f) (fun i => pc_ (xg_cells u) c l (p + 1 + i)) t (p + 1) (yu_hgt (q f) t v) i) := by
      intro m
      induction m with
      | zero =>
        intro i hi
        obtain rfl : i = k := by omega
        have := E (4 - i) (i + 1) (by omega) (by omega)
        rw [show 4 - i + 1 = 5 - i from by omega] at this
        exact this
      | succ m ih =>
        intro i hi
        have J := ih (i + 1) (by omega)
        obtain ⟨iv1, iv2, iv3, iv4⟩ := yp_inv (F := q f) (v := yu_hgt (q f) t v) (w := fun i => pc_ (xg_cells u) c l (p + 1 + i)) pk_us ep' i
        rw [show 5 - i = (5 - (i + 1)) + 1 from by omega, ey_step_306]
        refine br_f (nI_nlt (b := i + 1) (a := 4) (by omega) (by decide)) ?_
        rw [nI_add, nI_1, nI_clamp (n := q f) (by omega)]
        refine yw_cell hc (by rw [iv4]; exact el') l32 (by omega) (br_f (nI_nlt (a := 4) (b := k) (by omega) (by decide)) (br_f (nI_nlt (by omega) (by omega)) ?_))
        rw [iv3, show p + (i + 1) = p + 1 + i from by omega, show yg_cells (yu_hgt (q f) t v) = xg_cells u from hC]
        refine yw_push q32 iv1 (by omega) ⟨vp_in_nI q32 (by decide), vp_in_nI q32 (by decide), nm_r (e' := upd (yg_position (yp_s (q f) (fun i => pc_ (xg_cells u) c l (p + 1 + i)) t (p + 1) (yu_hgt (q f) t v) i)) (q f) (nI (p + 1 + (i + 1)))) ?_ (nm_e J)⟩
        show upd (yg_position (yp_s (q f) (fun i => pc_ (xg_cells u) c l (p + 1 + i)) t (p + 1) (yu_hgt (q f) t v) i)) (q f) (yg_position (yp_s (q f) (fun i => pc_ (xg_cells u) c l (p + 1 + i)) t (p + 1) (yu_hgt (q f) t v) i) (q f) + 1) = _
        rw [iv2, nI_1]
        rfl
    rw [ey_step_255]
    refine br_f (fun e => ?_) (br_f (fun e => ?_) ⟨5, L k 0 (by omega)⟩)
    · have := (nI_eq (a := k) (b := 17) (by omega) (by decide)).mp e
      omega
    · have := (nI_eq (a := k) (b := 18) (by omega) (by decide)).mp e
      omega
theorem op_jump {k : Int32} (Q : Qr G T A D M (f + 1) N q u v) (h4 : 4 < k) (hc : c < 8) (ec : xg_frCode u f = nI c) (hp : p ≤ 40) (hB : M < B) (w : Int32) (hk : ∀ (post : SY → Prop) (v : SY), post v → zy_step_306 post (nI (q f)) (nI c) x3 (nI p) k w x10 (0 + 1) 5 v) :
    Ou G T A D B N (fun post => zx_jump_32 post (nI f) w u) (fun post => zy_step_274 post (nI (q f)) (nI c) x3 (nI p) k w x10 v) := by
  obtain ⟨l, l32, el, el'⟩ := Q_len Q hc
  have f8 := Q_f8 Q
  have q32 := Q_q32 Q
  have hC : yg_cells v = xg_cells u := Q.1.2.2.2.2.2.2.2.2.2.1
  obtain ⟨r, hr, jX, jY⟩ := jt_both w hc el el' l32 hC
  rcases hr with r0 | ⟨r1, j, hj, ej⟩
  · obtain ⟨M', u', v', hM, Q1, hX, hY⟩ := end_both Q 6 0 (by decide)
    refine ⟨M', f, N, q, u', v', by omega, Nat.le_refl _, Q1, fun post H => ?_, fun post H => ?_⟩
    · show zx_jump_32 post (nI f) w u
      rw [ex_jump_32, nI_clamp (n := f) (by omega), ec]
      exact ⟨vp_in_nI f8 (by decide), jX _ (br_t r0 (hX post H))⟩
    · show zy_step_274 post _ _ _ _ _ _ _ _
      rw [ey_step_274]
      obtain ⟨l2, l232, _, el2⟩ := Q_len Q1 hc
      exact jY _ (br_t r0 (hY _ (yt_loop hc el2 l232 hp h4 (hk post v' H))))
  · have Q1 := Q_at Q (p := j) (by omega)
    refine ⟨M, f + 1, N, q, _, _, by omega, Nat.le_refl _, Q1, fun post H => ?_, fun post H => ?_⟩
    · show zx_jump_32 post (nI f) w u
      rw [ex_jump_32, nI_clamp (n := f) (by omega), ec]
      refine ⟨vp_in_nI f8 (by decide), jX _ (br_f (by rw [r1]; decide) ⟨vp_in_nI f8 (by decide), nm_e ?_⟩)⟩
      rw [ej]
      exact H
    · show zy_step_274 post _ _ _ _ _ _ _ _
      rw [ey_step_274, nI_clamp (n := q f) (by omega)]
      refine jY _ (br_f (by rw [r1]; decide) ⟨vp_in_nI q32 (by decide), nm_e (yt_loop hc el' l32 hp h4 (hk post _ ?_))⟩)
      rw [ej]
      exact H
theorem op_17 (Q : Qr G T A D M (f + 1) N q u v) (hh : xg_frHeight u f = nI (t + 1)) (h16 : t + 1 ≤ 16) (hc : c < 8) (ec : xg_frCode u f = nI c) (hp : p ≤ 40) (hB : M < B) : Ou G T A D B N (fun post => wpX_execute post u (nI f) 17) (fun post => zy_step_226 post (nI (q f)) (nI c) x3 (nI p) 17 (xg_stack u (f * 16 + t)) x10 x11 x12 (yu_hgt (q f) t v)) := by
  obtain ⟨M', d', N', q', u', v', h1, h2, h3, h4, h5⟩ := op_jump (k := 17) (x3 := x3) (x10 := x10) (B := B) (Q_hgt Q hh h16 (k := t) (by omega)) (by decide) hc ec hp hB (xg_stack u (f * 16 + t)) (fun post v H => yd_17 H)
  refine ⟨M', d', N', q', u', v', h1, h2, h3, fun post H => xd_17 (xw_pop (Q_f8 Q) hh (by omega) (br_f (by decide) (h4 post H))), fun post H => yt_226 (Or.inl (by decide)) ?_⟩
  rw [ey_step_255]
  exact br_t rfl (h5 post H)
theorem op_18 (Q : Qr G T A D M (f + 1) N q u v) (hh : xg_frHeight u f = nI (t + 2)) (h16 : t + 2 ≤ 16) (hc : c < 8) (ec : xg_frCode u f = nI c) (hp : p ≤ 40) (hB : M < B) : Ou G T A D B N (fun post => wpX_execute post u (nI f) 18) (fun post => zy_step_226 post (nI (q f)) (nI c) x3 (nI p) 18 (xg_stack u (f * 16 + (t + 1))) (xg_stack u (f * 16 + t)) x11 x12 (yu_hgt (q f) t v)) := by
  have Q0 := Q_hgt Q hh h16 (k := t) (by omega)
  by_cases z : xg_stack u (f * 16 + t) = 0
  · refine ⟨M, f + 1, N, q, _, _, hB, Nat.le_refl _, Q0, fun post H => xd_18 (xw_pop (Q_f8 Q) hh (by omega) (br_t (by decide) (xw_pop' (Q_f8 Q) (by omega) (br_t z H)))), fun post H => yt_226 (Or.inl (by decide)) ?_⟩
    obtain ⟨l, l32, _, e⟩ := Q_len Q0 hc
    rw [ey_step_255]
    exact br_f (by decide) (br_t rfl (br_t z (yt_loop hc e l32 hp (by decide) (yd_18 H))))
  · obtain ⟨M', d', N', q', u', v', h1, h2, h3, h4, h5⟩ := op_jump (k := 18) (x3 := x3) (x10 := xg_stack u (f * 16 + t)) (B := B) Q0 (by decide) hc ec hp hB (xg_stack u (f * 16 + (t + 1))) (fun post v H => yd_18 H)
    refine ⟨M', d', N', q', u', v', h1, h2, h3, fun post H => xd_18 (xw_pop (Q_f8 Q) hh (by omega) (br_t (by decide) (xw_pop' (Q_f8 Q) (by omega) (br_f z (h4 post H))))), fun post H => yt_226 (Or.inl (by decide)) ?_⟩
    rw [ey_step_255]
    exact br_f (by decide) (br_t rfl (br_f z (h5 post H)))
theorem and15 {o : Nat} (h : o < 16) : nI o &&& 15 = nI o := by
  rw [pk_andN (by omega) 4 (by decide)]
  exact congrArg nI (by omega)
/-- the memory's size grown, both sides -/
theorem op_grow {o m : Nat} (Q : Qr G T A D M (f + 1) N q u v) (ho : o < 16) (em : xg_frMemSize u f = nI m) (hm : m ≤ 16) : ∃ (u' : SX) (v' : SY), Qr G T A D M (f + 1) N q u' v' ∧ xg_frHeight u' = xg_frHeight u ∧ xg_stack u' = xg_stack u ∧ xg_memory u' = xg_memory u ∧ yg_memory v' = yg_memory v ∧ yg_height v' = yg_height v ∧
    (∀ (post : SX → Prop) (k : Int32), zx_useMemory_56 post (nI f) k (nI o) u' → ((nI o + 1 ≤ xg_frMemSize u (nI f).toNatClampNeg → zx_useMemory_56 post (nI f) k (nI o) u) ∧ (¬ nI o + 1 ≤ xg_frMemSize u (nI f).toNatClampNeg → (vp_in (nI f) 8 ∧ ∀ a : Nat → Int32, a = upd (xg_frMemSize u) (nI f).toNatClampNeg (nI o + 1) → zx_useMemory_56 post (nI f) k (nI o) (xs_frMemSize a u))))) ∧
    (∀ (post : SY → Prop) (x1 x2 x3 x4 x5 x10 x11 x12 : Int32), x1 = nI (q f) → zy_step_226 post x1 x2 x3 x4 x5 (nI o) x10 x11 x12 v' → zy_step_205 post x1 x2 x3 x4 x5 (nI o) x10 x11 x12 v) := by
  have f8 := Q_f8 Q
  have q32 := Q_q32 Q
  have em' : yg_memorySize v (q f) = nI m := (Q_lv Q).2.2.2.2.2.2.2.2.1.trans em
  by_cases z : o + 1 ≤ m
  · refine ⟨u, v, Q, rfl, rfl, rfl, rfl, rfl, fun post k H => ?_, fun post x1 x2 x3 x4 x5 x10 x11 x12 e H => ?_⟩
    · rw [nI_clamp (n := f) (by omega), em, nI_1]
      exact br_t (nI_le z (by omega)) H
    · subst e
      rw [ey_step_205, nI_clamp (n := q f) (by omega), em']
      exact ⟨vp_in_nI q32 (by decide), br_t (nI_lt (by omega) (by omega)) H⟩
  · refine ⟨xs_frMemSize (upd (xg_frMemSize u) f (nI (o + 1))) u, ys_memorySize (upd (yg_memorySize v) (q f) (nI (o + 1))) v, Q_msz Q (m := o + 1) (by omega), rfl, rfl, rfl, rfl, rfl, fun post k H => ?_, fun post x1 x2 x3 x4 x5 x10 x11 x12 e H => ?_⟩
    · rw [nI_clamp (n := f) (by omega), em, nI_1]
      exact br_f (nI_ge (by omega) (by omega)) ⟨vp_in_nI f8 (by decide), nm_e H⟩
    · subst e
      rw [ey_step_205, nI_clamp (n := q f) (by omega), em', nI_1]
      exact ⟨vp_in_nI q32 (by decide), br_f (nI_nlt (by omega) (by omega)) ⟨vp_in_nI q32 (by decide), nm_e H⟩⟩
theorem op_19 {o m : Nat} (Q : Qr G T A D M (f + 1) N q u v) (hh : xg_frHeight u f = nI (t + 1)) (h16 : t + 1 ≤ 16) (hc : c < 8) (hp : p ≤ 40) (hB : M < B) (eo : xg_stack u (f * 16 + t) = nI o) (ho : o < 16) (em : xg_frMemSize u f = nI m) (hm : m ≤ 16) : Ou G T A D B N (fun post => wpX_execute post u (nI f) 19) (fun post => zy_step_205 post (nI (q f)) (nI c) x3 (nI p) 19 (xg_stack u (f * 16 + t)) x10 x11 x12 (yu_hgt (q f) t v)) := by
  have f8 := Q_f8 Q
  have q32 := Q_q32 Q
  obtain ⟨u1, v1, Q1, e1, e2, e3, e4, e5, hX, hY⟩ := op_grow (Q_hgt Q hh h16 (k := t) (by omega)) ho em hm
  have hh1 : xg_frHeight u1 f = nI t := by rw [e1]; exact pk_us
  have hh2 : yg_height v1 (q f) = nI t := by rw [e5]; exact pk_us
  have em2 : yg_memory v1 (q f * 16 + o) = xg_memory u1 (f * 16 + o) := (Q_lv Q1).2.2.2.2.2.2.2.2.2.2.2.2.2.2.2.2.2.2.2.2.2.2.2.2.2.1 o ho
  refine ⟨M, f + 1, N, q, _, _, hB, Nat.le_refl _, Q_push Q1 (xg_memory u1 (f * 16 + o)) hh1 (by omega), fun post H => xd_19 (xw_pop f8 hh (by omega) ?_), fun post H => ?_⟩
  · rw [eo]
    refine br_f (nI_pos (by omega)) (br_t (nI_lt (b := 16) ho (by decide)) ⟨vp_in_nI f8 (by decide), hX post 19 ?_⟩)
    rw [ex_useMemory_56, nu_m16, nI_add]
    refine nm_e (br_t rfl ?_)
    rw [nI_clamp (n := f * 16 + o) (by omega)]
    exact ⟨vp_in_nI (by omega) (by decide), xw_push f8 hh1 (by omega) H⟩
  · show zy_step_205 post _ _ _ _ _ _ _ _ _ _
    rw [eo]
    refine hY post _ _ _ _ _ _ _ _ rfl (yt_all Q1 hc hp (by decide) (by decide) (by decide) (Or.inl (by decide)) (yd_19 ?_))
    rw [and15 ho, nu_m16, nI_add, nI_clamp (n := q f * 16 + o) (by omega), em2]
    exact ⟨vp_in_nI (by omega) (by decide), yw_push q32 hh2 (by omega) H⟩
theorem xh_msz (f k : Nat) (a : Nat → Int32) (u : SX) : xs_frMemSize a (xu_hgt f k u) = xu_hgt f k (xs_frMemSize a u) := by
  obtain ⟨aa0, aa1, aa2, aa3, aa4, aa5, aa6, aa7, aa8, aa9, aa10, aa11, aa12, aa13, aa14, aa15, aa16, aa17, aa18, aa19, aa20, aa21, aa22, aa23, aa24, aa25, aa26, aa27, aa28, aa29, aa30, aa31, aa32, aa33⟩ := u
  dsimp only [xu_hgt, xs_frHeight, xs_frMemSize, xg_frHeight]
theorem hm_1 (f k : Nat) (u : SX) : xg_frMemSize (xu_hgt f k u) = xg_frMemSize u := id rfl
theorem hm_2 (f k : Nat) (u : SX) : xg_memory (xu_hgt f k u) = xg_memory u := id rfl
theorem hm_3 (F k : Nat) (v : SY) : yg_memorySize (yu_hgt F k v) = yg_memorySize v := id rfl
theorem hm_4 (F k : Nat) (v : SY) : yg_memory (yu_hgt F k v) = yg_memory v := id rfl
theorem op_20 {o m : Nat} (Q : Qr G T A D M (f + 1) N q u v) (hh : xg_frHeight u f = nI (t + 2)) (h16 : t + 2 ≤ 16) (hc : c < 8) (hp : p ≤ 40) (hB : M < B) (eo : xg_stack u (f * 16 + (t + 1)) = nI o) (ho : o < 16) (em : xg_frMemSize u f = nI m) (hm : m ≤ 16) : Ou G T A D B N (fun post => wpX_execute post u (nI f) 20) (fun post => zy_step_205 post (nI (q f)) (nI c) x3 (nI p) 20 (xg_stack u (f * 16 + (t + 1))) (xg_stack u (f * 16 + t)) x11 x12 (yu_hgt (q f) t v)) := by
  have f8 := Q_f8 Q
  have q32 := Q_q32 Q
  have Q0 := Q_hgt Q hh h16 (k := t) (by omega)
  have em' : yg_memorySize v (q f) = nI m := (Q_lv Q).2.2.2.2.2.2.2.2.1.trans em
  by_cases z : o + 1 ≤ m
  · have Q3 := Q_mem Q0 ho (xg_stack u (f * 16 + t))
    rw [hm_2, hm_4] at Q3
    refine ⟨M, f + 1, N, q, _, _, hB, Nat.le_refl _, Q3, fun post H => xd_20 (xw_pop f8 hh (by omega) ?_), fun post H => ?_⟩
    · rw [eo]
      refine br_f (nI_pos (by omega)) (br_t (nI_lt (b := 16) ho (by decide)) ?_)
      rw [nI_clamp (n := f) (by omega), hm_1, em, nI_1]
      refine ⟨vp_in_nI f8 (by decide), br_t (nI_le z (by omega)) ?_⟩
      rw [ex_useMemory_56, nu_m16, nI_add]
      refine nm_e (br_f (by decide) (xw_pop' f8 (by omega) ?_))
      rw [nI_clamp (n := f * 16 + o) (by omega), hm_2]
      exact ⟨vp_in_nI (by omega) (by decide), nm_e H⟩
    · show zy_step_205 post _ _ _ _ _ _ _ _ _ _
      rw [eo, ey_step_205, nI_clamp (n := q f) (by omega), hm_3, em']
      refine ⟨vp_in_nI q32 (by decide), br_t (nI_lt (by omega) (by omega)) (yt_all Q0 hc hp (by decide) (by decide) (by decide) (Or.inl (by decide)) (yd_20 ?_))⟩
      rw [and15 ho, nu_m16, nI_add, nI_clamp (n := q f * 16 + o) (by omega), hm_4]
      exact ⟨vp_in_nI (by omega) (by decide), nm_e H⟩
  · have Q1 := Q_msz Q0 (m := o + 1) (by omega)
    have Q3 := Q_mem Q1 ho (xg_stack u (f * 16 + t))
    rw [xq_memory_frMemSize, hm_2, hm_1, yq_memory_memorySize, hm_4, hm_3] at Q3
    refine ⟨M, f + 1, N, q, _, _, hB, Nat.le_refl _, Q3, fun post H => xd_20 (xw_pop f8 hh (by omega) ?_), fun post H => ?_⟩
    · rw [eo]
      refine br_f (nI_pos (by omega)) (br_t (nI_lt (b := 16) ho (by decide)) ?_)
      rw [nI_clamp (n := f) (by omega), hm_1, em, nI_1]
      refine ⟨vp_in_nI f8 (by decide), br_f (nI_ge (by omega) (by omega)) ⟨vp_in_nI f8 (by decide), nm_e ?_⟩⟩
      rw [xh_msz, ex_useMemory_56, nu_m16, nI_add]
      refine nm_e (br_f (by decide) (xw_pop' f8 (by omega) ?_))
      rw [nI_clamp (n := f * 16 + o) (by omega), hm_2, xq_memory_frMemSize, xq_stack_frMemSize, ← xh_msz]
      exact ⟨vp_in_nI (by omega) (by decide), nm_e H⟩
    · show zy_step_205 post _ _ _ _ _ _ _ _ _ _
      rw [eo, ey_step_205, nI_clamp (n := q f) (by omega), hm_3, em', nI_1]
      refine ⟨vp_in_nI q32 (by decide), br_f (nI_nlt (by omega) (by omega)) ⟨vp_in_nI q32 (by decide), nm_e ?_⟩⟩
      rw [hm_3] at Q1
      refine yt_all Q1 hc hp (by decide) (by decide) (by decide) (Or.inl (by decide)) (yd_20 ?_)
      rw [and15 ho, nu_m16, nI_add, nI_clamp (n := q f * 16 + o) (by omega), yq_memory_memorySize, hm_4]
      exact ⟨vp_in_nI (by omega) (by decide), nm_e H⟩
end
end
section
/-! the calling instructions -/
theorem hand_both {g : Nat} (w : Int32) (g2 : g ≤ 2000) : ∃ n, n ≤ g ∧ (∀ P : Int32 → Prop, P (nI n) → ((w < 0 → P (nI (g - g / 8))) ∧ (¬ w < 0 → ((nI (g - g / 8) ≤ w → P (nI (g - g / 8))) ∧ (¬ nI (g - g / 8) ≤ w → P w))))) ∧
    (∀ P : Int32 → Prop, P (nI n) → ((w < 0 → P (nI (g - g / 8))) ∧ (¬ w < 0 → ((w ≤ nI (g - g / 8) → P w) ∧ (¬ w ≤ nI (g - g / 8) → P (nI (g - g / 8))))))) := by
  by_cases z : w < 0
  · exact ⟨g - g / 8, by omega, fun P h => br_t z h, fun P h => br_t z h⟩
  · obtain ⟨j, hj, rfl⟩ := nI_of z
    by_cases y : g - g / 8 ≤ j
    · refine ⟨g - g / 8, by omega, fun P h => br_f z (br_t (nI_le y hj) h), fun P h => br_f z (br_c (fun e => ?_) (fun _ => h))⟩
      rw [nI_leI hj (by omega)] at e
      rw [show j = g - g / 8 from by omega]
      exact h
    · refine ⟨j, by omega, fun P h => br_f z (br_f (nI_ge (by omega) (by omega)) h), fun P h => br_f z (br_t (nI_le (by omega) (by omega)) h)⟩
section
variable {G T A D M f N B t c p s g : Nat} {q : Nat → Nat} {u : SX} {v : SY} {x3 x11 x12 : Int32}
theorem Q_hand {d : Nat} (Q : Qr G T A D M d N q u v) (x : Int32) : Qr G T A D M d N q u (ys_handed x v) := Q
theorem ym_hl (x : Int32) (a : Nat → Int32) (v : SY) : ym_handed_left x a v = ys_handed x (ys_left a v) := by
  obtain ⟨aa0, aa1, aa2, aa3, aa4, aa5, aa6, aa7, aa8, aa9, aa10, aa11, aa12, aa13, aa14, aa15, aa16, aa17, aa18, aa19, aa20, aa21, aa22, aa23, aa24, aa25, aa26, aa27⟩ := v
  dsimp only [ym_handed_left, ys_handed, ys_left]
/-- the frame set up and entered, both sides -/
theorem call_go {hN b e r : Nat} {W : Nat → Int32} {k a x i z : Int32} (Q : Qr G T A D M (f + 1) N q u v) (eg : xg_frGas u f = nI g) (g2 : g ≤ 2000) (hg : hN ≤ g) (hD : f + 1 < D) (hN32 : N < 32) (e8 : e < 8) (r8 : r < 8) (hz : z = 0 ∨ z = 1) (ha : k = 1 ∨ k = 4 → a = nI b) (hW : ab_ew k (xg_world u) b r (nI e) x W) (hWd : Wd_ T W) :
    ∃ (u' : SX) (v' : SY), Qr G T A D M (f + 2) (N + 1) (qu_ q (f + 1) N) u' v' ∧ (∀ post : SX → Prop, post u' → wpX_setFrame (fun u2 => zx_callAccount_193 post (nI f) (nI hN) u2) u k (nI e) (nI r) a x i z) ∧ (∀ post : SY → Prop, post v' → wpY_enter post (ym_handed_left (nI hN) (upd (yg_left v) (q f) (nI (g - hN))) v) k (nI e) (nI r) a x i z) := by
  have f8 := Q_f8 Q
  have hgs := Q_gs Q
  rw [eg, nI_clamp (by omega)] at hgs
  have D8 := Q.2.1.2.1.2.1
  have Q1 := Q_gas Q (g' := g - hN) (G' := G - hN) (M' := M - hN) eg g2 (by omega) (by omega) (by omega) (by omega)
  have hgs1 : gs_ (xg_frGas (xs_frGas (upd (xg_frGas u) f (nI (g - hN))) u)) (f + 1) ≤ G - hN := Q1.2.2.2.2.2.2.2.2.2.2.1.1
  have hgs2 : gs_ (xg_frGas (xs_frGas (upd (xg_frGas u) f (nI (g - hN))) u)) (f + 1) + (32 - N) + (f + 1) ≤ M - hN := Q1.2.2.2.2.2.2.2.2.2.2.1.2.1
  have Q2 := Q_enter Q1 (G' := G) (M' := M) (g := hN) (c := e) (s := r) (W := W) (k := k) (a := a) (x := x) (i := i) (z := z) hD hN32 hWd (by omega) e8 r8 hz (fun h => by omega) (by omega) (by omega) (by omega)
  refine ⟨_, _, Q_hand Q2 (nI hN), fun post H => ?_, fun post H => ?_⟩
  · refine xw_setFrame (f := f + 1) (by omega) Q.2.2.2.2.1.2 ?_
    rw [ex_callAccount_193, nI_clamp (n := f) (by omega)]
    refine ⟨vp_in_nI f8 (by decide), vp_in_nI f8 (by decide), nm_r (e' := upd (xg_frGas u) f (nI (g - hN))) ?_ ?_⟩
    · show upd (xg_frGas u) f (xg_frGas u f - nI hN) = _
      rw [eg, pk_sub hg]
    · exact x_enter Q1 (c := e) (s := r) (W := W) hD hN32 r8 ha hW H
  · rw [ym_hl]
    exact y_enter Q1 (g := hN) (c := e) (s := r) (W := W) hN32 (fun h => by omega) r8 ha hW H
theorem yr_get (F : Nat) (w : Int32) (h : Nat) (v : SY) : yg_result (yu_push F w h v) = yg_result v := id rfl
theorem yr_comm (F : Nat) (w : Int32) (h : Nat) (a : Nat → Int32) (v : SY) : ys_result a (yu_push F w h v) = yu_push F w h (ys_result a v) := by
  obtain ⟨aa0, aa1, aa2, aa3, aa4, aa5, aa6, aa7, aa8, aa9, aa10, aa11, aa12, aa13, aa14, aa15, aa16, aa17, aa18, aa19, aa20, aa21, aa22, aa23, aa24, aa25, aa26, aa27⟩ := v
  dsimp only [yu_push, ym_stack_height, ys_result, yg_stack, yg_height]
theorem call_no {x : Int32} {K : (SY → Prop) → SY → Prop} (Q : Qr G T A D M (f + 1) N q u v) (hh : xg_frHeight u f = nI t) (t16 : t < 16) (hB : M < B) {WX : (SX → Prop) → Prop} {WY : (SY → Prop) → Prop}
    (hK : ∀ (post : SY → Prop) (u' : SX) (v' : SY), Qr G T A D M (f + 1) N q u' v' → post v' → K post v')
    (hX : ∀ post : SX → Prop, wpX_notEntered post u (nI f) x → WX post) (hY : ∀ post : SY → Prop, wpY_push (fun v' => vp_in (nI (q f)) 32 ∧ ∀ a : Nat → Int32, a = upd (yg_result v') (nI (q f)).toNatClampNeg 0 → K post (ys_result a v')) v (nI (q f)) x → WY post) : Ou G T A D B N WX WY := by
  have f8 := Q_f8 Q
  have q32 := Q_q32 Q
  have eh : yg_height v (q f) = nI t := (Q_lv Q).2.2.2.2.2.2.1.trans hh
  have Q1 := Q_push (Q_res Q 0) x hh t16
  refine ⟨M, f + 1, N, q, _, _, hB, Nat.le_refl _, Q1, fun post H => hX post (xw_notEntered f8 hh t16 H), fun post H => hY post (yw_push q32 eh t16 ?_)⟩
  rw [nI_clamp (n := q f) (by omega), yr_get]
  exact ⟨vp_in_nI q32 (by decide), nm_e (by rw [yr_comm]; exact hK post _ _ Q1 H)⟩
theorem sf_mono {P P' : SX → Prop} {k c s a x i z : Int32} (h : ∀ u2, xg_frGas u2 = xg_frGas u → P u2 → P' u2) (H : wpX_setFrame P u k c s a x i z) : wpX_setFrame P' u k c s a x i z := by
  rw [ex_setFrame] at H ⊢
  refine ⟨H.1, fun y1 h1 => ?_⟩
  have K1 := H.2 y1 h1
  refine ⟨K1.1, fun y2 h2 => ?_⟩
  have K2 := K1.2 y2 h2
  refine ⟨K2.1, fun y3 h3 => ?_⟩
  have K3 := K2.2 y3 h3
  refine ⟨K3.1, fun y4 h4 => ?_⟩
  have K4 := K3.2 y4 h4
  refine ⟨K4.1, fun y5 h5 => ?_⟩
  have K5 := K4.2 y5 h5
  refine ⟨K5.1, fun y6 h6 => ?_⟩
  have K6 := K5.2 y6 h6
  refine ⟨K6.1, fun y7 h7 => h _ rfl (K6.2 y7 h7)⟩
theorem y_progAny (p : Int32) {A : Nat} (hA : yg_accounts v = nI A) (hA8 : A ≤ 8) : ∃ r, ∀ P : Int32 → Prop, P r → wpY_programOf P v p := by
  rcases nu_cases p A (by omega) with ⟨a, aA, rfl⟩ | ⟨_, na⟩
  · exact ⟨_, fun P h => yw_programOf_t hA hA8 aA h⟩
  · exact ⟨_, fun P h => yw_programOf_f hA hA8 na h⟩
theorem y_active (Q : Qr G T A D M (f + 1) N q u v) {post : Int32 → Prop} (H : post (nI (f + 1))) : wpY_activeFrames post v := by
  obtain ⟨b1, b2, b3, b4, b5, b6, b7, b8, b9, b10, b11, b12⟩ := Q
  have D8 := b2.2.1.2.1
  exact yw_active (b1.2.2.2.2.2.2.2.1.trans b6.2) b6.1 (by omega) b7.1 b7.2.1 (fun j hj => (b8 j hj).2.2.2.2.2.2.2.2.2.2.2.2.2.2.2.2.2.2.1) (fun E hE hn => (b10 E hE hn).1) H
/-- Y's decision whether the frame is entered -/
theorem yc_103 {post : SY → Prop} {k x8 x9 x10 x11 x12 x13 x14 : Int32} (Q : Qr G T A D M (f + 1) N q u v) (s8 : s < 8)
    (Hno : (x14 < 0 ∨ 7 < x14 ∨ x10 < 0 ∨ ¬ (¬ x12 < 0 ∧ ¬ xg_world u (s * 6 + 1) < x12) ∨ ¬ (f + 1 < D ∧ N < 32)) → zy_callOrCreate_166 post (nI (q f)) k v)
    (Hyes : ¬ x14 < 0 → ¬ 7 < x14 → ¬ x10 < 0 → (¬ x12 < 0 ∧ ¬ xg_world u (s * 6 + 1) < x12) → (f + 1 < D ∧ N < 32) → ((x11 < 0 → zy_callOrCreate_210 post (nI (q f)) k (nI s) x8 x10 x12 x13 x14 x9 v) ∧ (¬ x11 < 0 → ((x11 ≤ x9 → zy_callOrCreate_210 post (nI (q f)) k (nI s) x8 x10 x12 x13 x14 x11 v) ∧ (¬ x11 ≤ x9 → zy_callOrCreate_210 post (nI (q f)) k (nI s) x8 x10 x12 x13 x14 x9 v))))) :
    zy_callOrCreate_103 post (nI (q f)) k (nI s) x8 x9 x10 x11 x12 x13 x14 v := by
  have hw : yg_world v = xg_world u := Q.1.2.2.2.2.2.2.2.2.2.2.2.1
  have eD : yg_maxDepth v = nI D := Q.1.2.1.trans Q.2.1.2.1.2.2
  have D8 := Q.2.1.2.1.2.1
  have f8 := Q_f8 Q
  have eN : yg_frames v = nI N := Q.1.2.2.2.2.2.2.2.1.trans Q.2.2.2.2.2.1.2
  have N32 := Q.2.2.2.2.2.1.1
  rw [ey_callOrCreate_103]
  refine y_active Q (br_c (fun h => Hno (Or.inl h)) (fun h1 => br_c (fun h => Hno (Or.inr (Or.inl h))) (fun h2 => br_c (fun h => Hno (Or.inr (Or.inr (Or.inl h)))) (fun h3 => br_c (fun h => Hno (Or.inr (Or.inr (Or.inr (Or.inl (fun e => e.1 h)))))) (fun h4 => ?_)))))
  rw [nu_m6, nu_a1, nI_clamp (n := s * 6 + 1) (by omega), hw, eD, eN]
  refine ⟨vp_in_nI (by omega) (by decide), br_c (fun h => Hno (Or.inr (Or.inr (Or.inr (Or.inl (fun e => e.2 h)))))) (fun h5 => pk_le D (f + 1) (fun h => Hno (Or.inr (Or.inr (Or.inr (Or.inr (fun e => by omega)))))) (fun h6 => pk_lt N 32 (fun h7 => ?_) (fun h => Hno (Or.inr (Or.inr (Or.inr (Or.inr (fun e => by omega))))))))⟩
  have K := Hyes h1 h2 h3 ⟨h4, h5⟩ ⟨h6, h7⟩
  refine br_c (fun h => ?_) (fun h => br_c (fun h' => (K.2 h).1 h') (fun h' => ?_))
  · rw [ey_callOrCreate_203]; exact K.1 h
  · rw [ey_callOrCreate_203]; exact (K.2 h).2 h'
/-- X's decision -/
theorem xc_29 {post : SX → Prop} {k w0 w1 x : Int32} (Q : Qr G T A D M (f + 1) N q (xu_hgt f t u) v) (t16 : t < 16) (s8 : s < 8) (es : xg_frSelf u f = nI s)
    (Hno : ¬ ((∃ a e, a < A ∧ w1 = nI a ∧ e < 8 ∧ xg_world u (a * 6) = nI e) ∧ (¬ x < 0 ∧ ¬ xg_world u (s * 6 + 1) < x) ∧ (f + 1 < D ∧ N < 32)) → wpX_notEntered post (xu_hgt f t u) (nI f) 0)
    (Hyes : ∀ a e, a < A → w1 = nI a → e < 8 → xg_world u (a * 6) = nI e → (¬ x < 0 ∧ ¬ xg_world u (s * 6 + 1) < x) → (f + 1 < D ∧ N < 32) →
      ((k = 32 → wpX_setFrame (fun u2 => zx_callAccount_173 post (nI f) w0 u2) (xu_hgt f t u) 1 (nI e) (nI a) (nI s) x (xg_stack u (f * 16 + t)) (xg_frStatic u f)) ∧ (k = 33 → wpX_setFrame (fun u2 => zx_callAccount_173 post (nI f) w0 u2) (xu_hgt f t u) 2 (nI e) (nI a) (nI s) 0 (xg_stack u (f * 16 + t)) 1) ∧ (¬ k = 32 → ¬ k = 33 → wpX_setFrame (fun u2 => zx_callAccount_173 post (nI f) w0 u2) (xu_hgt f t u) 3 (nI e) (nI s) (xg_frCaller u f) (xg_frValue u f) (xg_stack u (f * 16 + t)) (xg_frStatic u f)))) :
    zx_callAccount_29 post (nI f) k w0 w1 x (xu_hgt f (t + 1) u) := by
  have f8 := Q_f8 Q
  have v8 := vp_in_nI f8 (N := 8) (by decide)
  have hA : xg_accounts u = nI A := Q.2.1.1.2.2
  have hA8 := Q.2.1.1.2.1
  have D8 := Q.2.1.2.1.2.1
  have N32 := Q.2.2.2.2.2.1.1
  have hW : Wd_ T (xg_world u) := Q.2.2.1
  have no : ¬ ((∃ a e, a < A ∧ w1 = nI a ∧ e < 8 ∧ xg_world u (a * 6) = nI e) ∧ (¬ x < 0 ∧ ¬ xg_world u (s * 6 + 1) < x) ∧ (f + 1 < D ∧ N < 32)) → zx_callAccount_71 post (nI f) (xu_hgt f t u) := by
    intro h
    rw [ex_callAccount_71]
    exact Hno h
  rw [ex_callAccount_29]
  refine xw_pop' f8 t16 ?_
  rw [nI_clamp (n := f) (by omega), show xg_frSelf (xu_hgt f t u) f = nI s from es]
  refine ⟨v8, nm_e ?_⟩
  rcases nu_cases w1 A (by omega) with ⟨a, aA, ea⟩ | ⟨_, na⟩
  · rcases hW.1.1 a (by omega) with z | ⟨e, e8, z⟩
    · rw [ea]
      refine xw_exists_n (A := A) hA hA8 aA z (br_t rfl (no ?_))
      rintro ⟨⟨a', e', h1, h2, h3, h4⟩, _⟩
      have : a' = a := (nI_eq (by omega) (by omega)).mp (h2.symm.trans ea)
      subst this
      exact nu_m1 (by omega) (h4.symm.trans z)
    · rw [ea]
      refine xw_exists_t (A := A) hA hA8 aA e8 z (br_f (by decide) ?_)
      by_cases pay : ¬ x < 0 ∧ ¬ xg_world u (s * 6 + 1) < x
      · refine xw_canPay_t s8 pay.1 pay.2 (br_f (by decide) ?_)
        by_cases free : f + 1 < D ∧ N < 32
        · refine xw_frameFree_t (d := f + 1) (D := D) (n := N) Q.2.2.2.2.1.2 Q.2.1.2.1.2.2 Q.2.2.2.2.2.1.2 free.1 D8 free.2 (br_f (by decide) ?_)
          obtain ⟨y1, y2, y3⟩ := Hyes a e aA ea e8 z pay free
          rw [nu_m6, nI_clamp (n := a * 6) (by omega), show xg_world (xu_hgt f t u) (a * 6) = nI e from z]
          refine ⟨vp_in_nI (by omega) (by decide), nm_e (br_c (fun h => ⟨v8, y1 h⟩) (fun h => br_c (fun h2 => y2 h2) (fun h2 => ⟨v8, v8, v8, y3 h h2⟩)))⟩
        · exact xw_frameFree_f (d := f + 1) (D := D) (n := N) Q.2.2.2.2.1.2 Q.2.1.2.1.2.2 Q.2.2.2.2.2.1.2 (by omega) D8 N32 free (br_t rfl (no (fun h => free h.2.2)))
      · exact xw_canPay_f s8 pay (br_t rfl (no (fun h => pay h.2.1)))
  · exact xw_exists_f (A := A) hA hA8 na (br_t rfl (no (fun h => by
      obtain ⟨⟨a, e, h1, h2, _⟩, _⟩ := h
      exact na ⟨a, h1, h2⟩)))
theorem xc_173 {post : SX → Prop} {hN : Nat} {w0 : Int32} (f8 : f < 8) (eg : xg_frGas u f = nI g) (g2 : g ≤ 2000) (hw : ∀ P : Int32 → Prop, P (nI hN) → ((w0 < 0 → P (nI (g - g / 8))) ∧ (¬ w0 < 0 → ((nI (g - g / 8) ≤ w0 → P (nI (g - g / 8))) ∧ (¬ nI (g - g / 8) ≤ w0 → P w0))))) (H : zx_callAccount_193 post (nI f) (nI hN) u) : zx_callAccount_173 post (nI f) w0 u := by
  rw [ex_callAccount_173]
  exact xw_gasCap f8 eg g2 (hw (fun r => zx_callAccount_193 post (nI f) r u) H)
theorem yc_head {post : SY → Prop} {k p2 p3 p4 p5 z : Int32} (Q : Qr G T A D M (f + 1) N q u v) (s8 : s < 8) (es : xg_frSelf u f = nI s) (eg : xg_frGas u f = nI g) (g2 : g ≤ 2000) (ez : xg_frStatic u f = z)
    (H : wpY_programOf (fun r => (k = 32 → zy_callOrCreate_80 post (nI (q f)) k p2 p3 (nI s) z (nI (g - g / 8)) p3 p2 p4 p5 r v) ∧ (¬ k = 32 → zy_callOrCreate_80 post (nI (q f)) k p2 p3 (nI s) z (nI (g - g / 8)) p3 p2 0 p4 r v)) v p3) : wpY_callOrCreate post v (nI (q f)) k p2 p3 p4 p5 := by
  have q32 := Q_q32 Q
  have lv := Q_lv Q
  obtain ⟨a1, a2, a3, a4, a5, a6, a7, a8, a9, a10, a11, a12, a13, a14, a15, a16, a17, a18, a19, a20, a21, a22, a23, a24, a25, a26, a27, a28, a29⟩ := lv
  rw [ey_callOrCreate, nu_m10, nu_a2, nu_a4, nI_clamp (n := q f * 10 + 2) (by omega), nI_clamp (n := q f * 10 + 4) (by omega), nI_clamp (n := q f) (by omega), a5, es, a18, ez, a13, eg]
  have e : nI g - nI g / 8 = nI (g - g / 8) := by
    rw [show nI g / 8 = nI (g / 8) from pk_div (d := 8) (by omega) (by decide) (by decide), pk_sub (Nat.div_le_self _ _)]
  rw [e]
  exact ⟨vp_in_nI (by omega) (by decide), nm_e ⟨vp_in_nI (by omega) (by decide), nm_e ⟨vp_in_nI q32 (by decide), vp_in_nI q32 (by decide), by decide, nm_e H⟩⟩⟩
theorem yc_no {post : SY → Prop} {k x : Int32} (hk : (k = 35 ∧ x = -1) ∨ (¬ k = 35 ∧ x = 0)) (H : wpY_push (fun v' => vp_in (nI (q f)) 32 ∧ ∀ a : Nat → Int32, a = upd (yg_result v') (nI (q f)).toNatClampNeg 0 → post (ys_result a v')) v (nI (q f)) x) : zy_callOrCreate_166 post (nI (q f)) k v := by
  rw [ey_callOrCreate_166]
  rcases hk with ⟨h, rfl⟩ | ⟨h, rfl⟩
  · refine br_t h ?_
    rw [ey_callOrCreate_179]
    exact H
  · refine br_f h ?_
    rw [ey_callOrCreate_179]
    exact H
theorem yc_210 {post : SY → Prop} {k x8 x10 x12 x13 x14 : Int32} {hN : Nat} (q32 : q f < 32) (el : yg_left v (q f) = nI g) (hg : hN ≤ g)
    (H : ((k = 32 → wpY_enter (fun v' => zy_callOrCreate_249 post (nI (q f)) k (nI s) x8 x10 x12 x13 x14 v') (ym_handed_left (nI hN) (upd (yg_left v) (q f) (nI (g - hN))) v) 1 x14 x10 (nI s) x12 x13 x8) ∧ (¬ k = 32 → zy_callOrCreate_249 post (nI (q f)) k (nI s) x8 x10 x12 x13 x14 (ym_handed_left (nI hN) (upd (yg_left v) (q f) (nI (g - hN))) v)))) : zy_callOrCreate_210 post (nI (q f)) k (nI s) x8 x10 x12 x13 x14 (nI hN) v := by
  rw [ey_callOrCreate_210, nI_clamp (n := q f) (by omega)]
  refine ⟨vp_in_nI q32 (by decide), vp_in_nI q32 (by decide), nm_r (e' := upd (yg_left v) (q f) (nI (g - hN))) ?_ H⟩
  rw [el, pk_sub hg]
theorem yd_call {post : SY → Prop} {d : Nat} {x1 x9 x10 k : Int32} (Q : Qr G T A D M d N q u v) (hc : c < 8) (hp : p ≤ 40) (h4 : 4 < k) (h17 : ¬ k = 17) (h18 : ¬ k = 18) (H : zy_step_306 post x1 (nI c) x3 (nI p) k x9 x10 (0 + 1) 5 v) : zy_step_255 post x1 (nI c) x3 (nI p) k x9 x10 v := by
  obtain ⟨l, l32, _, e⟩ := Q_len Q hc
  exact yt_255 hc e l32 hp h4 h17 h18 H
theorem op_32 (Q : Qr G T A D M (f + 1) N q u v) (hh : xg_frHeight u f = nI (t + 4)) (h16 : t + 4 ≤ 16) (hc : c < 8) (hp : p ≤ 40) (hB : M < B) (s8 : s < 8) (es : xg_frSelf u f = nI s) (eg : xg_frGas u f = nI g) (g2 : g ≤ 2000) :
    Ou G T A D B N (fun post => wpX_execute post u (nI f) 32) (fun post => zy_step_226 post (nI (q f)) (nI c) x3 (nI p) 32 (xg_stack u (f * 16 + (t + 3))) (xg_stack u (f * 16 + (t + 2))) (xg_stack u (f * 16 + (t + 1))) (xg_stack u (f * 16 + t)) (yu_hgt (q f) t v)) := by
  have f8 := Q_f8 Q
  have q32 := Q_q32 Q
  have QU := Q_hgt Q hh h16 (k := t) (by omega)
  have hA : xg_accounts u = nI A := Q.2.1.1.2.2
  have hA8 := Q.2.1.1.2.1
  have hA' : yg_accounts (yu_hgt (q f) t v) = nI A := Q.1.1.trans hA
  have hw : yg_world (yu_hgt (q f) t v) = xg_world u := Q.1.2.2.2.2.2.2.2.2.2.2.2.1
  have hz : xg_frStatic u f = 0 ∨ xg_frStatic u f = 1 := (Q_lv Q).2.2.2.2.2.2.2.2.2.2.2.2.2.2.2.2.1
  have el : yg_left (yu_hgt (q f) t v) (q f) = nI g := (Q_lv Q).2.2.2.2.2.2.2.2.2.2.2.2.1.trans eg
  have hW : Wd_ T (xg_world u) := Q.2.2.1
  -- Y: down to the decision
  have HY : ∀ (post : SY → Prop) (cd : Int32), (∀ P : Int32 → Prop, P cd → wpY_programOf P (yu_hgt (q f) t v) (xg_stack u (f * 16 + (t + 2)))) → zy_callOrCreate_103 (fun v' => zy_step_255 post (nI (q f)) (nI c) x3 (nI p) 32 (xg_stack u (f * 16 + (t + 3))) (xg_stack u (f * 16 + (t + 2))) v') (nI (q f)) 32 (nI s) (xg_frStatic u f) (nI (g - g / 8)) (xg_stack u (f * 16 + (t + 2))) (xg_stack u (f * 16 + (t + 3))) (xg_stack u (f * 16 + (t + 1))) (xg_stack u (f * 16 + t)) cd (yu_hgt (q f) t v) → zy_step_226 post (nI (q f)) (nI c) x3 (nI p) 32 (xg_stack u (f * 16 + (t + 3))) (xg_stack u (f * 16 + (t + 2))) (xg_stack u (f * 16 + (t + 1))) (xg_stack u (f * 16 + t)) (yu_hgt (q f) t v) := by
    intro post cd hcd H
    rw [ey_step_226]
    refine br_f (by decide) (br_f (by decide) (yc_head QU s8 es eg g2 rfl (hcd _ (br_t rfl ?_))))
    rw [ey_callOrCreate_80]
    exact br_f (by decide) H
  have HX : ∀ post : SX → Prop, zx_callAccount_29 post (nI f) 32 (xg_stack u (f * 16 + (t + 3))) (xg_stack u (f * 16 + (t + 2))) (xg_stack u (f * 16 + (t + 1))) (xu_hgt f (t + 1) u) → wpX_execute post u (nI f) 32 := by
    intro post H
    refine xd_32 ?_
    rw [ex_callAccount]
    refine xw_pop f8 hh (by omega) (xw_pop' f8 (by omega) (br_t rfl (xw_pop' f8 (by omega) ?_)))
    exact H
  by_cases ok : (∃ a e, a < A ∧ (xg_stack u (f * 16 + (t + 2))) = nI a ∧ e < 8 ∧ xg_world u (a * 6) = nI e) ∧ (¬ (xg_stack u (f * 16 + (t + 1))) < 0 ∧ ¬ xg_world u (s * 6 + 1) < (xg_stack u (f * 16 + (t + 1)))) ∧ (f + 1 < D ∧ N < 32)
  · obtain ⟨⟨a, e, aA, ea, e8, ez⟩, pay, free⟩ := ok
    obtain ⟨hN, hNg, hw1, hw2⟩ := hand_both (xg_stack u (f * 16 + (t + 3))) g2
    obtain ⟨u', v', Q1, hX, hY⟩ := call_go (k := 1) (a := (nI s)) (x := (xg_stack u (f * 16 + (t + 1)))) (i := (xg_stack u (f * 16 + t))) (z := (xg_frStatic u f)) (b := s) (e := e) (r := a) (W := wt_ (xg_world u) s a (xg_stack u (f * 16 + (t + 1)))) QU eg g2 hNg free.1 free.2 e8 (by omega) hz (fun _ => rfl) (Or.inl ⟨rfl, s8, rfl⟩) (Wd_move Q.2.2.1 s8 (by omega) pay.1 pay.2 (fun h => nu_m1 (by omega) (ez.symm.trans h)))
    refine ⟨M, f + 2, N + 1, _, u', v', hB, by omega, Q1, fun post H => HX post (xc_29 QU (by omega) s8 es (fun h => absurd ⟨⟨a, e, aA, ea, e8, ez⟩, pay, free⟩ h) ?_), fun post H => HY post (nI e) (fun P hP => ?_) (yc_103 QU s8 (fun h => ?_) (fun _ _ _ _ _ => ?_))⟩
    · intro a' e' a1 a2 a3 a4 _ _
      obtain rfl : a' = a := (nI_eq (by omega) (by omega)).mp (a2.symm.trans ea)
      obtain rfl : e' = e := (nI_eq (by omega) (by omega)).mp (a4.symm.trans ez)
      have K : wpX_setFrame (fun u2 => zx_callAccount_173 post (nI f) (xg_stack u (f * 16 + (t + 3))) u2) (xu_hgt f t u) 1 (nI e') (nI a') (nI s) (xg_stack u (f * 16 + (t + 1))) (xg_stack u (f * 16 + t)) (xg_frStatic u f) := sf_mono (fun u2 h2 h3 => xc_173 f8 ((congrFun h2 f).trans eg) g2 hw1 h3) (hX post H)
      exact ⟨fun _ => K, fun h => absurd h (by decide), fun h => absurd rfl h⟩
    · rw [ea]
      refine yw_programOf_t hA' hA8 aA ?_
      rw [show yg_world (yu_hgt (q f) t v) (a * 6) = nI e from (congrFun hw _).trans ez]
      exact hP
    · rcases h with h | h | h | h | h
      · exact absurd h (nI_pos (by omega))
      · exact absurd (nI_le (b := 7) (a := e) (by omega) (by decide)) (Int32.not_le.mpr h)
      · rw [ea] at h
        exact absurd h (nI_pos (by omega))
      · exact absurd pay h
      · exact absurd free h
    · refine hw2 (fun r => zy_callOrCreate_210 (fun v' => zy_step_255 post (nI (q f)) (nI c) x3 (nI p) 32 (xg_stack u (f * 16 + (t + 3))) (xg_stack u (f * 16 + (t + 2))) v') (nI (q f)) 32 (nI s) (xg_frStatic u f) (xg_stack u (f * 16 + (t + 2))) (xg_stack u (f * 16 + (t + 1))) (xg_stack u (f * 16 + t)) (nI e) r (yu_hgt (q f) t v)) (yc_210 q32 el hNg ?_)
      rw [ea]
      refine br_t rfl (hY _ ?_)
      rw [ey_callOrCreate_249]
      refine br_f (by decide) ?_
      rw [ey_callOrCreate_270]
      refine br_f (by decide) ?_
      rw [ey_callOrCreate_301]
      exact br_f (by decide) (yd_call Q1 hc hp (by decide) (by decide) (by decide) (yd_32 H))
  · refine call_no (x := 0) (K := fun post v' => zy_step_255 post (nI (q f)) (nI c) x3 (nI p) 32 (xg_stack u (f * 16 + (t + 3))) (xg_stack u (f * 16 + (t + 2))) v') QU pk_us (by omega) hB (fun post u' v' Q' H => yd_call Q' hc hp (by decide) (by decide) (by decide) (yd_32 H)) (fun post H => HX post (xc_29 QU (by omega) s8 es (fun _ => H) (fun a e a1 a2 a3 a4 a5 a6 => absurd ⟨⟨a, e, a1, a2, a3, a4⟩, a5, a6⟩ ok))) (fun post H => ?_)
    have NO : zy_callOrCreate_166 (fun v' => zy_step_255 post (nI (q f)) (nI c) x3 (nI p) 32 (xg_stack u (f * 16 + (t + 3))) (xg_stack u (f * 16 + (t + 2))) v') (nI (q f)) 32 (yu_hgt (q f) t v) := yc_no (Or.inr ⟨by decide, rfl⟩) H
    rcases nu_cases (xg_stack u (f * 16 + (t + 2))) A (by omega) with ⟨a, aA, ea⟩ | ⟨_, na⟩
    · rcases hW.1.1 a (by omega) with z | ⟨e, e8, z⟩
      · refine HY post (-1) (fun P hP => ?_) (yc_103 QU s8 (fun _ => NO) (fun h => absurd (by decide) h))
        rw [ea]
        refine yw_programOf_t hA' hA8 aA ?_
        rw [show yg_world (yu_hgt (q f) t v) (a * 6) = -1 from (congrFun hw _).trans z]
        exact hP
      · refine HY post (nI e) (fun P hP => ?_) (yc_103 QU s8 (fun _ => NO) (fun _ _ _ h4 h5 => absurd ⟨⟨a, e, aA, ea, e8, z⟩, h4, h5⟩ ok))
        rw [ea]
        refine yw_programOf_t hA' hA8 aA ?_
        rw [show yg_world (yu_hgt (q f) t v) (a * 6) = nI e from (congrFun hw _).trans z]
        exact hP
    · exact HY post (-1) (fun P hP => yw_programOf_f hA' hA8 na hP) (yc_103 QU s8 (fun _ => NO) (fun h => absurd (by decide) h))
theorem op_33 (Q : Qr G T A D M (f + 1) N q u v) (hh : xg_frHeight u f = nI (t + 3)) (h16 : t + 3 ≤ 16) (hc : c < 8) (hp : p ≤ 40) (hB : M < B) (s8 : s < 8) (es : xg_frSelf u f = nI s) (eg : xg_frGas u f = nI g) (g2 : g ≤ 2000) :
    Ou G T A D B N (fun post => wpX_execute post u (nI f) 33) (fun post => zy_step_226 post (nI (q f)) (nI c) x3 (nI p) 33 (xg_stack u (f * 16 + (t + 2))) (xg_stack u (f * 16 + (t + 1))) (xg_stack u (f * 16 + t)) x12 (yu_hgt (q f) t v)) := by
  have f8 := Q_f8 Q
  have q32 := Q_q32 Q
  have QU := Q_hgt Q hh h16 (k := t) (by omega)
  have hA : xg_accounts u = nI A := Q.2.1.1.2.2
  have hA8 := Q.2.1.1.2.1
  have hA' : yg_accounts (yu_hgt (q f) t v) = nI A := Q.1.1.trans hA
  have hw : yg_world (yu_hgt (q f) t v) = xg_world u := Q.1.2.2.2.2.2.2.2.2.2.2.2.1
  have hz : xg_frStatic u f = 0 ∨ xg_frStatic u f = 1 := (Q_lv Q).2.2.2.2.2.2.2.2.2.2.2.2.2.2.2.2.1
  have el : yg_left (yu_hgt (q f) t v) (q f) = nI g := (Q_lv Q).2.2.2.2.2.2.2.2.2.2.2.2.1.trans eg
  have hW : Wd_ T (xg_world u) := Q.2.2.1
  -- Y: down to the decision
  have HY : ∀ (post : SY → Prop) (cd : Int32), (∀ P : Int32 → Prop, P cd → wpY_programOf P (yu_hgt (q f) t v) (xg_stack u (f * 16 + (t + 1)))) → zy_callOrCreate_103 (fun v' => zy_step_255 post (nI (q f)) (nI c) x3 (nI p) 33 (xg_stack u (f * 16 + (t + 2))) (xg_stack u (f * 16 + (t + 1))) v') (nI (q f)) 33 (nI s) (xg_frStatic u f) (nI (g - g / 8)) (xg_stack u (f * 16 + (t + 1))) (xg_stack u (f * 16 + (t + 2))) (0 : Int32) (xg_stack u (f * 16 + t)) cd (yu_hgt (q f) t v) → zy_step_226 post (nI (q f)) (nI c) x3 (nI p) 33 (xg_stack u (f * 16 + (t + 2))) (xg_stack u (f * 16 + (t + 1))) (xg_stack u (f * 16 + t)) x12 (yu_hgt (q f) t v) := by
    intro post cd hcd H
    rw [ey_step_226]
    refine br_f (by decide) (br_f (by decide) (yc_head QU s8 es eg g2 rfl (hcd _ (br_f (by decide) ?_))))
    rw [ey_callOrCreate_80]
    exact br_f (by decide) H
  have HX : ∀ post : SX → Prop, zx_callAccount_29 post (nI f) 33 (xg_stack u (f * 16 + (t + 2))) (xg_stack u (f * 16 + (t + 1))) (0 : Int32) (xu_hgt f (t + 1) u) → wpX_execute post u (nI f) 33 := by
    intro post H
    refine xd_33 ?_
    rw [ex_callAccount]
    refine xw_pop f8 hh (by omega) (xw_pop' f8 (by omega) (br_f (by decide) ?_))
    exact H
  by_cases ok : (∃ a e, a < A ∧ (xg_stack u (f * 16 + (t + 1))) = nI a ∧ e < 8 ∧ xg_world u (a * 6) = nI e) ∧ (¬ (0 : Int32) < 0 ∧ ¬ xg_world u (s * 6 + 1) < (0 : Int32)) ∧ (f + 1 < D ∧ N < 32)
  · obtain ⟨⟨a, e, aA, ea, e8, ez⟩, pay, free⟩ := ok
    obtain ⟨hN, hNg, hw1, hw2⟩ := hand_both (xg_stack u (f * 16 + (t + 2))) g2
    obtain ⟨u', v', Q1, hX, hY⟩ := call_go (k := 2) (a := (nI s)) (x := 0) (i := (xg_stack u (f * 16 + t))) (z := 1) (b := s) (e := e) (r := a) (W := xg_world u) QU eg g2 hNg free.1 free.2 e8 (by omega) (Or.inr rfl) (fun _ => rfl) (Or.inr (Or.inr ⟨by decide, by decide, rfl⟩)) Q.2.2.1
    refine ⟨M, f + 2, N + 1, _, u', v', hB, by omega, Q1, fun post H => HX post (xc_29 QU (by omega) s8 es (fun h => absurd ⟨⟨a, e, aA, ea, e8, ez⟩, pay, free⟩ h) ?_), fun post H => HY post (nI e) (fun P hP => ?_) (yc_103 QU s8 (fun h => ?_) (fun _ _ _ _ _ => ?_))⟩
    · intro a' e' a1 a2 a3 a4 _ _
      obtain rfl : a' = a := (nI_eq (by omega) (by omega)).mp (a2.symm.trans ea)
      obtain rfl : e' = e := (nI_eq (by omega) (by omega)).mp (a4.symm.trans ez)
      have K : wpX_setFrame (fun u2 => zx_callAccount_173 post (nI f) (xg_stack u (f * 16 + (t + 2))) u2) (xu_hgt f t u) 2 (nI e') (nI a') (nI s) 0 (xg_stack u (f * 16 + t)) 1 := sf_mono (fun u2 h2 h3 => xc_173 f8 ((congrFun h2 f).trans eg) g2 hw1 h3) (hX post H)
      exact ⟨fun h => absurd h (by decide), fun _ => K, fun _ h => absurd rfl h⟩
    · rw [ea]
      refine yw_programOf_t hA' hA8 aA ?_
      rw [show yg_world (yu_hgt (q f) t v) (a * 6) = nI e from (congrFun hw _).trans ez]
      exact hP
    · rcases h with h | h | h | h | h
      · exact absurd h (nI_pos (by omega))
      · exact absurd (nI_le (b := 7) (a := e) (by omega) (by decide)) (Int32.not_le.mpr h)
      · rw [ea] at h
        exact absurd h (nI_pos (by omega))
      · exact absurd pay h
      · exact absurd free h
    · refine hw2 (fun r => zy_callOrCreate_210 (fun v' => zy_step_255 post (nI (q f)) (nI c) x3 (nI p) 33 (xg_stack u (f * 16 + (t + 2))) (xg_stack u (f * 16 + (t + 1))) v') (nI (q f)) 33 (nI s) (xg_frStatic u f) (xg_stack u (f * 16 + (t + 1))) (0 : Int32) (xg_stack u (f * 16 + t)) (nI e) r (yu_hgt (q f) t v)) (yc_210 q32 el hNg ?_)
      rw [ea]
      refine br_f (by decide) ?_
      rw [ey_callOrCreate_249]
      refine br_t rfl (hY _ ?_)
      rw [ey_callOrCreate_270]
      refine br_f (by decide) ?_
      rw [ey_callOrCreate_301]
      exact br_f (by decide) (yd_call Q1 hc hp (by decide) (by decide) (by decide) (yd_33 H))
  · refine call_no (x := 0) (K := fun post v' => zy_step_255 post (nI (q f)) (nI c) x3 (nI p) 33 (xg_stack u (f * 16 + (t + 2))) (xg_stack u (f * 16 + (t + 1))) v') QU pk_us (by omega) hB (fun post u' v' Q' H => yd_call Q' hc hp (by decide) (by decide) (by decide) (yd_33 H)) (fun post H => HX post (xc_29 QU (by omega) s8 es (fun _ => H) (fun a e a1 a2 a3 a4 a5 a6 => absurd ⟨⟨a, e, a1, a2, a3, a4⟩, a5, a6⟩ ok))) (fun post H => ?_)
    have NO : zy_callOrCreate_166 (fun v' => zy_step_255 post (nI (q f)) (nI c) x3 (nI p) 33 (xg_stack u (f * 16 + (t + 2))) (xg_stack u (f * 16 + (t + 1))) v') (nI (q f)) 33 (yu_hgt (q f) t v) := yc_no (Or.inr ⟨by decide, rfl⟩) H
    rcases nu_cases (xg_stack u (f * 16 + (t + 1))) A (by omega) with ⟨a, aA, ea⟩ | ⟨_, na⟩
    · rcases hW.1.1 a (by omega) with z | ⟨e, e8, z⟩
      · refine HY post (-1) (fun P hP => ?_) (yc_103 QU s8 (fun _ => NO) (fun h => absurd (by decide) h))
        rw [ea]
        refine yw_programOf_t hA' hA8 aA ?_
        rw [show yg_world (yu_hgt (q f) t v) (a * 6) = -1 from (congrFun hw _).trans z]
        exact hP
      · refine HY post (nI e) (fun P hP => ?_) (yc_103 QU s8 (fun _ => NO) (fun _ _ _ h4 h5 => absurd ⟨⟨a, e, aA, ea, e8, z⟩, h4, h5⟩ ok))
        rw [ea]
        refine yw_programOf_t hA' hA8 aA ?_
        rw [show yg_world (yu_hgt (q f) t v) (a * 6) = nI e from (congrFun hw _).trans z]
        exact hP
    · exact HY post (-1) (fun P hP => yw_programOf_f hA' hA8 na hP) (yc_103 QU s8 (fun _ => NO) (fun h => absurd (by decide) h))
theorem op_34 (Q : Qr G T A D M (f + 1) N q u v) (hh : xg_frHeight u f = nI (t + 3)) (h16 : t + 3 ≤ 16) (hc : c < 8) (hp : p ≤ 40) (hB : M < B) (s8 : s < 8) (es : xg_frSelf u f = nI s) (eg : xg_frGas u f = nI g) (g2 : g ≤ 2000) :
    Ou G T A D B N (fun post => wpX_execute post u (nI f) 34) (fun post => zy_step_226 post (nI (q f)) (nI c) x3 (nI p) 34 (xg_stack u (f * 16 + (t + 2))) (xg_stack u (f * 16 + (t + 1))) (xg_stack u (f * 16 + t)) x12 (yu_hgt (q f) t v)) := by
  have f8 := Q_f8 Q
  have q32 := Q_q32 Q
  have QU := Q_hgt Q hh h16 (k := t) (by omega)
  have hA : xg_accounts u = nI A := Q.2.1.1.2.2
  have hA8 := Q.2.1.1.2.1
  have hA' : yg_accounts (yu_hgt (q f) t v) = nI A := Q.1.1.trans hA
  have hw : yg_world (yu_hgt (q f) t v) = xg_world u := Q.1.2.2.2.2.2.2.2.2.2.2.2.1
  have hz : xg_frStatic u f = 0 ∨ xg_frStatic u f = 1 := (Q_lv Q).2.2.2.2.2.2.2.2.2.2.2.2.2.2.2.2.1
  have el : yg_left (yu_hgt (q f) t v) (q f) = nI g := (Q_lv Q).2.2.2.2.2.2.2.2.2.2.2.2.1.trans eg
  have hW : Wd_ T (xg_world u) := Q.2.2.1
  -- Y: down to the decision
  have HY : ∀ (post : SY → Prop) (cd : Int32), (∀ P : Int32 → Prop, P cd → wpY_programOf P (yu_hgt (q f) t v) (xg_stack u (f * 16 + (t + 1)))) → zy_callOrCreate_103 (fun v' => zy_step_255 post (nI (q f)) (nI c) x3 (nI p) 34 (xg_stack u (f * 16 + (t + 2))) (xg_stack u (f * 16 + (t + 1))) v') (nI (q f)) 34 (nI s) (xg_frStatic u f) (nI (g - g / 8)) (xg_stack u (f * 16 + (t + 1))) (xg_stack u (f * 16 + (t + 2))) (0 : Int32) (xg_stack u (f * 16 + t)) cd (yu_hgt (q f) t v) → zy_step_226 post (nI (q f)) (nI c) x3 (nI p) 34 (xg_stack u (f * 16 + (t + 2))) (xg_stack u (f * 16 + (t + 1))) (xg_stack u (f * 16 + t)) x12 (yu_hgt (q f) t v) := by
    intro post cd hcd H
    rw [ey_step_226]
    refine br_f (by decide) (br_f (by decide) (yc_head QU s8 es eg g2 rfl (hcd _ (br_f (by decide) ?_))))
    rw [ey_callOrCreate_80]
    exact br_f (by decide) H
  have HX : ∀ post : SX → Prop, zx_callAccount_29 post (nI f) 34 (xg_stack u (f * 16 + (t + 2))) (xg_stack u (f * 16 + (t + 1))) (0 : Int32) (xu_hgt f (t + 1) u) → wpX_execute post u (nI f) 34 := by
    intro post H
    refine xd_34 ?_
    rw [ex_callAccount]
    refine xw_pop f8 hh (by omega) (xw_pop' f8 (by omega) (br_f (by decide) ?_))
    exact H
  by_cases ok : (∃ a e, a < A ∧ (xg_stack u (f * 16 + (t + 1))) = nI a ∧ e < 8 ∧ xg_world u (a * 6) = nI e) ∧ (¬ (0 : Int32) < 0 ∧ ¬ xg_world u (s * 6 + 1) < (0 : Int32)) ∧ (f + 1 < D ∧ N < 32)
  · obtain ⟨⟨a, e, aA, ea, e8, ez⟩, pay, free⟩ := ok
    obtain ⟨hN, hNg, hw1, hw2⟩ := hand_both (xg_stack u (f * 16 + (t + 2))) g2
    obtain ⟨u', v', Q1, hX, hY⟩ := call_go (k := 3) (a := (xg_frCaller u f)) (x := (xg_frValue u f)) (i := (xg_stack u (f * 16 + t))) (z := (xg_frStatic u f)) (b := s) (e := e) (r := s) (W := xg_world u) QU eg g2 hNg free.1 free.2 e8 (by omega) hz (fun h => absurd h (by decide)) (Or.inr (Or.inr ⟨by decide, by decide, rfl⟩)) Q.2.2.1
    refine ⟨M, f + 2, N + 1, _, u', v', hB, by omega, Q1, fun post H => HX post (xc_29 QU (by omega) s8 es (fun h => absurd ⟨⟨a, e, aA, ea, e8, ez⟩, pay, free⟩ h) ?_), fun post H => HY post (nI e) (fun P hP => ?_) (yc_103 QU s8 (fun h => ?_) (fun _ _ _ _ _ => ?_))⟩
    · intro a' e' a1 a2 a3 a4 _ _
      obtain rfl : a' = a := (nI_eq (by omega) (by omega)).mp (a2.symm.trans ea)
      obtain rfl : e' = e := (nI_eq (by omega) (by omega)).mp (a4.symm.trans ez)
      have K : wpX_setFrame (fun u2 => zx_callAccount_173 post (nI f) (xg_stack u (f * 16 + (t + 2))) u2) (xu_hgt f t u) 3 (nI e') (nI s) (xg_frCaller u f) (xg_frValue u f) (xg_stack u (f * 16 + t)) (xg_frStatic u f) := sf_mono (fun u2 h2 h3 => xc_173 f8 ((congrFun h2 f).trans eg) g2 hw1 h3) (hX post H)
      exact ⟨fun h => absurd h (by decide), fun h => absurd h (by decide), fun _ _ => K⟩
    · rw [ea]
      refine yw_programOf_t hA' hA8 aA ?_
      rw [show yg_world (yu_hgt (q f) t v) (a * 6) = nI e from (congrFun hw _).trans ez]
      exact hP
    · rcases h with h | h | h | h | h
      · exact absurd h (nI_pos (by omega))
      · exact absurd (nI_le (b := 7) (a := e) (by omega) (by decide)) (Int32.not_le.mpr h)
      · rw [ea] at h
        exact absurd h (nI_pos (by omega))
      · exact absurd pay h
      · exact absurd free h
    · refine hw2 (fun r => zy_callOrCreate_210 (fun v' => zy_step_255 post (nI (q f)) (nI c) x3 (nI p) 34 (xg_stack u (f * 16 + (t + 2))) (xg_stack u (f * 16 + (t + 1))) v') (nI (q f)) 34 (nI s) (xg_frStatic u f) (xg_stack u (f * 16 + (t + 1))) (0 : Int32) (xg_stack u (f * 16 + t)) (nI e) r (yu_hgt (q f) t v)) (yc_210 q32 el hNg ?_)
      rw [ea]
      refine br_f (by decide) ?_
      rw [ey_callOrCreate_249]
      refine br_f (by decide) ?_
      rw [ey_callOrCreate_270, nI_clamp (n := q f) (by omega)]
      refine br_t rfl ⟨vp_in_nI q32 (by decide), vp_in_nI q32 (by decide), ?_⟩
      rw [show yg_callerOf (ym_handed_left (nI hN) (upd (yg_left (yu_hgt (q f) t v)) (q f) (nI (g - hN))) (yu_hgt (q f) t v)) (q f) = xg_frCaller u f from (Q_lv Q).2.2.2.2.2.2.2.2.2.2.2.2.2.2.2.2.2.2.2.2.2.1, show yg_valueOf (ym_handed_left (nI hN) (upd (yg_left (yu_hgt (q f) t v)) (q f) (nI (g - hN))) (yu_hgt (q f) t v)) (q f) = xg_frValue u f from (Q_lv Q).2.2.2.2.2.2.2.2.2.2.2.2.2.2.2.2.2.2.2.2.2.2.1]
      refine hY _ ?_
      rw [ey_callOrCreate_301]
      exact br_f (by decide) (yd_call Q1 hc hp (by decide) (by decide) (by decide) (yd_34 H))
  · refine call_no (x := 0) (K := fun post v' => zy_step_255 post (nI (q f)) (nI c) x3 (nI p) 34 (xg_stack u (f * 16 + (t + 2))) (xg_stack u (f * 16 + (t + 1))) v') QU pk_us (by omega) hB (fun post u' v' Q' H => yd_call Q' hc hp (by decide) (by decide) (by decide) (yd_34 H)) (fun post H => HX post (xc_29 QU (by omega) s8 es (fun _ => H) (fun a e a1 a2 a3 a4 a5 a6 => absurd ⟨⟨a, e, a1, a2, a3, a4⟩, a5, a6⟩ ok))) (fun post H => ?_)
    have NO : zy_callOrCreate_166 (fun v' => zy_step_255 post (nI (q f)) (nI c) x3 (nI p) 34 (xg_stack u (f * 16 + (t + 2))) (xg_stack u (f * 16 + (t + 1))) v') (nI (q f)) 34 (yu_hgt (q f) t v) := yc_no (Or.inr ⟨by decide, rfl⟩) H
    rcases nu_cases (xg_stack u (f * 16 + (t + 1))) A (by omega) with ⟨a, aA, ea⟩ | ⟨_, na⟩
    · rcases hW.1.1 a (by omega) with z | ⟨e, e8, z⟩
      · refine HY post (-1) (fun P hP => ?_) (yc_103 QU s8 (fun _ => NO) (fun h => absurd (by decide) h))
        rw [ea]
        refine yw_programOf_t hA' hA8 aA ?_
        rw [show yg_world (yu_hgt (q f) t v) (a * 6) = -1 from (congrFun hw _).trans z]
        exact hP
      · refine HY post (nI e) (fun P hP => ?_) (yc_103 QU s8 (fun _ => NO) (fun _ _ _ h4 h5 => absurd ⟨⟨a, e, aA, ea, e8, z⟩, h4, h5⟩ ok))
        rw [ea]
        refine yw_programOf_t hA' hA8 aA ?_
        rw [show yg_world (yu_hgt (q f) t v) (a * 6) = nI e from (congrFun hw _).trans z]
        exact hP
    · exact HY post (-1) (fun P hP => yw_programOf_f hA' hA8 na hP) (yc_103 QU s8 (fun _ => NO) (fun h => absurd (by decide) h))
theorem op_35 (Q : Qr G T A D M (f + 1) N q u v) (hh : xg_frHeight u f = nI (t + 3)) (h16 : t + 3 ≤ 16) (hc : c < 8) (hp : p ≤ 40) (hB : M < B) (s8 : s < 8) (es : xg_frSelf u f = nI s) (eg : xg_frGas u f = nI g) (g2 : g ≤ 2000) :
    Ou G T A D B N (fun post => wpX_execute post u (nI f) 35) (fun post => zy_step_226 post (nI (q f)) (nI c) x3 (nI p) 35 (xg_stack u (f * 16 + (t + 2))) (xg_stack u (f * 16 + (t + 1))) (xg_stack u (f * 16 + t)) x12 (yu_hgt (q f) t v)) := by
  have f8 := Q_f8 Q
  have q32 := Q_q32 Q
  have v8 := vp_in_nI f8 (N := 8) (by decide)
  have QU := Q_hgt Q hh h16 (k := t) (by omega)
  have hA : xg_accounts u = nI A := Q.2.1.1.2.2
  have hA8 := Q.2.1.1.2.1
  have D8 := Q.2.1.2.1.2.1
  have N32 := Q.2.2.2.2.2.1.1
  have hA' : yg_accounts (yu_hgt (q f) t v) = nI A := Q.1.1.trans hA
  have hw : yg_world (yu_hgt (q f) t v) = xg_world u := Q.1.2.2.2.2.2.2.2.2.2.2.2.1
  have el : yg_left (yu_hgt (q f) t v) (q f) = nI g := (Q_lv Q).2.2.2.2.2.2.2.2.2.2.2.2.1.trans eg
  have hW : Wd_ T (xg_world u) := Q.2.2.1
  obtain ⟨r, hr, fX, fY⟩ := ff_both (u := xu_hgt f t u) (v := yu_hgt (q f) t v) (A := A) hA hA' hA8 hw hW.1.1
  obtain ⟨r9, h9⟩ := y_progAny (v := yu_hgt (q f) t v) (xg_stack u (f * 16 + (t + 1))) hA' hA8
  have HY : ∀ post : SY → Prop, zy_callOrCreate_103 (fun v' => zy_step_255 post (nI (q f)) (nI c) x3 (nI p) 35 (xg_stack u (f * 16 + (t + 2))) (xg_stack u (f * 16 + (t + 1))) v') (nI (q f)) 35 (nI s) (xg_frStatic u f) (nI (g - g / 8)) r (nI (g - g / 8)) (xg_stack u (f * 16 + (t + 1))) (xg_stack u (f * 16 + t)) (xg_stack u (f * 16 + (t + 2))) (yu_hgt (q f) t v) → zy_step_226 post (nI (q f)) (nI c) x3 (nI p) 35 (xg_stack u (f * 16 + (t + 2))) (xg_stack u (f * 16 + (t + 1))) (xg_stack u (f * 16 + t)) x12 (yu_hgt (q f) t v) := by
    intro post H
    rw [ey_step_226]
    refine br_f (by decide) (br_f (by decide) (yc_head QU s8 es eg g2 rfl (h9 _ (br_f (by decide) ?_))))
    rw [ey_callOrCreate_80]
    exact br_t rfl (fY _ H)
  have no63 : ∀ post : SX → Prop, wpX_notEntered post (xu_hgt f t u) (nI f) (-1) → zx_createAccount_63 post (nI f) (xu_hgt f t u) := by
    intro post H
    rw [ex_createAccount_63]
    exact H
  have HX : ∀ post : SX → Prop, (¬ ((∃ e, e < 8 ∧ (xg_stack u (f * 16 + (t + 2))) = nI e) ∧ ¬ r < 0 ∧ (¬ (xg_stack u (f * 16 + (t + 1))) < 0 ∧ ¬ xg_world u (s * 6 + 1) < (xg_stack u (f * 16 + (t + 1)))) ∧ (f + 1 < D ∧ N < 32)) → wpX_notEntered post (xu_hgt f t u) (nI f) (-1)) →
      (∀ e, e < 8 → (xg_stack u (f * 16 + (t + 2))) = nI e → ¬ r < 0 → (¬ (xg_stack u (f * 16 + (t + 1))) < 0 ∧ ¬ xg_world u (s * 6 + 1) < (xg_stack u (f * 16 + (t + 1)))) → (f + 1 < D ∧ N < 32) → wpX_setFrame (fun u2 => zx_callAccount_193 post (nI f) (nI (g - g / 8)) u2) (xu_hgt f t u) 4 (nI e) r (nI s) (xg_stack u (f * 16 + (t + 1))) (xg_stack u (f * 16 + t)) 0) → wpX_execute post u (nI f) 35 := by
    intro post Hno Hyes
    refine xd_35 ?_
    rw [ex_createAccount]
    refine xw_pop f8 hh (by omega) (xw_pop' f8 (by omega) (xw_pop' f8 (by omega) ?_))
    rw [nI_clamp (n := f) (by omega), show xg_frSelf (xu_hgt f t u) f = nI s from es]
    refine ⟨v8, nm_e (fX _ ?_)⟩
    by_cases he : ∃ e, e < 8 ∧ (xg_stack u (f * 16 + (t + 2))) = nI e
    · obtain ⟨e, e8, ee⟩ := he
      rw [ee]
      refine xw_isProgram_t e8 (br_f (by decide) (br_c (fun h => ?_) (fun h => ?_)))
      · exact no63 post (Hno (fun y => y.2.1 h))
      · by_cases pay : ¬ (xg_stack u (f * 16 + (t + 1))) < 0 ∧ ¬ xg_world u (s * 6 + 1) < (xg_stack u (f * 16 + (t + 1)))
        · refine xw_canPay_t s8 pay.1 pay.2 (br_f (by decide) ?_)
          by_cases free : f + 1 < D ∧ N < 32
          · refine xw_frameFree_t (d := f + 1) (D := D) (n := N) Q.2.2.2.2.1.2 Q.2.1.2.1.2.2 Q.2.2.2.2.2.1.2 free.1 D8 free.2 (br_f (by decide) ?_)
            refine sf_mono (fun u2 h2 h3 => ?_) (Hyes e e8 ee h pay free)
            refine xw_gasCap f8 ((congrFun h2 f).trans eg) g2 ?_
            rw [ex_callAccount_193, nI_clamp (n := f) (by omega)] at h3
            exact h3
          · exact xw_frameFree_f (d := f + 1) (D := D) (n := N) Q.2.2.2.2.1.2 Q.2.1.2.1.2.2 Q.2.2.2.2.2.1.2 (by omega) D8 N32 free (br_t rfl (no63 post (Hno (fun h => free h.2.2.2))))
        · exact xw_canPay_f s8 pay (br_t rfl (no63 post (Hno (fun h => pay h.2.2.1))))
    · exact xw_isProgram_f he (br_t rfl (no63 post (Hno (fun h => he h.1))))
  by_cases ok : (∃ e, e < 8 ∧ (xg_stack u (f * 16 + (t + 2))) = nI e) ∧ ¬ r < 0 ∧ (¬ (xg_stack u (f * 16 + (t + 1))) < 0 ∧ ¬ xg_world u (s * 6 + 1) < (xg_stack u (f * 16 + (t + 1)))) ∧ (f + 1 < D ∧ N < 32)
  · obtain ⟨⟨e, e8, ee⟩, r0, pay, free⟩ := ok
    obtain ⟨a, aA, ea, az⟩ : ∃ a, a < A ∧ r = nI a ∧ xg_world u (a * 6) = -1 := by
      rcases hr with h | h
      · exact absurd (nu_lneg h) r0
      · exact h
    have hWd : Wd_ T (wt_ (upd (xg_world u) (a * 6) (nI e)) s a (xg_stack u (f * 16 + (t + 1)))) := Wd_move (Wd_code hW (by omega) e8) s8 (by omega) pay.1 (by rw [pk_un (by omega)]; exact pay.2) (by rw [pk_us]; exact nu_m1 (by omega))
    obtain ⟨u', v', Q1, hX, hY⟩ := call_go (k := 4) (a := nI s) (x := (xg_stack u (f * 16 + (t + 1)))) (i := (xg_stack u (f * 16 + t))) (z := 0) (b := s) (e := e) (r := a) (hN := g - g / 8) (W := wt_ (upd (xg_world u) (a * 6) (nI e)) s a (xg_stack u (f * 16 + (t + 1)))) QU eg g2 (by omega) free.1 free.2 e8 (by omega) (Or.inl rfl) (fun _ => rfl) (Or.inr (Or.inl ⟨rfl, s8, rfl⟩)) hWd
    refine ⟨M, f + 2, N + 1, _, u', v', hB, by omega, Q1, fun post H => HX post (fun h => absurd ⟨⟨e, e8, ee⟩, r0, pay, free⟩ h) (fun e' e1 e2 _ _ _ => ?_), fun post H => HY post (yc_103 QU s8 (fun h => ?_) (fun _ _ _ _ _ => ?_))⟩
    · obtain rfl : e' = e := (nI_eq (by omega) (by omega)).mp (e2.symm.trans ee)
      rw [ea]
      exact hX post H
    · rw [ee] at h
      rcases h with h | h | h | h | h
      · exact absurd h (nI_pos (by omega))
      · exact absurd (nI_le (b := 7) (a := e) (by omega) (by decide)) (Int32.not_le.mpr h)
      · exact absurd h r0
      · exact absurd pay h
      · exact absurd free h
    · refine br_f (nI_pos (by omega)) (br_t (nI_le (Nat.le_refl _) (by omega)) (yc_210 q32 el (by omega) (br_f (by decide) ?_)))
      rw [ey_callOrCreate_249]
      refine br_f (by decide) ?_
      rw [ey_callOrCreate_270]
      refine br_f (by decide) ?_
      rw [ey_callOrCreate_301, ee, ea]
      refine br_t rfl (hY _ ?_)
      rw [← ee]
      exact yd_call Q1 hc hp (by decide) (by decide) (by decide) (yd_35 H)
  · refine call_no (x := -1) (K := fun post v' => zy_step_255 post (nI (q f)) (nI c) x3 (nI p) 35 (xg_stack u (f * 16 + (t + 2))) (xg_stack u (f * 16 + (t + 1))) v') QU pk_us (by omega) hB (fun post u' v' Q' H => yd_call Q' hc hp (by decide) (by decide) (by decide) (yd_35 H)) (fun post H => HX post (fun _ => H) (fun e e8 ee h1 h2 h3 => absurd ⟨⟨e, e8, ee⟩, h1, h2, h3⟩ ok)) (fun post H => HY post (yc_103 QU s8 (fun _ => yc_no (Or.inl ⟨rfl, rfl⟩) H) (fun h1 h2 h3 h4 h5 => absurd ⟨?_, h3, h4, h5⟩ ok)))
    obtain ⟨j, hj, ej⟩ := nI_of h1
    refine ⟨j, ?_, ej⟩
    rw [ej] at h2
    have := (nI_leI (a := j) (b := 7) hj (by decide)).mp (Int32.not_lt.mp h2)
    omega
end
end
section
/-! the dispatch by opcode -/
theorem Ou_mono {G T A D B N : Nat} {WX WX' : (SX → Prop) → Prop} {WY WY' : (SY → Prop) → Prop} (hX : ∀ post, WX post → WX' post) (hY : ∀ post, WY post → WY' post) (h : Ou G T A D B N WX WY) : Ou G T A D B N WX' WY' := by
  obtain ⟨M, d, N', q, u, v, h1, h2, h3, h4, h5⟩ := h
  exact ⟨M, d, N', q, u, v, h1, h2, h3, fun post H => hX post (h4 post H), fun post H => hY post (h5 post H)⟩
section
variable {G T A D M f N B c p s h m g k : Nat} {q : Nat → Nat} {u : SX} {v : SY}
theorem di_0 (Q : Qr G T A D M (f + 1) N q u v) (hh : xg_frHeight u f = nI h) (h16 : h ≤ 16) (hc : c < 8) (ec : xg_frCode u f = nI c) (s8 : s < 8) (es : xg_frSelf u f = nI s) (em : xg_frMemSize u f = nI m) (m16 : m ≤ 16) (eg : xg_frGas u f = nI g) (g2 : g ≤ 2000) (hp : p ≤ 32) (ep : xg_frAt u f = nI (p + 1)) (hpp : pp_ 0 ≤ h) (hpu : h - pp_ 0 + pu_ 0 ≤ 16) (hB : M ≤ B) : Ou G T A D B N (fun post => wpX_execute post u (nI f) 0) (fun post => ((0 = (19 : Int32) → zy_step_205 post (nI (q f)) (nI c) (nI s) (nI p) 0 (xu_word u f h 0) (xu_word u f h 1) (xu_word u f h 2) (xu_word u f h 3) (yu_hgt (q f) (h - pp_ 0) v)) ∧ (¬ 0 = (19 : Int32) → ((0 = (20 : Int32) → zy_step_205 post (nI (q f)) (nI c) (nI s) (nI p) 0 (xu_word u f h 0) (xu_word u f h 1) (xu_word u f h 2) (xu_word u f h 3) (yu_hgt (q f) (h - pp_ 0) v)) ∧ (¬ 0 = (20 : Int32) → zy_step_226 post (nI (q f)) (nI c) (nI s) (nI p) 0 (xu_word u f h 0) (xu_word u f h 1) (xu_word u f h 2) (xu_word u f h 3) (yu_hgt (q f) (h - pp_ 0) v)))))) := by
  have ep_ : pp_ 0 = 0 := rfl
  have e_ : h - pp_ 0 = h := by omega
  rw [e_] at hpu ⊢
  have eu_ : pu_ 0 = 0 := rfl
  exact Ou_mono (fun post H => H) (fun post H => br_f (by decide) (br_f (by decide) H)) (op_0 Q hh h16 hc (by omega) hB)
theorem di_1 (Q : Qr G T A D M (f + 1) N q u v) (hh : xg_frHeight u f = nI h) (h16 : h ≤ 16) (hc : c < 8) (ec : xg_frCode u f = nI c) (s8 : s < 8) (es : xg_frSelf u f = nI s) (em : xg_frMemSize u f = nI m) (m16 : m ≤ 16) (eg : xg_frGas u f = nI g) (g2 : g ≤ 2000) (hp : p ≤ 32) (ep : xg_frAt u f = nI (p + 1)) (hpp : pp_ 1 ≤ h) (hpu : h - pp_ 1 + pu_ 1 ≤ 16) (hB : M < B) : Ou G T A D B N (fun post => wpX_execute post u (nI f) 1) (fun post => ((1 = (19 : Int32) → zy_step_205 post (nI (q f)) (nI c) (nI s) (nI p) 1 (xu_word u f h 0) (xu_word u f h 1) (xu_word u f h 2) (xu_word u f h 3) (yu_hgt (q f) (h - pp_ 1) v)) ∧ (¬ 1 = (19 : Int32) → ((1 = (20 : Int32) → zy_step_205 post (nI (q f)) (nI c) (nI s) (nI p) 1 (xu_word u f h 0) (xu_word u f h 1) (xu_word u f h 2) (xu_word u f h 3) (yu_hgt (q f) (h - pp_ 1) v)) ∧ (¬ 1 = (20 : Int32) → zy_step_226 post (nI (q f)) (nI c) (nI s) (nI p) 1 (xu_word u f h 0) (xu_word u f h 1) (xu_word u f h 2) (xu_word u f h 3) (yu_hgt (q f) (h - pp_ 1) v)))))) := by
  have ep_ : pp_ 1 = 0 := rfl
  have e_ : h - pp_ 1 = h := by omega
  rw [e_] at hpu ⊢
  have eu_ : pu_ 1 = 1 := rfl
  exact Ou_mono (fun post H => xd_1 H) (fun post H => br_f (by decide) (br_f (by decide) (H (fun v' hv => yd_1 hv)))) (op_cells (k := 1) Q hh (by omega) (by omega) (by omega) hc ec hp ep hB)
theorem di_2 (Q : Qr G T A D M (f + 1) N q u v) (hh : xg_frHeight u f = nI h) (h16 : h ≤ 16) (hc : c < 8) (ec : xg_frCode u f = nI c) (s8 : s < 8) (es : xg_frSelf u f = nI s) (em : xg_frMemSize u f = nI m) (m16 : m ≤ 16) (eg : xg_frGas u f = nI g) (g2 : g ≤ 2000) (hp : p ≤ 32) (ep : xg_frAt u f = nI (p + 1)) (hpp : pp_ 2 ≤ h) (hpu : h - pp_ 2 + pu_ 2 ≤ 16) (hB : M < B) : Ou G T A D B N (fun post => wpX_execute post u (nI f) 2) (fun post => ((2 = (19 : Int32) → zy_step_205 post (nI (q f)) (nI c) (nI s) (nI p) 2 (xu_word u f h 0) (xu_word u f h 1) (xu_word u f h 2) (xu_word u f h 3) (yu_hgt (q f) (h - pp_ 2) v)) ∧ (¬ 2 = (19 : Int32) → ((2 = (20 : Int32) → zy_step_205 post (nI (q f)) (nI c) (nI s) (nI p) 2 (xu_word u f h 0) (xu_word u f h 1) (xu_word u f h 2) (xu_word u f h 3) (yu_hgt (q f) (h - pp_ 2) v)) ∧ (¬ 2 = (20 : Int32) → zy_step_226 post (nI (q f)) (nI c) (nI s) (nI p) 2 (xu_word u f h 0) (xu_word u f h 1) (xu_word u f h 2) (xu_word u f h 3) (yu_hgt (q f) (h - pp_ 2) v)))))) := by
  have ep_ : pp_ 2 = 0 := rfl
  have e_ : h - pp_ 2 = h := by omega
  rw [e_] at hpu ⊢
  have eu_ : pu_ 2 = 2 := rfl
  exact Ou_mono (fun post H => xd_2 H) (fun post H => br_f (by decide) (br_f (by decide) (H (fun v' hv => yd_2 hv)))) (op_cells (k := 2) Q hh (by omega) (by omega) (by omega) hc ec hp ep hB)
theorem di_3 (Q : Qr G T A D M (f + 1) N q u v) (hh : xg_frHeight u f = nI h) (h16 : h ≤ 16) (hc : c < 8) (ec : xg_frCode u f = nI c) (s8 : s < 8) (es : xg_frSelf u f = nI s) (em : xg_frMemSize u f = nI m) (m16 : m ≤ 16) (eg : xg_frGas u f = nI g) (g2 : g ≤ 2000) (hp : p ≤ 32) (ep : xg_frAt u f = nI (p + 1)) (hpp : pp_ 3 ≤ h) (hpu : h - pp_ 3 + pu_ 3 ≤ 16) (hB : M < B) : Ou G T A D B N (fun post => wpX_execute post u (nI f) 3) (fun post => ((3 = (19 : Int32) → zy_step_205 post (nI (q f)) (nI c) (nI s) (nI p) 3 (xu_word u f h 0) (xu_word u f h 1) (xu_word u f h 2) (xu_word u f h 3) (yu_hgt (q f) (h - pp_ 3) v)) ∧ (¬ 3 = (19 : Int32) → ((3 = (20 : Int32) → zy_step_205 post (nI (q f)) (nI c) (nI s) (nI p) 3 (xu_word u f h 0) (xu_word u f h 1) (xu_word u f h 2) (xu_word u f h 3) (yu_hgt (q f) (h - pp_ 3) v)) ∧ (¬ 3 = (20 : Int32) → zy_step_226 post (nI (q f)) (nI c) (nI s) (nI p) 3 (xu_word u f h 0) (xu_word u f h 1) (xu_word u f h 2) (xu_word u f h 3) (yu_hgt (q f) (h - pp_ 3) v)))))) := by
  have ep_ : pp_ 3 = 0 := rfl
  have e_ : h - pp_ 3 = h := by omega
  rw [e_] at hpu ⊢
  have eu_ : pu_ 3 = 3 := rfl
  exact Ou_mono (fun post H => xd_3 H) (fun post H => br_f (by decide) (br_f (by decide) (H (fun v' hv => yd_3 hv)))) (op_cells (k := 3) Q hh (by omega) (by omega) (by omega) hc ec hp ep hB)
theorem di_4 (Q : Qr G T A D M (f + 1) N q u v) (hh : xg_frHeight u f = nI h) (h16 : h ≤ 16) (hc : c < 8) (ec : xg_frCode u f = nI c) (s8 : s < 8) (es : xg_frSelf u f = nI s) (em : xg_frMemSize u f = nI m) (m16 : m ≤ 16) (eg : xg_frGas u f = nI g) (g2 : g ≤ 2000) (hp : p ≤ 32) (ep : xg_frAt u f = nI (p + 1)) (hpp : pp_ 4 ≤ h) (hpu : h - pp_ 4 + pu_ 4 ≤ 16) (hB : M < B) : Ou G T A D B N (fun post => wpX_execute post u (nI f) 4) (fun post => ((4 = (19 : Int32) → zy_step_205 post (nI (q f)) (nI c) (nI s) (nI p) 4 (xu_word u f h 0) (xu_word u f h 1) (xu_word u f h 2) (xu_word u f h 3) (yu_hgt (q f) (h - pp_ 4) v)) ∧ (¬ 4 = (19 : Int32) → ((4 = (20 : Int32) → zy_step_205 post (nI (q f)) (nI c) (nI s) (nI p) 4 (xu_word u f h 0) (xu_word u f h 1) (xu_word u f h 2) (xu_word u f h 3) (yu_hgt (q f) (h - pp_ 4) v)) ∧ (¬ 4 = (20 : Int32) → zy_step_226 post (nI (q f)) (nI c) (nI s) (nI p) 4 (xu_word u f h 0) (xu_word u f h 1) (xu_word u f h 2) (xu_word u f h 3) (yu_hgt (q f) (h - pp_ 4) v)))))) := by
  have ep_ : pp_ 4 = 0 := rfl
  have e_ : h - pp_ 4 = h := by omega
  rw [e_] at hpu ⊢
  have eu_ : pu_ 4 = 4 := rfl
  exact Ou_mono (fun post H => xd_4 H) (fun post H => br_f (by decide) (br_f (by decide) (H (fun v' hv => yd_4 hv)))) (op_cells (k := 4) Q hh (by omega) (by omega) (by omega) hc ec hp ep hB)
theorem di_5 (Q : Qr G T A D M (f + 1) N q u v) (hh : xg_frHeight u f = nI h) (h16 : h ≤ 16) (hc : c < 8) (ec : xg_frCode u f = nI c) (s8 : s < 8) (es : xg_frSelf u f = nI s) (em : xg_frMemSize u f = nI m) (m16 : m ≤ 16) (eg : xg_frGas u f = nI g) (g2 : g ≤ 2000) (hp : p ≤ 32) (ep : xg_frAt u f = nI (p + 1)) (hpp : pp_ 5 ≤ h) (hpu : h - pp_ 5 + pu_ 5 ≤ 16) (hB : M < B) : Ou G T A D B N (fun post => wpX_execute post u (nI f) 5) (fun post => ((5 = (19 : Int32) → zy_step_205 post (nI (q f)) (nI c) (nI s) (nI p) 5 (xu_word u f h 0) (xu_word u f h 1) (xu_word u f h 2) (xu_word u f h 3) (yu_hgt (q f) (h - pp_ 5) v)) ∧ (¬ 5 = (19 : Int32) → ((5 = (20 : Int32) → zy_step_205 post (nI (q f)) (nI c) (nI s) (nI p) 5 (xu_word u f h 0) (xu_word u f h 1) (xu_word u f h 2) (xu_word u f h 3) (yu_hgt (q f) (h - pp_ 5) v)) ∧ (¬ 5 = (20 : Int32) → zy_step_226 post (nI (q f)) (nI c) (nI s) (nI p) 5 (xu_word u f h 0) (xu_word u f h 1) (xu_word u f h 2) (xu_word u f h 3) (yu_hgt (q f) (h - pp_ 5) v)))))) := by
  have ep_ : pp_ 5 = 1 := rfl
  obtain ⟨t, rfl⟩ : ∃ t, h = t + 1 := ⟨h - 1, by omega⟩
  have e_ : t + 1 - pp_ 5 = t := by omega
  rw [e_] at hpu ⊢
  have w0 : xu_word u f (t + 1) 0 = xg_stack u (f * 16 + t) := if_pos (by omega)
  rw [w0]
  have eu_ : pu_ 5 = 0 := rfl
  exact Ou_mono (fun post H => H) (fun post H => br_f (by decide) (br_f (by decide) H)) (op_5 Q hh h16 hc (by omega) hB)
theorem di_6 (Q : Qr G T A D M (f + 1) N q u v) (hh : xg_frHeight u f = nI h) (h16 : h ≤ 16) (hc : c < 8) (ec : xg_frCode u f = nI c) (s8 : s < 8) (es : xg_frSelf u f = nI s) (em : xg_frMemSize u f = nI m) (m16 : m ≤ 16) (eg : xg_frGas u f = nI g) (g2 : g ≤ 2000) (hp : p ≤ 32) (ep : xg_frAt u f = nI (p + 1)) (hpp : pp_ 6 ≤ h) (hpu : h - pp_ 6 + pu_ 6 ≤ 16) (hB : M < B) : Ou G T A D B N (fun post => wpX_execute post u (nI f) 6) (fun post => ((6 = (19 : Int32) → zy_step_205 post (nI (q f)) (nI c) (nI s) (nI p) 6 (xu_word u f h 0) (xu_word u f h 1) (xu_word u f h 2) (xu_word u f h 3) (yu_hgt (q f) (h - pp_ 6) v)) ∧ (¬ 6 = (19 : Int32) → ((6 = (20 : Int32) → zy_step_205 post (nI (q f)) (nI c) (nI s) (nI p) 6 (xu_word u f h 0) (xu_word u f h 1) (xu_word u f h 2) (xu_word u f h 3) (yu_hgt (q f) (h - pp_ 6) v)) ∧ (¬ 6 = (20 : Int32) → zy_step_226 post (nI (q f)) (nI c) (nI s) (nI p) 6 (xu_word u f h 0) (xu_word u f h 1) (xu_word u f h 2) (xu_word u f h 3) (yu_hgt (q f) (h - pp_ 6) v)))))) := by
  have ep_ : pp_ 6 = 1 := rfl
  obtain ⟨t, rfl⟩ : ∃ t, h = t + 1 := ⟨h - 1, by omega⟩
  have e_ : t + 1 - pp_ 6 = t := by omega
  rw [e_] at hpu ⊢
  have w0 : xu_word u f (t + 1) 0 = xg_stack u (f * 16 + t) := if_pos (by omega)
  rw [w0]
  have eu_ : pu_ 6 = 2 := rfl
  exact Ou_mono (fun post H => H) (fun post H => br_f (by decide) (br_f (by decide) H)) (op_6 Q hh h16 hc (by omega) hB (by omega))
theorem di_7 (Q : Qr G T A D M (f + 1) N q u v) (hh : xg_frHeight u f = nI h) (h16 : h ≤ 16) (hc : c < 8) (ec : xg_frCode u f = nI c) (s8 : s < 8) (es : xg_frSelf u f = nI s) (em : xg_frMemSize u f = nI m) (m16 : m ≤ 16) (eg : xg_frGas u f = nI g) (g2 : g ≤ 2000) (hp : p ≤ 32) (ep : xg_frAt u f = nI (p + 1)) (hpp : pp_ 7 ≤ h) (hpu : h - pp_ 7 + pu_ 7 ≤ 16) (hB : M < B) : Ou G T A D B N (fun post => wpX_execute post u (nI f) 7) (fun post => ((7 = (19 : Int32) → zy_step_205 post (nI (q f)) (nI c) (nI s) (nI p) 7 (xu_word u f h 0) (xu_word u f h 1) (xu_word u f h 2) (xu_word u f h 3) (yu_hgt (q f) (h - pp_ 7) v)) ∧ (¬ 7 = (19 : Int32) → ((7 = (20 : Int32) → zy_step_205 post (nI (q f)) (nI c) (nI s) (nI p) 7 (xu_word u f h 0) (xu_word u f h 1) (xu_word u f h 2) (xu_word u f h 3) (yu_hgt (q f) (h - pp_ 7) v)) ∧ (¬ 7 = (20 : Int32) → zy_step_226 post (nI (q f)) (nI c) (nI s) (nI p) 7 (xu_word u f h 0) (xu_word u f h 1) (xu_word u f h 2) (xu_word u f h 3) (yu_hgt (q f) (h - pp_ 7) v)))))) := by
  have ep_ : pp_ 7 = 2 := rfl
  obtain ⟨t, rfl⟩ : ∃ t, h = t + 2 := ⟨h - 2, by omega⟩
  have e_ : t + 2 - pp_ 7 = t := by omega
  rw [e_] at hpu ⊢
  have w0 : xu_word u f (t + 2) 0 = xg_stack u (f * 16 + (t + 1)) := if_pos (by omega)
  have w1 : xu_word u f (t + 2) 1 = xg_stack u (f * 16 + t) := if_pos (by omega)
  rw [w0, w1]
  have eu_ : pu_ 7 = 3 := rfl
  exact Ou_mono (fun post H => H) (fun post H => br_f (by decide) (br_f (by decide) H)) (op_7 Q hh h16 hc (by omega) hB (by omega))
theorem di_8 (Q : Qr G T A D M (f + 1) N q u v) (hh : xg_frHeight u f = nI h) (h16 : h ≤ 16) (hc : c < 8) (ec : xg_frCode u f = nI c) (s8 : s < 8) (es : xg_frSelf u f = nI s) (em : xg_frMemSize u f = nI m) (m16 : m ≤ 16) (eg : xg_frGas u f = nI g) (g2 : g ≤ 2000) (hp : p ≤ 32) (ep : xg_frAt u f = nI (p + 1)) (hpp : pp_ 8 ≤ h) (hpu : h - pp_ 8 + pu_ 8 ≤ 16) (hB : M < B) : Ou G T A D B N (fun post => wpX_execute post u (nI f) 8) (fun post => ((8 = (19 : Int32) → zy_step_205 post (nI (q f)) (nI c) (nI s) (nI p) 8 (xu_word u f h 0) (xu_word u f h 1) (xu_word u f h 2) (xu_word u f h 3) (yu_hgt (q f) (h - pp_ 8) v)) ∧ (¬ 8 = (19 : Int32) → ((8 = (20 : Int32) → zy_step_205 post (nI (q f)) (nI c) (nI s) (nI p) 8 (xu_word u f h 0) (xu_word u f h 1) (xu_word u f h 2) (xu_word u f h 3) (yu_hgt (q f) (h - pp_ 8) v)) ∧ (¬ 8 = (20 : Int32) → zy_step_226 post (nI (q f)) (nI c) (nI s) (nI p) 8 (xu_word u f h 0) (xu_word u f h 1) (xu_word u f h 2) (xu_word u f h 3) (yu_hgt (q f) (h - pp_ 8) v)))))) := by
  have ep_ : pp_ 8 = 2 := rfl
  obtain ⟨t, rfl⟩ : ∃ t, h = t + 2 := ⟨h - 2, by omega⟩
  have e_ : t + 2 - pp_ 8 = t := by omega
  rw [e_] at hpu ⊢
  have w0 : xu_word u f (t + 2) 0 = xg_stack u (f * 16 + (t + 1)) := if_pos (by omega)
  have w1 : xu_word u f (t + 2) 1 = xg_stack u (f * 16 + t) := if_pos (by omega)
  rw [w0, w1]
  have eu_ : pu_ 8 = 2 := rfl
  exact Ou_mono (fun post H => H) (fun post H => br_f (by decide) (br_f (by decide) H)) (op_8 Q hh h16 hc (by omega) hB)
theorem di_9 (Q : Qr G T A D M (f + 1) N q u v) (hh : xg_frHeight u f = nI h) (h16 : h ≤ 16) (hc : c < 8) (ec : xg_frCode u f = nI c) (s8 : s < 8) (es : xg_frSelf u f = nI s) (em : xg_frMemSize u f = nI m) (m16 : m ≤ 16) (eg : xg_frGas u f = nI g) (g2 : g ≤ 2000) (hp : p ≤ 32) (ep : xg_frAt u f = nI (p + 1)) (hpp : pp_ 9 ≤ h) (hpu : h - pp_ 9 + pu_ 9 ≤ 16) (hB : M < B) : Ou G T A D B N (fun post => wpX_execute post u (nI f) 9) (fun post => ((9 = (19 : Int32) → zy_step_205 post (nI (q f)) (nI c) (nI s) (nI p) 9 (xu_word u f h 0) (xu_word u f h 1) (xu_word u f h 2) (xu_word u f h 3) (yu_hgt (q f) (h - pp_ 9) v)) ∧ (¬ 9 = (19 : Int32) → ((9 = (20 : Int32) → zy_step_205 post (nI (q f)) (nI c) (nI s) (nI p) 9 (xu_word u f h 0) (xu_word u f h 1) (xu_word u f h 2) (xu_word u f h 3) (yu_hgt (q f) (h - pp_ 9) v)) ∧ (¬ 9 = (20 : Int32) → zy_step_226 post (nI (q f)) (nI c) (nI s) (nI p) 9 (xu_word u f h 0) (xu_word u f h 1) (xu_word u f h 2) (xu_word u f h 3) (yu_hgt (q f) (h - pp_ 9) v)))))) := by
  have ep_ : pp_ 9 = 2 := rfl
  obtain ⟨t, rfl⟩ : ∃ t, h = t + 2 := ⟨h - 2, by omega⟩
  have e_ : t + 2 - pp_ 9 = t := by omega
  rw [e_] at hpu ⊢
  have w0 : xu_word u f (t + 2) 0 = xg_stack u (f * 16 + (t + 1)) := if_pos (by omega)
  have w1 : xu_word u f (t + 2) 1 = xg_stack u (f * 16 + t) := if_pos (by omega)
  rw [w0, w1]
  have eu_ : pu_ 9 = 1 := rfl
  exact Ou_mono (fun post H => H) (fun post H => br_f (by decide) (br_f (by decide) H)) (op_9 Q hh h16 hc (by omega) hB)
theorem di_10 (Q : Qr G T A D M (f + 1) N q u v) (hh : xg_frHeight u f = nI h) (h16 : h ≤ 16) (hc : c < 8) (ec : xg_frCode u f = nI c) (s8 : s < 8) (es : xg_frSelf u f = nI s) (em : xg_frMemSize u f = nI m) (m16 : m ≤ 16) (eg : xg_frGas u f = nI g) (g2 : g ≤ 2000) (hp : p ≤ 32) (ep : xg_frAt u f = nI (p + 1)) (hpp : pp_ 10 ≤ h) (hpu : h - pp_ 10 + pu_ 10 ≤ 16) (hB : M < B) : Ou G T A D B N (fun post => wpX_execute post u (nI f) 10) (fun post => ((10 = (19 : Int32) → zy_step_205 post (nI (q f)) (nI c) (nI s) (nI p) 10 (xu_word u f h 0) (xu_word u f h 1) (xu_word u f h 2) (xu_word u f h 3) (yu_hgt (q f) (h - pp_ 10) v)) ∧ (¬ 10 = (19 : Int32) → ((10 = (20 : Int32) → zy_step_205 post (nI (q f)) (nI c) (nI s) (nI p) 10 (xu_word u f h 0) (xu_word u f h 1) (xu_word u f h 2) (xu_word u f h 3) (yu_hgt (q f) (h - pp_ 10) v)) ∧ (¬ 10 = (20 : Int32) → zy_step_226 post (nI (q f)) (nI c) (nI s) (nI p) 10 (xu_word u f h 0) (xu_word u f h 1) (xu_word u f h 2) (xu_word u f h 3) (yu_hgt (q f) (h - pp_ 10) v)))))) := by
  have ep_ : pp_ 10 = 2 := rfl
  obtain ⟨t, rfl⟩ : ∃ t, h = t + 2 := ⟨h - 2, by omega⟩
  have e_ : t + 2 - pp_ 10 = t := by omega
  rw [e_] at hpu ⊢
  have w0 : xu_word u f (t + 2) 0 = xg_stack u (f * 16 + (t + 1)) := if_pos (by omega)
  have w1 : xu_word u f (t + 2) 1 = xg_stack u (f * 16 + t) := if_pos (by omega)
  rw [w0, w1]
  have eu_ : pu_ 10 = 1 := rfl
  exact Ou_mono (fun post H => H) (fun post H => br_f (by decide) (br_f (by decide) H)) (op_10 Q hh h16 hc (by omega) hB)
theorem di_11 (Q : Qr G T A D M (f + 1) N q u v) (hh : xg_frHeight u f = nI h) (h16 : h ≤ 16) (hc : c < 8) (ec : xg_frCode u f = nI c) (s8 : s < 8) (es : xg_frSelf u f = nI s) (em : xg_frMemSize u f = nI m) (m16 : m ≤ 16) (eg : xg_frGas u f = nI g) (g2 : g ≤ 2000) (hp : p ≤ 32) (ep : xg_frAt u f = nI (p + 1)) (hpp : pp_ 11 ≤ h) (hpu : h - pp_ 11 + pu_ 11 ≤ 16) (hB : M < B) : Ou G T A D B N (fun post => wpX_execute post u (nI f) 11) (fun post => ((11 = (19 : Int32) → zy_step_205 post (nI (q f)) (nI c) (nI s) (nI p) 11 (xu_word u f h 0) (xu_word u f h 1) (xu_word u f h 2) (xu_word u f h 3) (yu_hgt (q f) (h - pp_ 11) v)) ∧ (¬ 11 = (19 : Int32) → ((11 = (20 : Int32) → zy_step_205 post (nI (q f)) (nI c) (nI s) (nI p) 11 (xu_word u f h 0) (xu_word u f h 1) (xu_word u f h 2) (xu_word u f h 3) (yu_hgt (q f) (h - pp_ 11) v)) ∧ (¬ 11 = (20 : Int32) → zy_step_226 post (nI (q f)) (nI c) (nI s) (nI p) 11 (xu_word u f h 0) (xu_word u f h 1) (xu_word u f h 2) (xu_word u f h 3) (yu_hgt (q f) (h - pp_ 11) v)))))) := by
  have ep_ : pp_ 11 = 2 := rfl
  obtain ⟨t, rfl⟩ : ∃ t, h = t + 2 := ⟨h - 2, by omega⟩
  have e_ : t + 2 - pp_ 11 = t := by omega
  rw [e_] at hpu ⊢
  have w0 : xu_word u f (t + 2) 0 = xg_stack u (f * 16 + (t + 1)) := if_pos (by omega)
  have w1 : xu_word u f (t + 2) 1 = xg_stack u (f * 16 + t) := if_pos (by omega)
  rw [w0, w1]
  have eu_ : pu_ 11 = 1 := rfl
  exact Ou_mono (fun post H => H) (fun post H => br_f (by decide) (br_f (by decide) H)) (op_11 Q hh h16 hc (by omega) hB)
theorem di_12 (Q : Qr G T A D M (f + 1) N q u v) (hh : xg_frHeight u f = nI h) (h16 : h ≤ 16) (hc : c < 8) (ec : xg_frCode u f = nI c) (s8 : s < 8) (es : xg_frSelf u f = nI s) (em : xg_frMemSize u f = nI m) (m16 : m ≤ 16) (eg : xg_frGas u f = nI g) (g2 : g ≤ 2000) (hp : p ≤ 32) (ep : xg_frAt u f = nI (p + 1)) (hpp : pp_ 12 ≤ h) (hpu : h - pp_ 12 + pu_ 12 ≤ 16) (hB : M < B) : Ou G T A D B N (fun post => wpX_execute post u (nI f) 12) (fun post => ((12 = (19 : Int32) → zy_step_205 post (nI (q f)) (nI c) (nI s) (nI p) 12 (xu_word u f h 0) (xu_word u f h 1) (xu_word u f h 2) (xu_word u f h 3) (yu_hgt (q f) (h - pp_ 12) v)) ∧ (¬ 12 = (19 : Int32) → ((12 = (20 : Int32) → zy_step_205 post (nI (q f)) (nI c) (nI s) (nI p) 12 (xu_word u f h 0) (xu_word u f h 1) (xu_word u f h 2) (xu_word u f h 3) (yu_hgt (q f) (h - pp_ 12) v)) ∧ (¬ 12 = (20 : Int32) → zy_step_226 post (nI (q f)) (nI c) (nI s) (nI p) 12 (xu_word u f h 0) (xu_word u f h 1) (xu_word u f h 2) (xu_word u f h 3) (yu_hgt (q f) (h - pp_ 12) v)))))) := by
  have ep_ : pp_ 12 = 2 := rfl
  obtain ⟨t, rfl⟩ : ∃ t, h = t + 2 := ⟨h - 2, by omega⟩
  have e_ : t + 2 - pp_ 12 = t := by omega
  rw [e_] at hpu ⊢
  have w0 : xu_word u f (t + 2) 0 = xg_stack u (f * 16 + (t + 1)) := if_pos (by omega)
  have w1 : xu_word u f (t + 2) 1 = xg_stack u (f * 16 + t) := if_pos (by omega)
  rw [w0, w1]
  have eu_ : pu_ 12 = 1 := rfl
  exact Ou_mono (fun post H => H) (fun post H => br_f (by decide) (br_f (by decide) H)) (op_12 Q hh h16 hc (by omega) hB)
theorem di_13 (Q : Qr G T A D M (f + 1) N q u v) (hh : xg_frHeight u f = nI h) (h16 : h ≤ 16) (hc : c < 8) (ec : xg_frCode u f = nI c) (s8 : s < 8) (es : xg_frSelf u f = nI s) (em : xg_frMemSize u f = nI m) (m16 : m ≤ 16) (eg : xg_frGas u f = nI g) (g2 : g ≤ 2000) (hp : p ≤ 32) (ep : xg_frAt u f = nI (p + 1)) (hpp : pp_ 13 ≤ h) (hpu : h - pp_ 13 + pu_ 13 ≤ 16) (hB : M < B) : Ou G T A D B N (fun post => wpX_execute post u (nI f) 13) (fun post => ((13 = (19 : Int32) → zy_step_205 post (nI (q f)) (nI c) (nI s) (nI p) 13 (xu_word u f h 0) (xu_word u f h 1) (xu_word u f h 2) (xu_word u f h 3) (yu_hgt (q f) (h - pp_ 13) v)) ∧ (¬ 13 = (19 : Int32) → ((13 = (20 : Int32) → zy_step_205 post (nI (q f)) (nI c) (nI s) (nI p) 13 (xu_word u f h 0) (xu_word u f h 1) (xu_word u f h 2) (xu_word u f h 3) (yu_hgt (q f) (h - pp_ 13) v)) ∧ (¬ 13 = (20 : Int32) → zy_step_226 post (nI (q f)) (nI c) (nI s) (nI p) 13 (xu_word u f h 0) (xu_word u f h 1) (xu_word u f h 2) (xu_word u f h 3) (yu_hgt (q f) (h - pp_ 13) v)))))) := by
  have ep_ : pp_ 13 = 2 := rfl
  obtain ⟨t, rfl⟩ : ∃ t, h = t + 2 := ⟨h - 2, by omega⟩
  have e_ : t + 2 - pp_ 13 = t := by omega
  rw [e_] at hpu ⊢
  have w0 : xu_word u f (t + 2) 0 = xg_stack u (f * 16 + (t + 1)) := if_pos (by omega)
  have w1 : xu_word u f (t + 2) 1 = xg_stack u (f * 16 + t) := if_pos (by omega)
  rw [w0, w1]
  have eu_ : pu_ 13 = 1 := rfl
  exact Ou_mono (fun post H => H) (fun post H => br_f (by decide) (br_f (by decide) H)) (op_13 Q hh h16 hc (by omega) hB)
theorem di_14 (Q : Qr G T A D M (f + 1) N q u v) (hh : xg_frHeight u f = nI h) (h16 : h ≤ 16) (hc : c < 8) (ec : xg_frCode u f = nI c) (s8 : s < 8) (es : xg_frSelf u f = nI s) (em : xg_frMemSize u f = nI m) (m16 : m ≤ 16) (eg : xg_frGas u f = nI g) (g2 : g ≤ 2000) (hp : p ≤ 32) (ep : xg_frAt u f = nI (p + 1)) (hpp : pp_ 14 ≤ h) (hpu : h - pp_ 14 + pu_ 14 ≤ 16) (hB : M < B) : Ou G T A D B N (fun post => wpX_execute post u (nI f) 14) (fun post => ((14 = (19 : Int32) → zy_step_205 post (nI (q f)) (nI c) (nI s) (nI p) 14 (xu_word u f h 0) (xu_word u f h 1) (xu_word u f h 2) (xu_word u f h 3) (yu_hgt (q f) (h - pp_ 14) v)) ∧ (¬ 14 = (19 : Int32) → ((14 = (20 : Int32) → zy_step_205 post (nI (q f)) (nI c) (nI s) (nI p) 14 (xu_word u f h 0) (xu_word u f h 1) (xu_word u f h 2) (xu_word u f h 3) (yu_hgt (q f) (h - pp_ 14) v)) ∧ (¬ 14 = (20 : Int32) → zy_step_226 post (nI (q f)) (nI c) (nI s) (nI p) 14 (xu_word u f h 0) (xu_word u f h 1) (xu_word u f h 2) (xu_word u f h 3) (yu_hgt (q f) (h - pp_ 14) v)))))) := by
  have ep_ : pp_ 14 = 2 := rfl
  obtain ⟨t, rfl⟩ : ∃ t, h = t + 2 := ⟨h - 2, by omega⟩
  have e_ : t + 2 - pp_ 14 = t := by omega
  rw [e_] at hpu ⊢
  have w0 : xu_word u f (t + 2) 0 = xg_stack u (f * 16 + (t + 1)) := if_pos (by omega)
  have w1 : xu_word u f (t + 2) 1 = xg_stack u (f * 16 + t) := if_pos (by omega)
  rw [w0, w1]
  have eu_ : pu_ 14 = 1 := rfl
  exact Ou_mono (fun post H => H) (fun post H => br_f (by decide) (br_f (by decide) H)) (op_14 Q hh h16 hc (by omega) hB)
theorem di_15 (Q : Qr G T A D M (f + 1) N q u v) (hh : xg_frHeight u f = nI h) (h16 : h ≤ 16) (hc : c < 8) (ec : xg_frCode u f = nI c) (s8 : s < 8) (es : xg_frSelf u f = nI s) (em : xg_frMemSize u f = nI m) (m16 : m ≤ 16) (eg : xg_frGas u f = nI g) (g2 : g ≤ 2000) (hp : p ≤ 32) (ep : xg_frAt u f = nI (p + 1)) (hpp : pp_ 15 ≤ h) (hpu : h - pp_ 15 + pu_ 15 ≤ 16) (hB : M < B) : Ou G T A D B N (fun post => wpX_execute post u (nI f) 15) (fun post => ((15 = (19 : Int32) → zy_step_205 post (nI (q f)) (nI c) (nI s) (nI p) 15 (xu_word u f h 0) (xu_word u f h 1) (xu_word u f h 2) (xu_word u f h 3) (yu_hgt (q f) (h - pp_ 15) v)) ∧ (¬ 15 = (19 : Int32) → ((15 = (20 : Int32) → zy_step_205 post (nI (q f)) (nI c) (nI s) (nI p) 15 (xu_word u f h 0) (xu_word u f h 1) (xu_word u f h 2) (xu_word u f h 3) (yu_hgt (q f) (h - pp_ 15) v)) ∧ (¬ 15 = (20 : Int32) → zy_step_226 post (nI (q f)) (nI c) (nI s) (nI p) 15 (xu_word u f h 0) (xu_word u f h 1) (xu_word u f h 2) (xu_word u f h 3) (yu_hgt (q f) (h - pp_ 15) v)))))) := by
  have ep_ : pp_ 15 = 1 := rfl
  obtain ⟨t, rfl⟩ : ∃ t, h = t + 1 := ⟨h - 1, by omega⟩
  have e_ : t + 1 - pp_ 15 = t := by omega
  rw [e_] at hpu ⊢
  have w0 : xu_word u f (t + 1) 0 = xg_stack u (f * 16 + t) := if_pos (by omega)
  rw [w0]
  have eu_ : pu_ 15 = 1 := rfl
  exact Ou_mono (fun post H => H) (fun post H => br_f (by decide) (br_f (by decide) H)) (op_15 Q hh h16 hc (by omega) hB)
theorem di_16 (Q : Qr G T A D M (f + 1) N q u v) (hh : xg_frHeight u f = nI h) (h16 : h ≤ 16) (hc : c < 8) (ec : xg_frCode u f = nI c) (s8 : s < 8) (es : xg_frSelf u f = nI s) (em : xg_frMemSize u f = nI m) (m16 : m ≤ 16) (eg : xg_frGas u f = nI g) (g2 : g ≤ 2000) (hp : p ≤ 32) (ep : xg_frAt u f = nI (p + 1)) (hpp : pp_ 16 ≤ h) (hpu : h - pp_ 16 + pu_ 16 ≤ 16) (hB : M < B) : Ou G T A D B N (fun post => wpX_execute post u (nI f) 16) (fun post => ((16 = (19 : Int32) → zy_step_205 post (nI (q f)) (nI c) (nI s) (nI p) 16 (xu_word u f h 0) (xu_word u f h 1) (xu_word u f h 2) (xu_word u f h 3) (yu_hgt (q f) (h - pp_ 16) v)) ∧ (¬ 16 = (19 : Int32) → ((16 = (20 : Int32) → zy_step_205 post (nI (q f)) (nI c) (nI s) (nI p) 16 (xu_word u f h 0) (xu_word u f h 1) (xu_word u f h 2) (xu_word u f h 3) (yu_hgt (q f) (h - pp_ 16) v)) ∧ (¬ 16 = (20 : Int32) → zy_step_226 post (nI (q f)) (nI c) (nI s) (nI p) 16 (xu_word u f h 0) (xu_word u f h 1) (xu_word u f h 2) (xu_word u f h 3) (yu_hgt (q f) (h - pp_ 16) v)))))) := by
  have ep_ : pp_ 16 = 0 := rfl
  have e_ : h - pp_ 16 = h := by omega
  rw [e_] at hpu ⊢
  have eu_ : pu_ 16 = 0 := rfl
  exact Ou_mono (fun post H => H) (fun post H => br_f (by decide) (br_f (by decide) H)) (op_16 Q hh h16 hc (by omega) hB)
theorem di_17 (Q : Qr G T A D M (f + 1) N q u v) (hh : xg_frHeight u f = nI h) (h16 : h ≤ 16) (hc : c < 8) (ec : xg_frCode u f = nI c) (s8 : s < 8) (es : xg_frSelf u f = nI s) (em : xg_frMemSize u f = nI m) (m16 : m ≤ 16) (eg : xg_frGas u f = nI g) (g2 : g ≤ 2000) (hp : p ≤ 32) (ep : xg_frAt u f = nI (p + 1)) (hpp : pp_ 17 ≤ h) (hpu : h - pp_ 17 + pu_ 17 ≤ 16) (hB : M < B) : Ou G T A D B N (fun post => wpX_execute post u (nI f) 17) (fun post => ((17 = (19 : Int32) → zy_step_205 post (nI (q f)) (nI c) (nI s) (nI p) 17 (xu_word u f h 0) (xu_word u f h 1) (xu_word u f h 2) (xu_word u f h 3) (yu_hgt (q f) (h - pp_ 17) v)) ∧ (¬ 17 = (19 : Int32) → ((17 = (20 : Int32) → zy_step_205 post (nI (q f)) (nI c) (nI s) (nI p) 17 (xu_word u f h 0) (xu_word u f h 1) (xu_word u f h 2) (xu_word u f h 3) (yu_hgt (q f) (h - pp_ 17) v)) ∧ (¬ 17 = (20 : Int32) → zy_step_226 post (nI (q f)) (nI c) (nI s) (nI p) 17 (xu_word u f h 0) (xu_word u f h 1) (xu_word u f h 2) (xu_word u f h 3) (yu_hgt (q f) (h - pp_ 17) v)))))) := by
  have ep_ : pp_ 17 = 1 := rfl
  obtain ⟨t, rfl⟩ : ∃ t, h = t + 1 := ⟨h - 1, by omega⟩
  have e_ : t + 1 - pp_ 17 = t := by omega
  rw [e_] at hpu ⊢
  have w0 : xu_word u f (t + 1) 0 = xg_stack u (f * 16 + t) := if_pos (by omega)
  rw [w0]
  have eu_ : pu_ 17 = 0 := rfl
  exact Ou_mono (fun post H => H) (fun post H => br_f (by decide) (br_f (by decide) H)) (op_17 Q hh h16 hc ec (by omega) hB)
theorem di_18 (Q : Qr G T A D M (f + 1) N q u v) (hh : xg_frHeight u f = nI h) (h16 : h ≤ 16) (hc : c < 8) (ec : xg_frCode u f = nI c) (s8 : s < 8) (es : xg_frSelf u f = nI s) (em : xg_frMemSize u f = nI m) (m16 : m ≤ 16) (eg : xg_frGas u f = nI g) (g2 : g ≤ 2000) (hp : p ≤ 32) (ep : xg_frAt u f = nI (p + 1)) (hpp : pp_ 18 ≤ h) (hpu : h - pp_ 18 + pu_ 18 ≤ 16) (hB : M < B) : Ou G T A D B N (fun post => wpX_execute post u (nI f) 18) (fun post => ((18 = (19 : Int32) → zy_step_205 post (nI (q f)) (nI c) (nI s) (nI p) 18 (xu_word u f h 0) (xu_word u f h 1) (xu_word u f h 2) (xu_word u f h 3) (yu_hgt (q f) (h - pp_ 18) v)) ∧ (¬ 18 = (19 : Int32) → ((18 = (20 : Int32) → zy_step_205 post (nI (q f)) (nI c) (nI s) (nI p) 18 (xu_word u f h 0) (xu_word u f h 1) (xu_word u f h 2) (xu_word u f h 3) (yu_hgt (q f) (h - pp_ 18) v)) ∧ (¬ 18 = (20 : Int32) → zy_step_226 post (nI (q f)) (nI c) (nI s) (nI p) 18 (xu_word u f h 0) (xu_word u f h 1) (xu_word u f h 2) (xu_word u f h 3) (yu_hgt (q f) (h - pp_ 18) v)))))) := by
  have ep_ : pp_ 18 = 2 := rfl
  obtain ⟨t, rfl⟩ : ∃ t, h = t + 2 := ⟨h - 2, by omega⟩
  have e_ : t + 2 - pp_ 18 = t := by omega
  rw [e_] at hpu ⊢
  have w0 : xu_word u f (t + 2) 0 = xg_stack u (f * 16 + (t + 1)) := if_pos (by omega)
  have w1 : xu_word u f (t + 2) 1 = xg_stack u (f * 16 + t) := if_pos (by omega)
  rw [w0, w1]
  have eu_ : pu_ 18 = 0 := rfl
  exact Ou_mono (fun post H => H) (fun post H => br_f (by decide) (br_f (by decide) H)) (op_18 Q hh h16 hc ec (by omega) hB)
theorem di_19 (Q : Qr G T A D M (f + 1) N q u v) (hh : xg_frHeight u f = nI h) (h16 : h ≤ 16) (hc : c < 8) (ec : xg_frCode u f = nI c) (s8 : s < 8) (es : xg_frSelf u f = nI s) (em : xg_frMemSize u f = nI m) (m16 : m ≤ 16) (eg : xg_frGas u f = nI g) (g2 : g ≤ 2000) (hp : p ≤ 32) (ep : xg_frAt u f = nI (p + 1)) (hpp : pp_ 19 ≤ h) (hpu : h - pp_ 19 + pu_ 19 ≤ 16) (ho : ∃ o, o < 16 ∧ xu_word u f h 0 = nI o) (hB : M < B) : Ou G T A D B N (fun post => wpX_execute post u (nI f) 19) (fun post => ((19 = (19 : Int32) → zy_step_205 post (nI (q f)) (nI c) (nI s) (nI p) 19 (xu_word u f h 0) (xu_word u f h 1) (xu_word u f h 2) (xu_word u f h 3) (yu_hgt (q f) (h - pp_ 19) v)) ∧ (¬ 19 = (19 : Int32) → ((19 = (20 : Int32) → zy_step_205 post (nI (q f)) (nI c) (nI s) (nI p) 19 (xu_word u f h 0) (xu_word u f h 1) (xu_word u f h 2) (xu_word u f h 3) (yu_hgt (q f) (h - pp_ 19) v)) ∧ (¬ 19 = (20 : Int32) → zy_step_226 post (nI (q f)) (nI c) (nI s) (nI p) 19 (xu_word u f h 0) (xu_word u f h 1) (xu_word u f h 2) (xu_word u f h 3) (yu_hgt (q f) (h - pp_ 19) v)))))) := by
  have ep_ : pp_ 19 = 1 := rfl
  obtain ⟨t, rfl⟩ : ∃ t, h = t + 1 := ⟨h - 1, by omega⟩
  have e_ : t + 1 - pp_ 19 = t := by omega
  rw [e_] at hpu ⊢
  have w0 : xu_word u f (t + 1) 0 = xg_stack u (f * 16 + t) := if_pos (by omega)
  rw [w0]
  rw [w0] at ho
  have eu_ : pu_ 19 = 1 := rfl
  obtain ⟨o, ho, eo⟩ := ho
  exact Ou_mono (fun post H => H) (fun post H => br_t rfl H) (op_19 Q hh h16 hc (by omega) hB eo ho em m16)
theorem di_20 (Q : Qr G T A D M (f + 1) N q u v) (hh : xg_frHeight u f = nI h) (h16 : h ≤ 16) (hc : c < 8) (ec : xg_frCode u f = nI c) (s8 : s < 8) (es : xg_frSelf u f = nI s) (em : xg_frMemSize u f = nI m) (m16 : m ≤ 16) (eg : xg_frGas u f = nI g) (g2 : g ≤ 2000) (hp : p ≤ 32) (ep : xg_frAt u f = nI (p + 1)) (hpp : pp_ 20 ≤ h) (hpu : h - pp_ 20 + pu_ 20 ≤ 16) (ho : ∃ o, o < 16 ∧ xu_word u f h 0 = nI o) (hB : M < B) : Ou G T A D B N (fun post => wpX_execute post u (nI f) 20) (fun post => ((20 = (19 : Int32) → zy_step_205 post (nI (q f)) (nI c) (nI s) (nI p) 20 (xu_word u f h 0) (xu_word u f h 1) (xu_word u f h 2) (xu_word u f h 3) (yu_hgt (q f) (h - pp_ 20) v)) ∧ (¬ 20 = (19 : Int32) → ((20 = (20 : Int32) → zy_step_205 post (nI (q f)) (nI c) (nI s) (nI p) 20 (xu_word u f h 0) (xu_word u f h 1) (xu_word u f h 2) (xu_word u f h 3) (yu_hgt (q f) (h - pp_ 20) v)) ∧ (¬ 20 = (20 : Int32) → zy_step_226 post (nI (q f)) (nI c) (nI s) (nI p) 20 (xu_word u f h 0) (xu_word u f h 1) (xu_word u f h 2) (xu_word u f h 3) (yu_hgt (q f) (h - pp_ 20) v)))))) := by
  have ep_ : pp_ 20 = 2 := rfl
  obtain ⟨t, rfl⟩ : ∃ t, h = t + 2 := ⟨h - 2, by omega⟩
  have e_ : t + 2 - pp_ 20 = t := by omega
  rw [e_] at hpu ⊢
  have w0 : xu_word u f (t + 2) 0 = xg_stack u (f * 16 + (t + 1)) := if_pos (by omega)
  have w1 : xu_word u f (t + 2) 1 = xg_stack u (f * 16 + t) := if_pos (by omega)
  rw [w0, w1]
  rw [w0] at ho
  have eu_ : pu_ 20 = 0 := rfl
  obtain ⟨o, ho, eo⟩ := ho
  exact Ou_mono (fun post H => H) (fun post H => br_f (by decide) (br_t rfl H)) (op_20 Q hh h16 hc (by omega) hB eo ho em m16)
theorem di_21 (Q : Qr G T A D M (f + 1) N q u v) (hh : xg_frHeight u f = nI h) (h16 : h ≤ 16) (hc : c < 8) (ec : xg_frCode u f = nI c) (s8 : s < 8) (es : xg_frSelf u f = nI s) (em : xg_frMemSize u f = nI m) (m16 : m ≤ 16) (eg : xg_frGas u f = nI g) (g2 : g ≤ 2000) (hp : p ≤ 32) (ep : xg_frAt u f = nI (p + 1)) (hpp : pp_ 21 ≤ h) (hpu : h - pp_ 21 + pu_ 21 ≤ 16) (hB : M < B) : Ou G T A D B N (fun post => wpX_execute post u (nI f) 21) (fun post => ((21 = (19 : Int32) → zy_step_205 post (nI (q f)) (nI c) (nI s) (nI p) 21 (xu_word u f h 0) (xu_word u f h 1) (xu_word u f h 2) (xu_word u f h 3) (yu_hgt (q f) (h - pp_ 21) v)) ∧ (¬ 21 = (19 : Int32) → ((21 = (20 : Int32) → zy_step_205 post (nI (q f)) (nI c) (nI s) (nI p) 21 (xu_word u f h 0) (xu_word u f h 1) (xu_word u f h 2) (xu_word u f h 3) (yu_hgt (q f) (h - pp_ 21) v)) ∧ (¬ 21 = (20 : Int32) → zy_step_226 post (nI (q f)) (nI c) (nI s) (nI p) 21 (xu_word u f h 0) (xu_word u f h 1) (xu_word u f h 2) (xu_word u f h 3) (yu_hgt (q f) (h - pp_ 21) v)))))) := by
  have ep_ : pp_ 21 = 0 := rfl
  have e_ : h - pp_ 21 = h := by omega
  rw [e_] at hpu ⊢
  have eu_ : pu_ 21 = 1 := rfl
  exact Ou_mono (fun post H => H) (fun post H => br_f (by decide) (br_f (by decide) H)) (op_21 Q hh h16 hc (by omega) hB (by omega))
theorem di_22 (Q : Qr G T A D M (f + 1) N q u v) (hh : xg_frHeight u f = nI h) (h16 : h ≤ 16) (hc : c < 8) (ec : xg_frCode u f = nI c) (s8 : s < 8) (es : xg_frSelf u f = nI s) (em : xg_frMemSize u f = nI m) (m16 : m ≤ 16) (eg : xg_frGas u f = nI g) (g2 : g ≤ 2000) (hp : p ≤ 32) (ep : xg_frAt u f = nI (p + 1)) (hpp : pp_ 22 ≤ h) (hpu : h - pp_ 22 + pu_ 22 ≤ 16) (hB : M < B) : Ou G T A D B N (fun post => wpX_execute post u (nI f) 22) (fun post => ((22 = (19 : Int32) → zy_step_205 post (nI (q f)) (nI c) (nI s) (nI p) 22 (xu_word u f h 0) (xu_word u f h 1) (xu_word u f h 2) (xu_word u f h 3) (yu_hgt (q f) (h - pp_ 22) v)) ∧ (¬ 22 = (19 : Int32) → ((22 = (20 : Int32) → zy_step_205 post (nI (q f)) (nI c) (nI s) (nI p) 22 (xu_word u f h 0) (xu_word u f h 1) (xu_word u f h 2) (xu_word u f h 3) (yu_hgt (q f) (h - pp_ 22) v)) ∧ (¬ 22 = (20 : Int32) → zy_step_226 post (nI (q f)) (nI c) (nI s) (nI p) 22 (xu_word u f h 0) (xu_word u f h 1) (xu_word u f h 2) (xu_word u f h 3) (yu_hgt (q f) (h - pp_ 22) v)))))) := by
  have ep_ : pp_ 22 = 1 := rfl
  obtain ⟨t, rfl⟩ : ∃ t, h = t + 1 := ⟨h - 1, by omega⟩
  have e_ : t + 1 - pp_ 22 = t := by omega
  rw [e_] at hpu ⊢
  have w0 : xu_word u f (t + 1) 0 = xg_stack u (f * 16 + t) := if_pos (by omega)
  rw [w0]
  have eu_ : pu_ 22 = 1 := rfl
  exact Ou_mono (fun post H => H) (fun post H => br_f (by decide) (br_f (by decide) H)) (op_22 Q hh h16 hc (by omega) hB s8 es)
theorem di_23 (Q : Qr G T A D M (f + 1) N q u v) (hh : xg_frHeight u f = nI h) (h16 : h ≤ 16) (hc : c < 8) (ec : xg_frCode u f = nI c) (s8 : s < 8) (es : xg_frSelf u f = nI s) (em : xg_frMemSize u f = nI m) (m16 : m ≤ 16) (eg : xg_frGas u f = nI g) (g2 : g ≤ 2000) (hp : p ≤ 32) (ep : xg_frAt u f = nI (p + 1)) (hpp : pp_ 23 ≤ h) (hpu : h - pp_ 23 + pu_ 23 ≤ 16) (hB : M < B) : Ou G T A D B N (fun post => wpX_execute post u (nI f) 23) (fun post => ((23 = (19 : Int32) → zy_step_205 post (nI (q f)) (nI c) (nI s) (nI p) 23 (xu_word u f h 0) (xu_word u f h 1) (xu_word u f h 2) (xu_word u f h 3) (yu_hgt (q f) (h - pp_ 23) v)) ∧ (¬ 23 = (19 : Int32) → ((23 = (20 : Int32) → zy_step_205 post (nI (q f)) (nI c) (nI s) (nI p) 23 (xu_word u f h 0) (xu_word u f h 1) (xu_word u f h 2) (xu_word u f h 3) (yu_hgt (q f) (h - pp_ 23) v)) ∧ (¬ 23 = (20 : Int32) → zy_step_226 post (nI (q f)) (nI c) (nI s) (nI p) 23 (xu_word u f h 0) (xu_word u f h 1) (xu_word u f h 2) (xu_word u f h 3) (yu_hgt (q f) (h - pp_ 23) v)))))) := by
  have ep_ : pp_ 23 = 2 := rfl
  obtain ⟨t, rfl⟩ : ∃ t, h = t + 2 := ⟨h - 2, by omega⟩
  have e_ : t + 2 - pp_ 23 = t := by omega
  rw [e_] at hpu ⊢
  have w0 : xu_word u f (t + 2) 0 = xg_stack u (f * 16 + (t + 1)) := if_pos (by omega)
  have w1 : xu_word u f (t + 2) 1 = xg_stack u (f * 16 + t) := if_pos (by omega)
  rw [w0, w1]
  have eu_ : pu_ 23 = 0 := rfl
  exact Ou_mono (fun post H => H) (fun post H => br_f (by decide) (br_f (by decide) H)) (op_23 Q hh h16 hc (by omega) hB s8 es)
theorem di_24 (Q : Qr G T A D M (f + 1) N q u v) (hh : xg_frHeight u f = nI h) (h16 : h ≤ 16) (hc : c < 8) (ec : xg_frCode u f = nI c) (s8 : s < 8) (es : xg_frSelf u f = nI s) (em : xg_frMemSize u f = nI m) (m16 : m ≤ 16) (eg : xg_frGas u f = nI g) (g2 : g ≤ 2000) (hp : p ≤ 32) (ep : xg_frAt u f = nI (p + 1)) (hpp : pp_ 24 ≤ h) (hpu : h - pp_ 24 + pu_ 24 ≤ 16) (hB : M < B) : Ou G T A D B N (fun post => wpX_execute post u (nI f) 24) (fun post => ((24 = (19 : Int32) → zy_step_205 post (nI (q f)) (nI c) (nI s) (nI p) 24 (xu_word u f h 0) (xu_word u f h 1) (xu_word u f h 2) (xu_word u f h 3) (yu_hgt (q f) (h - pp_ 24) v)) ∧ (¬ 24 = (19 : Int32) → ((24 = (20 : Int32) → zy_step_205 post (nI (q f)) (nI c) (nI s) (nI p) 24 (xu_word u f h 0) (xu_word u f h 1) (xu_word u f h 2) (xu_word u f h 3) (yu_hgt (q f) (h - pp_ 24) v)) ∧ (¬ 24 = (20 : Int32) → zy_step_226 post (nI (q f)) (nI c) (nI s) (nI p) 24 (xu_word u f h 0) (xu_word u f h 1) (xu_word u f h 2) (xu_word u f h 3) (yu_hgt (q f) (h - pp_ 24) v)))))) := by
  have ep_ : pp_ 24 = 1 := rfl
  obtain ⟨t, rfl⟩ : ∃ t, h = t + 1 := ⟨h - 1, by omega⟩
  have e_ : t + 1 - pp_ 24 = t := by omega
  rw [e_] at hpu ⊢
  have w0 : xu_word u f (t + 1) 0 = xg_stack u (f * 16 + t) := if_pos (by omega)
  rw [w0]
  have eu_ : pu_ 24 = 0 := rfl
  rw [← es]
  exact Ou_mono (fun post H => H) (fun post H => br_f (by decide) (br_f (by decide) H)) (op_24 Q hh h16 hc (by omega) hB)
theorem di_25 (Q : Qr G T A D M (f + 1) N q u v) (hh : xg_frHeight u f = nI h) (h16 : h ≤ 16) (hc : c < 8) (ec : xg_frCode u f = nI c) (s8 : s < 8) (es : xg_frSelf u f = nI s) (em : xg_frMemSize u f = nI m) (m16 : m ≤ 16) (eg : xg_frGas u f = nI g) (g2 : g ≤ 2000) (hp : p ≤ 32) (ep : xg_frAt u f = nI (p + 1)) (hpp : pp_ 25 ≤ h) (hpu : h - pp_ 25 + pu_ 25 ≤ 16) (hB : M < B) : Ou G T A D B N (fun post => wpX_execute post u (nI f) 25) (fun post => ((25 = (19 : Int32) → zy_step_205 post (nI (q f)) (nI c) (nI s) (nI p) 25 (xu_word u f h 0) (xu_word u f h 1) (xu_word u f h 2) (xu_word u f h 3) (yu_hgt (q f) (h - pp_ 25) v)) ∧ (¬ 25 = (19 : Int32) → ((25 = (20 : Int32) → zy_step_205 post (nI (q f)) (nI c) (nI s) (nI p) 25 (xu_word u f h 0) (xu_word u f h 1) (xu_word u f h 2) (xu_word u f h 3) (yu_hgt (q f) (h - pp_ 25) v)) ∧ (¬ 25 = (20 : Int32) → zy_step_226 post (nI (q f)) (nI c) (nI s) (nI p) 25 (xu_word u f h 0) (xu_word u f h 1) (xu_word u f h 2) (xu_word u f h 3) (yu_hgt (q f) (h - pp_ 25) v)))))) := by
  have ep_ : pp_ 25 = 0 := rfl
  have e_ : h - pp_ 25 = h := by omega
  rw [e_] at hpu ⊢
  have eu_ : pu_ 25 = 1 := rfl
  rw [← es]
  exact Ou_mono (fun post H => H) (fun post H => br_f (by decide) (br_f (by decide) H)) (op_25 Q hh h16 hc (by omega) hB (by omega))
theorem di_26 (Q : Qr G T A D M (f + 1) N q u v) (hh : xg_frHeight u f = nI h) (h16 : h ≤ 16) (hc : c < 8) (ec : xg_frCode u f = nI c) (s8 : s < 8) (es : xg_frSelf u f = nI s) (em : xg_frMemSize u f = nI m) (m16 : m ≤ 16) (eg : xg_frGas u f = nI g) (g2 : g ≤ 2000) (hp : p ≤ 32) (ep : xg_frAt u f = nI (p + 1)) (hpp : pp_ 26 ≤ h) (hpu : h - pp_ 26 + pu_ 26 ≤ 16) (hB : M < B) : Ou G T A D B N (fun post => wpX_execute post u (nI f) 26) (fun post => ((26 = (19 : Int32) → zy_step_205 post (nI (q f)) (nI c) (nI s) (nI p) 26 (xu_word u f h 0) (xu_word u f h 1) (xu_word u f h 2) (xu_word u f h 3) (yu_hgt (q f) (h - pp_ 26) v)) ∧ (¬ 26 = (19 : Int32) → ((26 = (20 : Int32) → zy_step_205 post (nI (q f)) (nI c) (nI s) (nI p) 26 (xu_word u f h 0) (xu_word u f h 1) (xu_word u f h 2) (xu_word u f h 3) (yu_hgt (q f) (h - pp_ 26) v)) ∧ (¬ 26 = (20 : Int32) → zy_step_226 post (nI (q f)) (nI c) (nI s) (nI p) 26 (xu_word u f h 0) (xu_word u f h 1) (xu_word u f h 2) (xu_word u f h 3) (yu_hgt (q f) (h - pp_ 26) v)))))) := by
  have ep_ : pp_ 26 = 0 := rfl
  have e_ : h - pp_ 26 = h := by omega
  rw [e_] at hpu ⊢
  have eu_ : pu_ 26 = 1 := rfl
  exact Ou_mono (fun post H => H) (fun post H => br_f (by decide) (br_f (by decide) H)) (op_26 Q hh h16 hc (by omega) hB (by omega))
theorem di_27 (Q : Qr G T A D M (f + 1) N q u v) (hh : xg_frHeight u f = nI h) (h16 : h ≤ 16) (hc : c < 8) (ec : xg_frCode u f = nI c) (s8 : s < 8) (es : xg_frSelf u f = nI s) (em : xg_frMemSize u f = nI m) (m16 : m ≤ 16) (eg : xg_frGas u f = nI g) (g2 : g ≤ 2000) (hp : p ≤ 32) (ep : xg_frAt u f = nI (p + 1)) (hpp : pp_ 27 ≤ h) (hpu : h - pp_ 27 + pu_ 27 ≤ 16) (hB : M < B) : Ou G T A D B N (fun post => wpX_execute post u (nI f) 27) (fun post => ((27 = (19 : Int32) → zy_step_205 post (nI (q f)) (nI c) (nI s) (nI p) 27 (xu_word u f h 0) (xu_word u f h 1) (xu_word u f h 2) (xu_word u f h 3) (yu_hgt (q f) (h - pp_ 27) v)) ∧ (¬ 27 = (19 : Int32) → ((27 = (20 : Int32) → zy_step_205 post (nI (q f)) (nI c) (nI s) (nI p) 27 (xu_word u f h 0) (xu_word u f h 1) (xu_word u f h 2) (xu_word u f h 3) (yu_hgt (q f) (h - pp_ 27) v)) ∧ (¬ 27 = (20 : Int32) → zy_step_226 post (nI (q f)) (nI c) (nI s) (nI p) 27 (xu_word u f h 0) (xu_word u f h 1) (xu_word u f h 2) (xu_word u f h 3) (yu_hgt (q f) (h - pp_ 27) v)))))) := by
  have ep_ : pp_ 27 = 0 := rfl
  have e_ : h - pp_ 27 = h := by omega
  rw [e_] at hpu ⊢
  have eu_ : pu_ 27 = 1 := rfl
  exact Ou_mono (fun post H => H) (fun post H => br_f (by decide) (br_f (by decide) H)) (op_27 Q hh h16 hc (by omega) hB (by omega))
theorem di_28 (Q : Qr G T A D M (f + 1) N q u v) (hh : xg_frHeight u f = nI h) (h16 : h ≤ 16) (hc : c < 8) (ec : xg_frCode u f = nI c) (s8 : s < 8) (es : xg_frSelf u f = nI s) (em : xg_frMemSize u f = nI m) (m16 : m ≤ 16) (eg : xg_frGas u f = nI g) (g2 : g ≤ 2000) (hp : p ≤ 32) (ep : xg_frAt u f = nI (p + 1)) (hpp : pp_ 28 ≤ h) (hpu : h - pp_ 28 + pu_ 28 ≤ 16) (hB : M < B) : Ou G T A D B N (fun post => wpX_execute post u (nI f) 28) (fun post => ((28 = (19 : Int32) → zy_step_205 post (nI (q f)) (nI c) (nI s) (nI p) 28 (xu_word u f h 0) (xu_word u f h 1) (xu_word u f h 2) (xu_word u f h 3) (yu_hgt (q f) (h - pp_ 28) v)) ∧ (¬ 28 = (19 : Int32) → ((28 = (20 : Int32) → zy_step_205 post (nI (q f)) (nI c) (nI s) (nI p) 28 (xu_word u f h 0) (xu_word u f h 1) (xu_word u f h 2) (xu_word u f h 3) (yu_hgt (q f) (h - pp_ 28) v)) ∧ (¬ 28 = (20 : Int32) → zy_step_226 post (nI (q f)) (nI c) (nI s) (nI p) 28 (xu_word u f h 0) (xu_word u f h 1) (xu_word u f h 2) (xu_word u f h 3) (yu_hgt (q f) (h - pp_ 28) v)))))) := by
  have ep_ : pp_ 28 = 0 := rfl
  have e_ : h - pp_ 28 = h := by omega
  rw [e_] at hpu ⊢
  have eu_ : pu_ 28 = 1 := rfl
  exact Ou_mono (fun post H => H) (fun post H => br_f (by decide) (br_f (by decide) H)) (op_28 Q hh h16 hc (by omega) hB (by omega))
theorem di_29 (Q : Qr G T A D M (f + 1) N q u v) (hh : xg_frHeight u f = nI h) (h16 : h ≤ 16) (hc : c < 8) (ec : xg_frCode u f = nI c) (s8 : s < 8) (es : xg_frSelf u f = nI s) (em : xg_frMemSize u f = nI m) (m16 : m ≤ 16) (eg : xg_frGas u f = nI g) (g2 : g ≤ 2000) (hp : p ≤ 32) (ep : xg_frAt u f = nI (p + 1)) (hpp : pp_ 29 ≤ h) (hpu : h - pp_ 29 + pu_ 29 ≤ 16) (hB : M < B) : Ou G T A D B N (fun post => wpX_execute post u (nI f) 29) (fun post => ((29 = (19 : Int32) → zy_step_205 post (nI (q f)) (nI c) (nI s) (nI p) 29 (xu_word u f h 0) (xu_word u f h 1) (xu_word u f h 2) (xu_word u f h 3) (yu_hgt (q f) (h - pp_ 29) v)) ∧ (¬ 29 = (19 : Int32) → ((29 = (20 : Int32) → zy_step_205 post (nI (q f)) (nI c) (nI s) (nI p) 29 (xu_word u f h 0) (xu_word u f h 1) (xu_word u f h 2) (xu_word u f h 3) (yu_hgt (q f) (h - pp_ 29) v)) ∧ (¬ 29 = (20 : Int32) → zy_step_226 post (nI (q f)) (nI c) (nI s) (nI p) 29 (xu_word u f h 0) (xu_word u f h 1) (xu_word u f h 2) (xu_word u f h 3) (yu_hgt (q f) (h - pp_ 29) v)))))) := by
  have ep_ : pp_ 29 = 1 := rfl
  obtain ⟨t, rfl⟩ : ∃ t, h = t + 1 := ⟨h - 1, by omega⟩
  have e_ : t + 1 - pp_ 29 = t := by omega
  rw [e_] at hpu ⊢
  have w0 : xu_word u f (t + 1) 0 = xg_stack u (f * 16 + t) := if_pos (by omega)
  rw [w0]
  have eu_ : pu_ 29 = 1 := rfl
  exact Ou_mono (fun post H => H) (fun post H => br_f (by decide) (br_f (by decide) H)) (op_29 Q hh h16 hc (by omega) hB)
theorem di_30 (Q : Qr G T A D M (f + 1) N q u v) (hh : xg_frHeight u f = nI h) (h16 : h ≤ 16) (hc : c < 8) (ec : xg_frCode u f = nI c) (s8 : s < 8) (es : xg_frSelf u f = nI s) (em : xg_frMemSize u f = nI m) (m16 : m ≤ 16) (eg : xg_frGas u f = nI g) (g2 : g ≤ 2000) (hp : p ≤ 32) (ep : xg_frAt u f = nI (p + 1)) (hpp : pp_ 30 ≤ h) (hpu : h - pp_ 30 + pu_ 30 ≤ 16) (hB : M < B) : Ou G T A D B N (fun post => wpX_execute post u (nI f) 30) (fun post => ((30 = (19 : Int32) → zy_step_205 post (nI (q f)) (nI c) (nI s) (nI p) 30 (xu_word u f h 0) (xu_word u f h 1) (xu_word u f h 2) (xu_word u f h 3) (yu_hgt (q f) (h - pp_ 30) v)) ∧ (¬ 30 = (19 : Int32) → ((30 = (20 : Int32) → zy_step_205 post (nI (q f)) (nI c) (nI s) (nI p) 30 (xu_word u f h 0) (xu_word u f h 1) (xu_word u f h 2) (xu_word u f h 3) (yu_hgt (q f) (h - pp_ 30) v)) ∧ (¬ 30 = (20 : Int32) → zy_step_226 post (nI (q f)) (nI c) (nI s) (nI p) 30 (xu_word u f h 0) (xu_word u f h 1) (xu_word u f h 2) (xu_word u f h 3) (yu_hgt (q f) (h - pp_ 30) v)))))) := by
  have ep_ : pp_ 30 = 0 := rfl
  have e_ : h - pp_ 30 = h := by omega
  rw [e_] at hpu ⊢
  have eu_ : pu_ 30 = 1 := rfl
  exact Ou_mono (fun post H => H) (fun post H => br_f (by decide) (br_f (by decide) H)) (op_30 Q hh h16 hc (by omega) hB (by omega))
theorem di_31 (Q : Qr G T A D M (f + 1) N q u v) (hh : xg_frHeight u f = nI h) (h16 : h ≤ 16) (hc : c < 8) (ec : xg_frCode u f = nI c) (s8 : s < 8) (es : xg_frSelf u f = nI s) (em : xg_frMemSize u f = nI m) (m16 : m ≤ 16) (eg : xg_frGas u f = nI g) (g2 : g ≤ 2000) (hp : p ≤ 32) (ep : xg_frAt u f = nI (p + 1)) (hpp : pp_ 31 ≤ h) (hpu : h - pp_ 31 + pu_ 31 ≤ 16) (hB : M < B) : Ou G T A D B N (fun post => wpX_execute post u (nI f) 31) (fun post => ((31 = (19 : Int32) → zy_step_205 post (nI (q f)) (nI c) (nI s) (nI p) 31 (xu_word u f h 0) (xu_word u f h 1) (xu_word u f h 2) (xu_word u f h 3) (yu_hgt (q f) (h - pp_ 31) v)) ∧ (¬ 31 = (19 : Int32) → ((31 = (20 : Int32) → zy_step_205 post (nI (q f)) (nI c) (nI s) (nI p) 31 (xu_word u f h 0) (xu_word u f h 1) (xu_word u f h 2) (xu_word u f h 3) (yu_hgt (q f) (h - pp_ 31) v)) ∧ (¬ 31 = (20 : Int32) → zy_step_226 post (nI (q f)) (nI c) (nI s) (nI p) 31 (xu_word u f h 0) (xu_word u f h 1) (xu_word u f h 2) (xu_word u f h 3) (yu_hgt (q f) (h - pp_ 31) v)))))) := by
  have ep_ : pp_ 31 = 0 := rfl
  have e_ : h - pp_ 31 = h := by omega
  rw [e_] at hpu ⊢
  have eu_ : pu_ 31 = 1 := rfl
  exact Ou_mono (fun post H => H) (fun post H => br_f (by decide) (br_f (by decide) H)) (op_31 Q hh h16 hc (by omega) hB (by omega))
theorem di_32 (Q : Qr G T A D M (f + 1) N q u v) (hh : xg_frHeight u f = nI h) (h16 : h ≤ 16) (hc : c < 8) (ec : xg_frCode u f = nI c) (s8 : s < 8) (es : xg_frSelf u f = nI s) (em : xg_frMemSize u f = nI m) (m16 : m ≤ 16) (eg : xg_frGas u f = nI g) (g2 : g ≤ 2000) (hp : p ≤ 32) (ep : xg_frAt u f = nI (p + 1)) (hpp : pp_ 32 ≤ h) (hpu : h - pp_ 32 + pu_ 32 ≤ 16) (hB : M < B) : Ou G T A D B N (fun post => wpX_execute post u (nI f) 32) (fun post => ((32 = (19 : Int32) → zy_step_205 post (nI (q f)) (nI c) (nI s) (nI p) 32 (xu_word u f h 0) (xu_word u f h 1) (xu_word u f h 2) (xu_word u f h 3) (yu_hgt (q f) (h - pp_ 32) v)) ∧ (¬ 32 = (19 : Int32) → ((32 = (20 : Int32) → zy_step_205 post (nI (q f)) (nI c) (nI s) (nI p) 32 (xu_word u f h 0) (xu_word u f h 1) (xu_word u f h 2) (xu_word u f h 3) (yu_hgt (q f) (h - pp_ 32) v)) ∧ (¬ 32 = (20 : Int32) → zy_step_226 post (nI (q f)) (nI c) (nI s) (nI p) 32 (xu_word u f h 0) (xu_word u f h 1) (xu_word u f h 2) (xu_word u f h 3) (yu_hgt (q f) (h - pp_ 32) v)))))) := by
  have ep_ : pp_ 32 = 4 := rfl
  obtain ⟨t, rfl⟩ : ∃ t, h = t + 4 := ⟨h - 4, by omega⟩
  have e_ : t + 4 - pp_ 32 = t := by omega
  rw [e_] at hpu ⊢
  have w0 : xu_word u f (t + 4) 0 = xg_stack u (f * 16 + (t + 3)) := if_pos (by omega)
  have w1 : xu_word u f (t + 4) 1 = xg_stack u (f * 16 + (t + 2)) := if_pos (by omega)
  have w2 : xu_word u f (t + 4) 2 = xg_stack u (f * 16 + (t + 1)) := if_pos (by omega)
  have w3 : xu_word u f (t + 4) 3 = xg_stack u (f * 16 + t) := if_pos (by omega)
  rw [w0, w1, w2, w3]
  have eu_ : pu_ 32 = 1 := rfl
  exact Ou_mono (fun post H => H) (fun post H => br_f (by decide) (br_f (by decide) H)) (op_32 Q hh h16 hc (by omega) hB s8 es eg g2)
theorem di_33 (Q : Qr G T A D M (f + 1) N q u v) (hh : xg_frHeight u f = nI h) (h16 : h ≤ 16) (hc : c < 8) (ec : xg_frCode u f = nI c) (s8 : s < 8) (es : xg_frSelf u f = nI s) (em : xg_frMemSize u f = nI m) (m16 : m ≤ 16) (eg : xg_frGas u f = nI g) (g2 : g ≤ 2000) (hp : p ≤ 32) (ep : xg_frAt u f = nI (p + 1)) (hpp : pp_ 33 ≤ h) (hpu : h - pp_ 33 + pu_ 33 ≤ 16) (hB : M < B) : Ou G T A D B N (fun post => wpX_execute post u (nI f) 33) (fun post => ((33 = (19 : Int32) → zy_step_205 post (nI (q f)) (nI c) (nI s) (nI p) 33 (xu_word u f h 0) (xu_word u f h 1) (xu_word u f h 2) (xu_word u f h 3) (yu_hgt (q f) (h - pp_ 33) v)) ∧ (¬ 33 = (19 : Int32) → ((33 = (20 : Int32) → zy_step_205 post (nI (q f)) (nI c) (nI s) (nI p) 33 (xu_word u f h 0) (xu_word u f h 1) (xu_word u f h 2) (xu_word u f h 3) (yu_hgt (q f) (h - pp_ 33) v)) ∧ (¬ 33 = (20 : Int32) → zy_step_226 post (nI (q f)) (nI c) (nI s) (nI p) 33 (xu_word u f h 0) (xu_word u f h 1) (xu_word u f h 2) (xu_word u f h 3) (yu_hgt (q f) (h - pp_ 33) v)))))) := by
  have ep_ : pp_ 33 = 3 := rfl
  obtain ⟨t, rfl⟩ : ∃ t, h = t + 3 := ⟨h - 3, by omega⟩
  have e_ : t + 3 - pp_ 33 = t := by omega
  rw [e_] at hpu ⊢
  have w0 : xu_word u f (t + 3) 0 = xg_stack u (f * 16 + (t + 2)) := if_pos (by omega)
  have w1 : xu_word u f (t + 3) 1 = xg_stack u (f * 16 + (t + 1)) := if_pos (by omega)
  have w2 : xu_word u f (t + 3) 2 = xg_stack u (f * 16 + t) := if_pos (by omega)
  rw [w0, w1, w2]
  have eu_ : pu_ 33 = 1 := rfl
  exact Ou_mono (fun post H => H) (fun post H => br_f (by decide) (br_f (by decide) H)) (op_33 Q hh h16 hc (by omega) hB s8 es eg g2)
theorem di_34 (Q : Qr G T A D M (f + 1) N q u v) (hh : xg_frHeight u f = nI h) (h16 : h ≤ 16) (hc : c < 8) (ec : xg_frCode u f = nI c) (s8 : s < 8) (es : xg_frSelf u f = nI s) (em : xg_frMemSize u f = nI m) (m16 : m ≤ 16) (eg : xg_frGas u f = nI g) (g2 : g ≤ 2000) (hp : p ≤ 32) (ep : xg_frAt u f = nI (p + 1)) (hpp : pp_ 34 ≤ h) (hpu : h - pp_ 34 + pu_ 34 ≤ 16) (hB : M < B) : Ou G T A D B N (fun post => wpX_execute post u (nI f) 34) (fun post => ((34 = (19 : Int32) → zy_step_205 post (nI (q f)) (nI c) (nI s) (nI p) 34 (xu_word u f h 0) (xu_word u f h 1) (xu_word u f h 2) (xu_word u f h 3) (yu_hgt (q f) (h - pp_ 34) v)) ∧ (¬ 34 = (19 : Int32) → ((34 = (20 : Int32) → zy_step_205 post (nI (q f)) (nI c) (nI s) (nI p) 34 (xu_word u f h 0) (xu_word u f h 1) (xu_word u f h 2) (xu_word u f h 3) (yu_hgt (q f) (h - pp_ 34) v)) ∧ (¬ 34 = (20 : Int32) → zy_step_226 post (nI (q f)) (nI c) (nI s) (nI p) 34 (xu_word u f h 0) (xu_word u f h 1) (xu_word u f h 2) (xu_word u f h 3) (yu_hgt (q f) (h - pp_ 34) v)))))) := by
  have ep_ : pp_ 34 = 3 := rfl
  obtain ⟨t, rfl⟩ : ∃ t, h = t + 3 := ⟨h - 3, by omega⟩
  have e_ : t + 3 - pp_ 34 = t := by omega
  rw [e_] at hpu ⊢
  have w0 : xu_word u f (t + 3) 0 = xg_stack u (f * 16 + (t + 2)) := if_pos (by omega)
  have w1 : xu_word u f (t + 3) 1 = xg_stack u (f * 16 + (t + 1)) := if_pos (by omega)
  have w2 : xu_word u f (t + 3) 2 = xg_stack u (f * 16 + t) := if_pos (by omega)
  rw [w0, w1, w2]
  have eu_ : pu_ 34 = 1 := rfl
  exact Ou_mono (fun post H => H) (fun post H => br_f (by decide) (br_f (by decide) H)) (op_34 Q hh h16 hc (by omega) hB s8 es eg g2)
theorem di_35 (Q : Qr G T A D M (f + 1) N q u v) (hh : xg_frHeight u f = nI h) (h16 : h ≤ 16) (hc : c < 8) (ec : xg_frCode u f = nI c) (s8 : s < 8) (es : xg_frSelf u f = nI s) (em : xg_frMemSize u f = nI m) (m16 : m ≤ 16) (eg : xg_frGas u f = nI g) (g2 : g ≤ 2000) (hp : p ≤ 32) (ep : xg_frAt u f = nI (p + 1)) (hpp : pp_ 35 ≤ h) (hpu : h - pp_ 35 + pu_ 35 ≤ 16) (hB : M < B) : Ou G T A D B N (fun post => wpX_execute post u (nI f) 35) (fun post => ((35 = (19 : Int32) → zy_step_205 post (nI (q f)) (nI c) (nI s) (nI p) 35 (xu_word u f h 0) (xu_word u f h 1) (xu_word u f h 2) (xu_word u f h 3) (yu_hgt (q f) (h - pp_ 35) v)) ∧ (¬ 35 = (19 : Int32) → ((35 = (20 : Int32) → zy_step_205 post (nI (q f)) (nI c) (nI s) (nI p) 35 (xu_word u f h 0) (xu_word u f h 1) (xu_word u f h 2) (xu_word u f h 3) (yu_hgt (q f) (h - pp_ 35) v)) ∧ (¬ 35 = (20 : Int32) → zy_step_226 post (nI (q f)) (nI c) (nI s) (nI p) 35 (xu_word u f h 0) (xu_word u f h 1) (xu_word u f h 2) (xu_word u f h 3) (yu_hgt (q f) (h - pp_ 35) v)))))) := by
  have ep_ : pp_ 35 = 3 := rfl
  obtain ⟨t, rfl⟩ : ∃ t, h = t + 3 := ⟨h - 3, by omega⟩
  have e_ : t + 3 - pp_ 35 = t := by omega
  rw [e_] at hpu ⊢
  have w0 : xu_word u f (t + 3) 0 = xg_stack u (f * 16 + (t + 2)) := if_pos (by omega)
  have w1 : xu_word u f (t + 3) 1 = xg_stack u (f * 16 + (t + 1)) := if_pos (by omega)
  have w2 : xu_word u f (t + 3) 2 = xg_stack u (f * 16 + t) := if_pos (by omega)
  rw [w0, w1, w2]
  have eu_ : pu_ 35 = 1 := rfl
  exact Ou_mono (fun post H => H) (fun post H => br_f (by decide) (br_f (by decide) H)) (op_35 Q hh h16 hc (by omega) hB s8 es eg g2)
theorem di_36 (Q : Qr G T A D M (f + 1) N q u v) (hh : xg_frHeight u f = nI h) (h16 : h ≤ 16) (hc : c < 8) (ec : xg_frCode u f = nI c) (s8 : s < 8) (es : xg_frSelf u f = nI s) (em : xg_frMemSize u f = nI m) (m16 : m ≤ 16) (eg : xg_frGas u f = nI g) (g2 : g ≤ 2000) (hp : p ≤ 32) (ep : xg_frAt u f = nI (p + 1)) (hpp : pp_ 36 ≤ h) (hpu : h - pp_ 36 + pu_ 36 ≤ 16) (hB : M ≤ B) : Ou G T A D B N (fun post => wpX_execute post u (nI f) 36) (fun post => ((36 = (19 : Int32) → zy_step_205 post (nI (q f)) (nI c) (nI s) (nI p) 36 (xu_word u f h 0) (xu_word u f h 1) (xu_word u f h 2) (xu_word u f h 3) (yu_hgt (q f) (h - pp_ 36) v)) ∧ (¬ 36 = (19 : Int32) → ((36 = (20 : Int32) → zy_step_205 post (nI (q f)) (nI c) (nI s) (nI p) 36 (xu_word u f h 0) (xu_word u f h 1) (xu_word u f h 2) (xu_word u f h 3) (yu_hgt (q f) (h - pp_ 36) v)) ∧ (¬ 36 = (20 : Int32) → zy_step_226 post (nI (q f)) (nI c) (nI s) (nI p) 36 (xu_word u f h 0) (xu_word u f h 1) (xu_word u f h 2) (xu_word u f h 3) (yu_hgt (q f) (h - pp_ 36) v)))))) := by
  have ep_ : pp_ 36 = 1 := rfl
  obtain ⟨t, rfl⟩ : ∃ t, h = t + 1 := ⟨h - 1, by omega⟩
  have e_ : t + 1 - pp_ 36 = t := by omega
  rw [e_] at hpu ⊢
  have w0 : xu_word u f (t + 1) 0 = xg_stack u (f * 16 + t) := if_pos (by omega)
  rw [w0]
  have eu_ : pu_ 36 = 0 := rfl
  exact Ou_mono (fun post H => H) (fun post H => br_f (by decide) (br_f (by decide) H)) (op_36 Q hh h16 hc (by omega) hB)
theorem di_37 (Q : Qr G T A D M (f + 1) N q u v) (hh : xg_frHeight u f = nI h) (h16 : h ≤ 16) (hc : c < 8) (ec : xg_frCode u f = nI c) (s8 : s < 8) (es : xg_frSelf u f = nI s) (em : xg_frMemSize u f = nI m) (m16 : m ≤ 16) (eg : xg_frGas u f = nI g) (g2 : g ≤ 2000) (hp : p ≤ 32) (ep : xg_frAt u f = nI (p + 1)) (hpp : pp_ 37 ≤ h) (hpu : h - pp_ 37 + pu_ 37 ≤ 16) (hB : M ≤ B) : Ou G T A D B N (fun post => wpX_execute post u (nI f) 37) (fun post => ((37 = (19 : Int32) → zy_step_205 post (nI (q f)) (nI c) (nI s) (nI p) 37 (xu_word u f h 0) (xu_word u f h 1) (xu_word u f h 2) (xu_word u f h 3) (yu_hgt (q f) (h - pp_ 37) v)) ∧ (¬ 37 = (19 : Int32) → ((37 = (20 : Int32) → zy_step_205 post (nI (q f)) (nI c) (nI s) (nI p) 37 (xu_word u f h 0) (xu_word u f h 1) (xu_word u f h 2) (xu_word u f h 3) (yu_hgt (q f) (h - pp_ 37) v)) ∧ (¬ 37 = (20 : Int32) → zy_step_226 post (nI (q f)) (nI c) (nI s) (nI p) 37 (xu_word u f h 0) (xu_word u f h 1) (xu_word u f h 2) (xu_word u f h 3) (yu_hgt (q f) (h - pp_ 37) v)))))) := by
  have ep_ : pp_ 37 = 1 := rfl
  obtain ⟨t, rfl⟩ : ∃ t, h = t + 1 := ⟨h - 1, by omega⟩
  have e_ : t + 1 - pp_ 37 = t := by omega
  rw [e_] at hpu ⊢
  have w0 : xu_word u f (t + 1) 0 = xg_stack u (f * 16 + t) := if_pos (by omega)
  rw [w0]
  have eu_ : pu_ 37 = 0 := rfl
  exact Ou_mono (fun post H => H) (fun post H => br_f (by decide) (br_f (by decide) H)) (op_37 Q hh h16 hc (by omega) hB)
theorem di_all (Q : Qr G T A D M (f + 1) N q u v) (hh : xg_frHeight u f = nI h) (h16 : h ≤ 16) (hc : c < 8) (ec : xg_frCode u f = nI c) (s8 : s < 8) (es : xg_frSelf u f = nI s) (em : xg_frMemSize u f = nI m) (m16 : m ≤ 16) (eg : xg_frGas u f = nI g) (g2 : g ≤ 2000) (hp : p ≤ 32) (ep : xg_frAt u f = nI (p + 1)) (hk : k < 38) (hpp : pp_ k ≤ h) (hpu : h - pp_ k + pu_ k ≤ 16) (ho : k = 19 ∨ k = 20 → ∃ o, o < 16 ∧ xu_word u f h 0 = nI o) (hB1 : k ≠ 0 → k ≠ 36 → k ≠ 37 → M < B) (hB0 : M ≤ B) : Ou G T A D B N (fun post => wpX_execute post u (nI f) (nI k)) (fun post => (((nI k) = (19 : Int32) → zy_step_205 post (nI (q f)) (nI c) (nI s) (nI p) (nI k) (xu_word u f h 0) (xu_word u f h 1) (xu_word u f h 2) (xu_word u f h 3) (yu_hgt (q f) (h - pp_ k) v)) ∧ (¬ (nI k) = (19 : Int32) → (((nI k) = (20 : Int32) → zy_step_205 post (nI (q f)) (nI c) (nI s) (nI p) (nI k) (xu_word u f h 0) (xu_word u f h 1) (xu_word u f h 2) (xu_word u f h 3) (yu_hgt (q f) (h - pp_ k) v)) ∧ (¬ (nI k) = (20 : Int32) → zy_step_226 post (nI (q f)) (nI c) (nI s) (nI p) (nI k) (xu_word u f h 0) (xu_word u f h 1) (xu_word u f h 2) (xu_word u f h 3) (yu_hgt (q f) (h - pp_ k) v)))))) := by
  match k, hk, hpp, hpu, ho, hB1 with
  | 0, _, hpp, hpu, ho, hB1 => exact di_0 Q hh h16 hc ec s8 es em m16 eg g2 hp ep hpp hpu hB0
  | 1, _, hpp, hpu, ho, hB1 => exact di_1 Q hh h16 hc ec s8 es em m16 eg g2 hp ep hpp hpu (hB1 (by decide) (by decide) (by decide))
  | 2, _, hpp, hpu, ho, hB1 => exact di_2 Q hh h16 hc ec s8 es em m16 eg g2 hp ep hpp hpu (hB1 (by decide) (by decide) (by decide))
  | 3, _, hpp, hpu, ho, hB1 => exact di_3 Q hh h16 hc ec s8 es em m16 eg g2 hp ep hpp hpu (hB1 (by decide) (by decide) (by decide))
  | 4, _, hpp, hpu, ho, hB1 => exact di_4 Q hh h16 hc ec s8 es em m16 eg g2 hp ep hpp hpu (hB1 (by decide) (by decide) (by decide))
  | 5, _, hpp, hpu, ho, hB1 => exact di_5 Q hh h16 hc ec s8 es em m16 eg g2 hp ep hpp hpu (hB1 (by decide) (by decide) (by decide))
  | 6, _, hpp, hpu, ho, hB1 => exact di_6 Q hh h16 hc ec s8 es em m16 eg g2 hp ep hpp hpu (hB1 (by decide) (by decide) (by decide))
  | 7, _, hpp, hpu, ho, hB1 => exact di_7 Q hh h16 hc ec s8 es em m16 eg g2 hp ep hpp hpu (hB1 (by decide) (by decide) (by decide))
  | 8, _, hpp, hpu, ho, hB1 => exact di_8 Q hh h16 hc ec s8 es em m16 eg g2 hp ep hpp hpu (hB1 (by decide) (by decide) (by decide))
  | 9, _, hpp, hpu, ho, hB1 => exact di_9 Q hh h16 hc ec s8 es em m16 eg g2 hp ep hpp hpu (hB1 (by decide) (by decide) (by decide))
  | 10, _, hpp, hpu, ho, hB1 => exact di_10 Q hh h16 hc ec s8 es em m16 eg g2 hp ep hpp hpu (hB1 (by decide) (by decide) (by decide))
  | 11, _, hpp, hpu, ho, hB1 => exact di_11 Q hh h16 hc ec s8 es em m16 eg g2 hp ep hpp hpu (hB1 (by decide) (by decide) (by decide))
  | 12, _, hpp, hpu, ho, hB1 => exact di_12 Q hh h16 hc ec s8 es em m16 eg g2 hp ep hpp hpu (hB1 (by decide) (by decide) (by decide))
  | 13, _, hpp, hpu, ho, hB1 => exact di_13 Q hh h16 hc ec s8 es em m16 eg g2 hp ep hpp hpu (hB1 (by decide) (by decide) (by decide))
  | 14, _, hpp, hpu, ho, hB1 => exact di_14 Q hh h16 hc ec s8 es em m16 eg g2 hp ep hpp hpu (hB1 (by decide) (by decide) (by decide))
  | 15, _, hpp, hpu, ho, hB1 => exact di_15 Q hh h16 hc ec s8 es em m16 eg g2 hp ep hpp hpu (hB1 (by decide) (by decide) (by decide))
  | 16, _, hpp, hpu, ho, hB1 => exact di_16 Q hh h16 hc ec s8 es em m16 eg g2 hp ep hpp hpu (hB1 (by decide) (by decide) (by decide))
  | 17, _, hpp, hpu, ho, hB1 => exact di_17 Q hh h16 hc ec s8 es em m16 eg g2 hp ep hpp hpu (hB1 (by decide) (by decide) (by decide))
  | 18, _, hpp, hpu, ho, hB1 => exact di_18 Q hh h16 hc ec s8 es em m16 eg g2 hp ep hpp hpu (hB1 (by decide) (by decide) (by decide))
  | 19, _, hpp, hpu, ho, hB1 => exact di_19 Q hh h16 hc ec s8 es em m16 eg g2 hp ep hpp hpu (ho (Or.inl rfl)) (hB1 (by decide) (by decide) (by decide))
  | 20, _, hpp, hpu, ho, hB1 => exact di_20 Q hh h16 hc ec s8 es em m16 eg g2 hp ep hpp hpu (ho (Or.inr rfl)) (hB1 (by decide) (by decide) (by decide))
  | 21, _, hpp, hpu, ho, hB1 => exact di_21 Q hh h16 hc ec s8 es em m16 eg g2 hp ep hpp hpu (hB1 (by decide) (by decide) (by decide))
  | 22, _, hpp, hpu, ho, hB1 => exact di_22 Q hh h16 hc ec s8 es em m16 eg g2 hp ep hpp hpu (hB1 (by decide) (by decide) (by decide))
  | 23, _, hpp, hpu, ho, hB1 => exact di_23 Q hh h16 hc ec s8 es em m16 eg g2 hp ep hpp hpu (hB1 (by decide) (by decide) (by decide))
  | 24, _, hpp, hpu, ho, hB1 => exact di_24 Q hh h16 hc ec s8 es em m16 eg g2 hp ep hpp hpu (hB1 (by decide) (by decide) (by decide))
  | 25, _, hpp, hpu, ho, hB1 => exact di_25 Q hh h16 hc ec s8 es em m16 eg g2 hp ep hpp hpu (hB1 (by decide) (by decide) (by decide))
  | 26, _, hpp, hpu, ho, hB1 => exact di_26 Q hh h16 hc ec s8 es em m16 eg g2 hp ep hpp hpu (hB1 (by decide) (by decide) (by decide))
  | 27, _, hpp, hpu, ho, hB1 => exact di_27 Q hh h16 hc ec s8 es em m16 eg g2 hp ep hpp hpu (hB1 (by decide) (by decide) (by decide))
  | 28, _, hpp, hpu, ho, hB1 => exact di_28 Q hh h16 hc ec s8 es em m16 eg g2 hp ep hpp hpu (hB1 (by decide) (by decide) (by decide))
  | 29, _, hpp, hpu, ho, hB1 => exact di_29 Q hh h16 hc ec s8 es em m16 eg g2 hp ep hpp hpu (hB1 (by decide) (by decide) (by decide))
  | 30, _, hpp, hpu, ho, hB1 => exact di_30 Q hh h16 hc ec s8 es em m16 eg g2 hp ep hpp hpu (hB1 (by decide) (by decide) (by decide))
  | 31, _, hpp, hpu, ho, hB1 => exact di_31 Q hh h16 hc ec s8 es em m16 eg g2 hp ep hpp hpu (hB1 (by decide) (by decide) (by decide))
  | 32, _, hpp, hpu, ho, hB1 => exact di_32 Q hh h16 hc ec s8 es em m16 eg g2 hp ep hpp hpu (hB1 (by decide) (by decide) (by decide))
  | 33, _, hpp, hpu, ho, hB1 => exact di_33 Q hh h16 hc ec s8 es em m16 eg g2 hp ep hpp hpu (hB1 (by decide) (by decide) (by decide))
  | 34, _, hpp, hpu, ho, hB1 => exact di_34 Q hh h16 hc ec s8 es em m16 eg g2 hp ep hpp hpu (hB1 (by decide) (by decide) (by decide))
  | 35, _, hpp, hpu, ho, hB1 => exact di_35 Q hh h16 hc ec s8 es em m16 eg g2 hp ep hpp hpu (hB1 (by decide) (by decide) (by decide))
  | 36, _, hpp, hpu, ho, hB1 => exact di_36 Q hh h16 hc ec s8 es em m16 eg g2 hp ep hpp hpu hB0
  | 37, _, hpp, hpu, ho, hB1 => exact di_37 Q hh h16 hc ec s8 es em m16 eg g2 hp ep hpp hpu hB0
  | _ + 38, hk, _, _, _, _ => exact absurd hk (by omega)
end
end
section
/-! one step, both sides -/
def xv_C (post : SX → Prop) (x1_1 x3_5 x4_9 : Int32) (u : SX) : Prop := (wpX_costOf (fun r_46 => (vp_in x1_1 8 ∧ (((r_46 ≤ ((xg_frGas u) x1_1.toNatClampNeg) → (vp_in x1_1 8 ∧ (vp_in x1_1 8 ∧ ∀ a_frGas_85 : Nat → Int32, a_frGas_85 = upd (xg_frGas u) x1_1.toNatClampNeg (((xg_frGas u) x1_1.toNatClampNeg) - r_46) → (vp_in x1_1 8 ∧ (vp_in x1_1 8 ∧ ∀ a_frOwn_88 : Nat → Int32, a_frOwn_88 = upd (xg_frOwn u) x1_1.toNatClampNeg (((xg_frOwn u) x1_1.toNatClampNeg) + r_46) → (vp_in x1_1 8 ∧ ∀ a_frAt_90 : Nat → Int32, a_frAt_90 = upd (xg_frAt u) x1_1.toNatClampNeg (x3_5 + 1) → (wpX_execute post (xm_frGas_frOwn_frAt a_frGas_85 a_frOwn_88 a_frAt_90 u) x1_1 x4_9))))))) ∧ (¬ r_46 ≤ ((xg_frGas u) x1_1.toNatClampNeg) → (wpX_endFrame post u 3 0)))))) u x1_1 x4_9)
def yv_C (post : SY → Prop) (r_1 x2_32 x3_34 x4_36 r_39 : Int32) (u : SY) : Prop := (wpY_cost (fun r_98 => (wpY_pops (fun r_127 => (vp_in r_1 32 ∧ (vp_in r_1 32 ∧ ∀ a_left_158 : Nat → Int32, a_left_158 = upd (yg_left u) r_1.toNatClampNeg (((yg_left u) r_1.toNatClampNeg) - r_98) → (vp_in ((r_1 * 10) + 8) 320 ∧ (vp_in ((r_1 * 10) + 8) 320 ∧ ∀ a_rec_161 : Nat → Int32, a_rec_161 = upd (yg_rec u) ((r_1 * 10) + 8).toNatClampNeg (((yg_rec u) ((r_1 * 10) + 8).toNatClampNeg) + r_98) → (wpY_word (fun r_162 => (wpY_word (fun r_191 => (wpY_word (fun r_220 => (wpY_word (fun r_249 => (vp_in r_1 32 ∧ (vp_in r_1 32 ∧ ∀ a_height_280 : Nat → Int32, a_height_280 = upd (yg_height u) r_1.toNatClampNeg (((yg_height u) r_1.toNatClampNeg) - r_127) → (vp_in r_1 32 ∧ ∀ a_position_282 : Nat → Int32, a_position_282 = upd (yg_position u) r_1.toNatClampNeg (x4_36 + 1) → (((r_39 = 19 → (zy_step_205 post r_1 x2_32 x3_34 x4_36 r_39 r_162 r_191 r_220 r_249 (ym_rec_left_height_position a_rec_161 a_left_158 a_height_280 a_position_282 u))) ∧ (¬ r_39 = 19 → (((r_39 = 20 → (zy_step_205 post r_1 x2_32 x3_34 x4_36 r_39 r_162 r_191 r_220 r_249 (ym_rec_left_height_position a_rec_161 a_left_158 a_height_280 a_position_282 u))) ∧ (¬ r_39 = 20 → (zy_step_226 post r_1 x2_32 x3_34 x4_36 r_39 r_162 r_191 r_220 r_249 (ym_rec_left_height_position a_rec_161 a_left_158 a_height_280 a_position_282 u)))))))))))) (ym_rec_left a_rec_161 a_left_158 u) r_1 3)) (ym_rec_left a_rec_161 a_left_158 u) r_1 2)) (ym_rec_left a_rec_161 a_left_158 u) r_1 1)) (ym_rec_left a_rec_161 a_left_158 u) r_1 0)))))) u r_39)) u r_1 r_39)
theorem yh_eq (F g p k : Nat) (x : Int32) (v : SY) : ym_rec_left_height_position (upd (yg_rec v) (F * 10 + 8) (yg_rec v (F * 10 + 8) + x)) (upd (yg_left v) F (nI g)) (upd (yg_height v) F (nI k)) (upd (yg_position v) F (nI p)) v = yu_hgt F k (yu_hdr F g p x v) := by
  obtain ⟨aa0, aa1, aa2, aa3, aa4, aa5, aa6, aa7, aa8, aa9, aa10, aa11, aa12, aa13, aa14, aa15, aa16, aa17, aa18, aa19, aa20, aa21, aa22, aa23, aa24, aa25, aa26, aa27⟩ := v
  dsimp only [ym_rec_left_height_position, yu_hgt, yu_hdr, ys_height, yg_accounts, yg_maxDepth, yg_price, yg_fees, yg_minted, yg_input, yg_returnWord, yg_frames, yg_logs, yg_handed, yg_cells, yg_length, yg_world, yg_logAccounts, yg_logWords, yg_rec, yg_entry, yg_entryLogs, yg_left, yg_stack, yg_height, yg_memory, yg_memorySize, yg_position, yg_result, yg_callerOf, yg_valueOf, yg_inputOf]
theorem ywd_same (a b : Nat → Int32) (v : SY) (F h j : Nat) : yu_word (ym_rec_left a b v) F h j = yu_word v F h j := id rfl
theorem yhg_same (a b : Nat → Int32) (v : SY) : yg_height (ym_rec_left a b v) = yg_height v := id rfl
theorem hd_1 (f g p : Nat) (x : Int32) (u : SX) : xg_frHeight (xu_hdr f g p x u) = xg_frHeight u := id rfl
theorem hd_2 (f g p : Nat) (x : Int32) (u : SX) : xg_frCode (xu_hdr f g p x u) = xg_frCode u := id rfl
theorem hd_3 (f g p : Nat) (x : Int32) (u : SX) : xg_frSelf (xu_hdr f g p x u) = xg_frSelf u := id rfl
theorem hd_4 (f g p : Nat) (x : Int32) (u : SX) : xg_frMemSize (xu_hdr f g p x u) = xg_frMemSize u := id rfl
theorem hd_5 (f g p : Nat) (x : Int32) (u : SX) (h j : Nat) : xu_word (xu_hdr f g p x u) f h j = xu_word u f h j := id rfl
theorem fb_0 {k h : Nat} {z w0 w2 : Int32} (e : fb_ k h z w0 w2 = 0) : pp_ k ≤ h ∧ h - pp_ k + pu_ k ≤ 16 ∧ (k = 19 ∨ k = 20 → ∃ o, o < 16 ∧ w0 = nI o) := by
  unfold fb_ at e
  by_cases h1 : h < pp_ k
  · rw [if_pos h1] at e; exact absurd e (by decide)
  · rw [if_neg h1] at e
    by_cases h2 : 16 < h - pp_ k + pu_ k
    · rw [if_pos h2] at e; exact absurd e (by decide)
    · rw [if_neg h2] at e
      refine ⟨by omega, by omega, fun hk => ?_⟩
      by_cases h3 : z ≠ 0 ∧ (k = 23 ∨ k = 24 ∨ k = 35 ∨ (k = 32 ∧ w2 ≠ 0))
      · rw [if_pos h3] at e; exact absurd e (by decide)
      · rw [if_neg h3] at e
        by_cases h4 : (k = 19 ∨ k = 20) ∧ (w0 < 0 ∨ ¬ w0 < 16)
        · rw [if_pos h4] at e; exact absurd e (by decide)
        · have n0 : ¬ w0 < 0 := fun h => h4 ⟨hk, Or.inl h⟩
          have n1 : w0 < 16 := Classical.byContradiction fun h => h4 ⟨hk, Or.inr h⟩
          obtain ⟨j, hj, ej⟩ := nI_of n0
          refine ⟨j, ?_, ej⟩
          rw [ej] at n1
          exact (nI_ltI (b := 16) hj (by decide)).mp n1
section
variable {G T A D M f N : Nat} {q : Nat → Nat} {u : SX} {v : SY}
theorem word_eq (Q : Qr G T A D M (f + 1) N q u v) {h : Nat} (hh : xg_frHeight u f = nI h) (h16 : h ≤ 16) (j : Nat) : yu_word v (q f) h j = xu_word u f h j := by
  unfold yu_word xu_word
  by_cases z : j < h
  · rw [if_pos z, if_pos z]
    exact LV_stk (Q_lv Q) hh h16 (h - 1 - j) (by omega)
  · rw [if_neg z, if_neg z]
theorem y_cur (Q : Qr G T A D M (f + 1) N q u v) {post : Int32 → Prop} (H : post (nI (q f))) : wpY_current post v := by
  refine y_current Q (fun h => by omega) ?_
  unfold pr_
  rw [if_neg (by omega)]
  exact H
theorem step_both (Q : Qr G T A D M (f + 1) N q u v) : Ou G T A D M N (fun post => wpX_stepFrame post u) (fun post => wpY_step post v) := by
  have f8 := Q_f8 Q
  have q32 := Q_q32 Q
  have v8 := vp_in_nI f8 (N := 8) (by decide)
  have vF := vp_in_nI q32 (N := 32) (by decide)
  have ea : xg_active u = nI (f + 1) := Q.2.2.2.2.1.2
  have hC : yg_cells v = xg_cells u := Q.1.2.2.2.2.2.2.2.2.2.1
  have hw : yg_world v = xg_world u := Q.1.2.2.2.2.2.2.2.2.2.2.2.1
  have lv := Q_lv Q
  obtain ⟨a1, a2, a3, a4, a5, a6, a7, a8, a9, a10, a11, a12, a13, a14, a15, a16, a17, a18, a19, a20, a21, a22, a23, a24, a25, a26, a27, a28, a29⟩ := lv
  obtain ⟨c, c8, ec⟩ := a2
  obtain ⟨s, s8, es⟩ := a4
  obtain ⟨h, h16, eh, _⟩ := a6
  obtain ⟨m, m16, em⟩ := a8
  obtain ⟨p, p40, ep⟩ := a10
  obtain ⟨g, g2, eg⟩ := a12
  obtain ⟨l, l32, el, el'⟩ := Q_len Q c8
  -- heads
  have HX : ∀ post : SX → Prop, (p < l → wpX_faultBefore (fun r => (r = 0 → xv_C post (nI f) (nI p) (xg_cells u (c * 32 + p)) u) ∧ (¬ r = 0 → wpX_endFrame post u r 0)) u (nI f) (xg_cells u (c * 32 + p))) → (l ≤ p → wpX_endFrame post u 1 0) → wpX_stepFrame post u := by
    intro post H1 H2
    rw [ex_stepFrame, ea, nI_pred]
    refine nm_e ?_
    rw [nI_clamp (n := f) (by omega), ec, ep]
    refine ⟨v8, nm_e ⟨v8, nm_e ?_⟩⟩
    rw [nI_clamp (n := c) (by omega), el]
    refine ⟨vp_in_nI c8 (by decide), pk_lt p l (fun lt => ?_) (fun ge => H2 ge)⟩
    rw [nu_m32, nI_add, nI_clamp (n := c * 32 + p) (by omega)]
    have K := H1 lt
    unfold xv_C at K
    rw [nI_clamp (n := f) (by omega)] at K
    exact ⟨vp_in_nI (by omega) (by decide), nm_e K⟩
  have HY : ∀ post : SY → Prop, (p < l → wpY_failure (fun r => (r = 0 → yv_C post (nI (q f)) (nI c) (nI s) (nI p) (xg_cells u (c * 32 + p)) v) ∧ (¬ r = 0 → wpY_end post v (nI (q f)) r 0)) v (nI (q f)) (xg_cells u (c * 32 + p))) → (l ≤ p → wpY_end post v (nI (q f)) 1 0) → wpY_step post v := by
    intro post H1 H2
    rw [ey_step]
    refine y_cur Q (br_t (nI_pos' (by omega)) ?_)
    rw [nu_m10, nu_a3, nu_a2, nI_clamp (n := q f * 10 + 3) (by omega), nI_clamp (n := q f * 10 + 2) (by omega), nI_clamp (n := q f) (by omega), a3, ec, a5, es, a11, ep]
    refine ⟨vp_in_nI (by omega) (by decide), nm_e ⟨vp_in_nI (by omega) (by decide), nm_e ⟨vF, nm_e ?_⟩⟩⟩
    rw [nI_clamp (n := c) (by omega), el']
    refine ⟨vp_in_nI c8 (by decide), pk_lt p l (fun lt => ?_) (fun ge => H2 ge)⟩
    refine yw_cell c8 el' l32 (by omega) ?_
    have e1 : pc_ (yg_cells v) c l p = xg_cells u (c * 32 + p) := by
      unfold pc_
      rw [if_pos lt, hC]
    rw [e1]
    have K := H1 lt
    unfold yv_C at K
    rw [nu_m10, nI_clamp (n := q f) (by omega)] at K
    exact K
  -- an end, both sides
  have END : ∀ (out : Int32), out ≠ 0 → (∀ post : SX → Prop, wpX_endFrame post u out 0 → wpX_stepFrame post u) → (∀ post : SY → Prop, wpY_end post v (nI (q f)) out 0 → wpY_step post v) → Ou G T A D M N (fun post => wpX_stepFrame post u) (fun post => wpY_step post v) := by
    intro out ho hX hY
    obtain ⟨M', u', v', hM, Q1, eX, eY⟩ := end_both Q out 0 ho
    exact ⟨M', f, N, q, u', v', hM, Nat.le_refl _, Q1, fun post H => hX post (eX post H), fun post H => hY post (eY post H)⟩
  rcases Nat.lt_or_ge p l with lt | ge
  · by_cases hop : ∃ k, k < 38 ∧ xg_cells u (c * 32 + p) = nI k
    · obtain ⟨k, k38, ek⟩ := hop
      rw [ek] at HX HY
      have hwd := word_eq Q eh h16
      have ehY : yg_height v (q f) = nI h := a7.trans eh
      by_cases hf : fb_ k h (xg_frStatic u f) (xu_word u f h 0) (xu_word u f h 2) = 0
      · obtain ⟨f1, f2, f3⟩ := fb_0 hf
        obtain ⟨cst, cm, cpos, cX, cY⟩ := cost_both (F := q f) (v := v) f8 q32 eh ehY h16 k38 em (a9.trans em) m16 es (a5.trans es) s8 hw (fun j _ => hwd j) f3
        have el2 : yg_left v (q f) = nI g := a13.trans eg
        -- Y's check
        have Y158 : ∀ P : Int32 → Prop, ((cst ≤ g → P 0) ∧ (¬ cst ≤ g → P 3)) → wpY_failure P v (nI (q f)) (nI k) := by
          intro P H
          refine yw_fault q32 ehY h16 a18 a17 k38 (fun ne => ?_) (fun _ => ?_)
          · rw [hwd, hwd] at ne
            exact absurd hf ne
          · rw [ey_failure_158]
            refine cY _ ?_
            rw [nI_clamp (n := q f) (by omega), el2]
            exact ⟨vF, pk_le cst g (fun a => H.1 a) (fun a => H.2 (by omega))⟩
        by_cases hcg : cst ≤ g
        · have Q1 := Q_hdr Q (g := g) (g' := g - cst) (c := cst) (p := p + 1) (nI cst) eg (by omega) g2 (by omega)
          have D1 := di_all (h := h) (c := c) (p := p) (s := s) (m := m) (g := g - cst) (k := k) (B := M) Q1 (by rw [hd_1]; exact eh) h16 c8 (by rw [hd_2]; exact ec) s8 (by rw [hd_3]; exact es) (by rw [hd_4]; exact em) m16 pk_us (by omega) (by omega) pk_us k38 f1 f2 (by rw [hd_5]; exact f3) (fun h0 h1 h2 => by
            have := cpos h0 h1 h2
            have hgs := Q_gs Q
            rw [eg, nI_clamp (by omega)] at hgs
            omega) (by omega)
          refine Ou_mono (fun post H => ?_) (fun post H => ?_) D1
          · refine HX post (fun _ => xw_fault f8 eh h16 rfl k38 ?_) (fun h => by omega)
            rw [hf]
            refine br_t rfl ?_
            unfold xv_C
            refine cX _ ?_
            rw [nI_clamp (n := f) (by omega), eg, pk_sub hcg, nI_1]
            exact ⟨v8, br_t (nI_le hcg (by omega)) ⟨v8, v8, nm_e ⟨v8, v8, nm_e ⟨v8, nm_e H⟩⟩⟩⟩
          · refine HY post (fun _ => Y158 _ ⟨fun _ => br_t rfl ?_, fun h => absurd hcg h⟩) (fun h => by omega)
            unfold yv_C
            refine cY _ (yw_pops k38 ?_)
            rw [nu_m10, nu_a8, nI_clamp (n := q f) (by omega), nI_clamp (n := q f * 10 + 8) (by omega), el2, pk_sub hcg, ehY, pk_sub f1, nI_1]
            refine ⟨vF, vF, nm_e ⟨vp_in_nI (by omega) (by decide), vp_in_nI (by omega) (by decide), nm_e ?_⟩⟩
            refine yw_word 0 q32 (by rw [yhg_same]; exact ehY) h16 (by decide) (yw_word 1 q32 (by rw [yhg_same]; exact ehY) h16 (by decide) (yw_word 2 q32 (by rw [yhg_same]; exact ehY) h16 (by decide) (yw_word 3 q32 (by rw [yhg_same]; exact ehY) h16 (by decide) ?_)))
            rw [ywd_same, ywd_same, ywd_same, ywd_same, hwd, hwd, hwd, hwd]
            refine ⟨vF, vF, nm_e ⟨vF, nm_e ?_⟩⟩
            rw [yh_eq]
            exact H
        · refine END 3 (by decide) (fun post H => ?_) (fun post H => ?_)
          · refine HX post (fun _ => xw_fault f8 eh h16 rfl k38 ?_) (fun h => by omega)
            rw [hf]
            refine br_t rfl ?_
            unfold xv_C
            refine cX _ ?_
            rw [nI_clamp (n := f) (by omega), eg]
            exact ⟨v8, br_f (nI_ge (by omega) (by omega)) H⟩
          · exact HY post (fun _ => Y158 _ ⟨fun h => absurd h hcg, fun _ => br_f (by decide) H⟩) (fun h => by omega)
      · refine END _ hf (fun post H => ?_) (fun post H => ?_)
        · exact HX post (fun _ => xw_fault f8 eh h16 rfl k38 (br_f hf H)) (fun h => by omega)
        · refine HY post (fun _ => yw_fault q32 ehY h16 a18 a17 k38 (fun _ => ?_) (fun e => ?_)) (fun h => by omega)
          · rw [hwd, hwd]
            exact br_f hf H
          · rw [hwd, hwd] at e
            exact absurd e hf
    · refine END 7 (by decide) (fun post H => HX post (fun _ => ?_) (fun h => by omega)) (fun post H => HY post (fun _ => ?_) (fun h => by omega))
      · rw [ex_faultBefore]
        rcases nu_not (by decide) hop with z | ⟨z, y⟩
        · exact br_t z (br_f (by decide) H)
        · refine br_f z (br_f (fun h37 => ?_) (br_f (by decide) H))
          exact absurd (Int32.le_trans y h37) (by decide)
      · rw [ey_failure]
        rcases nu_not (by decide) hop with z | ⟨z, y⟩
        · exact br_t z (br_f (by decide) H)
        · refine br_f z (br_f (fun h37 => ?_) (br_f (by decide) H))
          exact absurd (Int32.le_trans y h37) (by decide)
  · exact END 1 (by decide) (fun post H => HX post (fun h => by omega) (fun _ => H)) (fun post H => HY post (fun h => by omega) (fun _ => H))
end
end
section
/-! both loops, and a transaction -/
theorem run_both {G T A D : Nat} : ∀ B M d N (q : Nat → Nat) (u : SX) (v : SY) i j, M < B → Qr G T A D M d N q u v → 0 < N → i + M ≤ 2032 → j + M ≤ 4000 →
    ∃ (M' N' : Nat) (q' : Nat → Nat) (u' : SX) (v' : SY), 0 < N' ∧ Qr G T A D M' 0 N' q' u' v' ∧ (∀ (post : SX → Prop) n, M < n → post u' → zx_runFrames_2 post n (nI i) u) ∧ (∀ (post : Int32 → SY → Prop) n x6 x7, M < n → zy_run_152 post x6 x7 v' → zy_run_125 post x6 x7 n (nI j) v) := by
  intro B
  induction B with
  | zero => intro M d N q u v i j h; omega
  | succ B ih =>
    intro M d N q u v i j hMB Q hN hi hj
    match d, Q with
    | 0, Q =>
      refine ⟨M, N, q, u, v, hN, Q, fun post n hn H => ?_, fun post n x6 x7 hn H => ?_⟩
      · obtain ⟨n, rfl⟩ : ∃ k, n = k + 1 := ⟨n - 1, by omega⟩
        rw [ex_runFrames_2, Q.2.2.2.2.1.2]
        exact br_c (fun _ => H) (fun _ => br_t (by decide) H)
      · obtain ⟨n, rfl⟩ : ∃ k, n = k + 1 := ⟨n - 1, by omega⟩
        rw [ey_run_125]
        have h5 := (Q.2.2.2.2.2.2.2.2.2.1 0 hN (fun j hj => by omega)).1
        exact br_c (fun _ => H) (fun _ => br_f h5 H)
    | f + 1, Q =>
      have hgs := Q_gs Q
      have q0 := Q.2.2.2.2.2.2.1.2.2 (by omega)
      have r5 : yg_rec v 5 = 0 := by
        have := (Q.2.2.2.2.2.2.2.1 0 (by omega)).2.2.2.2.2.2.2.2.2.2.2.2.2.2.2.2.2.2.1
        rw [q0] at this
        exact this
      obtain ⟨M1, d1, N1, q1, u1, v1, hM1, hN1, Q1, sX, sY⟩ := step_both Q
      obtain ⟨M', N', q', u', v', hN', Q', rX, rY⟩ := ih M1 d1 N1 q1 u1 v1 (i + 1) (j + 1) (by omega) Q1 (by omega) (by omega) (by omega)
      refine ⟨M', N', q', u', v', hN', Q', fun post n hn H => ?_, fun post n x6 x7 hn H => ?_⟩
      · obtain ⟨n, rfl⟩ : ∃ k, n = k + 1 := ⟨n - 1, by omega⟩
        rw [ex_runFrames_2, Q.2.2.2.2.1.2, nI_1]
        exact br_f (nI_ge (b := 2032) (by omega) (by decide)) (br_f (nI_nle (by omega) (by have := Q_f8 Q; omega)) (sX _ (nm_e (rX post n (by omega) H))))
      · obtain ⟨n, rfl⟩ : ∃ k, n = k + 1 := ⟨n - 1, by omega⟩
        rw [ey_run_125, nI_1]
        exact br_f (nI_ge (b := 4000) (by omega) (by decide)) (br_t r5 (sY _ (nm_e (rY post n x6 x7 (by omega) H))))
def yu_t0 (W : Nat → Int32) (v : SY) : SY := (v.1, v.2.1, v.2.2.1, v.2.2.2.1, v.2.2.2.2.1, v.2.2.2.2.2.1, v.2.2.2.2.2.2.1, 0, 0, v.2.2.2.2.2.2.2.2.2.1, v.2.2.2.2.2.2.2.2.2.2.1, v.2.2.2.2.2.2.2.2.2.2.2.1, W, v.2.2.2.2.2.2.2.2.2.2.2.2.2.1, v.2.2.2.2.2.2.2.2.2.2.2.2.2.2.1, v.2.2.2.2.2.2.2.2.2.2.2.2.2.2.2.1, v.2.2.2.2.2.2.2.2.2.2.2.2.2.2.2.2.1, v.2.2.2.2.2.2.2.2.2.2.2.2.2.2.2.2.2.1, v.2.2.2.2.2.2.2.2.2.2.2.2.2.2.2.2.2.2.1, v.2.2.2.2.2.2.2.2.2.2.2.2.2.2.2.2.2.2.2.1, v.2.2.2.2.2.2.2.2.2.2.2.2.2.2.2.2.2.2.2.2.1, v.2.2.2.2.2.2.2.2.2.2.2.2.2.2.2.2.2.2.2.2.2.1, v.2.2.2.2.2.2.2.2.2.2.2.2.2.2.2.2.2.2.2.2.2.2.1, v.2.2.2.2.2.2.2.2.2.2.2.2.2.2.2.2.2.2.2.2.2.2.2.1, v.2.2.2.2.2.2.2.2.2.2.2.2.2.2.2.2.2.2.2.2.2.2.2.2.1, v.2.2.2.2.2.2.2.2.2.2.2.2.2.2.2.2.2.2.2.2.2.2.2.2.2.1, v.2.2.2.2.2.2.2.2.2.2.2.2.2.2.2.2.2.2.2.2.2.2.2.2.2.2.1, v.2.2.2.2.2.2.2.2.2.2.2.2.2.2.2.2.2.2.2.2.2.2.2.2.2.2.2)
theorem yt0_eq (x : Int32) (W : Nat → Int32) (v : SY) : ym_frames_logs_handed_world 0 0 x W v = ys_handed x (yu_t0 W v) := by
  obtain ⟨aa0, aa1, aa2, aa3, aa4, aa5, aa6, aa7, aa8, aa9, aa10, aa11, aa12, aa13, aa14, aa15, aa16, aa17, aa18, aa19, aa20, aa21, aa22, aa23, aa24, aa25, aa26, aa27⟩ := v
  dsimp only [ym_frames_logs_handed_world, ys_handed, yu_t0]
theorem xt0_eq (W : Nat → Int32) (f : Nat) (k c s a x i z : Int32) (u : SX) : xm_frameTotal_logTotal_world 0 0 W (xu_set f k c s a x i z u) = xu_set f k c s a x i z (xm_frameTotal_logTotal_world 0 0 W u) := by
  obtain ⟨aa0, aa1, aa2, aa3, aa4, aa5, aa6, aa7, aa8, aa9, aa10, aa11, aa12, aa13, aa14, aa15, aa16, aa17, aa18, aa19, aa20, aa21, aa22, aa23, aa24, aa25, aa26, aa27, aa28, aa29, aa30, aa31, aa32, aa33⟩ := u
  dsimp only [xm_frameTotal_logTotal_world, xu_set, xm_frKind_frCode_frSelf_frCaller_frValue_frInput_frStatic, xg_accounts, xg_maxDepth, xg_price, xg_feeSum, xg_mintSum, xg_inputWord, xg_frameTotal, xg_logTotal, xg_lastWord, xg_active, xg_cells, xg_lengths, xg_world, xg_records, xg_logAccounts, xg_logWords, xg_frNumber, xg_frKind, xg_frCode, xg_frSelf, xg_frCaller, xg_frValue, xg_frInput, xg_frStatic, xg_frGas, xg_frOwn, xg_frAt, xg_frHeight, xg_frMemSize, xg_frResult, xg_stack, xg_memory, xg_entryWorld, xg_entryLogs]
theorem xt0_w (f : Nat) (k c s a x i z : Int32) (u : SX) : xg_world (xu_set f k c s a x i z u) = xg_world u := id rfl
theorem xt0_p (f : Nat) (k c s a x i z : Int32) (u : SX) : xg_price (xu_set f k c s a x i z u) = xg_price u := id rfl
/-- what stands between the calls -/
def Rl_ (P A D N T S L : Nat) (u : SX) (v : SY) : Prop :=
  Sh_ u v ∧ (P ≤ 5 ∧ En_ (S * 64000000064 + P) A D u) ∧ Wb_ T (xg_world u) ∧ (L ≤ 16 ∧ xg_logTotal u = nI L) ∧ xg_active u = nI 0 ∧ (N ≤ 32 ∧ xg_frameTotal u = nI N) ∧ (T ≤ S ∧ S ≤ 1000000000) ∧ (∀ E, E < N → ∀ k, k < 10 → xg_records u (E * 10 + k) = yg_rec v (E * 10 + k))
/-- the start of a transaction, the fee set aside -/
theorem Q_start {P A D N T S L g Te : Nat} {W : Nat → Int32} {u : SX} {v : SY} (R : Rl_ P A D N T S L u v) (hP : Te % 8 = P) (hS : Te / 64000000064 = S) (hg : g ≤ 2000) (hW : Wd_ Te W) : Qr g Te A D 32 0 0 (fun _ => 0) (xm_frameTotal_logTotal_world 0 0 W u) (yu_t0 W v) := by
  obtain ⟨⟨s1, s2, s3, s4, s5, s6, s7, s8, s9, s10, s11, s12, s13, s14⟩, ⟨hP5, hE⟩, _, _, ha, _, _, _⟩ := R
  have k1 : (S * 64000000064 + P) % 8 = P := by omega
  have k2 : (S * 64000000064 + P) / 64000000064 = S := by omega
  have k3 := hE.2.2.1
  rw [k1, k2] at k3
  refine ⟨⟨s1, s2, s3, s4, s5, s6, s7, rfl, rfl, s10, s11, rfl, s13, s14⟩, ⟨hE.1, hE.2.1, by rw [hP, hS]; exact k3, hE.2.2.2⟩, hW, ⟨0, by omega, rfl⟩, ⟨by omega, ha⟩, ⟨by omega, rfl⟩, ⟨fun i j _ h => by omega, fun j h => by omega, fun h => by omega⟩, fun j h => by omega, fun j h => by omega, fun E h => by omega, ⟨Nat.zero_le _, Nat.le_refl _, hg⟩, fun _ h => by omega⟩
end
section
/-! a transaction, both sides -/
theorem te_1 (S t a P : Nat) (ht : t ≤ 1000000000) (ha : a < 8) (hP : P < 8) : (((S * 1000000001 + t) * 8 + a) * 8 + P) % 8 = P ∧ (((S * 1000000001 + t) * 8 + a) * 8 + P) / 8 % 8 = a ∧ (((S * 1000000001 + t) * 8 + a) * 8 + P) / 64 % 1000000001 = t ∧ (((S * 1000000001 + t) * 8 + a) * 8 + P) / 64000000064 = S := by
  refine ⟨by omega, by omega, by omega, by omega⟩
theorem tx_both {P A D N T S L a g b c s : Nat} {k x : Int32} {u : SX} {v : SY} (R : Rl_ P A D N T S L u v) (aA : a < A) (g2 : g ≤ 2000) (ew : xg_world u (a * 6 + 1) = nI b) (hbT : b ≤ T) (hb : g * P ≤ b) (he : xg_world u (a * 6) ≠ -1) (c8 : c < 8) (s8 : s < 8) (h0 : ¬ x < 0) (hx : ¬ nI (b - g * P) < x) (hk : (k = 1 ∧ xg_world u (s * 6) ≠ -1) ∨ k = 4) :
    ∃ (r : Int32) (u' : SX) (v' : SY) (N' T' L' : Nat), Rl_ P A D N' T' S L' u' v' ∧ (∀ post : Int32 → SX → Prop, post r u' → wpX_setFrame (fun u2 => wpX_runTransaction post u2 (nI a) (nI g)) u k (nI c) (nI s) (nI a) x (xg_inputWord u) 0) ∧
    (∀ post : Int32 → SY → Prop, post r v' → wpY_enter (fun u1 => ∃ n, zy_run_125 post (nI g) (nI (a * 6 + 1)) n 0 u1) (ym_frames_logs_handed_world 0 0 (nI g) (upd (xg_world u) (a * 6 + 1) (nI (b - g * P))) v) k (nI c) (nI s) (nI a) x (yg_input v) 0) := by
  have RR := R
  obtain ⟨hS, ⟨P5, hE⟩, hW, hL, ha, hN, hT, hrec⟩ := R
  have A8 := hE.1.2.1
  have a8 : a < 8 := by omega
  have D1 := hE.2.1.1
  have k1 : (S * 64000000064 + P) % 8 = P := by omega
  have k2 : (S * 64000000064 + P) / 64000000064 = S := by omega
  have eP : xg_price u = nI P := by
    have := hE.2.2.1.2.1
    rw [k1] at this
    exact this
  have hgp : g * P ≤ 2000 * 5 := Nat.mul_le_mul g2 P5
  obtain ⟨d1, d2, d3, d4⟩ := te_1 S (T - g * P) a P (by omega) a8 (by omega)
  generalize hTe : ((S * 1000000001 + (T - g * P)) * 8 + a) * 8 + P = Te at d1 d2 d3 d4
  have hW0 : Wd_ Te (upd (xg_world u) (a * 6 + 1) (nI (b - g * P))) := by
    refine ⟨?_, ?_⟩
    · rw [d3]
      exact Wb_bal hW a8 ew (by omega) (by omega) (by omega) hbT (fun z => absurd z he)
    · rw [d2, pk_un (by omega)]
      exact he
  obtain ⟨W1, hew, hW1⟩ : ∃ W1, ab_ew k (upd (xg_world u) (a * 6 + 1) (nI (b - g * P))) a s (nI c) x W1 ∧ Wd_ Te W1 := by
    rcases hk with ⟨k1, hs⟩ | k4
    · exact ⟨_, Or.inl ⟨k1, a8, rfl⟩, Wd_move hW0 a8 s8 h0 (by rw [pk_us]; exact hx) (by rw [pk_un (by omega)]; exact hs)⟩
    · exact ⟨_, Or.inr (Or.inl ⟨k4, a8, rfl⟩), Wd_move (Wd_code hW0 s8 c8) a8 s8 h0 (by rw [pk_un (by omega), pk_us]; exact hx) (by rw [pk_us]; exact nu_m1 (by omega))⟩
  have Q0 := Q_start (W := upd (xg_world u) (a * 6 + 1) (nI (b - g * P))) RR d1 d4 g2 hW0
  have Q1 := Q_hand (Q_enter Q0 (G' := g) (M' := g + 32) (g := g) (c := c) (s := s) (W := W1) (k := k) (a := nI a) (x := x) (i := xg_inputWord u) (z := 0) (by omega) (by omega) hW1 g2 c8 s8 (Or.inl rfl) (fun _ => rfl) (by show 0 + g ≤ g; omega) (by show 0 + g + (32 - (0 + 1)) + (0 + 1) ≤ g + 32; omega) g2) (nI g)
  obtain ⟨M', N', q', u2, v2, hN', Q2, rX, rY⟩ := run_both (g + 33) (g + 32) (0 + 1) (0 + 1) _ _ _ 0 0 (by omega) Q1 (by omega) (by omega) (by omega)
  obtain ⟨r, rg, e7⟩ := Q2.2.2.2.2.2.2.2.2.2.2.2 rfl hN'
  have rec0 := Q2.2.2.2.2.2.2.2.2.2.1 0 hN' (fun j hj => by omega)
  have x7 : xg_records u2 7 = nI r := (rec0.2 7 (by decide)).trans e7
  have x5 : yg_rec v2 5 = xg_records u2 5 := (rec0.2 5 (by decide)).symm
  have hw2 : yg_world v2 = xg_world u2 := Q2.1.2.2.2.2.2.2.2.2.2.2.2.1
  have hf2 : yg_fees v2 = xg_feeSum u2 := Q2.1.2.2.2.1
  have k3 := Q2.2.1.2.2.1
  rw [d1, d4] at k3
  have hp2 : yg_price v2 = nI P := Q2.1.2.2.1.trans k3.2.1
  have wb := Q2.2.2.1
  have wb1 := wb.1
  have wb2 := wb.2
  rw [d3] at wb1
  rw [d2] at wb2
  obtain ⟨b2, hb2, eb2, _⟩ := Wb_b wb1 a8
  have hrp : r * P ≤ g * P := Nat.mul_le_mul_right P rg
  obtain ⟨L2, L16, eL2⟩ := Q2.2.2.2.1
  obtain ⟨s1, s2, s3, s4, s5, s6, s7, s8', s9, s10, s11, s12, s13, s14⟩ := Q2.1
  have R2 : Rl_ P A D N' (T - g * P + r * P) S L2 (xm_feeSum_world (xg_feeSum u2 + (nI g - nI r) * nI P) (upd (xg_world u2) (a * 6 + 1) (nI (b2 + r * P))) u2) (ym_fees_world (xg_feeSum u2 + (nI g - nI r) * nI P) (upd (xg_world u2) (a * 6 + 1) (nI (b2 + r * P))) v2) := by
    refine ⟨⟨s1, s2, s3, rfl, s5, s6, s7, s8', s9, s10, s11, rfl, s13, s14⟩, ⟨P5, Q2.2.1.1, Q2.2.1.2.1, ?_, Q2.2.1.2.2.2⟩, ?_, ⟨L16, eL2⟩, Q2.2.2.2.2.1.2, Q2.2.2.2.2.2.1, ⟨by omega, hT.2⟩, fun E hE' k hk' => (Q2.2.2.2.2.2.2.2.2.2.1 E hE' (fun j hj => by omega)).2 k hk'⟩
    · rw [k1, k2]
      exact k3
    · exact Wb_bal wb1 a8 eb2 (by omega) (by omega) (by omega) hb2 (fun z => absurd z wb2)
  refine ⟨xg_records u2 5, _, _, N', _, L2, R2, fun post H => ?_, fun post H => ?_⟩
  · refine xw_setFrame (f := 0) (by omega) ha ?_
    rw [ex_runTransaction, nu_m6, nu_a1, nI_clamp (n := a * 6 + 1) (by omega), xt0_w, xt0_p, eP, ew, pk_mul, pk_sub hb]
    refine ⟨vp_in_nI (by omega) (by decide), vp_in_nI (by omega) (by decide), nm_e ?_⟩
    rw [xt0_eq]
    refine x_enter Q0 (g := g) (c := c) (s := s) (b := a) (W := W1) (by omega) (by omega) s8 (fun _ => rfl) hew ?_
    rw [ex_runFrames]
    refine ⟨g + 33, rX _ (g + 33) (by omega) ?_⟩
    rw [x7, k3.2.1, eb2]
    refine nm_e ?_
    rw [pk_mul r P, nI_add]
    exact ⟨vp_in_nI (by omega) (by decide), vp_in_nI (by omega) (by decide), nm_e (nm_e H)⟩
  · rw [yt0_eq, show yg_input v = xg_inputWord u from hS.2.2.2.2.2.1]
    refine y_enter Q0 (g := g) (c := c) (s := s) (b := a) (W := W1) (by omega) (fun _ => rfl) s8 (fun _ => rfl) hew ?_
    refine ⟨g + 33, rY post (g + 33) (nI g) (nI (a * 6 + 1)) (by omega) ?_⟩
    rw [ey_run_152, nI_clamp (n := a * 6 + 1) (by omega), e7, hp2, hw2, eb2, pk_mul r P, nI_add, hf2, x5]
    exact ⟨vp_in_nI (by omega) (by decide), vp_in_nI (by omega) (by decide), nm_e (nm_e H)⟩
end
section
/-! what the public calls need -/
theorem pk_sneg' {a b : Nat} (hb : b < 2 ^ 30) (h : a < b) : nI a - nI b < 0 := pk_sneg hb h
theorem nu_n7 {p : Int32} (h : nI 8 ≤ p) : ¬ p ≤ 7 := fun h7 => absurd (Int32.le_trans h h7) (by decide)
theorem pay_both {P A D N T S L a b : Nat} {u : SX} {v : SY} (R : Rl_ P A D N T S L u v) (aA : a < A) (ew : xg_world u (a * 6 + 1) = nI b) (hbT : b ≤ T) (x y : Int32) :
    (∃ r : Int32, r ≠ 0 ∧ (∀ post : Int32 → Prop, post r → wpX_checkPayment post u (nI a) x y) ∧ (∀ (post : Int32 → SY → Prop) (k c s : Int32), post r v → wpY_run post v (nI a) k c s x y)) ∨
    (∃ g, g ≤ 2000 ∧ y = nI g ∧ ¬ x < 0 ∧ g * P ≤ b ∧ ¬ nI (b - g * P) < x ∧ (∀ post : Int32 → Prop, post 0 → wpX_checkPayment post u (nI a) x y) ∧
      (∀ (post : Int32 → SY → Prop) (k c s : Int32), wpY_enter (fun u1 => ∃ n, zy_run_125 post (nI g) (nI (a * 6 + 1)) n 0 u1) (ym_frames_logs_handed_world 0 0 (nI g) (upd (xg_world u) (a * 6 + 1) (nI (b - g * P))) v) k c s (nI a) x (yg_input v) 0 → wpY_run post v (nI a) k c s x y)) := by
  obtain ⟨hS, ⟨P5, hE⟩, hW, hL, ha, hN, hT, hrec⟩ := R
  have A8 := hE.1.2.1
  have k1 : (S * 64000000064 + P) % 8 = P := by omega
  have eP : xg_price u = nI P := by
    have := hE.2.2.1.2.1
    rw [k1] at this
    exact this
  have eP' : yg_price v = nI P := hS.2.2.1.trans eP
  have hw : yg_world v = xg_world u := hS.2.2.2.2.2.2.2.2.2.2.2.1
  have vw : vp_in (nI (a * 6 + 1)) 48 := vp_in_nI (by omega) (by decide)
  by_cases y1 : y < 1
  · refine Or.inl ⟨-7, by decide, fun post H => ?_, fun post k c s H => ?_⟩
    · rw [ex_checkPayment]; exact br_t y1 H
    · rw [ey_run]; exact br_t y1 H
  · by_cases y2 : y ≤ 2000
    · obtain ⟨g, hg, eg⟩ := nI_of2 (x := y) (M := 2000) (n := 2000) (by decide) (fun h => y1 (Int32.lt_of_lt_of_le h (by decide))) y2
      subst eg
      by_cases x0 : 0 ≤ x
      · have nx : ¬ x < 0 := Int32.not_lt.mpr x0
        have hgp : g * P ≤ 2000 * 5 := Nat.mul_le_mul hg P5
        by_cases hb : g * P ≤ b
        · by_cases hx : x ≤ nI (b - g * P)
          · refine Or.inr ⟨g, hg, rfl, nx, hb, Int32.not_lt.mpr hx, fun post H => ?_, fun post k c s H => ?_⟩
            · rw [ex_checkPayment, nu_m6, nu_a1, nI_clamp (n := a * 6 + 1) (by omega), eP, ew, pk_mul, pk_sub hb]
              exact br_f y1 (br_t y2 (br_t x0 ⟨vw, nm_e (br_f (nI_pos (by omega)) (br_t hx H))⟩))
            · rw [ey_run, nu_m6, nu_a1]
              refine br_f y1 (br_t y2 (br_t x0 (nm_e ?_)))
              rw [nI_clamp (n := a * 6 + 1) (by omega), eP', hw, ew, pk_mul, pk_sub hb]
              exact ⟨vw, br_f (nI_nlt hb (by omega)) ⟨vw, br_t hx ⟨vw, vw, nm_e H⟩⟩⟩
          · refine Or.inl ⟨-8, by decide, fun post H => ?_, fun post k c s H => ?_⟩
            · rw [ex_checkPayment, nu_m6, nu_a1, nI_clamp (n := a * 6 + 1) (by omega), eP, ew, pk_mul, pk_sub hb]
              exact br_f y1 (br_t y2 (br_t x0 ⟨vw, nm_e (br_f (nI_pos (by omega)) (br_f hx H))⟩))
            · rw [ey_run, nu_m6, nu_a1]
              refine br_f y1 (br_t y2 (br_t x0 (nm_e ?_)))
              rw [nI_clamp (n := a * 6 + 1) (by omega), eP', hw, ew, pk_mul, pk_sub hb]
              exact ⟨vw, br_f (nI_nlt hb (by omega)) ⟨vw, br_f hx H⟩⟩
        · refine Or.inl ⟨-8, by decide, fun post H => ?_, fun post k c s H => ?_⟩
          · rw [ex_checkPayment, nu_m6, nu_a1, nI_clamp (n := a * 6 + 1) (by omega), eP, ew, pk_mul]
            exact br_f y1 (br_t y2 (br_t x0 ⟨vw, nm_e (br_t (pk_sneg' (by omega) (by omega)) H)⟩))
          · rw [ey_run, nu_m6, nu_a1]
            refine br_f y1 (br_t y2 (br_t x0 (nm_e ?_)))
            rw [nI_clamp (n := a * 6 + 1) (by omega), eP', hw, ew, pk_mul]
            exact ⟨vw, br_t (nI_lt (by omega) (by omega)) H⟩
      · refine Or.inl ⟨-4, by decide, fun post H => ?_, fun post k c s H => ?_⟩
        · rw [ex_checkPayment]; exact br_f y1 (br_t y2 (br_f x0 H))
        · rw [ey_run]; exact br_f y1 (br_t y2 (br_f x0 H))
    · refine Or.inl ⟨-7, by decide, fun post H => ?_, fun post k c s H => ?_⟩
      · rw [ex_checkPayment]; exact br_f y1 (br_f y2 H)
      · rw [ey_run]; exact br_f y1 (br_f y2 H)
/-- the program tables changed alike -/
theorem Rl_len {P A D N T S L p l : Nat} {C : Nat → Int32} {u : SX} {v : SY} (R : Rl_ P A D N T S L u v) (p8 : p < 8) (l32 : l ≤ 32) : Rl_ P A D N T S L (xm_cells_lengths C (upd (xg_lengths u) p (nI l)) u) (ym_cells_length C (upd (xg_lengths u) p (nI l)) v) := by
  obtain ⟨⟨s1, s2, s3, s4, s5, s6, s7, s8, s9, s10, s11, s12, s13, s14⟩, ⟨P5, e1, e2, e3, e4⟩, hW, hL, ha, hN, hT, hrec⟩ := R
  refine ⟨⟨s1, s2, s3, s4, s5, s6, s7, s8, s9, rfl, rfl, s12, s13, s14⟩, ⟨P5, e1, e2, e3, fun p' hp' => ?_⟩, hW, hL, ha, hN, hT, hrec⟩
  show ∃ l', l' ≤ 32 ∧ upd (xg_lengths u) p (nI l) p' = nI l'
  by_cases z : p' = p
  · subst z; exact ⟨l, l32, pk_us⟩
  · rw [pk_un z]; exact e4 p' hp'
theorem Rl_len0 {P A D N T S L p : Nat} {u : SX} {v : SY} (R : Rl_ P A D N T S L u v) (p8 : p < 8) : Rl_ P A D N T S L (xs_lengths (upd (xg_lengths u) p 0) u) (ys_length (upd (xg_lengths u) p 0) v) := by
  obtain ⟨⟨s1, s2, s3, s4, s5, s6, s7, s8, s9, s10, s11, s12, s13, s14⟩, ⟨P5, e1, e2, e3, e4⟩, hW, hL, ha, hN, hT, hrec⟩ := R
  refine ⟨⟨s1, s2, s3, s4, s5, s6, s7, s8, s9, s10, rfl, s12, s13, s14⟩, ⟨P5, e1, e2, e3, fun p' hp' => ?_⟩, hW, hL, ha, hN, hT, hrec⟩
  show ∃ l', l' ≤ 32 ∧ upd (xg_lengths u) p 0 p' = nI l'
  by_cases z : p' = p
  · subst z; exact ⟨0, by omega, pk_us⟩
  · rw [pk_un z]; exact e4 p' hp'
theorem ap_both {P A D N T S L p l : Nat} {u : SX} {v : SY} (R : Rl_ P A D N T S L u v) (p8 : p < 8) (el : xg_lengths u p = nI l) (l32 : l < 32) (x : Int32) :
    ∃ (u' : SX) (v' : SY), Rl_ P A D N T S L u' v' ∧ xg_lengths u' p = nI (l + 1) ∧ (∀ post : SX → Prop, post u' → wpX_append post u (nI p) x) ∧ (∀ post : Int32 → SY → Prop, post (nI (l + 1)) v' → wpY_emit post v (nI p) x) := by
  have hl : yg_length v = xg_lengths u := R.1.2.2.2.2.2.2.2.2.2.2.1
  have hc : yg_cells v = xg_cells u := R.1.2.2.2.2.2.2.2.2.2.1
  have vp := vp_in_nI p8 (N := 8) (by decide)
  refine ⟨_, _, Rl_len (C := upd (xg_cells u) (p * 32 + l) x) R p8 (l := l + 1) (by omega), pk_us, fun post H => ?_, fun post H => ?_⟩
  · rw [ex_append, nI_clamp (n := p) (by omega), el, nu_m32, nI_add, nI_clamp (n := p * 32 + l) (by omega), nI_1]
    exact ⟨vp, vp_in_nI (by omega) (by decide), nm_e ⟨vp, vp, nm_e H⟩⟩
  · rw [ey_emit, nI_clamp (n := p) (by omega), hl, hc, el, nu_m32, nI_add, nI_clamp (n := p * 32 + l) (by omega), nI_1]
    refine br_f (nI_pos (by omega)) (br_t (nI_le (b := 7) (by omega) (by decide)) ⟨vp, br_t (nI_lt (b := 32) l32 (by decide)) ⟨vp, vp_in_nI (by omega) (by decide), nm_e ⟨vp, vp, nm_e ⟨vp, ?_⟩⟩⟩⟩)
    rw [pk_us]
    exact H
end
section
/-! the constructors -/
def ym_maxDepth_price (z0 : Int32) (z1 : Int32) (u : SY) : SY := (u.1, z0, z1, u.2.2.2.1, u.2.2.2.2.1, u.2.2.2.2.2.1, u.2.2.2.2.2.2.1, u.2.2.2.2.2.2.2.1, u.2.2.2.2.2.2.2.2.1, u.2.2.2.2.2.2.2.2.2.1, u.2.2.2.2.2.2.2.2.2.2.1, u.2.2.2.2.2.2.2.2.2.2.2.1, u.2.2.2.2.2.2.2.2.2.2.2.2.1, u.2.2.2.2.2.2.2.2.2.2.2.2.2.1, u.2.2.2.2.2.2.2.2.2.2.2.2.2.2.1, u.2.2.2.2.2.2.2.2.2.2.2.2.2.2.2.1, u.2.2.2.2.2.2.2.2.2.2.2.2.2.2.2.2.1, u.2.2.2.2.2.2.2.2.2.2.2.2.2.2.2.2.2.1, u.2.2.2.2.2.2.2.2.2.2.2.2.2.2.2.2.2.2.1, u.2.2.2.2.2.2.2.2.2.2.2.2.2.2.2.2.2.2.2.1, u.2.2.2.2.2.2.2.2.2.2.2.2.2.2.2.2.2.2.2.2.1, u.2.2.2.2.2.2.2.2.2.2.2.2.2.2.2.2.2.2.2.2.2.1, u.2.2.2.2.2.2.2.2.2.2.2.2.2.2.2.2.2.2.2.2.2.2.1, u.2.2.2.2.2.2.2.2.2.2.2.2.2.2.2.2.2.2.2.2.2.2.2.1, u.2.2.2.2.2.2.2.2.2.2.2.2.2.2.2.2.2.2.2.2.2.2.2.2.1, u.2.2.2.2.2.2.2.2.2.2.2.2.2.2.2.2.2.2.2.2.2.2.2.2.2.1, u.2.2.2.2.2.2.2.2.2.2.2.2.2.2.2.2.2.2.2.2.2.2.2.2.2.2.1, u.2.2.2.2.2.2.2.2.2.2.2.2.2.2.2.2.2.2.2.2.2.2.2.2.2.2.2)
def zx_init_239 (post : SX → Prop) (n : Nat) (x4 : Int32) (u : SX) : Prop := wX_init_239 post (xg_accounts u) (xg_maxDepth u) (xg_price u) (xg_feeSum u) (xg_mintSum u) (xg_inputWord u) (xg_frameTotal u) (xg_logTotal u) (xg_lastWord u) (xg_active u) n x4 (xg_cells u) (xg_lengths u) (xg_world u) (xg_records u) (xg_logAccounts u) (xg_logWords u) (xg_frNumber u) (xg_frKind u) (xg_frCode u) (xg_frSelf u) (xg_frCaller u) (xg_frValue u) (xg_frInput u) (xg_frStatic u) (xg_frGas u) (xg_frOwn u) (xg_frAt u) (xg_frHeight u) (xg_frMemSize u) (xg_frResult u) (xg_stack u) (xg_memory u) (xg_entryWorld u) (xg_entryLogs u)
theorem ex_init_239 (post : SX → Prop) (n : Nat) (x4 : Int32) (u : SX) : (zx_init_239 post (n + 1) x4 u) = (((8 ≤ x4 → (post u)) ∧ (¬ 8 ≤ x4 → (vp_in (x4 * 6) 48 ∧ ∀ a_world_108 : Nat → Int32, a_world_108 = upd (xg_world u) (x4 * 6).toNatClampNeg (-1) → (∀ x4_109 : Int32, x4_109 = x4 + 1 → (zx_init_239 post n x4_109 (xs_world a_world_108 u))))))) := by
  obtain ⟨a0, a1, a2, a3, a4, a5, a6, a7, a8, a9, a10, a11, a12, a13, a14, a15, a16, a17, a18, a19, a20, a21, a22, a23, a24, a25, a26, a27, a28, a29, a30, a31, a32, a33⟩ := u
  show (wX_init_239 post a0 a1 a2 a3 a4 a5 a6 a7 a8 a9 (n + 1) x4 a10 a11 a12 a13 a14 a15 a16 a17 a18 a19 a20 a21 a22 a23 a24 a25 a26 a27 a28 a29 a30 a31 a32 a33) = _
  rw [wX_init_239]
  dsimp only [zx_init_239, xg_accounts, xg_maxDepth, xg_price, xg_feeSum, xg_mintSum, xg_inputWord, xg_frameTotal, xg_logTotal, xg_lastWord, xg_active, xg_cells, xg_lengths, xg_world, xg_records, xg_logAccounts, xg_logWords, xg_frNumber, xg_frKind, xg_frCode, xg_frSelf, xg_frCaller, xg_frValue, xg_frInput, xg_frStatic, xg_frGas, xg_frOwn, xg_frAt, xg_frHeight, xg_frMemSize, xg_frResult, xg_stack, xg_memory, xg_entryWorld, xg_entryLogs, xs_world]
  try rfl
def zy_init_228 (post : SY → Prop) (n : Nat) (x4 : Int32) (u : SY) : Prop := wY_init_228 post (yg_accounts u) (yg_maxDepth u) (yg_price u) (yg_fees u) (yg_minted u) (yg_input u) (yg_returnWord u) (yg_frames u) (yg_logs u) (yg_handed u) n x4 (yg_cells u) (yg_length u) (yg_world u) (yg_logAccounts u) (yg_logWords u) (yg_rec u) (yg_entry u) (yg_entryLogs u) (yg_left u) (yg_stack u) (yg_height u) (yg_memory u) (yg_memorySize u) (yg_position u) (yg_result u) (yg_callerOf u) (yg_valueOf u) (yg_inputOf u)
theorem ey_init_228 (post : SY → Prop) (n : Nat) (x4 : Int32) (u : SY) : (zy_init_228 post (n + 1) x4 u) = (((8 ≤ x4 → (post u)) ∧ (¬ 8 ≤ x4 → (vp_in (x4 * 6) 48 ∧ ∀ a_world_9 : Nat → Int32, a_world_9 = upd (yg_world u) (x4 * 6).toNatClampNeg (-1) → (∀ x4_10 : Int32, x4_10 = x4 + 1 → (zy_init_228 post n x4_10 (ys_world a_world_9 u))))))) := by
  obtain ⟨a0, a1, a2, a3, a4, a5, a6, a7, a8, a9, a10, a11, a12, a13, a14, a15, a16, a17, a18, a19, a20, a21, a22, a23, a24, a25, a26, a27⟩ := u
  show (wY_init_228 post a0 a1 a2 a3 a4 a5 a6 a7 a8 a9 (n + 1) x4 a10 a11 a12 a13 a14 a15 a16 a17 a18 a19 a20 a21 a22 a23 a24 a25 a26 a27) = _
  rw [wY_init_228]
  dsimp only [zy_init_228, yg_accounts, yg_maxDepth, yg_price, yg_fees, yg_minted, yg_input, yg_returnWord, yg_frames, yg_logs, yg_handed, yg_cells, yg_length, yg_world, yg_logAccounts, yg_logWords, yg_rec, yg_entry, yg_entryLogs, yg_left, yg_stack, yg_height, yg_memory, yg_memorySize, yg_position, yg_result, yg_callerOf, yg_valueOf, yg_inputOf, ys_world]
  try rfl
def zy_init_200 (post : SY → Prop) (x3 : Int32) (z0 : Int32) (u : SY) : Prop := wY_init_200 post x3 z0 (yg_accounts u) (yg_maxDepth u) (yg_price u) (yg_fees u) (yg_minted u) (yg_input u) (yg_returnWord u) (yg_frames u) (yg_logs u) (yg_handed u) (yg_cells u) (yg_length u) (yg_world u) (yg_logAccounts u) (yg_logWords u) (yg_rec u) (yg_entry u) (yg_entryLogs u) (yg_left u) (yg_stack u) (yg_height u) (yg_memory u) (yg_memorySize u) (yg_position u) (yg_result u) (yg_callerOf u) (yg_valueOf u) (yg_inputOf u)
theorem ey_init_200 (post : SY → Prop) (x3 : Int32) (z0 : Int32) (u : SY) : (zy_init_200 post x3 z0 u) = (((0 ≤ x3 → (((x3 ≤ 5 → (∃ n228 : Nat, zy_init_228 post n228 0 (ym_maxDepth_price z0 x3 u))) ∧ (¬ x3 ≤ 5 → (∃ n228 : Nat, zy_init_228 post n228 0 (ym_maxDepth_price z0 5 u)))))) ∧ (¬ 0 ≤ x3 → (∃ n228 : Nat, zy_init_228 post n228 0 (ym_maxDepth_price z0 0 u))))) := by
  obtain ⟨a0, a1, a2, a3, a4, a5, a6, a7, a8, a9, a10, a11, a12, a13, a14, a15, a16, a17, a18, a19, a20, a21, a22, a23, a24, a25, a26, a27⟩ := u
  dsimp only [zy_init_200, zy_init_228, yg_accounts, yg_maxDepth, yg_price, yg_fees, yg_minted, yg_input, yg_returnWord, yg_frames, yg_logs, yg_handed, yg_cells, yg_length, yg_world, yg_logAccounts, yg_logWords, yg_rec, yg_entry, yg_entryLogs, yg_left, yg_stack, yg_height, yg_memory, yg_memorySize, yg_position, yg_result, yg_callerOf, yg_valueOf, yg_inputOf, ym_maxDepth_price]
  try rfl
def zy_init_175 (post : SY → Prop) (x2 : Int32) (x3 : Int32) (z0 : Int32) (u : SY) : Prop := wY_init_175 post x2 x3 z0 (yg_accounts u) (yg_maxDepth u) (yg_price u) (yg_fees u) (yg_minted u) (yg_input u) (yg_returnWord u) (yg_frames u) (yg_logs u) (yg_handed u) (yg_cells u) (yg_length u) (yg_world u) (yg_logAccounts u) (yg_logWords u) (yg_rec u) (yg_entry u) (yg_entryLogs u) (yg_left u) (yg_stack u) (yg_height u) (yg_memory u) (yg_memorySize u) (yg_position u) (yg_result u) (yg_callerOf u) (yg_valueOf u) (yg_inputOf u)
theorem ey_init_175 (post : SY → Prop) (x2 : Int32) (x3 : Int32) (z0 : Int32) (u : SY) : (zy_init_175 post x2 x3 z0 u) = (((1 ≤ x2 → (((x2 ≤ 8 → (zy_init_200 post x3 x2 (ys_accounts z0 u))) ∧ (¬ x2 ≤ 8 → (zy_init_200 post x3 8 (ys_accounts z0 u)))))) ∧ (¬ 1 ≤ x2 → (zy_init_200 post x3 1 (ys_accounts z0 u))))) := by
  obtain ⟨a0, a1, a2, a3, a4, a5, a6, a7, a8, a9, a10, a11, a12, a13, a14, a15, a16, a17, a18, a19, a20, a21, a22, a23, a24, a25, a26, a27⟩ := u
  dsimp only [zy_init_175, zy_init_200, yg_accounts, yg_maxDepth, yg_price, yg_fees, yg_minted, yg_input, yg_returnWord, yg_frames, yg_logs, yg_handed, yg_cells, yg_length, yg_world, yg_logAccounts, yg_logWords, yg_rec, yg_entry, yg_entryLogs, yg_left, yg_stack, yg_height, yg_memory, yg_memorySize, yg_position, yg_result, yg_callerOf, yg_valueOf, yg_inputOf, ys_accounts]
  try rfl
def wi_ : Nat → Nat → Int32
  | 0 => fun _ => 0
  | n + 1 => upd (wi_ n) (n * 6) (-1)
theorem wi_at : ∀ n a, a < n → wi_ n (a * 6) = -1
  | 0, a, h => by omega
  | n + 1, a, h => by
    unfold wi_
    by_cases e : a = n
    · subst e; exact pk_us
    · rw [pk_un (by omega)]; exact wi_at n a (by omega)
theorem wi_off : ∀ n j, j % 6 ≠ 0 → wi_ n j = 0
  | 0, j, h => rfl
  | n + 1, j, h => by
    unfold wi_
    rw [pk_un (by omega)]
    exact wi_off n j h
theorem ws_z {w : Nat → Int32} : ∀ n, (∀ a, a < n → w (a * 6 + 1) = 0) → ws_ w n = 0
  | 0, _ => rfl
  | n + 1, h => by
    unfold ws_
    rw [ws_z n (fun a ha => h a (by omega)), h n (by omega)]
    rfl
theorem Wb_init : Wb_ 0 (wi_ 8) := by
  refine ⟨fun a ha => Or.inl (wi_at 8 a ha), fun a ha => ⟨0, by omega, wi_off 8 _ (by omega)⟩, fun a ha _ => wi_off 8 _ (by omega), ws_z 8 (fun a ha => wi_off 8 _ (by omega)), by omega⟩
theorem xl_init {post : SX → Prop} {u : SX} (H : post (xs_world (wi_ 8) u)) : ∀ m i n, i + m = 8 → m < n → zx_init_239 post n (nI i) (xs_world (wi_ i) u) := by
  intro m
  induction m with
  | zero =>
    intro i n hi hn
    obtain ⟨n, rfl⟩ : ∃ j, n = j + 1 := ⟨n - 1, by omega⟩
    obtain rfl : i = 8 := by omega
    rw [ex_init_239]
    exact br_t (by decide) H
  | succ m ih =>
    intro i n hi hn
    obtain ⟨n, rfl⟩ : ∃ j, n = j + 1 := ⟨n - 1, by omega⟩
    rw [ex_init_239, nu_m6, nI_clamp (n := i * 6) (by omega), nI_1, xq_world_world]
    refine br_f (nI_ge (b := 8) (by omega) (by decide)) ⟨vp_in_nI (by omega) (by decide), nm_e (nm_e ?_)⟩
    rw [xx_world]
    exact ih (i + 1) n (by omega) (by omega)
theorem yl_init {post : SY → Prop} {v : SY} (H : post (ys_world (wi_ 8) v)) : ∀ m i n, i + m = 8 → m < n → zy_init_228 post n (nI i) (ys_world (wi_ i) v) := by
  intro m
  induction m with
  | zero =>
    intro i n hi hn
    obtain ⟨n, rfl⟩ : ∃ j, n = j + 1 := ⟨n - 1, by omega⟩
    obtain rfl : i = 8 := by omega
    rw [ey_init_228]
    exact br_t (by decide) H
  | succ m ih =>
    intro i n hi hn
    obtain ⟨n, rfl⟩ : ∃ j, n = j + 1 := ⟨n - 1, by omega⟩
    rw [ey_init_228, nu_m6, nI_clamp (n := i * 6) (by omega), nI_1, yq_world_world]
    refine br_f (nI_ge (b := 8) (by omega) (by decide)) ⟨vp_in_nI (by omega) (by decide), nm_e (nm_e ?_)⟩
    rw [yx_world]
    exact ih (i + 1) n (by omega) (by omega)
theorem cl_both (lo hi : Nat) (h : lo ≤ hi) (h2 : hi < 100) (p : Int32) : ∃ c, lo ≤ c ∧ c ≤ hi ∧ (∀ (post : Int32 → Prop) (u : SX), post (nI c) → wpX_clamp post u p (nI lo) (nI hi)) ∧ (∀ P : Int32 → Prop, P (nI c) → ((nI lo ≤ p → ((p ≤ nI hi → P p) ∧ (¬ p ≤ nI hi → P (nI hi)))) ∧ (¬ nI lo ≤ p → P (nI lo)))) := by
  by_cases z : nI lo ≤ p
  · by_cases y : p ≤ nI hi
    · obtain ⟨c, hc, e⟩ := nI_of2 (x := p) (M := nI hi) (n := hi) (nI_toInt (by omega)) (fun n => absurd (Int32.lt_of_le_of_lt z n) (nI_pos (by omega))) y
      subst e
      rw [nI_leI (by omega) (by omega)] at z
      refine ⟨c, z, hc, fun post u H => ?_, fun P H => ⟨fun _ => ⟨fun _ => H, fun n => absurd y n⟩, fun n => absurd (nI_le z (by omega)) n⟩⟩
      rw [ex_clamp]
      exact br_t (nI_le z (by omega)) (br_t y H)
    · refine ⟨hi, h, Nat.le_refl _, fun post u H => ?_, fun P H => ⟨fun _ => ⟨fun n => absurd n y, fun _ => H⟩, fun n => absurd z n⟩⟩
      rw [ex_clamp]
      exact br_t z (br_f y H)
  · refine ⟨lo, Nat.le_refl _, h, fun post u H => ?_, fun P H => ⟨fun n => absurd n z, fun _ => H⟩⟩
    rw [ex_clamp]
    exact br_f z H
def i_Rel (k : Nat) (u : SX) (v : SY) : Prop := ∃ P A D N T S L : Nat, Rl_ P A D N T S L u v
theorem i_up {k : Nat} {u : SX} {v : SY} (h : i_Rel k u v) : i_Rel (k + 5) u v := h
theorem i_vc0 (k0 : Int32) (k1 : Int32) (k2 : Int32) : wpX_init (fun u => wpY_init (fun v => i_Rel 3 u v) k0 k1 k2) k0 k1 k2 := by
  obtain ⟨A, A1, A2, aX, aY⟩ := cl_both 2 8 (by omega) (by omega) k0
  obtain ⟨D, D1, D2, dX, dY⟩ := cl_both 1 8 (by omega) (by omega) k1
  obtain ⟨P, P1, P2, pX, pY⟩ := cl_both 0 5 (by omega) (by omega) k2
  unfold wpX_init
  refine aX _ _ (dX _ _ (pX _ _ ⟨9, ?_⟩))
  refine xl_init (u := (nI A, nI D, nI P, 0, 0, 0, 0, 0, 0, 0, (fun _ => 0), (fun _ => 0), (fun _ => 0), (fun _ => 0), (fun _ => 0), (fun _ => 0), (fun _ => 0), (fun _ => 0), (fun _ => 0), (fun _ => 0), (fun _ => 0), (fun _ => 0), (fun _ => 0), (fun _ => 0), (fun _ => 0), (fun _ => 0), (fun _ => 0), (fun _ => 0), (fun _ => 0), (fun _ => 0), (fun _ => 0), (fun _ => 0), (fun _ => 0), (fun _ => 0))) ?_ 8 0 9 (by omega) (by omega)
  unfold wpY_init
  refine aY (fun z => zy_init_175 _ k1 k2 z (0, 0, 0, 0, 0, 0, 0, 0, 0, 0, (fun _ => 0), (fun _ => 0), (fun _ => 0), (fun _ => 0), (fun _ => 0), (fun _ => 0), (fun _ => 0), (fun _ => 0), (fun _ => 0), (fun _ => 0), (fun _ => 0), (fun _ => 0), (fun _ => 0), (fun _ => 0), (fun _ => 0), (fun _ => 0), (fun _ => 0), (fun _ => 0))) ?_
  rw [ey_init_175]
  refine dY (fun z => zy_init_200 _ k2 z (ys_accounts (nI A) (0, 0, 0, 0, 0, 0, 0, 0, 0, 0, (fun _ => 0), (fun _ => 0), (fun _ => 0), (fun _ => 0), (fun _ => 0), (fun _ => 0), (fun _ => 0), (fun _ => 0), (fun _ => 0), (fun _ => 0), (fun _ => 0), (fun _ => 0), (fun _ => 0), (fun _ => 0), (fun _ => 0), (fun _ => 0), (fun _ => 0), (fun _ => 0)))) ?_
  rw [ey_init_200]
  refine pY (fun z => ∃ n, zy_init_228 _ n 0 (ym_maxDepth_price (nI D) z (ys_accounts (nI A) (0, 0, 0, 0, 0, 0, 0, 0, 0, 0, (fun _ => 0), (fun _ => 0), (fun _ => 0), (fun _ => 0), (fun _ => 0), (fun _ => 0), (fun _ => 0), (fun _ => 0), (fun _ => 0), (fun _ => 0), (fun _ => 0), (fun _ => 0), (fun _ => 0), (fun _ => 0), (fun _ => 0), (fun _ => 0), (fun _ => 0), (fun _ => 0))))) ⟨9, ?_⟩
  refine yl_init (v := ym_maxDepth_price (nI D) (nI P) (ys_accounts (nI A) (0, 0, 0, 0, 0, 0, 0, 0, 0, 0, (fun _ => 0), (fun _ => 0), (fun _ => 0), (fun _ => 0), (fun _ => 0), (fun _ => 0), (fun _ => 0), (fun _ => 0), (fun _ => 0), (fun _ => 0), (fun _ => 0), (fun _ => 0), (fun _ => 0), (fun _ => 0), (fun _ => 0), (fun _ => 0), (fun _ => 0), (fun _ => 0)))) ?_ 8 0 9 (by omega) (by omega)
  have k1 : (0 * 64000000064 + P) % 8 = P := by omega
  have k2 : (0 * 64000000064 + P) / 64000000064 = 0 := by omega
  refine ⟨P, A, D, 0, 0, 0, 0, ⟨rfl, rfl, rfl, rfl, rfl, rfl, rfl, rfl, rfl, rfl, rfl, rfl, rfl, rfl⟩, ⟨P2, ⟨A1, A2, rfl⟩, ⟨D1, D2, rfl⟩, ?_, fun p hp => ⟨0, by omega, rfl⟩⟩, Wb_init, ⟨by omega, rfl⟩, rfl, ⟨by omega, rfl⟩, ⟨by omega, by omega⟩, fun E h => by omega⟩
  rw [k1, k2]
  exact ⟨P2, rfl, rfl⟩
end
section
/-! building the world -/
theorem i_vc_emit {k : Nat} {u : SX} {v : SY} (I : i_Rel k u v) (hk : k + 5 ≤ 2563) (v1 : Int32) (v2 : Int32) : wpX_emit (fun r u' => wpY_emit (fun r' v' => r' = r ∧ i_Rel (k + 5) u' v') v v1 v2) u v1 v2 := by
  have I' : i_Rel (k + 5) u v := I
  obtain ⟨P, A, D, N, T, S, L, R⟩ := I
  have hl : yg_length v = xg_lengths u := R.1.2.2.2.2.2.2.2.2.2.2.1
  rw [ex_emit]
  by_cases hp : ∃ p, p < 8 ∧ v1 = nI p
  · obtain ⟨p, p8, rfl⟩ := hp
    have vp := vp_in_nI p8 (N := 8) (by decide)
    obtain ⟨l, l32, el⟩ := R.2.1.2.2.2.2 p p8
    refine xw_isProgram_t p8 (br_f (by decide) ?_)
    rw [nI_clamp (n := p) (by omega), el]
    refine ⟨vp, pk_lt l 32 (fun lt => ?_) (fun ge => ?_)⟩
    · obtain ⟨u', v', R', el', aX, aY⟩ := ap_both R p8 el lt v2
      refine aX _ ⟨vp, ?_⟩
      rw [el']
      exact aY _ ⟨rfl, P, A, D, N, T, S, L, R'⟩
    · rw [ey_emit, nI_clamp (n := p) (by omega), hl, el]
      exact br_f (nI_pos (by omega)) (br_t (nI_le (b := 7) (by omega) (by decide)) ⟨vp, br_f (nI_nlt (b := 32) ge (by omega)) ⟨rfl, I'⟩⟩)
  · refine xw_isProgram_f hp (br_t rfl ?_)
    rw [ey_emit]
    rcases nu_not (by decide) hp with z | ⟨z, y⟩
    · exact br_t z ⟨rfl, I'⟩
    · exact br_f z (br_f (nu_n7 y) ⟨rfl, I'⟩)
theorem i_vc_emit3 {k : Nat} {u : SX} {v : SY} (I : i_Rel k u v) (hk : k + 5 ≤ 2563) (v1 : Int32) (v2 : Int32) (v3 : Int32) (v4 : Int32) : wpX_emit3 (fun r u' => wpY_emit3 (fun r' v' => r' = r ∧ i_Rel (k + 5) u' v') v v1 v2 v3 v4) u v1 v2 v3 v4 := by
  have I' : i_Rel (k + 5) u v := I
  obtain ⟨P, A, D, N, T, S, L, R⟩ := I
  have hl : yg_length v = xg_lengths u := R.1.2.2.2.2.2.2.2.2.2.2.1
  rw [ex_emit3]
  by_cases hp : ∃ p, p < 8 ∧ v1 = nI p
  · obtain ⟨p, p8, rfl⟩ := hp
    have vp := vp_in_nI p8 (N := 8) (by decide)
    obtain ⟨l, l32, el⟩ := R.2.1.2.2.2.2 p p8
    refine xw_isProgram_t p8 (br_f (by decide) ?_)
    rw [nI_clamp (n := p) (by omega), el]
    refine ⟨vp, pk_le l 29 (fun lt => ?_) (fun ge => ?_)⟩
    · obtain ⟨u1, v1, R1, el1, aX1, aY1⟩ := ap_both R p8 el (by omega) v2
      obtain ⟨u2, v2', R2, el2, aX2, aY2⟩ := ap_both R1 p8 el1 (by omega) v3
      obtain ⟨u3, v3', R3, el3, aX3, aY3⟩ := ap_both R2 p8 el2 (by omega) v4
      refine aX1 _ (aX2 _ (aX3 _ ⟨vp, ?_⟩))
      rw [el3, ey_emit3, nI_clamp (n := p) (by omega), hl, el]
      exact br_f (nI_pos (by omega)) (br_t (nI_le (b := 7) (by omega) (by decide)) ⟨vp, br_t (nI_le (b := 29) lt (by decide)) (aY1 _ (aY2 _ (aY3 _ ⟨rfl, P, A, D, N, T, S, L, R3⟩)))⟩)
    · rw [ey_emit3, nI_clamp (n := p) (by omega), hl, el]
      exact br_f (nI_pos (by omega)) (br_t (nI_le (b := 7) (by omega) (by decide)) ⟨vp, br_f (nI_ge (a := 29) (by omega) (by omega)) ⟨rfl, I'⟩⟩)
  · refine xw_isProgram_f hp (br_t rfl ?_)
    rw [ey_emit3]
    rcases nu_not (by decide) hp with z | ⟨z, y⟩
    · exact br_t z ⟨rfl, I'⟩
    · exact br_f z (br_f (nu_n7 y) ⟨rfl, I'⟩)
theorem i_vc_clearProgram {k : Nat} {u : SX} {v : SY} (I : i_Rel k u v) (hk : k + 5 ≤ 2563) (v1 : Int32) : wpX_clearProgram (fun r u' => wpY_clearProgram (fun r' v' => r' = r ∧ i_Rel (k + 5) u' v') v v1) u v1 := by
  have I' : i_Rel (k + 5) u v := I
  obtain ⟨P, A, D, N, T, S, L, R⟩ := I
  have hl : yg_length v = xg_lengths u := R.1.2.2.2.2.2.2.2.2.2.2.1
  rw [ex_clearProgram]
  by_cases hp : ∃ p, p < 8 ∧ v1 = nI p
  · obtain ⟨p, p8, rfl⟩ := hp
    have vp := vp_in_nI p8 (N := 8) (by decide)
    refine xw_isProgram_t p8 (br_f (by decide) ?_)
    rw [nI_clamp (n := p) (by omega)]
    refine ⟨vp, nm_e ?_⟩
    rw [ey_clearProgram, nI_clamp (n := p) (by omega), hl]
    exact br_f (nI_pos (by omega)) (br_t (nI_le (b := 7) (by omega) (by decide)) ⟨vp, nm_e ⟨rfl, P, A, D, N, T, S, L, Rl_len0 R p8⟩⟩)
  · refine xw_isProgram_f hp (br_t rfl ?_)
    rw [ey_clearProgram]
    rcases nu_not (by decide) hp with z | ⟨z, y⟩
    · exact br_t z ⟨rfl, I'⟩
    · exact br_f z (br_f (nu_n7 y) ⟨rfl, I'⟩)
theorem i_vc_setInput {k : Nat} {u : SX} {v : SY} (I : i_Rel k u v) (hk : k + 5 ≤ 2563) (v1 : Int32) : wpX_setInput (fun u' => wpY_setInput (fun v' => i_Rel (k + 5) u' v') v v1) u v1 := by
  obtain ⟨P, A, D, N, T, S, L, ⟨s1, s2, s3, s4, s5, s6, s7, s8, s9, s10, s11, s12, s13, s14⟩, hE, hW, hL, ha, hN, hT, hrec⟩ := I
  rw [ex_setInput, ey_setInput]
  exact ⟨P, A, D, N, T, S, L, ⟨s1, s2, s3, s4, s5, rfl, s7, s8, s9, s10, s11, s12, s13, s14⟩, hE, hW, hL, ha, hN, hT, hrec⟩
theorem te_2 (S P : Nat) (hP : P ≤ 5) : (S * 64000000064 + P) % 8 = P ∧ (S * 64000000064 + P) / 64000000064 = S := by
  refine ⟨by omega, by omega⟩
/-- a new sum: an account's balance set, the mint counted -/
theorem Rl_mint {P A D N T S L x T' : Nat} {W : Nat → Int32} {u : SX} {v : SY} (R : Rl_ P A D N T S L u v) (hW : Wb_ T' W) (hT : T' ≤ S + x) (hS : S + x ≤ 1000000000) : Rl_ P A D N T' (S + x) L (xm_mintSum_world (nI (S + x)) W u) (ym_minted_world (nI (S + x)) W v) := by
  obtain ⟨⟨s1, s2, s3, s4, s5, s6, s7, s8, s9, s10, s11, s12, s13, s14⟩, ⟨P5, e1, e2, e3, e4⟩, _, hL, ha, hN, _, hrec⟩ := R
  have k1 := (te_2 S P P5).1
  have k2 := (te_2 (S + x) P P5).1
  have k3 := (te_2 (S + x) P P5).2
  rw [k1] at e3
  refine ⟨⟨s1, s2, s3, s4, rfl, s6, s7, s8, s9, s10, s11, rfl, s13, s14⟩, ⟨P5, e1, e2, ?_, e4⟩, hW, hL, ha, hN, ⟨hT, hS⟩, hrec⟩
  rw [k2, k3]
  exact ⟨e3.1, e3.2.1, rfl⟩
theorem Rl_S {P A D N T S L : Nat} {u : SX} {v : SY} (R : Rl_ P A D N T S L u v) : xg_mintSum u = nI S := by
  have k3 := (te_2 S P R.2.1.1).2
  have := R.2.1.2.2.2.1.2.2
  rw [k3] at this
  exact this
theorem le_mint {S : Nat} (hS : S ≤ 1000000000) : (1000000000 : Int32) - nI S = nI (1000000000 - S) := pk_sub (a := 1000000000) hS
theorem i_vc_openAccount {k : Nat} {u : SX} {v : SY} (I : i_Rel k u v) (hk : k + 5 ≤ 2563) (v1 : Int32) (v2 : Int32) (v3 : Int32) : wpX_openAccount (fun r u' => wpY_openAccount (fun r' v' => r' = r ∧ i_Rel (k + 5) u' v') v v1 v2 v3) u v1 v2 v3 := by
  have I' : i_Rel (k + 5) u v := I
  obtain ⟨P, A, D, N, T, S, L, R⟩ := I
  have hA := R.2.1.2.1.2.2
  have A8 := R.2.1.2.1.2.1
  have hA' : yg_accounts v = nI A := R.1.1.trans hA
  have hw : yg_world v = xg_world u := R.1.2.2.2.2.2.2.2.2.2.2.2.1
  have hm := Rl_S R
  have hm' : yg_minted v = nI S := R.1.2.2.2.2.1.trans hm
  have hW := R.2.2.1
  have hT := R.2.2.2.2.2.2.1
  rw [ex_openAccount]
  by_cases ha : ∃ a, a < A ∧ v1 = nI a
  · obtain ⟨a, aA, rfl⟩ := ha
    have va : vp_in (nI (a * 6)) 48 := vp_in_nI (by omega) (by decide)
    have vb : vp_in (nI (a * 6 + 1)) 48 := vp_in_nI (by omega) (by decide)
    refine xw_isAccount_t (A := A) hA A8 aA (br_f (by decide) ?_)
    have HY : ∀ post : Int32 → SY → Prop, ((xg_world u (a * 6) < 0 → ((v2 < 0 → post (-3) v) ∧ (¬ v2 < 0 → ((v2 ≤ 7 → ((v3 < 0 → post (-4) v) ∧ (¬ v3 < 0 → ((v3 ≤ nI (1000000000 - S) → (vp_in (nI (a * 6)) 48 ∧ ∀ w1 : Nat → Int32, w1 = upd (xg_world u) (a * 6) v2 → (vp_in (nI (a * 6 + 1)) 48 ∧ ∀ w2 : Nat → Int32, w2 = upd w1 (a * 6 + 1) v3 → (∀ m : Int32, m = nI S + v3 → post 1 (ym_minted_world m w2 v))))) ∧ (¬ v3 ≤ nI (1000000000 - S) → post (-4) v))))) ∧ (¬ v2 ≤ 7 → post (-3) v))))) ∧ (¬ xg_world u (a * 6) < 0 → post (-2) v)) → wpY_openAccount post v (nI a) v2 v3 := by
      intro post H
      rw [ey_openAccount, hA', nu_m6, nu_a1, nI_clamp (n := a * 6) (by omega), nI_clamp (n := a * 6 + 1) (by omega), hw, hm', le_mint hT.2]
      exact br_f (nI_pos (by omega)) (br_t (nI_lt aA (by omega)) ⟨va, H⟩)
    rcases hW.1 a (by omega) with z | ⟨e, e8, z⟩
    · refine xw_exists_n (A := A) hA A8 aA z (br_t rfl ?_)
      have z0 : xg_world u (a * 6) < 0 := nu_lneg z
      by_cases hp : ∃ p, p < 8 ∧ v2 = nI p
      · obtain ⟨p, p8, rfl⟩ := hp
        refine xw_isProgram_t p8 (br_f (by decide) (br_c (fun h => ?_) (fun h => ?_)))
        · exact HY _ (br_t z0 (br_f (nI_pos (by omega)) (br_t (nI_le (b := 7) (by omega) (by decide)) (br_t h ⟨rfl, I'⟩))))
        · rw [hm, le_mint hT.2]
          refine br_c (fun h2 => ?_) (fun h2 => ?_)
          · obtain ⟨x, hx, rfl⟩ := nI_of h
            rw [nI_leI hx (by omega)] at h2
            rw [nu_m6, nu_a1, nI_clamp (n := a * 6) (by omega), nI_clamp (n := a * 6 + 1) (by omega), nI_add]
            refine ⟨va, nm_e ⟨vb, nm_e (nm_e ?_)⟩⟩
            refine HY _ (br_t z0 (br_f (nI_pos (by omega)) (br_t (nI_le (b := 7) (by omega) (by decide)) (br_f h (br_t (nI_le h2 (by omega)) ⟨va, nm_e ⟨vb, nm_e (nm_r (nI_add S x) ⟨rfl, P, A, D, N, T + x, S + x, L, Rl_mint R ?_ (by omega) (by omega)⟩)⟩⟩)))))
            have w0 : xg_world u (a * 6 + 1) = nI 0 := hW.2.2.1 a (by omega) z
            exact Wb_bal (b0 := 0) (Wb_code hW (by omega) p8) (by omega) (by rw [pk_un (by omega)]; exact w0) (by omega) (by omega) (by omega) (by omega) (fun n => absurd n (by rw [pk_us]; exact nu_m1 (by omega)))
          · exact HY _ (br_t z0 (br_f (nI_pos (by omega)) (br_t (nI_le (b := 7) (by omega) (by decide)) (br_f h (br_f h2 ⟨rfl, I'⟩)))))
      · refine xw_isProgram_f hp (br_t rfl ?_)
        refine HY _ (br_t z0 ?_)
        rcases nu_not (by decide) hp with y | ⟨y, y2⟩
        · exact br_t y ⟨rfl, I'⟩
        · exact br_f y (br_f (nu_n7 y2) ⟨rfl, I'⟩)
    · refine xw_exists_t (A := A) hA A8 aA e8 z (br_f (by decide) ?_)
      exact HY _ (br_f (by rw [z]; exact nI_pos (by omega)) ⟨rfl, I'⟩)
  · refine xw_isAccount_f (A := A) hA A8 ha (br_t rfl ?_)
    rw [ey_openAccount, hA']
    rcases nu_not (by omega) ha with z | ⟨z, y⟩
    · exact br_t z ⟨rfl, I'⟩
    · exact br_f z (br_f (nu_nlt y) ⟨rfl, I'⟩)
theorem i_vc_deposit {k : Nat} {u : SX} {v : SY} (I : i_Rel k u v) (hk : k + 5 ≤ 2563) (v1 : Int32) (v2 : Int32) : wpX_deposit (fun r u' => wpY_deposit (fun r' v' => r' = r ∧ i_Rel (k + 5) u' v') v v1 v2) u v1 v2 := by
  have I' : i_Rel (k + 5) u v := I
  obtain ⟨P, A, D, N, T, S, L, R⟩ := I
  have hA := R.2.1.2.1.2.2
  have A8 := R.2.1.2.1.2.1
  have hA' : yg_accounts v = nI A := R.1.1.trans hA
  have hw : yg_world v = xg_world u := R.1.2.2.2.2.2.2.2.2.2.2.2.1
  have hm := Rl_S R
  have hm' : yg_minted v = nI S := R.1.2.2.2.2.1.trans hm
  have hW := R.2.2.1
  have hT := R.2.2.2.2.2.2.1
  rw [ex_deposit]
  by_cases ha : ∃ a, a < A ∧ v1 = nI a
  · obtain ⟨a, aA, rfl⟩ := ha
    have vb : vp_in (nI (a * 6 + 1)) 48 := vp_in_nI (by omega) (by decide)
    rcases hW.1 a (by omega) with z | ⟨e, e8, z⟩
    · refine xw_exists_n (A := A) hA A8 aA z (br_t rfl ?_)
      rw [ey_deposit]
      refine yw_programOf_t hA' A8 aA ?_
      rw [hw, z]
      exact br_f (by decide) ⟨rfl, I'⟩
    · refine xw_exists_t (A := A) hA A8 aA e8 z (br_f (by decide) ?_)
      obtain ⟨b, hb, eb, _⟩ := Wb_b hW (a := a) (by omega)
      have HY : ∀ post : Int32 → SY → Prop, ((v2 < 0 → post (-4) v) ∧ (¬ v2 < 0 → ((v2 ≤ nI (1000000000 - S) → (vp_in (nI (a * 6 + 1)) 48 ∧ (vp_in (nI (a * 6 + 1)) 48 ∧ ∀ w1 : Nat → Int32, w1 = upd (xg_world u) (a * 6 + 1) (nI b + v2) → (∀ m : Int32, m = nI S + v2 → post 1 (ym_minted_world m w1 v))))) ∧ (¬ v2 ≤ nI (1000000000 - S) → post (-4) v)))) → wpY_deposit post v (nI a) v2 := by
        intro post H
        rw [ey_deposit]
        refine yw_programOf_t hA' A8 aA ?_
        rw [nu_m6, nu_a1, nI_clamp (n := a * 6 + 1) (by omega), hw, z, eb, hm', le_mint hT.2]
        exact br_t (nI_pos' (by omega)) H
      refine br_c (fun h => HY _ (br_t h ⟨rfl, I'⟩)) (fun h => ?_)
      rw [hm, le_mint hT.2, nu_m6, nu_a1, nI_clamp (n := a * 6 + 1) (by omega), eb]
      refine br_c (fun h2 => ?_) (fun h2 => HY _ (br_f h (br_f h2 ⟨rfl, I'⟩)))
      obtain ⟨x, hx, rfl⟩ := nI_of h
      rw [nI_leI hx (by omega)] at h2
      rw [nI_add, nI_add]
      refine ⟨vb, vb, nm_e (nm_e ?_)⟩
      refine HY _ (br_f h (br_t (nI_le h2 (by omega)) ⟨vb, vb, nm_r (e' := upd (xg_world u) (a * 6 + 1) (nI (b + x))) (by rw [nI_add]) (nm_r (nI_add S x) ⟨rfl, P, A, D, N, T + x, S + x, L, Rl_mint R ?_ (by omega) (by omega)⟩)⟩))
      exact Wb_bal hW (by omega) eb (by omega) (by omega) (by omega) hb (fun n => absurd n (by rw [z]; exact nu_m1 (by omega)))
  · refine xw_exists_f (A := A) hA A8 ha (br_t rfl ?_)
    rw [ey_deposit]
    exact yw_programOf_f hA' A8 ha (br_f (by decide) ⟨rfl, I'⟩)
end
section
/-! transactions and queries -/
theorem i_vc_transact {k : Nat} {u : SX} {v : SY} (I : i_Rel k u v) (hk : k + 5 ≤ 2563) (v1 : Int32) (v2 : Int32) (v3 : Int32) (v4 : Int32) : wpX_transact (fun r u' => wpY_transact (fun r' v' => r' = r ∧ i_Rel (k + 5) u' v') v v1 v2 v3 v4) u v1 v2 v3 v4 := by
  have I' : i_Rel (k + 5) u v := I
  obtain ⟨P, A, D, N, T, S, L, R⟩ := I
  have hA := R.2.1.2.1.2.2
  have A8 := R.2.1.2.1.2.1
  have hA' : yg_accounts v = nI A := R.1.1.trans hA
  have hw : yg_world v = xg_world u := R.1.2.2.2.2.2.2.2.2.2.2.2.1
  have hW := R.2.2.1
  rw [ex_transact]
  by_cases ha : ∃ a, a < A ∧ v1 = nI a
  · obtain ⟨a, aA, rfl⟩ := ha
    rcases hW.1 a (by omega) with z | ⟨e, e8, z⟩
    · refine xw_exists_n (A := A) hA A8 aA z (br_t rfl ?_)
      rw [ey_transact]
      refine yw_programOf_t hA' A8 aA ?_
      rw [hw, z]
      exact br_f (by decide) ⟨rfl, I'⟩
    · refine xw_exists_t (A := A) hA A8 aA e8 z (br_f (by decide) ?_)
      have HY : ∀ post : Int32 → SY → Prop, wpY_programOf (fun r => (0 ≤ r → wpY_run post v (nI a) 1 r v2 v3 v4) ∧ (¬ 0 ≤ r → post (-6) v)) v v2 → wpY_transact post v (nI a) v2 v3 v4 := by
        intro post H
        rw [ey_transact]
        refine yw_programOf_t hA' A8 aA ?_
        rw [hw, z]
        exact br_t (nI_pos' (by omega)) H
      by_cases ht : ∃ t, t < A ∧ v2 = nI t
      · obtain ⟨t, tA, rfl⟩ := ht
        rcases hW.1 t (by omega) with y | ⟨c, c8, y⟩
        · refine xw_exists_n (A := A) hA A8 tA y (br_t rfl (HY _ ?_))
          refine yw_programOf_t hA' A8 tA ?_
          rw [hw, y]
          exact br_f (by decide) ⟨rfl, I'⟩
        · refine xw_exists_t (A := A) hA A8 tA c8 y (br_f (by decide) ?_)
          have HY2 : ∀ post : Int32 → SY → Prop, wpY_run post v (nI a) 1 (nI c) (nI t) v3 v4 → wpY_transact post v (nI a) (nI t) v3 v4 := by
            intro post H
            refine HY post (yw_programOf_t hA' A8 tA ?_)
            rw [hw, y]
            exact br_t (nI_pos' (by omega)) H
          obtain ⟨b, hb, eb, _⟩ := Wb_b hW (a := a) (by omega)
          rcases pay_both R aA eb hb v3 v4 with ⟨r, r0, pX, pY⟩ | ⟨g, g2, rfl, x0, hgb, hx, pX, pY⟩
          · exact pX _ (br_f r0 (HY2 _ (pY _ _ _ _ ⟨rfl, I'⟩)))
          · obtain ⟨r, u', v', N', T', L', R', tX, tY⟩ := tx_both (k := 1) (c := c) (s := t) R aA g2 eb hb hgb (by rw [z]; exact nu_m1 (by omega)) c8 (by omega) x0 hx (Or.inl ⟨rfl, by rw [y]; exact nu_m1 (by omega)⟩)
            refine pX _ (br_t rfl ?_)
            rw [nu_m6, nI_clamp (n := t * 6) (by omega), y]
            refine ⟨vp_in_nI (by omega) (by decide), tX _ (HY2 _ (pY _ _ _ _ (tY _ ⟨rfl, P, A, D, N', T', S, L', R'⟩)))⟩
      · exact xw_exists_f (A := A) hA A8 ht (br_t rfl (HY _ (yw_programOf_f hA' A8 ht (br_f (by decide) ⟨rfl, I'⟩))))
  · refine xw_exists_f (A := A) hA A8 ha (br_t rfl ?_)
    rw [ey_transact]
    exact yw_programOf_f hA' A8 ha (br_f (by decide) ⟨rfl, I'⟩)
theorem i_vc_transactCreate {k : Nat} {u : SX} {v : SY} (I : i_Rel k u v) (hk : k + 5 ≤ 2563) (v1 : Int32) (v2 : Int32) (v3 : Int32) (v4 : Int32) : wpX_transactCreate (fun r u' => wpY_transactCreate (fun r' v' => r' = r ∧ i_Rel (k + 5) u' v') v v1 v2 v3 v4) u v1 v2 v3 v4 := by
  have I' : i_Rel (k + 5) u v := I
  obtain ⟨P, A, D, N, T, S, L, R⟩ := I
  have hA := R.2.1.2.1.2.2
  have A8 := R.2.1.2.1.2.1
  have hA' : yg_accounts v = nI A := R.1.1.trans hA
  have hw : yg_world v = xg_world u := R.1.2.2.2.2.2.2.2.2.2.2.2.1
  have hW := R.2.2.1
  rw [ex_transactCreate]
  by_cases ha : ∃ a, a < A ∧ v1 = nI a
  · obtain ⟨a, aA, rfl⟩ := ha
    rcases hW.1 a (by omega) with z | ⟨e, e8, z⟩
    · refine xw_exists_n (A := A) hA A8 aA z (br_t rfl ?_)
      rw [ey_transactCreate]
      refine yw_programOf_t hA' A8 aA ?_
      rw [hw, z]
      exact br_f (by decide) ⟨rfl, I'⟩
    · refine xw_exists_t (A := A) hA A8 aA e8 z (br_f (by decide) ?_)
      have HY : ∀ post : Int32 → SY → Prop, ((v2 < 0 → post (-3) v) ∧ (¬ v2 < 0 → ((v2 ≤ 7 → wpY_firstFree (fun r => (0 ≤ r → wpY_run post v (nI a) 4 v2 r v3 v4) ∧ (¬ 0 ≤ r → post (-9) v)) v) ∧ (¬ v2 ≤ 7 → post (-3) v)))) → wpY_transactCreate post v (nI a) v2 v3 v4 := by
        intro post H
        rw [ey_transactCreate]
        refine yw_programOf_t hA' A8 aA ?_
        rw [hw, z]
        exact br_t (nI_pos' (by omega)) H
      by_cases hp : ∃ c, c < 8 ∧ v2 = nI c
      · obtain ⟨c, c8, rfl⟩ := hp
        refine xw_isProgram_t c8 (br_f (by decide) ?_)
        obtain ⟨r, hr, fX, fY⟩ := ff_both (u := u) (v := v) (A := A) hA hA' A8 hw hW.1
        have HY2 : ∀ post : Int32 → SY → Prop, ((0 ≤ r → wpY_run post v (nI a) 4 (nI c) r v3 v4) ∧ (¬ 0 ≤ r → post (-9) v)) → wpY_transactCreate post v (nI a) (nI c) v3 v4 := fun post H => HY post (br_f (nI_pos (by omega)) (br_t (nI_le (b := 7) (by omega) (by decide)) (fY _ H)))
        refine fX _ ?_
        rcases hr with r1 | ⟨t, tA, rt, _⟩
        · have n0 : ¬ 0 ≤ r := by rw [r1]; decide
          exact br_f n0 (HY2 _ (br_f n0 ⟨rfl, I'⟩))
        · have p0 : 0 ≤ r := by rw [rt]; exact nI_pos' (by omega)
          refine br_t p0 ?_
          obtain ⟨b, hb, eb, _⟩ := Wb_b hW (a := a) (by omega)
          rcases pay_both R aA eb hb v3 v4 with ⟨r2, r0, pX, pY⟩ | ⟨g, g2, rfl, x0, hgb, hx, pX, pY⟩
          · exact pX _ (br_f r0 (HY2 _ (br_t p0 (pY _ _ _ _ ⟨rfl, I'⟩))))
          · obtain ⟨r3, u', v', N', T', L', R', tX, tY⟩ := tx_both (k := 4) (c := c) (s := t) R aA g2 eb hb hgb (by rw [z]; exact nu_m1 (by omega)) c8 (by omega) x0 hx (Or.inr rfl)
            refine pX _ (br_t rfl ?_)
            rw [rt] at HY2 p0 ⊢
            exact tX _ (HY2 _ (br_t p0 (pY _ _ _ _ (tY _ ⟨rfl, P, A, D, N', T', S, L', R'⟩))))
      · refine xw_isProgram_f hp (br_t rfl (HY _ ?_))
        rcases nu_not (by decide) hp with y | ⟨y, y2⟩
        · exact br_t y ⟨rfl, I'⟩
        · exact br_f y (br_f (nu_n7 y2) ⟨rfl, I'⟩)
  · refine xw_exists_f (A := A) hA A8 ha (br_t rfl ?_)
    rw [ey_transactCreate]
    exact yw_programOf_f hA' A8 ha (br_f (by decide) ⟨rfl, I'⟩)
theorem i_vc_programLength {k : Nat} {u : SX} {v : SY} (I : i_Rel k u v) (hk : k + 5 ≤ 2563) (v1 : Int32) : wpX_programLength (fun r => wpY_programLength (fun r' => r' = r ∧ i_Rel (k + 5) u v) v v1) u v1 := by
  have I' : i_Rel (k + 5) u v := I
  obtain ⟨P, A, D, N, T, S, L, R⟩ := I
  have hl : yg_length v = xg_lengths u := R.1.2.2.2.2.2.2.2.2.2.2.1
  rw [ex_programLength]
  by_cases hp : ∃ p, p < 8 ∧ v1 = nI p
  · obtain ⟨p, p8, rfl⟩ := hp
    have vp := vp_in_nI p8 (N := 8) (by decide)
    refine xw_isProgram_t p8 (br_f (by decide) ⟨vp, ?_⟩)
    rw [ey_programLength, hl]
    exact br_f (nI_pos (by omega)) (br_t (nI_le (b := 7) (by omega) (by decide)) ⟨vp, rfl, I'⟩)
  · refine xw_isProgram_f hp (br_t rfl ?_)
    rw [ey_programLength]
    rcases nu_not (by decide) hp with z | ⟨z, y⟩
    · exact br_t z ⟨rfl, I'⟩
    · exact br_f z (br_f (nu_n7 y) ⟨rfl, I'⟩)
theorem i_vc_programCell {k : Nat} {u : SX} {v : SY} (I : i_Rel k u v) (hk : k + 5 ≤ 2563) (v1 : Int32) (v2 : Int32) : wpX_programCell (fun r => wpY_programCell (fun r' => r' = r ∧ i_Rel (k + 5) u v) v v1 v2) u v1 v2 := by
  have I' : i_Rel (k + 5) u v := I
  obtain ⟨P, A, D, N, T, S, L, R⟩ := I
  have hl : yg_length v = xg_lengths u := R.1.2.2.2.2.2.2.2.2.2.2.1
  have hc : yg_cells v = xg_cells u := R.1.2.2.2.2.2.2.2.2.2.1
  by_cases hp : ∃ p, p < 8 ∧ v1 = nI p
  · obtain ⟨p, p8, rfl⟩ := hp
    obtain ⟨l, l32, el⟩ := R.2.1.2.2.2.2 p p8
    by_cases hi : v2 < 0
    · rw [ex_programCell]
      refine xw_isProgram_t p8 (br_f (by decide) (br_t hi ?_))
      rw [ey_programCell]
      exact br_f (nI_pos (by omega)) (br_t (nI_le (b := 7) (by omega) (by decide)) (br_t hi ⟨rfl, I'⟩))
    · obtain ⟨i, hi31, rfl⟩ := nI_of hi
      refine xw_cell p8 el l32 hi31 (yw_cell p8 (by rw [hl]; exact el) l32 hi31 ?_)
      rw [hc]
      exact ⟨rfl, I'⟩
  · rw [ex_programCell]
    refine xw_isProgram_f hp (br_t rfl ?_)
    rw [ey_programCell]
    rcases nu_not (by decide) hp with z | ⟨z, y⟩
    · exact br_t z ⟨rfl, I'⟩
    · exact br_f z (br_f (nu_n7 y) ⟨rfl, I'⟩)
theorem i_vc_jumpTarget {k : Nat} {u : SX} {v : SY} (I : i_Rel k u v) (hk : k + 5 ≤ 2563) (v1 : Int32) (v2 : Int32) : wpX_jumpTarget (fun r => wpY_jumpTarget (fun r' => r' = r ∧ i_Rel (k + 5) u v) v v1 v2) u v1 v2 := by
  have I' : i_Rel (k + 5) u v := I
  obtain ⟨P, A, D, N, T, S, L, R⟩ := I
  have hl : yg_length v = xg_lengths u := R.1.2.2.2.2.2.2.2.2.2.2.1
  have hc : yg_cells v = xg_cells u := R.1.2.2.2.2.2.2.2.2.2.1
  by_cases hp : ∃ p, p < 8 ∧ v1 = nI p
  · obtain ⟨p, p8, rfl⟩ := hp
    obtain ⟨l, l32, el⟩ := R.2.1.2.2.2.2 p p8
    obtain ⟨r, _, jX, jY⟩ := jt_both v2 p8 el (by rw [hl]; exact el) l32 hc
    exact jX _ (jY _ ⟨rfl, I'⟩)
  · rw [ex_jumpTarget]
    refine xw_isProgram_f hp (br_t rfl ?_)
    rw [ey_jumpTarget]
    rcases nu_not (by decide) hp with z | ⟨z, y⟩
    · exact br_t z ⟨rfl, I'⟩
    · exact br_f z (br_f (nu_n7 y) ⟨rfl, I'⟩)
theorem i_vc_programOf {k : Nat} {u : SX} {v : SY} (I : i_Rel k u v) (hk : k + 5 ≤ 2563) (v1 : Int32) : wpX_programOf (fun r => wpY_programOf (fun r' => r' = r ∧ i_Rel (k + 5) u v) v v1) u v1 := by
  have I' : i_Rel (k + 5) u v := I
  obtain ⟨P, A, D, N, T, S, L, R⟩ := I
  have hA := R.2.1.2.1.2.2
  have A8 := R.2.1.2.1.2.1
  have hA' : yg_accounts v = nI A := R.1.1.trans hA
  have hw : yg_world v = xg_world u := R.1.2.2.2.2.2.2.2.2.2.2.2.1
  rw [ex_programOf]
  by_cases ha : ∃ a, a < A ∧ v1 = nI a
  · obtain ⟨a, aA, rfl⟩ := ha
    refine xw_isAccount_t (A := A) hA A8 aA (br_f (by decide) ?_)
    rw [nu_m6, nI_clamp (n := a * 6) (by omega)]
    refine ⟨vp_in_nI (by omega) (by decide), yw_programOf_t hA' A8 aA ?_⟩
    rw [hw]
    exact ⟨rfl, I'⟩
  · exact xw_isAccount_f (A := A) hA A8 ha (br_t rfl (yw_programOf_f hA' A8 ha ⟨rfl, I'⟩))
theorem i_vc_balance {k : Nat} {u : SX} {v : SY} (I : i_Rel k u v) (hk : k + 5 ≤ 2563) (v1 : Int32) : wpX_balance (fun r => wpY_balance (fun r' => r' = r ∧ i_Rel (k + 5) u v) v v1) u v1 := by
  have I' : i_Rel (k + 5) u v := I
  obtain ⟨P, A, D, N, T, S, L, R⟩ := I
  have hA := R.2.1.2.1.2.2
  have A8 := R.2.1.2.1.2.1
  have hA' : yg_accounts v = nI A := R.1.1.trans hA
  have hw : yg_world v = xg_world u := R.1.2.2.2.2.2.2.2.2.2.2.2.1
  rw [ex_balance]
  by_cases ha : ∃ a, a < A ∧ v1 = nI a
  · obtain ⟨a, aA, rfl⟩ := ha
    refine xw_isAccount_t (A := A) hA A8 aA (br_f (by decide) ?_)
    rw [nu_m6, nu_a1, nI_clamp (n := a * 6 + 1) (by omega)]
    refine ⟨vp_in_nI (by omega) (by decide), yw_balance_t hA' A8 aA ?_⟩
    rw [hw]
    exact ⟨rfl, I'⟩
  · exact xw_isAccount_f (A := A) hA A8 ha (br_t rfl (yw_balance_f hA' A8 ha ⟨rfl, I'⟩))
theorem nu_34 {x : Int32} (h : x < 4) : x ≤ 3 := by
  rw [Int32.lt_iff_toInt_lt, show (4 : Int32).toInt = 4 from by decide] at h
  rw [Int32.le_iff_toInt_le, show (3 : Int32).toInt = 3 from by decide]
  omega
theorem i_vc_storage {k : Nat} {u : SX} {v : SY} (I : i_Rel k u v) (hk : k + 5 ≤ 2563) (v1 : Int32) (v2 : Int32) : wpX_storage (fun r => wpY_storage (fun r' => r' = r ∧ i_Rel (k + 5) u v) v v1 v2) u v1 v2 := by
  have I' : i_Rel (k + 5) u v := I
  obtain ⟨P, A, D, N, T, S, L, R⟩ := I
  have hA := R.2.1.2.1.2.2
  have A8 := R.2.1.2.1.2.1
  have hA' : yg_accounts v = nI A := R.1.1.trans hA
  have hw : yg_world v = xg_world u := R.1.2.2.2.2.2.2.2.2.2.2.2.1
  rw [ex_storage]
  by_cases ha : ∃ a, a < A ∧ v1 = nI a
  · obtain ⟨a, aA, rfl⟩ := ha
    refine xw_isAccount_t (A := A) hA A8 aA (br_f (by decide) (br_c (fun h => ?_) (fun h => br_c (fun h2 => ?_) (fun h2 => ?_))))
    · rw [ey_storage, hA']
      exact br_f (nI_pos (by omega)) (br_f (nI_ge aA (by omega)) (br_t h ⟨rfl, I'⟩))
    · have h3 := nu_34 h2
      obtain ⟨j, hj, rfl⟩ := nI_of2 (x := v2) (M := 3) (n := 3) (by decide) h h3
      rw [ey_storage, hA', hw]
      have e : nI a * 6 + 2 + nI j = nI (a * 6 + 2 + j) := by rw [nu_m6, nu_a2, nI_add]
      rw [e]
      have vi : vp_in (nI (a * 6 + 2 + j)) 48 := vp_in_nI (by omega) (by decide)
      exact ⟨vi, br_f (nI_pos (by omega)) (br_f (nI_ge aA (by omega)) (br_f h (br_t h3 ⟨vi, rfl, I'⟩)))⟩
    · rw [ey_storage, hA']
      refine br_f (nI_pos (by omega)) (br_f (nI_ge aA (by omega)) (br_f h (br_f (fun h3 => h2 ?_) ⟨rfl, I'⟩)))
      exact Int32.lt_of_le_of_lt h3 (by decide)
  · refine xw_isAccount_f (A := A) hA A8 ha (br_t rfl ?_)
    rw [ey_storage, hA']
    rcases nu_not (by omega) ha with z | ⟨z, y⟩
    · exact br_t z ⟨rfl, I'⟩
    · exact br_f z (br_t y ⟨rfl, I'⟩)
theorem i_vc_fees {k : Nat} {u : SX} {v : SY} (I : i_Rel k u v) (hk : k + 5 ≤ 2563) : wpX_fees (fun r => wpY_fees (fun r' => r' = r ∧ i_Rel (k + 5) u v) v) u := by
  have I' : i_Rel (k + 5) u v := I
  obtain ⟨P, A, D, N, T, S, L, R⟩ := I
  rw [ex_fees, ey_fees]
  exact ⟨R.1.2.2.2.1, I'⟩
theorem i_vc_minted {k : Nat} {u : SX} {v : SY} (I : i_Rel k u v) (hk : k + 5 ≤ 2563) : wpX_minted (fun r => wpY_minted (fun r' => r' = r ∧ i_Rel (k + 5) u v) v) u := by
  have I' : i_Rel (k + 5) u v := I
  obtain ⟨P, A, D, N, T, S, L, R⟩ := I
  rw [ex_minted, ey_minted]
  exact ⟨R.1.2.2.2.2.1, I'⟩
theorem i_vc_input {k : Nat} {u : SX} {v : SY} (I : i_Rel k u v) (hk : k + 5 ≤ 2563) : wpX_input (fun r => wpY_input (fun r' => r' = r ∧ i_Rel (k + 5) u v) v) u := by
  have I' : i_Rel (k + 5) u v := I
  obtain ⟨P, A, D, N, T, S, L, R⟩ := I
  rw [ex_input, ey_input]
  exact ⟨R.1.2.2.2.2.2.1, I'⟩
theorem i_vc_returnWord {k : Nat} {u : SX} {v : SY} (I : i_Rel k u v) (hk : k + 5 ≤ 2563) : wpX_returnWord (fun r => wpY_returnWord (fun r' => r' = r ∧ i_Rel (k + 5) u v) v) u := by
  have I' : i_Rel (k + 5) u v := I
  obtain ⟨P, A, D, N, T, S, L, R⟩ := I
  rw [ex_returnWord, ey_returnWord]
  exact ⟨R.1.2.2.2.2.2.2.1, I'⟩
theorem i_vc_frameCount {k : Nat} {u : SX} {v : SY} (I : i_Rel k u v) (hk : k + 5 ≤ 2563) : wpX_frameCount (fun r => wpY_frameCount (fun r' => r' = r ∧ i_Rel (k + 5) u v) v) u := by
  have I' : i_Rel (k + 5) u v := I
  obtain ⟨P, A, D, N, T, S, L, R⟩ := I
  rw [ex_frameCount, ey_frameCount]
  exact ⟨R.1.2.2.2.2.2.2.2.1, I'⟩
theorem i_vc_logCount {k : Nat} {u : SX} {v : SY} (I : i_Rel k u v) (hk : k + 5 ≤ 2563) : wpX_logCount (fun r => wpY_logCount (fun r' => r' = r ∧ i_Rel (k + 5) u v) v) u := by
  have I' : i_Rel (k + 5) u v := I
  obtain ⟨P, A, D, N, T, S, L, R⟩ := I
  rw [ex_logCount, ey_logCount]
  exact ⟨R.1.2.2.2.2.2.2.2.2.1, I'⟩
theorem i_vc_frame {k : Nat} {u : SX} {v : SY} (I : i_Rel k u v) (hk : k + 5 ≤ 2563) (v1 : Int32) (v2 : Int32) : wpX_frame (fun r => wpY_frame (fun r' => r' = r ∧ i_Rel (k + 5) u v) v v1 v2) u v1 v2 := by
  have I' : i_Rel (k + 5) u v := I
  obtain ⟨P, A, D, N, T, S, L, R⟩ := I
  obtain ⟨N32, eN⟩ := R.2.2.2.2.2.1
  have eN' : yg_frames v = nI N := R.1.2.2.2.2.2.2.2.1.trans eN
  have hrec := R.2.2.2.2.2.2.2
  rw [ex_frame, eN]
  refine br_c (fun h => ?_) (fun h => br_c (fun h2 => ?_) (fun h2 => br_c (fun h3 => ?_) (fun h3 => br_c (fun h4 => ?_) (fun h4 => ?_))))
  · rw [ey_frame]; exact br_t h ⟨rfl, I'⟩
  · rw [ey_frame, eN']; exact br_f h (br_t h2 ⟨rfl, I'⟩)
  · rw [ey_frame, eN']; exact br_f h (br_f h2 (br_t h3 ⟨rfl, I'⟩))
  · obtain ⟨E, hE, rfl⟩ := nI_of h
    obtain ⟨j, hj, rfl⟩ := nI_of2 (x := v2) (M := 9) (n := 9) (by decide) h3 h4
    rw [nI_leI (by omega) hE] at h2
    have e : nI E * 10 + nI j = nI (E * 10 + j) := by rw [nu_m10, nI_add]
    rw [ey_frame, eN', e, nI_clamp (n := E * 10 + j) (by omega), hrec E (by omega) j (by omega)]
    have vi : vp_in (nI (E * 10 + j)) 320 := vp_in_nI (by omega) (by decide)
    exact ⟨vi, br_f h (br_f (nI_ge (by omega) (by omega)) (br_f h3 (br_t h4 ⟨vi, rfl, I'⟩)))⟩
  · rw [ey_frame, eN']; exact br_f h (br_f h2 (br_f h3 (br_f h4 ⟨rfl, I'⟩)))
theorem i_vc_logAccount {k : Nat} {u : SX} {v : SY} (I : i_Rel k u v) (hk : k + 5 ≤ 2563) (v1 : Int32) : wpX_logAccount (fun r => wpY_logAccount (fun r' => r' = r ∧ i_Rel (k + 5) u v) v v1) u v1 := by
  have I' : i_Rel (k + 5) u v := I
  obtain ⟨P, A, D, N, T, S, L, R⟩ := I
  obtain ⟨L16, eL⟩ := R.2.2.2.1
  have eL' : yg_logs v = nI L := R.1.2.2.2.2.2.2.2.2.1.trans eL
  have hl : yg_logAccounts v = xg_logAccounts u := R.1.2.2.2.2.2.2.2.2.2.2.2.2.1
  rw [ex_logAccount, eL]
  refine br_c (fun h => ?_) (fun h => br_c (fun h2 => ?_) (fun h2 => ?_))
  · rw [ey_logAccount]; exact br_t h ⟨rfl, I'⟩
  · obtain ⟨j, hj, rfl⟩ := nI_of h
    rw [nI_ltI hj (by omega)] at h2
    have vi : vp_in (nI j) 16 := vp_in_nI (by omega) (by decide)
    rw [ey_logAccount, eL', hl]
    exact ⟨vi, br_f h (br_t (nI_lt h2 (by omega)) ⟨vi, rfl, I'⟩)⟩
  · rw [ey_logAccount, eL']; exact br_f h (br_f h2 ⟨rfl, I'⟩)
theorem i_vc_logWord {k : Nat} {u : SX} {v : SY} (I : i_Rel k u v) (hk : k + 5 ≤ 2563) (v1 : Int32) : wpX_logWord (fun r => wpY_logWord (fun r' => r' = r ∧ i_Rel (k + 5) u v) v v1) u v1 := by
  have I' : i_Rel (k + 5) u v := I
  obtain ⟨P, A, D, N, T, S, L, R⟩ := I
  obtain ⟨L16, eL⟩ := R.2.2.2.1
  have eL' : yg_logs v = nI L := R.1.2.2.2.2.2.2.2.2.1.trans eL
  have hl : yg_logWords v = xg_logWords u := R.1.2.2.2.2.2.2.2.2.2.2.2.2.2
  rw [ex_logWord, eL]
  refine br_c (fun h => ?_) (fun h => br_c (fun h2 => ?_) (fun h2 => ?_))
  · rw [ey_logWord]; exact br_t h ⟨rfl, I'⟩
  · obtain ⟨j, hj, rfl⟩ := nI_of h
    rw [nI_ltI hj (by omega)] at h2
    have vi : vp_in (nI j) 16 := vp_in_nI (by omega) (by decide)
    rw [ey_logWord, eL', hl]
    exact ⟨vi, br_f h (br_t (nI_lt h2 (by omega)) ⟨vi, rfl, I'⟩)⟩
  · rw [ey_logWord, eL']; exact br_f h (br_f h2 ⟨rfl, I'⟩)
end
