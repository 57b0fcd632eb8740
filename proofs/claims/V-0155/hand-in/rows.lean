section
theorem pk_us {f : Nat → Int32} {k : Nat} {x : Int32} : upd f k x k = x := if_pos rfl
theorem pk_un {f : Nat → Int32} {k j : Nat} {x : Int32} (h : j ≠ k) : upd f k x j = f j := if_neg h
theorem pk_sub {a b : Nat} (h : b ≤ a) : nI a - nI b = nI (a - b) := by
  obtain ⟨c, rfl⟩ : ∃ c, a = c + b := ⟨a - b, by omega⟩
  rw [← nI_add, Int32.add_sub_cancel, Nat.add_sub_cancel]
theorem pk_m1 (n : Nat) : nI (n + 1) + (-1) = nI n := by
  rw [← nI_1, Int32.add_assoc, show (1 : Int32) + (-1) = 0 from rfl, Int32.add_zero]
theorem pk_mul (a b : Nat) : nI a * nI b = nI (a * b) := (Int32.ofNat_mul a b).symm
theorem pk_div {a d : Nat} (ha : a < 2 ^ 31) (h0 : 0 < d) (hd : d < 2 ^ 31) : nI a / nI d = nI (a / d) := by
  apply Int32.toInt_inj.mp
  rw [lg_idiv_nonneg (by rw [nI_toInt ha]; omega) (by rw [nI_toInt hd]; omega), nI_toInt ha, nI_toInt hd, nI_toInt (Nat.lt_of_le_of_lt (Nat.div_le_self a d) ha)]
  first | rfl | exact (Int.natCast_ediv _ _).symm
theorem pk_rem {a d : Nat} (ha : a < 2 ^ 31) (h0 : 0 < d) (hd : d < 2 ^ 31) : nI a - nI a / nI d * nI d = nI (a % d) := by
  rw [pk_div ha h0 hd, pk_mul, pk_sub (Nat.div_mul_le_self a d)]
  exact congrArg nI (by have := Nat.div_add_mod' a d; omega)
theorem pk_sub_toInt {a b : Nat} (ha : a < 2 ^ 30) (hb : b < 2 ^ 30) : (nI a - nI b).toInt = (a : Int) - b := by
  rw [Int32.toInt_sub, nI_toInt (by omega), nI_toInt (by omega)]
  exact Int.bmod_eq_of_le (by omega) (by omega)
theorem pk_sneg {a b : Nat} (hb : b < 2 ^ 30) (h : a < b) : nI a - nI b < 0 := by
  rw [Int32.lt_iff_toInt_lt, pk_sub_toInt (by omega) hb, show (0 : Int32).toInt = 0 from by decide]
  omega
theorem pk_ix (x : Int32) {n : Nat} (hn : n < 2 ^ 31) : x < 0 ∨ nI n ≤ x ∨ ∃ j : Nat, j < n ∧ x = nI j := by
  by_cases h : x < 0
  · exact Or.inl h
  · obtain ⟨j, hj, rfl⟩ := nI_of h
    by_cases h2 : j < n
    · exact Or.inr (Or.inr ⟨j, h2, rfl⟩)
    · exact Or.inr (Or.inl (nI_le (by omega) hj))
theorem pk_le {x y : Int32} {A B : Prop} (a b : Nat) (f : a ≤ b → A) (g : b < a → B) (hx : x = nI a := by rfl) (hy : y = nI b := by rfl) (ha : a < 2 ^ 31 := by omega) (hb : b < 2 ^ 31 := by omega) : (x ≤ y → A) ∧ (¬ x ≤ y → B) := by
  subst hx hy
  rw [nI_leI ha hb]
  exact ⟨f, fun z => g (by omega)⟩
theorem pk_lt {x y : Int32} {A B : Prop} (a b : Nat) (f : a < b → A) (g : b ≤ a → B) (hx : x = nI a := by rfl) (hy : y = nI b := by rfl) (ha : a < 2 ^ 31 := by omega) (hb : b < 2 ^ 31 := by omega) : (x < y → A) ∧ (¬ x < y → B) := by
  subst hx hy
  rw [nI_ltI ha hb]
  exact ⟨f, fun z => g (by omega)⟩
theorem pk_eq {x y : Int32} {A B : Prop} (a b : Nat) (f : a = b → A) (g : a ≠ b → B) (hx : x = nI a := by rfl) (hy : y = nI b := by rfl) (ha : a < 2 ^ 31 := by omega) (hb : b < 2 ^ 31 := by omega) : (x = y → A) ∧ (¬ x = y → B) := by
  subst hx hy
  rw [nI_eq ha hb]
  exact ⟨f, g⟩
theorem pk_in {x : Int32} (n N : Nat) (h : n < N) (hx : x = nI n := by rfl) (hN : N < 2 ^ 31 := by omega) : vp_in x N := by
  subst hx
  exact vp_in_nI h hN
theorem pk_cl {x : Int32} (n : Nat) (hx : x = nI n := by rfl) (h : n < 2 ^ 31 := by omega) : x.toNatClampNeg = n := by
  subst hx
  exact nI_clamp h
theorem pk_tn {n : Nat} (h : n < 2 ^ 32) : (nI n).toBitVec.toNat = n := Nat.mod_eq_of_lt h
theorem pk_and (x : Int32) {m : Int32} (k : Nat) (hm : m.toBitVec.toNat = 2 ^ k - 1) : x &&& m = nI (x.toBitVec.toNat % 2 ^ k) := by
  apply Int32.toBitVec_inj.mp
  apply BitVec.eq_of_toNat_eq
  rw [Int32.toBitVec_and, BitVec.toNat_and, hm, Nat.and_two_pow_sub_one_eq_mod]
  show _ = (BitVec.ofNat 32 _).toNat
  rw [BitVec.toNat_ofNat]
  exact (Nat.mod_eq_of_lt (Nat.lt_of_le_of_lt (Nat.mod_le _ _) x.toBitVec.isLt)).symm
theorem pk_andN {n : Nat} (h : n < 2 ^ 32) {m : Int32} (k : Nat) (hm : m.toBitVec.toNat = 2 ^ k - 1) : nI n &&& m = nI (n % 2 ^ k) := by
  rw [pk_and _ k hm, pk_tn h]
theorem pk_andE (x : Int32) {m : Int32} (k : Nat) (hm : m.toBitVec.toNat = 2 ^ k - 1) : ∃ j : Nat, j < 2 ^ k ∧ x &&& m = nI j := ⟨_, Nat.mod_lt _ (Nat.two_pow_pos k), pk_and x k hm⟩
theorem pk_andIn (x : Int32) {m : Int32} (k : Nat) (hm : m.toBitVec.toNat = 2 ^ k - 1) (hk : k ≤ 30) : vp_in (x &&& m) (2 ^ k) := by
  obtain ⟨j, hj, e⟩ := pk_andE x k hm
  rw [e]
  exact vp_in_nI hj (Nat.lt_of_le_of_lt (Nat.pow_le_pow_right (by decide) hk) (by decide))
theorem pk_shl (a s : Int32) (k : Nat) (hs : (s.toBitVec.smod 32).toNat = k) : (a <<< s).toBitVec.toNat = a.toBitVec.toNat * 2 ^ k % 2 ^ 32 := by
  show (a.toBitVec <<< (s.toBitVec.smod 32).toNat).toNat = _
  rw [hs, BitVec.toNat_shiftLeft, Nat.shiftLeft_eq]
theorem pk_shlN {n : Nat} (s : Int32) (k : Nat) (hs : (s.toBitVec.smod 32).toNat = k) (h : n * 2 ^ k < 2 ^ 32) : nI n <<< s = nI (n * 2 ^ k) := by
  apply Int32.toBitVec_inj.mp
  apply BitVec.eq_of_toNat_eq
  have hn : n < 2 ^ 32 := Nat.lt_of_le_of_lt (Nat.le_mul_of_pos_right n (Nat.two_pow_pos k)) h
  rw [pk_shl _ _ k hs, pk_tn hn, pk_tn h, Nat.mod_eq_of_lt h]
theorem nx_and (a b : Nat) : nI a &&& nI b = nI (a &&& b) := by
  apply Int32.toBitVec_inj.1
  show BitVec.ofNat 32 a &&& BitVec.ofNat 32 b = BitVec.ofNat 32 (a &&& b)
  apply BitVec.eq_of_getLsbD_eq
  intro i hi
  simp [hi]
theorem nx_xor (a b : Nat) : nI a ^^^ nI b = nI (a ^^^ b) := by
  apply Int32.toBitVec_inj.1
  show BitVec.ofNat 32 a ^^^ BitVec.ofNat 32 b = BitVec.ofNat 32 (a ^^^ b)
  apply BitVec.eq_of_getLsbD_eq
  intro i hi
  simp [hi]
end
section
/-! bytes, twice, powers of the generator, the tables -/
def zp_by (x : Int32) : Prop := ∃ b : Nat, b < 256 ∧ x = nI b
def zp_tw (v : Int32) : Int32 := if 128 ≤ v then (v <<< ((1 : Int32) &&& 31)) ^^^ 285 else v <<< ((1 : Int32) &&& 31)
def zp_tn (b : Nat) : Nat := if 128 ≤ b then (b * 2) ^^^ 285 else b * 2
theorem zp_128 : (128 : Int32) = nI 128 := by decide
theorem zp_285 : (285 : Int32) = nI 285 := by decide
theorem zp_tw_n {b : Nat} (h : b < 256) : zp_tw (nI b) = nI (zp_tn b) := by
  have e : nI b <<< ((1 : Int32) &&& 31) = nI (b * 2) := pk_shlN (n := b) ((1 : Int32) &&& 31) 1 (by decide) (by omega)
  unfold zp_tw zp_tn
  rw [e, zp_128]
  by_cases h8 : 128 ≤ b
  · rw [if_pos (nI_le h8 (by omega)), if_pos h8, zp_285, nx_xor]
  · rw [if_neg (nI_ge (by omega) (by omega)), if_neg h8]
theorem zp_tn_lt : ∀ b, b < 256 → zp_tn b < 256 := by decide +kernel
theorem zp_xhi : ∀ x, x < 256 → 128 ≤ x → x ^^^ 128 < 128 := by decide +kernel
theorem zp_xz (x y z : Nat) : (x ^^^ z) ^^^ (y ^^^ z) = x ^^^ y := by
  rw [Nat.xor_comm y z, Nat.xor_assoc, ← Nat.xor_assoc z z y, Nat.xor_self, Nat.zero_xor]
theorem zp_x2 (a b : Nat) : (a ^^^ b) * 2 = (a * 2) ^^^ (b * 2) := by
  have h := Nat.shiftLeft_xor_distrib (a := a) (b := b) (i := 1)
  rw [Nat.shiftLeft_eq, Nat.shiftLeft_eq, Nat.shiftLeft_eq] at h
  exact h
theorem zp_tn_x1 {a b : Nat} (h : 128 ≤ a) (hb : b < 128) : zp_tn (a ^^^ b) = zp_tn a ^^^ zp_tn b := by
  have n : 128 ≤ a ^^^ b := by
    by_cases q : 128 ≤ a ^^^ b
    · exact q
    · have := Nat.xor_lt_two_pow (n := 7) (x := a ^^^ b) (y := b) (by omega) hb
      rw [Nat.xor_assoc, Nat.xor_self, Nat.xor_zero] at this
      omega
  unfold zp_tn
  rw [if_pos n, if_pos h, if_neg (by omega), zp_x2]
  ac_rfl
theorem zp_tn_xor {a b : Nat} (ha : a < 256) (hb : b < 256) : zp_tn (a ^^^ b) = zp_tn a ^^^ zp_tn b := by
  by_cases h1 : 128 ≤ a
  · by_cases h2 : 128 ≤ b
    · have l : ¬ 128 ≤ a ^^^ b := by
        have := Nat.xor_lt_two_pow (n := 7) (zp_xhi a ha h1) (zp_xhi b hb h2)
        rw [zp_xz] at this
        omega
      unfold zp_tn
      rw [if_neg l, if_pos h1, if_pos h2, zp_xz, zp_x2]
    · exact zp_tn_x1 h1 (by omega)
  · by_cases h2 : 128 ≤ b
    · rw [Nat.xor_comm a b, zp_tn_x1 h2 (by omega), Nat.xor_comm]
    · have l : ¬ 128 ≤ a ^^^ b := by
        have := Nat.xor_lt_two_pow (n := 7) (x := a) (y := b) (by omega) (by omega)
        omega
      unfold zp_tn
      rw [if_neg l, if_neg h1, if_neg h2, zp_x2]
theorem zp_by0 : zp_by 0 := ⟨0, by omega, nI_0.symm⟩
theorem zp_by1 : zp_by 1 := ⟨1, by omega, by decide⟩
theorem zp_byx {x y : Int32} (hx : zp_by x) (hy : zp_by y) : zp_by (x ^^^ y) := by
  obtain ⟨a, ha, rfl⟩ := hx
  obtain ⟨b, hb, rfl⟩ := hy
  exact ⟨a ^^^ b, Nat.xor_lt_two_pow (n := 8) ha hb, nx_xor a b⟩
theorem zp_bytw {x : Int32} (hx : zp_by x) : zp_by (zp_tw x) := by
  obtain ⟨a, ha, rfl⟩ := hx
  exact ⟨_, zp_tn_lt a ha, zp_tw_n ha⟩
theorem zp_byand (x : Int32) : zp_by (x &&& 255) := pk_andE x 8 (by decide)
theorem zp_and {x : Int32} (hx : zp_by x) : x &&& 255 = x := by
  obtain ⟨a, ha, rfl⟩ := hx
  rw [pk_andN (by omega) 8 (by decide), Nat.mod_eq_of_lt (by omega)]
theorem zp_bynn {x : Int32} (hx : zp_by x) : ¬ x < 0 := by
  obtain ⟨a, ha, rfl⟩ := hx
  exact nI_pos (by omega)
theorem zp_twx {x y : Int32} (hx : zp_by x) (hy : zp_by y) : zp_tw (x ^^^ y) = zp_tw x ^^^ zp_tw y := by
  obtain ⟨a, ha, rfl⟩ := hx
  obtain ⟨b, hb, rfl⟩ := hy
  rw [nx_xor, zp_tw_n (Nat.xor_lt_two_pow (n := 8) ha hb), zp_tw_n ha, zp_tw_n hb, nx_xor, zp_tn_xor ha hb]
theorem zp_tw0 : zp_tw 0 = 0 := by decide
def zp_pw : Nat → Int32 → Int32
  | 0, x => x
  | i + 1, x => zp_tw (zp_pw i x)
theorem zp_pwby {x : Int32} (hx : zp_by x) (i : Nat) : zp_by (zp_pw i x) := by
  induction i with
  | zero => exact hx
  | succ i ih => exact zp_bytw ih
theorem zp_pwx {x y : Int32} (hx : zp_by x) (hy : zp_by y) (i : Nat) : zp_pw i (x ^^^ y) = zp_pw i x ^^^ zp_pw i y := by
  induction i with
  | zero => rfl
  | succ i ih =>
    show zp_tw (zp_pw i (x ^^^ y)) = zp_tw (zp_pw i x) ^^^ zp_tw (zp_pw i y)
    rw [ih, zp_twx (zp_pwby hx i) (zp_pwby hy i)]
theorem zp_pw0 (i : Nat) : zp_pw i 0 = 0 := by
  induction i with
  | zero => rfl
  | succ i ih =>
    show zp_tw (zp_pw i 0) = 0
    rw [ih, zp_tw0]
theorem zp_pwadd (i j : Nat) (x : Int32) : zp_pw (i + j) x = zp_pw i (zp_pw j x) := by
  induction i with
  | zero => rw [Nat.zero_add]; rfl
  | succ i ih =>
    rw [Nat.succ_add]
    show zp_tw (zp_pw (i + j) x) = zp_tw (zp_pw i (zp_pw j x))
    rw [ih]
theorem zp_pwc (i j : Nat) (x : Int32) : zp_pw i (zp_pw j x) = zp_pw j (zp_pw i x) := by
  rw [← zp_pwadd, ← zp_pwadd, Nat.add_comm]
theorem zp_pws (i : Nat) (x : Int32) : zp_pw i (zp_tw x) = zp_pw (i + 1) x := by
  rw [zp_pwadd i 1 x]; rfl
def zp_et : List Nat := [1, 2, 4, 8, 16, 32, 64, 128, 29, 58, 116, 232, 205, 135, 19, 38, 76, 152, 45, 90, 180, 117, 234, 201, 143, 3, 6, 12, 24, 48, 96, 192, 157, 39, 78, 156, 37, 74, 148, 53, 106, 212, 181, 119, 238, 193, 159, 35, 70, 140, 5, 10, 20, 40, 80, 160, 93, 186, 105, 210, 185, 111, 222, 161, 95, 190, 97, 194, 153, 47, 94, 188, 101, 202, 137, 15, 30, 60, 120, 240, 253, 231, 211, 187, 107, 214, 177, 127, 254, 225, 223, 163, 91, 182, 113, 226, 217, 175, 67, 134, 17, 34, 68, 136, 13, 26, 52, 104, 208, 189, 103, 206, 129, 31, 62, 124, 248, 237, 199, 147, 59, 118, 236, 197, 151, 51, 102, 204, 133, 23, 46, 92, 184, 109, 218, 169, 79, 158, 33, 66, 132, 21, 42, 84, 168, 77, 154, 41, 82, 164, 85, 170, 73, 146, 57, 114, 228, 213, 183, 115, 230, 209, 191, 99, 198, 145, 63, 126, 252, 229, 215, 179, 123, 246, 241, 255, 227, 219, 171, 75, 150, 49, 98, 196, 149, 55, 110, 220, 165, 87, 174, 65, 130, 25, 50, 100, 200, 141, 7, 14, 28, 56, 112, 224, 221, 167, 83, 166, 81, 162, 89, 178, 121, 242, 249, 239, 195, 155, 43, 86, 172, 69, 138, 9, 18, 36, 72, 144, 61, 122, 244, 245, 247, 243, 251, 235, 203, 139, 11, 22, 44, 88, 176, 125, 250, 233, 207, 131, 27, 54, 108, 216, 173, 71, 142]
def zp_lt : List Nat := [0, 0, 1, 25, 2, 50, 26, 198, 3, 223, 51, 238, 27, 104, 199, 75, 4, 100, 224, 14, 52, 141, 239, 129, 28, 193, 105, 248, 200, 8, 76, 113, 5, 138, 101, 47, 225, 36, 15, 33, 53, 147, 142, 218, 240, 18, 130, 69, 29, 181, 194, 125, 106, 39, 249, 185, 201, 154, 9, 120, 77, 228, 114, 166, 6, 191, 139, 98, 102, 221, 48, 253, 226, 152, 37, 179, 16, 145, 34, 136, 54, 208, 148, 206, 143, 150, 219, 189, 241, 210, 19, 92, 131, 56, 70, 64, 30, 66, 182, 163, 195, 72, 126, 110, 107, 58, 40, 84, 250, 133, 186, 61, 202, 94, 155, 159, 10, 21, 121, 43, 78, 212, 229, 172, 115, 243, 167, 87, 7, 112, 192, 247, 140, 128, 99, 13, 103, 74, 222, 237, 49, 197, 254, 24, 227, 165, 153, 119, 38, 184, 180, 124, 17, 68, 146, 217, 35, 32, 137, 46, 55, 63, 209, 91, 149, 188, 207, 205, 144, 135, 151, 178, 220, 252, 190, 97, 242, 86, 211, 171, 20, 42, 93, 158, 132, 60, 57, 83, 71, 109, 65, 162, 31, 45, 67, 216, 183, 123, 164, 118, 196, 23, 73, 236, 127, 12, 111, 246, 108, 161, 59, 82, 41, 157, 85, 170, 251, 96, 134, 177, 187, 204, 62, 90, 203, 89, 95, 176, 156, 169, 160, 81, 11, 245, 22, 235, 122, 117, 44, 215, 79, 174, 213, 233, 230, 231, 173, 232, 116, 214, 244, 234, 168, 80, 88, 175]
def zp_e (i : Nat) : Nat := zp_et.getD i 0
def zp_l (b : Nat) : Nat := zp_lt.getD b 0
theorem zp_e1 : ∀ i, i < 254 → zp_e (i + 1) = zp_tn (zp_e i) := by decide +kernel
theorem zp_e2 : ∀ i, i < 255 → zp_l (zp_e i) = i ∧ zp_e i < 256 ∧ 0 < zp_e i := by decide +kernel
theorem zp_e3 : ∀ b, b < 256 → 0 < b → zp_e (zp_l b) = b ∧ zp_l b < 255 := by decide +kernel
theorem zp_e4 : zp_tn (zp_e 254) = 1 := by decide +kernel
theorem zp_pwe : ∀ i, i < 255 → zp_pw i 1 = nI (zp_e i) := by
  intro i
  induction i with
  | zero => intro _; decide +kernel
  | succ i ih =>
    intro h
    show zp_tw (zp_pw i 1) = _
    rw [ih (by omega), zp_tw_n (zp_e2 i (by omega)).2.1, zp_e1 i (by omega)]
theorem zp_pw255 : zp_pw 255 1 = 1 := by
  show zp_tw (zp_pw 254 1) = 1
  rw [zp_pwe 254 (by omega), zp_tw_n (zp_e2 254 (by omega)).2.1, zp_e4]
  decide
theorem zp_gen {x : Int32} (hx : zp_by x) (h0 : ¬ x = 0) : ∃ j, j < 255 ∧ x = zp_pw j 1 := by
  obtain ⟨b, hb, rfl⟩ := hx
  have hp : 0 < b := by
    rcases Nat.eq_zero_or_pos b with rfl | h
    · exact absurd nI_0 h0
    · exact h
  refine ⟨zp_l b, (zp_e3 b hb hp).2, ?_⟩
  rw [zp_pwe _ (zp_e3 b hb hp).2, (zp_e3 b hb hp).1]
theorem zp_ord {x : Int32} (hx : zp_by x) : zp_pw 255 x = x := by
  by_cases h : x = 0
  · subst h; exact zp_pw0 255
  · obtain ⟨j, -, rfl⟩ := zp_gen hx h
    rw [zp_pwc, zp_pw255]
theorem zp_pwz {x : Int32} (hx : zp_by x) {i : Nat} (hi : i ≤ 255) (h : zp_pw i x = 0) : x = 0 := by
  have e := zp_ord hx
  rw [show 255 = (255 - i) + i by omega, zp_pwadd, h, zp_pw0] at e
  exact e.symm
theorem zp_pwne {i : Nat} (hi : i ≤ 255) : ¬ zp_pw i 1 = 0 := fun h => absurd (zp_pwz zp_by1 hi h) (by decide)
theorem zp_pwi {i j : Nat} (hi : i < 255) (hj : j < 255) (h : zp_pw i 1 = zp_pw j 1) : i = j := by
  rw [zp_pwe i hi, zp_pwe j hj] at h
  have a := zp_e2 i hi
  have b := zp_e2 j hj
  have := (nI_eq (by omega) (by omega)).1 h
  rw [← a.1, ← b.1, this]
/-- two different weights times one value: equal for 0 alone -/
theorem zp_wi {a b : Nat} {x : Int32} (ha : a < 255) (hb : b < 255) (hab : a ≠ b) (hx : zp_by x) (h : zp_pw a x = zp_pw b x) : x = 0 := by
  by_cases h0 : x = 0
  · exact h0
  · exfalso
    obtain ⟨j, hj, rfl⟩ := zp_gen hx h0
    rw [zp_pwc a j, zp_pwc b j] at h
    have e := zp_pwx (zp_pwby zp_by1 a) (zp_pwby zp_by1 b) j
    rw [h, Int32.xor_self] at e
    have z := zp_pwz (zp_byx (zp_pwby zp_by1 a) (zp_pwby zp_by1 b)) (by omega) e
    exact hab (zp_pwi ha hb (Int32.xor_eq_zero_iff.1 z))
end
section
/-! Horner sums, code words, syndromes -/
def zp_hp (B : Nat → Int32) : Nat → Nat → Int32
  | _, 0 => 0
  | j, m + 1 => zp_hp B (j + 1) m ^^^ B j
def zp_hq (B : Nat → Int32) : Nat → Nat → Int32
  | _, 0 => 0
  | j, m + 1 => zp_tw (zp_hq B (j + 1) m) ^^^ B j
theorem zp_hps (B : Nat → Int32) (j m : Nat) : zp_hp B j (m + 1) = zp_hp B (j + 1) m ^^^ B j := rfl
theorem zp_hqs (B : Nat → Int32) (j m : Nat) : zp_hq B j (m + 1) = zp_tw (zp_hq B (j + 1) m) ^^^ B j := rfl
theorem zp_hc {B C : Nat → Int32} (m : Nat) : ∀ j, (∀ i, j ≤ i → i < j + m → B i = C i) → zp_hp B j m = zp_hp C j m ∧ zp_hq B j m = zp_hq C j m := by
  induction m with
  | zero => intro j _; exact ⟨rfl, rfl⟩
  | succ m ih =>
    intro j h
    obtain ⟨a, b⟩ := ih (j + 1) (fun i h1 h2 => h i (by omega) (by omega))
    rw [zp_hps, zp_hqs, zp_hps, zp_hqs, a, b, h j (by omega) (by omega)]
    exact ⟨rfl, rfl⟩
theorem zp_hby {B : Nat → Int32} (m : Nat) : ∀ j, (∀ i, j ≤ i → i < j + m → zp_by (B i)) → zp_by (zp_hp B j m) ∧ zp_by (zp_hq B j m) := by
  induction m with
  | zero => intro j _; exact ⟨zp_by0, zp_by0⟩
  | succ m ih =>
    intro j h
    obtain ⟨a, b⟩ := ih (j + 1) (fun i h1 h2 => h i (by omega) (by omega))
    have c := h j (by omega) (by omega)
    exact ⟨zp_byx a c, zp_byx (zp_bytw b) c⟩
theorem zp_x4 (a b c d : Int32) : (a ^^^ b) ^^^ (c ^^^ d) = (a ^^^ c) ^^^ (b ^^^ d) := by ac_rfl
theorem zp_hl {B C E : Nat → Int32} (m : Nat) : ∀ j, (∀ i, j ≤ i → i < j + m → zp_by (C i) ∧ zp_by (E i) ∧ B i = C i ^^^ E i) →
    zp_hp B j m = zp_hp C j m ^^^ zp_hp E j m ∧ zp_hq B j m = zp_hq C j m ^^^ zp_hq E j m := by
  induction m with
  | zero => intro j _; exact ⟨(show (0 : Int32) = 0 ^^^ 0 by decide), (show (0 : Int32) = 0 ^^^ 0 by decide)⟩
  | succ m ih =>
    intro j h
    obtain ⟨a, b⟩ := ih (j + 1) (fun i h1 h2 => h i (by omega) (by omega))
    have c := h j (by omega) (by omega)
    have hC := (zp_hby (B := C) m (j + 1) (fun i h1 h2 => (h i (by omega) (by omega)).1)).2
    have hE := (zp_hby (B := E) m (j + 1) (fun i h1 h2 => (h i (by omega) (by omega)).2.1)).2
    refine ⟨?_, ?_⟩
    · rw [zp_hps, zp_hps, zp_hps, a, c.2.2, zp_x4]
    · rw [zp_hqs, zp_hqs, zp_hqs, b, zp_twx hC hE, c.2.2, zp_x4]
theorem zp_hz {E : Nat → Int32} (m : Nat) : ∀ j, (∀ i, j ≤ i → i < j + m → E i = 0) → zp_hp E j m = 0 ∧ zp_hq E j m = 0 := by
  induction m with
  | zero => intro j _; exact ⟨rfl, rfl⟩
  | succ m ih =>
    intro j h
    obtain ⟨a, b⟩ := ih (j + 1) (fun i h1 h2 => h i (by omega) (by omega))
    rw [zp_hps, zp_hqs, a, b, h j (by omega) (by omega)]
    exact ⟨by decide, by decide⟩
theorem zp_h1 {E : Nat → Int32} {a : Nat} (m : Nat) : ∀ j, j ≤ a → a < j + m → (∀ i, j ≤ i → i < j + m → i ≠ a → E i = 0) →
    zp_hp E j m = E a ∧ zp_hq E j m = zp_pw (a - j) (E a) := by
  induction m with
  | zero => intro j h1 h2; omega
  | succ m ih =>
    intro j h1 h2 h
    rcases Nat.eq_or_lt_of_le h1 with rfl | h3
    · obtain ⟨x, y⟩ := zp_hz (E := E) m (j + 1) (fun i q1 q2 => h i (by omega) (by omega) (by omega))
      rw [zp_hps, zp_hqs, x, y, zp_tw0, Nat.sub_self, Int32.zero_xor]
      exact ⟨rfl, rfl⟩
    · obtain ⟨x, y⟩ := ih (j + 1) h3 (by omega) (fun i q1 q2 => h i (by omega) (by omega))
      rw [zp_hps, zp_hqs, x, y, h j (by omega) (by omega) (by omega), Int32.xor_zero, Int32.xor_zero]
      refine ⟨rfl, ?_⟩
      rw [show a - j = (a - (j + 1)) + 1 by omega]
      rfl
def zp_sp (B : Nat → Int32) (k : Nat) : Int32 := zp_hp B 2 k ^^^ B 0
def zp_sq (B : Nat → Int32) (k : Nat) : Int32 := zp_hq B 2 k ^^^ B 1
def zp_vP (a : Nat) (e : Int32) : Int32 := if a = 1 then 0 else e
def zp_vQ (a : Nat) (e : Int32) : Int32 := if a = 0 then 0 else if a = 1 then e else zp_pw (a - 2) e
theorem zp_s1 {E : Nat → Int32} {a k : Nat} (ha : a < k + 2) (h : ∀ r, r < k + 2 → r ≠ a → E r = 0) : zp_sp E k = zp_vP a (E a) ∧ zp_sq E k = zp_vQ a (E a) := by
  unfold zp_sp zp_sq zp_vP zp_vQ
  by_cases h2 : 2 ≤ a
  · obtain ⟨x, y⟩ := zp_h1 (E := E) k 2 h2 (by omega) (fun i q1 q2 q3 => h i (by omega) q3)
    rw [x, y, h 0 (by omega) (by omega), h 1 (by omega) (by omega), if_neg (by omega), if_neg (by omega), if_neg (by omega), Int32.xor_zero, Int32.xor_zero]
    exact ⟨rfl, rfl⟩
  · obtain ⟨x, y⟩ := zp_hz (E := E) k 2 (fun i q1 q2 => h i (by omega) (by omega))
    rw [x, y, Int32.zero_xor, Int32.zero_xor]
    by_cases h0 : a = 0
    · subst h0
      rw [h 1 (by omega) (by omega)]
      exact ⟨rfl, rfl⟩
    · have : a = 1 := by omega
      subst this
      rw [h 0 (by omega) (by omega)]
      exact ⟨rfl, rfl⟩
theorem zp_sl {B C E : Nat → Int32} {k : Nat} (h : ∀ r, r < k + 2 → zp_by (C r) ∧ zp_by (E r) ∧ B r = C r ^^^ E r) :
    zp_sp B k = zp_sp C k ^^^ zp_sp E k ∧ zp_sq B k = zp_sq C k ^^^ zp_sq E k := by
  obtain ⟨x, y⟩ := zp_hl (B := B) (C := C) (E := E) k 2 (fun i h1 h2 => h i (by omega))
  unfold zp_sp zp_sq
  rw [x, y, (h 0 (by omega)).2.2, (h 1 (by omega)).2.2]
  exact ⟨zp_x4 _ _ _ _, zp_x4 _ _ _ _⟩
/-- the syndromes of a code word with errors at two roles -/
theorem zp_s2 {B C E : Nat → Int32} {a b k : Nat} (hC : zp_sp C k = 0 ∧ zp_sq C k = 0) (ha : a < k + 2) (hb : b < k + 2) (hab : a ≠ b)
    (h : ∀ r, r < k + 2 → zp_by (C r) ∧ zp_by (E r) ∧ B r = C r ^^^ E r) (hE : ∀ r, r < k + 2 → r ≠ a → r ≠ b → E r = 0) :
    zp_sp B k = zp_vP a (E a) ^^^ zp_vP b (E b) ∧ zp_sq B k = zp_vQ a (E a) ^^^ zp_vQ b (E b) := by
  obtain ⟨x, y⟩ := zp_sl h
  rw [hC.1, Int32.zero_xor] at x
  rw [hC.2, Int32.zero_xor] at y
  obtain ⟨x1, y1⟩ := zp_s1 (E := fun r => if r = a then E a else 0) ha (fun r _ q => if_neg q)
  obtain ⟨x2, y2⟩ := zp_s1 (E := fun r => if r = a then 0 else E r) hb (fun r q1 q2 => by
    by_cases q : r = a
    · exact if_pos q
    · exact (if_neg q).trans (hE r q1 q q2))
  have l := zp_sl (B := E) (C := fun r => if r = a then E a else 0) (E := fun r => if r = a then 0 else E r) (k := k) (fun r hr => by
    by_cases q : r = a
    · subst q
      rw [if_pos rfl, if_pos rfl, Int32.xor_zero]
      exact ⟨(h r hr).2.1, zp_by0, rfl⟩
    · rw [if_neg q, if_neg q, Int32.zero_xor]
      exact ⟨zp_by0, (h r hr).2.1, rfl⟩)
  rw [if_pos rfl] at x1 y1
  rw [if_neg (Ne.symm hab)] at x2 y2
  rw [x, y, l.1, l.2, x1, y1, x2, y2]
  exact ⟨rfl, rfl⟩
def zp_cw (D : Nat → Int32) (k r : Nat) : Int32 := if r = 0 then zp_hp (fun j => D (j - 2)) 2 k else if r = 1 then zp_hq (fun j => D (j - 2)) 2 k else D (r - 2)
theorem zp_cwd (D : Nat → Int32) (k i : Nat) : zp_cw D k (2 + i) = D i := by
  unfold zp_cw
  rw [if_neg (by omega), if_neg (by omega), Nat.add_sub_cancel_left]
theorem zp_cws (D : Nat → Int32) (k : Nat) : zp_sp (zp_cw D k) k = 0 ∧ zp_sq (zp_cw D k) k = 0 := by
  obtain ⟨x, y⟩ := zp_hc (B := zp_cw D k) (C := fun j => D (j - 2)) k 2 (fun i h1 h2 => by
    unfold zp_cw
    rw [if_neg (by omega), if_neg (by omega)])
  unfold zp_sp zp_sq
  rw [x, y]
  exact ⟨Int32.xor_self, Int32.xor_self⟩
theorem zp_cwby {D : Nat → Int32} {k : Nat} (h : ∀ i, i < k → zp_by (D i)) : ∀ r, r < k + 2 → zp_by (zp_cw D k r) := by
  intro r hr
  have q := zp_hby (B := fun j => D (j - 2)) k 2 (fun i h1 h2 => h (i - 2) (by omega))
  unfold zp_cw
  by_cases h0 : r = 0
  · rw [if_pos h0]; exact q.1
  · rw [if_neg h0]
    by_cases h1 : r = 1
    · rw [if_pos h1]; exact q.2
    · rw [if_neg h1]; exact h _ (by omega)
/-- a block array that holds the data and its parity is the code word -/
theorem zp_cwof {D B : Nat → Int32} {k : Nat} (hd : ∀ i, i < k → B (2 + i) = D i) (h0 : B 0 = zp_hp B 2 k) (h1 : B 1 = zp_hq B 2 k) : ∀ r, r < k + 2 → B r = zp_cw D k r := by
  obtain ⟨x, y⟩ := zp_hc (B := B) (C := fun j => D (j - 2)) k 2 (fun i h1 h2 => by
    have := hd (i - 2) (by omega)
    rw [show 2 + (i - 2) = i by omega] at this
    exact this)
  intro r hr
  unfold zp_cw
  by_cases h2 : r = 0
  · rw [if_pos h2, h2, h0, x]
  · rw [if_neg h2]
    by_cases h3 : r = 1
    · rw [if_pos h3, h3, h1, y]
    · rw [if_neg h3]
      have := hd (r - 2) (by omega)
      rw [show 2 + (r - 2) = r by omega] at this
      exact this
theorem zp_cwcg {D E : Nat → Int32} {k : Nat} (h : ∀ i, i < k → D i = E i) : ∀ r, r < k + 2 → zp_cw D k r = zp_cw E k r := by
  intro r hr
  obtain ⟨x, y⟩ := zp_hc (B := fun j => D (j - 2)) (C := fun j => E (j - 2)) k 2 (fun i h1 h2 => h (i - 2) (by omega))
  unfold zp_cw
  by_cases h0 : r = 0
  · rw [if_pos h0, if_pos h0, x]
  · by_cases h1 : r = 1
    · rw [if_neg h0, if_neg h0, if_pos h1, if_pos h1, y]
    · rw [if_neg h0, if_neg h0, if_neg h1, if_neg h1, h _ (by omega)]
/-! the sums as the reference makes them -/
def zp_xs (F : Nat → Int32) : Nat → Int32
  | 0 => 0
  | m + 1 => zp_xs F m ^^^ F m
theorem zp_xsc {F G : Nat → Int32} (m : Nat) (h : ∀ i, i < m → F i = G i) : zp_xs F m = zp_xs G m := by
  induction m with
  | zero => rfl
  | succ m ih =>
    show zp_xs F m ^^^ F m = zp_xs G m ^^^ G m
    rw [ih (fun i hi => h i (by omega)), h m (by omega)]
theorem zp_xsh (F : Nat → Int32) (m : Nat) : zp_xs F (m + 1) = zp_xs (fun i => F (i + 1)) m ^^^ F 0 := by
  induction m with
  | zero => rfl
  | succ m ih =>
    show zp_xs F (m + 1) ^^^ F (m + 1) = (zp_xs (fun i => F (i + 1)) m ^^^ F (m + 1)) ^^^ F 0
    rw [ih]
    ac_rfl
theorem zp_xsby {F : Nat → Int32} (m : Nat) (h : ∀ i, i < m → zp_by (F i)) : zp_by (zp_xs F m) := by
  induction m with
  | zero => exact zp_by0
  | succ m ih => exact zp_byx (ih (fun i hi => h i (by omega))) (h m (by omega))
theorem zp_xstw {F : Nat → Int32} (m : Nat) (h : ∀ i, i < m → zp_by (F i)) : zp_tw (zp_xs F m) = zp_xs (fun i => zp_tw (F i)) m := by
  induction m with
  | zero => exact zp_tw0
  | succ m ih =>
    show zp_tw (zp_xs F m ^^^ F m) = _
    rw [zp_twx (zp_xsby m (fun i hi => h i (by omega))) (h m (by omega)), ih (fun i hi => h i (by omega))]
    rfl
theorem zp_hpxs {B : Nat → Int32} (m : Nat) : ∀ j, zp_hp B j m = zp_xs (fun i => B (j + i)) m := by
  induction m with
  | zero => intro j; rfl
  | succ m ih =>
    intro j
    rw [zp_hps, ih, zp_xsh]
    have : zp_xs (fun i => B (j + 1 + i)) m = zp_xs (fun i => B (j + (i + 1))) m := zp_xsc m (fun i _ => by
      show B (j + 1 + i) = B (j + (i + 1))
      rw [show j + 1 + i = j + (i + 1) by omega])
    rw [this]
    rfl
theorem zp_hqxs {B : Nat → Int32} (m : Nat) : ∀ j, (∀ i, j ≤ i → i < j + m → zp_by (B i)) → zp_hq B j m = zp_xs (fun i => zp_pw i (B (j + i))) m := by
  induction m with
  | zero => intro j _; rfl
  | succ m ih =>
    intro j h
    rw [zp_hqs, ih (j + 1) (fun i h1 h2 => h i (by omega) (by omega)), zp_xsh, zp_xstw m (fun i hi => zp_pwby (h _ (by omega) (by omega)) i)]
    have : zp_xs (fun i => zp_tw (zp_pw i (B (j + 1 + i)))) m = zp_xs (fun i => zp_pw (i + 1) (B (j + (i + 1)))) m := zp_xsc m (fun i _ => by
      show zp_tw (zp_pw i (B (j + 1 + i))) = zp_pw (i + 1) (B (j + (i + 1)))
      rw [show j + 1 + i = j + (i + 1) by omega]
      rfl)
    rw [this]
    rfl
theorem zp_cwP (D : Nat → Int32) (k : Nat) : zp_cw D k 0 = zp_xs D k := by
  show zp_hp (fun j => D (j - 2)) 2 k = _
  rw [zp_hpxs]
  exact zp_xsc k (fun i _ => by show D (2 + i - 2) = D i; rw [Nat.add_sub_cancel_left])
theorem zp_cwQ {D : Nat → Int32} {k : Nat} (h : ∀ i, i < k → zp_by (D i)) : zp_cw D k 1 = zp_xs (fun i => zp_pw i (D i)) k := by
  show zp_hq (fun j => D (j - 2)) 2 k = _
  rw [zp_hqxs k 2 (fun i h1 h2 => h (i - 2) (by omega))]
  exact zp_xsc k (fun i _ => by show zp_pw i (D (2 + i - 2)) = zp_pw i (D i); rw [Nat.add_sub_cancel_left])
end
section
/-! what the syndromes tell -/
theorem zp_vPby {a : Nat} {e : Int32} (h : zp_by e) : zp_by (zp_vP a e) := by
  unfold zp_vP
  by_cases q : a = 1
  · rw [if_pos q]; exact zp_by0
  · rw [if_neg q]; exact h
theorem zp_vQby {a : Nat} {e : Int32} (h : zp_by e) : zp_by (zp_vQ a e) := by
  unfold zp_vQ
  by_cases q : a = 0
  · rw [if_pos q]; exact zp_by0
  · rw [if_neg q]
    by_cases q1 : a = 1
    · rw [if_pos q1]; exact h
    · rw [if_neg q1]; exact zp_pwby h _
theorem zp_vP0 (a : Nat) : zp_vP a 0 = 0 := by
  unfold zp_vP
  by_cases q : a = 1
  · rw [if_pos q]
  · rw [if_neg q]
theorem zp_vQ0 (a : Nat) : zp_vQ a 0 = 0 := by
  unfold zp_vQ
  by_cases q : a = 0
  · rw [if_pos q]
  · rw [if_neg q]
    by_cases q1 : a = 1
    · rw [if_pos q1]
    · rw [if_neg q1]; exact zp_pw0 _
theorem zp_vPn {a : Nat} (e : Int32) (h : a ≠ 1) : zp_vP a e = e := if_neg h
theorem zp_vP1 (e : Int32) : zp_vP 1 e = 0 := rfl
theorem zp_vQz (e : Int32) : zp_vQ 0 e = 0 := rfl
theorem zp_vQ1 (e : Int32) : zp_vQ 1 e = e := rfl
theorem zp_vQn {a : Nat} (e : Int32) (h : 2 ≤ a) : zp_vQ a e = zp_pw (a - 2) e := (if_neg (by omega)).trans (if_neg (by omega))
theorem zp_pwinj {x y : Int32} (hx : zp_by x) (hy : zp_by y) {i : Nat} (hi : i ≤ 255) (h : zp_pw i x = zp_pw i y) : x = y := by
  have e := zp_pwx hx hy i
  rw [h, Int32.xor_self] at e
  exact Int32.xor_eq_zero_iff.1 (zp_pwz (zp_byx hx hy) hi e)
/-- b not P: its Q part tells -/
theorem zp_vQnz {b : Nat} {e : Int32} (he : zp_by e) (h : b ≠ 0) (hb : b < 200) : zp_vQ b e = 0 ↔ e = 0 := by
  by_cases h1 : b = 1
  · subst h1; exact Iff.rfl
  · rw [zp_vQn e (by omega)]
    exact ⟨fun q => zp_pwz he (by omega) q, fun q => by rw [q]; exact zp_pw0 _⟩
theorem zp_vPnz {b : Nat} {e : Int32} (h : b ≠ 1) : zp_vP b e = 0 ↔ e = 0 := by rw [zp_vPn e h]
/-- complete stripe, one wrong block -/
theorem zp_c0 {a : Nat} {e : Int32} (he : zp_by e) (ha : a < 200) (h : zp_vP a e = 0) (h' : zp_vQ a e = 0) : e = 0 := by
  by_cases h1 : a = 1
  · subst h1; exact h'
  · exact (zp_vPnz h1).1 h
/-- a lost data block a, a wrong block b -/
theorem zp_c1 {a b : Nat} {x e : Int32} (hx : zp_by x) (he : zp_by e) (ha : 2 ≤ a) (ha2 : a < 200) (hb : b < 200) (hab : a ≠ b) :
    zp_vQ a x ^^^ zp_vQ b e = zp_pw (a - 2) (zp_vP a x ^^^ zp_vP b e) ↔ e = 0 := by
  rw [zp_vPn x (by omega), zp_pwx hx (zp_vPby he), zp_vQn x ha, Int32.xor_right_inj]
  by_cases h0 : b = 0
  · subst h0
    rw [zp_vQz, zp_vPn e (by omega)]
    exact ⟨fun q => zp_pwz he (by omega) q.symm, fun q => by rw [q]; exact (zp_pw0 _).symm⟩
  · by_cases h1 : b = 1
    · subst h1
      rw [zp_vQ1, zp_vP1, zp_pw0]
    · rw [zp_vQn e (by omega), zp_vPn e h1]
      exact ⟨fun q => zp_wi (by omega) (by omega) (by omega) he q, fun q => by rw [q, zp_pw0, zp_pw0]⟩
/-- the sum of two weights -/
theorem zp_ws {a b m : Nat} {y : Int32} (hm : zp_pw m 1 = zp_pw a 1 ^^^ zp_pw b 1) (hy : zp_by y) : zp_pw m y = zp_pw a y ^^^ zp_pw b y := by
  by_cases h : y = 0
  · subst h; rw [zp_pw0, zp_pw0, zp_pw0]; decide
  · obtain ⟨j, -, rfl⟩ := zp_gen hy h
    rw [zp_pwc m, hm, zp_pwx (zp_pwby zp_by1 a) (zp_pwby zp_by1 b), zp_pwc j a, zp_pwc j b]
theorem zp_wsn {a b : Nat} (ha : a < 255) (hb : b < 255) (hab : a ≠ b) : ∃ m, m < 255 ∧ zp_pw a 1 ^^^ zp_pw b 1 = zp_pw m 1 :=
  zp_gen (zp_byx (zp_pwby zp_by1 a) (zp_pwby zp_by1 b)) (fun h => hab (zp_pwi ha hb (Int32.xor_eq_zero_iff.1 h)))
theorem zp_xc (x y : Int32) : (x ^^^ y) ^^^ y = x := by rw [Int32.xor_assoc, Int32.xor_self, Int32.xor_zero]
theorem zp_xc' (x y : Int32) : x ^^^ (x ^^^ y) = y := by rw [← Int32.xor_assoc, Int32.xor_self, Int32.zero_xor]
theorem zp_x5 (p q r : Int32) : (p ^^^ q) ^^^ (p ^^^ r) = r ^^^ q := by
  rw [zp_x4, Int32.xor_self, Int32.zero_xor, Int32.xor_comm]
/-! disks and roles -/
def zp_dk (n s r : Nat) : Nat := (n - 1 - s % n + r) % n
def zp_ro (n s d : Nat) : Nat := (d + 1 + s % n) % n
theorem zp_md {x n : Nat} (h : x < 2 * n) : x % n = if x < n then x else x - n := by
  by_cases q : x < n
  · rw [if_pos q, Nat.mod_eq_of_lt q]
  · rw [if_neg q, Nat.mod_eq_sub_mod (by omega), Nat.mod_eq_of_lt (by omega)]
theorem zp_dklt {n s r : Nat} (hn : 0 < n) : zp_dk n s r < n := Nat.mod_lt _ hn
theorem zp_rolt {n s d : Nat} (hn : 0 < n) : zp_ro n s d < n := Nat.mod_lt _ hn
theorem zp_rodk {n s r : Nat} (hr : r < n) : zp_ro n s (zp_dk n s r) = r := by
  unfold zp_ro zp_dk
  have q := Nat.mod_lt s (show 0 < n by omega)
  generalize s % n = m at q
  rw [zp_md (x := n - 1 - m + r) (by omega)]
  by_cases c : n - 1 - m + r < n
  · rw [if_pos c, zp_md (by omega)]
    by_cases d : n - 1 - m + r + 1 + m < n
    · omega
    · rw [if_neg d]; omega
  · rw [if_neg c, zp_md (by omega)]
    by_cases d : n - 1 - m + r - n + 1 + m < n
    · rw [if_pos d]; omega
    · omega
theorem zp_dkro {n s d : Nat} (hd : d < n) : zp_dk n s (zp_ro n s d) = d := by
  unfold zp_ro zp_dk
  have q := Nat.mod_lt s (show 0 < n by omega)
  generalize s % n = m at q
  rw [zp_md (x := d + 1 + m) (by omega)]
  by_cases c : d + 1 + m < n
  · rw [if_pos c, zp_md (by omega)]
    by_cases e : n - 1 - m + (d + 1 + m) < n
    · omega
    · rw [if_neg e]; omega
  · rw [if_neg c, zp_md (by omega)]
    by_cases e : n - 1 - m + (d + 1 + m - n) < n
    · rw [if_pos e]; omega
    · omega
theorem zp_dr {n s d r : Nat} (hd : d < n) (hr : r < n) : zp_dk n s r = d ↔ zp_ro n s d = r :=
  ⟨fun h => by rw [← h]; exact zp_rodk hr, fun h => by rw [← h]; exact zp_dkro hd⟩
theorem zp_dkinj {n s a b : Nat} (ha : a < n) (hb : b < n) (h : zp_dk n s a = zp_dk n s b) : a = b := by
  rw [← zp_rodk (s := s) ha, h, zp_rodk hb]
theorem zp_roinj {n s a b : Nat} (ha : a < n) (hb : b < n) (h : zp_ro n s a = zp_ro n s b) : a = b := by
  rw [← zp_dkro (s := s) ha, h, zp_dkro hb]
/-! counts up to two -/
def zp_C0 (M : Nat → Prop) (n : Nat) : Prop := ∀ j, j < n → ¬ M j
def zp_C1 (M : Nat → Prop) (n : Nat) : Prop := ∃ a, a < n ∧ M a ∧ ∀ j, j < n → j ≠ a → ¬ M j
def zp_C2 (M : Nat → Prop) (n : Nat) : Prop := ∃ a b, a < b ∧ b < n ∧ M a ∧ M b
def zp_N3 (M : Nat → Prop) (n : Nat) : Prop := ∀ a b c, a < n → b < n → c < n → a ≠ b → a ≠ c → b ≠ c → M a → M b → M c → False
def zp_cn (M : Nat → Prop) (r : Nat) (x : Int32) : Prop := (x = 0 ∧ zp_C0 M r) ∨ (x = 1 ∧ zp_C1 M r) ∨ (∃ m, 2 ≤ m ∧ m ≤ r ∧ x = nI m ∧ zp_C2 M r)
theorem zp_cn0 (M : Nat → Prop) : zp_cn M 0 0 := Or.inl ⟨rfl, fun j h => absurd h (Nat.not_lt_zero j)⟩
theorem zp_cnn {M : Nat → Prop} {r : Nat} {x : Int32} (h : zp_cn M r x) (hm : ¬ M r) : zp_cn M (r + 1) x := by
  rcases h with ⟨e, h⟩ | ⟨e, a, ha, hM, h⟩ | ⟨m, h2, hr, e, a, b, h3, h4, h5, h6⟩
  · refine Or.inl ⟨e, fun j hj => ?_⟩
    rcases Nat.lt_succ_iff_lt_or_eq.1 hj with q | rfl
    · exact h j q
    · exact hm
  · refine Or.inr (Or.inl ⟨e, a, by omega, hM, fun j hj hn => ?_⟩)
    rcases Nat.lt_succ_iff_lt_or_eq.1 hj with q | rfl
    · exact h j q hn
    · exact hm
  · exact Or.inr (Or.inr ⟨m, h2, by omega, e, a, b, h3, by omega, h5, h6⟩)
theorem zp_cny {M : Nat → Prop} {r : Nat} {x : Int32} (h : zp_cn M r x) (hm : M r) : zp_cn M (r + 1) (x + 1) := by
  rcases h with ⟨e, h⟩ | ⟨e, a, ha, hM, h⟩ | ⟨m, h2, hr, e, a, b, h3, h4, h5, h6⟩
  · refine Or.inr (Or.inl ⟨by rw [e]; decide, r, by omega, hm, fun j hj hn => h j (by omega)⟩)
  · exact Or.inr (Or.inr ⟨2, by omega, by omega, by rw [e]; decide, a, r, ha, by omega, hM, hm⟩)
  · exact Or.inr (Or.inr ⟨m + 1, by omega, by omega, by rw [e, nI_1], a, b, h3, by omega, h5, h6⟩)
theorem zp_C01 {M : Nat → Prop} {n : Nat} (h : zp_C0 M n) (h' : zp_C1 M n) : False := by
  obtain ⟨a, ha, hM, -⟩ := h'
  exact h a ha hM
theorem zp_C02 {M : Nat → Prop} {n : Nat} (h : zp_C0 M n) (h' : zp_C2 M n) : False := by
  obtain ⟨a, b, h1, h2, hM, -⟩ := h'
  exact h a (by omega) hM
theorem zp_C12 {M : Nat → Prop} {n : Nat} (h : zp_C1 M n) (h' : zp_C2 M n) : False := by
  obtain ⟨a, ha, hM, q⟩ := h
  obtain ⟨b, c, h1, h2, hb, hc⟩ := h'
  by_cases e : b = a
  · exact q c h2 (by omega) hc
  · exact q b (by omega) e hb
end
section
/-! small walks of the component -/
theorem zx_cl {a : Nat → Int32} {i : Nat} (h : i < 2 ^ 31) : a (nI i).toNatClampNeg = a i := by rw [nI_clamp h]
theorem zx_u {a : Nat → Int32} {i : Nat} {v : Int32} (h : i < 2 ^ 31) : upd a (nI i).toNatClampNeg v = upd a i v := by rw [nI_clamp h]
def zp_fl (v : Int32) : (Nat → Int32) → Nat → Nat → (Nat → Int32)
  | a, _, 0 => a
  | a, i, m + 1 => zp_fl v (upd a i v) (i + 1) m
theorem zp_fls (v : Int32) (a : Nat → Int32) (i m : Nat) : zp_fl v a i (m + 1) = zp_fl v (upd a i v) (i + 1) m := rfl
theorem zp_flv (v : Int32) (m : Nat) : ∀ i a j, zp_fl v a i m j = if i ≤ j ∧ j < i + m then v else a j := by
  induction m with
  | zero =>
    intro i a j
    rw [if_neg (by omega)]
    rfl
  | succ m ih =>
    intro i a j
    rw [zp_fls, ih]
    by_cases h : i + 1 ≤ j ∧ j < i + 1 + m
    · rw [if_pos h, if_pos (by omega)]
    · rw [if_neg h]
      by_cases h2 : j = i
      · subst h2
        rw [if_pos (by omega), pk_us]
      · rw [if_neg (by omega), pk_un h2]
def zp_ds (a : Nat → Int32) : Nat → Int32 := zp_fl (-1) a 0 6
theorem zp_dsv (a : Nat → Int32) {j : Nat} (h : j < 6) : zp_ds a j = -1 := by
  unfold zp_ds
  rw [zp_flv, if_pos (by omega)]
def zp_fu (x : Int32) : Int32 := if x ≤ 0 then x else x - 1
section
variable {fn fk fS fJ fh fc fp st po fu lo la lb sp sq : Int32} {sto edg fai lah iat ida sta ex lg blk con wd wm its : Nat → Int32}
theorem zx_clamp {post : Int32 → Prop} {u : SX} {p0 p1 p2 : Int32} (h : post (if p1 ≤ p0 then (if p0 ≤ p2 then p0 else p2) else p1)) : wpX_clamp post u p0 p1 p2 := by
  refine br_c (fun h1 => br_c (fun h2 => ?_) (fun h2 => ?_)) (fun h1 => ?_)
  · rw [if_pos h1, if_pos h2] at h; exact h
  · rw [if_pos h1, if_neg h2] at h; exact h
  · rw [if_neg h1] at h; exact h
theorem zx_tw {post : Int32 → Prop} {u : SX} {v : Int32} (h : post (zp_tw v)) : wpX_twice post u v := by
  unfold zp_tw at h
  refine br_c (fun h1 => ?_) (fun h1 => ?_)
  · rw [if_pos h1] at h; exact h
  · rw [if_neg h1] at h; exact h
theorem zx_drop7 {post : SX → Prop} (m : Nat) : ∀ (i : Nat) (sta : Nat → Int32), i + m = 6 → post (fn, fk, fS, fJ, fh, fc, fp, st, po, fu, lo, la, lb, sp, sq, sto, edg, fai, lah, iat, ida, zp_fl (-1) sta i m, ex, lg, blk) →
    wX_dropStage_7 post fn fk fS fJ fh fc fp st po fu lo la lb sp sq (m + 1) (nI i) sto edg fai lah iat ida sta ex lg blk := by
  induction m with
  | zero =>
    intro i sta h hp
    exact br_t (nI_le (a := 6) (by omega) (by omega)) hp
  | succ m ih =>
    intro i sta h hp
    exact br_f (nI_ge (b := 6) (by omega) (by omega)) (And.intro (vp_in_nI (by omega) (by omega)) (nm_r (zx_u (by omega)) (nm_r (nI_1 i) (ih (i + 1) _ (by omega) hp))))
theorem zx_drop {post : SX → Prop} (hp : post (fn, fk, fS, fJ, fh, fc, fp, -1, po, fu, lo, la, lb, sp, sq, sto, edg, fai, lah, iat, ida, zp_ds sta, ex, lg, blk)) : wpX_dropStage post (fn, fk, fS, fJ, fh, fc, fp, st, po, fu, lo, la, lb, sp, sq, sto, edg, fai, lah, iat, ida, sta, ex, lg, blk) :=
  Exists.intro 7 (zx_drop7 6 0 sta (by omega) hp)
theorem zx_lose {post : SX → Prop} (hp : post (fn, fk, fS, fJ, fh, fc, 0, -1, 0, -1, lo, la, lb, sp, sq, sto, edg, fai, lah, iat, ida, zp_ds sta, ex, lg, blk)) : wpX_losePower post (fn, fk, fS, fJ, fh, fc, fp, st, po, fu, lo, la, lb, sp, sq, sto, edg, fai, lah, iat, ida, sta, ex, lg, blk) := by
  unfold wpX_losePower
  exact zx_drop hp
theorem zx_turn {post : Int32 → SX → Prop} (h0 : fu = 0 → post 0 (fn, fk, fS, fJ, fh, fc, 0, -1, 0, -1, lo, la, lb, sp, sq, sto, edg, fai, lah, iat, ida, zp_ds sta, ex, lg, blk)) (h1 : ¬ fu = 0 → post 1 (fn, fk, fS, fJ, fh, fc, fp, st, po, zp_fu fu, lo, la, lb, sp, sq, sto, edg, fai, lah, iat, ida, sta, ex, lg, blk)) : wpX_makeTurn post (fn, fk, fS, fJ, fh, fc, fp, st, po, fu, lo, la, lb, sp, sq, sto, edg, fai, lah, iat, ida, sta, ex, lg, blk) := by
  refine br_c (fun e => ?_) (fun e => ?_)
  · exact zx_lose (h0 e)
  · have q := h1 e
    unfold zp_fu at q
    refine br_c (fun l => ?_) (fun l => nm_e ?_)
    · rw [if_pos l] at q; exact q
    · rw [if_neg l] at q; exact q
theorem zx_ys7 {post : Int32 → Prop} {s : Int32} {h : Nat} (hh : h < 4) (m : Nat) : m ≤ 4 →
    (∀ i, i < m → iat ((h + i) % 4) = s → (∀ j, i < j → j < m → ¬ iat ((h + j) % 4) = s) → post (nI ((h + i) % 4))) →
    ((∀ i, i < m → ¬ iat ((h + i) % 4) = s) → post (-1)) → wX_youngestSlot_7 post s fn fk fS fJ (nI h) fc fp st po fu lo la lb sp sq sto edg fai lah iat ida sta ex lg blk (m + 1) (nI m - 1) := by
  induction m with
  | zero =>
    intro _ _ hn
    exact br_t (by decide) (hn (fun i hi => absurd hi (Nat.not_lt_zero i)))
  | succ m ih =>
    intro hm hf hn
    rw [nI_pred]
    have e : (nI h + nI m) &&& 3 = nI ((h + m) % 4) := by
      rw [nI_add]
      exact pk_andN (n := h + m) (by omega) 2 (by decide)
    refine br_f (nI_pos (by omega)) (nm_r e (And.intro (vp_in_nI (by omega) (by omega)) ?_))
    rw [nI_clamp (by omega)]
    refine br_c (fun q => hf m (by omega) q (fun j h1 h2 => by omega)) (fun q => nm_r (Int32.sub_eq_add_neg _ _).symm (ih (by omega) ?_ ?_))
    · intro i hi h1 h2
      refine hf i (by omega) h1 (fun j h3 h4 => ?_)
      rcases Nat.lt_succ_iff_lt_or_eq.1 h4 with w | rfl
      · exact h2 j h3 w
      · exact q
    · intro h1
      refine hn (fun i hi => ?_)
      rcases Nat.lt_succ_iff_lt_or_eq.1 hi with w | rfl
      · exact h1 i w
      · exact q
theorem zx_ys {post : Int32 → Prop} {s : Int32} {h c : Nat} (hh : h < 4) (hc : c ≤ 4) (hI : ∀ i, i < c → iat ((h + i) % 4) = its i)
    (hf : ∀ i, i < c → its i = s → (∀ j, i < j → j < c → ¬ its j = s) → post (nI ((h + i) % 4)))
    (hn : (∀ i, i < c → ¬ its i = s) → post (-1)) : wpX_youngestSlot post (fn, fk, fS, fJ, nI h, nI c, fp, st, po, fu, lo, la, lb, sp, sq, sto, edg, fai, lah, iat, ida, sta, ex, lg, blk) s :=
  nm_e (Exists.intro (c + 1) (zx_ys7 hh c hc
    (fun i hi h1 h2 => hf i hi ((hI i hi).symm.trans h1) (fun j h3 h4 h5 => h2 j h3 h4 ((hI j h4).trans h5)))
    (fun h1 => hn (fun i hi h2 => h1 i hi ((hI i hi).trans h2)))))
theorem zx_pres {post : Int32 → Prop} {d : Nat} {x : Int32} (hd : d < 8) (h0 : edg d ≤ x → post 0) (h1 : ¬ edg d ≤ x → post 1) : wpX_present post (fn, fk, fS, fJ, fh, fc, fp, st, po, fu, lo, la, lb, sp, sq, sto, edg, fai, lah, iat, ida, sta, ex, lg, blk) (nI d) x := by
  refine And.intro (vp_in_nI hd (by omega)) ?_
  rw [nI_clamp (by omega)]
  exact br_c h0 h1
theorem zx_p {k s : Nat} (hk : k ≤ 6) (hs : s < 100) : nI (k + 2) - 1 - (nI s - nI s / nI (k + 2) * nI (k + 2)) = nI (k + 2 - 1 - s % (k + 2)) := by
  rw [pk_rem (by omega) (by omega) (by omega), nI_pred (k + 1), pk_sub (by have := Nat.mod_lt s (show 0 < k + 2 by omega); omega)]
  rfl
theorem zx_dko {post : Int32 → Prop} {k s r : Nat} (hk : k ≤ 6) (hs : s < 100) (hr : r < 100) (hp : post (nI (zp_dk (k + 2) s r))) : wpX_diskOf post (nI (k + 2), fk, fS, fJ, fh, fc, fp, st, po, fu, lo, la, lb, sp, sq, sto, edg, fai, lah, iat, ida, sta, ex, lg, blk) (nI s) (nI r) := by
  refine And.intro (nI_ne0 (by omega) (by omega)) (nm_r (zx_p hk hs) (And.intro (nI_ne0 (by omega) (by omega)) ?_))
  rw [nI_add, pk_rem (by omega) (by omega) (by omega)]
  exact hp
theorem zx_sac (a b c : Int32) : a - b + c = a + c - b := by
  rw [Int32.sub_eq_add_neg, Int32.sub_eq_add_neg, Int32.add_assoc, Int32.add_assoc, Int32.add_comm c]
theorem zx_rol {post : Int32 → Prop} {k s d : Nat} (hk : k ≤ 6) (hs : s < 100) (hd : d < k + 2) (hp : post (nI (zp_ro (k + 2) s d))) : wpX_roleOf post (nI (k + 2), fk, fS, fJ, fh, fc, fp, st, po, fu, lo, la, lb, sp, sq, sto, edg, fai, lah, iat, ida, sta, ex, lg, blk) (nI s) (nI d) := by
  refine And.intro (nI_ne0 (by omega) (by omega)) (nm_r (zx_p hk hs) (And.intro (nI_ne0 (by omega) (by omega)) ?_))
  have q := Nat.mod_lt s (show 0 < k + 2 by omega)
  rw [zx_sac, nI_add, pk_sub (by omega), pk_rem (by omega) (by omega) (by omega)]
  have e : d + (k + 2) - (k + 2 - 1 - s % (k + 2)) = d + 1 + s % (k + 2) := by omega
  rw [e]
  exact hp
theorem zx_cs11 {post : SX → Prop} (i : Nat) : ∀ m : Nat, i ≤ 6 → post (fn, fk, fS, fJ, fh, fc, fp, st, po, fu, lo, la, lb, zp_sp blk (i + m), zp_sq blk (i + m), sto, edg, fai, lah, iat, ida, sta, ex, lg, blk) →
    wX_computeSyndromes_11 post fn fk fS fJ fh fc fp st po fu lo la lb sp sq sto edg fai lah iat ida sta ex lg blk (i + 1) (zp_hp blk (i + 2) m) (zp_hq blk (i + 2) m) (nI (i + 1)) := by
  induction i with
  | zero =>
    intro m _ hp
    rw [Nat.zero_add] at hp
    exact br_t (nI_lt (b := 2) (by omega) (by omega)) (nm_e (nm_e hp))
  | succ i ih =>
    intro m hi hp
    refine br_f (nI_nlt (b := 2) (by omega) (by omega)) (And.intro (vp_in_nI (by omega) (by omega)) (nm_r (e' := zp_hp blk (i + 2) (m + 1)) ?_ (zx_tw (And.intro (vp_in_nI (by omega) (by omega)) (nm_r (e' := zp_hq blk (i + 2) (m + 1)) ?_ (nm_r (pk_m1 (i + 1)) (ih (m + 1) (by omega) ?_)))))))
    · rw [nI_clamp (by omega)]; rfl
    · rw [nI_clamp (by omega)]; rfl
    · rw [show i + (m + 1) = i + 1 + m by omega]; exact hp
theorem zx_cs {post : SX → Prop} {k : Nat} (hk : k ≤ 6) (hp : post (nI (k + 2), fk, fS, fJ, fh, fc, fp, st, po, fu, lo, la, lb, zp_sp blk k, zp_sq blk k, sto, edg, fai, lah, iat, ida, sta, ex, lg, blk)) : wpX_computeSyndromes post (nI (k + 2), fk, fS, fJ, fh, fc, fp, st, po, fu, lo, la, lb, sp, sq, sto, edg, fai, lah, iat, ida, sta, ex, lg, blk) :=
  nm_r (nI_pred (k + 1)) (Exists.intro (k + 1) (zx_cs11 k 0 hk hp))
end
end
section
/-! the relation -/
def zp_bz (its : Nat → Int32) (c s : Nat) : Prop := ∃ i, i < c ∧ its i = nI s
def zp_C (con : Nat → Int32) (k s r : Nat) : Int32 := zp_cw (fun i => con (s * k + i)) k r
def zp_er (wd wm : Nat → Int32) (s d : Nat) : Int32 := if wd s = nI d then wm s else 0
def zr_G (k S J h c p : Nat) : Prop := 2 ≤ k ∧ k ≤ 6 ∧ 1 ≤ S ∧ S ≤ 16 ∧ 1 ≤ J ∧ J ≤ 4 ∧ h < 4 ∧ c ≤ J ∧ p ≤ k + 2 ∧ (c = 0 → p = 0)
def zr_E (k S : Nat) (edg fai : Nat → Int32) : Prop := (∀ d, d < k + 2 → ∃ f, f ≤ S ∧ edg d = nI f ∧ (¬ fai d = 0 → f = 0)) ∧ zp_N3 (fun d => ¬ nI S ≤ edg d) (k + 2)
def zr_T (ex lg : Nat → Int32) : Prop := (∀ i, i < 510 → ex i = zp_pw i 1) ∧ (∀ i, i < 255 → lg (zp_e i) = nI i)
def zr_B (k S : Nat) (st : Int32) (sta con : Nat → Int32) : Prop := (∀ j, j < S * k → zp_by (con j)) ∧ (st < 0 ∨ ∃ s, s < S ∧ st = nI s) ∧ (∀ i, i < k → sta i < 0 ∨ zp_by (sta i))
def zr_J (k S h c : Nat) (iat ida con its : Nat → Int32) : Prop := ∀ i, i < c → iat ((h + i) % 4) = its i ∧
  ∃ s, s < S ∧ its i = nI s ∧ ((∀ j, i < j → j < c → ¬ its j = nI s) → ∀ t, t < k → ida ((h + i) % 4 * 6 + t) = con (s * k + t))
def zr_W (k S c : Nat) (edg lah wd wm its : Nat → Int32) : Prop := ∀ s, s < S → zp_by (wm s) ∧
  (¬ wm s = 0 → ¬ zp_bz its c s ∧ lah s = wd s ∧ (∃ d, d < k + 2 ∧ wd s = nI d ∧ ¬ edg d ≤ nI s) ∧ ¬ zp_C2 (fun d => edg d ≤ nI s) (k + 2))
def zr_S (k S c : Nat) (sto edg con wd wm its : Nat → Int32) : Prop := ∀ s, s < S → ¬ zp_bz its c s → ∀ d, d < k + 2 → ¬ edg d ≤ nI s →
  sto (d * 16 + s) = zp_C con k s (zp_ro (k + 2) s d) ^^^ zp_er wd wm s d
def zr_H (k S c p : Nat) (sto edg con its : Nat → Int32) : Prop := 0 < c → ∀ s, s < S → its 0 = nI s → (∀ j, 0 < j → j < c → ¬ its j = nI s) → ∀ d, d < p → ¬ edg d ≤ nI s →
  sto (d * 16 + s) = zp_C con k s (zp_ro (k + 2) s d)
def zr_I (k S J h c p : Nat) (st : Int32) (sto edg fai lah iat ida sta ex lg con wd wm its : Nat → Int32) : Prop :=
  zr_G k S J h c p ∧ zr_E k S edg fai ∧ zr_T ex lg ∧ zr_B k S st sta con ∧ zr_J k S h c iat ida con its ∧ zr_W k S c edg lah wd wm its ∧
  zr_S k S c sto edg con wd wm its ∧ zr_H k S c p sto edg con its
def i_Rel (_ : Nat) (u : SX) (v : SY) : Prop := ∃ (k S J h c p : Nat) (st po fu lo la lb sp sq : Int32) (sto edg fai lah iat ida sta ex lg blk con wd wm its : Nat → Int32),
  u = (nI (k + 2), nI k, nI S, nI J, nI h, nI c, nI p, st, po, fu, lo, la, lb, sp, sq, sto, edg, fai, lah, iat, ida, sta, ex, lg, blk) ∧ v = (nI (k + 2), nI k, nI S, nI J, nI c, nI p, po, st, fu, con, fai, edg, wd, wm, its, sta) ∧ zr_I k S J h c p st sto edg fai lah iat ida sta ex lg con wd wm its
theorem i_up {k : Nat} {u : SX} {v : SY} (h : i_Rel k u v) : i_Rel (k + 4) u v := h
theorem zr_mk {q : Nat} {k S J h c p : Nat} {st po fu lo la lb sp sq : Int32} {sto edg fai lah iat ida sta ex lg blk con wd wm its : Nat → Int32}
    (H : zr_I k S J h c p st sto edg fai lah iat ida sta ex lg con wd wm its) : i_Rel q (nI (k + 2), nI k, nI S, nI J, nI h, nI c, nI p, st, po, fu, lo, la, lb, sp, sq, sto, edg, fai, lah, iat, ida, sta, ex, lg, blk) (nI (k + 2), nI k, nI S, nI J, nI c, nI p, po, st, fu, con, fai, edg, wd, wm, its, sta) :=
  Exists.intro k (Exists.intro S (Exists.intro J (Exists.intro h (Exists.intro c (Exists.intro p (Exists.intro st (Exists.intro po (Exists.intro fu (Exists.intro lo (Exists.intro la (Exists.intro lb (Exists.intro sp (Exists.intro sq
  (Exists.intro sto (Exists.intro edg (Exists.intro fai (Exists.intro lah (Exists.intro iat (Exists.intro ida (Exists.intro sta (Exists.intro ex (Exists.intro lg (Exists.intro blk (Exists.intro con (Exists.intro wd (Exists.intro wm (Exists.intro its
  (And.intro rfl (And.intro rfl H)))))))))))))))))))))))))))))
theorem zr_el {q : Nat} {P : SX → SY → Prop} (f : ∀ (k S J h c p : Nat) (st po fu lo la lb sp sq : Int32) (sto edg fai lah iat ida sta ex lg blk con wd wm its : Nat → Int32),
    zr_I k S J h c p st sto edg fai lah iat ida sta ex lg con wd wm its → P (nI (k + 2), nI k, nI S, nI J, nI h, nI c, nI p, st, po, fu, lo, la, lb, sp, sq, sto, edg, fai, lah, iat, ida, sta, ex, lg, blk) (nI (k + 2), nI k, nI S, nI J, nI c, nI p, po, st, fu, con, fai, edg, wd, wm, its, sta)) {u : SX} {v : SY} (I : i_Rel q u v) : P u v :=
  Exists.elim I fun k I => Exists.elim I fun S I => Exists.elim I fun J I => Exists.elim I fun h I => Exists.elim I fun c I => Exists.elim I fun p I => Exists.elim I fun st I => Exists.elim I fun po I => Exists.elim I fun fu I =>
  Exists.elim I fun lo I => Exists.elim I fun la I => Exists.elim I fun lb I => Exists.elim I fun sp I => Exists.elim I fun sq I => Exists.elim I fun sto I => Exists.elim I fun edg I => Exists.elim I fun fai I => Exists.elim I fun lah I =>
  Exists.elim I fun iat I => Exists.elim I fun ida I => Exists.elim I fun sta I => Exists.elim I fun ex I => Exists.elim I fun lg I => Exists.elim I fun blk I => Exists.elim I fun con I => Exists.elim I fun wd I => Exists.elim I fun wm I => Exists.elim I fun its I =>
  Eq.mpr (congr (congrArg P I.1) I.2.1) (f k S J h c p st po fu lo la lb sp sq sto edg fai lah iat ida sta ex lg blk con wd wm its I.2.2)
section
variable {k S J h c p : Nat} {st : Int32} {sto edg fai lah iat ida sta ex lg con wd wm its : Nat → Int32}
theorem zr_ix {a b : Nat} {k : Nat} (h : b < k) : a * k + b < (a + 1) * k := by
  rw [Nat.succ_mul]; omega
theorem zr_ix2 {a b k S : Nat} (h : b < k) (ha : a < S) : a * k + b < S * k :=
  Nat.lt_of_lt_of_le (zr_ix h) (Nat.mul_le_mul_right k ha)
theorem zr_cby (H : zr_I k S J h c p st sto edg fai lah iat ida sta ex lg con wd wm its) {s : Nat} (hs : s < S) : ∀ r, r < k + 2 → zp_by (zp_C con k s r) :=
  zp_cwby (fun i hi => H.2.2.2.1.1 _ (zr_ix2 hi hs))
theorem zr_N3s (H : zr_I k S J h c p st sto edg fai lah iat ida sta ex lg con wd wm its) {s : Nat} (hs : s < S) : zp_N3 (fun d => edg d ≤ nI s) (k + 2) := by
  have g := H.1
  have w : ∀ d, edg d ≤ nI s → ¬ nI S ≤ edg d := fun d q1 q2 => by
    have := Int32.le_trans q2 q1
    rw [nI_leI (by have := g.2.2.2.1; omega) (by have := g.2.2.2.1; omega)] at this
    omega
  exact fun a b c ha hb hc h1 h2 h3 m1 m2 m3 => H.2.1.2 a b c ha hb hc h1 h2 h3 (w a m1) (w b m2) (w c m3)
theorem zr_I1 (H : zr_I k S J h c p st sto edg fai lah iat ida sta ex lg con wd wm its) : ∀ i, i < c → iat ((h + i) % 4) = its i := fun i hi => (H.2.2.2.2.1 i hi).1
theorem zr_bzn {s : Nat} (q : ∀ i, i < c → ¬ its i = nI s) : ¬ zp_bz its c s := fun ⟨i, hi, e⟩ => q i hi e
end
end
section
/-! the component's field arithmetic -/
theorem zp_lge {lg : Nat → Int32} (hl : ∀ i, i < 255 → lg (zp_e i) = nI i) {j : Nat} (hj : j < 255) : vp_in (zp_pw j 1 &&& 255) 256 ∧ lg (zp_pw j 1 &&& 255).toNatClampNeg = nI j := by
  have b := zp_e2 j hj
  rw [zp_and (zp_pwby zp_by1 j), zp_pwe j hj]
  refine ⟨vp_in_nI b.2.1 (by omega), ?_⟩
  rw [nI_clamp (by omega)]
  exact hl j hj
section
variable {fn fk fS fJ fh fc fp st po fu lo la lb sp sq : Int32} {sto edg fai lah iat ida sta ex lg blk con wd wm its : Nat → Int32}
theorem zx_wt {post : Int32 → Prop} {a : Nat} (T : zr_T ex lg) (h2 : 2 ≤ a) (ha : a < 8) (hp : post (zp_pw (a - 2) 1)) : wpX_weightOf post (fn, fk, fS, fJ, fh, fc, fp, st, po, fu, lo, la, lb, sp, sq, sto, edg, fai, lah, iat, ida, sta, ex, lg, blk) (nI a) := by
  have e : nI a - 2 = nI (a - 2) := pk_sub (b := 2) h2
  refine br_t (nI_le (a := 2) h2 (by omega)) ?_
  rw [e, nI_clamp (by omega), T.1 _ (by omega)]
  exact And.intro (vp_in_nI (by omega) (by omega)) hp
theorem zx_tms {post : Int32 → Prop} {i : Nat} {x : Int32} (T : zr_T ex lg) (hi : i < 255) (hx : zp_by x) (hp : post (zp_pw i x)) : wpX_times post (fn, fk, fS, fJ, fh, fc, fp, st, po, fu, lo, la, lb, sp, sq, sto, edg, fai, lah, iat, ida, sta, ex, lg, blk) (zp_pw i 1) x := by
  refine br_f (zp_pwne (by omega)) (br_c (fun e => ?_) (fun e => ?_))
  · rw [e, zp_pw0] at hp; exact hp
  · obtain ⟨j, hj, rfl⟩ := zp_gen hx e
    have a := zp_lge T.2 hi
    have b := zp_lge T.2 hj
    refine And.intro a.1 (And.intro b.1 ?_)
    rw [a.2, b.2, nI_add, nI_clamp (by omega), T.1 _ (by omega), zp_pwadd]
    exact And.intro (vp_in_nI (by omega) (by omega)) hp
theorem zx_ovr {post : Int32 → Prop} {m : Nat} {x : Int32} (T : zr_T ex lg) (hm : m < 255) (hx : zp_by x) (hp : ∀ y, zp_by y → zp_pw m y = x → post y) : wpX_over post (fn, fk, fS, fJ, fh, fc, fp, st, po, fu, lo, la, lb, sp, sq, sto, edg, fai, lah, iat, ida, sta, ex, lg, blk) x (zp_pw m 1) := by
  refine br_c (fun e => hp 0 zp_by0 (by rw [e, zp_pw0])) (fun e => br_f (zp_pwne (by omega)) ?_)
  obtain ⟨j, hj, rfl⟩ := zp_gen hx e
  have a := zp_lge T.2 hj
  have b := zp_lge T.2 hm
  refine And.intro a.1 (And.intro b.1 ?_)
  have q : nI j - nI m + 255 = nI (j + 255 - m) := by
    rw [zx_sac]
    show nI j + nI 255 - nI m = _
    rw [nI_add, pk_sub (by omega)]
  rw [a.2, b.2, q, nI_clamp (by omega), T.1 _ (by omega)]
  refine And.intro (vp_in_nI (by omega) (by omega)) (hp _ (zp_pwby zp_by1 _) ?_)
  rw [← zp_pwadd, show m + (j + 255 - m) = j + 255 by omega, zp_pwadd, zp_pw255]
end
/-! the gathered stripe -/
def zp_gb (sto edg : Nat → Int32) (k s j : Nat) : Int32 := if edg (zp_dk (k + 2) s j) ≤ nI s then 0 else sto (zp_dk (k + 2) s j * 16 + s)
def zp_G (M : Nat → Prop) (r : Nat) (lo la lb : Int32) : Prop := (lo = 0 ∧ zp_C0 M r) ∨
  (∃ a, a < r ∧ lo = 1 ∧ la = nI a ∧ M a ∧ ∀ j, j < r → j ≠ a → ¬ M j) ∨
  (∃ a b, a < b ∧ b < r ∧ lo = 2 ∧ la = nI a ∧ lb = nI b ∧ M a ∧ M b ∧ ∀ j, j < r → j ≠ a → j ≠ b → ¬ M j)
theorem zp_Gn {M : Nat → Prop} {r : Nat} {lo la lb : Int32} (h : zp_G M r lo la lb) (hm : ¬ M r) : zp_G M (r + 1) lo la lb := by
  rcases h with ⟨e, h⟩ | ⟨a, ha, e1, e2, hM, h⟩ | ⟨a, b, hab, hb, e1, e2, e3, hMa, hMb, h⟩
  · refine Or.inl ⟨e, fun j hj => ?_⟩
    rcases Nat.lt_succ_iff_lt_or_eq.1 hj with q | rfl
    · exact h j q
    · exact hm
  · refine Or.inr (Or.inl ⟨a, by omega, e1, e2, hM, fun j hj hn => ?_⟩)
    rcases Nat.lt_succ_iff_lt_or_eq.1 hj with q | rfl
    · exact h j q hn
    · exact hm
  · refine Or.inr (Or.inr ⟨a, b, hab, by omega, e1, e2, e3, hMa, hMb, fun j hj h1 h2 => ?_⟩)
    rcases Nat.lt_succ_iff_lt_or_eq.1 hj with q | rfl
    · exact h j q h1 h2
    · exact hm
theorem zp_Gy0 {M : Nat → Prop} {r : Nat} {lo la lb : Int32} (h : zp_G M r lo la lb) (hm : M r) (h0 : lo = 0) : zp_G M (r + 1) (lo + 1) (nI r) lb := by
  rcases h with ⟨e, h⟩ | ⟨a, ha, e1, e2, hM, h⟩ | ⟨a, b, hab, hb, e1, e2, e3, hMa, hMb, h⟩
  · exact Or.inr (Or.inl ⟨r, by omega, by rw [e]; decide, rfl, hm, fun j hj hn => h j (by omega)⟩)
  · rw [h0] at e1; exact absurd e1 (by decide)
  · rw [h0] at e1; exact absurd e1 (by decide)
theorem zp_Gy1 {M : Nat → Prop} {r n : Nat} {lo la lb : Int32} (N : zp_N3 M n) (hr : r < n) (h : zp_G M r lo la lb) (hm : M r) (h0 : ¬ lo = 0) : zp_G M (r + 1) (lo + 1) la (nI r) := by
  rcases h with ⟨e, h⟩ | ⟨a, ha, e1, e2, hM, h⟩ | ⟨a, b, hab, hb, e1, e2, e3, hMa, hMb, h⟩
  · exact absurd e h0
  · exact Or.inr (Or.inr ⟨a, r, ha, by omega, by rw [e1]; decide, e2, rfl, hM, hm, fun j hj h1 h2 => h j (by omega) h1⟩)
  · exact absurd hm (fun _ => N a b r (by omega) (by omega) hr (by omega) (by omega) (by omega) hMa hMb hm)
theorem zx_ix (d s : Nat) : nI d * 16 + nI s = nI (d * 16 + s) := by
  show nI d * nI 16 + nI s = _
  rw [pk_mul, nI_add]
section
variable {fn fk fS fJ fh fc fp st po fu lo la lb sp sq : Int32} {sto edg fai lah iat ida sta ex lg blk con wd wm its : Nat → Int32}
theorem zx_ga17 {post : SX → Prop} {k s : Nat} (hk : k ≤ 6) (hs : s < 16) (N : zp_N3 (fun r => edg (zp_dk (k + 2) s r) ≤ nI s) (k + 2))
    (hp : ∀ (lo la lb : Int32) (blk : Nat → Int32), zp_G (fun r => edg (zp_dk (k + 2) s r) ≤ nI s) (k + 2) lo la lb → (∀ j, j < k + 2 → blk j = zp_gb sto edg k s j) →
      post (nI (k + 2), fk, fS, fJ, fh, fc, fp, st, po, fu, lo, la, lb, zp_sp blk k, zp_sq blk k, sto, edg, fai, lah, iat, ida, sta, ex, lg, blk)) (m : Nat) :
    ∀ (r : Nat) (lo la lb : Int32) (blk : Nat → Int32), r + m = k + 2 → zp_G (fun r => edg (zp_dk (k + 2) s r) ≤ nI s) r lo la lb → (∀ j, j < r → blk j = zp_gb sto edg k s j) →
      wX_gather_17 post (nI s) (nI (k + 2)) fk fS fJ fh fc fp st po fu sp sq (m + 1) (nI r) lo la lb sto edg fai lah iat ida sta ex lg blk := by
  induction m with
  | zero =>
    intro r lo la lb blk h hG hb
    have : r = k + 2 := by omega
    subst this
    exact br_t (nI_le (Nat.le_refl _) (by omega)) (zx_cs hk (hp lo la lb blk hG hb))
  | succ m ih =>
    intro r lo la lb blk h hG hb
    have hd : zp_dk (k + 2) s r < k + 2 := zp_dklt (by omega)
    have hup : ∀ v, v = zp_gb sto edg k s r → ∀ j, j < r + 1 → upd blk r v j = zp_gb sto edg k s j := by
      intro v hv j hj
      by_cases e : j = r
      · subst e; rw [pk_us, hv]
      · rw [pk_un e]; exact hb j (by omega)
    refine br_f (nI_ge (by omega) (by omega)) (zx_dko hk (by omega) (by omega) (zx_pres (by omega) (fun e => ?_) (fun e => ?_)))
    · refine br_t rfl (And.intro (vp_in_nI (by omega) (by omega)) (nm_r (zx_u (by omega)) (br_c (fun z => ?_) (fun z => ?_))))
      · exact nm_e (nm_r (nI_1 r) (ih (r + 1) _ _ _ _ (by omega) (zp_Gy0 hG e z) (hup 0 (if_pos e).symm)))
      · exact nm_e (nm_r (nI_1 r) (ih (r + 1) _ _ _ _ (by omega) (zp_Gy1 N (by omega) hG e z) (hup 0 (if_pos e).symm)))
    · have z := zx_ix (zp_dk (k + 2) s r) s
      have l : zp_dk (k + 2) s r * 16 + s < 128 := by omega
      refine br_f (by decide) ?_
      rw [z]
      refine And.intro (vp_in_nI l (by omega)) (And.intro (vp_in_nI (by omega) (by omega)) (nm_r (e' := upd blk r (sto (zp_dk (k + 2) s r * 16 + s))) ?_ (nm_r (nI_1 r) (ih (r + 1) _ _ _ _ (by omega) (zp_Gn hG e) (hup _ (if_neg e).symm)))))
      rw [nI_clamp (by omega), nI_clamp (by omega)]
theorem zx_ga {post : SX → Prop} {k s : Nat} (hk : k ≤ 6) (hs : s < 16) (N : zp_N3 (fun d => edg d ≤ nI s) (k + 2))
    (hp : ∀ (lo la lb : Int32) (blk : Nat → Int32), zp_G (fun r => edg (zp_dk (k + 2) s r) ≤ nI s) (k + 2) lo la lb → (∀ j, j < k + 2 → blk j = zp_gb sto edg k s j) →
      post (nI (k + 2), fk, fS, fJ, fh, fc, fp, st, po, fu, lo, la, lb, zp_sp blk k, zp_sq blk k, sto, edg, fai, lah, iat, ida, sta, ex, lg, blk)) : wpX_gather post (nI (k + 2), fk, fS, fJ, fh, fc, fp, st, po, fu, lo, la, lb, sp, sq, sto, edg, fai, lah, iat, ida, sta, ex, lg, blk) (nI s) :=
  Exists.intro (k + 3) (zx_ga17 hk hs
    (fun a b c ha hb hc h1 h2 h3 m1 m2 m3 => N _ _ _ (zp_dklt (by omega)) (zp_dklt (by omega)) (zp_dklt (by omega)) (fun e => h1 (zp_dkinj ha hb e)) (fun e => h2 (zp_dkinj ha hc e)) (fun e => h3 (zp_dkinj hb hc e)) m1 m2 m3)
    hp (k + 2) 0 0 (-1) (-1) blk (by omega) (Or.inl ⟨rfl, fun j hj => absurd hj (Nat.not_lt_zero j)⟩) (fun j hj => absurd hj (Nat.not_lt_zero j)))
end
end
section
/-! the component's repairs of the scratch stripe -/
section
variable {fn fk fS fJ fh fc fp st po fu lo la lb sp sq : Int32} {sto edg fai lah iat ida sta ex lg blk con wd wm its : Nat → Int32}
theorem zx_load2 {post : SX → Prop} {k sl : Nat} (hk : k ≤ 6) (hsl : sl < 4)
    (hp : ∀ (sp sq : Int32) (blk : Nat → Int32), (∀ i, i < k → blk (2 + i) = ida (sl * 6 + i)) → blk 0 = zp_hp blk 2 k → blk 1 = zp_hq blk 2 k → post (nI (k + 2), nI k, fS, fJ, fh, fc, fp, st, po, fu, lo, la, lb, sp, sq, sto, edg, fai, lah, iat, ida, sta, ex, lg, blk)) (m : Nat) :
    ∀ (i : Nat) (blk : Nat → Int32), i + m = k → (∀ j, j < i → blk (2 + j) = ida (sl * 6 + j)) →
      wX_loadImage_2 post (nI sl) (nI (k + 2)) (nI k) fS fJ fh fc fp st po fu lo la lb sp sq (m + 1) (nI i) sto edg fai lah iat ida sta ex lg blk := by
  induction m with
  | zero =>
    intro i blk h hb
    have : i = k := by omega
    subst this
    refine br_t (nI_le (Nat.le_refl _) (by omega)) (nm_e (nm_e (zx_cs hk (nm_e (nm_e (hp _ _ _ ?_ ?_ ?_))))))
    · intro j hj
      rw [pk_un (by omega), pk_un (by omega), pk_un (by omega), pk_un (by omega)]
      exact hb j hj
    · rw [pk_un (by omega), pk_us]
      unfold zp_sp
      rw [pk_un (by omega), pk_us, Int32.xor_zero]
      exact (zp_hc i 2 (fun j h1 h2 => by rw [pk_un (by omega), pk_un (by omega), pk_un (by omega), pk_un (by omega)]; rw [pk_un (by omega), pk_un (by omega)])).1
    · rw [pk_us]
      unfold zp_sq
      rw [pk_us, Int32.xor_zero]
      exact (zp_hc i 2 (fun j h1 h2 => by rw [pk_un (by omega), pk_un (by omega), pk_un (by omega), pk_un (by omega)]; rw [pk_un (by omega), pk_un (by omega)])).2
  | succ m ih =>
    intro i blk h hb
    have e1 : nI sl * 6 + nI i = nI (sl * 6 + i) := by
      show nI sl * nI 6 + nI i = _
      rw [pk_mul, nI_add]
    have e2 : 2 + nI i = nI (2 + i) := nI_add 2 i
    refine br_f (nI_ge (by omega) (by omega)) ?_
    rw [e1, e2]
    refine And.intro (vp_in_nI (by omega) (by omega)) (And.intro (vp_in_nI (by omega) (by omega)) (nm_r (e' := upd blk (2 + i) (ida (sl * 6 + i))) ?_ (nm_r (nI_1 i) (ih (i + 1) _ (by omega) ?_))))
    · rw [nI_clamp (by omega), nI_clamp (by omega)]
    · intro j hj
      by_cases e : j = i
      · subst e; rw [pk_us]
      · rw [pk_un (by omega)]; exact hb j (by omega)
theorem zx_load {post : SX → Prop} {k sl : Nat} (hk : k ≤ 6) (hsl : sl < 4)
    (hp : ∀ (sp sq : Int32) (blk : Nat → Int32), (∀ i, i < k → blk (2 + i) = ida (sl * 6 + i)) → blk 0 = zp_hp blk 2 k → blk 1 = zp_hq blk 2 k → post (nI (k + 2), nI k, fS, fJ, fh, fc, fp, st, po, fu, lo, la, lb, sp, sq, sto, edg, fai, lah, iat, ida, sta, ex, lg, blk)) :
    wpX_loadImage post (nI (k + 2), nI k, fS, fJ, fh, fc, fp, st, po, fu, lo, la, lb, sp, sq, sto, edg, fai, lah, iat, ida, sta, ex, lg, blk) (nI sl) :=
  Exists.intro (k + 1) (zx_load2 hk hsl hp k 0 blk (by omega) (fun j hj => absurd hj (Nat.not_lt_zero j)))
theorem zx_ce69 {post : Int32 → SX → Prop} {a : Nat} {e : Int32} (ha : a < 8) (he : (if a = 1 then sq else sp) = e)
    (hp : ∀ blk' : Nat → Int32, (∀ j, j ≠ a → blk' j = blk j) → blk' a = blk a ^^^ e → post (nI a) (fn, fk, fS, fJ, fh, fc, fp, st, po, fu, lo, la, lb, sp, sq, sto, edg, fai, lah, iat, ida, sta, ex, lg, blk')) : wX_correctError_69 post (nI a) fn fk fS fJ fh fc fp st po fu lo la lb sp sq sto edg fai lah iat ida sta ex lg blk := by
  refine And.intro (vp_in_nI ha (by omega)) ?_
  by_cases h : a = 1
  · subst h
    refine br_t (by decide) (And.intro (vp_in_nI ha (by omega)) (nm_r (e' := upd blk 1 (blk 1 ^^^ sq)) (by rw [nI_clamp (by omega)]) (hp _ (fun j hj => pk_un hj) ?_)))
    rw [pk_us, ← he]; rfl
  · refine br_f (fun q => h ((nI_eq (b := 1) (by omega) (by omega)).1 q)) (And.intro (vp_in_nI ha (by omega)) (nm_r (e' := upd blk a (blk a ^^^ sp)) (by rw [nI_clamp (by omega)]) (hp _ (fun j hj => pk_un hj) ?_)))
    rw [pk_us, ← he, if_neg h]
theorem zp_lgx {a j : Nat} (ha : 2 ≤ a) (ha8 : a < 8) (hj : j < 255) : ∃ l, l < 255 ∧ zp_pw (a - 2) (zp_pw j 1) = zp_pw l 1 ∧ j ≤ l + 255 ∧ (l + 255 - j) % 255 = a - 2 := by
  by_cases h : a - 2 + j < 255
  · refine ⟨a - 2 + j, h, (zp_pwadd _ _ _).symm, by omega, by omega⟩
  · refine ⟨a - 2 + j - 255, by omega, ?_, by omega, by omega⟩
    rw [← zp_pwadd, show a - 2 + j = (a - 2 + j - 255) + 255 by omega, zp_pwadd, zp_pw255]
    rw [show a - 2 + j - 255 + 255 - 255 = a - 2 + j - 255 by omega]
theorem zx_cerr {post : Int32 → SX → Prop} {k a : Nat} {e : Int32} (T : zr_T ex lg) (hk : k ≤ 6) (ha : a < k + 2) (he : zp_by e) (hne : ¬ e = 0) (hsp : sp = zp_vP a e) (hsq : sq = zp_vQ a e)
    (hp : ∀ blk' : Nat → Int32, (∀ j, j ≠ a → blk' j = blk j) → blk' a = blk a ^^^ e → post (nI a) (fn, nI k, fS, fJ, fh, fc, fp, st, po, fu, lo, la, lb, sp, sq, sto, edg, fai, lah, iat, ida, sta, ex, lg, blk')) : wpX_correctError post (fn, nI k, fS, fJ, fh, fc, fp, st, po, fu, lo, la, lb, sp, sq, sto, edg, fai, lah, iat, ida, sta, ex, lg, blk) := by
  by_cases h1 : a = 1
  · subst h1
    exact br_t hsp (zx_ce69 (a := 1) (by omega) (by rw [if_pos rfl]; exact hsq) hp)
  · rw [zp_vPn e h1] at hsp
    have n1 : ¬ sp = 0 := by rw [hsp]; exact hne
    by_cases h0 : a = 0
    · subst h0
      exact br_f n1 (br_t hsq (zx_ce69 (a := 0) (by omega) (by rw [if_neg (by omega)]; exact hsp) hp))
    · rw [zp_vQn e (by omega)] at hsq
      have n2 : ¬ sq = 0 := by
        rw [hsq]
        exact fun q => hne (zp_pwz he (by omega) q)
      obtain ⟨j, hj, ej⟩ := zp_gen he hne
      obtain ⟨l, hl, el, hjl, em⟩ := zp_lgx (a := a) (by omega) (by omega) hj
      have b1 := zp_lge T.2 hl
      have b2 := zp_lge T.2 hj
      have q1 : sq = zp_pw l 1 := by rw [hsq, ej, el]
      have q2 : sp = zp_pw j 1 := by rw [hsp, ej]
      rw [← q1] at b1
      rw [← q2] at b2
      have w : nI l - nI j + 255 = nI (l + 255 - j) := by
        rw [zx_sac]
        show nI l + nI 255 - nI j = _
        rw [nI_add, pk_sub hjl]
      have w2 : (lg (sq &&& 255).toNatClampNeg - lg (sp &&& 255).toNatClampNeg + 255) - (lg (sq &&& 255).toNatClampNeg - lg (sp &&& 255).toNatClampNeg + 255) / 255 * 255 = nI (a - 2) := by
        rw [b1.2, b2.2, w]
        show nI (l + 255 - j) - nI (l + 255 - j) / nI 255 * nI 255 = _
        rw [pk_rem (by omega) (by omega) (by omega), em]
      refine br_f n1 (br_f n2 (And.intro b1.1 (And.intro b2.1 (And.intro (by decide) (nm_r w2 (br_f (nI_ge (by omega) (by omega)) (nm_r (e' := nI a) ?_ (zx_ce69 (by omega) (by rw [if_neg h1]; exact hsp) hp))))))))
      show nI 2 + nI (a - 2) = nI a
      rw [nI_add, show 2 + (a - 2) = a by omega]
theorem zx_s1 {post : SX → Prop} {a : Nat} {x : Int32} (ha : a < 8) (hla : la = nI a) (hsp : sp = zp_vP a x) (hsq : sq = zp_vQ a x)
    (hp : ∀ blk' : Nat → Int32, (∀ j, j ≠ a → blk' j = blk j) → blk' a = x → post (fn, fk, fS, fJ, fh, fc, fp, st, po, fu, lo, la, lb, sp, sq, sto, edg, fai, lah, iat, ida, sta, ex, lg, blk')) : wpX_solveOne post (fn, fk, fS, fJ, fh, fc, fp, st, po, fu, lo, la, lb, sp, sq, sto, edg, fai, lah, iat, ida, sta, ex, lg, blk) := by
  have v : vp_in la 8 := by rw [hla]; exact vp_in_nI ha (by omega)
  have e : la.toNatClampNeg = a := by rw [hla]; exact nI_clamp (by omega)
  by_cases h : a = 1
  · subst h
    refine br_t hla (And.intro v (nm_r (e' := upd blk 1 sq) (by rw [e]) (hp _ (fun j hj => pk_un hj) ?_)))
    rw [pk_us, hsq]; rfl
  · refine br_f (fun q => h ((nI_eq (b := 1) (by omega) (by omega)).1 (hla.symm.trans q))) (And.intro v (nm_r (e' := upd blk a sp) (by rw [e]) (hp _ (fun j hj => pk_un hj) ?_)))
    rw [pk_us, hsp, zp_vPn x h]
theorem zx_s2 {post : SX → Prop} {a b : Nat} {x y : Int32} (T : zr_T ex lg) (hab : a < b) (hb : b < 8) (hx : zp_by x) (hy : zp_by y) (hla : la = nI a) (hlb : lb = nI b)
    (hsp : sp = zp_vP a x ^^^ zp_vP b y) (hsq : sq = zp_vQ a x ^^^ zp_vQ b y)
    (hp : ∀ blk' : Nat → Int32, (∀ j, j ≠ a → j ≠ b → blk' j = blk j) → blk' a = x → blk' b = y → post (fn, fk, fS, fJ, fh, fc, fp, st, po, fu, lo, la, lb, sp, sq, sto, edg, fai, lah, iat, ida, sta, ex, lg, blk')) : wpX_solveTwo post (fn, fk, fS, fJ, fh, fc, fp, st, po, fu, lo, la, lb, sp, sq, sto, edg, fai, lah, iat, ida, sta, ex, lg, blk) := by
  have va : vp_in la 8 := by rw [hla]; exact vp_in_nI (by omega) (by omega)
  have vb : vp_in lb 8 := by rw [hlb]; exact vp_in_nI hb (by omega)
  have ea : la.toNatClampNeg = a := by rw [hla]; exact nI_clamp (by omega)
  have eb : lb.toNatClampNeg = b := by rw [hlb]; exact nI_clamp (by omega)
  by_cases h1 : b = 1
  · subst h1
    have : a = 0 := by omega
    subst this
    rw [zp_vPn x (by omega), zp_vP1, Int32.xor_zero] at hsp
    rw [zp_vQz, zp_vQ1, Int32.zero_xor] at hsq
    refine br_t hlb (nm_e (nm_e (hp _ (fun j h2 h3 => by rw [pk_un h3, pk_un h2]) ?_ ?_)))
    · rw [pk_un (by omega), pk_us, hsp]
    · rw [pk_us, hsq]
  · refine br_f (fun q => h1 ((nI_eq (b := 1) (by omega) (by omega)).1 (hlb.symm.trans q))) ?_
    rw [zp_vPn y h1] at hsp
    rw [zp_vQn y (by omega)] at hsq
    have hw : ∀ {post : Int32 → Prop}, post (zp_pw (b - 2) 1) → wpX_weightOf post (fn, fk, fS, fJ, fh, fc, fp, st, po, fu, lo, la, lb, sp, sq, sto, edg, fai, lah, iat, ida, sta, ex, lg, blk) lb := fun h => by
      rw [hlb]; exact zx_wt T (by omega) hb h
    refine hw ?_
    by_cases h0 : a = 0
    · subst h0
      rw [zp_vPn x (by omega)] at hsp
      rw [zp_vQz, Int32.zero_xor] at hsq
      have bsq : zp_by sq := by rw [hsq]; exact zp_pwby hy _
      refine br_t hla (zx_ovr T (by omega) bsq (fun z hz ez => ?_))
      have : z = y := zp_pwinj hz hy (by omega) (ez.trans hsq)
      subst this
      refine And.intro vb (nm_r (e' := upd blk b z) (by rw [eb]) (nm_e (hp _ (fun j h2 h3 => by rw [pk_un h2, pk_un h3]) ?_ ?_)))
      · rw [pk_us, hsp, zp_xc]
      · rw [pk_un (by omega), pk_us]
    · refine br_f (fun q => h0 ((nI_eq (b := 0) (by omega) (by omega)).1 (hla.symm.trans q))) ?_
      by_cases h2 : a = 1
      · subst h2
        rw [zp_vP1, Int32.zero_xor] at hsp
        rw [zp_vQ1] at hsq
        refine br_t hla (And.intro vb (nm_r (e' := upd blk b sp) (by rw [eb]) (zx_tms T (by omega) (by rw [hsp]; exact hy) (nm_e (hp _ (fun j h3 h4 => by rw [pk_un h3, pk_un h4]) ?_ ?_)))))
        · rw [pk_us, hsq, hsp, zp_xc]
        · rw [pk_un (by omega), pk_us, hsp]
      · refine br_f (fun q => h2 ((nI_eq (b := 1) (by omega) (by omega)).1 (hla.symm.trans q))) ?_
        rw [zp_vPn x h2] at hsp
        rw [zp_vQn x (by omega)] at hsq
        have hwa : ∀ {post : Int32 → Prop}, post (zp_pw (a - 2) 1) → wpX_weightOf post (fn, fk, fS, fJ, fh, fc, fp, st, po, fu, lo, la, lb, sp, sq, sto, edg, fai, lah, iat, ida, sta, ex, lg, blk) la := fun h => by
          rw [hla]; exact zx_wt T (by omega) (by omega) h
        have bsp : zp_by sp := by rw [hsp]; exact zp_byx hx hy
        obtain ⟨m, hm, em⟩ := zp_wsn (a := a - 2) (b := b - 2) (by omega) (by omega) (by omega)
        have er : sq ^^^ zp_pw (a - 2) sp = zp_pw m y := by
          rw [zp_ws em.symm hy, hsq, hsp, zp_pwx hx hy]
          exact zp_x5 _ _ _
        refine hwa (zx_tms T (by omega) bsp (nm_r er ?_))
        rw [em]
        refine zx_ovr T hm (zp_pwby hy m) (fun z hz ez => ?_)
        have : z = y := zp_pwinj hz hy (by omega) ez
        subst this
        refine And.intro vb (nm_r (e' := upd blk b z) (by rw [eb]) (And.intro va (nm_r (e' := upd (upd blk b z) a (sp ^^^ z)) (by rw [ea]) (hp _ (fun j h3 h4 => by rw [pk_un h3, pk_un h4]) ?_ ?_))))
        · rw [pk_us, hsp, zp_xc]
        · rw [pk_un (by omega), pk_us]
end
end
section
/-! the condition of a stripe -/
theorem zp_C2m {M : Nat → Prop} {n a b : Nat} (ha : a < n) (hb : b < n) (h : a ≠ b) (ma : M a) (mb : M b) : zp_C2 M n := by
  rcases Nat.lt_or_gt_of_ne h with q | q
  · exact ⟨a, b, q, hb, ma, mb⟩
  · exact ⟨b, a, q, ha, mb, ma⟩
def zp_ok1 (a : Nat) (sp sq : Int32) : Prop := (a = 0 → sq = 0) ∧ (a = 1 → sp = 0) ∧ (2 ≤ a → sq = zp_pw (a - 2) sp)
theorem zp_ok1i {a b : Nat} {x e : Int32} (hx : zp_by x) (he : zp_by e) (ha : a < 8) (hb : b < 8) (hab : a ≠ b) :
    zp_ok1 a (zp_vP a x ^^^ zp_vP b e) (zp_vQ a x ^^^ zp_vQ b e) ↔ e = 0 := by
  unfold zp_ok1
  by_cases h0 : a = 0
  · subst h0
    rw [zp_vQz, Int32.zero_xor]
    refine ⟨fun h => (zp_vQnz he (by omega) (by omega)).1 (h.1 rfl), fun h => ⟨fun _ => (zp_vQnz he (by omega) (by omega)).2 h, fun q => absurd q (by omega), fun q => absurd q (by omega)⟩⟩
  · by_cases h1 : a = 1
    · subst h1
      rw [zp_vP1, Int32.zero_xor]
      refine ⟨fun h => (zp_vPnz (by omega)).1 (h.2.1 rfl), fun h => ⟨fun q => absurd q (by omega), fun _ => (zp_vPnz (by omega)).2 h, fun q => absurd q (by omega)⟩⟩
    · have c := zp_c1 (a := a) (b := b) hx he (by omega) (by omega) (by omega) hab
      exact ⟨fun h => c.1 (h.2.2 (by omega)), fun h => ⟨fun q => absurd q h0, fun q => absurd q h1, fun _ => c.2 h⟩⟩
section
variable {fn fk fS fJ fh fc fp st po fu lo la lb sp sq : Int32} {sto edg fai lah iat ida sta ex lg blk con wd wm its : Nat → Int32}
theorem zx_inc0 {post : Int32 → Prop} (h0 : sp = 0 → sq = 0 → post 0) (h1 : ¬ (sp = 0 ∧ sq = 0) → post 1) : wpX_inconsistent post (fn, fk, fS, fJ, fh, fc, fp, st, po, fu, 0, la, lb, sp, sq, sto, edg, fai, lah, iat, ida, sta, ex, lg, blk) :=
  br_t rfl (br_c (fun e => br_c (fun f => h0 e f) (fun f => h1 (fun q => f q.2))) (fun e => h1 (fun q => e q.1)))
theorem zx_inc1 {post : Int32 → Prop} {a : Nat} (T : zr_T ex lg) (ha : a < 8) (hsp : zp_by sp) (h0 : zp_ok1 a sp sq → post 0) (h1 : ¬ zp_ok1 a sp sq → post 1) : wpX_inconsistent post (fn, fk, fS, fJ, fh, fc, fp, st, po, fu, 1, nI a, lb, sp, sq, sto, edg, fai, lah, iat, ida, sta, ex, lg, blk) := by
  refine br_f (by decide) (br_t rfl ?_)
  by_cases q0 : a = 0
  · subst q0
    exact br_t rfl (br_c (fun e => h0 ⟨fun _ => e, fun q => absurd q (by omega), fun q => absurd q (by omega)⟩) (fun e => h1 (fun q => e (q.1 rfl))))
  · refine br_f (fun q => q0 ((nI_eq (b := 0) (by omega) (by omega)).1 q)) ?_
    by_cases q1 : a = 1
    · subst q1
      exact br_t rfl (br_c (fun e => h0 ⟨fun q => absurd q (by omega), fun _ => e, fun q => absurd q (by omega)⟩) (fun e => h1 (fun q => e (q.2.1 rfl))))
    · refine br_f (fun q => q1 ((nI_eq (b := 1) (by omega) (by omega)).1 q)) (zx_wt T (by omega) ha (zx_tms T (by omega) hsp ?_))
      exact br_c (fun e => h0 ⟨fun q => absurd q q0, fun q => absurd q q1, fun _ => e⟩) (fun e => h1 (fun q => e (q.2.2 (by omega))))
theorem zx_inc2 {post : Int32 → Prop} (h : post 0) : wpX_inconsistent post (fn, fk, fS, fJ, fh, fc, fp, st, po, fu, 2, la, lb, sp, sq, sto, edg, fai, lah, iat, ida, sta, ex, lg, blk) := br_f (by decide) (br_f (by decide) h)
end
def zp_E (edg con wd wm : Nat → Int32) (k s r : Nat) : Int32 := if edg (zp_dk (k + 2) s r) ≤ nI s then zp_C con k s r else zp_er wd wm s (zp_dk (k + 2) s r)
section
variable {k S J h c p : Nat} {st po fu lo la lb sp sq : Int32} {sto edg fai lah iat ida sta ex lg blk con wd wm its : Nat → Int32}
theorem zr_gE (H : zr_I k S J h c p st sto edg fai lah iat ida sta ex lg con wd wm its) {s : Nat} (hs : s < S) (hn : ¬ zp_bz its c s) (hb : ∀ j, j < k + 2 → blk j = zp_gb sto edg k s j) :
    ∀ r, r < k + 2 → zp_by (zp_C con k s r) ∧ zp_by (zp_E edg con wd wm k s r) ∧ blk r = zp_C con k s r ^^^ zp_E edg con wd wm k s r := by
  intro r hr
  have c1 := zr_cby H hs r hr
  refine ⟨c1, ?_, ?_⟩
  · unfold zp_E
    by_cases m : edg (zp_dk (k + 2) s r) ≤ nI s
    · rw [if_pos m]; exact c1
    · rw [if_neg m]
      unfold zp_er
      by_cases w : wd s = nI (zp_dk (k + 2) s r)
      · rw [if_pos w]; exact (H.2.2.2.2.2.1 s hs).1
      · rw [if_neg w]; exact zp_by0
  · rw [hb r hr]
    unfold zp_gb zp_E
    by_cases m : edg (zp_dk (k + 2) s r) ≤ nI s
    · rw [if_pos m, if_pos m, Int32.xor_self]
    · rw [if_neg m, if_neg m, H.2.2.2.2.2.2.1 s hs hn _ (zp_dklt (by omega)) m, zp_rodk hr]
theorem zr_syn (H : zr_I k S J h c p st sto edg fai lah iat ida sta ex lg con wd wm its) {s a b : Nat} (hs : s < S) (hn : ¬ zp_bz its c s) (hb : ∀ j, j < k + 2 → blk j = zp_gb sto edg k s j)
    (ha : a < k + 2) (hb2 : b < k + 2) (hab : a ≠ b) (hz : ∀ r, r < k + 2 → r ≠ a → r ≠ b → zp_E edg con wd wm k s r = 0) {x y : Int32} (ex1 : zp_E edg con wd wm k s a = x) (ey : zp_E edg con wd wm k s b = y) :
    zp_sp blk k = zp_vP a x ^^^ zp_vP b y ∧ zp_sq blk k = zp_vQ a x ^^^ zp_vQ b y := by
  rw [← ex1, ← ey]
  exact zp_s2 (C := zp_C con k s) (zp_cws (fun i => con (s * k + i)) k) ha hb2 hab (zr_gE H hs hn hb) hz
theorem zr_E0 {s r : Nat} (hw : wm s = 0) (hm : ¬ edg (zp_dk (k + 2) s r) ≤ nI s) : zp_E edg con wd wm k s r = 0 := by
  unfold zp_E zp_er
  rw [if_neg hm, hw]
  by_cases w : wd s = nI (zp_dk (k + 2) s r)
  · rw [if_pos w]
  · rw [if_neg w]
theorem zr_Em {s r : Nat} (hm : edg (zp_dk (k + 2) s r) ≤ nI s) : zp_E edg con wd wm k s r = zp_C con k s r := if_pos hm
theorem zr_Ew {s d : Nat} (hk : k ≤ 6) (hd : d < k + 2) (hw : wd s = nI d) (hm : ¬ edg d ≤ nI s) : zp_E edg con wd wm k s (zp_ro (k + 2) s d) = wm s := by
  unfold zp_E zp_er
  rw [zp_dkro hd, if_neg hm, if_pos hw]
theorem zr_Eo {s d r : Nat} (hk : k ≤ 6) (hd : d < k + 2) (hw : wd s = nI d) (hr : r < k + 2) (hn : r ≠ zp_ro (k + 2) s d) (hm : ¬ edg (zp_dk (k + 2) s r) ≤ nI s) : zp_E edg con wd wm k s r = 0 := by
  have l := zp_dklt (n := k + 2) (s := s) (r := r) (by omega)
  unfold zp_E zp_er
  rw [if_neg hm, hw, if_neg]
  intro q
  have := (nI_eq (by omega) (by omega)).1 q
  exact hn (by rw [this, zp_rodk hr])
/-- recover's three roads -/
theorem zx_rec10 {post : SX → Prop} {s : Int32} (hp : post (nI (k + 2), nI k, nI S, nI J, nI h, nI c, nI p, st, po, fu, lo, la, lb, sp, sq, sto, edg, fai, lah, iat, ida, sta, ex, lg, blk)) : wpX_recover post (nI (k + 2), nI k, nI S, nI J, nI h, nI c, nI p, st, po, fu, lo, la, lb, sp, sq, sto, edg, fai, lah, iat, ida, sta, ex, lg, blk) s (-10) := br_f (by decide) (br_f (by decide) (br_f (by decide) hp))
theorem zx_rec11 {post : SX → Prop} {s : Int32} {a : Nat} {e : Int32} {C : Nat → Int32} (T : zr_T ex lg) (hk : k ≤ 6) (ha : a < k + 2) (he : zp_by e) (hne : ¬ e = 0) (hsp : sp = zp_vP a e) (hsq : sq = zp_vQ a e)
    (hb : ∀ j, j < k + 2 → j ≠ a → blk j = C j) (hba : blk a = C a ^^^ e)
    (hp : ∀ blk : Nat → Int32, (∀ j, j < k + 2 → blk j = C j) → post (nI (k + 2), nI k, nI S, nI J, nI h, nI c, nI p, st, po, fu, lo, la, lb, sp, sq, sto, edg, fai, lah, iat, ida, sta, ex, lg, blk)) : wpX_recover post (nI (k + 2), nI k, nI S, nI J, nI h, nI c, nI p, st, po, fu, lo, la, lb, sp, sq, sto, edg, fai, lah, iat, ida, sta, ex, lg, blk) s (-11) := by
  refine br_f (by decide) (br_t rfl (zx_cerr T hk ha he hne hsp hsq (fun blk' h1 h2 => hp blk' (fun j hj => ?_))))
  by_cases q : j = a
  · rw [q, h2, hba, zp_xc]
  · rw [h1 j q, hb j hj q]
theorem zx_rec91 {post : SX → Prop} {s : Int32} {a : Nat} {C : Nat → Int32} (hk : k ≤ 6) (ha : a < k + 2) (hla : la = nI a) (hsp : sp = zp_vP a (C a)) (hsq : sq = zp_vQ a (C a))
    (hb : ∀ j, j < k + 2 → j ≠ a → blk j = C j)
    (hp : ∀ blk : Nat → Int32, (∀ j, j < k + 2 → blk j = C j) → post (nI (k + 2), nI k, nI S, nI J, nI h, nI c, nI p, st, po, fu, 1, la, lb, sp, sq, sto, edg, fai, lah, iat, ida, sta, ex, lg, blk)) : wpX_recover post (nI (k + 2), nI k, nI S, nI J, nI h, nI c, nI p, st, po, fu, 1, la, lb, sp, sq, sto, edg, fai, lah, iat, ida, sta, ex, lg, blk) s (-9) := by
  refine br_f (by decide) (br_f (by decide) (br_t rfl (br_t rfl (zx_s1 (by omega) hla hsp hsq (fun blk' h1 h2 => hp blk' (fun j hj => ?_))))))
  by_cases q : j = a
  · rw [q, h2]
  · rw [h1 j q, hb j hj q]
theorem zx_rec92 {post : SX → Prop} {s : Int32} {a b : Nat} {C : Nat → Int32} (T : zr_T ex lg) (hk : k ≤ 6) (hab : a < b) (hb2 : b < k + 2) (hC : ∀ j, j < k + 2 → zp_by (C j)) (hla : la = nI a) (hlb : lb = nI b)
    (hsp : sp = zp_vP a (C a) ^^^ zp_vP b (C b)) (hsq : sq = zp_vQ a (C a) ^^^ zp_vQ b (C b))
    (hb : ∀ j, j < k + 2 → j ≠ a → j ≠ b → blk j = C j)
    (hp : ∀ blk : Nat → Int32, (∀ j, j < k + 2 → blk j = C j) → post (nI (k + 2), nI k, nI S, nI J, nI h, nI c, nI p, st, po, fu, 2, la, lb, sp, sq, sto, edg, fai, lah, iat, ida, sta, ex, lg, blk)) : wpX_recover post (nI (k + 2), nI k, nI S, nI J, nI h, nI c, nI p, st, po, fu, 2, la, lb, sp, sq, sto, edg, fai, lah, iat, ida, sta, ex, lg, blk) s (-9) := by
  refine br_f (by decide) (br_f (by decide) (br_t rfl (br_f (by decide) (zx_s2 T hab (by omega) (hC a (by omega)) (hC b hb2) hla hlb hsp hsq (fun blk' h1 h2 h3 => hp blk' (fun j hj => ?_))))))
  by_cases q : j = a
  · rw [q, h2]
  · by_cases q2 : j = b
    · rw [q2, h3]
    · rw [h1 j q q2, hb j hj q q2]
theorem zx_rec4 {post : SX → Prop} (H : zr_I k S J h c p st sto edg fai lah iat ida sta ex lg con wd wm its) {s : Nat} (hs : s < S) (hz : zp_bz its c s)
    (hp : ∀ (sp sq : Int32) (blk : Nat → Int32), (∀ j, j < k + 2 → blk j = zp_C con k s j) → post (nI (k + 2), nI k, nI S, nI J, nI h, nI c, nI p, st, po, fu, lo, la, lb, sp, sq, sto, edg, fai, lah, iat, ida, sta, ex, lg, blk)) : wpX_recover post (nI (k + 2), nI k, nI S, nI J, nI h, nI c, nI p, st, po, fu, lo, la, lb, sp, sq, sto, edg, fai, lah, iat, ida, sta, ex, lg, blk) (nI s) (-4) := by
  have g := H.1
  obtain ⟨g1, g2, g3, g4, g5, g6, g7, g8, -, -⟩ := g
  refine br_t rfl (zx_ys g7 (by omega) (zr_I1 H) (fun i hi e hy => br_f (nI_pos (by omega)) (zx_load g2 (by omega) (fun sp sq blk h1 h2 h3 => hp sp sq blk ?_))) (fun q => absurd hz (zr_bzn q)))
  obtain ⟨-, s', hs', e', hd⟩ := H.2.2.2.2.1 i hi
  have : s' = s := (nI_eq (by omega) (by omega)).1 (e'.symm.trans e)
  subst this
  exact zp_cwof (fun t ht => (h1 t ht).trans (hd hy t ht)) h2 h3
/-- the condition of stripe s, and what recover makes of it -/
theorem zx_cond {post : Int32 → SX → Prop} (H : zr_I k S J h c p st sto edg fai lah iat ida sta ex lg con wd wm its) {s : Nat} (hs : s < S)
    (h4 : zp_bz its c s → (∀ (post : SX → Prop) (fu : Int32), (∀ (sp sq : Int32) (blk : Nat → Int32), (∀ j, j < k + 2 → blk j = zp_C con k s j) → post (nI (k + 2), nI k, nI S, nI J, nI h, nI c, nI p, st, po, fu, lo, la, lb, sp, sq, sto, edg, fai, lah, iat, ida, sta, ex, lg, blk)) → wpX_recover post (nI (k + 2), nI k, nI S, nI J, nI h, nI c, nI p, st, po, fu, lo, la, lb, sp, sq, sto, edg, fai, lah, iat, ida, sta, ex, lg, blk) (nI s) (-4)) → post (-4) (nI (k + 2), nI k, nI S, nI J, nI h, nI c, nI p, st, po, fu, lo, la, lb, sp, sq, sto, edg, fai, lah, iat, ida, sta, ex, lg, blk))
    (h10 : ¬ zp_bz its c s → zp_C0 (fun d => edg d ≤ nI s) (k + 2) → wm s = 0 → ∀ (la lb sp sq : Int32) (blk : Nat → Int32),
      (∀ (post : SX → Prop) (fu : Int32), (∀ (sp sq : Int32) (blk : Nat → Int32), (∀ j, j < k + 2 → blk j = zp_C con k s j) → post (nI (k + 2), nI k, nI S, nI J, nI h, nI c, nI p, st, po, fu, 0, la, lb, sp, sq, sto, edg, fai, lah, iat, ida, sta, ex, lg, blk)) → wpX_recover post (nI (k + 2), nI k, nI S, nI J, nI h, nI c, nI p, st, po, fu, 0, la, lb, sp, sq, sto, edg, fai, lah, iat, ida, sta, ex, lg, blk) (nI s) (-10)) → post (-10) (nI (k + 2), nI k, nI S, nI J, nI h, nI c, nI p, st, po, fu, 0, la, lb, sp, sq, sto, edg, fai, lah, iat, ida, sta, ex, lg, blk))
    (h11 : ¬ zp_bz its c s → zp_C0 (fun d => edg d ≤ nI s) (k + 2) → ¬ wm s = 0 → ∀ (la lb sp sq : Int32) (blk : Nat → Int32),
      (∀ (post : SX → Prop) (fu : Int32), (∀ (sp sq : Int32) (blk : Nat → Int32), (∀ j, j < k + 2 → blk j = zp_C con k s j) → post (nI (k + 2), nI k, nI S, nI J, nI h, nI c, nI p, st, po, fu, 0, la, lb, sp, sq, sto, edg, fai, lah, iat, ida, sta, ex, lg, blk)) → wpX_recover post (nI (k + 2), nI k, nI S, nI J, nI h, nI c, nI p, st, po, fu, 0, la, lb, sp, sq, sto, edg, fai, lah, iat, ida, sta, ex, lg, blk) (nI s) (-11)) →
      (∀ (d : Nat) (post : Int32 → SX → Prop) (fu : Int32), d < k + 2 → wd s = nI d → (∀ (blk : Nat → Int32), (∀ j, j < k + 2 → blk j = zp_C con k s j) → post (nI (zp_ro (k + 2) s d)) (nI (k + 2), nI k, nI S, nI J, nI h, nI c, nI p, st, po, fu, 0, la, lb, sp, sq, sto, edg, fai, lah, iat, ida, sta, ex, lg, blk)) → wpX_correctError post (nI (k + 2), nI k, nI S, nI J, nI h, nI c, nI p, st, po, fu, 0, la, lb, sp, sq, sto, edg, fai, lah, iat, ida, sta, ex, lg, blk)) → post (-11) (nI (k + 2), nI k, nI S, nI J, nI h, nI c, nI p, st, po, fu, 0, la, lb, sp, sq, sto, edg, fai, lah, iat, ida, sta, ex, lg, blk))
    (h9 : ¬ zp_bz its c s → wm s = 0 → ∀ (lo la lb sp sq : Int32) (blk : Nat → Int32), (zp_C1 (fun d => edg d ≤ nI s) (k + 2) ∧ lo = 1 ∨ zp_C2 (fun d => edg d ≤ nI s) (k + 2) ∧ lo = 2) →
      (∀ (post : SX → Prop) (fu : Int32), (∀ (sp sq : Int32) (blk : Nat → Int32), (∀ j, j < k + 2 → blk j = zp_C con k s j) → post (nI (k + 2), nI k, nI S, nI J, nI h, nI c, nI p, st, po, fu, lo, la, lb, sp, sq, sto, edg, fai, lah, iat, ida, sta, ex, lg, blk)) → wpX_recover post (nI (k + 2), nI k, nI S, nI J, nI h, nI c, nI p, st, po, fu, lo, la, lb, sp, sq, sto, edg, fai, lah, iat, ida, sta, ex, lg, blk) (nI s) (-9)) → post (-9) (nI (k + 2), nI k, nI S, nI J, nI h, nI c, nI p, st, po, fu, lo, la, lb, sp, sq, sto, edg, fai, lah, iat, ida, sta, ex, lg, blk))
    (h8 : ¬ zp_bz its c s → ¬ wm s = 0 → zp_C1 (fun d => edg d ≤ nI s) (k + 2) → ∀ (lo la lb sp sq : Int32) (blk : Nat → Int32), post (-8) (nI (k + 2), nI k, nI S, nI J, nI h, nI c, nI p, st, po, fu, lo, la, lb, sp, sq, sto, edg, fai, lah, iat, ida, sta, ex, lg, blk)) :
    wpX_condition post (nI (k + 2), nI k, nI S, nI J, nI h, nI c, nI p, st, po, fu, lo, la, lb, sp, sq, sto, edg, fai, lah, iat, ida, sta, ex, lg, blk) (nI s) := by
  have g := H.1
  obtain ⟨g1, g2, g3, g4, g5, g6, g7, g8, -, -⟩ := g
  have T := H.2.2.1
  have cb := zr_cby H hs
  have fac := H.2.2.2.2.2.1 s hs
  refine zx_ys g7 (by omega) (zr_I1 H) (fun i hi e hy => br_f (nI_pos (by omega)) ?_) (fun q => br_t (by decide) ?_)
  · exact h4 ⟨i, hi, e⟩ (fun post fu hp => zx_rec4 H hs ⟨i, hi, e⟩ hp)
  · have hn := zr_bzn q
    refine zx_ga g2 (by omega) (zr_N3s H hs) (fun lo la lb blk hG hb => ?_)
    have gE := zr_gE H hs hn hb
    by_cases hw : wm s = 0
    · rcases hG with ⟨rfl, h0⟩ | ⟨a, ha, rfl, rfl, hM, hu⟩ | ⟨a, b, hab, hb2, rfl, rfl, rfl, hMa, hMb, hu⟩
      · have hz : ∀ r, r < k + 2 → zp_E edg con wd wm k s r = 0 := fun r hr => zr_E0 hw (h0 r hr)
        have sy := zr_syn H hs hn hb (a := 0) (b := 1) (by omega) (by omega) (by omega) (fun r hr _ _ => hz r hr) (hz 0 (by omega)) (hz 1 (by omega))
        rw [zp_vP0, zp_vP0, zp_vQ0, zp_vQ0] at sy
        have hbc : ∀ j, j < k + 2 → blk j = zp_C con k s j := fun j hj => by rw [(gE j hj).2.2, hz j hj, Int32.xor_zero]
        have d0 : zp_C0 (fun d => edg d ≤ nI s) (k + 2) := fun d hd => by
          have := h0 (zp_ro (k + 2) s d) (zp_rolt (by omega))
          dsimp only at this
          rw [zp_dkro hd] at this
          exact this
        refine zx_inc0 (fun _ _ => br_t rfl (br_t rfl (h10 hn d0 hw _ _ _ _ _ (fun post fu hp => zx_rec10 (hp _ _ _ hbc))))) (fun w => absurd ⟨sy.1.trans (by decide), sy.2.trans (by decide)⟩ w)
      · obtain ⟨b, hb2, hab⟩ : ∃ b, b < k + 2 ∧ a ≠ b := by
          by_cases z : a = 0
          · exact ⟨1, by omega, by omega⟩
          · exact ⟨0, by omega, z⟩
        have hz : ∀ r, r < k + 2 → r ≠ a → zp_E edg con wd wm k s r = 0 := fun r hr hra => zr_E0 hw (hu r hr hra)
        have sy := zr_syn H hs hn hb ha hb2 hab (fun r hr q1 _ => hz r hr q1) (zr_Em hM) (hz b hb2 (Ne.symm hab))
        have ok := (zp_ok1i (a := a) (b := b) (cb a ha) zp_by0 (by omega) (by omega) hab).2 rfl
        rw [← sy.1, ← sy.2] at ok
        have sp1 := sy.1
        have sq1 := sy.2
        rw [zp_vP0, Int32.xor_zero] at sp1
        rw [zp_vQ0, Int32.xor_zero] at sq1
        have d1 : zp_C1 (fun d => edg d ≤ nI s) (k + 2) := ⟨zp_dk (k + 2) s a, zp_dklt (by omega), hM, fun d hd hda => by
          have := hu (zp_ro (k + 2) s d) (zp_rolt (by omega)) (fun z => hda (by rw [← z, zp_dkro hd]))
          dsimp only at this
          rw [zp_dkro hd] at this
          exact this⟩
        refine zx_inc1 T (by omega) (by rw [sp1]; exact zp_vPby (cb a ha)) (fun _ => br_f (by decide) (br_t rfl (h9 hn hw _ _ _ _ _ _ (Or.inl ⟨d1, rfl⟩) (fun post fu hp => zx_rec91 g2 ha rfl sp1 sq1 (fun j hj hja => ?_) (fun blk hbl => hp _ _ blk hbl))))) (fun w => absurd ok w)
        rw [(gE j hj).2.2, hz j hj hja, Int32.xor_zero]
      · have hz : ∀ r, r < k + 2 → r ≠ a → r ≠ b → zp_E edg con wd wm k s r = 0 := fun r hr h1 h2 => zr_E0 hw (hu r hr h1 h2)
        have sy := zr_syn H hs hn hb (show a < k + 2 by omega) hb2 (by omega) hz (zr_Em hMa) (zr_Em hMb)
        have d2 : zp_C2 (fun d => edg d ≤ nI s) (k + 2) := zp_C2m (zp_dklt (by omega)) (zp_dklt (by omega)) (fun z => absurd (zp_dkinj (show a < k + 2 by omega) hb2 z) (by omega)) hMa hMb
        refine zx_inc2 (br_f (by decide) (br_t rfl (h9 hn hw _ _ _ _ _ _ (Or.inr ⟨d2, rfl⟩) (fun post fu hp => zx_rec92 T g2 hab hb2 cb rfl rfl sy.1 sy.2 (fun j hj h1 h2 => ?_) (fun blk hbl => hp _ _ blk hbl)))))
        rw [(gE j hj).2.2, hz j hj h1 h2, Int32.xor_zero]
    · obtain ⟨-, -, ⟨d, hd, ed, pd⟩, nc2⟩ := fac.2 hw
      have hr0 := zp_rolt (n := k + 2) (s := s) (d := d) (by omega)
      have mr0 : ¬ edg (zp_dk (k + 2) s (zp_ro (k + 2) s d)) ≤ nI s := by rw [zp_dkro hd]; exact pd
      rcases hG with ⟨rfl, h0⟩ | ⟨a, ha, rfl, rfl, hM, hu⟩ | ⟨a, b, hab, hb2, rfl, rfl, rfl, hMa, hMb, hu⟩
      · obtain ⟨b, hb2, hab⟩ : ∃ b, b < k + 2 ∧ zp_ro (k + 2) s d ≠ b := by
          by_cases z : zp_ro (k + 2) s d = 0
          · exact ⟨1, by omega, by omega⟩
          · exact ⟨0, by omega, z⟩
        have hz : ∀ r, r < k + 2 → r ≠ zp_ro (k + 2) s d → zp_E edg con wd wm k s r = 0 := fun r hr hra => zr_Eo g2 hd ed hr hra (h0 r hr)
        have sy := zr_syn H hs hn hb hr0 hb2 hab (fun r hr q1 _ => hz r hr q1) (zr_Ew g2 hd ed pd) (hz b hb2 (Ne.symm hab))
        rw [zp_vP0, Int32.xor_zero, zp_vQ0, Int32.xor_zero] at sy
        have d0 : zp_C0 (fun d => edg d ≤ nI s) (k + 2) := fun d hd => by
          have := h0 (zp_ro (k + 2) s d) (zp_rolt (by omega))
          dsimp only at this
          rw [zp_dkro hd] at this
          exact this
        have bo : ∀ j, j < k + 2 → j ≠ zp_ro (k + 2) s d → blk j = zp_C con k s j := fun j hj hja => by rw [(gE j hj).2.2, hz j hj hja, Int32.xor_zero]
        have ba : blk (zp_ro (k + 2) s d) = zp_C con k s (zp_ro (k + 2) s d) ^^^ wm s := by rw [(gE _ hr0).2.2, zr_Ew g2 hd ed pd]
        refine zx_inc0 (fun z1 z2 => absurd (zp_c0 fac.1 (by omega) (sy.1.symm.trans z1) (sy.2.symm.trans z2)) hw) (fun _ => br_t rfl (br_f (by decide) (h11 hn d0 hw _ _ _ _ _ (fun post fu hp => zx_rec11 T g2 hr0 fac.1 hw sy.1 sy.2 bo ba (fun blk hbl => hp _ _ blk hbl)) (fun d' post fu hd' ed' hp => ?_))))
        have : d' = d := (nI_eq (by omega) (by omega)).1 (ed'.symm.trans ed)
        subst this
        refine zx_cerr T g2 hr0 fac.1 hw sy.1 sy.2 (fun blk' h1 h2 => hp blk' (fun j hj => ?_))
        by_cases z : j = zp_ro (k + 2) s d'
        · rw [z, h2, ba, zp_xc]
        · rw [h1 j z, bo j hj z]
      · have hab : a ≠ zp_ro (k + 2) s d := fun z => mr0 (by rw [← z]; exact hM)
        have sy := zr_syn H hs hn hb ha hr0 hab (fun r hr q1 q2 => zr_Eo g2 hd ed hr q2 (hu r hr q1)) (zr_Em hM) (zr_Ew g2 hd ed pd)
        have ok := zp_ok1i (a := a) (b := zp_ro (k + 2) s d) (cb a ha) fac.1 (by omega) (by omega) hab
        rw [← sy.1, ← sy.2] at ok
        have d1 : zp_C1 (fun d => edg d ≤ nI s) (k + 2) := ⟨zp_dk (k + 2) s a, zp_dklt (by omega), hM, fun d hd hda => by
          have := hu (zp_ro (k + 2) s d) (zp_rolt (by omega)) (fun z => hda (by rw [← z, zp_dkro hd]))
          dsimp only at this
          rw [zp_dkro hd] at this
          exact this⟩
        exact zx_inc1 T (by omega) (by rw [sy.1]; exact zp_byx (zp_vPby (cb a ha)) (zp_vPby fac.1)) (fun w => absurd (ok.1 w) hw) (fun _ => br_f (by decide) (br_f (by decide) (h8 hn hw d1 _ _ _ _ _ _)))
      · exact absurd (zp_C2m (M := fun d => edg d ≤ nI s) (zp_dklt (by omega)) (zp_dklt (by omega)) (fun z => absurd (zp_dkinj (show a < k + 2 by omega) hb2 z) (by omega)) hMa hMb) nc2
/-- the same, where only 'damaged' matters -/
theorem zx_cond2 {post : Int32 → SX → Prop} (H : zr_I k S J h c p st sto edg fai lah iat ida sta ex lg con wd wm its) {s : Nat} (hs : s < S)
    (hok : ¬ (¬ wm s = 0 ∧ zp_C1 (fun d => edg d ≤ nI s) (k + 2)) → ∀ (r lo la lb sp sq : Int32) (blk : Nat → Int32), ¬ r = -8 →
      (∀ (post : SX → Prop) (fu : Int32), (∀ (sp sq : Int32) (blk : Nat → Int32), (∀ j, j < k + 2 → blk j = zp_C con k s j) → post (nI (k + 2), nI k, nI S, nI J, nI h, nI c, nI p, st, po, fu, lo, la, lb, sp, sq, sto, edg, fai, lah, iat, ida, sta, ex, lg, blk)) → wpX_recover post (nI (k + 2), nI k, nI S, nI J, nI h, nI c, nI p, st, po, fu, lo, la, lb, sp, sq, sto, edg, fai, lah, iat, ida, sta, ex, lg, blk) (nI s) r) → post r (nI (k + 2), nI k, nI S, nI J, nI h, nI c, nI p, st, po, fu, lo, la, lb, sp, sq, sto, edg, fai, lah, iat, ida, sta, ex, lg, blk))
    (h8 : ¬ wm s = 0 → zp_C1 (fun d => edg d ≤ nI s) (k + 2) → ∀ (lo la lb sp sq : Int32) (blk : Nat → Int32), post (-8) (nI (k + 2), nI k, nI S, nI J, nI h, nI c, nI p, st, po, fu, lo, la, lb, sp, sq, sto, edg, fai, lah, iat, ida, sta, ex, lg, blk)) :
    wpX_condition post (nI (k + 2), nI k, nI S, nI J, nI h, nI c, nI p, st, po, fu, lo, la, lb, sp, sq, sto, edg, fai, lah, iat, ida, sta, ex, lg, blk) (nI s) := by
  refine zx_cond H hs (fun hb R => ?_) (fun hn h0 hw la lb sp sq blk R => ?_) (fun hn h0 hw la lb sp sq blk R _ => ?_) (fun hn hw lo la lb sp sq blk _ R => ?_) (fun hn hw h1 lo la lb sp sq blk => h8 hw h1 lo la lb sp sq blk)
  · exact hok (fun q => ((H.2.2.2.2.2.1 s hs).2 q.1).1 hb) _ _ _ _ _ _ _ (by decide) R
  · exact hok (fun q => q.1 hw) _ _ _ _ _ _ _ (by decide) R
  · exact hok (fun q => zp_C01 h0 q.2) _ _ _ _ _ _ _ (by decide) R
  · exact hok (fun q => q.1 hw) _ _ _ _ _ _ _ (by decide) R
end
end
section
/-! walks of the reference -/
def zp_tc : Nat → Int32 → Prop
  | 0, _ => False
  | m + 1, x => x = 0 ∨ zp_tc m (zp_fu x)
def zp_tf : Nat → Int32 → Int32
  | 0, x => x
  | m + 1, x => zp_tf m (zp_fu x)
section
variable {fn fk fS fJ fh fc fp st po fu lo la lb sp sq : Int32} {sto edg fai lah iat ida sta ex lg blk con wd wm its : Nat → Int32}
theorem zy_drop7 {post : SY → Prop} (m : Nat) : ∀ (i : Nat) (sta : Nat → Int32), i + m = 6 → post (fn, fk, fS, fJ, fc, fp, po, st, fu, con, fai, edg, wd, wm, its, zp_fl (-1) sta i m) →
    wY_dropStage_7 post fn fk fS fJ fc fp po st fu (m + 1) (nI i) con fai edg wd wm its sta := by
  induction m with
  | zero =>
    intro i sta h hp
    exact br_t (nI_le (a := 6) (by omega) (by omega)) hp
  | succ m ih =>
    intro i sta h hp
    exact br_f (nI_ge (b := 6) (by omega) (by omega)) (And.intro (vp_in_nI (by omega) (by omega)) (nm_r (zx_u (by omega)) (nm_r (nI_1 i) (ih (i + 1) _ (by omega) hp))))
theorem zy_drop {post : SY → Prop} (hp : post (fn, fk, fS, fJ, fc, fp, po, -1, fu, con, fai, edg, wd, wm, its, zp_ds sta)) : wpY_dropStage post (fn, fk, fS, fJ, fc, fp, po, st, fu, con, fai, edg, wd, wm, its, sta) :=
  Exists.intro 7 (zy_drop7 6 0 sta (by omega) hp)
theorem zy_lose {post : SY → Prop} (hp : post (fn, fk, fS, fJ, fc, 0, 0, -1, -1, con, fai, edg, wd, wm, its, zp_ds sta)) : wpY_losePower post (fn, fk, fS, fJ, fc, fp, po, st, fu, con, fai, edg, wd, wm, its, sta) := by
  unfold wpY_losePower
  exact zy_drop hp
theorem zy_turn {post : Int32 → SY → Prop} (h0 : fu = 0 → post 0 (fn, fk, fS, fJ, fc, 0, 0, -1, -1, con, fai, edg, wd, wm, its, zp_ds sta)) (h1 : ¬ fu = 0 → post 1 (fn, fk, fS, fJ, fc, fp, po, st, zp_fu fu, con, fai, edg, wd, wm, its, sta)) : wpY_turn post (fn, fk, fS, fJ, fc, fp, po, st, fu, con, fai, edg, wd, wm, its, sta) := by
  refine br_c (fun e => ?_) (fun e => ?_)
  · exact zy_lose (h0 e)
  · have q := h1 e
    unfold zp_fu at q
    refine br_c (fun l => ?_) (fun l => nm_e ?_)
    · rw [if_pos l] at q; exact q
    · rw [if_neg l] at q; exact q
theorem zy_turns2 {post : Int32 → SY → Prop} {L : Nat} (hL : L < 2 ^ 31) (m : Nat) : ∀ (t : Nat) (fu : Int32), t + m = L → (zp_tc m fu → post 0 (fn, fk, fS, fJ, fc, 0, 0, -1, -1, con, fai, edg, wd, wm, its, zp_ds sta)) →
    (¬ zp_tc m fu → post 1 (fn, fk, fS, fJ, fc, fp, po, st, zp_tf m fu, con, fai, edg, wd, wm, its, sta)) → wY_turns_2 post (nI L) (m + 1) (nI t) fn fk fS fJ fc fp po st fu con fai edg wd wm its sta := by
  induction m with
  | zero =>
    intro t fu h hc hk
    exact br_t (nI_le (by omega) (by omega)) (hk (fun q => q))
  | succ m ih =>
    intro t fu h hc hk
    refine br_f (nI_ge (by omega) hL) (zy_turn (fun e => br_t rfl (hc (Or.inl e))) (fun e => br_f (by decide) (nm_r (nI_1 t) (ih (t + 1) _ (by omega) (fun q => hc (Or.inr q)) (fun q => hk (fun w => ?_))))))
    rcases w with w | w
    · exact e w
    · exact q w
theorem zy_turns {post : Int32 → SY → Prop} {L : Nat} (hL : L < 2 ^ 31) (hc : zp_tc L fu → post 0 (fn, fk, fS, fJ, fc, 0, 0, -1, -1, con, fai, edg, wd, wm, its, zp_ds sta))
    (hk : ¬ zp_tc L fu → post 1 (fn, fk, fS, fJ, fc, fp, po, st, zp_tf L fu, con, fai, edg, wd, wm, its, sta)) : wpY_turns post (fn, fk, fS, fJ, fc, fp, po, st, fu, con, fai, edg, wd, wm, its, sta) (nI L) :=
  Exists.intro (L + 1) (zy_turns2 hL L 0 fu (by omega) hc hk)
theorem zy_add {post : SY → Prop} {J c : Nat} {s : Int32} (hJ : J ≤ 4) (hc : c < J) (hp : post (fn, fk, fS, nI J, nI (c + 1), fp, po, st, fu, con, fai, edg, wd, wm, upd its c s, sta)) : wpY_addIntent post (fn, fk, fS, nI J, nI c, fp, po, st, fu, con, fai, edg, wd, wm, its, sta) s :=
  br_f (nI_ge hc (by omega)) (And.intro (vp_in_nI (by omega) (by omega)) (nm_r (zx_u (by omega)) (nm_r (nI_1 c) hp)))
theorem zy_busy2 {post : Int32 → Prop} {c s : Nat} (hc : c ≤ 4) (h1 : zp_bz its c s → post 1) (h0 : ¬ zp_bz its c s → post 0) (m : Nat) : ∀ i, i + m = c → (∀ j, j < i → ¬ its j = nI s) →
    wY_isBusy_2 post (nI s) fn fk fS fJ (nI c) fp po st fu con fai edg wd wm its sta (m + 1) (nI i) := by
  induction m with
  | zero =>
    intro i h hj
    exact br_t (nI_le (by omega) (by omega)) (h0 (fun ⟨j, h2, h3⟩ => hj j (by omega) h3))
  | succ m ih =>
    intro i h hj
    refine br_f (nI_ge (by omega) (by omega)) (And.intro (vp_in_nI (by omega) (by omega)) ?_)
    rw [nI_clamp (by omega)]
    refine br_c (fun e => h1 ⟨i, by omega, e⟩) (fun e => nm_r (nI_1 i) (ih (i + 1) (by omega) (fun j h2 => ?_)))
    rcases Nat.lt_succ_iff_lt_or_eq.1 h2 with w | rfl
    · exact hj j w
    · exact e
theorem zy_busy {post : Int32 → Prop} {c s : Nat} (hc : c ≤ 4) (h1 : zp_bz its c s → post 1) (h0 : ¬ zp_bz its c s → post 0) : wpY_isBusy post (fn, fk, fS, fJ, nI c, fp, po, st, fu, con, fai, edg, wd, wm, its, sta) (nI s) :=
  Exists.intro (c + 1) (zy_busy2 hc h1 h0 c 0 (by omega) (fun j hj => absurd hj (Nat.not_lt_zero j)))
theorem zy_mis4 {post : Int32 → Prop} {k : Nat} {s : Int32} (hk : k ≤ 6) (hp : ∀ x, zp_cn (fun d => edg d ≤ s) (k + 2) x → post x) (m : Nat) : ∀ (i : Nat) (x : Int32), i + m = k + 2 → zp_cn (fun d => edg d ≤ s) i x →
    wY_missing_4 post s (nI (k + 2)) fk fS fJ fc fp po st fu con fai edg wd wm its sta (m + 1) x (nI i) := by
  induction m with
  | zero =>
    intro i x h hx
    have : i = k + 2 := by omega
    subst this
    exact br_t (nI_le (Nat.le_refl _) (by omega)) (hp x hx)
  | succ m ih =>
    intro i x h hx
    refine br_f (nI_ge (by omega) (by omega)) (And.intro (vp_in_nI (by omega) (by omega)) ?_)
    rw [nI_clamp (by omega)]
    exact br_c (fun e => nm_r (nI_1 i) (ih (i + 1) _ (by omega) (zp_cnn hx (fun q => Int32.not_lt.2 q e)))) (fun e => nm_e (nm_r (nI_1 i) (ih (i + 1) _ (by omega) (zp_cny hx (Int32.not_lt.1 e)))))
theorem zy_mis {post : Int32 → Prop} {k : Nat} {s : Int32} (hk : k ≤ 6) (hp : ∀ x, zp_cn (fun d => edg d ≤ s) (k + 2) x → post x) : wpY_missing post (nI (k + 2), fk, fS, fJ, fc, fp, po, st, fu, con, fai, edg, wd, wm, its, sta) s :=
  Exists.intro (k + 3) (zy_mis4 hk hp (k + 2) 0 0 (by omega) (zp_cn0 _))
theorem zp_cn1 {M : Nat → Prop} {n : Nat} {x : Int32} (hn : n ≤ 8) (h : zp_cn M n x) : (x = 1 ↔ zp_C1 M n) ∧ (x = 0 ↔ zp_C0 M n) ∧ (2 ≤ x ↔ zp_C2 M n) := by
  rcases h with ⟨rfl, h⟩ | ⟨rfl, h⟩ | ⟨m, h2, hm, rfl, h⟩
  · exact ⟨⟨fun q => absurd q (by decide), fun q => (zp_C01 h q).elim⟩, ⟨fun _ => h, fun _ => rfl⟩, ⟨fun q => absurd q (by decide), fun q => (zp_C02 h q).elim⟩⟩
  · exact ⟨⟨fun _ => h, fun _ => rfl⟩, ⟨fun q => absurd q (by decide), fun q => (zp_C01 q h).elim⟩, ⟨fun q => absurd q (by decide), fun q => (zp_C12 h q).elim⟩⟩
  · refine ⟨⟨fun q => ?_, fun q => (zp_C12 q h).elim⟩, ⟨fun q => ?_, fun q => (zp_C02 q h).elim⟩, ⟨fun _ => h, fun _ => nI_le (a := 2) h2 (by omega)⟩⟩
    · exact absurd ((nI_eq (b := 1) (by omega) (by omega)).1 q) (by omega)
    · exact absurd ((nI_eq (b := 0) (by omega) (by omega)).1 q) (by omega)
theorem zy_dam {post : Int32 → Prop} {k s : Nat} (hk : k ≤ 6) (hs : s < 16) (h1 : ¬ wm s = 0 → zp_C1 (fun d => edg d ≤ nI s) (k + 2) → post 1)
    (h0 : ¬ (¬ wm s = 0 ∧ zp_C1 (fun d => edg d ≤ nI s) (k + 2)) → post 0) : wpY_isDamaged post (nI (k + 2), fk, fS, fJ, fc, fp, po, st, fu, con, fai, edg, wd, wm, its, sta) (nI s) := by
  refine And.intro (vp_in_nI hs (by omega)) ?_
  rw [nI_clamp (by omega)]
  refine br_c (fun e => h0 (fun q => q.1 e)) (fun e => zy_mis hk (fun x hx => ?_))
  have := zp_cn1 (by omega) hx
  exact br_c (fun q => h1 e (this.1.1 q)) (fun q => h0 (fun w => q (this.1.2 w.2)))
/-! the sound value of a block -/
theorem zy_snd79 {post : Int32 → Prop} {J30 : Int32 → Int32 → Prop} {x1 x2 x3 x4 x5 : Int32} {i : Nat} (hi : i < 100) (m : Nat) : ∀ (t : Nat) (v : Int32), t + m = i → J30 (x5 ^^^ zp_pw m v) (nI (i + 1)) →
    wY_soundValue_79 post J30 x1 x2 x3 x4 x5 (nI i) fn fk fS fJ fc fp po st fu con fai edg wd wm its sta (m + 1) v (nI t) := by
  induction m with
  | zero =>
    intro t v h hp
    exact br_t (nI_le (by omega) (by omega)) (nm_e (nm_r (nI_1 i) hp))
  | succ m ih =>
    intro t v h hp
    rw [← zp_pws] at hp
    have q := ih (t + 1) (zp_tw v) (by omega) hp
    refine br_f (nI_ge (by omega) (by omega)) (br_c (fun e => nm_r (e' := zp_tw v) ?_ (nm_r (nI_1 t) q)) (fun e => nm_r (e' := zp_tw v) ?_ (nm_r (nI_1 t) q)))
    · unfold zp_tw; rw [if_pos e]
    · unfold zp_tw; rw [if_neg e]
theorem zy_cix {s k i : Nat} : nI s * nI k + nI i = nI (s * k + i) := by rw [pk_mul, nI_add]
theorem zy_c96 {s k i : Nat} (hk : k ≤ 6) (hs : s < 16) (hi : i < k) : s * k + i < 96 :=
  Nat.lt_of_lt_of_le (zr_ix2 hi hs) (Nat.le_trans (Nat.mul_le_mul_left 16 hk) (by omega))
theorem zy_sndP {post : Int32 → Prop} {k s : Nat} {x x4 : Int32} (hk : k ≤ 6) (hs : s < 16) (hp : post (zp_xs (fun i => con (s * k + i)) k)) (m : Nat) : ∀ i, i + m = k →
    wY_soundValue_30 post x (nI s) x x4 (nI (k + 2)) (nI k) fS fJ fc fp po st fu con fai edg wd wm its sta (m + 1) (zp_xs (fun i => con (s * k + i)) i) (nI i) := by
  induction m with
  | zero =>
    intro i h
    have : i = k := by omega
    subst this
    exact br_t (nI_le (Nat.le_refl _) (by omega)) hp
  | succ m ih =>
    intro i h
    have l := zy_c96 hk hs (show i < k by omega)
    refine br_f (nI_ge (by omega) (by omega)) ?_
    rw [zy_cix, nI_clamp (by omega)]
    exact And.intro (vp_in_nI l (by omega)) (nm_e (br_t rfl (nm_e (nm_r (nI_1 i) (ih (i + 1) (by omega))))))
theorem zy_sndQ {post : Int32 → Prop} {k s : Nat} {x x3 : Int32} (hk : k ≤ 6) (hs : s < 16) (hne : ¬ x = x3) (hp : post (zp_xs (fun i => zp_pw i (con (s * k + i))) k)) (m : Nat) : ∀ i, i + m = k →
    wY_soundValue_30 post x (nI s) x3 x (nI (k + 2)) (nI k) fS fJ fc fp po st fu con fai edg wd wm its sta (m + 1) (zp_xs (fun i => zp_pw i (con (s * k + i))) i) (nI i) := by
  induction m with
  | zero =>
    intro i h
    have : i = k := by omega
    subst this
    exact br_t (nI_le (Nat.le_refl _) (by omega)) hp
  | succ m ih =>
    intro i h
    have l := zy_c96 hk hs (show i < k by omega)
    refine br_f (nI_ge (by omega) (by omega)) ?_
    rw [zy_cix, nI_clamp (by omega)]
    exact And.intro (vp_in_nI l (by omega)) (nm_e (br_f hne (br_t rfl (Exists.intro (i + 1) (zy_snd79 (by omega) i 0 _ (by omega) (ih (i + 1) (by omega)))))))
theorem zy_sndD {post : Int32 → Prop} {k s d i0 : Nat} {x3 x4 : Int32} (hk : k ≤ 6) (hs : s < 16) (hd : d < k + 2) (hi0 : i0 < k) (hr : zp_ro (k + 2) s d = 2 + i0) (h3 : x3 = nI (k + 2 - 1 - s % (k + 2)))
    (n1 : ¬ nI d = x3) (n2 : ¬ nI d = x4) (hp : post (con (s * k + i0))) (m : Nat) : ∀ (i : Nat) (x5 : Int32), i + m = k → (i0 < i → x5 = con (s * k + i0)) →
    wY_soundValue_30 post (nI d) (nI s) x3 x4 (nI (k + 2)) (nI k) fS fJ fc fp po st fu con fai edg wd wm its sta (m + 1) x5 (nI i) := by
  induction m with
  | zero =>
    intro i x5 h hx
    have : i = k := by omega
    subst this
    rw [hx hi0]
    exact br_t (nI_le (Nat.le_refl _) (by omega)) hp
  | succ m ih =>
    intro i x5 h hx
    have l := zy_c96 hk hs (show i < k by omega)
    have e : ((x3 + 2) + nI i) - ((x3 + 2) + nI i) / nI (k + 2) * nI (k + 2) = nI (zp_dk (k + 2) s (2 + i)) := by
      have ee : x3 + 2 = nI (k + 2 - 1 - s % (k + 2) + 2) := by rw [h3]; exact nI_add _ 2
      rw [ee, nI_add, pk_rem (by omega) (by omega) (by omega)]
      unfold zp_dk
      rw [Nat.add_assoc]
    have ld := zp_dklt (n := k + 2) (s := s) (r := 2 + i) (by omega)
    have dd := zp_dr (n := k + 2) (s := s) (d := d) (r := 2 + i) hd (by omega)
    refine br_f (nI_ge (by omega) (by omega)) ?_
    rw [zy_cix, nI_clamp (by omega)]
    refine And.intro (vp_in_nI l (by omega)) (nm_e (br_f n1 (br_f n2 (And.intro (nI_ne0 (by omega) (by omega)) ?_))))
    rw [e]
    refine br_c (fun q => nm_r (nI_1 i) (ih (i + 1) _ (by omega) (fun _ => ?_))) (fun q => nm_r (nI_1 i) (ih (i + 1) _ (by omega) (fun w => hx ?_)))
    · have := dd.1 ((nI_eq (by omega) (by omega)).1 q)
      have : i = i0 := by omega
      rw [this]
    · have : i ≠ i0 := fun z => q (by rw [dd.2 (by rw [z]; exact hr)])
      omega
theorem zy_snd {post : Int32 → Prop} {k s d : Nat} (hk : k ≤ 6) (hs : s < 16) (hd : d < k + 2) (hby : ∀ i, i < k → zp_by (con (s * k + i))) (hp : post (zp_C con k s (zp_ro (k + 2) s d))) :
    wpY_soundValue post (nI (k + 2), nI k, fS, fJ, fc, fp, po, st, fu, con, fai, edg, wd, wm, its, sta) (nI d) (nI s) := by
  have q := Nat.mod_lt s (show 0 < k + 2 by omega)
  have e0 : zp_dk (k + 2) s 0 = k + 2 - 1 - s % (k + 2) := Nat.mod_eq_of_lt (by omega)
  have l1 := zp_dklt (n := k + 2) (s := s) (r := 1) (by omega)
  have e1 : nI (k + 2 - 1 - s % (k + 2)) + 1 - (nI (k + 2 - 1 - s % (k + 2)) + 1) / nI (k + 2) * nI (k + 2) = nI (zp_dk (k + 2) s 1) := by
    rw [nI_1, pk_rem (by omega) (by omega) (by omega)]
    rfl
  refine And.intro (nI_ne0 (by omega) (by omega)) (nm_r (zx_p hk (by omega)) (And.intro (nI_ne0 (by omega) (by omega)) (nm_r e1 (Exists.intro (k + 1) ?_))))
  have d0 := zp_dr (n := k + 2) (s := s) (d := d) (r := 0) hd (by omega)
  have d1 := zp_dr (n := k + 2) (s := s) (d := d) (r := 1) hd (by omega)
  rw [← e0]
  by_cases h0 : zp_ro (k + 2) s d = 0
  · rw [d0.2 h0]
    rw [h0] at hp
    unfold zp_C at hp
    rw [zp_cwP] at hp
    exact zy_sndP hk hs hp k 0 (by omega)
  · have n0 : ¬ nI d = nI (zp_dk (k + 2) s 0) := fun z => h0 (d0.1 ((nI_eq (by omega) (by rw [e0]; omega)).1 z).symm)
    by_cases h1 : zp_ro (k + 2) s d = 1
    · rw [d1.2 h1]
      rw [h1] at hp
      unfold zp_C at hp
      rw [zp_cwQ hby] at hp
      exact zy_sndQ hk hs n0 hp k 0 (by omega)
    · have n1 : ¬ nI d = nI (zp_dk (k + 2) s 1) := fun z => h1 (d1.1 ((nI_eq (by omega) (by omega)).1 z).symm)
      have lr := zp_rolt (n := k + 2) (s := s) (d := d) (by omega)
      have er : zp_ro (k + 2) s d = 2 + (zp_ro (k + 2) s d - 2) := by omega
      unfold zp_C at hp
      rw [er, zp_cwd] at hp
      exact zy_sndD hk hs hd (by omega) er (by rw [e0]) n0 n1 hp k 0 0 (by omega) (fun w => absurd w (Nat.not_lt_zero _))
theorem zy_sto {post : Int32 → Prop} {k s d : Nat} (hk : k ≤ 6) (hs : s < 16) (hd : d < k + 2) (hby : ∀ i, i < k → zp_by (con (s * k + i))) (hp : post (zp_C con k s (zp_ro (k + 2) s d) ^^^ zp_er wd wm s d)) :
    wpY_storedValue post (nI (k + 2), nI k, fS, fJ, fc, fp, po, st, fu, con, fai, edg, wd, wm, its, sta) (nI d) (nI s) := by
  refine zy_snd hk hs hd hby (And.intro (vp_in_nI hs (by omega)) ?_)
  rw [nI_clamp (by omega)]
  unfold zp_er at hp
  refine br_c (fun e => ?_) (fun e => And.intro (vp_in_nI hs (by omega)) (br_c (fun w => And.intro (vp_in_nI hs (by omega)) (nm_e ?_)) (fun w => ?_)))
  · have : (if wd s = nI d then wm s else 0) = 0 := by
      by_cases w : wd s = nI d
      · rw [if_pos w, e]
      · rw [if_neg w]
    rw [this, Int32.xor_zero] at hp
    exact hp
  · rw [if_pos w] at hp; exact hp
  · rw [if_neg w, Int32.xor_zero] at hp; exact hp
end
end
section
/-! what the calls do to the relation -/
section
variable {k S J h c p : Nat} {st : Int32} {sto edg fai lah iat ida sta ex lg con wd wm its : Nat → Int32}
theorem zr_C {con con' : Nat → Int32} {k s : Nat} (h : ∀ i, i < k → con' (s * k + i) = con (s * k + i)) : ∀ r, r < k + 2 → zp_C con' k s r = zp_C con k s r :=
  zp_cwcg h
/-- two blocks of the store are different -/
theorem zr_ne {d s d' s' : Nat} (hs : s < 16) (hs' : s' < 16) (h : d ≠ d' ∨ s ≠ s') : d * 16 + s ≠ d' * 16 + s' := by omega
theorem zr_sl {h i j : Nat} (hi : i < 4) (hj : j < 4) (h2 : i ≠ j) : (h + i) % 4 ≠ (h + j) % 4 := by omega
theorem zr_stage {st' : Int32} {sta' : Nat → Int32} (H : zr_I k S J h c p st sto edg fai lah iat ida sta ex lg con wd wm its) (h1 : st' < 0 ∨ ∃ s, s < S ∧ st' = nI s) (h2 : ∀ i, i < k → sta' i < 0 ∨ zp_by (sta' i)) :
    zr_I k S J h c p st' sto edg fai lah iat ida sta' ex lg con wd wm its := by
  obtain ⟨a1, a2, a3, a4, a5, a6, a7, a8⟩ := H
  exact ⟨a1, a2, a3, ⟨a4.1, h1, h2⟩, a5, a6, a7, a8⟩
theorem zr_ds (hk : k ≤ 6) : ∀ i, i < k → zp_ds sta i < 0 ∨ zp_by (zp_ds sta i) := fun i hi => Or.inl (by rw [zp_dsv sta (show i < 6 by omega)]; decide)
theorem zr_p0 (H : zr_I k S J h c p st sto edg fai lah iat ida sta ex lg con wd wm its) : zr_I k S J h c 0 st sto edg fai lah iat ida sta ex lg con wd wm its := by
  obtain ⟨⟨g1, g2, g3, g4, g5, g6, g7, g8, g9, g10⟩, a2, a3, a4, a5, a6, a7, a8⟩ := H
  exact ⟨⟨g1, g2, g3, g4, g5, g6, g7, g8, by omega, fun _ => rfl⟩, a2, a3, a4, a5, a6, a7, fun _ s _ _ _ d hd => absurd hd (Nat.not_lt_zero d)⟩
theorem zr_cut (H : zr_I k S J h c p st sto edg fai lah iat ida sta ex lg con wd wm its) : zr_I k S J h c 0 (-1) sto edg fai lah iat ida (zp_ds sta) ex lg con wd wm its :=
  zr_stage (zr_p0 H) (Or.inl (by decide)) (zr_ds H.1.2.1)
/-- a record of the youngest place that has not joined the list changes nothing -/
theorem zr_ida {ida' : Nat → Int32} (H : zr_I k S J h c p st sto edg fai lah iat ida sta ex lg con wd wm its) (hc : c < J) (hf : ∀ j, ¬ ((h + c) % 4 * 6 ≤ j ∧ j < (h + c) % 4 * 6 + k) → ida' j = ida j) :
    zr_I k S J h c p st sto edg fai lah iat ida' sta ex lg con wd wm its := by
  obtain ⟨a1, a2, a3, a4, a5, a6, a7, a8⟩ := H
  obtain ⟨g1, g2, g3, g4, g5, g6, g7, g8, g9, g10⟩ := a1
  refine ⟨⟨g1, g2, g3, g4, g5, g6, g7, g8, g9, g10⟩, a2, a3, a4, fun i hi => ?_, a6, a7, a8⟩
  obtain ⟨b1, s, b2, b3, b4⟩ := a5 i hi
  refine ⟨b1, s, b2, b3, fun hy t ht => ?_⟩
  rw [hf _ (by have := zr_sl (h := h) (i := i) (j := c) (by omega) (by omega) (by omega); omega)]
  exact b4 hy t ht
/-- a new intent of stripe s -/
theorem zr_new {s : Nat} {con' ida' : Nat → Int32} (H : zr_I k S J h c p st sto edg fai lah iat ida sta ex lg con wd wm its) (hc : c < J) (hs : s < S)
    (hf : ∀ j, ¬ ((h + c) % 4 * 6 ≤ j ∧ j < (h + c) % 4 * 6 + k) → ida' j = ida j) (hd : ∀ t, t < k → ida' ((h + c) % 4 * 6 + t) = con' (s * k + t))
    (hb : ∀ t, t < k → zp_by (con' (s * k + t))) (ho : ∀ s' t, s' < S → s' ≠ s → t < k → con' (s' * k + t) = con (s' * k + t)) :
    zr_I k S J h (c + 1) p st sto edg fai lah (upd iat ((h + c) % 4) (nI s)) ida' sta ex lg con' wd (upd wm s 0) (upd its c (nI s)) := by
  obtain ⟨a1, a2, a3, a4, a5, a6, a7, a8⟩ := H
  obtain ⟨g1, g2, g3, g4, g5, g6, g7, g8, g9, g10⟩ := a1
  have hC : ∀ s', s' < S → s' ≠ s → ∀ r, r < k + 2 → zp_C con' k s' r = zp_C con k s' r := fun s' q1 q2 => zr_C (fun i hi => ho s' i q1 q2 hi)
  have nb : ∀ s', s' < S → ¬ zp_bz (upd its c (nI s)) (c + 1) s' → s' ≠ s ∧ ¬ zp_bz its c s' := fun s' q1 q2 => by
    refine ⟨fun z => q2 ⟨c, by omega, by rw [pk_us, z]⟩, fun ⟨i, hi, e⟩ => q2 ⟨i, by omega, by rw [pk_un (by omega)]; exact e⟩⟩
  refine ⟨⟨g1, g2, g3, g4, g5, g6, g7, hc, g9, fun z => absurd z (by omega)⟩, a2, a3, ⟨?_, a4.2⟩, ?_, ?_, ?_, ?_⟩
  · intro j hj
    have q := Nat.div_add_mod' j k
    have r := Nat.mod_lt j (show 0 < k by omega)
    have l : j / k < S := Nat.div_lt_of_lt_mul (by rw [Nat.mul_comm]; exact hj)
    by_cases e : j / k = s
    · have := hb (j % k) r
      rw [← e, q] at this
      exact this
    · have := ho (j / k) (j % k) l e r
      rw [q] at this
      rw [this]
      exact a4.1 j hj
  · intro i hi
    rcases Nat.lt_succ_iff_lt_or_eq.1 hi with q | rfl
    · obtain ⟨b1, s', b2, b3, b4⟩ := a5 i q
      have ns := zr_sl (h := h) (i := i) (j := c) (by omega) (by omega) (by omega)
      refine ⟨?_, s', b2, ?_, fun hy t ht => ?_⟩
      · rw [pk_un ns, pk_un (by omega)]; exact b1
      · rw [pk_un (by omega)]; exact b3
      · have z : s' ≠ s := fun z => hy c q (by omega) (by rw [pk_us, z])
        rw [hf _ (by omega), ho s' t b2 z ht]
        exact b4 (fun j h1 h2 => by have := hy j h1 (by omega); rw [pk_un (by omega)] at this; exact this) t ht
    · exact ⟨by rw [pk_us, pk_us], s, hs, pk_us, fun _ t ht => hd t ht⟩
  · intro s' hs'
    by_cases e : s' = s
    · subst e
      rw [pk_us]
      exact ⟨zp_by0, fun z => absurd rfl z⟩
    · rw [pk_un e]
      refine ⟨(a6 s' hs').1, fun hw => ?_⟩
      obtain ⟨b1, b2⟩ := (a6 s' hs').2 hw
      refine ⟨fun ⟨i, hi, ei⟩ => ?_, b2⟩
      rcases Nat.lt_succ_iff_lt_or_eq.1 hi with q | rfl
      · rw [pk_un (by omega)] at ei
        exact b1 ⟨i, q, ei⟩
      · rw [pk_us] at ei
        exact e ((nI_eq (by omega) (by omega)).1 ei).symm
  · intro s' hs' hn d hd' hp
    obtain ⟨z1, z2⟩ := nb s' hs' hn
    rw [hC s' hs' z1 _ (zp_rolt (by omega)), a7 s' hs' z2 d hd' hp]
    unfold zp_er
    rw [pk_un z1]
  · intro _ s' hs' e0 hy d hd' hp
    rcases Nat.eq_zero_or_pos c with q | q
    · rw [g10 q] at hd'
      exact absurd hd' (Nat.not_lt_zero d)
    · have z : s' ≠ s := fun z => hy c q (by omega) (by rw [pk_us, z])
      rw [hC s' hs' z _ (zp_rolt (by omega))]
      rw [pk_un (by omega)] at e0
      exact a8 q s' hs' e0 (fun j h1 h2 => by have := hy j h1 (by omega); rw [pk_un (by omega)] at this; exact this) d hd' hp
/-- one block of the oldest intent is redone, or skipped -/
theorem zr_redo {s0 : Nat} {sto' : Nat → Int32} (H : zr_I k S J h c p st sto edg fai lah iat ida sta ex lg con wd wm its) (hc : 0 < c) (hs0 : s0 < S) (e0 : its 0 = nI s0) (hp : p < k + 2)
    (h1 : ∀ j, j ≠ p * 16 + s0 → sto' j = sto j) (h2 : (∀ j, 0 < j → j < c → ¬ its j = nI s0) → ¬ edg p ≤ nI s0 → sto' (p * 16 + s0) = zp_C con k s0 (zp_ro (k + 2) s0 p)) :
    zr_I k S J h c (p + 1) st sto' edg fai lah iat ida sta ex lg con wd wm its := by
  obtain ⟨a1, a2, a3, a4, a5, a6, a7, a8⟩ := H
  obtain ⟨g1, g2, g3, g4, g5, g6, g7, g8, g9, g10⟩ := a1
  refine ⟨⟨g1, g2, g3, g4, g5, g6, g7, g8, hp, fun z => absurd z (by omega)⟩, a2, a3, a4, a5, a6, ?_, ?_⟩
  · intro s' hs' hn d hd' hpr
    have : s' ≠ s0 := fun z => hn ⟨0, hc, by rw [e0, z]⟩
    rw [h1 _ (zr_ne (by omega) (by omega) (Or.inr this))]
    exact a7 s' hs' hn d hd' hpr
  · intro _ s' hs' e' hy d hd' hpr
    have : s' = s0 := (nI_eq (by omega) (by omega)).1 (e'.symm.trans e0)
    subst this
    rcases Nat.lt_succ_iff_lt_or_eq.1 hd' with q | rfl
    · rw [h1 _ (zr_ne (by omega) (by omega) (Or.inl (by omega)))]
      exact a8 hc s' hs' e' hy d q hpr
    · exact h2 hy hpr
/-- the oldest intent is closed -/
theorem zr_close {its' : Nat → Int32} (H : zr_I k S J h (c + 1) p st sto edg fai lah iat ida sta ex lg con wd wm its) (hp : p = k + 2) (hi : ∀ j, j < c → its' j = its (j + 1)) :
    zr_I k S J ((h + 1) % 4) c 0 st sto edg fai lah iat ida sta ex lg con wd wm its' := by
  obtain ⟨a1, a2, a3, a4, a5, a6, a7, a8⟩ := H
  obtain ⟨g1, g2, g3, g4, g5, g6, g7, g8, g9, g10⟩ := a1
  have sub : ∀ s, zp_bz its' c s → zp_bz its (c + 1) s := fun s ⟨i, h1, e⟩ => ⟨i + 1, by omega, by rw [← hi i h1]; exact e⟩
  refine ⟨⟨g1, g2, g3, g4, g5, g6, by omega, by omega, by omega, fun _ => rfl⟩, a2, a3, a4, ?_, ?_, ?_, fun _ s _ _ _ d hd => absurd hd (Nat.not_lt_zero d)⟩
  · intro i h1
    obtain ⟨b1, s, b2, b3, b4⟩ := a5 (i + 1) (by omega)
    have e : ((h + 1) % 4 + i) % 4 = (h + (i + 1)) % 4 := by omega
    rw [e, hi i h1]
    refine ⟨b1, s, b2, b3, fun hy t ht => b4 (fun j q1 q2 => ?_) t ht⟩
    have := hy (j - 1) (by omega) (by omega)
    rw [hi (j - 1) (by omega), show j - 1 + 1 = j by omega] at this
    exact this
  · intro s hs
    refine ⟨(a6 s hs).1, fun hw => ?_⟩
    obtain ⟨b1, b2⟩ := (a6 s hs).2 hw
    exact ⟨fun z => b1 (sub s z), b2⟩
  · intro s hs hn d hd hpr
    by_cases q : zp_bz its (c + 1) s
    · have w0 : wm s = 0 := by
        by_cases w : wm s = 0
        · exact w
        · exact absurd q ((a6 s hs).2 w).1
      have ot : ∀ j, 0 < j → j < c + 1 → ¬ its j = nI s := fun j q1 q2 e => hn ⟨j - 1, by omega, by rw [hi (j - 1) (by omega), show j - 1 + 1 = j by omega]; exact e⟩
      have e0 : its 0 = nI s := by
        obtain ⟨i, q1, q2⟩ := q
        rcases Nat.eq_zero_or_pos i with rfl | z
        · exact q2
        · exact absurd q2 (ot i z q1)
      rw [a8 (by omega) s hs e0 ot d (by omega) hpr]
      unfold zp_er
      rw [w0]
      have : (if wd s = nI d then (0 : Int32) else 0) = 0 := by
        by_cases w : wd s = nI d
        · rw [if_pos w]
        · rw [if_neg w]
      rw [this, Int32.xor_zero]
    · exact a7 s hs q d hd hpr
/-- a disk that is being rebuilt gets its next block -/
theorem zr_reb {d s : Nat} (H : zr_I k S J h c p st sto edg fai lah iat ida sta ex lg con wd wm its) (hd : d < k + 2) (hs : s < S) (he : edg d = nI s) (hfa : fai d = 0) (hw : wm s = 0) :
    zr_I k S J h c p st (upd sto (d * 16 + s) (zp_C con k s (zp_ro (k + 2) s d))) (upd edg d (nI (s + 1))) fai lah iat ida sta ex lg con wd wm its := by
  obtain ⟨a1, a2, a3, a4, a5, a6, a7, a8⟩ := H
  obtain ⟨g1, g2, g3, g4, g5, g6, g7, g8, g9, g10⟩ := a1
  have mono : ∀ d' s', s' < S → upd edg d (nI (s + 1)) d' ≤ nI s' → edg d' ≤ nI s' := fun d' s' h1 h2 => by
    by_cases e : d' = d
    · subst e
      rw [pk_us, nI_leI (by omega) (by omega)] at h2
      rw [he, nI_leI (by omega) (by omega)]
      omega
    · rw [pk_un e] at h2; exact h2
  have old : ∀ d' s', s' < S → ¬ upd edg d (nI (s + 1)) d' ≤ nI s' → (d' ≠ d ∨ s' ≠ s) → ¬ edg d' ≤ nI s' := fun d' s' h1 h2 h3 h4 => by
    by_cases e : d' = d
    · subst e
      rw [pk_us, nI_leI (by omega) (by omega)] at h2
      rw [he, nI_leI (by omega) (by omega)] at h4
      omega
    · rw [pk_un e] at h2; exact h2 h4
  refine ⟨⟨g1, g2, g3, g4, g5, g6, g7, g8, g9, g10⟩, ⟨fun d' h1 => ?_, fun x y z h1 h2 h3 h4 h5 h6 m1 m2 m3 => ?_⟩, a3, a4, a5, ?_, ?_, ?_⟩
  · by_cases e : d' = d
    · subst e
      exact ⟨s + 1, hs, pk_us, fun q => absurd hfa q⟩
    · rw [pk_un e]; exact a2.1 d' h1
  · have w : ∀ d', ¬ nI S ≤ upd edg d (nI (s + 1)) d' → ¬ nI S ≤ edg d' := fun d' q1 q2 => by
      by_cases e : d' = d
      · subst e
        rw [pk_us, nI_leI (by omega) (by omega)] at q1
        rw [he, nI_leI (by omega) (by omega)] at q2
        omega
      · rw [pk_un e] at q1; exact q1 q2
    exact a2.2 x y z h1 h2 h3 h4 h5 h6 (w x m1) (w y m2) (w z m3)
  · intro s' hs'
    refine ⟨(a6 s' hs').1, fun q => ?_⟩
    obtain ⟨b1, b2, ⟨d', b3, b4, b5⟩, b6⟩ := (a6 s' hs').2 q
    refine ⟨b1, b2, ⟨d', b3, b4, fun z => b5 (mono d' s' hs' z)⟩, fun ⟨x, y, h1, h2, h3, h4⟩ => b6 ⟨x, y, h1, h2, mono x s' hs' h3, mono y s' hs' h4⟩⟩
  · intro s' hs' hn d' hd' hpr
    by_cases e : d' = d ∧ s' = s
    · obtain ⟨rfl, rfl⟩ := e
      rw [pk_us]
      unfold zp_er
      rw [hw]
      have : (if wd s' = nI d' then (0 : Int32) else 0) = 0 := by
        by_cases w : wd s' = nI d'
        · rw [if_pos w]
        · rw [if_neg w]
      rw [this, Int32.xor_zero]
    · have e' : d' ≠ d ∨ s' ≠ s := by omega
      rw [pk_un (zr_ne (by omega) (by omega) e')]
      exact a7 s' hs' hn d' hd' (old d' s' hs' hpr e')
  · intro h0 s' hs' e0 hy d' hd' hpr
    by_cases e : d' = d ∧ s' = s
    · obtain ⟨rfl, rfl⟩ := e
      rw [pk_us]
    · have e' : d' ≠ d ∨ s' ≠ s := by omega
      rw [pk_un (zr_ne (by omega) (by omega) e')]
      exact a8 h0 s' hs' e0 hy d' hd' (old d' s' hs' hpr e')
/-- a block is silently changed -/
theorem zr_cor {d s : Nat} {m : Int32} (H : zr_I k S J h c p st sto edg fai lah iat ida sta ex lg con wd wm its) (hd : d < k + 2) (hs : s < S) (hpr : ¬ edg d ≤ nI s) (hn : ¬ zp_bz its c s) (hw : wm s = 0)
    (h2 : ¬ zp_C2 (fun d => edg d ≤ nI s) (k + 2)) (hm : zp_by m) :
    zr_I k S J h c p st (upd sto (d * 16 + s) (sto (d * 16 + s) ^^^ m)) edg fai (upd lah s (nI d)) iat ida sta ex lg con (upd wd s (nI d)) (upd wm s m) its := by
  obtain ⟨a1, a2, a3, a4, a5, a6, a7, a8⟩ := H
  obtain ⟨g1, g2, g3, g4, g5, g6, g7, g8, g9, g10⟩ := a1
  refine ⟨⟨g1, g2, g3, g4, g5, g6, g7, g8, g9, g10⟩, a2, a3, a4, a5, ?_, ?_, ?_⟩
  · intro s' hs'
    by_cases e : s' = s
    · subst e
      rw [pk_us, pk_us, pk_us]
      exact ⟨hm, fun _ => ⟨hn, rfl, ⟨d, hd, rfl, hpr⟩, h2⟩⟩
    · rw [pk_un e, pk_un e, pk_un e]
      exact a6 s' hs'
  · intro s' hs' hn' d' hd' hpr'
    unfold zp_er
    by_cases e : s' = s
    · subst e
      have old := a7 s' hs' hn'
      unfold zp_er at old
      rw [hw] at old
      have z : ∀ d', (if wd s' = nI d' then (0 : Int32) else 0) = 0 := fun d' => by
        by_cases w : wd s' = nI d'
        · rw [if_pos w]
        · rw [if_neg w]
      rw [pk_us, pk_us]
      by_cases e2 : d' = d
      · subst e2
        rw [pk_us, if_pos rfl, old d' hd hpr, z, Int32.xor_zero]
      · rw [pk_un (zr_ne (by omega) (by omega) (Or.inl e2)), old d' hd' hpr', z, if_neg (fun q => e2 ((nI_eq (by omega) (by omega)).1 q).symm)]
    · rw [pk_un (zr_ne (by omega) (by omega) (Or.inr e)), pk_un e, pk_un e]
      exact a7 s' hs' hn' d' hd' hpr'
  · intro h0 s' hs' e0 hy d' hd' hpr'
    have : s' ≠ s := fun z => hn ⟨0, h0, by rw [e0, z]⟩
    rw [pk_un (zr_ne (by omega) (by omega) (Or.inr this))]
    exact a8 h0 s' hs' e0 hy d' hd' hpr'
/-- the wrong block is mended -/
theorem zr_scr {d s : Nat} (H : zr_I k S J h c p st sto edg fai lah iat ida sta ex lg con wd wm its) (hd : d < k + 2) (hs : s < S) (hn : ¬ zp_bz its c s) (hw : wd s = nI d) :
    zr_I k S J h c p st (upd sto (d * 16 + s) (zp_C con k s (zp_ro (k + 2) s d))) edg fai lah iat ida sta ex lg con wd (upd wm s 0) its := by
  obtain ⟨a1, a2, a3, a4, a5, a6, a7, a8⟩ := H
  obtain ⟨g1, g2, g3, g4, g5, g6, g7, g8, g9, g10⟩ := a1
  refine ⟨⟨g1, g2, g3, g4, g5, g6, g7, g8, g9, g10⟩, a2, a3, a4, a5, ?_, ?_, ?_⟩
  · intro s' hs'
    by_cases e : s' = s
    · subst e
      rw [pk_us]
      exact ⟨zp_by0, fun z => absurd rfl z⟩
    · rw [pk_un e]
      exact a6 s' hs'
  · intro s' hs' hn' d' hd' hpr'
    unfold zp_er
    by_cases e : s' = s
    · subst e
      rw [pk_us, hw]
      by_cases e2 : d' = d
      · subst e2
        rw [pk_us, if_pos rfl, Int32.xor_zero]
      · have old := a7 s' hs' hn' d' hd' hpr'
        unfold zp_er at old
        rw [hw] at old
        have z : ¬ nI d = nI d' := fun q => e2 ((nI_eq (by omega) (by omega)).1 q).symm
        rw [if_neg z] at old
        rw [pk_un (zr_ne (by omega) (by omega) (Or.inl e2)), old, if_neg z]
    · rw [pk_un (zr_ne (by omega) (by omega) (Or.inr e)), pk_un e]
      exact a7 s' hs' hn' d' hd' hpr'
  · intro h0 s' hs' e0 hy d' hd' hpr'
    have : s' ≠ s := fun z => hn ⟨0, h0, by rw [e0, z]⟩
    rw [pk_un (zr_ne (by omega) (by omega) (Or.inr this))]
    exact a8 h0 s' hs' e0 hy d' hd' hpr'
/-- a failed disk is replaced -/
theorem zr_rep {d : Nat} {sto' fai' edg' : Nat → Int32} (H : zr_I k S J h c p st sto edg fai lah iat ida sta ex lg con wd wm its) (hd : d < k + 2) (hf : ¬ fai d = 0) (hf' : ∀ j, j ≠ d → fai' j = fai j)
    (he : edg' = edg) (hs : ∀ d' s, s < 16 → d' ≠ d → sto' (d' * 16 + s) = sto (d' * 16 + s)) :
    zr_I k S J h c p st sto' edg' fai' lah iat ida sta ex lg con wd wm its := by
  obtain ⟨a1, a2, a3, a4, a5, a6, a7, a8⟩ := H
  obtain ⟨g1, g2, g3, g4, g5, g6, g7, g8, g9, g10⟩ := a1
  subst he
  have ed : ∀ s, s < S → edg' d ≤ nI s := fun s hs => by
    obtain ⟨f, h1, h2, h3⟩ := a2.1 d hd
    rw [h2, h3 hf]
    exact nI_le (by omega) (by omega)
  refine ⟨⟨g1, g2, g3, g4, g5, g6, g7, g8, g9, g10⟩, ⟨fun d' h1 => ?_, a2.2⟩, a3, a4, a5, a6, ?_, ?_⟩
  · obtain ⟨f, q1, q2, q3⟩ := a2.1 d' h1
    by_cases e : d' = d
    · subst e
      exact ⟨f, q1, q2, fun _ => q3 hf⟩
    · rw [hf' d' e]
      exact ⟨f, q1, q2, q3⟩
  · intro s hs' hn d' hd' hpr
    have : d' ≠ d := fun z => hpr (by rw [z]; exact ed s hs')
    rw [hs d' s (by omega) this]
    exact a7 s hs' hn d' hd' hpr
  · intro h0 s hs' e0 hy d' hd' hpr
    have : d' ≠ d := fun z => hpr (by rw [z]; exact ed s hs')
    rw [hs d' s (by omega) this]
    exact a8 h0 s hs' e0 hy d' hd' hpr
/-- a disk fails -/
theorem zr_fail {d : Nat} {wm' : Nat → Int32} {v : Int32} (H : zr_I k S J h c p st sto edg fai lah iat ida sta ex lg con wd wm its) (hd : d < k + 2)
    (h2 : ¬ zp_C2 (fun j => j ≠ d ∧ ¬ nI S ≤ edg j) (k + 2)) (hl : ∀ s, s < S → ¬ wm s = 0 → ¬ wd s = nI d → ∀ j, j < k + 2 → j ≠ d → ¬ edg j ≤ nI s)
    (hw : ∀ s, s < S → wm' s = if wd s = nI d then 0 else wm s) :
    zr_I k S J h c p st sto (upd edg d 0) (upd fai d v) lah iat ida sta ex lg con wd wm' its := by
  obtain ⟨a1, a2, a3, a4, a5, a6, a7, a8⟩ := H
  obtain ⟨g1, g2, g3, g4, g5, g6, g7, g8, g9, g10⟩ := a1
  have pr : ∀ d' s, s < S → ¬ upd edg d 0 d' ≤ nI s → d' ≠ d ∧ ¬ edg d' ≤ nI s := fun d' s h1 h3 => by
    have e : d' ≠ d := fun z => by
      rw [z, pk_us] at h3
      exact h3 (nI_pos' (by omega))
    rw [pk_un e] at h3
    exact ⟨e, h3⟩
  refine ⟨⟨g1, g2, g3, g4, g5, g6, g7, g8, g9, g10⟩, ⟨fun d' h1 => ?_, fun x y z h1 h3 h4 h5 h6 h7 m1 m2 m3 => ?_⟩, a3, a4, a5, ?_, ?_, ?_⟩
  · by_cases e : d' = d
    · subst e
      exact ⟨0, by omega, pk_us, fun _ => rfl⟩
    · rw [pk_un e, pk_un e]
      exact a2.1 d' h1
  · have w : ∀ d', d' ≠ d → ¬ nI S ≤ upd edg d 0 d' → d' ≠ d ∧ ¬ nI S ≤ edg d' := fun d' q1 q2 => by
      rw [pk_un q1] at q2
      exact ⟨q1, q2⟩
    by_cases ex : x = d
    · exact h2 (zp_C2m h3 h4 h7 (w y (by omega) m2) (w z (by omega) m3))
    · by_cases ey : y = d
      · exact h2 (zp_C2m h1 h4 h6 (w x ex m1) (w z (by omega) m3))
      · exact h2 (zp_C2m h1 h3 h5 (w x ex m1) (w y ey m2))
  · intro s hs
    rw [hw s hs]
    by_cases e : wd s = nI d
    · rw [if_pos e]
      exact ⟨zp_by0, fun z => absurd rfl z⟩
    · rw [if_neg e]
      refine ⟨(a6 s hs).1, fun q => ?_⟩
      obtain ⟨b1, b2, ⟨d', b3, b4, b5⟩, b6⟩ := (a6 s hs).2 q
      have n : d' ≠ d := fun z => e (by rw [b4, z])
      refine ⟨b1, b2, ⟨d', b3, b4, by rw [pk_un n]; exact b5⟩, fun ⟨x, y, h1, h3, m1, m2⟩ => ?_⟩
      dsimp only at m1 m2
      by_cases ex : x = d
      · rw [pk_un (by omega)] at m2
        exact hl s hs q e y h3 (by omega) m2
      · rw [pk_un ex] at m1
        exact hl s hs q e x (by omega) ex m1
  · intro s hs hn d' hd' hpr
    obtain ⟨n, q⟩ := pr d' s hs hpr
    rw [a7 s hs hn d' hd' q]
    unfold zp_er
    by_cases e : wd s = nI d'
    · rw [if_pos e, if_pos e, hw s hs, if_neg (fun z => n ((nI_eq (by omega) (by omega)).1 (e.symm.trans z)))]
    · rw [if_neg e, if_neg e]
  · intro h0 s hs e0 hy d' hd' hpr
    exact a8 h0 s hs e0 hy d' hd' (pr d' s hs hpr).2
end
end
section
/-! the journal -/
def zp_sh : (Nat → Int32) → Nat → Nat → (Nat → Int32)
  | a, _, 0 => a
  | a, i, m + 1 => zp_sh (upd a i (a (i + 1))) (i + 1) m
theorem zp_shv (m : Nat) : ∀ (i : Nat) (a : Nat → Int32) (j : Nat), zp_sh a i m j = if i ≤ j ∧ j < i + m then a (j + 1) else a j := by
  induction m with
  | zero =>
    intro i a j
    rw [if_neg (by omega)]
    rfl
  | succ m ih =>
    intro i a j
    show zp_sh (upd a i (a (i + 1))) (i + 1) m j = _
    rw [ih]
    by_cases h : i + 1 ≤ j ∧ j < i + 1 + m
    · rw [if_pos h, if_pos (by omega), pk_un (by omega)]
    · rw [if_neg h]
      by_cases h2 : j = i
      · subst h2
        rw [if_pos (by omega), pk_us]
      · rw [if_neg (by omega), pk_un h2]
section
variable {fn fk fS fJ fh fc fp st po fu lo la lb sp sq : Int32} {sto edg fai lah iat ida sta ex lg blk con wd wm its : Nat → Int32}
theorem zx_log14 {post : Int32 → SX → Prop} {k sl c : Nat} {x1 : Int32} (hk : k ≤ 6) (hsl : sl < 4) (m : Nat) : ∀ (t : Nat) (fu : Int32) (ida : Nat → Int32), t + m = k + 3 →
    (zp_tc m fu → ∀ ida' : Nat → Int32, (∀ j, ¬ (sl * 6 ≤ j ∧ j < sl * 6 + k) → ida' j = ida j) → post (-12) (nI (k + 2), nI k, fS, fJ, fh, nI c, 0, -1, 0, -1, lo, la, lb, sp, sq, sto, edg, fai, lah, iat, ida', zp_ds sta, ex, lg, blk)) →
    (¬ zp_tc m fu → ∀ ida' : Nat → Int32, (∀ j, ¬ (sl * 6 ≤ j ∧ j < sl * 6 + k) → ida' j = ida j) → (∀ i, i < k → t ≤ i → ida' (sl * 6 + i) = blk (2 + i)) → (∀ i, i < k → i < t → ida' (sl * 6 + i) = ida (sl * 6 + i)) →
      post 0 (nI (k + 2), nI k, fS, fJ, fh, nI (c + 1), fp, st, po, zp_tf m fu, lo, la, lb, sp, sq, sto, edg, fai, lah, upd iat sl x1, ida', sta, ex, lg, blk)) →
    wX_logIntent_14 post x1 (nI sl) (m + 1) (nI t) (nI (k + 2)) (nI k) fS fJ fh (nI c) fp st po fu lo la lb sp sq sto edg fai lah iat ida sta ex lg blk := by
  induction m with
  | zero =>
    intro t fu ida h hc hk2
    exact br_t (nI_lt (by omega) (by omega)) (And.intro (vp_in_nI hsl (by omega)) (nm_r (zx_u (by omega)) (nm_r (nI_1 c) (hk2 (fun q => q) ida (fun _ _ => rfl) (fun i h1 h2 => absurd h2 (by omega)) (fun _ _ _ => rfl)))))
  | succ m ih =>
    intro t fu ida h hc hk2
    have e1 : nI sl * 6 + nI t = nI (sl * 6 + t) := by
      show nI sl * nI 6 + nI t = _
      rw [pk_mul, nI_add]
    have e2 : 2 + nI t = nI (2 + t) := nI_add 2 t
    refine br_f (nI_nlt (by omega) (by omega)) (zx_turn (fun e => br_t rfl (hc (Or.inl e) ida (fun _ _ => rfl))) (fun e => br_f (by decide) (br_c (fun l => ?_) (fun l => ?_))))
    · rw [nI_leI (by omega) (by omega)] at l
      refine nm_r (nI_1 t) (ih (t + 1) _ ida (by omega) (fun q => hc (Or.inr q)) (fun q ida' f1 f2 f3 => hk2 (fun w => ?_) ida' f1 (fun i h1 h2 => absurd h2 (by omega)) (fun i h1 h2 => f3 i h1 (by omega))))
      rcases w with w | w
      · exact e w
      · exact q w
    · rw [nI_leI (by omega) (by omega)] at l
      rw [e1, e2]
      refine And.intro (vp_in_nI (by omega) (by omega)) (And.intro (vp_in_nI (by omega) (by omega)) (nm_r (e' := upd ida (sl * 6 + t) (blk (2 + t))) ?_ (nm_r (nI_1 t) (ih (t + 1) _ _ (by omega) (fun q ida' f1 => hc (Or.inr q) ida' (fun j hj => ?_)) (fun q ida' f1 f2 f3 => hk2 (fun w => ?_) ida' (fun j hj => ?_) (fun i h1 h2 => ?_) (fun i h1 h2 => ?_))))))
      · rw [nI_clamp (by omega), nI_clamp (by omega)]
      · rw [f1 j hj, pk_un (by omega)]
      · rcases w with w | w
        · exact e w
        · exact q w
      · rw [f1 j hj, pk_un (by omega)]
      · rcases Nat.eq_or_lt_of_le h2 with rfl | z
        · rw [f3 t h1 (by omega), pk_us]
        · exact f2 i h1 z
      · rw [f3 i h1 (by omega), pk_un (by omega)]
theorem zx_log {post : Int32 → SX → Prop} {k h c : Nat} {x1 : Int32} (hk : k ≤ 6) (hh : h < 4) (hc4 : c < 4)
    (hc : zp_tc (k + 3) fu → ∀ ida' : Nat → Int32, (∀ j, ¬ ((h + c) % 4 * 6 ≤ j ∧ j < (h + c) % 4 * 6 + k) → ida' j = ida j) → post (-12) (nI (k + 2), nI k, fS, fJ, nI h, nI c, 0, -1, 0, -1, lo, la, lb, sp, sq, sto, edg, fai, lah, iat, ida', zp_ds sta, ex, lg, blk))
    (hk2 : ¬ zp_tc (k + 3) fu → ∀ ida' : Nat → Int32, (∀ j, ¬ ((h + c) % 4 * 6 ≤ j ∧ j < (h + c) % 4 * 6 + k) → ida' j = ida j) → (∀ i, i < k → ida' ((h + c) % 4 * 6 + i) = blk (2 + i)) →
      post 0 (nI (k + 2), nI k, fS, fJ, nI h, nI (c + 1), fp, st, po, zp_tf (k + 3) fu, lo, la, lb, sp, sq, sto, edg, fai, lah, upd iat ((h + c) % 4) x1, ida', sta, ex, lg, blk)) :
    wpX_logIntent post (nI (k + 2), nI k, fS, fJ, nI h, nI c, fp, st, po, fu, lo, la, lb, sp, sq, sto, edg, fai, lah, iat, ida, sta, ex, lg, blk) x1 := by
  have e : (nI h + nI c) &&& 3 = nI ((h + c) % 4) := by
    rw [nI_add]
    exact pk_andN (n := h + c) (by omega) 2 (by decide)
  exact nm_r e (Exists.intro (k + 4) (zx_log14 hk (Nat.mod_lt _ (by omega)) (k + 3) 0 fu ida (by omega) hc (fun q ida' f1 f2 _ => hk2 q ida' f1 (fun i h1 => f2 i h1 (Nat.zero_le i)))))
theorem zy_adv25 {post : Int32 → SY → Prop} {c : Nat} (hc : c ≤ 3) (m : Nat) :
    ∀ (i : Nat) (its : Nat → Int32), i + m = c → post 1 (fn, fk, fS, fJ, nI c, 0, po, st, fu, con, fai, edg, wd, wm, zp_sh its i m, sta) → wY_advance_25 post fn fk fS fJ (nI (c + 1)) fp po st fu (m + 1) (nI (i + 1)) con fai edg wd wm its sta := by
  induction m with
  | zero =>
    intro i its h hp
    exact br_t (nI_le (by omega) (by omega)) (nm_r (nI_pred c) hp)
  | succ m ih =>
    intro i its h hp
    refine br_f (nI_ge (by omega) (by omega)) ?_
    rw [nI_pred i]
    refine And.intro (vp_in_nI (by omega) (by omega)) (And.intro (vp_in_nI (by omega) (by omega)) (nm_r (e' := upd its i (its (i + 1))) ?_ (nm_r (nI_1 (i + 1)) (ih (i + 1) _ (by omega) hp))))
    rw [nI_clamp (by omega), nI_clamp (by omega)]
end
section
variable {k S J h c p : Nat} {st po fu lo la lb sp sq : Int32} {sto edg fai lah iat ida sta ex lg blk con wd wm its : Nat → Int32}
theorem zx_redo {post : SX → Prop} (H : zr_I k S J h c p st sto edg fai lah iat ida sta ex lg con wd wm its) (hc : 0 < c) {d s0 : Nat} (hd : d < k + 2) (hs0 : s0 < S) (e0 : its 0 = nI s0)
    (h0 : edg d ≤ nI s0 → post (nI (k + 2), nI k, nI S, nI J, nI h, nI c, nI p, st, po, fu, lo, la, lb, sp, sq, sto, edg, fai, lah, iat, ida, sta, ex, lg, blk))
    (h1 : ∀ (sp sq : Int32) (blk : Nat → Int32) (v : Int32), ((∀ j, 0 < j → j < c → ¬ its j = nI s0) → v = zp_C con k s0 (zp_ro (k + 2) s0 d)) → post (nI (k + 2), nI k, nI S, nI J, nI h, nI c, nI p, st, po, fu, lo, la, lb, sp, sq, upd sto (d * 16 + s0) v, edg, fai, lah, iat, ida, sta, ex, lg, blk)) :
    wpX_redoBlock post (nI (k + 2), nI k, nI S, nI J, nI h, nI c, nI p, st, po, fu, lo, la, lb, sp, sq, sto, edg, fai, lah, iat, ida, sta, ex, lg, blk) (nI d) := by
  have g := H.1
  obtain ⟨g1, g2, g3, g4, g5, g6, g7, g8, g9, g10⟩ := g
  obtain ⟨b1, s, b2, b3, b4⟩ := H.2.2.2.2.1 0 hc
  have : s = s0 := (nI_eq (by omega) (by omega)).1 (b3.symm.trans e0)
  subst this
  rw [show (h + 0) % 4 = h from Nat.mod_eq_of_lt g7] at b1 b4
  have lr := zp_rolt (n := k + 2) (s := s) (d := d) (by omega)
  have e2 : iat (nI h).toNatClampNeg = nI s := by rw [nI_clamp (by omega), b1, b3]
  refine And.intro (vp_in_nI g7 (by omega)) (nm_r e2 (zx_pres (by omega) (fun q => br_t rfl (h0 q)) (fun q => br_f (by decide) (zx_load g2 g7 (fun sp sq blk f1 f2 f3 => zx_rol g2 (by omega) hd ?_)))))
  rw [zx_ix]
  refine And.intro (vp_in_nI (by omega) (by omega)) (And.intro (vp_in_nI (by omega) (by omega)) (nm_r (e' := upd sto (d * 16 + s) (blk (zp_ro (k + 2) s d))) ?_ (h1 _ _ _ _ (fun hy => ?_))))
  · rw [nI_clamp (by omega), nI_clamp (by omega)]
  · exact zp_cwof (D := fun i => con (s * k + i)) (fun t ht => (f1 t ht).trans (b4 hy t ht)) f2 f3 _ lr
/-- one turn of the oldest intent: the component's, and with it the reference's -/
theorem zz_adv {post : Int32 → SX → Prop} (H : zr_I k S J h c p st sto edg fai lah iat ida sta ex lg con wd wm its) (hc : 0 < c)
    (hq : ∀ (r : Int32) (h' c' p' : Nat) (sp sq : Int32) (sto' blk its' : Nat → Int32), zr_I k S J h' c' p' st sto' edg fai lah iat ida sta ex lg con wd wm its' → c' * (k + 3) + p + 1 = c * (k + 3) + p' →
      (∀ (fu : Int32) (post : Int32 → SY → Prop), post r (nI (k + 2), nI k, nI S, nI J, nI c', nI p', po, st, fu, con, fai, edg, wd, wm, its', sta) → wpY_advance post (nI (k + 2), nI k, nI S, nI J, nI c, nI p, po, st, fu, con, fai, edg, wd, wm, its, sta)) → post r (nI (k + 2), nI k, nI S, nI J, nI h', nI c', nI p', st, po, fu, lo, la, lb, sp, sq, sto', edg, fai, lah, iat, ida, sta, ex, lg, blk)) : wpX_advance post (nI (k + 2), nI k, nI S, nI J, nI h, nI c, nI p, st, po, fu, lo, la, lb, sp, sq, sto, edg, fai, lah, iat, ida, sta, ex, lg, blk) := by
  have g := H.1
  obtain ⟨g1, g2, g3, g4, g5, g6, g7, g8, g9, g10⟩ := g
  by_cases hp : p < k + 2
  · obtain ⟨b1, s0, b2, b3, b4⟩ := H.2.2.2.2.1 0 hc
    have hY : ∀ (fu : Int32) (post : Int32 → SY → Prop), post 0 (nI (k + 2), nI k, nI S, nI J, nI c, nI (p + 1), po, st, fu, con, fai, edg, wd, wm, its, sta) → wpY_advance post (nI (k + 2), nI k, nI S, nI J, nI c, nI p, po, st, fu, con, fai, edg, wd, wm, its, sta) := fun fu post hq => br_f (nI_ge hp (by omega)) (nm_r (nI_1 p) hq)
    refine br_f (nI_ge hp (by omega)) (zx_redo H hc hp b2 b3 (fun e => nm_r (nI_1 p) ?_) (fun sp sq blk v hv => nm_r (nI_1 p) ?_))
    · exact hq 0 h c (p + 1) sp sq sto blk its (zr_redo H hc b2 b3 hp (fun _ _ => rfl) (fun _ q => absurd e q)) (by omega) hY
    · exact hq 0 h c (p + 1) sp sq _ blk its (zr_redo H hc b2 b3 hp (fun j hj => pk_un hj) (fun hy _ => pk_us.trans (hv hy))) (by omega) hY
  · have : p = k + 2 := by omega
    subst this
    obtain ⟨c', rfl⟩ : ∃ c', c = c' + 1 := ⟨c - 1, by omega⟩
    have e : (nI h + 1) &&& 3 = nI ((h + 1) % 4) := by
      rw [nI_1]
      exact pk_andN (n := h + 1) (by omega) 2 (by decide)
    refine br_t (nI_le (Nat.le_refl _) (by omega)) (nm_r e (nm_r (nI_pred c') ?_))
    refine hq 1 ((h + 1) % 4) c' 0 sp sq sto blk (zp_sh its 0 c') (zr_close H rfl (fun j hj => by rw [zp_shv, if_pos (by omega)])) (by rw [Nat.succ_mul]; omega) (fun fu post hp => ?_)
    exact br_t (nI_le (Nat.le_refl _) (by omega)) (Exists.intro (c' + 1) (zy_adv25 (by omega) c' 0 its (by omega) hp))
theorem zz_work {post : Int32 → SX → Prop} {L : Nat} (hL : L ≤ 64) (m : Nat) : ∀ (t h c p : Nat) (cl fu lo la lb sp sq : Int32) (sto blk its : Nat → Int32),
    zr_I k S J h c p st sto edg fai lah iat ida sta ex lg con wd wm its → t + m = L →
    (∀ (r : Int32) (u : SX), (∃ v : SY, i_Rel 0 u v ∧ ∀ postY : Int32 → SY → Prop, postY r v → wY_work_27 postY (nI L) (m + 1) cl (nI t) (nI (k + 2)) (nI k) (nI S) (nI J) (nI c) (nI p) po st fu con fai edg wd wm its sta) → post r u) →
    wX_runJournal_4 post (nI L) (m + 1) cl (nI t) (nI (k + 2)) (nI k) (nI S) (nI J) (nI h) (nI c) (nI p) st po fu lo la lb sp sq sto edg fai lah iat ida sta ex lg blk := by
  induction m with
  | zero =>
    intro t h c p cl fu lo la lb sp sq sto blk its H ht hp
    have l : nI L ≤ nI t := nI_le (by omega) (by omega)
    exact br_t l (hp _ _ (Exists.intro (nI (k + 2), nI k, nI S, nI J, nI c, nI p, po, st, fu, con, fai, edg, wd, wm, its, sta) (And.intro (zr_mk H) (fun _ q => br_t l q))))
  | succ m ih =>
    intro t h c p cl fu lo la lb sp sq sto blk its H ht hp
    have g := H.1
    obtain ⟨g1, g2, g3, g4, g5, g6, g7, g8, g9, g10⟩ := g
    have l : ¬ nI L ≤ nI t := nI_ge (by omega) (by omega)
    rcases Nat.eq_zero_or_pos c with rfl | hc
    · have z : nI 0 ≤ 0 := by decide
      exact br_f l (br_t z (hp _ _ (Exists.intro (nI (k + 2), nI k, nI S, nI J, nI 0, nI p, po, st, fu, con, fai, edg, wd, wm, its, sta) (And.intro (zr_mk H) (fun _ q => br_f l (br_t z q))))))
    · have z : ¬ nI c ≤ 0 := nI_nle hc (by omega)
      refine br_f l (br_f z (zx_turn (fun e => br_t rfl ?_) (fun e => br_f (by decide) ?_)))
      · refine hp _ _ (Exists.intro (nI (k + 2), nI k, nI S, nI J, nI c, 0, 0, -1, -1, con, fai, edg, wd, wm, its, zp_ds sta) (And.intro (zr_mk (p := 0) (zr_cut H)) (fun _ q => br_f l (br_f z (zy_turn (fun _ => br_t rfl q) (fun w => absurd e w))))))
      · refine zz_adv H hc (fun r h' c' p' sp sq sto' blk its' H' _ hY => nm_e (nm_r (nI_1 t) (ih (t + 1) h' c' p' _ _ _ _ _ _ _ _ _ its' H' (by omega) (fun r2 u hv => hp r2 u ?_))))
        obtain ⟨v, hv1, hv2⟩ := hv
        refine Exists.intro v (And.intro hv1 (fun postY q => br_f l (br_f z (zy_turn (fun w => absurd w e) (fun _ => br_f (by decide) (hY _ _ (nm_e (nm_r (nI_1 t) (hv2 postY q)))))))))
theorem zz_rest {post : Int32 → SX → Prop} {L : Nat} (hL : L ≤ 100) (m : Nat) : ∀ (t h c p : Nat) (cl fu lo la lb sp sq : Int32) (sto blk its : Nat → Int32),
    zr_I k S J h c p st sto edg fai lah iat ida sta ex lg con wd wm its → c * (k + 3) = m + p → t + m ≤ L → t + m ≤ J * (k + 3) →
    (∀ (r : Int32) (u : SX), (∃ v : SY, i_Rel 0 u v ∧ ∀ postY : Int32 → SY → Prop, postY r v → wY_restart_24 postY (m + 1) cl (nI t) (nI (k + 2)) (nI k) (nI S) (nI J) (nI c) (nI p) po st fu con fai edg wd wm its sta) → post r u) →
    wX_runJournal_4 post (nI L) (m + 1) cl (nI t) (nI (k + 2)) (nI k) (nI S) (nI J) (nI h) (nI c) (nI p) st po fu lo la lb sp sq sto edg fai lah iat ida sta ex lg blk := by
  induction m with
  | zero =>
    intro t h c p cl fu lo la lb sp sq sto blk its H ht h1 h2 hp
    have g := H.1
    obtain ⟨g1, g2, g3, g4, g5, g6, g7, g8, g9, g10⟩ := g
    rcases Nat.eq_zero_or_pos c with rfl | hc
    · have z : nI 0 ≤ 0 := by decide
      have q := hp cl (nI (k + 2), nI k, nI S, nI J, nI h, nI 0, nI p, st, po, fu, lo, la, lb, sp, sq, sto, edg, fai, lah, iat, ida, sta, ex, lg, blk) (Exists.intro (nI (k + 2), nI k, nI S, nI J, nI 0, nI p, po, st, fu, con, fai, edg, wd, wm, its, sta) (And.intro (zr_mk H) (fun _ q => br_c (fun _ => q) (fun _ => br_t z q))))
      exact br_c (fun _ => q) (fun _ => br_t z q)
    · have := Nat.mul_le_mul_right (k + 3) (show 1 ≤ c from hc)
      omega
  | succ m ih =>
    intro t h c p cl fu lo la lb sp sq sto blk its H ht h1 h2 hp
    have g := H.1
    obtain ⟨g1, g2, g3, g4, g5, g6, g7, g8, g9, g10⟩ := g
    have jk : J * (k + 3) ≤ 36 := Nat.mul_le_mul g6 (show k + 3 ≤ 9 by omega)
    have eJ : nI J * (nI (k + 2) + 1) = nI (J * (k + 3)) := by rw [nI_1, pk_mul]
    have l : ¬ nI L ≤ nI t := nI_ge (by omega) (by omega)
    have lY : ¬ nI J * (nI (k + 2) + 1) ≤ nI t := by rw [eJ]; exact nI_ge (by omega) (by omega)
    have hc : 0 < c := by
      rcases Nat.eq_zero_or_pos c with rfl | hc
      · rw [Nat.zero_mul] at ht; omega
      · exact hc
    have z : ¬ nI c ≤ 0 := nI_nle hc (by omega)
    refine br_f l (br_f z (zx_turn (fun e => br_t rfl ?_) (fun e => br_f (by decide) ?_)))
    · refine hp _ _ (Exists.intro (nI (k + 2), nI k, nI S, nI J, nI c, 0, 0, -1, -1, con, fai, edg, wd, wm, its, zp_ds sta) (And.intro (zr_mk (p := 0) (zr_cut H)) (fun _ q => br_f lY (br_f z (zy_turn (fun _ => br_t rfl q) (fun w => absurd e w))))))
    · refine zz_adv H hc (fun r h' c' p' sp sq sto' blk its' H' hm hY => nm_e (nm_r (nI_1 t) (ih (t + 1) h' c' p' _ _ _ _ _ _ _ _ _ its' H' (by omega) (by omega) (by omega) (fun r2 u hv => hp r2 u ?_))))
      obtain ⟨v, hv1, hv2⟩ := hv
      refine Exists.intro v (And.intro hv1 (fun postY q => br_f lY (br_f z (zy_turn (fun w => absurd w e) (fun _ => br_f (by decide) (hY _ _ (nm_e (nm_r (nI_1 t) (hv2 postY q)))))))))
end
end
section
/-! the calls, first part -/
theorem zz_arg (v : Int32) {N : Int32} {n : Nat} (hN : N = nI n) (h0 : 0 < n) (hn : n < 2 ^ 30) : v < 0 ∨ (¬ v < 0 ∧ ¬ v < N ∧ N ≤ v ∧ ¬ v ≤ N - 1 ∧ N - 1 < v) ∨
    (∃ j, j < n ∧ v = nI j ∧ ¬ nI j < 0 ∧ nI j < N ∧ ¬ N ≤ nI j ∧ nI j ≤ N - 1 ∧ ¬ N - 1 < nI j) := by
  subst hN
  obtain ⟨m, rfl⟩ : ∃ m, n = m + 1 := ⟨n - 1, by omega⟩
  rw [nI_pred]
  rcases pk_ix v (n := m + 1) (by omega) with h | h | ⟨j, hj, rfl⟩
  · exact Or.inl h
  · refine Or.inr (Or.inl ?_)
    have l : ¬ v < nI (m + 1) := Int32.not_lt.2 h
    have l2 : nI m < v := Int32.lt_of_lt_of_le (nI_lt (show m < m + 1 by omega) (by omega)) h
    have l3 : ¬ v < 0 := fun q => l (Int32.lt_of_lt_of_le q (nI_pos' (by omega)))
    exact ⟨l3, l, h, Int32.not_le.2 l2, l2⟩
  · exact Or.inr (Or.inr ⟨j, hj, rfl, nI_pos (by omega), nI_lt hj (by omega), nI_ge hj (by omega), nI_le (by omega) (by omega), nI_nlt (by omega) (by omega)⟩)
theorem zr_el1 {q : Nat} {P : SX → SY → Prop} {u : SX} {v : SY} (I : i_Rel q u v) (f : ∀ (k S J h c p : Nat) (st po fu lo la lb sp sq : Int32) (sto edg fai lah iat ida sta ex lg blk con wd wm its : Nat → Int32),
    zr_I k S J h c p st sto edg fai lah iat ida sta ex lg con wd wm its → P (nI (k + 2), nI k, nI S, nI J, nI h, nI c, nI p, st, po, fu, lo, la, lb, sp, sq, sto, edg, fai, lah, iat, ida, sta, ex, lg, blk) (nI (k + 2), nI k, nI S, nI J, nI c, nI p, po, st, fu, con, fai, edg, wd, wm, its, sta)) : P u v := zr_el f I
theorem i_vc_begin {k : Nat} {u : SX} {v : SY} (I : i_Rel k u v) (hk : k + 4 ≤ 2051) (v1 : Int32) : wpX_begin (fun r u' => wpY_begin (fun r' v' => r' = r ∧ i_Rel (k + 4) u' v') v v1) u v1 := by
  refine zr_el1 (P := fun u v => wpX_begin (fun r u' => wpY_begin (fun r' v' => r' = r ∧ i_Rel (k + 4) u' v') v v1) u v1) I ?_
  intro k S J h c p st po fu lo la lb sp sq sto edg fai lah iat ida sta ex lg blk con wd wm its H
  have g := H.1
  obtain ⟨g1, g2, g3, g4, g5, g6, g7, g8, g9, g10⟩ := g
  rcases zz_arg v1 (N := nI S) rfl (by omega) (by omega) with a1 | ⟨a1, a2, a3, a4, a5⟩ | ⟨s, hs, rfl, a1, a2, a3, a4, a5⟩
  · exact br_t a1 (br_t a1 (And.intro rfl (zr_mk H)))
  · exact br_f a1 (br_f a2 (br_f a1 (br_f a4 (And.intro rfl (zr_mk H)))))
  · by_cases hpo : po = 0
    · exact br_f a1 (br_t a2 (br_t hpo (br_f a1 (br_t a4 (br_t hpo (And.intro rfl (zr_mk H)))))))
    · exact br_f a1 (br_t a2 (br_f hpo (zx_drop (br_f a1 (br_t a4 (br_f hpo (zy_drop (And.intro rfl (zr_mk (zr_stage H (Or.inr ⟨s, hs, rfl⟩) (zr_ds g2)))))))))))
theorem i_vc_put {k : Nat} {u : SX} {v : SY} (I : i_Rel k u v) (hk : k + 4 ≤ 2051) (v1 : Int32) (v2 : Int32) : wpX_put (fun r u' => wpY_put (fun r' v' => r' = r ∧ i_Rel (k + 4) u' v') v v1 v2) u v1 v2 := by
  refine zr_el1 (P := fun u v => wpX_put (fun r u' => wpY_put (fun r' v' => r' = r ∧ i_Rel (k + 4) u' v') v v1 v2) u v1 v2) I ?_
  intro k S J h c p st po fu lo la lb sp sq sto edg fai lah iat ida sta ex lg blk con wd wm its H
  have g := H.1
  obtain ⟨g1, g2, g3, g4, g5, g6, g7, g8, g9, g10⟩ := g
  rcases zz_arg v1 (N := nI k) rfl (by omega) (by omega) with a1 | ⟨a1, a2, a3, a4, a5⟩ | ⟨s, hs, rfl, a1, a2, a3, a4, a5⟩
  · exact br_t a1 (br_t a1 (And.intro rfl (zr_mk H)))
  · exact br_f a1 (br_f a2 (br_f a1 (br_f a4 (And.intro rfl (zr_mk H)))))
  · by_cases hpo : po = 0
    · exact br_f a1 (br_t a2 (br_t hpo (br_f a1 (br_t a4 (br_t hpo (And.intro rfl (zr_mk H)))))))
    · by_cases hst : 0 ≤ st
      · have i6 : vp_in (nI s) 6 := vp_in_nI (by omega) (by omega)
        have H' : zr_I k S J h c p st sto edg fai lah iat ida (upd sta s (v2 &&& 255)) ex lg con wd wm its := zr_stage H H.2.2.2.1.2.1 (fun i hi => by
          by_cases e : i = s
          · subst e; rw [pk_us]; exact Or.inr (zp_byand v2)
          · rw [pk_un e]; exact H.2.2.2.1.2.2 i hi)
        exact br_f a1 (br_t a2 (br_f hpo (br_t hst (And.intro i6 (nm_r (zx_u (by omega)) (br_f a1 (br_t a4 (br_f hpo (br_t hst (And.intro i6 (nm_r (zx_u (by omega)) (And.intro rfl (zr_mk H')))))))))))))
      · exact br_f a1 (br_t a2 (br_f hpo (br_f hst (br_f a1 (br_t a4 (br_f hpo (br_f hst (And.intro rfl (zr_mk H)))))))))
theorem i_vc_crash {k : Nat} {u : SX} {v : SY} (I : i_Rel k u v) (hk : k + 4 ≤ 2051) : wpX_crash (fun r u' => wpY_crash (fun r' v' => r' = r ∧ i_Rel (k + 4) u' v') v) u := by
  refine zr_el1 (P := fun u v => wpX_crash (fun r u' => wpY_crash (fun r' v' => r' = r ∧ i_Rel (k + 4) u' v') v) u) I ?_
  intro k S J h c p st po fu lo la lb sp sq sto edg fai lah iat ida sta ex lg blk con wd wm its H
  by_cases hpo : po = 0
  · exact br_t hpo (br_t hpo (And.intro rfl (zr_mk H)))
  · exact br_f hpo (zx_lose (br_f hpo (zy_lose (And.intro rfl (zr_mk (p := 0) (zr_cut H))))))
theorem i_vc_arm {k : Nat} {u : SX} {v : SY} (I : i_Rel k u v) (hk : k + 4 ≤ 2051) (v1 : Int32) : wpX_arm (fun r u' => wpY_arm (fun r' v' => r' = r ∧ i_Rel (k + 4) u' v') v v1) u v1 := by
  refine zr_el1 (P := fun u v => wpX_arm (fun r u' => wpY_arm (fun r' v' => r' = r ∧ i_Rel (k + 4) u' v') v v1) u v1) I ?_
  intro k S J h c p st po fu lo la lb sp sq sto edg fai lah iat ida sta ex lg blk con wd wm its H
  exact br_c (fun a => br_c (fun b => br_t a (br_t b (And.intro rfl (zr_mk H)))) (fun b => br_t a (br_f b (And.intro rfl (zr_mk H))))) (fun a => br_f a (And.intro rfl (zr_mk H)))
theorem i_vc_frontier {k : Nat} {u : SX} {v : SY} (I : i_Rel k u v) (hk : k + 4 ≤ 2051) (v1 : Int32) : wpX_frontier (fun r => wpY_frontier (fun r' => r' = r ∧ i_Rel (k + 4) u v) v v1) u v1 := by
  refine zr_el1 (P := fun u v => wpX_frontier (fun r => wpY_frontier (fun r' => r' = r ∧ i_Rel (k + 4) u v) v v1) u v1) I ?_
  intro k S J h c p st po fu lo la lb sp sq sto edg fai lah iat ida sta ex lg blk con wd wm its H
  have g := H.1
  obtain ⟨g1, g2, g3, g4, g5, g6, g7, g8, g9, g10⟩ := g
  rcases zz_arg v1 (N := nI (k + 2)) rfl (by omega) (by omega) with a1 | ⟨a1, a2, a3, a4, a5⟩ | ⟨d, hd, rfl, a1, a2, a3, a4, a5⟩
  · exact br_t a1 (br_t a1 (And.intro rfl (zr_mk H)))
  · exact br_f a1 (br_f a2 (br_f a1 (br_f a4 (And.intro rfl (zr_mk H)))))
  · have i8 : vp_in (nI d) 8 := vp_in_nI (by omega) (by omega)
    exact br_f a1 (br_t a2 (And.intro i8 (br_c (fun b => And.intro i8 (br_f a1 (br_t a4 (And.intro i8 (br_t b (And.intro i8 (And.intro rfl (zr_mk H)))))))) (fun b => br_f a1 (br_t a4 (And.intro i8 (br_f b (And.intro rfl (zr_mk H)))))))))
theorem i_vc_intentStripe {k : Nat} {u : SX} {v : SY} (I : i_Rel k u v) (hk : k + 4 ≤ 2051) (v1 : Int32) : wpX_intentStripe (fun r => wpY_intentStripe (fun r' => r' = r ∧ i_Rel (k + 4) u v) v v1) u v1 := by
  refine zr_el1 (P := fun u v => wpX_intentStripe (fun r => wpY_intentStripe (fun r' => r' = r ∧ i_Rel (k + 4) u v) v v1) u v1) I ?_
  intro k S J h c p st po fu lo la lb sp sq sto edg fai lah iat ida sta ex lg blk con wd wm its H
  have g := H.1
  obtain ⟨g1, g2, g3, g4, g5, g6, g7, g8, g9, g10⟩ := g
  rcases zz_arg v1 (N := nI J) rfl (by omega) (by omega) with a1 | ⟨a1, a2, a3, a4, a5⟩ | ⟨i, hi, rfl, a1, a2, a3, a4, a5⟩
  · exact br_t a1 (br_t a1 (And.intro rfl (zr_mk H)))
  · exact br_f a1 (br_f a2 (br_f a1 (br_f a4 (And.intro rfl (zr_mk H)))))
  · by_cases b : nI i < nI c
    · have hic : i < c := (nI_ltI (by omega) (by omega)).1 b
      have e : (nI h + nI i) &&& 3 = nI ((h + i) % 4) := by
        rw [nI_add]
        exact pk_andN (n := h + i) (by omega) 2 (by decide)
      have e2 : its (nI i).toNatClampNeg = iat ((nI h + nI i) &&& 3).toNatClampNeg := by
        rw [e, nI_clamp (by omega), nI_clamp (by omega), zr_I1 H i hic]
      exact br_f a1 (br_t a2 (br_t b (And.intro (by rw [e]; exact vp_in_nI (by omega) (by omega)) (br_f a1 (br_t a4 (br_t b (And.intro (vp_in_nI (by omega) (by omega)) (And.intro e2 (zr_mk H)))))))))
    · exact br_f a1 (br_t a2 (br_f b (br_f a1 (br_t a4 (br_f b (And.intro rfl (zr_mk H)))))))
theorem i_vc_turnsToClose {k : Nat} {u : SX} {v : SY} (I : i_Rel k u v) (hk : k + 4 ≤ 2051) : wpX_turnsToClose (fun r => wpY_turnsToClose (fun r' => r' = r ∧ i_Rel (k + 4) u v) v) u := by
  refine zr_el1 (P := fun u v => wpX_turnsToClose (fun r => wpY_turnsToClose (fun r' => r' = r ∧ i_Rel (k + 4) u v) v) u) I ?_
  intro k S J h c p st po fu lo la lb sp sq sto edg fai lah iat ida sta ex lg blk con wd wm its H
  exact br_c (fun a => br_t a (And.intro rfl (zr_mk H))) (fun a => br_f a (And.intro rfl (zr_mk H)))
theorem i_vc_stageStripe {k : Nat} {u : SX} {v : SY} (I : i_Rel k u v) (hk : k + 4 ≤ 2051) : wpX_stageStripe (fun r => wpY_stageStripe (fun r' => r' = r ∧ i_Rel (k + 4) u v) v) u := by
  refine zr_el1 (P := fun u v => wpX_stageStripe (fun r => wpY_stageStripe (fun r' => r' = r ∧ i_Rel (k + 4) u v) v) u) I ?_
  intro k S J h c p st po fu lo la lb sp sq sto edg fai lah iat ida sta ex lg blk con wd wm its H
  exact br_c (fun a => br_t a (And.intro rfl (zr_mk H))) (fun a => br_f a (And.intro rfl (zr_mk H)))
theorem i_vc_staged {k : Nat} {u : SX} {v : SY} (I : i_Rel k u v) (hk : k + 4 ≤ 2051) (v1 : Int32) : wpX_staged (fun r => wpY_staged (fun r' => r' = r ∧ i_Rel (k + 4) u v) v v1) u v1 := by
  refine zr_el1 (P := fun u v => wpX_staged (fun r => wpY_staged (fun r' => r' = r ∧ i_Rel (k + 4) u v) v v1) u v1) I ?_
  intro k S J h c p st po fu lo la lb sp sq sto edg fai lah iat ida sta ex lg blk con wd wm its H
  have g := H.1
  obtain ⟨g1, g2, g3, g4, g5, g6, g7, g8, g9, g10⟩ := g
  rcases zz_arg v1 (N := nI k) rfl (by omega) (by omega) with a1 | ⟨a1, a2, a3, a4, a5⟩ | ⟨i, hi, rfl, a1, a2, a3, a4, a5⟩
  · exact br_t a1 (br_t a1 (And.intro rfl (zr_mk H)))
  · exact br_f a1 (br_f a2 (br_f a1 (br_f a4 (And.intro rfl (zr_mk H)))))
  · have i6 : vp_in (nI i) 6 := vp_in_nI (by omega) (by omega)
    exact br_f a1 (br_t a2 (br_c (fun b => br_f a1 (br_t a4 (br_t b (And.intro rfl (zr_mk H))))) (fun b => And.intro i6 (br_c (fun e => And.intro i6 (br_f a1 (br_t a4 (br_f b (And.intro i6 (br_t e (And.intro i6 (And.intro rfl (zr_mk H))))))))) (fun e => br_f a1 (br_t a4 (br_f b (And.intro i6 (br_f e (And.intro rfl (zr_mk H))))))))))) 
theorem i_vc_fuse {k : Nat} {u : SX} {v : SY} (I : i_Rel k u v) (hk : k + 4 ≤ 2051) : wpX_fuse (fun r => wpY_fuse (fun r' => r' = r ∧ i_Rel (k + 4) u v) v) u := by
  refine zr_el1 (P := fun u v => wpX_fuse (fun r => wpY_fuse (fun r' => r' = r ∧ i_Rel (k + 4) u v) v) u) I ?_
  intro k S J h c p st po fu lo la lb sp sq sto edg fai lah iat ida sta ex lg blk con wd wm its H
  exact And.intro rfl (zr_mk H)
theorem i_vc_media {k : Nat} {u : SX} {v : SY} (I : i_Rel k u v) (hk : k + 4 ≤ 2051) (v1 : Int32) (v2 : Int32) : wpX_media (fun r => wpY_media (fun r' => r' = r ∧ i_Rel (k + 4) u v) v v1 v2) u v1 v2 := by
  refine zr_el1 (P := fun u v => wpX_media (fun r => wpY_media (fun r' => r' = r ∧ i_Rel (k + 4) u v) v v1 v2) u v1 v2) I ?_
  intro k S J h c p st po fu lo la lb sp sq sto edg fai lah iat ida sta ex lg blk con wd wm its H
  have g := H.1
  obtain ⟨g1, g2, g3, g4, g5, g6, g7, g8, g9, g10⟩ := g
  rcases zz_arg v1 (N := nI (k + 2)) rfl (by omega) (by omega) with a1 | ⟨a1, a2, a3, a4, a5⟩ | ⟨d, hd, rfl, a1, a2, a3, a4, a5⟩
  · exact br_t a1 (br_t a1 (And.intro rfl (zr_mk H)))
  · exact br_f a1 (br_t a3 (br_f a1 (br_t a5 (And.intro rfl (zr_mk H)))))
  · rcases zz_arg v2 (N := nI S) rfl (by omega) (by omega) with b1 | ⟨b1, b2, b3, b4, b5⟩ | ⟨s, hs, rfl, b1, b2, b3, b4, b5⟩
    · exact br_f a1 (br_f a3 (br_t b1 (br_f a1 (br_f a5 (br_t b1 (And.intro rfl (zr_mk H)))))))
    · exact br_f a1 (br_f a3 (br_f b1 (br_f b2 (br_f a1 (br_f a5 (br_f b1 (br_f b4 (And.intro rfl (zr_mk H)))))))))
    · by_cases hpo : po = 0
      · exact br_f a1 (br_f a3 (br_f b1 (br_t b2 (br_t hpo (br_f a1 (br_f a5 (br_f b1 (br_t b4 (br_t hpo (And.intro rfl (zr_mk H)))))))))))
      · have i8 : vp_in (nI d) 8 := vp_in_nI (by omega) (by omega)
        have ec : edg (nI d).toNatClampNeg = edg d := zx_cl (by omega)
        refine br_f a1 (br_f a3 (br_f b1 (br_t b2 (br_f hpo (zx_pres (by omega) (fun e => br_t rfl (br_f a1 (br_f a5 (br_f b1 (br_t b4 (br_f hpo (And.intro i8 (br_f (fun q => ?_) (And.intro rfl (zr_mk H)))))))))) (fun e => br_f (by decide) (zx_ys g7 (by omega) (zr_I1 H) (fun i hi ei hy => br_f (nI_pos (by omega)) (br_f a1 (br_f a5 (br_f b1 (br_t b4 (br_f hpo (And.intro i8 (br_t ?_ (zy_busy (by omega) (fun _ => br_f (by decide) (And.intro rfl (zr_mk H))) (fun w => absurd ⟨i, hi, ei⟩ w)))))))))) (fun q => br_t (by decide) ?_))))))))
        · rw [ec] at q; exact Int32.not_lt.2 e q
        · rw [ec]; exact Int32.not_le.1 e
        · have hn := zr_bzn q
          rw [zx_ix]
          refine And.intro (vp_in_nI (by omega) (by omega)) (br_f a1 (br_f a5 (br_f b1 (br_t b4 (br_f hpo (And.intro i8 (br_t ?_ (zy_busy (by omega) (fun w => absurd w hn) (fun _ => br_t rfl (zy_sto g2 (by omega) hd (fun i hi => H.2.2.2.1.1 _ (zr_ix2 hi hs)) (And.intro ?_ (zr_mk H)))))))))))) 
          · rw [ec]; exact Int32.not_le.1 e
          · rw [nI_clamp (by omega)]
            exact (H.2.2.2.2.2.2.1 s hs hn d hd e).symm
end
section
/-! the calls, second part -/
section
variable {k S J h c p : Nat} {st po fu lo la lb sp sq : Int32} {sto edg fai lah iat ida sta ex lg blk con wd wm its : Nat → Int32}
theorem zy_ver {post : Int32 → Prop} {s : Nat} (hk : k ≤ 6) (hc : c ≤ 4) (hs : s < 16) (a1 : ¬ nI s < 0) (a4 : nI s ≤ nI S - 1) (hpo : ¬ po = 0)
    (h4 : zp_bz its c s → post (-4)) (h10 : ¬ zp_bz its c s → zp_C0 (fun d => edg d ≤ nI s) (k + 2) → wm s = 0 → post (-10)) (h11 : ¬ zp_bz its c s → zp_C0 (fun d => edg d ≤ nI s) (k + 2) → ¬ wm s = 0 → post (-11))
    (h9 : ¬ zp_bz its c s → ¬ zp_C0 (fun d => edg d ≤ nI s) (k + 2) → wm s = 0 → post (-9)) (h8 : ¬ zp_bz its c s → ¬ zp_C0 (fun d => edg d ≤ nI s) (k + 2) → ¬ wm s = 0 → post (-8)) :
    wpY_verify post (nI (k + 2), nI k, nI S, nI J, nI c, nI p, po, st, fu, con, fai, edg, wd, wm, its, sta) (nI s) := by
  have i16 : vp_in (nI s) 16 := vp_in_nI hs (by omega)
  have e : wm (nI s).toNatClampNeg = wm s := zx_cl (by omega)
  refine br_f a1 (br_t a4 (br_f hpo (zy_busy hc (fun b => br_f (by decide) (h4 b)) (fun b => br_t rfl (zy_mis hk (fun x hx => ?_))))))
  have q := (zp_cn1 (by omega) hx).2.1
  refine br_c (fun z => And.intro i16 ?_) (fun z => And.intro i16 ?_)
  · rw [e]
    exact br_c (fun w => h10 b (q.1 z) w) (fun w => h11 b (q.1 z) w)
  · rw [e]
    exact br_c (fun w => h9 b (fun y => z (q.2 y)) w) (fun w => h8 b (fun y => z (q.2 y)) w)
end
theorem i_vc_verify {k : Nat} {u : SX} {v : SY} (I : i_Rel k u v) (hk : k + 4 ≤ 2051) (v1 : Int32) : wpX_verify (fun r u' => wpY_verify (fun r' => r' = r ∧ i_Rel (k + 4) u' v) v v1) u v1 := by
  refine zr_el1 (P := fun u v => wpX_verify (fun r u' => wpY_verify (fun r' => r' = r ∧ i_Rel (k + 4) u' v) v v1) u v1) I ?_
  intro k S J h c p st po fu lo la lb sp sq sto edg fai lah iat ida sta ex lg blk con wd wm its H
  have g := H.1
  obtain ⟨g1, g2, g3, g4, g5, g6, g7, g8, g9, g10⟩ := g
  rcases zz_arg v1 (N := nI S) rfl (by omega) (by omega) with a1 | ⟨a1, a2, a3, a4, a5⟩ | ⟨s, hs, rfl, a1, a2, a3, a4, a5⟩
  · exact br_t a1 (br_t a1 (And.intro rfl (zr_mk H)))
  · exact br_f a1 (br_f a2 (br_f a1 (br_f a4 (And.intro rfl (zr_mk H)))))
  · by_cases hpo : po = 0
    · exact br_f a1 (br_t a2 (br_t hpo (br_f a1 (br_t a4 (br_t hpo (And.intro rfl (zr_mk H)))))))
    · have c12 : ∀ {lo : Int32}, (zp_C1 (fun d => edg d ≤ nI s) (k + 2) ∧ lo = 1 ∨ zp_C2 (fun d => edg d ≤ nI s) (k + 2) ∧ lo = 2) → ¬ zp_C0 (fun d => edg d ≤ nI s) (k + 2) := fun q z => by
        rcases q with q | q
        · exact zp_C01 z q.1
        · exact zp_C02 z q.1
      refine br_f a1 (br_t a2 (br_f hpo (zx_cond H hs (fun b _ => ?_) (fun b d0 w la lb sp sq blk _ => ?_) (fun b d0 w la lb sp sq blk _ _ => ?_) (fun b w lo la lb sp sq blk q _ => ?_) (fun b w d1 lo la lb sp sq blk => ?_))))
      · exact zy_ver g2 (by omega) (by omega) a1 a4 hpo (fun _ => And.intro rfl (zr_mk H)) (fun z => absurd b z) (fun z => absurd b z) (fun z => absurd b z) (fun z => absurd b z)
      · exact zy_ver g2 (by omega) (by omega) a1 a4 hpo (fun z => absurd z b) (fun _ _ _ => And.intro rfl (zr_mk H)) (fun _ _ z => absurd w z) (fun _ z => absurd d0 z) (fun _ z => absurd d0 z)
      · exact zy_ver g2 (by omega) (by omega) a1 a4 hpo (fun z => absurd z b) (fun _ _ z => absurd z w) (fun _ _ _ => And.intro rfl (zr_mk H)) (fun _ z => absurd d0 z) (fun _ z => absurd d0 z)
      · exact zy_ver g2 (by omega) (by omega) a1 a4 hpo (fun z => absurd z b) (fun _ z => absurd z (c12 q)) (fun _ z => absurd z (c12 q)) (fun _ _ _ => And.intro rfl (zr_mk H)) (fun _ _ z => absurd w z)
      · exact zy_ver g2 (by omega) (by omega) a1 a4 hpo (fun z => absurd z b) (fun _ z => (zp_C01 z d1).elim) (fun _ z => (zp_C01 z d1).elim) (fun _ _ z => absurd z w) (fun _ _ _ => And.intro rfl (zr_mk H))
theorem i_vc_scrub {k : Nat} {u : SX} {v : SY} (I : i_Rel k u v) (hk : k + 4 ≤ 2051) (v1 : Int32) : wpX_scrub (fun r u' => wpY_scrub (fun r' v' => r' = r ∧ i_Rel (k + 4) u' v') v v1) u v1 := by
  refine zr_el1 (P := fun u v => wpX_scrub (fun r u' => wpY_scrub (fun r' v' => r' = r ∧ i_Rel (k + 4) u' v') v v1) u v1) I ?_
  intro k S J h c p st po fu lo la lb sp sq sto edg fai lah iat ida sta ex lg blk con wd wm its H
  have g := H.1
  obtain ⟨g1, g2, g3, g4, g5, g6, g7, g8, g9, g10⟩ := g
  unfold wpX_scrub wpX_verify
  rcases zz_arg v1 (N := nI S) rfl (by omega) (by omega) with a1 | ⟨a1, a2, a3, a4, a5⟩ | ⟨s, hs, rfl, a1, a2, a3, a4, a5⟩
  · refine br_t a1 (br_f (by decide) ?_)
    unfold wpY_scrub wpY_verify
    exact br_t a1 (br_f (by decide) (And.intro rfl (zr_mk H)))
  · refine br_f a1 (br_f a2 (br_f (by decide) ?_))
    unfold wpY_scrub wpY_verify
    exact br_f a1 (br_f a4 (br_f (by decide) (And.intro rfl (zr_mk H))))
  · by_cases hpo : po = 0
    · refine br_f a1 (br_t a2 (br_t hpo (br_f (by decide) ?_)))
      unfold wpY_scrub wpY_verify
      exact br_f a1 (br_t a4 (br_t hpo (br_f (by decide) (And.intro rfl (zr_mk H)))))
    · have c12 : ∀ {lo : Int32}, (zp_C1 (fun d => edg d ≤ nI s) (k + 2) ∧ lo = 1 ∨ zp_C2 (fun d => edg d ≤ nI s) (k + 2) ∧ lo = 2) → ¬ zp_C0 (fun d => edg d ≤ nI s) (k + 2) := fun q z => by
        rcases q with q | q
        · exact zp_C01 z q.1
        · exact zp_C02 z q.1
      refine br_f a1 (br_t a2 (br_f hpo (zx_cond H hs (fun b _ => br_f (by decide) ?_) (fun b d0 w la lb sp sq blk _ => br_f (by decide) ?_) (fun b d0 w la lb sp sq blk _ R => br_t rfl ?_) (fun b w lo la lb sp sq blk q _ => br_f (by decide) ?_) (fun b w d1 lo la lb sp sq blk => br_f (by decide) ?_))))
      · unfold wpY_scrub
        exact zy_ver g2 (by omega) (by omega) a1 a4 hpo (fun _ => br_f (by decide) (And.intro rfl (zr_mk H))) (fun z => absurd b z) (fun z => absurd b z) (fun z => absurd b z) (fun z => absurd b z)
      · unfold wpY_scrub
        exact zy_ver g2 (by omega) (by omega) a1 a4 hpo (fun z => absurd z b) (fun _ _ _ => br_f (by decide) (And.intro rfl (zr_mk H))) (fun _ _ z => absurd w z) (fun _ z => absurd d0 z) (fun _ z => absurd d0 z)
      · obtain ⟨-, -, ⟨d, hd, ed, pd⟩, -⟩ := (H.2.2.2.2.2.1 s hs).2 w
        have lr := zp_rolt (n := k + 2) (s := s) (d := d) (by omega)
        have i16 : vp_in (nI s) 16 := vp_in_nI (by omega) (by omega)
        refine zx_turn (fun e => br_t rfl ?_) (fun e => br_f (by decide) (R d _ _ hd ed (fun blk hb => zx_dko g2 (by omega) (by omega) ?_)))
        · unfold wpY_scrub
          exact zy_ver g2 (by omega) (by omega) a1 a4 hpo (fun z => absurd z b) (fun _ _ z => absurd z w) (fun _ _ _ => br_t rfl (zy_turn (fun _ => br_t rfl (And.intro rfl (zr_mk (p := 0) (zr_cut H)))) (fun q => absurd e q))) (fun _ z => absurd d0 z) (fun _ z => absurd d0 z)
        · rw [zp_dkro hd, zx_ix, nI_clamp (by omega), nI_clamp (by omega), hb _ lr]
          refine And.intro (vp_in_nI (by omega) (by omega)) (And.intro (vp_in_nI (by omega) (by omega)) (nm_e ?_))
          unfold wpY_scrub
          refine zy_ver g2 (by omega) (by omega) a1 a4 hpo (fun z => absurd z b) (fun _ _ z => absurd z w) (fun _ _ _ => br_t rfl (zy_turn (fun q => absurd q e) (fun _ => br_f (by decide) (And.intro i16 (nm_r (zx_u (by omega)) (And.intro i16 (And.intro ?_ (zr_mk (zr_scr H hd hs b ed))))))))) (fun _ z => absurd d0 z) (fun _ z => absurd d0 z)
          rw [nI_clamp (by omega), ed]
      · unfold wpY_scrub
        exact zy_ver g2 (by omega) (by omega) a1 a4 hpo (fun z => absurd z b) (fun _ z => absurd z (c12 q)) (fun _ z => absurd z (c12 q)) (fun _ _ _ => br_f (by decide) (And.intro rfl (zr_mk H))) (fun _ _ z => absurd w z)
      · unfold wpY_scrub
        exact zy_ver g2 (by omega) (by omega) a1 a4 hpo (fun z => absurd z b) (fun _ z => (zp_C01 z d1).elim) (fun _ z => (zp_C01 z d1).elim) (fun _ _ z => absurd z w) (fun _ _ _ => br_f (by decide) (And.intro rfl (zr_mk H)))
theorem i_vc_corrupt {k : Nat} {u : SX} {v : SY} (I : i_Rel k u v) (hk : k + 4 ≤ 2051) (v1 : Int32) (v2 : Int32) (v3 : Int32) : wpX_corrupt (fun r u' => wpY_corrupt (fun r' v' => r' = r ∧ i_Rel (k + 4) u' v') v v1 v2 v3) u v1 v2 v3 := by
  refine zr_el1 (P := fun u v => wpX_corrupt (fun r u' => wpY_corrupt (fun r' v' => r' = r ∧ i_Rel (k + 4) u' v') v v1 v2 v3) u v1 v2 v3) I ?_
  intro k S J h c p st po fu lo la lb sp sq sto edg fai lah iat ida sta ex lg blk con wd wm its H
  have g := H.1
  obtain ⟨g1, g2, g3, g4, g5, g6, g7, g8, g9, g10⟩ := g
  rcases zz_arg v1 (N := nI (k + 2)) rfl (by omega) (by omega) with a1 | ⟨a1, a2, a3, a4, a5⟩ | ⟨d, hd, rfl, a1, a2, a3, a4, a5⟩
  · exact br_t a1 (br_t a1 (And.intro rfl (zr_mk H)))
  · exact br_f a1 (br_t a3 (br_f a1 (br_t a5 (And.intro rfl (zr_mk H)))))
  · rcases zz_arg v2 (N := nI S) rfl (by omega) (by omega) with b1 | ⟨b1, b2, b3, b4, b5⟩ | ⟨s, hs, rfl, b1, b2, b3, b4, b5⟩
    · exact br_f a1 (br_f a3 (br_t b1 (br_f a1 (br_f a5 (br_t b1 (And.intro rfl (zr_mk H)))))))
    · exact br_f a1 (br_f a3 (br_f b1 (br_t b3 (br_f a1 (br_f a5 (br_f b1 (br_t b5 (And.intro rfl (zr_mk H)))))))))
    · by_cases hm : v3 &&& 255 = 0
      · exact br_f a1 (br_f a3 (br_f b1 (br_f b3 (br_t hm (br_f a1 (br_f a5 (br_f b1 (br_f b5 (br_t hm (And.intro rfl (zr_mk H)))))))))))
      · have i8 : vp_in (nI d) 8 := vp_in_nI (by omega) (by omega)
        have i16 : vp_in (nI s) 16 := vp_in_nI (by omega) (by omega)
        have ec : edg (nI d).toNatClampNeg = edg d := zx_cl (by omega)
        have ew : wm (nI s).toNatClampNeg = wm s := zx_cl (by omega)
        refine br_f a1 (br_f a3 (br_f b1 (br_f b3 (br_f hm (zx_pres (by omega) (fun e => br_t rfl (br_f a1 (br_f a5 (br_f b1 (br_f b5 (br_f hm (And.intro i8 (br_f (fun q => ?_) (And.intro rfl (zr_mk H)))))))))) (fun e => br_f (by decide) ?_))))))
        · rw [ec] at q; exact Int32.not_lt.2 e q
        · have el : nI s < edg (nI d).toNatClampNeg := by rw [ec]; exact Int32.not_le.1 e
          have Yb : ∀ {post : Int32 → SY → Prop}, (zp_bz its c s → post (-4) (nI (k + 2), nI k, nI S, nI J, nI c, nI p, po, st, fu, con, fai, edg, wd, wm, its, sta)) → (¬ zp_bz its c s → (zp_C2 (fun d => edg d ≤ nI s) (k + 2) ∨ ¬ wm s = 0) → post (-7) (nI (k + 2), nI k, nI S, nI J, nI c, nI p, po, st, fu, con, fai, edg, wd, wm, its, sta)) →
              (¬ zp_bz its c s → ¬ zp_C2 (fun d => edg d ≤ nI s) (k + 2) → wm s = 0 → post 0 (nI (k + 2), nI k, nI S, nI J, nI c, nI p, po, st, fu, con, fai, edg, upd wd s (nI d), upd wm s (v3 &&& 255), its, sta)) → wpY_corrupt post (nI (k + 2), nI k, nI S, nI J, nI c, nI p, po, st, fu, con, fai, edg, wd, wm, its, sta) (nI d) (nI s) v3 := fun q4 q7 q0 => by
            refine br_f a1 (br_f a5 (br_f b1 (br_f b5 (br_f hm (And.intro i8 (br_t el (zy_busy (by omega) (fun b => br_f (by decide) (q4 b)) (fun b => br_t rfl (zy_mis g2 (fun x hx => ?_))))))))))
            have q := (zp_cn1 (by omega) hx).2.2
            refine br_c (fun z => q7 b (Or.inl (q.1 z))) (fun z => And.intro i16 ?_)
            rw [ew, nI_clamp (by omega)]
            exact br_c (fun w => And.intro i16 (nm_e (And.intro i16 (nm_e (q0 b (fun y => z (q.2 y)) w))))) (fun w => q7 b (Or.inr w))
          refine zx_cond H hs (fun b _ => br_t rfl ?_) (fun b d0 w la lb sp sq blk _ => br_f (by decide) (br_f (by decide) (br_f (by decide) (br_t (by decide) ?_)))) (fun b d0 w la lb sp sq blk _ R => br_f (by decide) (br_t rfl ?_)) (fun b w lo la lb sp sq blk q _ => br_f (by decide) (br_f (by decide) (br_f (by decide) ?_))) (fun b w d1 lo la lb sp sq blk => br_f (by decide) (br_f (by decide) (br_t rfl ?_)))
          · exact Yb (fun _ => And.intro rfl (zr_mk H)) (fun z => absurd b z) (fun z => absurd b z)
          · rw [zx_ix, nI_clamp (by omega), nI_clamp (by omega)]
            refine And.intro (vp_in_nI (by omega) (by omega)) (And.intro (vp_in_nI (by omega) (by omega)) (nm_e (And.intro i16 (nm_e (Yb (fun z => absurd z b) (fun _ z => ?_) (fun _ z2 _ => And.intro rfl (zr_mk (zr_cor H hd hs e b w z2 (zp_byand v3)))))))))
            rcases z with z | z
            · exact (zp_C02 d0 z).elim
            · exact absurd w z
          · exact Yb (fun z => absurd z b) (fun _ _ => And.intro rfl (zr_mk H)) (fun _ _ z => absurd z w)
          · rcases q with ⟨d1, rfl⟩ | ⟨d2, rfl⟩
            · refine br_t (by decide) ?_
              rw [zx_ix, nI_clamp (by omega), nI_clamp (by omega)]
              refine And.intro (vp_in_nI (by omega) (by omega)) (And.intro (vp_in_nI (by omega) (by omega)) (nm_e (And.intro i16 (nm_e (Yb (fun z => absurd z b) (fun _ z => ?_) (fun _ z2 _ => And.intro rfl (zr_mk (zr_cor H hd hs e b w z2 (zp_byand v3)))))))))
              rcases z with z | z
              · exact (zp_C12 d1 z).elim
              · exact absurd w z
            · exact br_f (by decide) (Yb (fun z => absurd z b) (fun _ _ => And.intro rfl (zr_mk H)) (fun _ z => absurd d2 z))
          · exact Yb (fun z => absurd z b) (fun _ _ => And.intro rfl (zr_mk H)) (fun _ _ z => absurd z w)
theorem i_vc_read {k : Nat} {u : SX} {v : SY} (I : i_Rel k u v) (hk : k + 4 ≤ 2051) (v1 : Int32) : wpX_read (fun r u' => wpY_read (fun r' => r' = r ∧ i_Rel (k + 4) u' v) v v1) u v1 := by
  refine zr_el1 (P := fun u v => wpX_read (fun r u' => wpY_read (fun r' => r' = r ∧ i_Rel (k + 4) u' v) v v1) u v1) I ?_
  intro k S J h c p st po fu lo la lb sp sq sto edg fai lah iat ida sta ex lg blk con wd wm its H
  have g := H.1
  obtain ⟨g1, g2, g3, g4, g5, g6, g7, g8, g9, g10⟩ := g
  have Sk : S * k ≤ 96 := Nat.mul_le_mul g4 g2
  have Sp : 0 < S * k := Nat.mul_pos (by omega) (by omega)
  rcases zz_arg v1 (N := nI S * nI k) (pk_mul S k) Sp (by omega) with a1 | ⟨a1, a2, a3, a4, a5⟩ | ⟨l, hl, rfl, a1, a2, a3, a4, a5⟩
  · exact br_t a1 (br_t a1 (And.intro rfl (zr_mk H)))
  · exact br_f a1 (br_f a2 (br_f a1 (br_f a4 (And.intro rfl (zr_mk H)))))
  · by_cases hpo : po = 0
    · exact br_f a1 (br_t a2 (br_t hpo (br_f a1 (br_t a4 (br_t hpo (And.intro rfl (zr_mk H)))))))
    · have nk : ¬ nI k = 0 := nI_ne0 (by omega) (by omega)
      have nn : ¬ nI (k + 2) = 0 := nI_ne0 (by omega) (by omega)
      have e1 : nI l / nI k = nI (l / k) := pk_div (by omega) (by omega) (by omega)
      have e2 : nI l - nI l / nI k * nI k = nI (l % k) := pk_rem (by omega) (by omega) (by omega)
      have hr := Nat.mod_lt l (show 0 < k by omega)
      have hs : l / k < S := Nat.div_lt_of_lt_mul (by rw [Nat.mul_comm]; exact hl)
      have hq := Nat.div_add_mod' l k
      have e3 : 2 + (nI l - nI l / nI k * nI k) = nI (2 + l % k) := by rw [e2]; exact nI_add 2 _
      generalize l / k = s at *
      generalize l % k = t at *
      have lt := zp_dklt (n := k + 2) (s := s) (r := 2 + t) (by omega)
      have e4 : ((nI (k + 2 - 1 - s % (k + 2)) + 2) + (nI l - nI l / nI k * nI k)) - ((nI (k + 2 - 1 - s % (k + 2)) + 2) + (nI l - nI l / nI k * nI k)) / nI (k + 2) * nI (k + 2) = nI (zp_dk (k + 2) s (2 + t)) := by
        have ee : nI (k + 2 - 1 - s % (k + 2)) + 2 = nI (k + 2 - 1 - s % (k + 2) + 2) := nI_add _ 2
        rw [e2, ee, nI_add, pk_rem (by omega) (by omega) (by omega)]
        unfold zp_dk
        rw [Nat.add_assoc]
      have i8 : vp_in (nI (zp_dk (k + 2) s (2 + t))) 8 := vp_in_nI (by omega) (by omega)
      have i16 : vp_in (nI s) 16 := vp_in_nI (by omega) (by omega)
      have i96 : vp_in (nI l) 96 := vp_in_nI (by omega) (by omega)
      have ec : edg (nI (zp_dk (k + 2) s (2 + t))).toNatClampNeg = edg (zp_dk (k + 2) s (2 + t)) := zx_cl (by omega)
      have ew : wm (nI s).toNatClampNeg = wm s := zx_cl (by omega)
      have el : con (nI l).toNatClampNeg = con l := zx_cl (by omega)
      have cd : zp_C con k s (2 + t) = con l := by
        unfold zp_C
        rw [zp_cwd, hq]
      have Yr : ∀ {post : Int32 → Prop}, (zp_bz its c s → post (con l)) → (¬ zp_bz its c s → ¬ edg (zp_dk (k + 2) s (2 + t)) ≤ nI s → post (sto (zp_dk (k + 2) s (2 + t) * 16 + s))) →
          (¬ zp_bz its c s → edg (zp_dk (k + 2) s (2 + t)) ≤ nI s → ¬ wm s = 0 → post (-8)) → (¬ zp_bz its c s → edg (zp_dk (k + 2) s (2 + t)) ≤ nI s → wm s = 0 → post (con l)) → wpY_read post (nI (k + 2), nI k, nI S, nI J, nI c, nI p, po, st, fu, con, fai, edg, wd, wm, its, sta) (nI l) := fun q1 q2 q3 q4 => by
        refine br_f a1 (br_t a4 (br_f hpo (And.intro nk (nm_r e1 (zy_busy (by omega) (fun b => br_f (by decide) (And.intro i96 ?_)) (fun b => br_t rfl (And.intro nn (nm_r (zx_p g2 (by omega)) (And.intro nk (And.intro nn (nm_r e4 (And.intro i8 (br_c (fun z => And.intro i16 ?_) (fun z => ?_))))))))))))))
        · rw [el]; exact q1 b
        · rw [ec] at z
          rw [ew]
          refine br_c (fun w => And.intro i96 ?_) (fun w => q3 b z w)
          rw [el]; exact q4 b z w
        · rw [ec] at z
          refine zy_sto g2 (by omega) lt (fun i hi => H.2.2.2.1.1 _ (zr_ix2 hi hs)) ?_
          rw [← H.2.2.2.2.2.2.1 s hs b _ lt z]
          exact q2 b z
      refine br_f a1 (br_t a2 (br_f hpo (And.intro nk (nm_r e1 (And.intro nk (nm_r e3 (zx_cond H hs (fun b R => br_t rfl ?_) (fun b d0 w la lb sp sq blk R => br_f (by decide) (zx_dko g2 (by omega) (by omega) (zx_pres (by omega) (fun z => ?_) (fun z => ?_))))
        (fun b d0 w la lb sp sq blk R _ => br_f (by decide) (zx_dko g2 (by omega) (by omega) (zx_pres (by omega) (fun z => ?_) (fun z => ?_)))) (fun b w lo la lb sp sq blk q R => br_f (by decide) (zx_dko g2 (by omega) (by omega) (zx_pres (by omega) (fun z => ?_) (fun z => ?_))))
        (fun b w d1 lo la lb sp sq blk => br_f (by decide) (zx_dko g2 (by omega) (by omega) (zx_pres (by omega) (fun z => ?_) (fun z => ?_)))))))))))
      · refine R _ _ (fun sp sq blk hb => And.intro (vp_in_nI (by omega) (by omega)) ?_)
        rw [nI_clamp (by omega), hb _ (by omega), cd]
        exact Yr (fun _ => And.intro rfl (zr_mk H)) (fun z => absurd b z) (fun z => absurd b z) (fun z => absurd b z)
      · exact absurd z (d0 _ lt)
      · refine br_f (by decide) ?_
        rw [zx_ix, nI_clamp (by omega)]
        exact And.intro (vp_in_nI (by omega) (by omega)) (Yr (fun y => absurd y b) (fun _ _ => And.intro rfl (zr_mk H)) (fun _ y => absurd y z) (fun _ y => absurd y z))
      · exact absurd z (d0 _ lt)
      · refine br_f (by decide) ?_
        rw [zx_ix, nI_clamp (by omega)]
        exact And.intro (vp_in_nI (by omega) (by omega)) (Yr (fun y => absurd y b) (fun _ _ => And.intro rfl (zr_mk H)) (fun _ y => absurd y z) (fun _ y => absurd y z))
      · refine br_t rfl (br_f (by decide) (R _ _ (fun sp sq blk hb => And.intro (vp_in_nI (by omega) (by omega)) ?_)))
        rw [nI_clamp (by omega), hb _ (by omega), cd]
        exact Yr (fun y => absurd y b) (fun _ y => absurd z y) (fun _ _ y => absurd w y) (fun _ _ _ => And.intro rfl (zr_mk H))
      · refine br_f (by decide) ?_
        rw [zx_ix, nI_clamp (by omega)]
        exact And.intro (vp_in_nI (by omega) (by omega)) (Yr (fun y => absurd y b) (fun _ _ => And.intro rfl (zr_mk H)) (fun _ y => absurd y z) (fun _ y => absurd y z))
      · exact br_t rfl (br_t rfl (Yr (fun y => absurd y b) (fun _ y => absurd z y) (fun _ _ _ => And.intro rfl (zr_mk H)) (fun _ _ y => absurd y w)))
      · refine br_f (by decide) ?_
        rw [zx_ix, nI_clamp (by omega)]
        exact And.intro (vp_in_nI (by omega) (by omega)) (Yr (fun y => absurd y b) (fun _ _ => And.intro rfl (zr_mk H)) (fun _ y => absurd y z) (fun _ y => absurd y z))
end
section
/-! the calls, third part -/
theorem zr_any {q q' : Nat} {u : SX} {v : SY} (h : i_Rel q u v) : i_Rel q' u v := h
theorem i_vc_work {k : Nat} {u : SX} {v : SY} (I : i_Rel k u v) (hk : k + 4 ≤ 2051) (v1 : Int32) : wpX_work (fun r u' => wpY_work (fun r' v' => r' = r ∧ i_Rel (k + 4) u' v') v v1) u v1 := by
  refine zr_el1 (P := fun u v => wpX_work (fun r u' => wpY_work (fun r' v' => r' = r ∧ i_Rel (k + 4) u' v') v v1) u v1) I ?_
  intro k S J h c p st po fu lo la lb sp sq sto edg fai lah iat ida sta ex lg blk con wd wm its H
  by_cases h1 : v1 < 1
  · exact br_t h1 (br_t h1 (And.intro rfl (zr_mk H)))
  · by_cases h2 : v1 ≤ 64
    · obtain ⟨L, hL, rfl⟩ := nI_of2 (M := 64) (n := 64) (by decide) (fun q => h1 (Int32.lt_trans q (by decide))) h2
      by_cases hpo : po = 0
      · exact br_f h1 (br_t h2 (br_t hpo (br_f h1 (br_t h2 (br_t hpo (And.intro rfl (zr_mk H)))))))
      · refine br_f h1 (br_t h2 (br_f hpo (Exists.intro (L + 1) (zz_work hL L 0 h c p 0 fu lo la lb sp sq sto blk its H (by omega) (fun r u hx => ?_)))))
        obtain ⟨v, hv, hY⟩ := hx
        obtain ⟨x1, x2, x3, x4, x5, x6, x7, x8, x9, x10, x11, x12, x13, x14, x15, x16, x17, x18, x19, x20, x21, x22, x23, x24, x25⟩ := u
        exact br_f h1 (br_t h2 (br_f hpo (Exists.intro (L + 1) (hY _ (And.intro rfl (zr_any hv))))))
    · exact br_f h1 (br_f h2 (br_f h1 (br_f h2 (And.intro rfl (zr_mk H)))))
theorem i_vc_restart {k : Nat} {u : SX} {v : SY} (I : i_Rel k u v) (hk : k + 4 ≤ 2051) : wpX_restart (fun r u' => wpY_restart (fun r' v' => r' = r ∧ i_Rel (k + 4) u' v') v) u := by
  refine zr_el1 (P := fun u v => wpX_restart (fun r u' => wpY_restart (fun r' v' => r' = r ∧ i_Rel (k + 4) u' v') v) u) I ?_
  intro k S J h c p st po fu lo la lb sp sq sto edg fai lah iat ida sta ex lg blk con wd wm its H
  have g := H.1
  obtain ⟨g1, g2, g3, g4, g5, g6, g7, g8, g9, g10⟩ := g
  by_cases hpo : po = 0
  · have e : nI c * (nI (k + 2) + 1) = nI (c * (k + 3)) := by rw [nI_1, pk_mul]
    have l1 : c * (k + 3) ≤ 36 := Nat.mul_le_mul (show c ≤ 4 by omega) (show k + 3 ≤ 9 by omega)
    have l2 : c * (k + 3) ≤ J * (k + 3) := Nat.mul_le_mul_right _ g8
    refine br_t hpo (nm_r e (Exists.intro (c * (k + 3) + 1) (zz_rest (by omega) (c * (k + 3)) 0 h c 0 0 fu lo la lb sp sq sto blk its (zr_p0 H) (by omega) (by omega) (by omega) (fun r u hx => ?_))))
    obtain ⟨v, hv, hY⟩ := hx
    obtain ⟨x1, x2, x3, x4, x5, x6, x7, x8, x9, x10, x11, x12, x13, x14, x15, x16, x17, x18, x19, x20, x21, x22, x23, x24, x25⟩ := u
    exact br_t hpo (Exists.intro (c * (k + 3) + 1) (hY _ (And.intro rfl (zr_any hv))))
  · exact br_f hpo (br_f hpo (And.intro rfl (zr_mk H)))
section
variable {fn fk fS fJ fh fc fp st po fu lo la lb sp sq : Int32} {sto edg fai lah iat ida sta ex lg blk con wd wm its : Nat → Int32}
theorem zx_rep42 {post : Int32 → SX → Prop} {d : Nat} (hd : d < 8) (m : Nat) : ∀ (i : Nat) (sto : Nat → Int32), i + m = 16 → post 0 (fn, fk, fS, fJ, fh, fc, fp, st, po, fu, lo, la, lb, sp, sq, zp_fl 0 sto (d * 16 + i) m, edg, fai, lah, iat, ida, sta, ex, lg, blk) →
    wX_replace_42 post (nI d) fn fk fS fJ fh fc fp st po fu lo la lb sp sq (m + 1) (nI i) sto edg fai lah iat ida sta ex lg blk := by
  induction m with
  | zero =>
    intro i sto h hp
    exact br_t (nI_le (a := 16) (by omega) (by omega)) hp
  | succ m ih =>
    intro i sto h hp
    refine br_f (nI_ge (b := 16) (by omega) (by omega)) ?_
    rw [zx_ix]
    exact And.intro (vp_in_nI (by omega) (by omega)) (nm_r (zx_u (by omega)) (nm_r (nI_1 i) (ih (i + 1) _ (by omega) hp)))
end
theorem i_vc_replace {k : Nat} {u : SX} {v : SY} (I : i_Rel k u v) (hk : k + 4 ≤ 2051) (v1 : Int32) : wpX_replace (fun r u' => wpY_replace (fun r' v' => r' = r ∧ i_Rel (k + 4) u' v') v v1) u v1 := by
  refine zr_el1 (P := fun u v => wpX_replace (fun r u' => wpY_replace (fun r' v' => r' = r ∧ i_Rel (k + 4) u' v') v v1) u v1) I ?_
  intro k S J h c p st po fu lo la lb sp sq sto edg fai lah iat ida sta ex lg blk con wd wm its H
  have g := H.1
  obtain ⟨g1, g2, g3, g4, g5, g6, g7, g8, g9, g10⟩ := g
  rcases zz_arg v1 (N := nI (k + 2)) rfl (by omega) (by omega) with a1 | ⟨a1, a2, a3, a4, a5⟩ | ⟨d, hd, rfl, a1, a2, a3, a4, a5⟩
  · exact br_t a1 (br_t a1 (And.intro rfl (zr_mk H)))
  · exact br_f a1 (br_f a2 (br_f a1 (br_f a4 (And.intro rfl (zr_mk H)))))
  · have i8 : vp_in (nI d) 8 := vp_in_nI (by omega) (by omega)
    have ef : fai (nI d).toNatClampNeg = fai d := zx_cl (by omega)
    by_cases b : fai d = 0
    · have b' : fai (nI d).toNatClampNeg = 0 := ef.trans b
      exact br_f a1 (br_t a2 (And.intro i8 (br_t b' (br_f a1 (br_t a4 (And.intro i8 (br_t b' (And.intro rfl (zr_mk H)))))))))
    · have b' : ¬ fai (nI d).toNatClampNeg = 0 := fun q => b (ef.symm.trans q)
      have he : upd edg d 0 = edg := by
        obtain ⟨f, h1, h2, h3⟩ := H.2.1.1 d hd
        funext j
        by_cases e : j = d
        · subst e; rw [pk_us, h2, h3 b, nI_0]
        · rw [pk_un e]
      have H' : zr_I k S J h c p st (zp_fl 0 sto (d * 16 + 0) 16) (upd edg d 0) (upd fai d (vp_nar .boolean 0)) lah iat ida sta ex lg con wd wm its :=
        zr_rep H hd b (fun j hj => pk_un hj) he (fun d' s hs hdd => by rw [zp_flv, if_neg (by omega)])
      exact br_f a1 (br_t a2 (And.intro i8 (br_f b' (And.intro i8 (nm_r (zx_u (by omega)) (And.intro i8 (nm_r (zx_u (by omega)) (Exists.intro 17 (zx_rep42 (by omega) 16 0 sto (by omega) (br_f a1 (br_t a4 (And.intro i8 (br_f b' (And.intro i8 (nm_r (zx_u (by omega)) (And.intro i8 (nm_r (zx_u (by omega)) (And.intro rfl (zr_mk H')))))))))))))))))))
theorem zr_uq {s s' i t k : Nat} (hi : i < k) (ht : t < k) (e : s' * k + i = s * k + t) : s' = s ∧ i = t := by
  have a : s' = s := by
    rcases Nat.lt_trichotomy s' s with q | q | q
    · have := Nat.mul_le_mul_right k q
      rw [Nat.succ_mul] at this
      omega
    · exact q
    · have := Nat.mul_le_mul_right k q
      rw [Nat.succ_mul] at this
      omega
  subst a
  exact ⟨rfl, by omega⟩
theorem i_vc_write {k : Nat} {u : SX} {v : SY} (I : i_Rel k u v) (hk : k + 4 ≤ 2051) (v1 : Int32) (v2 : Int32) : wpX_write (fun r u' => wpY_write (fun r' v' => r' = r ∧ i_Rel (k + 4) u' v') v v1 v2) u v1 v2 := by
  refine zr_el1 (P := fun u v => wpX_write (fun r u' => wpY_write (fun r' v' => r' = r ∧ i_Rel (k + 4) u' v') v v1 v2) u v1 v2) I ?_
  intro k S J h c p st po fu lo la lb sp sq sto edg fai lah iat ida sta ex lg blk con wd wm its H
  have g := H.1
  obtain ⟨g1, g2, g3, g4, g5, g6, g7, g8, g9, g10⟩ := g
  have Sk : S * k ≤ 96 := Nat.mul_le_mul g4 g2
  have Sp : 0 < S * k := Nat.mul_pos (by omega) (by omega)
  rcases zz_arg v1 (N := nI S * nI k) (pk_mul S k) Sp (by omega) with a1 | ⟨a1, a2, a3, a4, a5⟩ | ⟨l, hl, rfl, a1, a2, a3, a4, a5⟩
  · exact br_t a1 (br_t a1 (And.intro rfl (zr_mk H)))
  · exact br_f a1 (br_f a2 (br_f a1 (br_f a4 (And.intro rfl (zr_mk H)))))
  · by_cases hpo : po = 0
    · exact br_f a1 (br_t a2 (br_t hpo (br_f a1 (br_t a4 (br_t hpo (And.intro rfl (zr_mk H)))))))
    · by_cases hcJ : nI c < nI J
      · have hc : c < J := (nI_ltI (by omega) (by omega)).1 hcJ
        have nk : ¬ nI k = 0 := nI_ne0 (by omega) (by omega)
        have e1 : nI l / nI k = nI (l / k) := pk_div (by omega) (by omega) (by omega)
        have e2 : nI l - nI l / nI k * nI k = nI (l % k) := pk_rem (by omega) (by omega) (by omega)
        have hr := Nat.mod_lt l (show 0 < k by omega)
        have hs : l / k < S := Nat.div_lt_of_lt_mul (by rw [Nat.mul_comm]; exact hl)
        have hq := Nat.div_add_mod' l k
        have e3 : 2 + (nI l - nI l / nI k * nI k) = nI (2 + l % k) := by rw [e2]; exact nI_add 2 _
        generalize l / k = s at *
        generalize l % k = t at *
        have i16 : vp_in (nI s) 16 := vp_in_nI (by omega) (by omega)
        have i96 : vp_in (nI l) 96 := vp_in_nI (by omega) (by omega)
        have eK : nI (k + 2) + 1 = nI (k + 3) := nI_1 _
        have Yw : ∀ {post : Int32 → SY → Prop}, (¬ wm s = 0 → zp_C1 (fun d => edg d ≤ nI s) (k + 2) → post (-8) (nI (k + 2), nI k, nI S, nI J, nI c, nI p, po, st, fu, con, fai, edg, wd, wm, its, sta)) → (¬ (¬ wm s = 0 ∧ zp_C1 (fun d => edg d ≤ nI s) (k + 2)) → zp_tc (k + 3) fu → post (-12) (nI (k + 2), nI k, nI S, nI J, nI c, 0, 0, -1, -1, con, fai, edg, wd, wm, its, zp_ds sta)) →
            (¬ (¬ wm s = 0 ∧ zp_C1 (fun d => edg d ≤ nI s) (k + 2)) → ¬ zp_tc (k + 3) fu → post 0 (nI (k + 2), nI k, nI S, nI J, nI (c + 1), nI p, po, st, zp_tf (k + 3) fu, upd con l (v2 &&& 255), fai, edg, wd, upd wm s 0, upd its c (nI s), sta)) → wpY_write post (nI (k + 2), nI k, nI S, nI J, nI c, nI p, po, st, fu, con, fai, edg, wd, wm, its, sta) (nI l) v2 := fun q1 q2 q3 => by
          refine br_f a1 (br_t a4 (br_f hpo (br_t hcJ (And.intro nk (nm_r e1 (zy_dam g2 (by omega) (fun w d => br_f (by decide) (q1 w d)) (fun nd => br_t rfl ?_)))))))
          rw [eK]
          exact zy_turns (by omega) (fun tc => br_t rfl (q2 nd tc)) (fun tc => br_f (by decide) (And.intro i96 (nm_r (zx_u (by omega)) (And.intro i16 (nm_r (zx_u (by omega)) (zy_add g6 hc (q3 nd tc)))))))
        refine br_f a1 (br_t a2 (br_f hpo (br_t hcJ (And.intro nk (nm_r e1 (zx_cond2 H hs (fun nd r lo la lb sp sq blk hr8 R => br_f hr8 (R _ _ (fun sp sq blk hb => And.intro nk ?_))) (fun w d lo la lb sp sq blk => br_t rfl (Yw (fun _ _ => And.intro rfl (zr_mk H)) (fun z => absurd ⟨w, d⟩ z) (fun z => absurd ⟨w, d⟩ z)))))))))
        rw [e3]
        refine And.intro (vp_in_nI (by omega) (by omega)) (nm_r (zx_u (by omega)) (zx_log g2 g7 (by omega) (fun tc ida' hf => Yw (fun w d => absurd ⟨w, d⟩ nd) (fun _ _ => And.intro rfl (zr_mk (p := 0) (zr_cut (zr_ida H hc hf)))) (fun _ z => absurd tc z)) (fun tc ida' hf hd => Yw (fun w d => absurd ⟨w, d⟩ nd) (fun _ z => absurd z tc) (fun _ _ => And.intro rfl (zr_mk (zr_new H hc hs hf (fun i hi => ?_) (fun i hi => ?_) (fun s' i hs' hne hi => ?_)))))))
        · rw [hd i hi]
          by_cases e : i = t
          · subst e
            rw [pk_us, hq, pk_us]
          · have n2 : s * k + i ≠ l := fun z => e (zr_uq hi hr (z.trans hq.symm)).2
            rw [pk_un (by omega), pk_un n2, hb _ (by omega)]
            unfold zp_C
            rw [zp_cwd]
        · by_cases e : s * k + i = l
          · rw [e, pk_us]; exact zp_byand v2
          · rw [pk_un e]; exact H.2.2.2.1.1 _ (zr_ix2 hi hs)
        · exact pk_un (fun z => hne (zr_uq hi hr (z.trans hq.symm)).1)
      · exact br_f a1 (br_t a2 (br_f hpo (br_f hcJ (br_f a1 (br_t a4 (br_f hpo (br_f hcJ (And.intro rfl (zr_mk H)))))))))
theorem i_vc_rebuild {k : Nat} {u : SX} {v : SY} (I : i_Rel k u v) (hk : k + 4 ≤ 2051) (v1 : Int32) : wpX_rebuild (fun r u' => wpY_rebuild (fun r' v' => r' = r ∧ i_Rel (k + 4) u' v') v v1) u v1 := by
  refine zr_el1 (P := fun u v => wpX_rebuild (fun r u' => wpY_rebuild (fun r' v' => r' = r ∧ i_Rel (k + 4) u' v') v v1) u v1) I ?_
  intro k S J h c p st po fu lo la lb sp sq sto edg fai lah iat ida sta ex lg blk con wd wm its H
  have g := H.1
  obtain ⟨g1, g2, g3, g4, g5, g6, g7, g8, g9, g10⟩ := g
  rcases zz_arg v1 (N := nI (k + 2)) rfl (by omega) (by omega) with a1 | ⟨a1, a2, a3, a4, a5⟩ | ⟨d, hd, rfl, a1, a2, a3, a4, a5⟩
  · exact br_t a1 (br_t a1 (And.intro rfl (zr_mk H)))
  · exact br_f a1 (br_f a2 (br_f a1 (br_f a4 (And.intro rfl (zr_mk H)))))
  · by_cases hpo : po = 0
    · exact br_f a1 (br_t a2 (br_t hpo (br_f a1 (br_t a4 (br_t hpo (And.intro rfl (zr_mk H)))))))
    · have i8 : vp_in (nI d) 8 := vp_in_nI (by omega) (by omega)
      have ef : fai (nI d).toNatClampNeg = fai d := zx_cl (by omega)
      have ee : edg (nI d).toNatClampNeg = edg d := zx_cl (by omega)
      by_cases b : fai d = 0
      · have b' : fai (nI d).toNatClampNeg = 0 := ef.trans b
        obtain ⟨s, hs1, es, -⟩ := H.2.1.1 d hd
        by_cases hsS : s < S
        · have lt : edg (nI d).toNatClampNeg < nI S := by rw [ee, es]; exact nI_lt hsS (by omega)
          have i16 : vp_in (edg (nI d).toNatClampNeg) 16 := by rw [ee, es]; exact vp_in_nI (by omega) (by omega)
          have em : wm (edg (nI d).toNatClampNeg).toNatClampNeg = wm s := by rw [ee, es, nI_clamp (by omega)]
          have md : edg d ≤ nI s := by rw [es]; exact Int32.le_refl _
          have w0 : ¬ (¬ wm s = 0 ∧ zp_C1 (fun d => edg d ≤ nI s) (k + 2)) → wm s = 0 := fun nd => by
            by_cases w : wm s = 0
            · exact w
            · have c2 := ((H.2.2.2.2.2.1 s hsS).2 w).2.2.2
              exact absurd ⟨w, d, hd, md, fun j hj hn hM => c2 (zp_C2m hj hd hn hM md)⟩ nd
          have Yr : ∀ {post : Int32 → SY → Prop}, (¬ wm s = 0 → post (-8) (nI (k + 2), nI k, nI S, nI J, nI c, nI p, po, st, fu, con, fai, edg, wd, wm, its, sta)) → (wm s = 0 → zp_tc 2 fu → post (-12) (nI (k + 2), nI k, nI S, nI J, nI c, 0, 0, -1, -1, con, fai, edg, wd, wm, its, zp_ds sta)) →
              (wm s = 0 → ¬ zp_tc 2 fu → post (nI (s + 1)) (nI (k + 2), nI k, nI S, nI J, nI c, nI p, po, st, zp_tf 2 fu, con, fai, upd edg d (nI (s + 1)), wd, wm, its, sta)) → wpY_rebuild post (nI (k + 2), nI k, nI S, nI J, nI c, nI p, po, st, fu, con, fai, edg, wd, wm, its, sta) (nI d) := fun q1 q2 q3 => by
            refine br_f a1 (br_t a4 (br_f hpo (And.intro i8 (br_t b' (And.intro i8 (br_t lt (And.intro i8 (And.intro i16 ?_))))))))
            rw [em]
            refine br_c (fun w => zy_turns (L := 2) (by omega) (fun tc => br_t rfl (q2 w tc)) (fun tc => br_f (by decide) (And.intro i8 (And.intro i8 (nm_r (e' := upd edg d (nI (s + 1))) ?_ (And.intro i8 ?_)))))) (fun w => q1 w)
            · rw [nI_clamp (by omega), es, nI_1]
            · rw [nI_clamp (by omega), pk_us]; exact q3 w tc
          have lr := zp_rolt (n := k + 2) (s := s) (d := d) (by omega)
          refine br_f a1 (br_t a2 (br_f hpo (And.intro i8 (br_t b' (And.intro i8 (br_t lt (And.intro i8 (nm_r (ee.trans es) (zx_cond2 H hsS (fun nd r lo la lb sp sq blk hr8 R => br_f hr8 (zx_turn (fun e => br_t rfl ?_) (fun e => br_f (by decide) (R _ _ (fun sp sq blk hb => zx_rol g2 (by omega) hd (zx_turn (fun e2 => br_t rfl ?_) (fun e2 => br_f (by decide) ?_))))))) (fun w d1 lo la lb sp sq blk => br_t rfl (Yr (fun _ => And.intro rfl (zr_mk H)) (fun z => absurd z w) (fun z => absurd z w))))))))))))
          · exact Yr (fun w => absurd (w0 nd) w) (fun _ _ => And.intro rfl (zr_mk (p := 0) (zr_cut H))) (fun _ z => absurd (Or.inl e) z)
          · exact Yr (fun w => absurd (w0 nd) w) (fun _ _ => And.intro rfl (zr_mk (p := 0) (zr_cut H))) (fun _ z => absurd (Or.inr (Or.inl e2)) z)
          · rw [zx_ix]
            refine And.intro (vp_in_nI (by omega) (by omega)) (And.intro (vp_in_nI (by omega) (by omega)) (nm_r (e' := upd sto (d * 16 + s) (zp_C con k s (zp_ro (k + 2) s d))) ?_ (And.intro i8 (nm_r (e' := upd edg d (nI (s + 1))) ?_ (And.intro i8 ?_)))))
            · rw [nI_clamp (by omega), nI_clamp (by omega), hb _ lr]
            · rw [nI_clamp (by omega), nI_1]
            · rw [nI_clamp (by omega), pk_us]
              refine Yr (fun w => absurd (w0 nd) w) (fun _ z => ?_) (fun w _ => And.intro rfl (zr_mk (zr_reb H hd hsS es b w)))
              rcases z with z | z | z
              · exact absurd z e
              · exact absurd z e2
              · exact z.elim
        · have lt : ¬ edg (nI d).toNatClampNeg < nI S := by rw [ee, es]; exact nI_nlt (by omega) (by omega)
          exact br_f a1 (br_t a2 (br_f hpo (And.intro i8 (br_t b' (And.intro i8 (br_f lt (br_f a1 (br_t a4 (br_f hpo (And.intro i8 (br_t b' (And.intro i8 (br_f lt (And.intro rfl (zr_mk H)))))))))))))))
      · have b' : ¬ fai (nI d).toNatClampNeg = 0 := fun q => b (ef.symm.trans q)
        exact br_f a1 (br_t a2 (br_f hpo (And.intro i8 (br_f b' (br_f a1 (br_t a4 (br_f hpo (And.intro i8 (br_f b' (And.intro rfl (zr_mk H)))))))))))
end
section
/-! commit -/
def zp_ct (a : Nat → Int32) : Nat → Nat
  | 0 => 0
  | m + 1 => zp_ct a m + (if a m < 0 then 0 else 1)
theorem zp_ctn {a : Nat → Int32} {m : Nat} (h : a m < 0) : zp_ct a (m + 1) = zp_ct a m := by
  show zp_ct a m + (if a m < 0 then 0 else 1) = _
  rw [if_pos h, Nat.add_zero]
theorem zp_cty {a : Nat → Int32} {m : Nat} (h : ¬ a m < 0) : zp_ct a (m + 1) = zp_ct a m + 1 := by
  show zp_ct a m + (if a m < 0 then 0 else 1) = _
  rw [if_neg h]
theorem zp_ctle (a : Nat → Int32) (m : Nat) : zp_ct a m ≤ m := by
  induction m with
  | zero => exact Nat.le_refl _
  | succ m ih =>
    by_cases h : a m < 0
    · rw [zp_ctn h]; omega
    · rw [zp_cty h]; omega
theorem zp_ctall {a : Nat → Int32} (m : Nat) : m ≤ zp_ct a m → ∀ i, i < m → ¬ a i < 0 := by
  induction m with
  | zero => intro _ i hi; exact absurd hi (Nat.not_lt_zero i)
  | succ m ih =>
    intro h i hi
    have l := zp_ctle a m
    have n : ¬ a m < 0 := fun q => by rw [zp_ctn q] at h; omega
    rw [zp_cty n] at h
    rcases Nat.lt_succ_iff_lt_or_eq.1 hi with q | rfl
    · exact ih (by omega) i q
    · exact n
section
variable {k S J h c p : Nat} {st po fu lo la lb sp sq : Int32} {sto edg fai lah iat ida sta ex lg blk con wd wm its : Nat → Int32}
theorem zx_cnt4 {post : Int32 → Prop} (hk : k ≤ 6) (hp : post (nI (zp_ct sta k))) (m : Nat) : ∀ i, i + m = k → wX_countStaged_4 post (nI (k + 2)) (nI k) (nI S) (nI J) (nI h) (nI c) (nI p) st po fu lo la lb sp sq sto edg fai lah iat ida sta ex lg blk (m + 1) (nI (zp_ct sta i)) (nI i) := by
  induction m with
  | zero =>
    intro i h
    have : i = k := by omega
    subst this
    exact br_t (nI_le (Nat.le_refl _) (by omega)) hp
  | succ m ih =>
    intro i h
    have q := ih (i + 1) (by omega)
    refine br_f (nI_ge (by omega) (by omega)) (And.intro (vp_in_nI (by omega) (by omega)) ?_)
    rw [nI_clamp (by omega)]
    refine br_c (fun e => nm_r (nI_1 i) ?_) (fun e => nm_r (e' := nI (zp_ct sta (i + 1))) ?_ (nm_r (nI_1 i) q))
    · rw [zp_ctn e] at q; exact q
    · rw [zp_cty e, nI_1]
theorem zx_cm79 {post : Int32 → SX → Prop} {x2 : Int32} {B : Nat → Int32} (hk : k ≤ 6) (hh : h < 4) (hc : c < 4)
    (hcut : zp_tc (k + 3) fu → ∀ (blk ida' : Nat → Int32), (∀ j, ¬ ((h + c) % 4 * 6 ≤ j ∧ j < (h + c) % 4 * 6 + k) → ida' j = ida j) → post (-12) (nI (k + 2), nI k, nI S, nI J, nI h, nI c, 0, -1, 0, -1, lo, la, lb, sp, sq, sto, edg, fai, lah, iat, ida', zp_ds sta, ex, lg, blk))
    (hok : ¬ zp_tc (k + 3) fu → ∀ (blk ida' : Nat → Int32), (∀ j, ¬ ((h + c) % 4 * 6 ≤ j ∧ j < (h + c) % 4 * 6 + k) → ida' j = ida j) → (∀ j, j < k → ida' ((h + c) % 4 * 6 + j) = if sta j < 0 then B j else sta j) →
      post 0 (nI (k + 2), nI k, nI S, nI J, nI h, nI (c + 1), nI p, -1, po, zp_tf (k + 3) fu, lo, la, lb, sp, sq, sto, edg, fai, lah, upd iat ((h + c) % 4) x2, ida', zp_ds sta, ex, lg, blk)) (m : Nat) :
    ∀ (i : Nat) (blk : Nat → Int32), i + m = k → (∀ j, j < i → blk (2 + j) = if sta j < 0 then B j else sta j) → (∀ j, i ≤ j → j < k → sta j < 0 → blk (2 + j) = B j) →
      wX_commit_79 post x2 (nI (k + 2)) (nI k) (nI S) (nI J) (nI h) (nI c) (nI p) st po fu lo la lb sp sq (m + 1) (nI i) sto edg fai lah iat ida sta ex lg blk := by
  induction m with
  | zero =>
    intro i blk hi h1 h2
    have : i = k := by omega
    subst this
    exact br_t (nI_le (Nat.le_refl _) (by omega)) (zx_log hk hh hc (fun tc ida' hf => br_f (by decide) (hcut tc _ ida' hf)) (fun tc ida' hf hd => br_t rfl (zx_drop (hok tc _ ida' hf (fun j hj => (hd j hj).trans (h1 j hj))))))
  | succ m ih =>
    intro i blk hi h1 h2
    have e2 : 2 + nI i = nI (2 + i) := nI_add 2 i
    refine br_f (nI_ge (by omega) (by omega)) (And.intro (vp_in_nI (by omega) (by omega)) ?_)
    rw [nI_clamp (by omega), e2]
    refine br_c (fun e => nm_r (nI_1 i) (ih (i + 1) blk (by omega) (fun j hj => ?_) (fun j hj => h2 j (by omega)))) (fun e => And.intro (vp_in_nI (by omega) (by omega)) (And.intro (vp_in_nI (by omega) (by omega)) (nm_r (zx_u (by omega)) (nm_r (nI_1 i) (ih (i + 1) _ (by omega) (fun j hj => ?_) (fun j hj h3 h4 => ?_))))))
    · rcases Nat.lt_succ_iff_lt_or_eq.1 hj with q | rfl
      · exact h1 j q
      · rw [if_pos e]; exact h2 j (Nat.le_refl _) (by omega) e
    · rcases Nat.lt_succ_iff_lt_or_eq.1 hj with q | rfl
      · rw [pk_un (by omega)]; exact h1 j q
      · rw [pk_us, if_neg e]
    · rw [pk_un (by omega)]; exact h2 j (by omega) h3 h4
theorem zy_cm111 {post : Int32 → SY → Prop} {s : Nat} {con0 : Nat → Int32} (hk : k ≤ 6) (hs : s < 16) (hJ : J ≤ 4) (hc : c < J)
    (hp : ∀ con : Nat → Int32, (∀ j, j < k → con (s * k + j) = if sta j < 0 then con0 (s * k + j) else sta j) → (∀ x, ¬ (s * k ≤ x ∧ x < s * k + k) → con x = con0 x) →
      post 0 (nI (k + 2), nI k, nI S, nI J, nI (c + 1), nI p, po, -1, fu, con, fai, edg, wd, upd wm s 0, upd its c (nI s), zp_ds sta)) (m : Nat) :
    ∀ (i : Nat) (con : Nat → Int32), i + m = k → (∀ j, j < i → con (s * k + j) = if sta j < 0 then con0 (s * k + j) else sta j) → (∀ j, i ≤ j → j < k → con (s * k + j) = con0 (s * k + j)) →
      (∀ x, ¬ (s * k ≤ x ∧ x < s * k + k) → con x = con0 x) → wY_commit_111 post (nI (k + 2)) (nI k) (nI S) (nI J) (nI c) (nI p) po (nI s) fu (m + 1) (nI i) con fai edg wd wm its sta := by
  induction m with
  | zero =>
    intro i con hi h1 h2 h3
    have : i = k := by omega
    subst this
    exact br_t (nI_le (Nat.le_refl _) (by omega)) (And.intro (vp_in_nI hs (by omega)) (nm_r (zx_u (by omega)) (zy_add hJ hc (zy_drop (hp con h1 h3)))))
  | succ m ih =>
    intro i con hi h1 h2 h3
    have l := zy_c96 hk hs (show i < k by omega)
    refine br_f (nI_ge (by omega) (by omega)) (And.intro (vp_in_nI (by omega) (by omega)) ?_)
    rw [nI_clamp (by omega), zy_cix]
    refine br_c (fun e => nm_r (nI_1 i) (ih (i + 1) con (by omega) (fun j hj => ?_) (fun j hj => h2 j (by omega)) h3)) (fun e => And.intro (vp_in_nI (by omega) (by omega)) (And.intro (vp_in_nI l (by omega)) (nm_r (zx_u (by omega)) (nm_r (nI_1 i) (ih (i + 1) _ (by omega) (fun j hj => ?_) (fun j hj h4 => ?_) (fun x hx => ?_))))))
    · rcases Nat.lt_succ_iff_lt_or_eq.1 hj with q | rfl
      · exact h1 j q
      · rw [if_pos e]; exact h2 j (Nat.le_refl _) (by omega)
    · rcases Nat.lt_succ_iff_lt_or_eq.1 hj with q | rfl
      · rw [pk_un (by omega)]; exact h1 j q
      · rw [pk_us, if_neg e]
    · rw [pk_un (by omega)]; exact h2 j (by omega) h4
    · rw [pk_un (by omega)]; exact h3 x hx
theorem zy_cm93 {post : Int32 → SY → Prop} {s : Nat} (hk : k ≤ 6) (hs : s < 16) (hJ : J ≤ 4) (hc : c < J)
    (hcut : zp_tc (k + 3) fu → post (-12) (nI (k + 2), nI k, nI S, nI J, nI c, 0, 0, -1, -1, con, fai, edg, wd, wm, its, zp_ds sta))
    (hp : ¬ zp_tc (k + 3) fu → ∀ con' : Nat → Int32, (∀ j, j < k → con' (s * k + j) = if sta j < 0 then con (s * k + j) else sta j) → (∀ x, ¬ (s * k ≤ x ∧ x < s * k + k) → con' x = con x) →
      post 0 (nI (k + 2), nI k, nI S, nI J, nI (c + 1), nI p, po, -1, zp_tf (k + 3) fu, con', fai, edg, wd, upd wm s 0, upd its c (nI s), zp_ds sta)) : wY_commit_93 post (nI (k + 2)) (nI k) (nI S) (nI J) (nI c) (nI p) po (nI s) fu con fai edg wd wm its sta := by
  have eK : nI (k + 2) + 1 = nI (k + 3) := nI_1 _
  unfold wY_commit_93
  rw [eK]
  exact zy_turns (by omega) (fun tc => br_t rfl (hcut tc)) (fun tc => br_f (by decide) (Exists.intro (k + 1) (zy_cm111 (con0 := con) hk hs hJ hc (hp tc) k 0 con (by omega) (fun j hj => absurd hj (Nat.not_lt_zero j)) (fun _ _ _ => rfl) (fun _ _ => rfl))))
theorem zy_cm24 {post : Int32 → SY → Prop} {s : Nat} (hk : k ≤ 6) (hs : s < 16) (hJ : J ≤ 4) (hcJ : c ≤ J)
    (q13 : zp_ct sta k = 0 → post (-13) (nI (k + 2), nI k, nI S, nI J, nI c, nI p, po, nI s, fu, con, fai, edg, wd, wm, its, sta)) (q3 : ¬ zp_ct sta k = 0 → ¬ c < J → post (-3) (nI (k + 2), nI k, nI S, nI J, nI c, nI p, po, nI s, fu, con, fai, edg, wd, wm, its, sta))
    (q8 : ¬ zp_ct sta k = 0 → c < J → zp_ct sta k < k → ¬ wm s = 0 → zp_C1 (fun d => edg d ≤ nI s) (k + 2) → post (-8) (nI (k + 2), nI k, nI S, nI J, nI c, nI p, po, nI s, fu, con, fai, edg, wd, wm, its, sta))
    (hcut : ¬ zp_ct sta k = 0 → c < J → (zp_ct sta k < k → ¬ (¬ wm s = 0 ∧ zp_C1 (fun d => edg d ≤ nI s) (k + 2))) → zp_tc (k + 3) fu → post (-12) (nI (k + 2), nI k, nI S, nI J, nI c, 0, 0, -1, -1, con, fai, edg, wd, wm, its, zp_ds sta))
    (hp : ¬ zp_ct sta k = 0 → c < J → (zp_ct sta k < k → ¬ (¬ wm s = 0 ∧ zp_C1 (fun d => edg d ≤ nI s) (k + 2))) → ¬ zp_tc (k + 3) fu → ∀ con' : Nat → Int32, (∀ j, j < k → con' (s * k + j) = if sta j < 0 then con (s * k + j) else sta j) → (∀ x, ¬ (s * k ≤ x ∧ x < s * k + k) → con' x = con x) →
      post 0 (nI (k + 2), nI k, nI S, nI J, nI (c + 1), nI p, po, -1, zp_tf (k + 3) fu, con', fai, edg, wd, upd wm s 0, upd its c (nI s), zp_ds sta)) (m : Nat) :
    ∀ i, i + m = k → wY_commit_24 post (nI (k + 2)) (nI k) (nI S) (nI J) (nI c) (nI p) po (nI s) fu con fai edg wd wm its sta (m + 1) (nI (zp_ct sta i)) (nI i) := by
  induction m with
  | zero =>
    intro i h
    have : i = k := by omega
    subst this
    have l := zp_ctle sta i
    refine br_t (nI_le (Nat.le_refl _) (by omega)) (br_c (fun e => q13 ((nI_eq (b := 0) (by omega) (by omega)).1 e)) (fun e => ?_))
    have n0 : ¬ zp_ct sta i = 0 := fun z => e (by rw [z, nI_0])
    refine br_c (fun w => ?_) (fun w => q3 n0 (fun z => w (nI_lt z (by omega))))
    have hc : c < J := (nI_ltI (by omega) (by omega)).1 w
    refine br_c (fun y => ?_) (fun y => ?_)
    · rw [nI_leI (by omega) (by omega)] at y
      exact zy_cm93 hk hs hJ hc (hcut n0 hc (fun z => absurd z (by omega))) (hp n0 hc (fun z => absurd z (by omega)))
    · rw [nI_leI (by omega) (by omega)] at y
      exact zy_dam hk hs (fun z1 z2 => br_f (by decide) (q8 n0 hc (by omega) z1 z2)) (fun nd => br_t rfl (zy_cm93 hk hs hJ hc (hcut n0 hc (fun _ => nd)) (hp n0 hc (fun _ => nd))))
  | succ m ih =>
    intro i h
    have q := ih (i + 1) (by omega)
    refine br_f (nI_ge (by omega) (by omega)) (And.intro (vp_in_nI (by omega) (by omega)) ?_)
    rw [nI_clamp (by omega)]
    refine br_c (fun e => nm_r (nI_1 i) ?_) (fun e => nm_r (e' := nI (zp_ct sta (i + 1))) ?_ (nm_r (nI_1 i) q))
    · rw [zp_ctn e] at q; exact q
    · rw [zp_cty e, nI_1]
end
theorem i_vc_commit {k : Nat} {u : SX} {v : SY} (I : i_Rel k u v) (hk : k + 4 ≤ 2051) : wpX_commit (fun r u' => wpY_commit (fun r' v' => r' = r ∧ i_Rel (k + 4) u' v') v) u := by
  refine zr_el1 (P := fun u v => wpX_commit (fun r u' => wpY_commit (fun r' v' => r' = r ∧ i_Rel (k + 4) u' v') v) u) I ?_
  intro k S J h c p st po fu lo la lb sp sq sto edg fai lah iat ida sta ex lg blk con wd wm its H
  have g := H.1
  obtain ⟨g1, g2, g3, g4, g5, g6, g7, g8, g9, g10⟩ := g
  have lc := zp_ctle sta k
  by_cases hpo : po = 0
  · exact br_t hpo (br_t hpo (And.intro rfl (zr_mk H)))
  · refine br_f hpo (Exists.intro (k + 1) (zx_cnt4 g2 ?_ k 0 (by omega)))
    rcases H.2.2.2.1.2.1 with hst | ⟨s, hs, rfl⟩
    · exact br_t hst (br_f hpo (br_f (Int32.not_le.2 hst) (And.intro rfl (zr_mk H))))
    · have ns : ¬ nI s < 0 := nI_pos (by omega)
      have ps : 0 ≤ nI s := nI_pos' (by omega)
      refine br_f ns ?_
      by_cases z0 : zp_ct sta k = 0
      · exact br_t (by rw [z0, nI_0]) (br_f hpo (br_t ps (Exists.intro (k + 1) (zy_cm24 g2 (by omega) g6 g8 (fun _ => And.intro rfl (zr_mk H)) (fun z => absurd z0 z) (fun z => absurd z0 z) (fun z => absurd z0 z) (fun z => absurd z0 z) k 0 (by omega)))))
      · refine br_f (fun q => z0 ((nI_eq (b := 0) (by omega) (by omega)).1 q)) ?_
        by_cases hc : c < J
        · have fin : ∀ con' ida' : Nat → Int32, (∀ j, ¬ ((h + c) % 4 * 6 ≤ j ∧ j < (h + c) % 4 * 6 + k) → ida' j = ida j) → (∀ j, j < k → ida' ((h + c) % 4 * 6 + j) = if sta j < 0 then con (s * k + j) else sta j) →
              (∀ j, j < k → con' (s * k + j) = if sta j < 0 then con (s * k + j) else sta j) → (∀ x, ¬ (s * k ≤ x ∧ x < s * k + k) → con' x = con x) →
              zr_I k S J h (c + 1) p (-1) sto edg fai lah (upd iat ((h + c) % 4) (nI s)) ida' (zp_ds sta) ex lg con' wd (upd wm s 0) (upd its c (nI s)) := fun con' ida' f1 f2 f3 f4 => by
            refine zr_stage (zr_new H hc hs f1 (fun t ht => (f2 t ht).trans (f3 t ht).symm) (fun t ht => ?_) (fun s' t hs' hne ht => f4 _ (fun q => hne ?_))) (Or.inl (by decide)) (zr_ds g2)
            · rw [f3 t ht]
              by_cases w : sta t < 0
              · rw [if_pos w]; exact H.2.2.2.1.1 _ (zr_ix2 ht hs)
              · rw [if_neg w]
                rcases H.2.2.2.1.2.2 t ht with y | y
                · exact absurd y w
                · exact y
            · exact (zr_uq (t := s' * k + t - s * k) ht (by omega) (by omega)).1
          refine br_t (nI_lt hc (by omega)) (br_c (fun y => Exists.intro (k + 1) ?_) (fun y => ?_))
          · rw [nI_leI (by omega) (by omega)] at y
            have al := zp_ctall k y
            refine zx_cm79 (B := fun j => con (s * k + j)) g2 g7 (by omega) (fun tc blk ida' hf => ?_) (fun tc blk ida' hf hd => ?_) k 0 blk (by omega) (fun j hj => absurd hj (Nat.not_lt_zero j)) (fun j _ hj w => absurd w (al j hj))
            · exact br_f hpo (br_t ps (Exists.intro (k + 1) (zy_cm24 g2 (by omega) g6 g8 (fun z => absurd z z0) (fun _ z => absurd hc z) (fun _ _ z => absurd z (by omega)) (fun _ _ _ _ => And.intro rfl (zr_mk (p := 0) (zr_cut (zr_ida H hc hf)))) (fun _ _ _ z => absurd tc z) k 0 (by omega))))
            · exact br_f hpo (br_t ps (Exists.intro (k + 1) (zy_cm24 g2 (by omega) g6 g8 (fun z => absurd z z0) (fun _ z => absurd hc z) (fun _ _ z => absurd z (by omega)) (fun _ _ _ z => absurd z tc) (fun _ _ _ _ con' f3 f4 => And.intro rfl (zr_mk (fin con' ida' hf hd f3 f4))) k 0 (by omega))))
          · rw [nI_leI (by omega) (by omega)] at y
            refine zx_cond2 H hs (fun nd r lo la lb sp sq blk hr8 R => br_f hr8 (R _ _ (fun sp sq blk hb => Exists.intro (k + 1) ?_))) (fun w d1 lo la lb sp sq blk => br_t rfl ?_)
            · refine zx_cm79 (B := fun j => con (s * k + j)) g2 g7 (by omega) (fun tc blk ida' hf => ?_) (fun tc blk ida' hf hd => ?_) k 0 blk (by omega) (fun j hj => absurd hj (Nat.not_lt_zero j)) (fun j _ hj w => ?_)
              · exact br_f hpo (br_t ps (Exists.intro (k + 1) (zy_cm24 g2 (by omega) g6 g8 (fun z => absurd z z0) (fun _ z => absurd hc z) (fun _ _ _ z1 z2 => absurd ⟨z1, z2⟩ nd) (fun _ _ _ _ => And.intro rfl (zr_mk (p := 0) (zr_cut (zr_ida H hc hf)))) (fun _ _ _ z => absurd tc z) k 0 (by omega))))
              · exact br_f hpo (br_t ps (Exists.intro (k + 1) (zy_cm24 g2 (by omega) g6 g8 (fun z => absurd z z0) (fun _ z => absurd hc z) (fun _ _ _ z1 z2 => absurd ⟨z1, z2⟩ nd) (fun _ _ _ z => absurd z tc) (fun _ _ _ _ con' f3 f4 => And.intro rfl (zr_mk (fin con' ida' hf hd f3 f4))) k 0 (by omega))))
              · rw [hb _ (by omega)]
                unfold zp_C
                rw [zp_cwd]
            · exact br_f hpo (br_t ps (Exists.intro (k + 1) (zy_cm24 g2 (by omega) g6 g8 (fun z => absurd z z0) (fun _ z => absurd hc z) (fun _ _ _ _ _ => And.intro rfl (zr_mk H)) (fun _ _ z => absurd ⟨w, d1⟩ (z (by omega))) (fun _ _ z => absurd ⟨w, d1⟩ (z (by omega))) k 0 (by omega))))
        · exact br_f (nI_nlt (by omega) (by omega)) (br_f hpo (br_t ps (Exists.intro (k + 1) (zy_cm24 g2 (by omega) g6 g8 (fun z => absurd z z0) (fun _ _ => And.intro rfl (zr_mk H)) (fun _ z => absurd z hc) (fun _ z => absurd z hc) (fun _ z => absurd z hc) k 0 (by omega)))))
end
section
/-! fail -/
def zp_Lo (edg wd wm : Nat → Int32) (k d s : Nat) : Prop := ¬ wm s = 0 ∧ ¬ wd s = nI d ∧ ∃ j, j < k + 2 ∧ j ≠ d ∧ edg j ≤ nI s
section
variable {k S J h c p : Nat} {st po fu lo la lb sp sq : Int32} {sto edg fai lah iat ida sta ex lg blk con wd wm its : Nat → Int32}
theorem zx_wbl {post : Int32 → SX → Prop} (H : zr_I k S J h c p st sto edg fai lah iat ida sta ex lg con wd wm its) {d s : Nat} (hd : d < k + 2) (hs : s < S)
    (h1 : zp_Lo edg wd wm k d s → ∀ (lo la lb sp sq : Int32) (blk : Nat → Int32), post 1 (nI (k + 2), nI k, nI S, nI J, nI h, nI c, nI p, st, po, fu, lo, la, lb, sp, sq, sto, edg, fai, lah, iat, ida, sta, ex, lg, blk)) (h0 : ¬ zp_Lo edg wd wm k d s → ∀ (lo la lb sp sq : Int32) (blk : Nat → Int32), post 0 (nI (k + 2), nI k, nI S, nI J, nI h, nI c, nI p, st, po, fu, lo, la, lb, sp, sq, sto, edg, fai, lah, iat, ida, sta, ex, lg, blk)) :
    wpX_wouldBeLost post (nI (k + 2), nI k, nI S, nI J, nI h, nI c, nI p, st, po, fu, lo, la, lb, sp, sq, sto, edg, fai, lah, iat, ida, sta, ex, lg, blk) (nI d) (nI s) := by
  have g := H.1
  obtain ⟨g1, g2, g3, g4, g5, g6, g7, g8, g9, g10⟩ := g
  have fac := (H.2.2.2.2.2.1 s hs).2
  unfold wpX_wouldBeLost
  refine zx_pres (by omega) (fun e => br_t rfl (h0 (fun ⟨q1, q2, j, hj, hjd, hM⟩ => (fac q1).2.2.2 (zp_C2m hj hd hjd hM e)) _ _ _ _ _ _)) (fun e => br_f (by decide) (And.intro (vp_in_nI (by omega) (by omega)) ?_))
  rw [nI_clamp (by omega)]
  refine br_c (fun q => h0 (fun w => w.2.1 ((fac w.1).2.1.symm.trans q)) _ _ _ _ _ _) (fun q => zx_cond H hs (fun b _ => br_f (by decide) (h0 (fun w => (fac w.1).1 b) _ _ _ _ _ _)) (fun b d0 w la lb sp sq blk _ => br_f (by decide) (h0 (fun y => y.1 w) _ _ _ _ _ _))
    (fun b d0 w la lb sp sq blk _ _ => br_f (by decide) (h0 (fun ⟨_, _, j, hj, _, hM⟩ => d0 j hj hM) _ _ _ _ _ _)) (fun b w lo la lb sp sq blk _ _ => br_f (by decide) (h0 (fun y => y.1 w) _ _ _ _ _ _)) (fun b w d1 lo la lb sp sq blk => br_t rfl (h1 ⟨w, fun y => q ((fac w).2.1.trans y), ?_⟩ _ _ _ _ _ _)))
  obtain ⟨j, hj, hM, -⟩ := d1
  exact ⟨j, hj, fun z => e (by rw [← z]; exact hM), hM⟩
theorem zx_f75 {post : Int32 → SX → Prop} (H : zr_I k S J h c p st sto edg fai lah iat ida sta ex lg con wd wm its) {d : Nat} (hd : d < k + 2)
    (h7 : (∃ s, s < S ∧ zp_Lo edg wd wm k d s) → ∀ (lo la lb sp sq : Int32) (blk : Nat → Int32), post (-7) (nI (k + 2), nI k, nI S, nI J, nI h, nI c, nI p, st, po, fu, lo, la, lb, sp, sq, sto, edg, fai, lah, iat, ida, sta, ex, lg, blk))
    (h0 : (∀ s, s < S → ¬ zp_Lo edg wd wm k d s) → ∀ (lo la lb sp sq : Int32) (blk : Nat → Int32), post 0 (nI (k + 2), nI k, nI S, nI J, nI h, nI c, nI p, st, po, fu, lo, la, lb, sp, sq, sto, upd edg d 0, upd fai d (vp_nar .boolean 1), lah, iat, ida, sta, ex, lg, blk)) (m : Nat) :
    ∀ (i : Nat) (lo la lb sp sq : Int32) (blk : Nat → Int32), i + m = S → (∀ s, s < i → ¬ zp_Lo edg wd wm k d s) → wX_fail_75 post (nI d) (m + 1) (nI i) (nI (k + 2)) (nI k) (nI S) (nI J) (nI h) (nI c) (nI p) st po fu lo la lb sp sq sto edg fai lah iat ida sta ex lg blk := by
  have g := H.1
  obtain ⟨g1, g2, g3, g4, g5, g6, g7, g8, g9, g10⟩ := g
  have i8 : vp_in (nI d) 8 := vp_in_nI (by omega) (by omega)
  induction m with
  | zero =>
    intro i lo la lb sp sq blk hi hn
    have : i = S := by omega
    subst this
    exact br_t (nI_le (Nat.le_refl _) (by omega)) (And.intro i8 (nm_r (zx_u (by omega)) (And.intro i8 (nm_r (zx_u (by omega)) (h0 hn _ _ _ _ _ _)))))
  | succ m ih =>
    intro i lo la lb sp sq blk hi hn
    refine br_f (nI_ge (by omega) (by omega)) (zx_wbl H hd (by omega) (fun q lo la lb sp sq blk => br_f (by decide) (h7 ⟨i, by omega, q⟩ _ _ _ _ _ _)) (fun q lo la lb sp sq blk => br_t rfl (nm_r (nI_1 i) (ih (i + 1) _ _ _ _ _ _ (by omega) (fun s hs => ?_)))))
    rcases Nat.lt_succ_iff_lt_or_eq.1 hs with w | rfl
    · exact hn s w
    · exact q
theorem zx_f30 {post : Int32 → SX → Prop} {d : Nat} (hk : k ≤ 6) (hd : d < k + 2) (h2 : zp_C2 (fun j => j ≠ d ∧ ¬ nI S ≤ edg j) (k + 2) → post (-7) (nI (k + 2), nI k, nI S, nI J, nI h, nI c, nI p, st, po, fu, lo, la, lb, sp, sq, sto, edg, fai, lah, iat, ida, sta, ex, lg, blk))
    (h1 : ¬ zp_C2 (fun j => j ≠ d ∧ ¬ nI S ≤ edg j) (k + 2) → ∃ n75 : Nat, wX_fail_75 post (nI d) n75 0 (nI (k + 2)) (nI k) (nI S) (nI J) (nI h) (nI c) (nI p) st po fu lo la lb sp sq sto edg fai lah iat ida sta ex lg blk) (m : Nat) :
    ∀ (i : Nat) (x : Int32), i + m = k + 2 → zp_cn (fun j => j ≠ d ∧ ¬ nI S ≤ edg j) i x → wX_fail_30 post (nI d) (nI (k + 2)) (nI k) (nI S) (nI J) (nI h) (nI c) (nI p) st po fu lo la lb sp sq sto edg fai lah iat ida sta ex lg blk (m + 1) x (nI i) := by
  induction m with
  | zero =>
    intro i x hi hx
    have : i = k + 2 := by omega
    subst this
    have q := (zp_cn1 (by omega) hx).2.2
    exact br_t (nI_le (Nat.le_refl _) (by omega)) (br_c (fun w => h1 (fun y => Int32.not_lt.2 (q.2 y) w)) (fun w => h2 (q.1 (Int32.not_lt.1 w))))
  | succ m ih =>
    intro i x hi hx
    refine br_f (nI_ge (by omega) (by omega)) (br_c (fun e => nm_r (nI_1 i) (ih (i + 1) x (by omega) (zp_cnn hx (fun w => w.1 ((nI_eq (by omega) (by omega)).1 e))))) (fun e => And.intro (vp_in_nI (by omega) (by omega)) ?_))
    rw [nI_clamp (by omega)]
    exact br_c (fun w => nm_r (nI_1 i) (ih (i + 1) x (by omega) (zp_cnn hx (fun y => y.2 w)))) (fun w => nm_e (nm_r (nI_1 i) (ih (i + 1) _ (by omega) (zp_cny hx ⟨fun z => e (by rw [z]), w⟩))))
theorem zy_f32 {post : Int32 → SY → Prop} {d : Nat} (hk : k ≤ 6) (hd : d < k + 2) (h2 : zp_C2 (fun j => j ≠ d ∧ ¬ nI S ≤ edg j) (k + 2) → post (-7) (nI (k + 2), nI k, nI S, nI J, nI c, nI p, po, st, fu, con, fai, edg, wd, wm, its, sta))
    (h1 : ¬ zp_C2 (fun j => j ≠ d ∧ ¬ nI S ≤ edg j) (k + 2) → ∃ n77 : Nat, wY_fail_77 post (nI d) (nI (k + 2)) (nI k) (nI S) (nI J) (nI c) (nI p) po st fu con fai edg wd wm its sta n77 0) (m : Nat) :
    ∀ (i : Nat) (x : Int32), i + m = k + 2 → zp_cn (fun j => j ≠ d ∧ ¬ nI S ≤ edg j) i x → wY_fail_32 post (nI d) (nI (k + 2)) (nI k) (nI S) (nI J) (nI c) (nI p) po st fu con fai edg wd wm its sta (m + 1) x (nI i) := by
  induction m with
  | zero =>
    intro i x hi hx
    have : i = k + 2 := by omega
    subst this
    have q := (zp_cn1 (by omega) hx).2.2
    exact br_t (nI_le (Nat.le_refl _) (by omega)) (br_c (fun w => h1 (fun y => Int32.not_lt.2 (q.2 y) w)) (fun w => h2 (q.1 (Int32.not_lt.1 w))))
  | succ m ih =>
    intro i x hi hx
    refine br_f (nI_ge (by omega) (by omega)) (br_c (fun e => nm_r (nI_1 i) (ih (i + 1) x (by omega) (zp_cnn hx (fun w => w.1 ((nI_eq (by omega) (by omega)).1 e))))) (fun e => And.intro (vp_in_nI (by omega) (by omega)) ?_))
    rw [nI_clamp (by omega)]
    exact br_c (fun w => nm_r (nI_1 i) (ih (i + 1) x (by omega) (zp_cnn hx (fun y => y.2 w)))) (fun w => nm_e (nm_r (nI_1 i) (ih (i + 1) _ (by omega) (zp_cny hx ⟨fun z => e (by rw [z]), w⟩))))
theorem zy_f107 {post : Int32 → SY → Prop} {J77 : Int32 → Prop} {d s : Nat} (hk : k ≤ 6) (hd : d < k + 2) (h7 : (∃ j, j < k + 2 ∧ j ≠ d ∧ edg j ≤ nI s) → post (-7) (nI (k + 2), nI k, nI S, nI J, nI c, nI p, po, st, fu, con, fai, edg, wd, wm, its, sta))
    (hJ : ¬ (∃ j, j < k + 2 ∧ j ≠ d ∧ edg j ≤ nI s) → J77 (nI (s + 1))) (m : Nat) : ∀ i, i + m = k + 2 → (∀ j, j < i → j ≠ d → ¬ edg j ≤ nI s) → wY_fail_107 post J77 (nI d) (nI s) (nI (k + 2)) (nI k) (nI S) (nI J) (nI c) (nI p) po st fu con fai edg wd wm its sta (m + 1) (nI i) := by
  induction m with
  | zero =>
    intro i hi hn
    have : i = k + 2 := by omega
    subst this
    exact br_t (nI_le (Nat.le_refl _) (by omega)) (nm_r (nI_1 s) (hJ (fun ⟨j, q1, q2, q3⟩ => hn j q1 q2 q3)))
  | succ m ih =>
    intro i hi hn
    refine br_f (nI_ge (by omega) (by omega)) (br_c (fun e => nm_r (nI_1 i) (ih (i + 1) (by omega) (fun j hj hjd => ?_))) (fun e => And.intro (vp_in_nI (by omega) (by omega)) ?_))
    · have ei : i = d := (nI_eq (by omega) (by omega)).1 e
      exact hn j (by omega) hjd
    · rw [nI_clamp (by omega)]
      refine br_c (fun w => nm_r (nI_1 i) (ih (i + 1) (by omega) (fun j hj hjd => ?_))) (fun w => h7 ⟨i, by omega, fun z => e (by rw [z]), Int32.not_lt.1 w⟩)
      rcases Nat.lt_succ_iff_lt_or_eq.1 hj with y | rfl
      · exact hn j y hjd
      · exact fun z => Int32.not_lt.2 z w
theorem zy_f164 {post : Int32 → SY → Prop} {d : Nat} {wm0 : Nat → Int32} (hd : d < 8) (hS : S ≤ 16) (hp : ∀ wm : Nat → Int32, (∀ s, s < S → wm s = if wd s = nI d then 0 else wm0 s) → post 0 (nI (k + 2), nI k, nI S, nI J, nI c, nI p, po, st, fu, con, fai, edg, wd, wm, its, sta)) (m : Nat) :
    ∀ (i : Nat) (wm : Nat → Int32), i + m = S → (∀ s, s < i → wm s = if wd s = nI d then 0 else wm0 s) → (∀ s, i ≤ s → wm s = wm0 s) → wY_fail_164 post (nI d) (nI (k + 2)) (nI k) (nI S) (nI J) (nI c) (nI p) po st fu (m + 1) (nI i) con fai edg wd wm its sta := by
  induction m with
  | zero =>
    intro i wm hi h1 h2
    have : i = S := by omega
    subst this
    exact br_t (nI_le (Nat.le_refl _) (by omega)) (hp wm h1)
  | succ m ih =>
    intro i wm hi h1 h2
    have i16 : vp_in (nI i) 16 := vp_in_nI (by omega) (by omega)
    refine br_f (nI_ge (by omega) (by omega)) (And.intro i16 ?_)
    rw [nI_clamp (by omega)]
    refine br_c (fun e => And.intro i16 (nm_e (nm_r (nI_1 i) (ih (i + 1) _ (by omega) (fun s hs => ?_) (fun s hs => ?_))))) (fun e => nm_r (nI_1 i) (ih (i + 1) wm (by omega) (fun s hs => ?_) (fun s hs => h2 s (by omega))))
    · rcases Nat.lt_succ_iff_lt_or_eq.1 hs with w | rfl
      · rw [pk_un (by omega)]; exact h1 s w
      · rw [pk_us, if_pos e]
    · rw [pk_un (by omega)]; exact h2 s (by omega)
    · rcases Nat.lt_succ_iff_lt_or_eq.1 hs with w | rfl
      · exact h1 s w
      · rw [if_neg e]; exact h2 s (Nat.le_refl _)
theorem zy_f77 {post : Int32 → SY → Prop} {d : Nat} (hk : k ≤ 6) (hd : d < k + 2) (hS : S ≤ 16)
    (h7 : (∃ s, s < S ∧ zp_Lo edg wd wm k d s) → post (-7) (nI (k + 2), nI k, nI S, nI J, nI c, nI p, po, st, fu, con, fai, edg, wd, wm, its, sta))
    (h0 : (∀ s, s < S → ¬ zp_Lo edg wd wm k d s) → ∀ wm' : Nat → Int32, (∀ s, s < S → wm' s = if wd s = nI d then 0 else wm s) → post 0 (nI (k + 2), nI k, nI S, nI J, nI c, nI p, po, st, fu, con, upd fai d (vp_nar .boolean 1), upd edg d 0, wd, wm', its, sta)) (m : Nat) :
    ∀ i, i + m = S → (∀ s, s < i → ¬ zp_Lo edg wd wm k d s) → wY_fail_77 post (nI d) (nI (k + 2)) (nI k) (nI S) (nI J) (nI c) (nI p) po st fu con fai edg wd wm its sta (m + 1) (nI i) := by
  have i8 : vp_in (nI d) 8 := vp_in_nI (by omega) (by omega)
  induction m with
  | zero =>
    intro i hi hn
    have : i = S := by omega
    subst this
    exact br_t (nI_le (Nat.le_refl _) (by omega)) (And.intro i8 (nm_r (zx_u (by omega)) (And.intro i8 (nm_r (zx_u (by omega)) (Exists.intro (i + 1) (zy_f164 (wm0 := wm) (by omega) hS (h0 hn) i 0 wm (by omega) (fun s hs => absurd hs (Nat.not_lt_zero s)) (fun _ _ => rfl)))))))
  | succ m ih =>
    intro i hi hn
    have i16 : vp_in (nI i) 16 := vp_in_nI (by omega) (by omega)
    have nx : ¬ zp_Lo edg wd wm k d i → wY_fail_77 post (nI d) (nI (k + 2)) (nI k) (nI S) (nI J) (nI c) (nI p) po st fu con fai edg wd wm its sta (m + 1) (nI (i + 1)) := fun q => ih (i + 1) (by omega) (fun s hs => by
      rcases Nat.lt_succ_iff_lt_or_eq.1 hs with w | rfl
      · exact hn s w
      · exact q)
    refine br_f (nI_ge (by omega) (by omega)) (And.intro i16 ?_)
    rw [nI_clamp (by omega)]
    exact br_c (fun e => nm_r (nI_1 i) (nx (fun q => q.1 e))) (fun e => And.intro i16 (br_c (fun w => nm_r (nI_1 i) (nx (fun q => q.2.1 w))) (fun w => Exists.intro (k + 3) (zy_f107 hk hd (fun q => h7 ⟨i, by omega, e, w, q⟩) (fun q => nx (fun y => q y.2.2)) (k + 2) 0 (by omega) (fun j hj => absurd hj (Nat.not_lt_zero j))))))
end
theorem i_vc_fail {k : Nat} {u : SX} {v : SY} (I : i_Rel k u v) (hk : k + 4 ≤ 2051) (v1 : Int32) : wpX_fail (fun r u' => wpY_fail (fun r' v' => r' = r ∧ i_Rel (k + 4) u' v') v v1) u v1 := by
  refine zr_el1 (P := fun u v => wpX_fail (fun r u' => wpY_fail (fun r' v' => r' = r ∧ i_Rel (k + 4) u' v') v v1) u v1) I ?_
  intro k S J h c p st po fu lo la lb sp sq sto edg fai lah iat ida sta ex lg blk con wd wm its H
  have g := H.1
  obtain ⟨g1, g2, g3, g4, g5, g6, g7, g8, g9, g10⟩ := g
  rcases zz_arg v1 (N := nI (k + 2)) rfl (by omega) (by omega) with a1 | ⟨a1, a2, a3, a4, a5⟩ | ⟨d, hd, rfl, a1, a2, a3, a4, a5⟩
  · exact br_t a1 (br_t a1 (And.intro rfl (zr_mk H)))
  · exact br_f a1 (br_f a2 (br_f a1 (br_f a4 (And.intro rfl (zr_mk H)))))
  · have i8 : vp_in (nI d) 8 := vp_in_nI (by omega) (by omega)
    have ef : fai (nI d).toNatClampNeg = fai d := zx_cl (by omega)
    by_cases b : fai d = 0
    · have b' : fai (nI d).toNatClampNeg = 0 := ef.trans b
      refine br_f a1 (br_t a2 (And.intro i8 (br_t b' (Exists.intro (k + 3) (zx_f30 g2 hd (fun q => ?_) (fun q => Exists.intro (S + 1) (zx_f75 H hd (fun w lo la lb sp sq blk => ?_) (fun w lo la lb sp sq blk => ?_) S 0 _ _ _ _ _ _ (by omega) (fun s hs => absurd hs (Nat.not_lt_zero s)))) (k + 2) 0 0 (by omega) (zp_cn0 _))))))
      · exact br_f a1 (br_t a4 (And.intro i8 (br_t b' (Exists.intro (k + 3) (zy_f32 g2 hd (fun _ => And.intro rfl (zr_mk H)) (fun z => absurd q z) (k + 2) 0 0 (by omega) (zp_cn0 _))))))
      · exact br_f a1 (br_t a4 (And.intro i8 (br_t b' (Exists.intro (k + 3) (zy_f32 g2 hd (fun z => absurd z q) (fun _ => Exists.intro (S + 1) (zy_f77 g2 hd g4 (fun _ => And.intro rfl (zr_mk H)) (fun z => (let ⟨s, hs, hl⟩ := w; absurd hl (z s hs))) S 0 (by omega) (fun s hs => absurd hs (Nat.not_lt_zero s)))) (k + 2) 0 0 (by omega) (zp_cn0 _))))))
      · exact br_f a1 (br_t a4 (And.intro i8 (br_t b' (Exists.intro (k + 3) (zy_f32 g2 hd (fun z => absurd z q) (fun _ => Exists.intro (S + 1) (zy_f77 g2 hd g4 (fun ⟨s, hs, hl⟩ => absurd hl (w s hs)) (fun _ wm' hw => And.intro rfl (zr_mk (zr_fail H hd q (fun s hs h1 h2 j hj hjd hM => w s hs ⟨h1, h2, j, hj, hjd, hM⟩) hw))) S 0 (by omega) (fun s hs => absurd hs (Nat.not_lt_zero s)))) (k + 2) 0 0 (by omega) (zp_cn0 _))))))
    · have b' : ¬ fai (nI d).toNatClampNeg = 0 := fun q => b (ef.symm.trans q)
      exact br_f a1 (br_t a2 (And.intro i8 (br_f b' (br_f a1 (br_t a4 (And.intro i8 (br_f b' (And.intro rfl (zr_mk H)))))))))
end
section
/-! the constructors -/
theorem zz_cl (v : Int32) {a b : Int32} (lo hi : Nat) (ha : a = nI lo) (hb : b = nI hi) (hl : lo ≤ hi) (hh : hi < 2 ^ 31) : ∃ j, lo ≤ j ∧ j ≤ hi ∧ (if a ≤ v then (if v ≤ b then v else b) else a) = nI j := by
  subst ha hb
  by_cases h1 : nI lo ≤ v
  · by_cases h2 : v ≤ nI hi
    · have n : ¬ v < 0 := fun q => Int32.not_lt.2 h1 (Int32.lt_of_lt_of_le q (nI_pos' (by omega)))
      obtain ⟨j, hj, rfl⟩ := nI_of n
      exact ⟨j, (nI_leI (by omega) (by omega)).1 h1, (nI_leI (by omega) (by omega)).1 h2, by rw [if_pos h1, if_pos h2]⟩
    · exact ⟨hi, hl, Nat.le_refl _, by rw [if_pos h1, if_neg h2]⟩
  · exact ⟨lo, Nat.le_refl _, hl, by rw [if_neg h1]⟩
section
variable {fn fk fS fJ fh fc fp st po fu lo la lb sp sq : Int32} {sto edg fai lah iat ida sta ex lg blk con wd wm its : Nat → Int32}
theorem zx_i188 {post : SX → Prop} (hp : ∀ ex lg : Nat → Int32, zr_T ex lg → post (fn, fk, fS, fJ, fh, fc, fp, -1, 1, -1, lo, la, lb, sp, sq, sto, edg, fai, lah, iat, ida, zp_ds sta, ex, lg, blk)) (m : Nat) : ∀ (i : Nat) (ex lg : Nat → Int32), i + m = 510 →
    (∀ j, j < i → ex j = zp_pw j 1) → (∀ j, j < i → j < 255 → lg (zp_e j) = nI j) → wX_init_188 post fn fk fS fJ fh fc fp st po fu lo la lb sp sq (m + 1) (zp_pw i 1) (nI i) sto edg fai lah iat ida sta ex lg blk := by
  induction m with
  | zero =>
    intro i ex lg hi h1 h2
    exact br_t (nI_le (a := 510) (by omega) (by omega)) (zx_drop (hp ex lg ⟨fun j hj => h1 j (by omega), fun j hj => h2 j (by omega) hj⟩))
  | succ m ih =>
    intro i ex lg hi h1 h2
    have e1 : ∀ j, j < i + 1 → upd ex i (zp_pw i 1) j = zp_pw j 1 := fun j hj => by
      by_cases e : j = i
      · subst e; rw [pk_us]
      · rw [pk_un e]; exact h1 j (by omega)
    refine br_f (nI_ge (b := 510) (by omega) (by omega)) (And.intro (vp_in_nI (by omega) (by omega)) (nm_r (zx_u (by omega)) ?_))
    by_cases q : i < 255
    · have b := zp_e2 i q
      have ep := zp_pwe i q
      have v : vp_in (zp_pw i 1) 256 := by rw [ep]; exact vp_in_nI b.2.1 (by omega)
      refine br_f (nI_ge (b := 255) q (by omega)) (And.intro v (nm_r (e' := upd lg (zp_e i) (nI i)) ?_ (zx_tw (nm_r (nI_1 i) (ih (i + 1) _ _ (by omega) e1 (fun j hj hj2 => ?_))))))
      · rw [ep, nI_clamp (by omega)]
      · by_cases e : j = i
        · subst e; rw [pk_us]
        · have n : zp_e j ≠ zp_e i := fun z => by
            have a := zp_e2 j hj2
            rw [z, b.1] at a
            exact e a.1.symm
          rw [pk_un n]; exact h2 j (by omega) hj2
    · exact br_t (nI_le (a := 255) (by omega) (by omega)) (zx_tw (nm_r (nI_1 i) (ih (i + 1) _ _ (by omega) e1 (fun j hj hj2 => h2 j (by omega) hj2))))
theorem zx_i161 {post : SX → Prop} (hp : ∀ ex lg : Nat → Int32, zr_T ex lg → post (fn, fk, fS, fJ, fh, fc, fp, -1, 1, -1, lo, la, lb, sp, sq, sto, edg, fai, zp_fl (-1) lah 0 16, iat, ida, zp_ds sta, ex, lg, blk)) (m : Nat) : ∀ (i : Nat) (lah' : Nat → Int32), i + m = 16 → zp_fl (-1) lah' i m = zp_fl (-1) lah 0 16 →
    wX_init_161 post fn fk fS fJ fh fc fp st po fu lo la lb sp sq (m + 1) (nI i) sto edg fai lah' iat ida sta ex lg blk := by
  induction m with
  | zero =>
    intro i lah' hi he
    have he' : lah' = zp_fl (-1) lah 0 16 := he
    rw [← he'] at hp
    exact br_t (nI_le (a := 16) (by omega) (by omega)) (Exists.intro 511 (zx_i188 hp 510 0 ex lg (by omega) (fun j hj => absurd hj (Nat.not_lt_zero j)) (fun j hj => absurd hj (Nat.not_lt_zero j))))
  | succ m ih =>
    intro i lah' hi he
    exact br_f (nI_ge (b := 16) (by omega) (by omega)) (And.intro (vp_in_nI (by omega) (by omega)) (nm_r (zx_u (by omega)) (nm_r (nI_1 i) (ih (i + 1) _ (by omega) he))))
theorem zx_i134 {post : SX → Prop} (hp : ∀ ex lg : Nat → Int32, zr_T ex lg → post (fn, fk, fS, fJ, fh, fc, fp, -1, 1, -1, lo, la, lb, sp, sq, sto, zp_fl fS edg 0 8, fai, zp_fl (-1) lah 0 16, iat, ida, zp_ds sta, ex, lg, blk)) (m : Nat) : ∀ (i : Nat) (edg' : Nat → Int32), i + m = 8 → zp_fl fS edg' i m = zp_fl fS edg 0 8 →
    wX_init_134 post fn fk fS fJ fh fc fp st po fu lo la lb sp sq (m + 1) (nI i) sto edg' fai lah iat ida sta ex lg blk := by
  induction m with
  | zero =>
    intro i edg' hi he
    have he' : edg' = zp_fl fS edg 0 8 := he
    rw [← he'] at hp
    exact br_t (nI_le (a := 8) (by omega) (by omega)) (Exists.intro 17 (zx_i161 hp 16 0 lah (by omega) rfl))
  | succ m ih =>
    intro i edg' hi he
    exact br_f (nI_ge (b := 8) (by omega) (by omega)) (And.intro (vp_in_nI (by omega) (by omega)) (nm_r (zx_u (by omega)) (nm_r (nI_1 i) (ih (i + 1) _ (by omega) he))))
theorem zy_i180 {post : SY → Prop} (m : Nat) : ∀ (i : Nat) (sta : Nat → Int32), i + m = 6 → post (fn, fk, fS, fJ, 0, 0, 1, -1, -1, con, fai, edg, wd, wm, its, zp_fl (-1) sta i m) →
    wY_init_180 post fn fk fS fJ fc fp po st fu (m + 1) (nI i) con fai edg wd wm its sta := by
  induction m with
  | zero =>
    intro i sta h hp
    exact br_t (nI_le (a := 6) (by omega) (by omega)) hp
  | succ m ih =>
    intro i sta h hp
    exact br_f (nI_ge (b := 6) (by omega) (by omega)) (And.intro (vp_in_nI (by omega) (by omega)) (nm_r (zx_u (by omega)) (nm_r (nI_1 i) (ih (i + 1) _ (by omega) hp))))
theorem zy_i155 {post : SY → Prop} {x5 : Int32} (m : Nat) : ∀ (i : Nat) (edg : Nat → Int32), i + m = 8 → post (fn, fk, fS, fJ, 0, 0, 1, -1, -1, con, fai, zp_fl x5 edg i m, wd, wm, its, zp_ds sta) →
    wY_init_155 post x5 fn fk fS fJ fc fp po st fu (m + 1) (nI i) con fai edg wd wm its sta := by
  induction m with
  | zero =>
    intro i edg h hp
    exact br_t (nI_le (a := 8) (by omega) (by omega)) (Exists.intro 7 (zy_i180 6 0 sta (by omega) hp))
  | succ m ih =>
    intro i edg h hp
    exact br_f (nI_ge (b := 8) (by omega) (by omega)) (And.intro (vp_in_nI (by omega) (by omega)) (nm_r (zx_u (by omega)) (nm_r (nI_1 i) (ih (i + 1) _ (by omega) hp))))
theorem zy_iC {post : SY → Prop} {x4 x5 p2 : Int32} (hp : wY_init_126 post x4 x5 (if 1 ≤ p2 then (if p2 ≤ 4 then p2 else 4) else 1) fn fk fS fJ fc fp po st fu con fai edg wd wm its sta) : wY_init_105 post p2 x4 x5 fn fk fS fJ fc fp po st fu con fai edg wd wm its sta := by
  refine br_c (fun h1 => br_c (fun h2 => ?_) (fun h2 => ?_)) (fun h1 => br_t (by decide) ?_)
  · rw [if_pos h1, if_pos h2] at hp; exact hp
  · rw [if_pos h1, if_neg h2] at hp; exact hp
  · rw [if_neg h1] at hp; exact hp
theorem zy_iB {post : SY → Prop} {x3 x4 p1 : Int32} (hp : wY_init_105 post x3 x4 (if 1 ≤ p1 then (if p1 ≤ 16 then p1 else 16) else 1) fn fk fS fJ fc fp po st fu con fai edg wd wm its sta) : wY_init_82 post p1 x3 x4 fn fk fS fJ fc fp po st fu con fai edg wd wm its sta := by
  refine br_c (fun h1 => br_c (fun h2 => ?_) (fun h2 => ?_)) (fun h1 => br_t (by decide) ?_)
  · rw [if_pos h1, if_pos h2] at hp; exact hp
  · rw [if_pos h1, if_neg h2] at hp; exact hp
  · rw [if_neg h1] at hp; exact hp
theorem zy_iA {post : SY → Prop} {p0 p1 p2 : Int32} (hp : wY_init_82 post p1 p2 (if 4 ≤ p0 then (if p0 ≤ 8 then p0 else 8) else 4) 0 0 0 0 0 0 0 0 0 (fun _ => 0) (fun _ => 0) (fun _ => 0) (fun _ => 0) (fun _ => 0) (fun _ => 0) (fun _ => 0)) : wpY_init post p0 p1 p2 := by
  refine br_c (fun h1 => br_c (fun h2 => ?_) (fun h2 => ?_)) (fun h1 => br_t (by decide) ?_)
  · rw [if_pos h1, if_pos h2] at hp; exact hp
  · rw [if_pos h1, if_neg h2] at hp; exact hp
  · rw [if_neg h1] at hp; exact hp
end
theorem zr_0 {k S J : Nat} {ex lg lah iat ida : Nat → Int32} (g1 : 2 ≤ k) (g2 : k ≤ 6) (g3 : 1 ≤ S) (g4 : S ≤ 16) (g5 : 1 ≤ J) (g6 : J ≤ 4) (T : zr_T ex lg) :
    zr_I k S J 0 0 0 (-1) (fun _ => 0) (zp_fl (nI S) (fun _ => 0) 0 8) (fun _ => 0) lah iat ida (zp_ds (fun _ => 0)) ex lg (fun _ => 0) (fun _ => 0) (fun _ => 0) (fun _ => 0) := by
  have ev : ∀ d, d < k + 2 → zp_fl (nI S) (fun _ => 0) 0 8 d = nI S := fun d hd => by rw [zp_flv, if_pos (by omega)]
  refine ⟨⟨g1, g2, g3, g4, g5, g6, by omega, by omega, by omega, fun _ => rfl⟩, ⟨fun d hd => ⟨S, Nat.le_refl _, ev d hd, fun q => absurd rfl q⟩, fun a b c ha hb hc _ _ _ ma _ _ => ?_⟩, T, ⟨fun j _ => zp_by0, Or.inl (by decide), zr_ds g2⟩,
    fun i hi => absurd hi (Nat.not_lt_zero i), fun s _ => ⟨zp_by0, fun q => absurd rfl q⟩, fun s _ _ d hd _ => ?_, fun q => absurd q (by omega)⟩
  · apply ma
    rw [ev a ha]
    exact Int32.le_refl _
  · have z : ∀ r, zp_C (fun _ => 0) k s r = 0 := fun r => by
      have q := zp_hz (E := fun j => (fun _ => (0 : Int32)) (j - 2)) k 2 (fun _ _ _ => rfl)
      unfold zp_C zp_cw
      by_cases h0 : r = 0
      · rw [if_pos h0]; exact q.1
      · rw [if_neg h0]
        by_cases h1 : r = 1
        · rw [if_pos h1]; exact q.2
        · rw [if_neg h1]
    have e : zp_er (fun _ => 0) (fun _ => 0) s d = 0 := by
      unfold zp_er
      by_cases w : (0 : Int32) = nI d
      · rw [if_pos w]
      · rw [if_neg w]
    rw [z, e]
    show (0 : Int32) = 0 ^^^ 0
    decide
theorem i_vc0 (k0 : Int32) (k1 : Int32) (k2 : Int32) : wpX_init (fun u => wpY_init (fun v => i_Rel 3 u v) k0 k1 k2) k0 k1 k2 := by
  obtain ⟨n, n1, n2, en⟩ := zz_cl k0 (a := 4) (b := 8) 4 8 (by decide) (by decide) (by omega) (by omega)
  obtain ⟨S, s1, s2, es⟩ := zz_cl k1 (a := 1) (b := 16) 1 16 (by decide) (by decide) (by omega) (by omega)
  obtain ⟨J, j1, j2, ej⟩ := zz_cl k2 (a := 1) (b := 4) 1 4 (by decide) (by decide) (by omega) (by omega)
  obtain ⟨k, rfl⟩ : ∃ k, n = k + 2 := ⟨n - 2, by omega⟩
  have ek : nI (k + 2) - 2 = nI k := pk_sub (a := k + 2) (b := 2) (by omega)
  unfold wpX_init
  refine zx_clamp ?_
  rw [en]
  refine nm_r ek (zx_clamp ?_)
  rw [es]
  refine zx_clamp ?_
  rw [ej]
  refine Exists.intro 9 (zx_i134 (fun ex lg T => ?_) 8 0 (fun _ => 0) (by omega) rfl)
  refine zy_iA ?_
  rw [en]
  refine zy_iB ?_
  rw [es]
  refine zy_iC ?_
  rw [ej]
  refine nm_r ek (Exists.intro 9 (zy_i155 8 0 (fun _ => 0) (by omega) ?_))
  exact zr_mk (h := 0) (c := 0) (p := 0) (zr_0 (by omega) (by omega) s1 s2 j1 j2 T)
end
