section
theorem pk_us {f : Nat → Int32} {k : Nat} {x : Int32} : upd f k x k = x := if_pos rfl
theorem pk_un {f : Nat → Int32} {k j : Nat} {x : Int32} (h : j ≠ k) : upd f k x j = f j := if_neg h
theorem pk_sub {a b : Nat} (h : b ≤ a) : nI a - nI b = nI (a - b) := by
  obtain ⟨c, rfl⟩ : ∃ c, a = c + b := ⟨a - b, by omega⟩
  rw [← nI_add, Int32.add_sub_cancel, Nat.add_sub_cancel]
theorem pk_m1 (n : Nat) : nI (n + 1) + (-1) = nI n := by
  rw [← nI_1, Int32.add_assoc, show (1 : Int32) + (-1) = 0 from rfl, Int32.add_zero]
theorem pk_mul (a b : Nat) : nI a * nI b = nI (a * b) := (Int32.ofNat_mul a b).symm
theorem pk_div {a d : Nat} (ha : a < 2 ^ 31) (h0 : 0 < d) (hd : d < 2 ^ 31) : nI a / nI d = nI (a / d) := by
  apply Int32.toInt_inj.mp
  rw [lg_idiv_nonneg (by rw [nI_toInt ha]; omega) (by rw [nI_toInt hd]; omega), nI_toInt ha, nI_toInt hd, nI_toInt (Nat.lt_of_le_of_lt (Nat.div_le_self a d) ha)]
  first | rfl | exact (Int.natCast_ediv _ _).symm
theorem pk_rem {a d : Nat} (ha : a < 2 ^ 31) (h0 : 0 < d) (hd : d < 2 ^ 31) : nI a - nI a / nI d * nI d = nI (a % d) := by
  rw [pk_div ha h0 hd, pk_mul, pk_sub (Nat.div_mul_le_self a d)]
  exact congrArg nI (by have := Nat.div_add_mod' a d; omega)
theorem pk_sub_toInt {a b : Nat} (ha : a < 2 ^ 30) (hb : b < 2 ^ 30) : (nI a - nI b).toInt = (a : Int) - b := by
  rw [Int32.toInt_sub, nI_toInt (by omega), nI_toInt (by omega)]
  exact Int.bmod_eq_of_le (by omega) (by omega)
theorem pk_sneg {a b : Nat} (hb : b < 2 ^ 30) (h : a < b) : nI a - nI b < 0 := by
  rw [Int32.lt_iff_toInt_lt, pk_sub_toInt (by omega) hb, show (0 : Int32).toInt = 0 from by decide]
  omega
theorem pk_ix (x : Int32) {n : Nat} (hn : n < 2 ^ 31) : x < 0 ∨ nI n ≤ x ∨ ∃ j : Nat, j < n ∧ x = nI j := by
  by_cases h : x < 0
  · exact Or.inl h
  · obtain ⟨j, hj, rfl⟩ := nI_of h
    by_cases h2 : j < n
    · exact Or.inr (Or.inr ⟨j, h2, rfl⟩)
    · exact Or.inr (Or.inl (nI_le (by omega) hj))
theorem pk_le {x y : Int32} {A B : Prop} (a b : Nat) (f : a ≤ b → A) (g : b < a → B) (hx : x = nI a := by rfl) (hy : y = nI b := by rfl) (ha : a < 2 ^ 31 := by omega) (hb : b < 2 ^ 31 := by omega) : (x ≤ y → A) ∧ (¬ x ≤ y → B) := by
  subst hx hy
  rw [nI_leI ha hb]
  exact ⟨f, fun z => g (by omega)⟩
theorem pk_lt {x y : Int32} {A B : Prop} (a b : Nat) (f : a < b → A) (g : b ≤ a → B) (hx : x = nI a := by rfl) (hy : y = nI b := by rfl) (ha : a < 2 ^ 31 := by omega) (hb : b < 2 ^ 31 := by omega) : (x < y → A) ∧ (¬ x < y → B) := by
  subst hx hy
  rw [nI_ltI ha hb]
  exact ⟨f, fun z => g (by omega)⟩
theorem pk_eq {x y : Int32} {A B : Prop} (a b : Nat) (f : a = b → A) (g : a ≠ b → B) (hx : x = nI a := by rfl) (hy : y = nI b := by rfl) (ha : a < 2 ^ 31 := by omega) (hb : b < 2 ^ 31 := by omega) : (x = y → A) ∧ (¬ x = y → B) := by
  subst hx hy
  rw [nI_eq ha hb]
  exact ⟨f, g⟩
theorem pk_in {x : Int32} (n N : Nat) (h : n < N) (hx : x = nI n := by rfl) (hN : N < 2 ^ 31 := by omega) : vp_in x N := by
  subst hx
  exact vp_in_nI h hN
theorem pk_cl {x : Int32} (n : Nat) (hx : x = nI n := by rfl) (h : n < 2 ^ 31 := by omega) : x.toNatClampNeg = n := by
  subst hx
  exact nI_clamp h
theorem pk_tn {n : Nat} (h : n < 2 ^ 32) : (nI n).toBitVec.toNat = n := Nat.mod_eq_of_lt h
theorem pk_and (x : Int32) {m : Int32} (k : Nat) (hm : m.toBitVec.toNat = 2 ^ k - 1) : x &&& m = nI (x.toBitVec.toNat % 2 ^ k) := by
  apply Int32.toBitVec_inj.mp
  apply BitVec.eq_of_toNat_eq
  rw [Int32.toBitVec_and, BitVec.toNat_and, hm, Nat.and_two_pow_sub_one_eq_mod]
  show _ = (BitVec.ofNat 32 _).toNat
  rw [BitVec.toNat_ofNat]
  exact (Nat.mod_eq_of_lt (Nat.lt_of_le_of_lt (Nat.mod_le _ _) x.toBitVec.isLt)).symm
theorem pk_andN {n : Nat} (h : n < 2 ^ 32) {m : Int32} (k : Nat) (hm : m.toBitVec.toNat = 2 ^ k - 1) : nI n &&& m = nI (n % 2 ^ k) := by
  rw [pk_and _ k hm, pk_tn h]
theorem pk_andE (x : Int32) {m : Int32} (k : Nat) (hm : m.toBitVec.toNat = 2 ^ k - 1) : ∃ j : Nat, j < 2 ^ k ∧ x &&& m = nI j := ⟨_, Nat.mod_lt _ (Nat.two_pow_pos k), pk_and x k hm⟩
theorem pk_andIn (x : Int32) {m : Int32} (k : Nat) (hm : m.toBitVec.toNat = 2 ^ k - 1) (hk : k ≤ 30) : vp_in (x &&& m) (2 ^ k) := by
  obtain ⟨j, hj, e⟩ := pk_andE x k hm
  rw [e]
  exact vp_in_nI hj (Nat.lt_of_le_of_lt (Nat.pow_le_pow_right (by decide) hk) (by decide))
theorem pk_shl (a s : Int32) (k : Nat) (hs : (s.toBitVec.smod 32).toNat = k) : (a <<< s).toBitVec.toNat = a.toBitVec.toNat * 2 ^ k % 2 ^ 32 := by
  show (a.toBitVec <<< (s.toBitVec.smod 32).toNat).toNat = _
  rw [hs, BitVec.toNat_shiftLeft, Nat.shiftLeft_eq]
theorem pk_shlN {n : Nat} (s : Int32) (k : Nat) (hs : (s.toBitVec.smod 32).toNat = k) (h : n * 2 ^ k < 2 ^ 32) : nI n <<< s = nI (n * 2 ^ k) := by
  apply Int32.toBitVec_inj.mp
  apply BitVec.eq_of_toNat_eq
  have hn : n < 2 ^ 32 := Nat.lt_of_le_of_lt (Nat.le_mul_of_pos_right n (Nat.two_pow_pos k)) h
  rw [pk_shl _ _ k hs, pk_tn hn, pk_tn h, Nat.mod_eq_of_lt h]
theorem pk_shr (a s : Int32) (k : Nat) (hs : (s.toBitVec.smod 32).toNat = k) : (a >>> s).toInt = a.toInt >>> k := by
  show (a.toBitVec.sshiftRight (s.toBitVec.smod 32).toNat).toInt = _
  rw [hs, BitVec.toInt_sshiftRight]
  rfl
theorem pk_shrN {n : Nat} (h : n < 2 ^ 31) (s : Int32) (k : Nat) (hs : (s.toBitVec.smod 32).toNat = k) : nI n >>> s = nI (n / 2 ^ k) := by
  apply Int32.toInt_inj.mp
  have h2 : n / 2 ^ k ≤ n := Nat.div_le_self _ _
  rw [pk_shr _ _ k hs, nI_toInt h, nI_toInt (by omega), Int.shiftRight_eq_div_pow]
  rfl
theorem s_l : ∀ n, n < 32 → ((nI n &&& 31).toBitVec.smod 32).toNat = n := by decide +kernel
/-! ints as Int32: zI; arrays lifted -/
def zI (z : Int) : Int32 := Int32.ofInt z
def b2 (b : Bool) : Int32 := if b = true then 1 else 0
def aZ (W : Nat → Int) : Nat → Int32 := fun j => zI (W j)
def aB (H : Nat → Bool) : Nat → Int32 := fun j => b2 (H j)
def aN (V : Nat → Nat) : Nat → Int32 := fun j => nI (V j)
def ug {α : Type} (W : Nat → α) (k : Nat) (x : α) : Nat → α := fun j => if j = k then x else W j
theorem ug_s {α : Type} {W : Nat → α} {k : Nat} {x : α} : ug W k x k = x := if_pos rfl
theorem ug_n {α : Type} {W : Nat → α} {k j : Nat} {x : α} (h : j ≠ k) : ug W k x j = W j := if_neg h
theorem aZ_u {W : Nat → Int} {k : Nat} {x : Int} : upd (aZ W) k (zI x) = aZ (ug W k x) := by
  funext j
  show (if j = k then zI x else zI (W j)) = zI (if j = k then x else W j)
  split <;> rfl
theorem aB_u {W : Nat → Bool} {k : Nat} {x : Bool} : upd (aB W) k (b2 x) = aB (ug W k x) := by
  funext j
  show (if j = k then b2 x else b2 (W j)) = b2 (if j = k then x else W j)
  split <;> rfl
theorem aN_u {W : Nat → Nat} {k : Nat} {x : Nat} : upd (aN W) k (nI x) = aN (ug W k x) := by
  funext j
  show (if j = k then nI x else nI (W j)) = nI (if j = k then x else W j)
  split <;> rfl
theorem b2_n1 : vp_nar .boolean 1 = b2 true := rfl
theorem b2_n0 : vp_nar .boolean 0 = b2 false := rfl
theorem b2_nb (b : Bool) : vp_nar .boolean (b2 b) = b2 b := by cases b <;> rfl
theorem b2_nr (b : Bool) : narrow .boolean (.int (b2 b)) = .int (b2 b) := by cases b <;> rfl
theorem zI_nI (n : Nat) : nI n = zI (n : Int) := Int32.ofInt_eq_ofNat.symm
theorem zI_add (a b : Int) : zI a + zI b = zI (a + b) := (Int32.ofInt_add a b).symm
theorem zI_sub (a b : Int) : zI a - zI b = zI (a - b) := (Int32.ofInt_sub a b).symm
theorem zI_mul (a b : Int) : zI a * zI b = zI (a * b) := (Int32.ofInt_mul a b).symm
theorem zI_neg (a : Int) : -zI a = zI (-a) := (Int32.ofInt_neg a).symm
theorem zI_toInt {a : Int} (h1 : -2147483648 ≤ a) (h2 : a < 2147483648) : (zI a).toInt = a := Int32.toInt_ofInt_of_le (by omega) (by omega)
theorem zI_of (x : Int32) : x = zI x.toInt := (Int32.ofInt_toInt x).symm
theorem zI_le {a b : Int} (h1 : -2147483648 ≤ a) (h2 : a < 2147483648) (h3 : -2147483648 ≤ b) (h4 : b < 2147483648) : zI a ≤ zI b ↔ a ≤ b := by
  rw [Int32.le_iff_toInt_le, zI_toInt h1 h2, zI_toInt h3 h4]
theorem zI_lt {a b : Int} (h1 : -2147483648 ≤ a) (h2 : a < 2147483648) (h3 : -2147483648 ≤ b) (h4 : b < 2147483648) : zI a < zI b ↔ a < b := by
  rw [Int32.lt_iff_toInt_lt, zI_toInt h1 h2, zI_toInt h3 h4]
theorem zI_eq {a b : Int} (h1 : -2147483648 ≤ a) (h2 : a < 2147483648) (h3 : -2147483648 ≤ b) (h4 : b < 2147483648) : zI a = zI b ↔ a = b := by
  rw [← Int32.toInt_inj, zI_toInt h1 h2, zI_toInt h3 h4]
theorem zI_div {a b : Int} (h1 : 0 ≤ a) (h2 : a < 2147483648) (h3 : 0 < b) (h4 : b < 2147483648) : zI a / zI b = zI (a / b) := by
  have e := Int32.ofInt_tdiv (a := a) (b := b) (by show (-2147483648 : Int) ≤ a; omega) (by show a ≤ 2147483647; omega) (by show (-2147483648 : Int) ≤ b; omega) (by show b ≤ 2147483647; omega)
  rw [Int.tdiv_eq_ediv_of_nonneg h1] at e
  exact e.symm
theorem zI_rem {a b : Int} (h1 : 0 ≤ a) (h2 : a < 2147483648) (h3 : 0 < b) (h4 : b < 2147483648) : zI a - zI a / zI b * zI b = zI (a % b) := by
  rw [zI_div h1 h2 h3 h4, zI_mul, zI_sub]
  exact congrArg zI (by rw [Int.emod_def, Int.mul_comm])
/-! branches by ints -/
theorem zb_le {x y : Int32} {A B : Prop} (a b : Int) (f : a ≤ b → A) (g : b < a → B) (hx : x = zI a := by rfl) (hy : y = zI b := by rfl) (h1 : -2147483648 ≤ a := by omega) (h2 : a < 2147483648 := by omega) (h3 : -2147483648 ≤ b := by omega) (h4 : b < 2147483648 := by omega) : (x ≤ y → A) ∧ (¬ x ≤ y → B) := by
  subst hx hy
  rw [zI_le h1 h2 h3 h4]
  exact ⟨f, fun z => g (by omega)⟩
theorem zb_lt {x y : Int32} {A B : Prop} (a b : Int) (f : a < b → A) (g : b ≤ a → B) (hx : x = zI a := by rfl) (hy : y = zI b := by rfl) (h1 : -2147483648 ≤ a := by omega) (h2 : a < 2147483648 := by omega) (h3 : -2147483648 ≤ b := by omega) (h4 : b < 2147483648 := by omega) : (x < y → A) ∧ (¬ x < y → B) := by
  subst hx hy
  rw [zI_lt h1 h2 h3 h4]
  exact ⟨f, fun z => g (by omega)⟩
theorem zb_eq {x y : Int32} {A B : Prop} (a b : Int) (f : a = b → A) (g : a ≠ b → B) (hx : x = zI a := by rfl) (hy : y = zI b := by rfl) (h1 : -2147483648 ≤ a := by omega) (h2 : a < 2147483648 := by omega) (h3 : -2147483648 ≤ b := by omega) (h4 : b < 2147483648 := by omega) : (x = y → A) ∧ (¬ x = y → B) := by
  subst hx hy
  rw [zI_eq h1 h2 h3 h4]
  exact ⟨f, g⟩
theorem b2_0 {b : Bool} : b2 b = 0 ↔ b = false := by cases b <;> decide
theorem b2_1 {b : Bool} : b2 b = 1 ↔ b = true := by cases b <;> decide
theorem zb_b {x : Int32} {A B : Prop} (b : Bool) (f : b = false → A) (g : b = true → B) (hx : x = b2 b := by rfl) : (x = 0 → A) ∧ (¬ x = 0 → B) := by
  subst hx
  rw [b2_0]
  exact ⟨f, fun z => g (by cases b <;> simp_all)⟩
/-! indices -/
theorem ix_x (i v : Nat) : nI i * 8 + nI v = nI (i * 8 + v) := by
  rw [show (8 : Int32) = nI 8 from rfl, pk_mul, nI_add]
theorem ix_y (i v : Nat) : 8 * nI i + nI v = nI (i * 8 + v) := by
  rw [show (8 : Int32) = nI 8 from rfl, pk_mul, nI_add, Nat.mul_comm]
theorem ix_10 (i : Nat) : 10 + nI i = nI (10 + i) := by
  rw [show (10 : Int32) = nI 10 from rfl, nI_add]
theorem rd_z {W : Nat → Int} {x : Int32} (k : Nat) (hx : x = nI k := by rfl) (h : k < 2147483648 := by omega) : aZ W x.toNatClampNeg = zI (W k) := by
  subst hx
  rw [nI_clamp (by omega)]; rfl
theorem rd_b {W : Nat → Bool} {x : Int32} (k : Nat) (hx : x = nI k := by rfl) (h : k < 2147483648 := by omega) : aB W x.toNatClampNeg = b2 (W k) := by
  subst hx
  rw [nI_clamp (by omega)]; rfl
theorem rd_n {W : Nat → Nat} {x : Int32} (k : Nat) (hx : x = nI k := by rfl) (h : k < 2147483648 := by omega) : aN W x.toNatClampNeg = nI (W k) := by
  subst hx
  rw [nI_clamp (by omega)]; rfl
theorem wr_z {W : Nat → Int} {x y : Int32} (k : Nat) (v : Int) (hx : x = nI k := by rfl) (hy : y = zI v := by rfl) (h : k < 2147483648 := by omega) : upd (aZ W) x.toNatClampNeg y = aZ (ug W k v) := by
  subst hx hy
  rw [nI_clamp (by omega), aZ_u]
theorem wr_b {W : Nat → Bool} {x y : Int32} (k : Nat) (v : Bool) (hx : x = nI k := by rfl) (hy : y = b2 v := by rfl) (h : k < 2147483648 := by omega) : upd (aB W) x.toNatClampNeg y = aB (ug W k v) := by
  subst hx hy
  rw [nI_clamp (by omega), aB_u]
theorem wr_n {W : Nat → Nat} {x y : Int32} (k v : Nat) (hx : x = nI k := by rfl) (hy : y = nI v := by rfl) (h : k < 2147483648 := by omega) : upd (aN W) x.toNatClampNeg y = aN (ug W k v) := by
  subst hx hy
  rw [nI_clamp (by omega), aN_u]
theorem in_n {x : Int32} (k : Nat) {N : Nat} (h : k < N) (hx : x = nI k := by rfl) (hN : N < 2147483648 := by omega) : vp_in x N := by
  subst hx
  exact vp_in_nI h (by omega)
/-! bits of masks -/
theorem bt_t (m v : Nat) : (m.testBit v).toNat = m / 2 ^ v % 2 := by
  rw [Nat.testBit_eq_decide_div_mod_eq]
  rcases Nat.mod_two_eq_zero_or_one (m / 2 ^ v) with h | h <;> rw [h] <;> rfl
theorem bt_x {m v : Nat} (hm : m < 2147483648) (hv : v < 32) : (nI m >>> (nI v &&& 31)) &&& 1 = nI (m.testBit v).toNat := by
  rw [pk_shrN (by omega) _ v (s_l v hv), pk_andN (m := 1) (Nat.lt_of_le_of_lt (Nat.div_le_self _ _) (by omega)) 1 (by decide), bt_t]
theorem sh_1 {n : Nat} (hn : n ≤ 8) : (1 : Int32) <<< (nI n &&& 31) = nI (2 ^ n) := by
  have h : (2 : Nat) ^ n ≤ 2 ^ 8 := Nat.pow_le_pow_right (by decide) hn
  have e := pk_shlN (n := 1) (nI n &&& 31) n (s_l n (by omega)) (by omega)
  rw [Nat.one_mul] at e
  exact e
end
section
/-! sums, literals, slack: plain ints -/
def pb_ab (x : Int) : Int := max x (-x)
def pb_sm (g : Nat → Int) : Nat → Int
  | 0 => 0
  | n + 1 => pb_sm g n + g n
theorem pb_sm_s (g : Nat → Int) (n : Nat) : pb_sm g (n + 1) = pb_sm g n + g n := rfl
theorem pb_sm_congr {g h : Nat → Int} : ∀ n : Nat, (∀ v, v < n → g v = h v) → pb_sm g n = pb_sm h n := by
  intro n
  induction n with
  | zero => intro _; rfl
  | succ n ih =>
    intro H
    rw [pb_sm_s, pb_sm_s, ih (fun v hv => H v (by omega)), H n (by omega)]
theorem pb_sm_le {g h : Nat → Int} : ∀ n : Nat, (∀ v, v < n → g v ≤ h v) → pb_sm g n ≤ pb_sm h n := by
  intro n
  induction n with
  | zero => intro _; exact Int.le_refl _
  | succ n ih =>
    intro H
    have a := ih (fun v hv => H v (by omega))
    have b := H n (by omega)
    rw [pb_sm_s, pb_sm_s]
    omega
theorem pb_sm_nn {g : Nat → Int} : ∀ n : Nat, (∀ v, v < n → 0 ≤ g v) → 0 ≤ pb_sm g n := by
  intro n
  induction n with
  | zero => intro _; exact Int.le_refl _
  | succ n ih =>
    intro H
    have a := ih (fun v hv => H v (by omega))
    have b := H n (by omega)
    rw [pb_sm_s]
    omega
theorem pb_sm_add (g h : Nat → Int) (n : Nat) : pb_sm (fun v => g v + h v) n = pb_sm g n + pb_sm h n := by
  induction n with
  | zero => rfl
  | succ n ih =>
    rw [pb_sm_s, pb_sm_s, pb_sm_s, ih]
    omega
theorem pb_sm_mul (k : Int) (g : Nat → Int) (n : Nat) : pb_sm (fun v => k * g v) n = k * pb_sm g n := by
  induction n with
  | zero => exact (Int.mul_zero k).symm
  | succ n ih => rw [pb_sm_s, pb_sm_s, ih, Int.mul_add]
theorem pb_sm_one {g h : Nat → Int} (u : Nat) : ∀ n : Nat, u < n → (∀ v, v < n → v ≠ u → g v = h v) → pb_sm g n = pb_sm h n + (g u - h u) := by
  intro n
  induction n with
  | zero => intro hu; omega
  | succ n ih =>
    intro hu H
    by_cases e : u = n
    · subst e
      rw [pb_sm_s, pb_sm_s, pb_sm_congr u (fun v hv => H v (by omega) (by omega))]
      omega
    · rw [pb_sm_s, pb_sm_s, ih (by omega) (fun v hv hne => H v (by omega) hne), H n (by omega) (by omega)]
      omega
theorem pb_sm_lt {g h : Nat → Int} {k : Int} (u n : Nat) (hu : u < n) (H : ∀ v, v < n → g v ≤ h v) (hk : g u + k ≤ h u) : pb_sm g n + k ≤ pb_sm h n := by
  have a := pb_sm_one (g := fun v => if v = u then g v + k else g v) (h := g) u n hu (fun v _ hv => if_neg hv)
  have b := pb_sm_le (g := fun v => if v = u then g v + k else g v) (h := h) n (fun v hv => by
    by_cases e : v = u
    · subst e; rw [if_pos rfl]; exact hk
    · rw [if_neg e]; exact H v hv)
  rw [if_pos rfl] at a
  omega
theorem pb_sm_bd {g : Nat → Int} {B : Int} : ∀ n : Nat, (∀ v, v < n → -B ≤ g v ∧ g v ≤ B) → -((n : Int) * B) ≤ pb_sm g n ∧ pb_sm g n ≤ (n : Int) * B := by
  intro n
  induction n with
  | zero => intro _; rw [show pb_sm g 0 = 0 from rfl]; simp
  | succ n ih =>
    intro H
    have a := ih (fun v hv => H v (by omega))
    have b := H n (by omega)
    have e : ((n + 1 : Nat) : Int) * B = (n : Int) * B + B := by rw [Int.natCast_succ, Int.add_mul, Int.one_mul]
    rw [pb_sm_s, e]
    omega
theorem pb_sm_8 {g : Nat → Int} {B : Int} {n : Nat} (hn : n ≤ 8) (hB : 0 ≤ B) (H : ∀ v, v < n → -B ≤ g v ∧ g v ≤ B) : -(8 * B) ≤ pb_sm g n ∧ pb_sm g n ≤ 8 * B := by
  have a := pb_sm_bd n H
  have b : (n : Int) * B ≤ 8 * B := Int.mul_le_mul_of_nonneg_right (by omega) hB
  omega
theorem pb_ab_nn (x : Int) : 0 ≤ pb_ab x := by unfold pb_ab; omega
theorem pb_ab_b {x B : Int} (h : -B ≤ x ∧ x ≤ B) : -B ≤ pb_ab x ∧ pb_ab x ≤ B := by unfold pb_ab; omega
/-! literals -/
def pb_lit (x : Int) (b : Bool) : Int := if b = true then max x 0 else max (-x) 0
theorem pb_lit_t (x : Int) : pb_lit x true = max x 0 := rfl
theorem pb_lit_f (x : Int) : pb_lit x false = max (-x) 0 := rfl
theorem pb_lit_nn (x : Int) (b : Bool) : 0 ≤ pb_lit x b := by
  cases b
  · rw [pb_lit_f]; omega
  · rw [pb_lit_t]; omega
theorem pb_lit_ab (x : Int) (b : Bool) : pb_lit x b ≤ pb_ab x := by
  unfold pb_ab
  cases b
  · rw [pb_lit_f]; omega
  · rw [pb_lit_t]; omega
def pb_sat (f : Nat → Int) (d : Int) (n m : Nat) : Prop := d ≤ pb_sm (fun v => pb_lit (f v) (m.testBit v)) n
def pb_nf (x : Int) (b : Nat) : Int := if (0 < x ∧ b = 0) ∨ (x < 0 ∧ b = 1) then 0 else pb_ab x
def pb_slk (f : Nat → Int) (d : Int) (V : Nat → Nat) (n : Nat) : Int := pb_sm (fun v => pb_nf (f v) (V v)) n - d
def pb_agr (V : Nat → Nat) (m n : Nat) : Prop := ∀ v, v < n → V v ≠ 2 → V v = (m.testBit v).toNat
def pb_ext (V V' : Nat → Nat) (n : Nat) : Prop := ∀ v, v < n → V v ≠ 2 → V' v = V v
theorem pb_nf_t {x : Int} {b : Nat} (h : (0 < x ∧ b = 0) ∨ (x < 0 ∧ b = 1)) : pb_nf x b = 0 := if_pos h
theorem pb_nf_f {x : Int} {b : Nat} (h : ¬ ((0 < x ∧ b = 0) ∨ (x < 0 ∧ b = 1))) : pb_nf x b = pb_ab x := if_neg h
theorem pb_nf_2 (x : Int) : pb_nf x 2 = pb_ab x := pb_nf_f (by omega)
theorem pb_nf_nn (x : Int) (b : Nat) : 0 ≤ pb_nf x b := by
  by_cases h : (0 < x ∧ b = 0) ∨ (x < 0 ∧ b = 1)
  · rw [pb_nf_t h]; omega
  · rw [pb_nf_f h]; exact pb_ab_nn x
theorem pb_nf_le (x : Int) (b : Nat) : pb_nf x b ≤ pb_ab x := by
  by_cases h : (0 < x ∧ b = 0) ∨ (x < 0 ∧ b = 1)
  · rw [pb_nf_t h]; exact pb_ab_nn x
  · rw [pb_nf_f h]; omega
theorem pb_nf_lit (x : Int) (b : Bool) : pb_nf x b.toNat = pb_lit x b := by
  cases b
  · rw [pb_lit_f]
    by_cases h : 0 < x
    · rw [pb_nf_t (b := false.toNat) (Or.inl ⟨h, rfl⟩)]; omega
    · rw [pb_nf_f (by intro z; rcases z with z | z; exact h z.1; exact absurd z.2 (by decide))]; unfold pb_ab; omega
  · rw [pb_lit_t]
    by_cases h : x < 0
    · rw [pb_nf_t (b := true.toNat) (Or.inr ⟨h, rfl⟩)]; omega
    · rw [pb_nf_f (by intro z; rcases z with z | z; exact absurd z.2 (by decide); exact h z.1)]; unfold pb_ab; omega
theorem pb_lit_nf {x : Int} {b : Bool} {V : Nat} (h : V ≠ 2 → V = b.toNat) : pb_lit x b ≤ pb_nf x V := by
  by_cases e : V = 2
  · rw [e, pb_nf_2]; exact pb_lit_ab x b
  · rw [h e, pb_nf_lit]; omega
theorem pb_slk_sat {f : Nat → Int} {d : Int} {V : Nat → Nat} {n m : Nat} (ha : pb_agr V m n) (hs : pb_sat f d n m) : 0 ≤ pb_slk f d V n := by
  have a := pb_sm_le (g := fun v => pb_lit (f v) (m.testBit v)) (h := fun v => pb_nf (f v) (V v)) n (fun v hv => pb_lit_nf (ha v hv))
  unfold pb_sat at hs
  unfold pb_slk
  omega
theorem pb_slk_ext {f : Nat → Int} {d : Int} {V V' : Nat → Nat} {n : Nat} (h : pb_ext V V' n) : pb_slk f d V' n ≤ pb_slk f d V n := by
  have a := pb_sm_le (g := fun v => pb_nf (f v) (V' v)) (h := fun v => pb_nf (f v) (V v)) n (fun v hv => by
    by_cases e : V v = 2
    · show pb_nf (f v) (V' v) ≤ pb_nf (f v) (V v)
      rw [e, pb_nf_2]; exact pb_nf_le _ _
    · show pb_nf (f v) (V' v) ≤ pb_nf (f v) (V v)
      rw [h v hv e]; omega)
  unfold pb_slk
  omega
theorem pb_slk_cg {f g : Nat → Int} {d e : Int} {V V' : Nat → Nat} {n : Nat} (h : ∀ v, v < n → f v = g v) (hV : ∀ v, v < n → V v = V' v) (hd : d = e) : pb_slk f d V n = pb_slk g e V' n := by
  unfold pb_slk
  rw [hd, pb_sm_congr (g := fun v => pb_nf (f v) (V v)) (h := fun v => pb_nf (g v) (V' v)) n (fun v hv => by
    show pb_nf (f v) (V v) = pb_nf (g v) (V' v)
    rw [h v hv, hV v hv])]
theorem pb_sat_cg {f g : Nat → Int} {d e : Int} {n m : Nat} (h : ∀ v, v < n → f v = g v) (hd : d = e) (hs : pb_sat f d n m) : pb_sat g e n m := by
  unfold pb_sat at *
  rw [pb_sm_congr (g := fun v => pb_lit (g v) (m.testBit v)) (h := fun v => pb_lit (f v) (m.testBit v)) n (fun v hv => by
    show pb_lit (g v) (m.testBit v) = pb_lit (f v) (m.testBit v)
    rw [h v hv])]
  omega
theorem pb_force {f : Nat → Int} {d : Int} {V : Nat → Nat} {n m v : Nat} (hv : v < n) (h2 : V v = 2) (ha : pb_agr V m n) (hs : pb_sat f d n m) (hl : pb_slk f d V n < pb_ab (f v)) : (0 < f v ∧ m.testBit v = true) ∨ (f v < 0 ∧ m.testBit v = false) := by
  apply Classical.byContradiction
  intro hc
  have h0 : pb_lit (f v) (m.testBit v) = 0 := by
    cases hb : m.testBit v
    · rw [pb_lit_f]
      have : ¬ f v < 0 := fun z => hc (Or.inr ⟨z, hb⟩)
      omega
    · rw [pb_lit_t]
      have : ¬ 0 < f v := fun z => hc (Or.inl ⟨z, hb⟩)
      omega
  have a := pb_sm_lt (g := fun v => pb_lit (f v) (m.testBit v)) (h := fun v => pb_nf (f v) (V v)) (k := pb_ab (f v)) v n hv (fun u hu => pb_lit_nf (ha u hu)) (by
    show pb_lit (f v) (m.testBit v) + pb_ab (f v) ≤ pb_nf (f v) (V v)
    rw [h0, h2, pb_nf_2]; omega)
  unfold pb_sat at hs
  unfold pb_slk at hl
  omega
theorem pb_full {f : Nat → Int} {d : Int} {V : Nat → Nat} {n m : Nat} (h : ∀ v, v < n → V v = (m.testBit v).toNat) (hl : 0 ≤ pb_slk f d V n) : pb_sat f d n m := by
  unfold pb_slk at hl
  unfold pb_sat
  rw [pb_sm_congr (g := fun v => pb_nf (f v) (V v)) (h := fun v => pb_lit (f v) (m.testBit v)) n (fun v hv => by
    show pb_nf (f v) (V v) = pb_lit (f v) (m.testBit v)
    rw [h v hv, pb_nf_lit])] at hl
  omega
end
section
/-! operations on linear forms and what they keep -/
def pb_cx (x y : Int) : Int := if (0 < x ∧ y < 0) ∨ (x < 0 ∧ 0 < y) then min (pb_ab x) (pb_ab y) else 0
def pb_cd (f g : Nat → Int) (d e : Int) (n : Nat) : Int := max 0 (d + e - pb_sm (fun v => pb_cx (f v) (g v)) n)
theorem pb_cx_t {x y : Int} (h : (0 < x ∧ y < 0) ∨ (x < 0 ∧ 0 < y)) : pb_cx x y = min (pb_ab x) (pb_ab y) := if_pos h
theorem pb_cx_f {x y : Int} (h : ¬ ((0 < x ∧ y < 0) ∨ (x < 0 ∧ 0 < y))) : pb_cx x y = 0 := if_neg h
theorem pb_cx_nn (x y : Int) : 0 ≤ pb_cx x y := by
  by_cases h : (0 < x ∧ y < 0) ∨ (x < 0 ∧ 0 < y)
  · rw [pb_cx_t h]; unfold pb_ab; omega
  · rw [pb_cx_f h]; omega
theorem pb_cx_b {x y B : Int} (h : -B ≤ x ∧ x ≤ B) : -B ≤ pb_cx x y ∧ pb_cx x y ≤ B := by
  have a := pb_cx_nn x y
  by_cases hc : (0 < x ∧ y < 0) ∨ (x < 0 ∧ 0 < y)
  · rw [pb_cx_t hc] at *; unfold pb_ab at *; omega
  · rw [pb_cx_f hc] at *; omega
theorem pb_lit_cx (x y : Int) (b : Bool) : pb_lit x b + pb_lit y b ≤ pb_lit (x + y) b + pb_cx x y := by
  by_cases h : (0 < x ∧ y < 0) ∨ (x < 0 ∧ 0 < y)
  · rw [pb_cx_t h]; unfold pb_ab
    cases b
    · rw [pb_lit_f, pb_lit_f, pb_lit_f]; omega
    · rw [pb_lit_t, pb_lit_t, pb_lit_t]; omega
  · rw [pb_cx_f h]
    cases b
    · rw [pb_lit_f, pb_lit_f, pb_lit_f]; omega
    · rw [pb_lit_t, pb_lit_t, pb_lit_t]; omega
theorem pb_nf_cx (x y : Int) (b : Nat) : pb_nf (x + y) b + pb_cx x y ≤ pb_nf x b + pb_nf y b := by
  by_cases b0 : b = 0
  · subst b0
    have e : ∀ z : Int, pb_nf z 0 = max (-z) 0 := fun z => by
      rw [show (0 : Nat) = false.toNat from rfl, pb_nf_lit, pb_lit_f]
    rw [e, e, e]
    by_cases h : (0 < x ∧ y < 0) ∨ (x < 0 ∧ 0 < y)
    · rw [pb_cx_t h]; unfold pb_ab; omega
    · rw [pb_cx_f h]; omega
  · by_cases b1 : b = 1
    · subst b1
      have e : ∀ z : Int, pb_nf z 1 = max z 0 := fun z => by
        rw [show (1 : Nat) = true.toNat from rfl, pb_nf_lit, pb_lit_t]
      rw [e, e, e]
      by_cases h : (0 < x ∧ y < 0) ∨ (x < 0 ∧ 0 < y)
      · rw [pb_cx_t h]; unfold pb_ab; omega
      · rw [pb_cx_f h]; omega
    · have e : ∀ z : Int, pb_nf z b = pb_ab z := fun z => pb_nf_f (by omega)
      rw [e, e, e]
      by_cases h : (0 < x ∧ y < 0) ∨ (x < 0 ∧ 0 < y)
      · rw [pb_cx_t h]; unfold pb_ab; omega
      · rw [pb_cx_f h]; unfold pb_ab; omega
theorem pb_sat_comb {f g : Nat → Int} {d e : Int} {n m : Nat} (hf : pb_sat f d n m) (hg : pb_sat g e n m) : pb_sat (fun v => f v + g v) (pb_cd f g d e n) n m := by
  unfold pb_sat at *
  (try dsimp only at *)
  have a := pb_sm_le (g := fun v => pb_lit (f v) (m.testBit v) + pb_lit (g v) (m.testBit v)) (h := fun v => pb_lit (f v + g v) (m.testBit v) + pb_cx (f v) (g v)) n (fun v _ => pb_lit_cx _ _ _)
  rw [pb_sm_add, pb_sm_add] at a
  have b := pb_sm_nn (g := fun v => pb_lit (f v + g v) (m.testBit v)) n (fun v _ => pb_lit_nn _ _)
  unfold pb_cd
  (try dsimp only)
  omega
theorem pb_slk_comb {f g : Nat → Int} {d e : Int} {V : Nat → Nat} {n u : Nat} (hu : u < n) (h2 : V u = 2) (hop : g u = -f u) : pb_slk (fun v => f v + g v) (pb_cd f g d e n) V n ≤ pb_slk f d V n + pb_slk g e V n - pb_ab (f u) := by
  have a := pb_sm_lt (g := fun v => pb_nf (f v + g v) (V v) + pb_cx (f v) (g v)) (h := fun v => pb_nf (f v) (V v) + pb_nf (g v) (V v)) (k := pb_ab (f u)) u n hu (fun v _ => pb_nf_cx _ _ _) (by
    show pb_nf (f u + g u) (V u) + pb_cx (f u) (g u) + pb_ab (f u) ≤ pb_nf (f u) (V u) + pb_nf (g u) (V u)
    rw [h2, pb_nf_2, pb_nf_2, pb_nf_2, hop]
    by_cases h : (0 < f u ∧ -f u < 0) ∨ (f u < 0 ∧ 0 < -f u)
    · rw [pb_cx_t h]; unfold pb_ab; omega
    · rw [pb_cx_f h]; unfold pb_ab; omega)
  rw [pb_sm_add, pb_sm_add] at a
  unfold pb_slk pb_cd
  (try dsimp only)
  omega
/-! saturation -/
def pb_st (d x : Int) : Int := max (-d) (min x d)
theorem pb_st_b {d x : Int} (h : 0 ≤ d) : -d ≤ pb_st d x ∧ pb_st d x ≤ d := by unfold pb_st; omega
theorem pb_lit_st {d x : Int} (h : 0 ≤ d) (b : Bool) : pb_lit (pb_st d x) b = min d (pb_lit x b) := by
  unfold pb_st
  cases b
  · rw [pb_lit_f, pb_lit_f]; omega
  · rw [pb_lit_t, pb_lit_t]; omega
theorem pb_nf_st {d x : Int} (h : 0 ≤ d) (b : Nat) : pb_nf (pb_st d x) b ≤ pb_nf x b := by
  by_cases hc : (0 < x ∧ b = 0) ∨ (x < 0 ∧ b = 1)
  · rw [pb_nf_t hc]
    by_cases hz : (0 < pb_st d x ∧ b = 0) ∨ (pb_st d x < 0 ∧ b = 1)
    · rw [pb_nf_t hz]; omega
    · rw [pb_nf_f hz]
      unfold pb_st at *; unfold pb_ab; omega
  · rw [pb_nf_f hc]
    refine Int.le_trans (pb_nf_le _ _) ?_
    unfold pb_st pb_ab; omega
theorem pb_sat_st {f : Nat → Int} {d : Int} {n m : Nat} (h : 0 ≤ d) (hs : pb_sat f d n m) : pb_sat (fun v => pb_st d (f v)) d n m := by
  unfold pb_sat at *
  (try dsimp only at *)
  have key : ∀ k : Nat, min d (pb_sm (fun v => pb_lit (f v) (m.testBit v)) k) ≤ pb_sm (fun v => pb_lit (pb_st d (f v)) (m.testBit v)) k := by
    intro k
    induction k with
    | zero => show min d 0 ≤ 0; omega
    | succ k ih =>
      rw [pb_sm_s, pb_sm_s]
      show min d (_ + pb_lit (f k) (m.testBit k)) ≤ _ + pb_lit (pb_st d (f k)) (m.testBit k)
      rw [pb_lit_st h]
      have a := pb_lit_nn (f k) (m.testBit k)
      have b := pb_sm_nn (g := fun v => pb_lit (f v) (m.testBit v)) k (fun v _ => pb_lit_nn _ _)
      omega
  have := key n
  omega
theorem pb_slk_st {f : Nat → Int} {d : Int} {V : Nat → Nat} {n : Nat} (h : 0 ≤ d) : pb_slk (fun v => pb_st d (f v)) d V n ≤ pb_slk f d V n := by
  have a := pb_sm_le (g := fun v => pb_nf (pb_st d (f v)) (V v)) (h := fun v => pb_nf (f v) (V v)) n (fun v _ => pb_nf_st h _)
  unfold pb_slk
  (try dsimp only)
  omega
/-! division -/
def pb_du (p d : Int) : Int := (d + p - 1) / p
def pb_dv (p x : Int) : Int := if x < 0 then -pb_du p (pb_ab x) else pb_du p (pb_ab x)
theorem pb_dv_n {p x : Int} (h : x < 0) : pb_dv p x = -pb_du p (pb_ab x) := if_pos h
theorem pb_dv_p {p x : Int} (h : ¬ x < 0) : pb_dv p x = pb_du p (pb_ab x) := if_neg h
theorem pb_du_ge {p d : Int} (hp : 0 < p) : d ≤ p * pb_du p d := by
  unfold pb_du
  have a := Int.mul_ediv_add_emod (d + p - 1) p
  have b := Int.emod_lt_of_pos (d + p - 1) hp
  generalize p * ((d + p - 1) / p) = z at *
  omega
theorem pb_du_lt {p d : Int} (hp : 0 < p) : p * pb_du p d < d + p := by
  unfold pb_du
  have a := Int.mul_ediv_add_emod (d + p - 1) p
  have b := Int.emod_nonneg (d + p - 1) (show p ≠ 0 by omega)
  generalize p * ((d + p - 1) / p) = z at *
  omega
theorem pb_du_nn {p d : Int} (hp : 0 < p) (hd : 0 ≤ d) : 0 ≤ pb_du p d := by
  unfold pb_du
  exact Int.ediv_nonneg (by omega) (by omega)
theorem pb_du_0 {p : Int} (hp : 0 < p) : pb_du p 0 = 0 := by
  unfold pb_du
  exact Int.ediv_eq_zero_of_lt (by omega) (by omega)
theorem pb_du_le {p d : Int} (hp : 0 < p) (hd : 0 ≤ d) : pb_du p d ≤ d := by
  by_cases h : d = 0
  · subst h; rw [pb_du_0 hp]; omega
  · have a := pb_du_lt (d := d) hp
    apply Classical.byContradiction
    intro hc
    have b : p * (d + 1) ≤ p * pb_du p d := Int.mul_le_mul_of_nonneg_left (by omega) (by omega)
    have c : p * (d + 1) = p * d + p := by rw [Int.mul_add, Int.mul_one]
    have e : 1 * d ≤ p * d := Int.mul_le_mul_of_nonneg_right (by omega) hd
    omega
theorem pb_du_self {p : Int} (hp : 0 < p) : pb_du p p = 1 := by
  have a := pb_du_ge (d := p) hp
  have b := pb_du_lt (d := p) hp
  have c : 1 ≤ pb_du p p := by
    apply Classical.byContradiction
    intro hc
    have : p * pb_du p p ≤ p * 0 := Int.mul_le_mul_of_nonneg_left (by omega) (by omega)
    omega
  have d : pb_du p p < 2 := by
    apply Classical.byContradiction
    intro hc
    have : p * 2 ≤ p * pb_du p p := Int.mul_le_mul_of_nonneg_left (by omega) (by omega)
    omega
  omega
theorem pb_du_mul {p k : Int} (hp : 0 < p) : pb_du p (p * k) = k := by
  have a := pb_du_ge (d := p * k) hp
  have b := pb_du_lt (d := p * k) hp
  have c : k ≤ pb_du p (p * k) := Int.le_of_mul_le_mul_left a hp
  have d : pb_du p (p * k) < k + 1 := Int.lt_of_mul_lt_mul_left (a := p) (by rw [Int.mul_add, Int.mul_one]; exact b) (by omega)
  omega
theorem pb_ab_dv {p x : Int} (hp : 0 < p) : pb_ab (pb_dv p x) = pb_du p (pb_ab x) := by
  have a := pb_du_nn hp (pb_ab_nn x)
  by_cases h : x < 0
  · rw [pb_dv_n h]; generalize pb_du p (pb_ab x) = z at *; unfold pb_ab; omega
  · rw [pb_dv_p h]; generalize pb_du p (pb_ab x) = z at *; unfold pb_ab; omega
theorem pb_dv_0 {p : Int} (hp : 0 < p) : pb_dv p 0 = 0 := by
  rw [pb_dv_p (by omega)]; exact pb_du_0 hp
theorem pb_du_pos {p d : Int} (hp : 0 < p) (hd : 0 < d) : 0 < pb_du p d := by
  have a := pb_du_ge (d := d) hp
  apply Classical.byContradiction
  intro hc
  have : p * pb_du p d ≤ p * 0 := Int.mul_le_mul_of_nonneg_left (by omega) (by omega)
  omega
theorem pb_dv_pos {p x : Int} (hp : 0 < p) : 0 < pb_dv p x ↔ 0 < x := by
  by_cases h : x < 0
  · rw [pb_dv_n h]
    have := pb_du_nn hp (pb_ab_nn x)
    omega
  · rw [pb_dv_p h]
    by_cases h0 : x = 0
    · subst h0; rw [show pb_ab 0 = 0 from rfl, pb_du_0 hp]
    · have := pb_du_pos hp (show 0 < pb_ab x by unfold pb_ab; omega)
      omega
theorem pb_dv_neg {p x : Int} (hp : 0 < p) : pb_dv p x < 0 ↔ x < 0 := by
  by_cases h : x < 0
  · rw [pb_dv_n h]
    have := pb_du_pos hp (show 0 < pb_ab x by unfold pb_ab; omega)
    omega
  · rw [pb_dv_p h]
    have := pb_du_nn hp (pb_ab_nn x)
    omega
theorem pb_nf_dv {p x : Int} (hp : 0 < p) (b : Nat) : pb_nf (pb_dv p x) b = pb_du p (pb_nf x b) := by
  have hP := pb_dv_pos (x := x) hp
  have hN := pb_dv_neg (x := x) hp
  by_cases hc : (0 < x ∧ b = 0) ∨ (x < 0 ∧ b = 1)
  · rw [pb_nf_t hc, pb_nf_t (by omega), pb_du_0 hp]
  · rw [pb_nf_f hc, pb_nf_f (by omega), pb_ab_dv hp]
theorem pb_lit_dv {p x : Int} (hp : 0 < p) (b : Bool) : pb_lit (pb_dv p x) b = pb_du p (pb_lit x b) := by
  rw [← pb_nf_lit, ← pb_nf_lit, pb_nf_dv hp]
theorem pb_sat_dv {f : Nat → Int} {d p : Int} {n m : Nat} (hp : 0 < p) (hs : pb_sat f d n m) : pb_sat (fun v => pb_dv p (f v)) (pb_du p d) n m := by
  unfold pb_sat at *
  (try dsimp only at *)
  have a := pb_sm_le (g := fun v => pb_lit (f v) (m.testBit v)) (h := fun v => p * pb_lit (pb_dv p (f v)) (m.testBit v)) n (fun v _ => by
    show pb_lit (f v) (m.testBit v) ≤ p * pb_lit (pb_dv p (f v)) (m.testBit v)
    rw [pb_lit_dv hp]; exact pb_du_ge hp)
  rw [pb_sm_mul] at a
  have b := pb_du_lt (d := d) hp
  generalize pb_sm (fun v => pb_lit (pb_dv p (f v)) (m.testBit v)) n = S at *
  have c : pb_du p d < S + 1 := Int.lt_of_mul_lt_mul_left (a := p) (by rw [Int.mul_add, Int.mul_one]; omega) (by omega)
  omega
theorem pb_slk_dv {f : Nat → Int} {d p : Int} {V : Nat → Nat} {n : Nat} (hp : 0 < p) (hz : ∀ v, v < n → pb_nf (f v) (V v) % p = 0) : p * pb_slk (fun v => pb_dv p (f v)) (pb_du p d) V n ≤ pb_slk f d V n := by
  unfold pb_slk
  (try dsimp only)
  have a := pb_sm_congr (g := fun v => p * pb_nf (pb_dv p (f v)) (V v)) (h := fun v => pb_nf (f v) (V v)) n (fun v hv => by
    show p * pb_nf (pb_dv p (f v)) (V v) = pb_nf (f v) (V v)
    rw [pb_nf_dv hp]
    have e := Int.mul_ediv_add_emod (pb_nf (f v) (V v)) p
    rw [hz v hv, Int.add_zero] at e
    rw [← e, pb_du_mul hp])
  rw [pb_sm_mul] at a
  have b := pb_du_ge (d := d) hp
  rw [Int.mul_sub]
  omega
/-! scaling -/
theorem pb_nf_sc {x k : Int} (hk : 0 ≤ k) (b : Nat) : pb_nf (x * k) b = k * pb_nf x b := by
  by_cases k0 : k = 0
  · subst k0
    rw [Int.mul_zero, Int.zero_mul]
    exact pb_nf_f (by omega)
  · have hp : 0 < x * k ↔ 0 < x := by
      constructor
      · intro h; exact Int.pos_of_mul_pos_left h (by omega)
      · intro h; exact Int.mul_pos h (by omega)
    have hn : x * k < 0 ↔ x < 0 := by
      constructor
      · intro h
        apply Classical.byContradiction
        intro hc
        have := Int.mul_nonneg (show 0 ≤ x by omega) hk
        omega
      · intro h; exact Int.mul_neg_of_neg_of_pos h (by omega)
    by_cases hc : (0 < x ∧ b = 0) ∨ (x < 0 ∧ b = 1)
    · rw [pb_nf_t hc, pb_nf_t (by omega), Int.mul_zero]
    · rw [pb_nf_f hc, pb_nf_f (by omega)]
      unfold pb_ab
      by_cases hx : 0 ≤ x
      · have := Int.mul_nonneg hx hk
        rw [show max x (-x) = x by omega, Int.mul_comm k x]; omega
      · have : x * k < 0 := hn.mpr (by omega)
        rw [show max x (-x) = -x by omega, Int.mul_neg, Int.mul_comm k x]; omega
theorem pb_sat_sc {f : Nat → Int} {d k : Int} {n m : Nat} (hk : 0 ≤ k) (hs : pb_sat f d n m) : pb_sat (fun v => f v * k) (d * k) n m := by
  unfold pb_sat at *
  (try dsimp only at *)
  have a := pb_sm_congr (g := fun v => pb_lit (f v * k) (m.testBit v)) (h := fun v => k * pb_lit (f v) (m.testBit v)) n (fun v _ => by
    show pb_lit (f v * k) (m.testBit v) = k * pb_lit (f v) (m.testBit v)
    rw [← pb_nf_lit, ← pb_nf_lit, pb_nf_sc hk])
  rw [a, pb_sm_mul, Int.mul_comm d k]
  exact Int.mul_le_mul_of_nonneg_left hs hk
theorem pb_slk_sc {f : Nat → Int} {d k : Int} {V : Nat → Nat} {n : Nat} (hk : 0 ≤ k) : pb_slk (fun v => f v * k) (d * k) V n = k * pb_slk f d V n := by
  unfold pb_slk
  (try dsimp only)
  have a := pb_sm_congr (g := fun v => pb_nf (f v * k) (V v)) (h := fun v => k * pb_nf (f v) (V v)) n (fun v _ => pb_nf_sc hk _)
  rw [a, pb_sm_mul, Int.mul_sub, Int.mul_comm d k]
/-! weakening a set of variables -/
def pb_wf (bad : Nat → Bool) (f : Nat → Int) (i : Nat) : Nat → Int := fun v => if v < i ∧ bad v = true then 0 else f v
def pb_wt (bad : Nat → Bool) (f : Nat → Int) : Nat → Int := fun v => if bad v = true then pb_ab (f v) else 0
def pb_wd (bad : Nat → Bool) (f : Nat → Int) (d : Int) (i : Nat) : Int := max 0 (d - pb_sm (pb_wt bad f) i)
theorem pb_wt_nn (bad : Nat → Bool) (f : Nat → Int) (v : Nat) : 0 ≤ pb_wt bad f v := by
  unfold pb_wt
  split
  · exact pb_ab_nn _
  · omega
theorem pb_sat_wk {bad : Nat → Bool} {f : Nat → Int} {d : Int} {n m : Nat} (hs : pb_sat f d n m) : pb_sat (pb_wf bad f n) (pb_wd bad f d n) n m := by
  unfold pb_sat at *
  (try dsimp only at *)
  have a := pb_sm_le (g := fun v => pb_lit (f v) (m.testBit v)) (h := fun v => pb_lit (pb_wf bad f n v) (m.testBit v) + pb_wt bad f v) n (fun v hv => by
    show pb_lit (f v) (m.testBit v) ≤ pb_lit (pb_wf bad f n v) (m.testBit v) + pb_wt bad f v
    unfold pb_wf pb_wt
    by_cases hb : bad v = true
    · rw [if_pos ⟨hv, hb⟩, if_pos hb]
      have := pb_lit_ab (f v) (m.testBit v)
      have := pb_lit_nn 0 (m.testBit v)
      omega
    · rw [if_neg (fun z => hb z.2), if_neg hb]; omega)
  rw [pb_sm_add] at a
  have b := pb_sm_nn (g := fun v => pb_lit (pb_wf bad f n v) (m.testBit v)) n (fun v _ => pb_lit_nn _ _)
  have e : pb_sm (fun v => pb_wt bad f v) n = pb_sm (pb_wt bad f) n := rfl
  unfold pb_wd
  (try dsimp only)
  omega
theorem pb_slk_wk {bad : Nat → Bool} {f : Nat → Int} {d : Int} {V : Nat → Nat} {n : Nat} (hb : ∀ v, v < n → bad v = true → pb_nf (f v) (V v) = pb_ab (f v)) : pb_slk (pb_wf bad f n) (pb_wd bad f d n) V n ≤ pb_slk f d V n := by
  unfold pb_slk
  (try dsimp only)
  have a := pb_sm_congr (g := fun v => pb_nf (f v) (V v)) (h := fun v => pb_nf (pb_wf bad f n v) (V v) + pb_wt bad f v) n (fun v hv => by
    show pb_nf (f v) (V v) = pb_nf (pb_wf bad f n v) (V v) + pb_wt bad f v
    unfold pb_wf pb_wt
    by_cases hc : bad v = true
    · rw [if_pos ⟨hv, hc⟩, if_pos hc, hb v hv hc, pb_nf_f (by omega)]
      show pb_ab (f v) = max 0 (-0) + pb_ab (f v)
      omega
    · rw [if_neg (fun z => hc z.2), if_neg hc]; omega)
  rw [pb_sm_add] at a
  have e : pb_sm (fun v => pb_wt bad f v) n = pb_sm (pb_wt bad f) n := rfl
  unfold pb_wd
  (try dsimp only)
  omega
/-! the canonical form of  sum of u x >= e -/
def pb_ng (x : Int) : Int := max (-x) 0
def pb_cn (u : Nat → Int) (e : Int) (n : Nat) : Int := e + pb_sm (fun v => pb_ng (u v)) n
def pb_ob (c : Nat → Int) (n m : Nat) : Int := pb_sm (fun v => if m.testBit v = true then c v else 0) n
theorem pb_cn_sat {u : Nat → Int} {e : Int} {n m : Nat} : pb_sat u (max 0 (pb_cn u e n)) n m ↔ e ≤ pb_ob u n m := by
  unfold pb_sat pb_cn pb_ob
  (try dsimp only)
  have a := pb_sm_congr (g := fun v => pb_lit (u v) (m.testBit v)) (h := fun v => (if m.testBit v = true then u v else 0) + pb_ng (u v)) n (fun v _ => by
    show pb_lit (u v) (m.testBit v) = (if m.testBit v = true then u v else 0) + pb_ng (u v)
    unfold pb_ng
    cases m.testBit v
    · rw [pb_lit_f, if_neg (by decide)]; omega
    · rw [pb_lit_t, if_pos rfl]; omega)
  have b := pb_sm_nn (g := fun v => pb_lit (u v) (m.testBit v)) n (fun v _ => pb_lit_nn _ _)
  rw [a] at *
  rw [pb_sm_add] at *
  omega
theorem pb_ob_neg (c : Nat → Int) (n m : Nat) : pb_ob (fun v => -1 * c v) n m = -pb_ob c n m := by
  unfold pb_ob
  (try dsimp only)
  have a := pb_sm_congr (g := fun v => if m.testBit v = true then -1 * c v else 0) (h := fun v => -1 * (if m.testBit v = true then c v else 0)) n (fun v _ => by
    split <;> omega)
  rw [a, pb_sm_mul]
  omega
theorem pb_ob_cg {c c' : Nat → Int} {n m : Nat} (h : ∀ v, v < n → c v = c' v) : pb_ob c n m = pb_ob c' n m := by
  unfold pb_ob
  (try dsimp only)
  exact pb_sm_congr n (fun v hv => by rw [h v hv])
end
section
/-! rows of the store -/
def rs (W : Nat → Int) (t i : Nat) (F : Nat → Int) : Nat → Int := fun j => if t * 8 ≤ j ∧ j < t * 8 + i then F (j - t * 8) else W j
theorem rs_0 {W : Nat → Int} {t : Nat} {F : Nat → Int} : rs W t 0 F = W := by
  funext j
  exact if_neg (by omega)
theorem rs_s {W : Nat → Int} {t i : Nat} {F : Nat → Int} : ug (rs W t i F) (t * 8 + i) (F i) = rs W t (i + 1) F := by
  funext j
  show (if j = t * 8 + i then F i else if t * 8 ≤ j ∧ j < t * 8 + i then F (j - t * 8) else W j) = (if t * 8 ≤ j ∧ j < t * 8 + (i + 1) then F (j - t * 8) else W j)
  by_cases h : j = t * 8 + i
  · rw [if_pos h, if_pos (by omega), h, Nat.add_sub_cancel_left]
  · rw [if_neg h]
    by_cases h2 : t * 8 ≤ j ∧ j < t * 8 + i
    · rw [if_pos h2, if_pos (by omega)]
    · rw [if_neg h2, if_neg (by omega)]
theorem rs_keep {W : Nat → Int} {t i : Nat} {F : Nat → Int} (h : W (t * 8 + i) = F i) : rs W t (i + 1) F = rs W t i F := by
  funext j
  show (if t * 8 ≤ j ∧ j < t * 8 + (i + 1) then F (j - t * 8) else W j) = (if t * 8 ≤ j ∧ j < t * 8 + i then F (j - t * 8) else W j)
  by_cases h1 : j = t * 8 + i
  · rw [if_pos (by omega), if_neg (by omega), h1, Nat.add_sub_cancel_left, h]
  · by_cases h2 : t * 8 ≤ j ∧ j < t * 8 + i
    · rw [if_pos h2, if_pos (by omega)]
    · rw [if_neg h2, if_neg (by omega)]
theorem rs_ge {W : Nat → Int} {t i k v : Nat} {F : Nat → Int} (hv : v < 8) (h : i ≤ v ∨ k ≠ t) (hi : i ≤ 8) : rs W t i F (k * 8 + v) = W (k * 8 + v) := if_neg (by omega)
theorem rs_lt {W : Nat → Int} {t i v : Nat} {F : Nat → Int} (hv : v < i) : rs W t i F (t * 8 + v) = F v := by
  unfold rs
  rw [if_pos (by omega), Nat.add_sub_cancel_left]
def fo_is (W D : Nat → Int) (n i : Nat) (f : Nat → Int) (d : Int) : Prop := (∀ v, v < n → W (i * 8 + v) = f v) ∧ D i = d
def fo_eq (W D W' D' : Nat → Int) (n i : Nat) : Prop := (∀ v, v < n → W' (i * 8 + v) = W (i * 8 + v)) ∧ D' i = D i
theorem fo_tr {W D W' D' : Nat → Int} {n i : Nat} {f : Nat → Int} {d : Int} (h : fo_eq W D W' D' n i) (hf : fo_is W D n i f d) : fo_is W' D' n i f d := ⟨fun v hv => (h.1 v hv).trans (hf.1 v hv), h.2.trans hf.2⟩
theorem fo_et {W D W1 D1 W2 D2 : Nat → Int} {n i : Nat} (h : fo_eq W D W1 D1 n i) (h2 : fo_eq W1 D1 W2 D2 n i) : fo_eq W D W2 D2 n i := ⟨fun v hv => (h2.1 v hv).trans (h.1 v hv), h2.2.trans h.2⟩
theorem fo_rf (W D : Nat → Int) (n i : Nat) : fo_is W D n i (fun v => W (i * 8 + v)) (D i) := ⟨fun _ _ => rfl, rfl⟩
theorem fo_er (W D : Nat → Int) (n i : Nat) : fo_eq W D W D n i := ⟨fun _ _ => rfl, rfl⟩
theorem fo_rs {W D : Nat → Int} {n t : Nat} {F : Nat → Int} {d : Int} : fo_is (rs W t n F) (ug D t d) n t F d := ⟨fun _ hv => rs_lt hv, ug_s⟩
theorem fe_rs {W D : Nat → Int} {n t i : Nat} {F : Nat → Int} {d : Int} (hn : n ≤ 8) (h : i ≠ t) : fo_eq W D (rs W t n F) (ug D t d) n i := ⟨fun _ hv => rs_ge (by omega) (Or.inr h) hn, ug_n h⟩
theorem fo_rw {W D : Nat → Int} {n t : Nat} {F : Nat → Int} {d : Int} (h : D t = d) : fo_is (rs W t n F) D n t F d := ⟨fun _ hv => rs_lt hv, h⟩
theorem fe_rw {W D : Nat → Int} {n t i : Nat} {F : Nat → Int} (hn : n ≤ 8) (h : i ≠ t) : fo_eq W D (rs W t n F) D n i := ⟨fun _ hv => rs_ge (by omega) (Or.inr h) hn, rfl⟩
section
variable {q0 q1 q2 q3 q4 q5 q6 q7 q8 q9 q10 q11 fn frR flR frc fin fbe flo fcl fts fln : Int32} {xw xd xh xa xu xv xr xt : Nat → Int32}
variable {W D : Nat → Int} {n : Nat}
theorem xw_mag {post : Int32 → Prop} {u : SX} {y : Int32} (x : Int) (H : post (zI (pb_ab x))) (hy : y = zI x := by rfl) (h1 : -2147483648 < x := by omega) (h2 : x < 2147483648 := by omega) : wpX_magnitude post u y := by
  subst hy
  show (0 ≤ zI x → post (zI x)) ∧ (¬ 0 ≤ zI x → post (-zI x))
  refine zb_le 0 x (fun h => ?_) (fun h => ?_)
  · rw [show pb_ab x = x by unfold pb_ab; omega] at H; exact H
  · rw [show pb_ab x = -x by unfold pb_ab; omega] at H; rw [zI_neg]; exact H
theorem xl_copy {post : SX → Prop} {t s : Nat} {F : Nat → Int} {d : Int} (hn : n ≤ 8) (ht : t < 60) (hs : s < 60) (h : fo_is W D n s F d) (H : post (q0, q1, q2, q3, q4, q5, q6, q7, q8, q9, q10, q11, nI n, frR, flR, frc, fin, fbe, flo, fcl, fts, fln, aZ (rs W t n F), aZ (ug D t d), xh, xa, xu, xv, xr, xt)) : ∀ k i : Nat, i ≤ n → n < k + i → wX_copy_2 post (nI t) (nI s) q0 q1 q2 q3 q4 q5 q6 q7 q8 q9 q10 q11 (nI n) frR flR frc fin fbe flo fcl fts fln k (nI i) (aZ (rs W t i F)) (aZ D) xh xa xu xv xr xt := by
  intro k
  induction k with
  | zero => intro i h1 h2; omega
  | succ k ih =>
    intro i h1 h2
    by_cases hi : i < n
    · refine br_f (nI_ge hi (by omega)) ⟨in_n (s * 8 + i) (by omega) (ix_x s i), in_n (t * 8 + i) (by omega) (ix_x t i), nm_r (wr_z (t * 8 + i) (F i) (ix_x t i) ?_) (nm_r (nI_1 i) ?_)⟩
      · rw [rd_z (s * 8 + i) (ix_x s i), rs_ge (by omega) (Or.inl (Nat.le_refl i)) (by omega), h.1 i hi]
      · rw [rs_s]; exact ih (i + 1) (by omega) (by omega)
    · have e : i = n := by omega
      subst e
      exact br_t (nI_le (Nat.le_refl _) (by omega)) ⟨in_n s hs, in_n t ht, nm_r (wr_z t d rfl ((rd_z s).trans (congrArg zI h.2))) H⟩
theorem xw_copy {post : SX → Prop} {t s : Nat} {F : Nat → Int} {d : Int} (hn : n ≤ 8) (ht : t < 60) (hs : s < 60) (h : fo_is W D n s F d) (H : ∀ W' D', fo_is W' D' n t F d → (∀ i, i ≠ t → fo_eq W D W' D' n i) → post (q0, q1, q2, q3, q4, q5, q6, q7, q8, q9, q10, q11, nI n, frR, flR, frc, fin, fbe, flo, fcl, fts, fln, aZ W', aZ D', xh, xa, xu, xv, xr, xt)) : wpX_copy post (q0, q1, q2, q3, q4, q5, q6, q7, q8, q9, q10, q11, nI n, frR, flR, frc, fin, fbe, flo, fcl, fts, fln, aZ W, aZ D, xh, xa, xu, xv, xr, xt) (nI t) (nI s) := by
  have a := xl_copy hn ht hs h (H _ _ fo_rs (fun i hi => fe_rs hn hi)) (n + 1) 0 (by omega) (by omega)
  rw [rs_0] at a
  exact Exists.intro (n + 1) a
theorem xl_clear {post : SX → Prop} {t : Nat} (hn : n ≤ 8) (ht : t < 60) (H : post (q0, q1, q2, q3, q4, q5, q6, q7, q8, q9, q10, q11, nI n, frR, flR, frc, fin, fbe, flo, fcl, fts, fln, aZ (rs W t n (fun _ => 0)), aZ (ug D t 0), xh, xa, xu, xv, xr, xt)) : ∀ k i : Nat, i ≤ n → n < k + i → wX_clear_2 post (nI t) q0 q1 q2 q3 q4 q5 q6 q7 q8 q9 q10 q11 (nI n) frR flR frc fin fbe flo fcl fts fln k (nI i) (aZ (rs W t i (fun _ => 0))) (aZ D) xh xa xu xv xr xt := by
  intro k
  induction k with
  | zero => intro i h1 h2; omega
  | succ k ih =>
    intro i h1 h2
    by_cases hi : i < n
    · refine br_f (nI_ge hi (by omega)) ⟨in_n (t * 8 + i) (by omega) (ix_x t i), nm_r (wr_z (t * 8 + i) 0 (ix_x t i) rfl) (nm_r (nI_1 i) ?_)⟩
      rw [show ug (rs W t i (fun _ => 0)) (t * 8 + i) 0 = rs W t (i + 1) (fun _ => 0) from rs_s]
      exact ih (i + 1) (by omega) (by omega)
    · have e : i = n := by omega
      subst e
      exact br_t (nI_le (Nat.le_refl _) (by omega)) ⟨in_n t ht, nm_r (wr_z t 0 rfl rfl) H⟩
theorem xw_clear {post : SX → Prop} {t : Nat} (hn : n ≤ 8) (ht : t < 60) (H : ∀ W' D', fo_is W' D' n t (fun _ => 0) 0 → (∀ i, i ≠ t → fo_eq W D W' D' n i) → post (q0, q1, q2, q3, q4, q5, q6, q7, q8, q9, q10, q11, nI n, frR, flR, frc, fin, fbe, flo, fcl, fts, fln, aZ W', aZ D', xh, xa, xu, xv, xr, xt)) : wpX_clear post (q0, q1, q2, q3, q4, q5, q6, q7, q8, q9, q10, q11, nI n, frR, flR, frc, fin, fbe, flo, fcl, fts, fln, aZ W, aZ D, xh, xa, xu, xv, xr, xt) (nI t) := by
  have a := xl_clear hn ht (H _ _ fo_rs (fun i hi => fe_rs hn hi)) (n + 1) 0 (by omega) (by omega)
  rw [rs_0] at a
  exact Exists.intro (n + 1) a
theorem pb_cn_s (F : Nat → Int) (e : Int) (i : Nat) : pb_cn F e (i + 1) = pb_cn F e i + pb_ng (F i) := by
  unfold pb_cn
  rw [pb_sm_s]
  omega
theorem pb_cn_b {F : Nat → Int} {e B : Int} (hn : n ≤ 8) (hF : ∀ v, v < n → -B ≤ F v ∧ F v ≤ B) (hB : 0 ≤ B) : e ≤ pb_cn F e n ∧ pb_cn F e n ≤ e + 8 * B := by
  have a := pb_sm_8 (g := fun v => pb_ng (F v)) hn hB (fun v hv => by have := hF v hv; unfold pb_ng; omega)
  have b := pb_sm_nn (g := fun v => pb_ng (F v)) n (fun v hv => by unfold pb_ng; omega)
  unfold pb_cn
  omega
theorem xl_canon {post : SX → Prop} {t s : Nat} {g e : Int} {F : Nat → Int} (hn : n ≤ 8) (ht : t < 60) (hs : s < 60) (h : ∀ v, v < n → g * W (s * 8 + v) = F v) (hF : ∀ v, v < n → -1000000 ≤ F v ∧ F v ≤ 1000000) (he : -1000000 ≤ e ∧ e ≤ 1000000) (H : post (q0, q1, q2, q3, q4, q5, q6, q7, q8, q9, q10, q11, nI n, frR, flR, frc, fin, fbe, flo, fcl, fts, fln, aZ (rs W t n F), aZ (ug D t (max 0 (pb_cn F e n))), xh, xa, xu, xv, xr, xt)) : ∀ k i : Nat, i ≤ n → n < k + i → wX_canon_7 post (nI t) (nI s) (zI g) q0 q1 q2 q3 q4 q5 q6 q7 q8 q9 q10 q11 (nI n) frR flR frc fin fbe flo fcl fts fln k (zI (pb_cn F e i)) (nI i) (aZ (rs W t i F)) (aZ D) xh xa xu xv xr xt := by
  intro k
  induction k with
  | zero => intro i h1 h2; omega
  | succ k ih =>
    intro i h1 h2
    by_cases hi : i < n
    · have hb := hF i hi
      refine br_f (nI_ge hi (by omega)) ⟨in_n (s * 8 + i) (by omega) (ix_x s i), nm_r (e' := zI (F i)) ?_ ⟨in_n (t * 8 + i) (by omega) (ix_x t i), nm_r (wr_z (t * 8 + i) (F i) (ix_x t i) rfl) ?_⟩⟩
      · rw [rd_z (s * 8 + i) (ix_x s i), rs_ge (by omega) (Or.inl (Nat.le_refl i)) (by omega), zI_mul, h i hi]
      · rw [rs_s]
        have ih' := ih (i + 1) (by omega) (by omega)
        rw [pb_cn_s] at ih'
        refine zb_le 0 (F i) (fun hp => nm_r (nI_1 i) ?_) (fun hp => nm_r (zI_sub _ _) (nm_r (nI_1 i) ?_))
        · rw [show pb_cn F e i + pb_ng (F i) = pb_cn F e i by unfold pb_ng; omega] at ih'; exact ih'
        · rw [show pb_cn F e i + pb_ng (F i) = pb_cn F e i - F i by unfold pb_ng; omega] at ih'; exact ih'
    · have ei : i = n := by omega
      subst ei
      have hb := pb_cn_b (e := e) hn hF (by omega)
      refine br_t (nI_le (Nat.le_refl _) (by omega)) (zb_le 0 (pb_cn F e i) (fun hp => ⟨in_n t ht, nm_r (wr_z t (pb_cn F e i) rfl rfl) ?_⟩) (fun hp => ⟨in_n t ht, nm_r (wr_z t 0 rfl rfl) ?_⟩))
      · rw [show max 0 (pb_cn F e i) = pb_cn F e i by omega] at H; exact H
      · rw [show max 0 (pb_cn F e i) = 0 by omega] at H; exact H
theorem xw_canon {post : SX → Prop} {t s : Nat} {g e : Int} {F : Nat → Int} (hn : n ≤ 8) (ht : t < 60) (hs : s < 60) (h : ∀ v, v < n → g * W (s * 8 + v) = F v) (hF : ∀ v, v < n → -1000000 ≤ F v ∧ F v ≤ 1000000) (he : -1000000 ≤ e ∧ e ≤ 1000000) (H : ∀ W' D', fo_is W' D' n t F (max 0 (pb_cn F e n)) → (∀ i, i ≠ t → fo_eq W D W' D' n i) → post (q0, q1, q2, q3, q4, q5, q6, q7, q8, q9, q10, q11, nI n, frR, flR, frc, fin, fbe, flo, fcl, fts, fln, aZ W', aZ D', xh, xa, xu, xv, xr, xt)) : wpX_canon post (q0, q1, q2, q3, q4, q5, q6, q7, q8, q9, q10, q11, nI n, frR, flR, frc, fin, fbe, flo, fcl, fts, fln, aZ W, aZ D, xh, xa, xu, xv, xr, xt) (nI t) (nI s) (zI g) (zI e) := by
  have a := xl_canon hn ht hs h hF he (H _ _ fo_rs (fun i hi => fe_rs hn hi)) (n + 1) 0 (by omega) (by omega)
  rw [rs_0, show pb_cn F e 0 = e from Int.add_zero e] at a
  exact Exists.intro (n + 1) a
theorem xl_scale {post : SX → Prop} {t : Nat} {g : Int} {F : Nat → Int} {d : Int} (hn : n ≤ 8) (ht : t < 60) (h : ∀ v, v < n → W (t * 8 + v) * g = F v) (hd : D t * g = d) (H : post (q0, q1, q2, q3, q4, q5, q6, q7, q8, q9, q10, q11, nI n, frR, flR, frc, fin, fbe, flo, fcl, fts, fln, aZ (rs W t n F), aZ (ug D t d), xh, xa, xu, xv, xr, xt)) : ∀ k i : Nat, i ≤ n → n < k + i → wX_scaleForm_2 post (nI t) (zI g) q0 q1 q2 q3 q4 q5 q6 q7 q8 q9 q10 q11 (nI n) frR flR frc fin fbe flo fcl fts fln k (nI i) (aZ (rs W t i F)) (aZ D) xh xa xu xv xr xt := by
  intro k
  induction k with
  | zero => intro i h1 h2; omega
  | succ k ih =>
    intro i h1 h2
    by_cases hi : i < n
    · refine br_f (nI_ge hi (by omega)) ⟨in_n (t * 8 + i) (by omega) (ix_x t i), in_n (t * 8 + i) (by omega) (ix_x t i), nm_r (wr_z (t * 8 + i) (F i) (ix_x t i) ?_) (nm_r (nI_1 i) ?_)⟩
      · rw [rd_z (t * 8 + i) (ix_x t i), rs_ge (by omega) (Or.inl (Nat.le_refl i)) (by omega), zI_mul, h i hi]
      · rw [rs_s]; exact ih (i + 1) (by omega) (by omega)
    · have e : i = n := by omega
      subst e
      exact br_t (nI_le (Nat.le_refl _) (by omega)) ⟨in_n t ht, in_n t ht, nm_r (wr_z t d rfl (by rw [rd_z t, zI_mul, hd])) H⟩
theorem xw_scale {post : SX → Prop} {t : Nat} {g : Int} {F : Nat → Int} {d : Int} (hn : n ≤ 8) (ht : t < 60) (h : fo_is W D n t F d) (H : ∀ W' D', fo_is W' D' n t (fun v => F v * g) (d * g) → (∀ i, i ≠ t → fo_eq W D W' D' n i) → post (q0, q1, q2, q3, q4, q5, q6, q7, q8, q9, q10, q11, nI n, frR, flR, frc, fin, fbe, flo, fcl, fts, fln, aZ W', aZ D', xh, xa, xu, xv, xr, xt)) : wpX_scaleForm post (q0, q1, q2, q3, q4, q5, q6, q7, q8, q9, q10, q11, nI n, frR, flR, frc, fin, fbe, flo, fcl, fts, fln, aZ W, aZ D, xh, xa, xu, xv, xr, xt) (nI t) (zI g) := by
  have a := xl_scale (g := g) (F := fun v => F v * g) (d := d * g) hn ht (fun v hv => by rw [h.1 v hv]) (by rw [h.2]) (H _ _ fo_rs (fun i hi => fe_rs hn hi)) (n + 1) 0 (by omega) (by omega)
  rw [rs_0] at a
  exact Exists.intro (n + 1) a
theorem xl_sat {post : SX → Prop} {t : Nat} {d : Int} {F G : Nat → Int} (hn : n ≤ 8) (ht : t < 60) (h : ∀ v, v < n → W (t * 8 + v) = F v) (hG : ∀ v, v < n → G v = pb_st d (F v)) (hF : ∀ v, v < n → -1000000000 ≤ F v ∧ F v ≤ 1000000000) (hd : 0 ≤ d ∧ d ≤ 1000000000) (H : post (q0, q1, q2, q3, q4, q5, q6, q7, q8, q9, q10, q11, nI n, frR, flR, frc, fin, fbe, flo, fcl, fts, fln, aZ (rs W t n G), aZ D, xh, xa, xu, xv, xr, xt)) : ∀ k i : Nat, i ≤ n → n < k + i → wX_saturateForm_9 post (nI t) (zI d) q0 q1 q2 q3 q4 q5 q6 q7 q8 q9 q10 q11 (nI n) frR flR frc fin fbe flo fcl fts fln k (nI i) (aZ (rs W t i G)) (aZ D) xh xa xu xv xr xt := by
  intro k
  induction k with
  | zero => intro i h1 h2; omega
  | succ k ih =>
    intro i h1 h2
    by_cases hi : i < n
    · have hb := hF i hi
      have hg := hG i hi
      have ih' := ih (i + 1) (by omega) (by omega)
      unfold pb_st at hg
      refine br_f (nI_ge hi (by omega)) ⟨in_n (t * 8 + i) (by omega) (ix_x t i), nm_r (e' := zI (F i)) ?_ (zb_le (F i) d (fun hp => zb_le (-d) (F i) (fun hq => nm_r (nI_1 i) ?_) (fun hq => ⟨in_n (t * 8 + i) (by omega) (ix_x t i), nm_r (wr_z (t * 8 + i) (G i) (ix_x t i) ?_) (nm_r (nI_1 i) ?_)⟩) (zI_neg d)) (fun hp => ⟨in_n (t * 8 + i) (by omega) (ix_x t i), nm_r (wr_z (t * 8 + i) (G i) (ix_x t i) ?_) (nm_r (nI_1 i) ?_)⟩))⟩
      · rw [rd_z (t * 8 + i) (ix_x t i), rs_ge (by omega) (Or.inl (Nat.le_refl i)) (by omega), h i hi]
      · rw [rs_keep (by rw [h i hi]; omega)] at ih'; exact ih'
      · rw [zI_neg]; exact congrArg zI (by omega)
      · rw [rs_s]; exact ih'
      · exact congrArg zI (by omega)
      · rw [rs_s]; exact ih'
    · have e : i = n := by omega
      subst e
      exact br_t (nI_le (Nat.le_refl _) (by omega)) H
theorem xw_sat {post : SX → Prop} {t : Nat} {F : Nat → Int} {d : Int} (hn : n ≤ 8) (ht : t < 60) (h : fo_is W D n t F d) (hF : ∀ v, v < n → -1000000000 ≤ F v ∧ F v ≤ 1000000000) (hd : 0 ≤ d ∧ d ≤ 1000000000) (H : ∀ W', fo_is W' D n t (fun v => pb_st d (F v)) d → (∀ i, i ≠ t → fo_eq W D W' D n i) → post (q0, q1, q2, q3, q4, q5, q6, q7, q8, q9, q10, q11, nI n, frR, flR, frc, fin, fbe, flo, fcl, fts, fln, aZ W', aZ D, xh, xa, xu, xv, xr, xt)) : wpX_saturateForm post (q0, q1, q2, q3, q4, q5, q6, q7, q8, q9, q10, q11, nI n, frR, flR, frc, fin, fbe, flo, fcl, fts, fln, aZ W, aZ D, xh, xa, xu, xv, xr, xt) (nI t) := by
  have a := xl_sat (G := fun v => pb_st d (F v)) hn ht h.1 (fun _ _ => rfl) hF hd (H _ (fo_rw h.2) (fun i hi => fe_rw hn hi)) (n + 1) 0 (by omega) (by omega)
  rw [rs_0] at a
  exact And.intro (in_n t ht) (nm_r ((rd_z t).trans (congrArg zI h.2)) (Exists.intro (n + 1) a))
end
end
section
/-! rows of the store, X, second half: division, addition, weakening, tests -/
section
variable {q0 q1 q2 q3 q4 q5 q6 q7 q8 q9 q10 q11 fn frR flR frc fin fbe flo fcl fts fln : Int32} {xw xd xh xa xu xv xr xt : Nat → Int32}
variable {W D : Nat → Int} {n : Nat}
theorem xl_div {post : SX → Prop} {t : Nat} {p d : Int} {F G : Nat → Int} (hn : n ≤ 8) (ht : t < 60) (hp : 0 < p ∧ p ≤ 1000000000) (h : ∀ v, v < n → W (t * 8 + v) = F v) (hG : ∀ v, v < n → G v = pb_dv p (F v)) (hF : ∀ v, v < n → -1000000000 ≤ F v ∧ F v ≤ 1000000000) (hd : D t = d) (hdb : 0 ≤ d ∧ d ≤ 1000000000) (H : post (q0, q1, q2, q3, q4, q5, q6, q7, q8, q9, q10, q11, nI n, frR, flR, frc, fin, fbe, flo, fcl, fts, fln, aZ (rs W t n G), aZ (ug D t (pb_du p d)), xh, xa, xu, xv, xr, xt)) : ∀ k i : Nat, i ≤ n → n < k + i → wX_divideForm_8 post (nI t) (zI p) q0 q1 q2 q3 q4 q5 q6 q7 q8 q9 q10 q11 (nI n) frR flR frc fin fbe flo fcl fts fln k (nI i) (aZ (rs W t i G)) (aZ D) xh xa xu xv xr xt := by
  have hp0 : ¬ zI p = 0 := by
    rw [show (0 : Int32) = zI 0 from rfl, zI_eq (by omega) (by omega) (by omega) (by omega)]; omega
  have hdu : ∀ x : Int, 0 ≤ x → x ≤ 1000000000 → (zI x + zI p - 1) / zI p = zI (pb_du p x) := by
    intro x h1 h2
    rw [zI_add, show (1 : Int32) = zI 1 from rfl, zI_sub, zI_div (by omega) (by omega) (by omega) (by omega)]
    rfl
  intro k
  induction k with
  | zero => intro i h1 h2; omega
  | succ k ih =>
    intro i h1 h2
    by_cases hi : i < n
    · have hb := hF i hi
      have hg := hG i hi
      have ih' := ih (i + 1) (by omega) (by omega)
      have ha := pb_ab_nn (F i)
      have hab := pb_ab_b hb
      refine br_f (nI_ge hi (by omega)) ⟨in_n (t * 8 + i) (by omega) (ix_x t i), nm_r (e' := zI (F i)) ?_ (xw_mag (F i) ⟨hp0, nm_r (hdu _ ha hab.2) (zb_le 0 (F i) (fun hq => ⟨in_n (t * 8 + i) (by omega) (ix_x t i), nm_r (wr_z (t * 8 + i) (G i) (ix_x t i) ?_) (nm_r (nI_1 i) ?_)⟩) (fun hq => ⟨in_n (t * 8 + i) (by omega) (ix_x t i), nm_r (wr_z (t * 8 + i) (G i) (ix_x t i) ?_) (nm_r (nI_1 i) ?_)⟩))⟩)⟩
      · rw [rd_z (t * 8 + i) (ix_x t i), rs_ge (by omega) (Or.inl (Nat.le_refl i)) (by omega), h i hi]
      · rw [hg, pb_dv_p (by omega)]
      · rw [rs_s]; exact ih'
      · rw [hg, pb_dv_n (by omega), zI_neg]
      · rw [rs_s]; exact ih'
    · have e : i = n := by omega
      subst e
      exact br_t (nI_le (Nat.le_refl _) (by omega)) ⟨in_n t ht, hp0, in_n t ht, nm_r (wr_z t (pb_du p d) rfl (by rw [rd_z t, hd]; exact hdu d hdb.1 hdb.2)) H⟩
theorem xw_div {post : SX → Prop} {t : Nat} {F : Nat → Int} {p d : Int} (hn : n ≤ 8) (ht : t < 60) (hp : 0 < p ∧ p ≤ 1000000000) (h : fo_is W D n t F d) (hF : ∀ v, v < n → -1000000000 ≤ F v ∧ F v ≤ 1000000000) (hd : 0 ≤ d ∧ d ≤ 1000000000) (H : ∀ W' D', fo_is W' D' n t (fun v => pb_dv p (F v)) (pb_du p d) → (∀ i, i ≠ t → fo_eq W D W' D' n i) → post (q0, q1, q2, q3, q4, q5, q6, q7, q8, q9, q10, q11, nI n, frR, flR, frc, fin, fbe, flo, fcl, fts, fln, aZ W', aZ D', xh, xa, xu, xv, xr, xt)) : wpX_divideForm post (q0, q1, q2, q3, q4, q5, q6, q7, q8, q9, q10, q11, nI n, frR, flR, frc, fin, fbe, flo, fcl, fts, fln, aZ W, aZ D, xh, xa, xu, xv, xr, xt) (nI t) (zI p) := by
  have a := xl_div (G := fun v => pb_dv p (F v)) hn ht hp h.1 (fun _ _ => rfl) hF h.2 hd (H _ _ fo_rs (fun i hi => fe_rs hn hi)) (n + 1) 0 (by omega) (by omega)
  rw [rs_0] at a
  exact br_t ((zI_le (a := 1) (by omega) (by omega) (by omega) (by omega)).mpr (by omega)) (Exists.intro (n + 1) a)
/-- the running degree of an addition -/
def pb_ci (f g : Nat → Int) (s : Int) (i : Nat) : Int := s - pb_sm (fun v => pb_cx (f v) (g v)) i
theorem pb_ci_s (f g : Nat → Int) (s : Int) (i : Nat) : pb_ci f g s (i + 1) = pb_ci f g s i - pb_cx (f i) (g i) := by
  unfold pb_ci
  rw [pb_sm_s]
  omega
theorem xl_c110 {post : SX → Prop} {J : Int32 → Int32 → (Nat → Int32) → (Nat → Int32) → (Nat → Int32) → (Nat → Int32) → (Nat → Int32) → (Nat → Int32) → (Nat → Int32) → (Nat → Int32) → Prop} {t i : Nat} {p2 p3 : Int32} {x y c : Int} {G : Nat → Int} (hi : i < 8) (ht : t < 60) (hG : G i = x + y) (H : J (zI c) (nI (i + 1)) (aZ (rs W t (i + 1) G)) (aZ D) xh xa xu xv xr xt) : wX_combine_110 post J (nI t) p2 p3 (zI c) (nI i) (zI x) (zI y) q0 q1 q2 q3 q4 q5 q6 q7 q8 q9 q10 q11 (nI n) frR flR frc fin fbe flo fcl fts fln (aZ (rs W t i G)) (aZ D) xh xa xu xv xr xt := by
  refine And.intro (in_n (t * 8 + i) (by omega) (ix_x t i)) (nm_r (wr_z (t * 8 + i) (G i) (ix_x t i) (by rw [zI_add, hG])) (nm_r (nI_1 i) ?_))
  rw [rs_s]
  exact H
theorem xl_c75 {post : SX → Prop} {J : Int32 → Int32 → (Nat → Int32) → (Nat → Int32) → (Nat → Int32) → (Nat → Int32) → (Nat → Int32) → (Nat → Int32) → (Nat → Int32) → (Nat → Int32) → Prop} {t i : Nat} {p2 p3 : Int32} {x y c : Int} {G : Nat → Int} (hi : i < 8) (ht : t < 60) (hx : -1000000000 ≤ x ∧ x ≤ 1000000000) (hy : -1000000000 ≤ y ∧ y ≤ 1000000000) (hG : G i = x + y) (H : J (zI (c - min (pb_ab x) (pb_ab y))) (nI (i + 1)) (aZ (rs W t (i + 1) G)) (aZ D) xh xa xu xv xr xt) : wX_combine_75 post J (nI t) p2 p3 (zI c) (nI i) (zI x) (zI y) q0 q1 q2 q3 q4 q5 q6 q7 q8 q9 q10 q11 (nI n) frR flR frc fin fbe flo fcl fts fln (aZ (rs W t i G)) (aZ D) xh xa xu xv xr xt := by
  have hxb := pb_ab_b hx
  have hyb := pb_ab_b hy
  refine xw_mag x (xw_mag y (zb_le (pb_ab y) (pb_ab x) (fun hq => nm_r (zI_sub _ _) ?_) (fun hq => nm_r (zI_sub _ _) ?_)))
  · rw [show min (pb_ab x) (pb_ab y) = pb_ab y by omega] at H
    exact xl_c110 hi ht hG H
  · rw [show min (pb_ab x) (pb_ab y) = pb_ab x by omega] at H
    exact xl_c110 hi ht hG H
theorem xl_comb {post : SX → Prop} {t a b : Nat} {s : Int} {f g G : Nat → Int} (hn : n ≤ 8) (ht : t < 60) (ha : a < 60) (hb : b < 60) (hf : ∀ v, v < n → W (a * 8 + v) = f v) (hg : ∀ v, v < n → W (b * 8 + v) = g v) (hG : ∀ v, v < n → G v = f v + g v) (hfb : ∀ v, v < n → -100000000 ≤ f v ∧ f v ≤ 100000000) (hgb : ∀ v, v < n → -100000000 ≤ g v ∧ g v ≤ 100000000) (hs : 0 ≤ s ∧ s ≤ 200000000) (H : post (q0, q1, q2, q3, q4, q5, q6, q7, q8, q9, q10, q11, nI n, frR, flR, frc, fin, fbe, flo, fcl, fts, fln, aZ (rs W t n G), aZ (ug D t (max 0 (pb_ci f g s n))), xh, xa, xu, xv, xr, xt)) : ∀ k i : Nat, i ≤ n → n < k + i → wX_combine_18 post (nI t) (nI a) (nI b) q0 q1 q2 q3 q4 q5 q6 q7 q8 q9 q10 q11 (nI n) frR flR frc fin fbe flo fcl fts fln k (zI (pb_ci f g s i)) (nI i) (aZ (rs W t i G)) (aZ D) xh xa xu xv xr xt := by
  intro k
  induction k with
  | zero => intro i h1 h2; omega
  | succ k ih =>
    intro i h1 h2
    by_cases hi : i < n
    · have bf := hfb i hi
      have bg := hgb i hi
      have eG := hG i hi
      have ih' := ih (i + 1) (by omega) (by omega)
      rw [pb_ci_s] at ih'
      have n65 : ¬ ((0 < f i ∧ g i < 0) ∨ (f i < 0 ∧ 0 < g i)) → wX_combine_65 post (wX_combine_18 post (nI t) (nI a) (nI b) q0 q1 q2 q3 q4 q5 q6 q7 q8 q9 q10 q11 (nI n) frR flR frc fin fbe flo fcl fts fln k) (nI t) (nI a) (nI b) (zI (pb_ci f g s i)) (nI i) (zI (f i)) (zI (g i)) q0 q1 q2 q3 q4 q5 q6 q7 q8 q9 q10 q11 (nI n) frR flR frc fin fbe flo fcl fts fln (aZ (rs W t i G)) (aZ D) xh xa xu xv xr xt := fun hc => by
        rw [pb_cx_f hc, Int.sub_zero] at ih'
        refine zb_le 0 (f i) (fun hq => xl_c110 (by omega) ht eG ih') (fun hq => zb_le (g i) 0 (fun hr => xl_c110 (by omega) ht eG ih') (fun hr => absurd (Or.inr ⟨hq, hr⟩) hc))
      have y75 : ((0 < f i ∧ g i < 0) ∨ (f i < 0 ∧ 0 < g i)) → wX_combine_75 post (wX_combine_18 post (nI t) (nI a) (nI b) q0 q1 q2 q3 q4 q5 q6 q7 q8 q9 q10 q11 (nI n) frR flR frc fin fbe flo fcl fts fln k) (nI t) (nI a) (nI b) (zI (pb_ci f g s i)) (nI i) (zI (f i)) (zI (g i)) q0 q1 q2 q3 q4 q5 q6 q7 q8 q9 q10 q11 (nI n) frR flR frc fin fbe flo fcl fts fln (aZ (rs W t i G)) (aZ D) xh xa xu xv xr xt := fun hc => by
        rw [pb_cx_t hc] at ih'
        exact xl_c75 (by omega) ht (by omega) (by omega) eG ih'
      refine br_f (nI_ge hi (by omega)) ⟨in_n (a * 8 + i) (by omega) (ix_x a i), nm_r (e' := zI (f i)) ?_ ⟨in_n (b * 8 + i) (by omega) (ix_x b i), nm_r (e' := zI (g i)) ?_ (zb_le (f i) 0 (fun hq => ?_) (fun hq => zb_lt (g i) 0 (fun hr => y75 (Or.inl ⟨hq, hr⟩)) (fun hr => n65 (by omega))))⟩⟩
      · rw [rd_z (a * 8 + i) (ix_x a i), rs_ge (by omega) (Or.inl (Nat.le_refl i)) (by omega), hf i hi]
      · rw [rd_z (b * 8 + i) (ix_x b i), rs_ge (by omega) (Or.inl (Nat.le_refl i)) (by omega), hg i hi]
      · by_cases hc : (0 < f i ∧ g i < 0) ∨ (f i < 0 ∧ 0 < g i)
        · exact zb_le 0 (f i) (fun hr => absurd hc (by omega)) (fun hr => zb_le (g i) 0 (fun hr => absurd hc (by omega)) (fun hr => y75 hc))
        · exact n65 hc
    · have ei : i = n := by omega
      subst ei
      have hm := pb_sm_8 (g := fun v => pb_cx (f v) (g v)) (B := 100000000) hn (by omega) (fun v hv => pb_cx_b (hfb v hv))
      have hc : pb_ci f g s i = s - pb_sm (fun v => pb_cx (f v) (g v)) i := rfl
      refine br_t (nI_le (Nat.le_refl _) (by omega)) (zb_le 0 (pb_ci f g s i) (fun hp => ⟨in_n t ht, nm_r (wr_z t (pb_ci f g s i) rfl rfl) ?_⟩) (fun hp => ⟨in_n t ht, nm_r (wr_z t 0 rfl rfl) ?_⟩))
      · rw [show max 0 (pb_ci f g s i) = pb_ci f g s i by omega] at H; exact H
      · rw [show max 0 (pb_ci f g s i) = 0 by omega] at H; exact H
theorem xw_comb {post : SX → Prop} {t a b : Nat} {f g : Nat → Int} {d e : Int} (hn : n ≤ 8) (ht : t < 60) (ha : a < 60) (hb : b < 60) (hf : fo_is W D n a f d) (hg : fo_is W D n b g e) (hfb : ∀ v, v < n → -100000000 ≤ f v ∧ f v ≤ 100000000) (hgb : ∀ v, v < n → -100000000 ≤ g v ∧ g v ≤ 100000000) (hd : 0 ≤ d ∧ d ≤ 100000000) (he : 0 ≤ e ∧ e ≤ 100000000) (H : ∀ W' D', fo_is W' D' n t (fun v => f v + g v) (pb_cd f g d e n) → (∀ i, i ≠ t → fo_eq W D W' D' n i) → post (q0, q1, q2, q3, q4, q5, q6, q7, q8, q9, q10, q11, nI n, frR, flR, frc, fin, fbe, flo, fcl, fts, fln, aZ W', aZ D', xh, xa, xu, xv, xr, xt)) : wpX_combine post (q0, q1, q2, q3, q4, q5, q6, q7, q8, q9, q10, q11, nI n, frR, flR, frc, fin, fbe, flo, fcl, fts, fln, aZ W, aZ D, xh, xa, xu, xv, xr, xt) (nI t) (nI a) (nI b) := by
  have x := xl_comb (G := fun v => f v + g v) (s := d + e) hn ht ha hb hf.1 hg.1 (fun _ _ => rfl) hfb hgb (by omega) (H _ _ fo_rs (fun i hi => fe_rs hn hi)) (n + 1) 0 (by omega) (by omega)
  rw [rs_0, show pb_ci f g (d + e) 0 = d + e from Int.sub_zero _] at x
  exact And.intro (in_n a ha) (And.intro (in_n b hb) (nm_r (by rw [rd_z a, rd_z b, hf.2, hg.2, zI_add]) (Exists.intro (n + 1) x)))
theorem xw_weak {post : SX → Prop} {t u : Nat} {F : Nat → Int} {d : Int} (hn : n ≤ 8) (hu : u < n) (ht : t < 60) (h : fo_is W D n t F d) (hF : -1000000000 ≤ F u ∧ F u ≤ 1000000000) (hd : 0 ≤ d ∧ d ≤ 1000000000) (H : ∀ W' D', fo_is W' D' n t (fun v => if v = u then 0 else F v) (max 0 (d - pb_ab (F u))) → (∀ i, i ≠ t → fo_eq W D W' D' n i) → post (q0, q1, q2, q3, q4, q5, q6, q7, q8, q9, q10, q11, fn, frR, flR, frc, fin, fbe, flo, fcl, fts, fln, aZ W', aZ D', xh, xa, xu, xv, xr, xt)) : wpX_weakenForm post (q0, q1, q2, q3, q4, q5, q6, q7, q8, q9, q10, q11, fn, frR, flR, frc, fin, fbe, flo, fcl, fts, fln, aZ W, aZ D, xh, xa, xu, xv, xr, xt) (nI t) (nI u) := by
  have hb := pb_ab_b hF
  have hb0 := pb_ab_nn (F u)
  have K : ∀ z : Int, z = max 0 (d - pb_ab (F u)) → wX_weakenForm_42 post (nI t) (nI u) (zI z) (nI t) q0 q1 q2 q3 q4 q5 q6 q7 q8 q9 q10 q11 fn frR flR frc fin fbe flo fcl fts fln (aZ W) (aZ D) xh xa xu xv xr xt := fun z hz => by
    refine And.intro (in_n t ht) (nm_r (wr_z t z rfl rfl) (And.intro (in_n (t * 8 + u) (by omega) (ix_x t u)) (nm_r (wr_z (t * 8 + u) 0 (ix_x t u) rfl) (H _ _ ⟨fun v hv => ?_, ?_⟩ (fun i hi => ⟨fun v hv => ?_, ?_⟩)))))
    · by_cases e : v = u
      · subst e; rw [ug_s]; exact (if_pos rfl).symm
      · rw [ug_n (by omega), h.1 v hv]; exact (if_neg e).symm
    · rw [ug_s, hz]
    · exact ug_n (by omega)
    · exact ug_n hi
  refine And.intro (in_n (t * 8 + u) (by omega) (ix_x t u)) (xw_mag (F u) (And.intro (in_n t ht) (nm_r (e' := zI (d - pb_ab (F u))) (by rw [rd_z t, h.2, zI_sub]) (zb_le 0 (d - pb_ab (F u)) (fun hq => K _ (by omega)) (fun hq => K 0 (by omega))))) ((rd_z (t * 8 + u) (ix_x t u)).trans (congrArg zI (h.1 u hu))))
theorem xw_fals {post : Int32 → Prop} {V : Nat → Nat} {t v : Nat} {x : Int} (hn : v < 8) (ht : t < 60) (hx : W (t * 8 + v) = x) (hb : -2147483648 ≤ x ∧ x < 2147483648) (hV : V v ≤ 2) (H1 : ((0 < x ∧ V v = 0) ∨ (x < 0 ∧ V v = 1)) → post 1) (H0 : ¬ ((0 < x ∧ V v = 0) ∨ (x < 0 ∧ V v = 1)) → post 0) : wpX_isFalsified post (q0, q1, q2, q3, q4, q5, q6, q7, q8, q9, q10, q11, fn, frR, flR, frc, fin, fbe, flo, fcl, fts, fln, aZ W, xd, xh, xa, xu, aN V, xr, xt) (nI t) (nI v) := by
  have K : (0 < x → V v ≠ 0) → wX_isFalsified_25 post (nI v) (zI x) q0 q1 q2 q3 q4 q5 q6 q7 q8 q9 q10 q11 fn frR flR frc fin fbe flo fcl fts fln (aZ W) xd xh xa xu (aN V) xr xt := fun hq => by
    refine zb_le 0 x (fun h => H0 (by omega)) (fun h => And.intro (in_n v hn) (pk_eq (V v) 1 (fun h2 => H1 (by omega)) (fun h2 => H0 (by omega)) (rd_n v)))
  refine And.intro (in_n (t * 8 + v) (by omega) (ix_x t v)) (nm_r (e' := zI x) ((rd_z (t * 8 + v) (ix_x t v)).trans (congrArg zI hx)) (zb_le x 0 (fun h => K (by omega)) (fun h => And.intro (in_n v hn) (pk_eq (V v) 0 (fun h2 => H1 (by omega)) (fun h2 => K (fun _ => h2)) (rd_n v)))))
theorem xl_slk {post : Int32 → Prop} {V : Nat → Nat} {t : Nat} {F : Nat → Int} {s : Int} (hn : n ≤ 8) (ht : t < 60) (h : ∀ v, v < n → W (t * 8 + v) = F v) (hF : ∀ v, v < n → -2147483648 < F v ∧ F v < 2147483648) (hV : ∀ v, v < n → V v ≤ 2) (H : post (zI (s + pb_sm (fun v => pb_nf (F v) (V v)) n))) : ∀ k i : Nat, i ≤ n → n < k + i → wX_slack_10 post (nI t) q0 q1 q2 q3 q4 q5 q6 q7 q8 q9 q10 q11 (nI n) frR flR frc fin fbe flo fcl fts fln (aZ W) xd xh xa xu (aN V) xr xt k (zI (s + pb_sm (fun v => pb_nf (F v) (V v)) i)) (nI i) := by
  intro k
  induction k with
  | zero => intro i h1 h2; omega
  | succ k ih =>
    intro i h1 h2
    by_cases hi : i < n
    · have hb := hF i hi
      have ih' := ih (i + 1) (by omega) (by omega)
      rw [pb_sm_s, ← Int.add_assoc] at ih'
      refine br_f (nI_ge hi (by omega)) (xw_fals (by omega) ht (h i hi) (by omega) (hV i hi) (fun hc => ?_) (fun hc => ?_))
      · rw [pb_nf_t hc, Int.add_zero] at ih'
        exact br_f (by decide) (nm_r (nI_1 i) ih')
      · rw [pb_nf_f hc] at ih'
        exact br_t rfl ⟨in_n (t * 8 + i) (by omega) (ix_x t i), xw_mag (F i) (nm_r (zI_add _ _) (nm_r (nI_1 i) ih')) ((rd_z (t * 8 + i) (ix_x t i)).trans (congrArg zI (h i hi)))⟩
    · have e : i = n := by omega
      subst e
      exact br_t (nI_le (Nat.le_refl _) (by omega)) H
theorem xw_slk {post : Int32 → Prop} {V : Nat → Nat} {t : Nat} {F : Nat → Int} {d : Int} (hn : n ≤ 8) (ht : t < 60) (h : fo_is W D n t F d) (hF : ∀ v, v < n → -2147483648 < F v ∧ F v < 2147483648) (hV : ∀ v, v < n → V v ≤ 2) (H : post (zI (pb_slk F d V n))) : wpX_slack post (q0, q1, q2, q3, q4, q5, q6, q7, q8, q9, q10, q11, nI n, frR, flR, frc, fin, fbe, flo, fcl, fts, fln, aZ W, aZ D, xh, xa, xu, aN V, xr, xt) (nI t) := by
  refine And.intro (in_n t ht) (nm_r (e' := zI (-d)) (by rw [rd_z t, h.2, zI_neg]) (Exists.intro (n + 1) ?_))
  rw [show zI (-d) = zI (-d + pb_sm (fun v => pb_nf (F v) (V v)) 0) from congrArg zI (Int.add_zero _).symm]
  exact xl_slk hn ht h.1 hF hV (by rw [show -d + pb_sm (fun v => pb_nf (F v) (V v)) n = pb_slk F d V n by unfold pb_slk; omega]; exact H) (n + 1) 0 (by omega) (by omega)
end
end
section
/-! X: tests and small changes -/
theorem ix_216 (i : Nat) : 216 + nI i = nI (27 * 8 + i) := by
  rw [show (216 : Int32) = nI 216 from rfl, nI_add]
theorem bt_br {A B : Prop} {m v : Nat} (hm : m < 2147483648) (hv : v < 32) (f : m.testBit v = true → A) (g : m.testBit v = false → B) : (((nI m >>> (nI v &&& 31)) &&& 1) = 1 → A) ∧ (¬ ((nI m >>> (nI v &&& 31)) &&& 1) = 1 → B) := by
  rw [bt_x hm hv]
  cases h : m.testBit v
  · exact br_f (by decide) (g h)
  · exact br_t (by decide) (f h)
def xi (has : Bool) (im : Nat) : Int32 := if has = true then nI im else -1
theorem zb_in {A B : Prop} {has : Bool} {im : Nat} (him : im < 2147483648) (f : has = false → A) (g : has = true → B) : (xi has im < 0 → A) ∧ (¬ xi has im < 0 → B) := by
  cases has
  · exact br_t (show (-1 : Int32) < 0 by decide) (f rfl)
  · exact br_f (nI_pos (by omega)) (g rfl)
theorem zb_in' {A B : Prop} {has : Bool} {im : Nat} (him : im < 2147483648) (f : has = true → A) (g : has = false → B) : (0 ≤ xi has im → A) ∧ (¬ 0 ≤ xi has im → B) := by
  cases has
  · exact br_f (show ¬ (0 : Int32) ≤ -1 by decide) (g rfl)
  · exact br_t (nI_pos' (by omega)) (f rfl)
def cl (H : Nat → Bool) (i : Nat) : Nat → Bool := fun j => if j < i then false else H j
theorem cl_s {H : Nat → Bool} {i : Nat} : ug (cl H i) i false = cl H (i + 1) := by
  funext j
  show (if j = i then false else if j < i then false else H j) = (if j < i + 1 then false else H j)
  by_cases h : j = i
  · rw [if_pos h, if_pos (by omega)]
  · rw [if_neg h]
    by_cases h2 : j < i
    · rw [if_pos h2, if_pos (by omega)]
    · rw [if_neg h2, if_neg (by omega)]
theorem cl_0 {H : Nat → Bool} : cl H 0 = H := by
  funext j
  exact if_neg (by omega)
theorem rg_c (p : Int32) (N : Nat) (hN : N < 2147483648) : (∃ j, j < N ∧ p = nI j) ∨ (∀ j, j < N → p ≠ nI j) := by
  by_cases h : ∃ j, j < N ∧ p = nI j
  · exact Or.inl h
  · exact Or.inr (fun j hj e => h ⟨j, hj, e⟩)
section
variable {q0 q1 q2 q3 q4 q5 q6 q7 q8 q9 q10 q11 fn frR flR frc fin fbe flo fcl fts fln : Int32} {xw xd xh xa xu xv xr xt : Nat → Int32}
variable {W D : Nat → Int} {n : Nat}
theorem xr_1 {A B C : Prop} {j N : Nat} (hj : j < N) (hN : N < 2147483648) (h : C) : (nI j < 0 → A) ∧ (¬ nI j < 0 → ((nI N ≤ nI j → B) ∧ (¬ nI N ≤ nI j → C))) :=
  br_f (nI_pos (by omega)) (br_f (nI_ge hj (by omega)) h)
theorem xr_0 {A C : Prop} {p : Int32} {N : Nat} (hp : ∀ j, j < N → p ≠ nI j) (hN : N < 2147483648) (h : A) : (p < 0 → A) ∧ (¬ p < 0 → ((nI N ≤ p → A) ∧ (¬ nI N ≤ p → C))) := by
  refine br_c (fun _ => h) (fun h0 => br_c (fun _ => h) (fun h1 => ?_))
  obtain ⟨j, hj, e⟩ := nI_of h0
  subst e
  rw [nI_leI (by omega) hj] at h1
  exact absurd rfl (hp j (by omega))
theorem xw_var1 {post : Int32 → Prop} {j : Nat} (hj : j < n) (hn : n ≤ 8) (h : post 1) : wpX_isVariable post (q0, q1, q2, q3, q4, q5, q6, q7, q8, q9, q10, q11, nI n, frR, flR, frc, fin, fbe, flo, fcl, fts, fln, xw, xd, xh, xa, xu, xv, xr, xt) (nI j) := xr_1 hj (by omega) h
theorem xw_var0 {post : Int32 → Prop} {p : Int32} (hp : ∀ j, j < n → p ≠ nI j) (hn : n ≤ 8) (h : post 0) : wpX_isVariable post (q0, q1, q2, q3, q4, q5, q6, q7, q8, q9, q10, q11, nI n, frR, flR, frc, fin, fbe, flo, fcl, fts, fln, xw, xd, xh, xa, xu, xv, xr, xt) p := xr_0 hp (by omega) h
theorem xw_slot1 {post : Int32 → Prop} {j l : Nat} (hj : j < l) (hn : l ≤ 12) (h : post 1) : wpX_isSlot post (q0, q1, q2, q3, q4, q5, q6, q7, q8, q9, q10, q11, fn, frR, nI l, frc, fin, fbe, flo, fcl, fts, fln, xw, xd, xh, xa, xu, xv, xr, xt) (nI j) := xr_1 hj (by omega) h
theorem xw_slot0 {post : Int32 → Prop} {p : Int32} {l : Nat} (hp : ∀ j, j < l → p ≠ nI j) (hn : l ≤ 12) (h : post 0) : wpX_isSlot post (q0, q1, q2, q3, q4, q5, q6, q7, q8, q9, q10, q11, fn, frR, nI l, frc, fin, fbe, flo, fcl, fts, fln, xw, xd, xh, xa, xu, xv, xr, xt) p := xr_0 hp (by omega) h
theorem xw_row1 {post : Int32 → Prop} {j l : Nat} (hj : j < l) (hn : l ≤ 10) (h : post 1) : wpX_isRow post (q0, q1, q2, q3, q4, q5, q6, q7, q8, q9, q10, q11, fn, frR, flR, nI l, fin, fbe, flo, fcl, fts, fln, xw, xd, xh, xa, xu, xv, xr, xt) (nI j) := xr_1 hj (by omega) h
theorem xw_row0 {post : Int32 → Prop} {p : Int32} {l : Nat} (hp : ∀ j, j < l → p ≠ nI j) (hn : l ≤ 10) (h : post 0) : wpX_isRow post (q0, q1, q2, q3, q4, q5, q6, q7, q8, q9, q10, q11, fn, frR, flR, nI l, fin, fbe, flo, fcl, fts, fln, xw, xd, xh, xa, xu, xv, xr, xt) p := xr_0 hp (by omega) h
theorem two_n (n : Nat) : 2 * nI n = nI (2 * n) := by
  rw [show (2 : Int32) = nI 2 from rfl, pk_mul]
theorem xw_lit1 {post : Int32 → Prop} {j : Nat} (hj : j < 2 * n) (hn : n ≤ 8) (h : post 1) : wpX_isLiteral post (q0, q1, q2, q3, q4, q5, q6, q7, q8, q9, q10, q11, nI n, frR, flR, frc, fin, fbe, flo, fcl, fts, fln, xw, xd, xh, xa, xu, xv, xr, xt) (nI j) := by
  show (nI j < 0 → post 0) ∧ (¬ nI j < 0 → ((2 * nI n ≤ nI j → post 0) ∧ (¬ 2 * nI n ≤ nI j → post 1)))
  rw [two_n]
  exact xr_1 hj (by omega) h
theorem xw_lit0 {post : Int32 → Prop} {p : Int32} (hp : ∀ j, j < 2 * n → p ≠ nI j) (hn : n ≤ 8) (h : post 0) : wpX_isLiteral post (q0, q1, q2, q3, q4, q5, q6, q7, q8, q9, q10, q11, nI n, frR, flR, frc, fin, fbe, flo, fcl, fts, fln, xw, xd, xh, xa, xu, xv, xr, xt) p := by
  show (p < 0 → post 0) ∧ (¬ p < 0 → ((2 * nI n ≤ p → post 0) ∧ (¬ 2 * nI n ≤ p → post 1)))
  rw [two_n]
  exact xr_0 hp (by omega) h
theorem xl_con {post : Int32 → Prop} {t : Nat} {F : Nat → Int} {d : Int} (hn : n ≤ 8) (ht : t < 60) (h : fo_is W D n t F d) (hF : ∀ v, v < n → -100000000 ≤ F v ∧ F v ≤ 100000000) (hd : 0 ≤ d ∧ d ≤ 1000000000) (H1 : pb_sm (fun v => pb_ab (F v)) n < d → post 1) (H0 : d ≤ pb_sm (fun v => pb_ab (F v)) n → post 0) : ∀ k i : Nat, i ≤ n → n < k + i → wX_isContradiction_4 post (nI t) q0 q1 q2 q3 q4 q5 q6 q7 q8 q9 q10 q11 (nI n) frR flR frc fin fbe flo fcl fts fln (aZ W) (aZ D) xh xa xu xv xr xt k (zI (pb_sm (fun v => pb_ab (F v)) i)) (nI i) := by
  intro k
  induction k with
  | zero => intro i h1 h2; omega
  | succ k ih =>
    intro i h1 h2
    by_cases hi : i < n
    · have hb := hF i hi
      have ih' := ih (i + 1) (by omega) (by omega)
      rw [pb_sm_s] at ih'
      exact br_f (nI_ge hi (by omega)) ⟨in_n (t * 8 + i) (by omega) (ix_x t i), xw_mag (F i) (nm_r (zI_add _ _) (nm_r (nI_1 i) ih')) ((rd_z (t * 8 + i) (ix_x t i)).trans (congrArg zI (h.1 i hi)))⟩
    · have e : i = n := by omega
      subst e
      have hm := pb_sm_8 (g := fun v => pb_ab (F v)) (B := 100000000) hn (by omega) (fun v hv => pb_ab_b (hF v hv))
      exact br_t (nI_le (Nat.le_refl _) (by omega)) ⟨in_n t ht, zb_le d (pb_sm (fun v => pb_ab (F v)) i) H0 H1 ((rd_z t).trans (congrArg zI h.2))⟩
theorem xw_con {post : Int32 → Prop} {t : Nat} {F : Nat → Int} {d : Int} (hn : n ≤ 8) (ht : t < 60) (h : fo_is W D n t F d) (hF : ∀ v, v < n → -100000000 ≤ F v ∧ F v ≤ 100000000) (hd : 0 ≤ d ∧ d ≤ 1000000000) (H1 : pb_sm (fun v => pb_ab (F v)) n < d → post 1) (H0 : d ≤ pb_sm (fun v => pb_ab (F v)) n → post 0) : wpX_isContradiction post (q0, q1, q2, q3, q4, q5, q6, q7, q8, q9, q10, q11, nI n, frR, flR, frc, fin, fbe, flo, fcl, fts, fln, aZ W, aZ D, xh, xa, xu, xv, xr, xt) (nI t) :=
  Exists.intro (n + 1) (xl_con hn ht h hF hd H1 H0 (n + 1) 0 (by omega) (by omega))
theorem xl_big {post : Int32 → Prop} {t : Nat} {F : Nat → Int} {d : Int} (hn : n ≤ 8) (ht : t < 60) (h : fo_is W D n t F d) (hF : ∀ v, v < n → -100000000 ≤ F v ∧ F v ≤ 100000000) (hd : 0 ≤ d ∧ d ≤ 1000000000) (H1 : ((∃ v, v < n ∧ 1000 < pb_ab (F v)) ∨ 9999 < d) → post 1) (H0 : (∀ v, v < n → pb_ab (F v) ≤ 1000) → d ≤ 9999 → post 0) : ∀ k i : Nat, i ≤ n → n < k + i → (∀ v, v < i → pb_ab (F v) ≤ 1000) → wX_isTooBig_2 post (nI t) q0 q1 q2 q3 q4 q5 q6 q7 q8 q9 q10 q11 (nI n) frR flR frc fin fbe flo fcl fts fln (aZ W) (aZ D) xh xa xu xv xr xt k (nI i) := by
  intro k
  induction k with
  | zero => intro i h1 h2; omega
  | succ k ih =>
    intro i h1 h2 h3
    by_cases hi : i < n
    · have hb := hF i hi
      have hab := pb_ab_b hb
      refine br_f (nI_ge hi (by omega)) ⟨in_n (t * 8 + i) (by omega) (ix_x t i), xw_mag (F i) (zb_le (pb_ab (F i)) 1000 (fun hq => nm_r (nI_1 i) (ih (i + 1) (by omega) (by omega) (lt_s h3 hq))) (fun hq => H1 (Or.inl ⟨i, hi, hq⟩))) ((rd_z (t * 8 + i) (ix_x t i)).trans (congrArg zI (h.1 i hi)))⟩
    · have e : i = n := by omega
      subst e
      exact br_t (nI_le (Nat.le_refl _) (by omega)) ⟨in_n t ht, zb_le d 9999 (H0 h3) (fun hq => H1 (Or.inr hq)) ((rd_z t).trans (congrArg zI h.2))⟩
theorem xw_big {post : Int32 → Prop} {t : Nat} {F : Nat → Int} {d : Int} (hn : n ≤ 8) (ht : t < 60) (h : fo_is W D n t F d) (hF : ∀ v, v < n → -100000000 ≤ F v ∧ F v ≤ 100000000) (hd : 0 ≤ d ∧ d ≤ 1000000000) (H1 : ((∃ v, v < n ∧ 1000 < pb_ab (F v)) ∨ 9999 < d) → post 1) (H0 : (∀ v, v < n → pb_ab (F v) ≤ 1000) → d ≤ 9999 → post 0) : wpX_isTooBig post (q0, q1, q2, q3, q4, q5, q6, q7, q8, q9, q10, q11, nI n, frR, flR, frc, fin, fbe, flo, fcl, fts, fln, aZ W, aZ D, xh, xa, xu, xv, xr, xt) (nI t) :=
  Exists.intro (n + 1) (xl_big hn ht h hF hd H1 H0 (n + 1) 0 (by omega) (by omega) lt_0)
def pb_bc (F c : Nat → Int) (i : Nat) : Prop := ∀ v, v < i → (0 < F v → F v ≤ c v) ∧ (F v < 0 → c v ≤ F v)
theorem xl_bel {post : Int32 → Prop} {t : Nat} {F c : Nat → Int} (hn : n ≤ 8) (ht : t < 60) (h : ∀ v, v < n → W (t * 8 + v) = F v) (hc : ∀ v, v < n → W (27 * 8 + v) = c v) (hF : ∀ v, v < n → -100000000 ≤ F v ∧ F v ≤ 100000000) (hcb : ∀ v, v < n → -1000 ≤ c v ∧ c v ≤ 1000) (H1 : pb_bc F c n → post 1) (H0 : ¬ pb_bc F c n → post 0) : ∀ k i : Nat, i ≤ n → n < k + i → pb_bc F c i → wX_isBelowCosts_2 post (nI t) q0 q1 q2 q3 q4 q5 q6 q7 q8 q9 q10 q11 (nI n) frR flR frc fin fbe flo fcl fts fln (aZ W) xd xh xa xu xv xr xt k (nI i) := by
  intro k
  induction k with
  | zero => intro i h1 h2; omega
  | succ k ih =>
    intro i h1 h2 h3
    by_cases hi : i < n
    · have hb := hF i hi
      have hb2 := hcb i hi
      have K : (0 < F i → F i ≤ c i) → wX_isBelowCosts_44 post (wX_isBelowCosts_2 post (nI t) q0 q1 q2 q3 q4 q5 q6 q7 q8 q9 q10 q11 (nI n) frR flR frc fin fbe flo fcl fts fln (aZ W) xd xh xa xu xv xr xt k) (nI t) (nI i) (zI (F i)) (zI (c i)) q0 q1 q2 q3 q4 q5 q6 q7 q8 q9 q10 q11 (nI n) frR flR frc fin fbe flo fcl fts fln (aZ W) xd xh xa xu xv xr xt := fun hk => by
        refine zb_le 0 (F i) (fun hq => nm_r (nI_1 i) (ih (i + 1) (by omega) (by omega) (lt_s h3 ⟨hk, fun z => by omega⟩))) (fun hq => zb_le (c i) (F i) (fun hr => nm_r (nI_1 i) (ih (i + 1) (by omega) (by omega) (lt_s h3 ⟨hk, fun _ => hr⟩))) (fun hr => H0 (fun z => ?_)))
        have := (z i hi).2 hq
        omega
      refine br_f (nI_ge hi (by omega)) ⟨in_n (t * 8 + i) (by omega) (ix_x t i), nm_r (e' := zI (F i)) ((rd_z (t * 8 + i) (ix_x t i)).trans (congrArg zI (h i hi))) ⟨in_n (27 * 8 + i) (by omega) (ix_216 i), nm_r (e' := zI (c i)) ((rd_z (27 * 8 + i) (ix_216 i)).trans (congrArg zI (hc i hi))) (zb_le (F i) 0 (fun hq => K (fun z => by omega)) (fun hq => zb_lt (c i) (F i) (fun hr => H0 (fun z => ?_)) (fun hr => K (fun _ => hr))))⟩⟩
      have := (z i hi).1 hq
      omega
    · have e : i = n := by omega
      subst e
      exact br_t (nI_le (Nat.le_refl _) (by omega)) (H1 h3)
theorem xw_bel {post : Int32 → Prop} {t : Nat} {F c : Nat → Int} (hn : n ≤ 8) (ht : t < 60) (h : ∀ v, v < n → W (t * 8 + v) = F v) (hc : ∀ v, v < n → W (27 * 8 + v) = c v) (hF : ∀ v, v < n → -100000000 ≤ F v ∧ F v ≤ 100000000) (hcb : ∀ v, v < n → -1000 ≤ c v ∧ c v ≤ 1000) (H1 : pb_bc F c n → post 1) (H0 : ¬ pb_bc F c n → post 0) : wpX_isBelowCosts post (q0, q1, q2, q3, q4, q5, q6, q7, q8, q9, q10, q11, nI n, frR, flR, frc, fin, fbe, flo, fcl, fts, fln, aZ W, xd, xh, xa, xu, xv, xr, xt) (nI t) :=
  Exists.intro (n + 1) (xl_bel hn ht h hc hF hcb H1 H0 (n + 1) 0 (by omega) (by omega) lt_0)
theorem pb_ob_s (c : Nat → Int) (n m : Nat) : pb_ob c (n + 1) m = pb_ob c n m + (if m.testBit n = true then c n else 0) := rfl
theorem xl_obj {post : Int32 → Prop} {m : Nat} {c : Nat → Int} (hn : n ≤ 8) (hm : m < 2147483648) (hc : ∀ v, v < n → W (27 * 8 + v) = c v) (H : post (zI (pb_ob c n m))) : ∀ k i : Nat, i ≤ n → n < k + i → wX_objective_4 post (nI m) q0 q1 q2 q3 q4 q5 q6 q7 q8 q9 q10 q11 (nI n) frR flR frc fin fbe flo fcl fts fln (aZ W) xd xh xa xu xv xr xt k (zI (pb_ob c i m)) (nI i) := by
  intro k
  induction k with
  | zero => intro i h1 h2; omega
  | succ k ih =>
    intro i h1 h2
    by_cases hi : i < n
    · have ih' := ih (i + 1) (by omega) (by omega)
      rw [pb_ob_s] at ih'
      refine br_f (nI_ge hi (by omega)) (bt_br hm (by omega) (fun hb => ⟨in_n (27 * 8 + i) (by omega) (ix_216 i), nm_r (e' := zI (pb_ob c i m + c i)) ?_ (nm_r (nI_1 i) ?_)⟩) (fun hb => nm_r (nI_1 i) ?_))
      · rw [rd_z (27 * 8 + i) (ix_216 i), hc i hi, zI_add]
      · rw [if_pos hb] at ih'; exact ih'
      · rw [if_neg (by rw [hb]; decide), Int.add_zero] at ih'; exact ih'
    · have e : i = n := by omega
      subst e
      exact br_t (nI_le (Nat.le_refl _) (by omega)) H
theorem xw_obj {post : Int32 → Prop} {m : Nat} {c : Nat → Int} (hn : n ≤ 8) (hm : m < 2147483648) (hc : ∀ v, v < n → W (27 * 8 + v) = c v) (H : post (zI (pb_ob c n m))) : wpX_objective post (q0, q1, q2, q3, q4, q5, q6, q7, q8, q9, q10, q11, nI n, frR, flR, frc, fin, fbe, flo, fcl, fts, fln, aZ W, xd, xh, xa, xu, xv, xr, xt) (nI m) :=
  Exists.intro (n + 1) (xl_obj hn hm hc H (n + 1) 0 (by omega) (by omega))
theorem xl_sts {post : Int32 → Prop} {t m : Nat} {F : Nat → Int} {d : Int} (hn : n ≤ 8) (ht : t < 60) (hm : m < 2147483648) (h : fo_is W D n t F d) (hF : ∀ v, v < n → -100000000 ≤ F v ∧ F v ≤ 100000000) (hd : 0 ≤ d ∧ d ≤ 1000000000) (H1 : pb_sat F d n m → post 1) (H0 : ¬ pb_sat F d n m → post 0) : ∀ k i : Nat, i ≤ n → n < k + i → wX_satisfies_5 post (nI t) (nI m) q0 q1 q2 q3 q4 q5 q6 q7 q8 q9 q10 q11 (nI n) frR flR frc fin fbe flo fcl fts fln (aZ W) (aZ D) xh xa xu xv xr xt k (zI (pb_sm (fun v => pb_lit (F v) (m.testBit v)) i)) (nI i) := by
  intro k
  induction k with
  | zero => intro i h1 h2; omega
  | succ k ih =>
    intro i h1 h2
    by_cases hi : i < n
    · have hb := hF i hi
      have ih' := ih (i + 1) (by omega) (by omega)
      rw [pb_sm_s] at ih'
      refine br_f (nI_ge hi (by omega)) ⟨in_n (t * 8 + i) (by omega) (ix_x t i), nm_r (e' := zI (F i)) ((rd_z (t * 8 + i) (ix_x t i)).trans (congrArg zI (h.1 i hi))) (bt_br hm (by omega) (fun hbt => ?_) (fun hbt => ?_))⟩
      · rw [hbt, pb_lit_t] at ih'
        refine zb_le (F i) 0 (fun hq => ?_) (fun hq => br_f (by decide) (nm_r (e' := zI (pb_sm (fun v => pb_lit (F v) (m.testBit v)) i + max (F i) 0)) ?_ (nm_r (nI_1 i) ih')))
        · rw [show max (F i) 0 = 0 by omega, Int.add_zero] at ih'
          exact zb_le 0 (F i) (fun hr => nm_r (nI_1 i) ih') (fun hr => br_f (by decide) (nm_r (nI_1 i) ih'))
        · rw [zI_add]; exact congrArg zI (by omega)
      · rw [hbt, pb_lit_f] at ih'
        have K : wX_satisfies_63 post (wX_satisfies_5 post (nI t) (nI m) q0 q1 q2 q3 q4 q5 q6 q7 q8 q9 q10 q11 (nI n) frR flR frc fin fbe flo fcl fts fln (aZ W) (aZ D) xh xa xu xv xr xt k) (nI t) (nI m) (zI (pb_sm (fun v => pb_lit (F v) (m.testBit v)) i)) (nI i) (zI (F i)) 0 q0 q1 q2 q3 q4 q5 q6 q7 q8 q9 q10 q11 (nI n) frR flR frc fin fbe flo fcl fts fln (aZ W) (aZ D) xh xa xu xv xr xt := by
          refine zb_le 0 (F i) (fun hr => ?_) (fun hr => br_t rfl (nm_r (e' := zI (pb_sm (fun v => pb_lit (F v) (m.testBit v)) i + max (-F i) 0)) ?_ (nm_r (nI_1 i) ih')))
          · rw [show max (-F i) 0 = 0 by omega, Int.add_zero] at ih'
            exact nm_r (nI_1 i) ih'
          · rw [zI_sub]; exact congrArg zI (by omega)
        exact zb_le (F i) 0 (fun hq => K) (fun hq => br_t rfl K)
    · have e : i = n := by omega
      subst e
      have hm2 := pb_sm_8 (g := fun v => pb_lit (F v) (m.testBit v)) (B := 100000000) hn (by omega) (fun v hv => by
        have := pb_lit_nn (F v) (m.testBit v)
        have := pb_lit_ab (F v) (m.testBit v)
        have := pb_ab_b (hF v hv)
        (try dsimp only); omega)
      exact br_t (nI_le (Nat.le_refl _) (by omega)) ⟨in_n t ht, zb_lt (pb_sm (fun v => pb_lit (F v) (m.testBit v)) i) d (fun hq => H0 (fun z => by unfold pb_sat at z; omega)) H1 rfl ((rd_z t).trans (congrArg zI h.2))⟩
theorem xw_sts {post : Int32 → Prop} {t m : Nat} {F : Nat → Int} {d : Int} (hn : n ≤ 8) (ht : t < 60) (hm : m < 2147483648) (h : fo_is W D n t F d) (hF : ∀ v, v < n → -100000000 ≤ F v ∧ F v ≤ 100000000) (hd : 0 ≤ d ∧ d ≤ 1000000000) (H1 : pb_sat F d n m → post 1) (H0 : ¬ pb_sat F d n m → post 0) : wpX_satisfies post (q0, q1, q2, q3, q4, q5, q6, q7, q8, q9, q10, q11, nI n, frR, flR, frc, fin, fbe, flo, fcl, fts, fln, aZ W, aZ D, xh, xa, xu, xv, xr, xt) (nI t) (nI m) :=
  Exists.intro (n + 1) (xl_sts hn ht hm h hF hd H1 H0 (n + 1) 0 (by omega) (by omega))
theorem xl_reset {post : SX → Prop} {Hd : Nat → Bool} (H : post (q0, q1, q2, q3, q4, q5, q6, q7, q8, q9, q10, q11, fn, frR, flR, frc, fin, fbe, zI (D 27), fcl, fts, fln, xw, aZ D, aB (cl Hd 12), xa, xu, xv, xr, xt)) : ∀ k i : Nat, i ≤ 12 → 12 < k + i → wX_reset_17 post q0 q1 q2 q3 q4 q5 q6 q7 q8 q9 q10 q11 fn frR flR frc fin fbe flo fcl fts fln k (nI i) xw (aZ D) (aB (cl Hd i)) xa xu xv xr xt := by
  intro k
  induction k with
  | zero => intro i h1 h2; omega
  | succ k ih =>
    intro i h1 h2
    by_cases hi : i < 12
    · refine br_f (nI_ge (b := 12) hi (by decide)) ⟨in_n i hi, nm_r (wr_b i false rfl b2_n0) (nm_r (nI_1 i) ?_)⟩
      rw [cl_s]
      exact ih (i + 1) (by omega) (by omega)
    · have e : i = 12 := by omega
      subst e
      exact br_t (by decide) (nm_r (show aZ D 27 = zI (D 27) from rfl) H)
theorem xw_reset {post : SX → Prop} {Hd : Nat → Bool} (H : post (q0, q1, q2, q3, q4, q5, q6, q7, q8, q9, q10, q11, fn, frR, flR, frc, xi false 0, zI 0, zI (D 27), b2 false, fts, fln, xw, aZ D, aB (cl Hd 12), xa, xu, xv, xr, xt)) : wpX_reset post (q0, q1, q2, q3, q4, q5, q6, q7, q8, q9, q10, q11, fn, frR, flR, frc, fin, fbe, flo, fcl, fts, fln, xw, aZ D, aB Hd, xa, xu, xv, xr, xt) := by
  have a := xl_reset (flo := flo) H 13 0 (by omega) (by omega)
  rw [cl_0] at a
  exact Exists.intro 13 a
theorem xw_take {post : SX → Prop} {m : Nat} {c : Nat → Int} {lo : Int} {co : Bool} (hn : n ≤ 8) (hm : m < 2147483648) (hc : ∀ v, v < n → W (27 * 8 + v) = c v) (hcb : ∀ v, v < n → -1000 ≤ c v ∧ c v ≤ 1000) (hlo : -1000000 ≤ lo ∧ lo ≤ 1000000) (H : post (q0, q1, q2, q3, q4, q5, q6, q7, q8, q9, q10, q11, nI n, frR, flR, frc, xi true m, zI (pb_ob c n m), zI lo, b2 (co || decide (lo = pb_ob c n m)), fts, fln, aZ W, xd, xh, xa, xu, xv, xr, xt)) : wpX_take post (q0, q1, q2, q3, q4, q5, q6, q7, q8, q9, q10, q11, nI n, frR, flR, frc, fin, fbe, zI lo, b2 co, fts, fln, aZ W, xd, xh, xa, xu, xv, xr, xt) (nI m) := by
  have hb := pb_sm_8 (g := fun v => if m.testBit v = true then c v else 0) (B := 1000) hn (by omega) (fun v hv => by
    have := hcb v hv
    (try dsimp only)
    split <;> omega)
  have hbo : -8000 ≤ pb_ob c n m ∧ pb_ob c n m ≤ 8000 := hb
  refine xw_obj hn hm hc (zb_eq lo (pb_ob c n m) (fun hq => ?_) (fun hq => ?_))
  · rw [decide_eq_true hq, Bool.or_true] at H; exact H
  · rw [decide_eq_false hq, Bool.or_false] at H; exact H
theorem pb_ob_b {m : Nat} {c : Nat → Int} (hn : n ≤ 8) (hcb : ∀ v, v < n → -1000 ≤ c v ∧ c v ≤ 1000) : -8000 ≤ pb_ob c n m ∧ pb_ob c n m ≤ 8000 :=
  pb_sm_8 (g := fun v => if m.testBit v = true then c v else 0) (B := 1000) hn (by omega) (fun v hv => by
    have := hcb v hv
    (try dsimp only)
    split <;> omega)
def st_v (has co : Bool) : Int32 := if has = true then (if co = true then 2 else 1) else (if co = true then 3 else 0)
theorem xw_status {post : Int32 → Prop} {has co : Bool} {im : Nat} (him : im < 2147483648) (H : post (st_v has co)) : wpX_status post (q0, q1, q2, q3, q4, q5, q6, q7, q8, q9, q10, q11, fn, frR, flR, frc, xi has im, fbe, flo, b2 co, fts, fln, xw, xd, xh, xa, xu, xv, xr, xt) := by
  refine zb_in him (fun h => ?_) (fun h => ?_)
  · subst h
    exact zb_b co (fun h2 => by subst h2; exact H) (fun h2 => by subst h2; exact H)
  · subst h
    exact zb_b co (fun h2 => by subst h2; exact H) (fun h2 => by subst h2; exact H)
theorem xw_shut {post : SX → Prop} {has : Bool} {im : Nat} {be lo : Int} (him : im < 2147483648) (H : post (q0, q1, q2, q3, q4, q5, q6, q7, q8, q9, q10, q11, fn, frR, flR, frc, xi has im, zI be, zI (if has = true then be else lo), b2 true, fts, fln, xw, xd, xh, xa, xu, xv, xr, xt)) : wpX_shut post (q0, q1, q2, q3, q4, q5, q6, q7, q8, q9, q10, q11, fn, frR, flR, frc, xi has im, zI be, zI lo, fcl, fts, fln, xw, xd, xh, xa, xu, xv, xr, xt) := by
  refine zb_in him (fun h => ?_) (fun h => ?_)
  · subst h; exact H
  · subst h; exact H
theorem xw_store {post : Int32 → SX → Prop} {s : Nat} {F : Nat → Int} {d : Int} {Hd : Nat → Bool} (hn : n ≤ 8) (hs : s < 12) (h : fo_is W D n 25 F d) (hF : ∀ v, v < n → -100000000 ≤ F v ∧ F v ≤ 100000000) (hd : 0 ≤ d ∧ d ≤ 1000000000) (H1 : ∀ W' D', fo_is W' D' n (10 + s) F d → (∀ i, i ≠ 10 + s → fo_eq W D W' D' n i) → pb_sm (fun v => pb_ab (F v)) n < d → post 2 (q0, q1, q2, q3, q4, q5, q6, q7, q8, q9, q10, q11, nI n, frR, flR, frc, fin, fbe, flo, fcl, fts, fln, aZ W', aZ D', aB (ug Hd s true), xa, xu, xv, xr, xt)) (H0 : ∀ W' D', fo_is W' D' n (10 + s) F d → (∀ i, i ≠ 10 + s → fo_eq W D W' D' n i) → d ≤ pb_sm (fun v => pb_ab (F v)) n → post 1 (q0, q1, q2, q3, q4, q5, q6, q7, q8, q9, q10, q11, nI n, frR, flR, frc, fin, fbe, flo, fcl, fts, fln, aZ W', aZ D', aB (ug Hd s true), xa, xu, xv, xr, xt)) : wpX_store post (q0, q1, q2, q3, q4, q5, q6, q7, q8, q9, q10, q11, nI n, frR, flR, frc, fin, fbe, flo, fcl, fts, fln, aZ W, aZ D, aB Hd, xa, xu, xv, xr, xt) (nI s) := by
  refine nm_r (ix_10 s) (xw_copy (s := 25) hn (by omega) (by omega) h (fun W' D' a b => And.intro (in_n s hs) (nm_r (wr_b s true rfl b2_n1) (xw_con hn (by omega) a hF hd (fun z => br_f (by decide) (H1 W' D' a b z)) (fun z => br_t rfl (H0 W' D' a b z))))))
end
end
section
/-! Y: small functions, rows -/
def pb_of (c : Nat → Int) (n : Nat) : Int := pb_sm (fun v => min (c v) 0) n
section
variable {gn gR gL gk gc gh gi gl gx : Int32} {yw yd yf yp yc ya yv : Nat → Int32}
variable {w d C : Nat → Int} {n : Nat}
theorem yw_abs {post : Int32 → Prop} {u : SY} {y : Int32} (x : Int) (H : post (zI (pb_ab x))) (hy : y = zI x := by rfl) (h1 : -2147483648 < x := by omega) (h2 : x < 2147483648 := by omega) : wpY_abs post u y := by
  subst hy
  show (0 ≤ zI x → post (zI x)) ∧ (¬ 0 ≤ zI x → post (-zI x))
  refine zb_le 0 x (fun h => ?_) (fun h => ?_)
  · rw [show pb_ab x = x by unfold pb_ab; omega] at H; exact H
  · rw [show pb_ab x = -x by unfold pb_ab; omega] at H; rw [zI_neg]; exact H
theorem yw_in1 {post : Int32 → Prop} {u : SY} {p q r : Int32} (a b c : Int) (h : b ≤ a ∧ a ≤ c) (H : post 1) (hp : p = zI a := by rfl) (hq : q = zI b := by rfl) (hr : r = zI c := by rfl) (h1 : -2147483648 ≤ a := by omega) (h2 : a < 2147483648 := by omega) (h3 : -2147483648 ≤ b := by omega) (h4 : b < 2147483648 := by omega) (h5 : -2147483648 ≤ c := by omega) (h6 : c < 2147483648 := by omega) : wpY_within post u p q r := by
  show (p < q → post 0) ∧ (¬ p < q → ((r < p → post 0) ∧ (¬ r < p → post 1)))
  exact zb_lt a b (fun z => absurd z (by omega)) (fun _ => zb_lt c a (fun z => absurd z (by omega)) (fun _ => H) hr hp) hp hq
theorem yw_in0 {post : Int32 → Prop} {u : SY} {p q r : Int32} (a b c : Int) (h : ¬ (b ≤ a ∧ a ≤ c)) (H : post 0) (hp : p = zI a := by rfl) (hq : q = zI b := by rfl) (hr : r = zI c := by rfl) (h1 : -2147483648 ≤ a := by omega) (h2 : a < 2147483648 := by omega) (h3 : -2147483648 ≤ b := by omega) (h4 : b < 2147483648 := by omega) (h5 : -2147483648 ≤ c := by omega) (h6 : c < 2147483648 := by omega) : wpY_within post u p q r := by
  show (p < q → post 0) ∧ (¬ p < q → ((r < p → post 0) ∧ (¬ r < p → post 1)))
  exact zb_lt a b (fun _ => H) (fun _ => zb_lt c a (fun _ => H) (fun z => absurd z (by omega)) hr hp) hp hq
theorem nI_m1 (N : Nat) : nI N - 1 = zI ((N : Int) - 1) := by
  rw [zI_nI, show (1 : Int32) = zI 1 from rfl, zI_sub]
theorem yw_rg1 {post : Int32 → Prop} {u : SY} {j N : Nat} {r : Int32} (hj : j < N) (hN : N < 2147483648) (hr : r = nI N - 1) (H : post 1) : wpY_within post u (nI j) 0 r :=
  yw_in1 (j : Int) 0 ((N : Int) - 1) (by omega) H (zI_nI j) rfl (hr.trans (nI_m1 N))
theorem yw_rg0 {post : Int32 → Prop} {u : SY} {p : Int32} {N : Nat} {r : Int32} (hp : ∀ j, j < N → p ≠ nI j) (hN : N < 2147483648) (hr : r = nI N - 1) (H : post 0) : wpY_within post u p 0 r := by
  refine yw_in0 p.toInt 0 ((N : Int) - 1) (fun z => ?_) H (zI_of p) rfl (hr.trans (nI_m1 N)) p.le_toInt p.toInt_lt
  refine hp p.toInt.toNat (by omega) ?_
  rw [zI_nI, show ((p.toInt.toNat : Nat) : Int) = p.toInt by omega]
  exact zI_of p
theorem yw_slot1 {post : Int32 → Prop} {j l : Nat} (hj : j < l) (hn : l ≤ 12) (h : post 1) : wpY_isSlot post (gn, gR, nI l, gk, gc, gh, gi, gl, gx, yw, yd, yf, yp, yc, ya, yv) (nI j) := xr_1 hj (by omega) h
theorem yw_slot0 {post : Int32 → Prop} {p : Int32} {l : Nat} (hp : ∀ j, j < l → p ≠ nI j) (hn : l ≤ 12) (h : post 0) : wpY_isSlot post (gn, gR, nI l, gk, gc, gh, gi, gl, gx, yw, yd, yf, yp, yc, ya, yv) p := xr_0 hp (by omega) h
theorem cb_m {m i : Nat} {c : Int} {x : Int32} (hx : x = zI c) (hm : m < 2147483648) (hi : i < 32) : x * ((nI m >>> (nI i &&& 31)) &&& 1) = zI (if m.testBit i = true then c else 0) := by
  rw [hx, bt_x hm hi, zI_nI, zI_mul]
  cases m.testBit i
  · rw [if_neg (by decide)]; exact congrArg zI (Int.mul_zero c)
  · rw [if_pos rfl]; exact congrArg zI (Int.mul_one c)
theorem yl_obj {post : Int32 → Prop} {m : Nat} (hn : n ≤ 8) (hm : m < 2147483648) (H : post (zI (pb_ob C n m))) : ∀ k i : Nat, i ≤ n → n < k + i → wY_objective_4 post (nI m) (nI n) gR gL gk gc gh gi gl gx yw yd yf yp (aZ C) ya yv k (zI (pb_ob C i m)) (nI i) := by
  intro k
  induction k with
  | zero => intro i h1 h2; omega
  | succ k ih =>
    intro i h1 h2
    by_cases hi : i < n
    · have ih' := ih (i + 1) (by omega) (by omega)
      refine br_f (nI_ge hi (by omega)) (And.intro (in_n i (by omega)) ?_)
      refine nm_r (e' := zI (pb_ob C (i + 1) m)) ?_ (nm_r (nI_1 i) ih')
      rw [cb_m (rd_z i) hm (by omega), zI_add, pb_ob_s]
    · have e : i = n := by omega
      subst e
      exact br_t (nI_le (Nat.le_refl _) (by omega)) H
theorem yw_obj {post : Int32 → Prop} {m : Nat} (hn : n ≤ 8) (hm : m < 2147483648) (H : post (zI (pb_ob C n m))) : wpY_objective post (nI n, gR, gL, gk, gc, gh, gi, gl, gx, yw, yd, yf, yp, aZ C, ya, yv) (nI m) :=
  Exists.intro (n + 1) (yl_obj hn hm H (n + 1) 0 (by omega) (by omega))
theorem pb_of_s (c : Nat → Int) (i : Nat) : pb_of c (i + 1) = pb_of c i + min (c i) 0 := rfl
theorem yl_off {post : Int32 → Prop} (hn : n ≤ 8) (hC : ∀ v, v < n → -1000 ≤ C v ∧ C v ≤ 1000) (H : post (zI (pb_of C n))) : ∀ k i : Nat, i ≤ n → n < k + i → wY_offset_4 post (nI n) gR gL gk gc gh gi gl gx yw yd yf yp (aZ C) ya yv k (zI (pb_of C i)) (nI i) := by
  intro k
  induction k with
  | zero => intro i h1 h2; omega
  | succ k ih =>
    intro i h1 h2
    by_cases hi : i < n
    · have hb := hC i hi
      have ih' := ih (i + 1) (by omega) (by omega)
      refine br_f (nI_ge hi (by omega)) (And.intro (in_n i (by omega)) (zb_le 0 (C i) (fun hq => nm_r (e' := zI (pb_of C (i + 1))) ?_ (nm_r (nI_1 i) ih')) (fun hq => And.intro (in_n i (by omega)) (nm_r (e' := zI (pb_of C (i + 1))) ?_ (nm_r (nI_1 i) ih'))) rfl (rd_z i)))
      · rw [Int32.add_zero, pb_of_s]; exact congrArg zI (by omega)
      · rw [rd_z i, zI_add, pb_of_s]; exact congrArg zI (by omega)
    · have e : i = n := by omega
      subst e
      exact br_t (nI_le (Nat.le_refl _) (by omega)) H
theorem yw_off {post : Int32 → Prop} (hn : n ≤ 8) (hC : ∀ v, v < n → -1000 ≤ C v ∧ C v ≤ 1000) (H : post (zI (pb_of C n))) : wpY_offset post (nI n, gR, gL, gk, gc, gh, gi, gl, gx, yw, yd, yf, yp, aZ C, ya, yv) :=
  Exists.intro (n + 1) (yl_off hn hC H (n + 1) 0 (by omega) (by omega))
theorem yl_ver {post : Int32 → Prop} {t : Nat} {F : Nat → Int} {e : Int} (hn : n ≤ 8) (ht : t < 24) (h : fo_is w d n t F e) (hF : ∀ v, v < n → -100000000 ≤ F v ∧ F v ≤ 100000000) (hd : 0 ≤ e ∧ e ≤ 1000000000) (H1 : pb_sm (fun v => pb_ab (F v)) n < e → post 2) (H0 : e ≤ pb_sm (fun v => pb_ab (F v)) n → post 1) : ∀ k i : Nat, i ≤ n → n < k + i → wY_verdict_4 post (nI t) (nI n) gR gL gk gc gh gi gl gx (aZ w) (aZ d) yf yp yc ya yv k (zI (pb_sm (fun v => pb_ab (F v)) i)) (nI i) := by
  intro k
  induction k with
  | zero => intro i h1 h2; omega
  | succ k ih =>
    intro i h1 h2
    by_cases hi : i < n
    · have hb := hF i hi
      have ih' := ih (i + 1) (by omega) (by omega)
      rw [pb_sm_s] at ih'
      exact br_f (nI_ge hi (by omega)) ⟨in_n (t * 8 + i) (by omega) (ix_y t i), yw_abs (F i) (nm_r (zI_add _ _) (nm_r (nI_1 i) ih')) ((rd_z (t * 8 + i) (ix_y t i)).trans (congrArg zI (h.1 i hi)))⟩
    · have e : i = n := by omega
      subst e
      have hm := pb_sm_8 (g := fun v => pb_ab (F v)) (B := 100000000) hn (by omega) (fun v hv => pb_ab_b (hF v hv))
      exact br_t (nI_le (Nat.le_refl _) (by omega)) ⟨in_n t ht, zb_le e (pb_sm (fun v => pb_ab (F v)) i) H0 H1 ((rd_z t).trans (congrArg zI h.2))⟩
theorem yw_ver {post : Int32 → Prop} {t : Nat} {F : Nat → Int} {e : Int} (hn : n ≤ 8) (ht : t < 24) (h : fo_is w d n t F e) (hF : ∀ v, v < n → -100000000 ≤ F v ∧ F v ≤ 100000000) (hd : 0 ≤ e ∧ e ≤ 1000000000) (H1 : pb_sm (fun v => pb_ab (F v)) n < e → post 2) (H0 : e ≤ pb_sm (fun v => pb_ab (F v)) n → post 1) : wpY_verdict post (nI n, gR, gL, gk, gc, gh, gi, gl, gx, aZ w, aZ d, yf, yp, yc, ya, yv) (nI t) :=
  Exists.intro (n + 1) (yl_ver hn ht h hF hd H1 H0 (n + 1) 0 (by omega) (by omega))
theorem yl_sts {post : Int32 → Prop} {t m : Nat} {F : Nat → Int} {e : Int} (hn : n ≤ 8) (ht : t < 24) (hm : m < 2147483648) (h : fo_is w d n t F e) (hF : ∀ v, v < n → -100000000 ≤ F v ∧ F v ≤ 100000000) (hd : 0 ≤ e ∧ e ≤ 1000000000) (H1 : pb_sat F e n m → post 1) (H0 : ¬ pb_sat F e n m → post 0) : ∀ k i : Nat, i ≤ n → n < k + i → wY_satisfied_5 post (nI t) (nI m) (nI n) gR gL gk gc gh gi gl gx (aZ w) (aZ d) yf yp yc ya yv k (zI (pb_sm (fun v => pb_lit (F v) (m.testBit v)) i)) (nI i) := by
  intro k
  induction k with
  | zero => intro i h1 h2; omega
  | succ k ih =>
    intro i h1 h2
    by_cases hi : i < n
    · have hb := hF i hi
      have ih' := ih (i + 1) (by omega) (by omega)
      have e1 : ∀ y : Int, zI (pb_sm (fun v => pb_lit (F v) (m.testBit v)) i) + zI y = zI (pb_sm (fun v => pb_lit (F v) (m.testBit v)) i + y) := fun y => zI_add _ _
      refine br_f (nI_ge hi (by omega)) ⟨in_n (t * 8 + i) (by omega) (ix_y t i), nm_r (e' := zI (F i)) ((rd_z (t * 8 + i) (ix_y t i)).trans (congrArg zI (h.1 i hi))) (zb_le (F i) 0 (fun hq => ?_) (fun hq => ?_))⟩
      · refine nm_r (e' := zI (pb_sm (fun v => pb_lit (F v) (m.testBit v)) (i + 1))) ?_ (nm_r (nI_1 i) ih')
        rw [pb_sm_s, bt_x hm (by omega), zI_nI, zI_neg, show (1 : Int32) = zI 1 from rfl, zI_sub, zI_mul, e1]
        cases m.testBit i
        · rw [pb_lit_f, show max (-F i) 0 = -F i by omega]; exact congrArg zI (by show _ + -F i * (1 - 0) = _; omega)
        · rw [pb_lit_t, show max (F i) 0 = 0 by omega]; exact congrArg zI (by show _ + -F i * (1 - 1) = _; omega)
      · refine nm_r (e' := zI (pb_sm (fun v => pb_lit (F v) (m.testBit v)) (i + 1))) ?_ (nm_r (nI_1 i) ih')
        rw [pb_sm_s, cb_m rfl hm (by omega), e1]
        cases m.testBit i
        · rw [pb_lit_f, if_neg (by decide)]; exact congrArg zI (by omega)
        · rw [pb_lit_t, if_pos rfl]; exact congrArg zI (by omega)
    · have ei : i = n := by omega
      subst ei
      have hm2 := pb_sm_8 (g := fun v => pb_lit (F v) (m.testBit v)) (B := 100000000) hn (by omega) (fun v hv => by
        have := pb_lit_nn (F v) (m.testBit v)
        have := pb_lit_ab (F v) (m.testBit v)
        have := pb_ab_b (hF v hv)
        (try dsimp only); omega)
      exact br_t (nI_le (Nat.le_refl _) (by omega)) ⟨in_n t ht, zb_lt (pb_sm (fun v => pb_lit (F v) (m.testBit v)) i) e (fun hq => H0 (fun z => by unfold pb_sat at z; omega)) H1 rfl ((rd_z t).trans (congrArg zI h.2))⟩
theorem yw_sts {post : Int32 → Prop} {t m : Nat} {F : Nat → Int} {e : Int} (hn : n ≤ 8) (ht : t < 24) (hm : m < 2147483648) (h : fo_is w d n t F e) (hF : ∀ v, v < n → -100000000 ≤ F v ∧ F v ≤ 100000000) (hd : 0 ≤ e ∧ e ≤ 1000000000) (H1 : pb_sat F e n m → post 1) (H0 : ¬ pb_sat F e n m → post 0) : wpY_satisfied post (nI n, gR, gL, gk, gc, gh, gi, gl, gx, aZ w, aZ d, yf, yp, yc, ya, yv) (nI t) (nI m) :=
  Exists.intro (n + 1) (yl_sts hn ht hm h hF hd H1 H0 (n + 1) 0 (by omega) (by omega))
/-- a mask keeps the first rc rows -/
def pb_fe (w d : Nat → Int) (n rc m : Nat) : Prop := ∀ r, r < rc → pb_sat (fun v => w (r * 8 + v)) (d r) n m
def pb_bd (w d : Nat → Int) (n rc : Nat) : Prop := ∀ r, r < rc → (∀ v, v < n → -100000000 ≤ w (r * 8 + v) ∧ w (r * 8 + v) ≤ 100000000) ∧ 0 ≤ d r ∧ d r ≤ 1000000000
theorem yl_fea {post : Int32 → Prop} {m rc : Nat} (hn : n ≤ 8) (hrc : rc ≤ 10) (hm : m < 2147483648) (hb : pb_bd w d n rc) (H1 : pb_fe w d n rc m → post 1) (H0 : ¬ pb_fe w d n rc m → post 0) : ∀ k i : Nat, i ≤ rc → rc < k + i → pb_fe w d n i m → wY_feasible_2 post (nI m) (nI n) gR gL gk (nI rc) gh gi gl gx (aZ w) (aZ d) yf yp yc ya yv k (nI i) := by
  intro k
  induction k with
  | zero => intro i h1 h2; omega
  | succ k ih =>
    intro i h1 h2 h3
    by_cases hi : i < rc
    · have hbi := hb i hi
      exact br_f (nI_ge hi (by omega)) (yw_sts hn (by omega) hm (fo_rf w d n i) hbi.1 hbi.2 (fun hs => br_f (by decide) (nm_r (nI_1 i) (ih (i + 1) (by omega) (by omega) (lt_s h3 hs)))) (fun hs => br_t rfl (H0 (fun z => hs (z i hi)))))
    · have e : i = rc := by omega
      subst e
      exact br_t (nI_le (Nat.le_refl _) (by omega)) (H1 h3)
theorem yw_fea {post : Int32 → Prop} {m rc : Nat} (hn : n ≤ 8) (hrc : rc ≤ 10) (hm : m < 2147483648) (hb : pb_bd w d n rc) (H1 : pb_fe w d n rc m → post 1) (H0 : ¬ pb_fe w d n rc m → post 0) : wpY_feasible post (nI n, gR, gL, gk, nI rc, gh, gi, gl, gx, aZ w, aZ d, yf, yp, yc, ya, yv) (nI m) :=
  Exists.intro (rc + 1) (yl_fea hn hrc hm hb H1 H0 (rc + 1) 0 (by omega) (by omega) lt_0)
def pb_be (w d C : Nat → Int) (n rc : Nat) (has : Bool) (im m : Nat) : Prop := pb_fe w d n rc m ∧ (has = true → pb_ob C n m < pb_ob C n im)
theorem yw_bet {post : Int32 → Prop} {m rc im : Nat} {has : Bool} (hn : n ≤ 8) (hrc : rc ≤ 10) (hm : m < 2147483648) (hb : pb_bd w d n rc) (hC : ∀ v, v < n → -1000 ≤ C v ∧ C v ≤ 1000) (hgi : has = true → gi = nI im ∧ im < 2147483648) (H1 : pb_be w d C n rc has im m → post 1) (H0 : ¬ pb_be w d C n rc has im m → post 0) : wpY_better post (nI n, gR, gL, gk, nI rc, b2 has, gi, gl, gx, aZ w, aZ d, yf, yp, aZ C, ya, yv) (nI m) := by
  refine yw_fea hn hrc hm hb (fun hf => br_f (by decide) (zb_b has (fun h => H1 ⟨hf, fun z => by rw [h] at z; cases z⟩) (fun h => ?_))) (fun hf => br_t rfl (H0 (fun z => hf z.1)))
  obtain ⟨e, him⟩ := hgi h
  subst e
  have b1 := pb_ob_b (m := m) hn hC
  have b2' := pb_ob_b (m := im) hn hC
  exact yw_obj hn hm (yw_obj hn him (zb_le (pb_ob C n im) (pb_ob C n m) (fun hq => H0 (fun z => by have := z.2 h; omega)) (fun hq => H1 ⟨hf, fun _ => hq⟩)))
theorem yw_status {post : Int32 → Prop} {has co : Bool} (H : post (st_v has co)) : wpY_status post (gn, gR, gL, gk, gc, b2 has, gi, gl, b2 co, yw, yd, yf, yp, yc, ya, yv) := by
  refine zb_b co (fun h => ?_) (fun h => ?_)
  · subst h
    exact zb_b has (fun h2 => by subst h2; exact H) (fun h2 => by subst h2; exact H)
  · subst h
    exact zb_b has (fun h2 => by subst h2; exact H) (fun h2 => by subst h2; exact H)
theorem yl_reset {post : SY → Prop} {Hd : Nat → Bool} {l : Nat} (hl : l ≤ 12) (H : post (gn, gR, nI l, gk, gc, gh, gi, gl, gx, yw, yd, aB (cl Hd l), yp, yc, ya, yv)) : ∀ k i : Nat, i ≤ l → l < k + i → wY_reset_20 post gn gR (nI l) gk gc gh gi gl gx k (nI i) yw yd (aB (cl Hd i)) yp yc ya yv := by
  intro k
  induction k with
  | zero => intro i h1 h2; omega
  | succ k ih =>
    intro i h1 h2
    by_cases hi : i < l
    · refine br_f (nI_ge hi (by omega)) ⟨in_n i (by omega), nm_r (wr_b i false rfl b2_n0) (nm_r (nI_1 i) ?_)⟩
      rw [cl_s]
      exact ih (i + 1) (by omega) (by omega)
    · have e : i = l := by omega
      subst e
      exact br_t (nI_le (Nat.le_refl _) (by omega)) H
theorem yw_reset {post : SY → Prop} {Hd : Nat → Bool} {l : Nat} (hn : n ≤ 8) (hl : l ≤ 12) (hC : ∀ v, v < n → -1000 ≤ C v ∧ C v ≤ 1000) (H : post (nI n, gR, nI l, gk, gc, b2 false, gi, zI (pb_of C n), b2 false, yw, yd, aB (cl Hd l), yp, aZ C, ya, yv)) : wpY_reset post (nI n, gR, nI l, gk, gc, gh, gi, gl, gx, yw, yd, aB Hd, yp, aZ C, ya, yv) := by
  have a := yl_reset (Hd := Hd) hl H (l + 1) 0 (by omega) (by omega)
  rw [cl_0] at a
  exact yw_off hn hC (Exists.intro (l + 1) a)
theorem yw_take {post : SY → Prop} {m : Nat} {lo : Int} {co : Bool} (hn : n ≤ 8) (hm : m < 2147483648) (hC : ∀ v, v < n → -1000 ≤ C v ∧ C v ≤ 1000) (hlo : -1000000 ≤ lo ∧ lo ≤ 1000000) (H : post (nI n, gR, gL, gk, gc, b2 true, nI m, zI lo, b2 (co || decide (lo = pb_ob C n m)), yw, yd, yf, yp, aZ C, ya, yv)) : wpY_take post (nI n, gR, gL, gk, gc, gh, gi, zI lo, b2 co, yw, yd, yf, yp, aZ C, ya, yv) (nI m) := by
  have hbo := pb_ob_b (m := m) hn hC
  refine yw_obj hn hm (zb_eq lo (pb_ob C n m) (fun hq => ?_) (fun hq => ?_))
  · rw [decide_eq_true hq, Bool.or_true] at H; exact H
  · rw [decide_eq_false hq, Bool.or_false] at H; exact H
theorem yw_shut {post : SY → Prop} {has : Bool} {im : Nat} {lo : Int} (hn : n ≤ 8) (hgi : has = true → gi = nI im ∧ im < 2147483648) (H : post (nI n, gR, gL, gk, gc, b2 has, gi, zI (if has = true then pb_ob C n im else lo), b2 true, yw, yd, yf, yp, aZ C, ya, yv)) : wpY_shut post (nI n, gR, gL, gk, gc, b2 has, gi, zI lo, gx, yw, yd, yf, yp, aZ C, ya, yv) := by
  refine zb_b has (fun h => ?_) (fun h => ?_)
  · subst h; exact H
  · obtain ⟨e, him⟩ := hgi h
    subst h
    subst e
    exact yw_obj hn him H
theorem yl_canon {post : SY → Prop} {t : Nat} {e : Int} {F : Nat → Int} (hn : n ≤ 8) (ht : t < 24) (h : ∀ v, v < n → w (t * 8 + v) = F v) (hF : ∀ v, v < n → -1000000 ≤ F v ∧ F v ≤ 1000000) (he : -1000000 ≤ e ∧ e ≤ 1000000) (H : post (nI n, gR, gL, gk, gc, gh, gi, gl, gx, aZ w, aZ (ug d t (max 0 (pb_cn F e n))), yf, yp, yc, ya, yv)) : ∀ k i : Nat, i ≤ n → n < k + i → wY_canon_5 post (nI t) (nI n) gR gL gk gc gh gi gl gx (aZ w) (aZ d) yf yp yc ya yv k (zI (pb_cn F e i)) (nI i) := by
  intro k
  induction k with
  | zero => intro i h1 h2; omega
  | succ k ih =>
    intro i h1 h2
    by_cases hi : i < n
    · have hb := hF i hi
      have ih' := ih (i + 1) (by omega) (by omega)
      have er : aZ w (8 * nI t + nI i).toNatClampNeg = zI (F i) := (rd_z (t * 8 + i) (ix_y t i)).trans (congrArg zI (h i hi))
      refine br_f (nI_ge hi (by omega)) ⟨in_n (t * 8 + i) (by omega) (ix_y t i), zb_le 0 (F i) (fun hq => nm_r (e' := zI (pb_cn F e (i + 1))) ?_ (nm_r (nI_1 i) ih')) (fun hq => ⟨in_n (t * 8 + i) (by omega) (ix_y t i), nm_r (e' := zI (pb_cn F e (i + 1))) ?_ (nm_r (nI_1 i) ih')⟩) rfl er⟩
      · rw [Int32.add_zero, pb_cn_s]; exact congrArg zI (by unfold pb_ng; omega)
      · rw [er, zI_neg, zI_add, pb_cn_s]; exact congrArg zI (by unfold pb_ng; omega)
    · have ei : i = n := by omega
      subst ei
      have hb := pb_cn_b (e := e) hn hF (by omega)
      refine br_t (nI_le (Nat.le_refl _) (by omega)) (zb_le 0 (pb_cn F e i) (fun hp => ⟨in_n t ht, nm_r (wr_z t (pb_cn F e i) rfl rfl) ?_⟩) (fun hp => ⟨in_n t ht, nm_r (wr_z t 0 rfl rfl) ?_⟩))
      · rw [show max 0 (pb_cn F e i) = pb_cn F e i by omega] at H; exact H
      · rw [show max 0 (pb_cn F e i) = 0 by omega] at H; exact H
theorem yw_canon {post : SY → Prop} {t : Nat} {e : Int} {F : Nat → Int} (hn : n ≤ 8) (ht : t < 24) (h : ∀ v, v < n → w (t * 8 + v) = F v) (hF : ∀ v, v < n → -1000000 ≤ F v ∧ F v ≤ 1000000) (he : -1000000 ≤ e ∧ e ≤ 1000000) (H : post (nI n, gR, gL, gk, gc, gh, gi, gl, gx, aZ w, aZ (ug d t (max 0 (pb_cn F e n))), yf, yp, yc, ya, yv)) : wpY_canon post (nI n, gR, gL, gk, gc, gh, gi, gl, gx, aZ w, aZ d, yf, yp, yc, ya, yv) (nI t) (zI e) := by
  have a := yl_canon hn ht h hF he H (n + 1) 0 (by omega) (by omega)
  rw [show pb_cn F e 0 = e from Int.add_zero e] at a
  exact Exists.intro (n + 1) a
theorem yl_bound {post : SY → Prop} {t im : Nat} {F : Nat → Int} (hn : n ≤ 8) (ht : t < 24) (him : im < 2147483648) (hC : ∀ v, v < n → -1000 ≤ C v ∧ C v ≤ 1000) (hF : ∀ v, v < n → F v = -1 * C v) (H : post (nI n, gR, gL, gk, gc, gh, nI im, gl, gx, aZ (rs w t n F), aZ (ug d t (max 0 (pb_cn F (1 - pb_ob C n im) n))), yf, yp, aZ C, ya, yv)) : ∀ k i : Nat, i ≤ n → n < k + i → wY_bound_2 post (nI t) (nI n) gR gL gk gc gh (nI im) gl gx k (nI i) (aZ (rs w t i F)) (aZ d) yf yp (aZ C) ya yv := by
  intro k
  induction k with
  | zero => intro i h1 h2; omega
  | succ k ih =>
    intro i h1 h2
    by_cases hi : i < n
    · have ih' := ih (i + 1) (by omega) (by omega)
      refine br_f (nI_ge hi (by omega)) ⟨in_n i (by omega), in_n (t * 8 + i) (by omega) (ix_y t i), nm_r (wr_z (t * 8 + i) (F i) (ix_y t i) ?_) (nm_r (nI_1 i) ?_)⟩
      · rw [rd_z i, zI_neg, hF i hi]; exact congrArg zI (by omega)
      · rw [rs_s]; exact ih'
    · have e : i = n := by omega
      subst e
      have hbo := pb_ob_b (m := im) hn hC
      refine br_t (nI_le (Nat.le_refl _) (by omega)) (yw_obj hn him ?_)
      rw [show (1 : Int32) = zI 1 from rfl, zI_sub]
      exact yw_canon hn ht (fun v hv => rs_lt hv) (fun v hv => by have := hC v hv; rw [hF v hv]; omega) (by omega) H
theorem yw_bound {post : SY → Prop} {t im : Nat} (hn : n ≤ 8) (ht : t < 24) (him : im < 2147483648) (hC : ∀ v, v < n → -1000 ≤ C v ∧ C v ≤ 1000) (H : ∀ w' d', fo_is w' d' n t (fun v => -1 * C v) (max 0 (pb_cn (fun v => -1 * C v) (1 - pb_ob C n im) n)) → (∀ i, i ≠ t → fo_eq w d w' d' n i) → post (nI n, gR, gL, gk, gc, gh, nI im, gl, gx, aZ w', aZ d', yf, yp, aZ C, ya, yv)) : wpY_bound post (nI n, gR, gL, gk, gc, gh, nI im, gl, gx, aZ w, aZ d, yf, yp, aZ C, ya, yv) (nI t) := by
  have a := yl_bound (F := fun v => -1 * C v) hn ht him hC (fun _ _ => rfl) (H _ _ fo_rs (fun i hi => fe_rs hn hi)) (n + 1) 0 (by omega) (by omega)
  rw [rs_0] at a
  exact Exists.intro (n + 1) a
theorem yl_app {post : SY → Prop} {rc : Nat} {g e : Int} {F P : Nat → Int} (hn : n ≤ 8) (ht : rc < 10) (hF : ∀ v, v < n → g * P v = F v) (hb : ∀ v, v < n → -1000000 ≤ F v ∧ F v ≤ 1000000) (he : -1000000 ≤ e ∧ e ≤ 1000000) (H : post (nI n, gR, gL, gk, nI (rc + 1), gh, gi, gl, gx, aZ (rs w rc n F), aZ (ug d rc (max 0 (pb_cn F e n))), yf, aZ P, yc, ya, yv)) : ∀ k i : Nat, i ≤ n → n < k + i → wY_appendRow_2 post (zI g) (zI e) (nI n) gR gL gk (nI rc) gh gi gl gx k (nI i) (aZ (rs w rc i F)) (aZ d) yf (aZ P) yc ya yv := by
  intro k
  induction k with
  | zero => intro i h1 h2; omega
  | succ k ih =>
    intro i h1 h2
    by_cases hi : i < n
    · have ih' := ih (i + 1) (by omega) (by omega)
      refine br_f (nI_ge hi (by omega)) ⟨in_n i (by omega), in_n (rc * 8 + i) (by omega) (ix_y rc i), nm_r (wr_z (rc * 8 + i) (F i) (ix_y rc i) ?_) (nm_r (nI_1 i) ?_)⟩
      · rw [rd_z i, zI_mul, hF i hi]
      · rw [rs_s]; exact ih'
    · have ei : i = n := by omega
      subst ei
      exact br_t (nI_le (Nat.le_refl _) (by omega)) (yw_canon hn (by omega) (fun v hv => rs_lt hv) hb he (nm_r (nI_1 rc) H))
theorem yw_app {post : SY → Prop} {rc : Nat} {g e : Int} {F P : Nat → Int} (hn : n ≤ 8) (ht : rc < 10) (hF : ∀ v, v < n → g * P v = F v) (hb : ∀ v, v < n → -1000000 ≤ F v ∧ F v ≤ 1000000) (he : -1000000 ≤ e ∧ e ≤ 1000000) (H : ∀ w' d', fo_is w' d' n rc F (max 0 (pb_cn F e n)) → (∀ i, i ≠ rc → fo_eq w d w' d' n i) → post (nI n, gR, gL, gk, nI (rc + 1), gh, gi, gl, gx, aZ w', aZ d', yf, aZ P, yc, ya, yv)) : wpY_appendRow post (nI n, gR, gL, gk, nI rc, gh, gi, gl, gx, aZ w, aZ d, yf, aZ P, yc, ya, yv) (zI g) (zI e) := by
  have a := yl_app hn ht hF hb he (H _ _ fo_rs (fun i hi => fe_rs hn hi)) (n + 1) 0 (by omega) (by omega)
  rw [rs_0] at a
  exact Exists.intro (n + 1) a
theorem ix_184 (i : Nat) : 184 + nI i = nI (23 * 8 + i) := by
  rw [show (184 : Int32) = nI 184 from rfl, nI_add]
theorem yl_big {post : Int32 → Prop} {F : Nat → Int} {e : Int} (hn : n ≤ 8) (h : fo_is w d n 23 F e) (hF : ∀ v, v < n → -100000000 ≤ F v ∧ F v ≤ 100000000) (hd : 0 ≤ e ∧ e ≤ 1000000000) (H1 : ((∃ v, v < n ∧ 1000 < pb_ab (F v)) ∨ 9999 < e) → post 1) (H0 : (∀ v, v < n → pb_ab (F v) ≤ 1000) → e ≤ 9999 → post 0) : ∀ k i : Nat, i ≤ n → n < k + i → (∀ v, v < i → pb_ab (F v) ≤ 1000) → wY_scratchTooBig_2 post (nI n) gR gL gk gc gh gi gl gx (aZ w) (aZ d) yf yp yc ya yv k (nI i) := by
  intro k
  induction k with
  | zero => intro i h1 h2; omega
  | succ k ih =>
    intro i h1 h2 h3
    by_cases hi : i < n
    · have hb := hF i hi
      have hab := pb_ab_b hb
      exact br_f (nI_ge hi (by omega)) ⟨in_n (23 * 8 + i) (by omega) (ix_184 i), yw_abs (F i) (zb_le (pb_ab (F i)) 1000 (fun hq => nm_r (nI_1 i) (ih (i + 1) (by omega) (by omega) (lt_s h3 hq))) (fun hq => H1 (Or.inl ⟨i, hi, hq⟩))) ((rd_z (23 * 8 + i) (ix_184 i)).trans (congrArg zI (h.1 i hi)))⟩
    · have ei : i = n := by omega
      subst ei
      exact br_t (nI_le (Nat.le_refl _) (by omega)) (zb_le e 9999 (H0 h3) (fun hq => H1 (Or.inr hq)) (congrArg zI h.2))
theorem yw_big {post : Int32 → Prop} {F : Nat → Int} {e : Int} (hn : n ≤ 8) (h : fo_is w d n 23 F e) (hF : ∀ v, v < n → -100000000 ≤ F v ∧ F v ≤ 100000000) (hd : 0 ≤ e ∧ e ≤ 1000000000) (H1 : ((∃ v, v < n ∧ 1000 < pb_ab (F v)) ∨ 9999 < e) → post 1) (H0 : (∀ v, v < n → pb_ab (F v) ≤ 1000) → e ≤ 9999 → post 0) : wpY_scratchTooBig post (nI n, gR, gL, gk, gc, gh, gi, gl, gx, aZ w, aZ d, yf, yp, yc, ya, yv) :=
  Exists.intro (n + 1) (yl_big hn h hF hd H1 H0 (n + 1) 0 (by omega) (by omega) lt_0)
theorem ix_8t (s v : Nat) : 8 * (10 + nI s) + nI v = nI ((10 + s) * 8 + v) := by
  rw [ix_10, ix_y]
theorem yl_put {post : Int32 → SY → Prop} {s : Nat} {F : Nat → Int} {e : Int} {Hd : Nat → Bool} (hn : n ≤ 8) (hs : s < 12) (h : fo_is w d n 23 F e) (hF : ∀ v, v < n → -100000000 ≤ F v ∧ F v ≤ 100000000) (hd : 0 ≤ e ∧ e ≤ 1000000000) (H1 : pb_sm (fun v => pb_ab (F v)) n < e → post 2 (nI n, gR, gL, gk, gc, gh, gi, gl, gx, aZ (rs w (10 + s) n F), aZ (ug d (10 + s) e), aB (ug Hd s true), yp, yc, ya, yv)) (H0 : e ≤ pb_sm (fun v => pb_ab (F v)) n → post 1 (nI n, gR, gL, gk, gc, gh, gi, gl, gx, aZ (rs w (10 + s) n F), aZ (ug d (10 + s) e), aB (ug Hd s true), yp, yc, ya, yv)) : ∀ k i : Nat, i ≤ n → n < k + i → wY_put_2 post (nI s) (nI n) gR gL gk gc gh gi gl gx k (nI i) (aZ (rs w (10 + s) i F)) (aZ d) (aB Hd) yp yc ya yv := by
  intro k
  induction k with
  | zero => intro i h1 h2; omega
  | succ k ih =>
    intro i h1 h2
    by_cases hi : i < n
    · have ih' := ih (i + 1) (by omega) (by omega)
      refine br_f (nI_ge hi (by omega)) ⟨in_n (23 * 8 + i) (by omega) (ix_184 i), in_n ((10 + s) * 8 + i) (by omega) (ix_8t s i), nm_r (wr_z ((10 + s) * 8 + i) (F i) (ix_8t s i) ?_) (nm_r (nI_1 i) ?_)⟩
      · rw [rd_z (23 * 8 + i) (ix_184 i), rs_ge (by omega) (Or.inr (by omega)) (by omega), h.1 i hi]
      · rw [rs_s]; exact ih'
    · have ei : i = n := by omega
      subst ei
      refine br_t (nI_le (Nat.le_refl _) (by omega)) ⟨in_n (10 + s) (by omega) (ix_10 s), nm_r (wr_z (10 + s) e (ix_10 s) (congrArg zI h.2)) ⟨in_n s hs, nm_r (wr_b s true rfl b2_n1) ?_⟩⟩
      rw [ix_10]
      exact yw_ver hn (by omega) fo_rs hF hd H1 H0
theorem yw_put {post : Int32 → SY → Prop} {s : Nat} {F : Nat → Int} {e : Int} {Hd : Nat → Bool} (hn : n ≤ 8) (hs : s < 12) (h : fo_is w d n 23 F e) (hF : ∀ v, v < n → -100000000 ≤ F v ∧ F v ≤ 100000000) (hd : 0 ≤ e ∧ e ≤ 1000000000) (H1 : ∀ w' d', fo_is w' d' n (10 + s) F e → (∀ i, i ≠ 10 + s → fo_eq w d w' d' n i) → pb_sm (fun v => pb_ab (F v)) n < e → post 2 (nI n, gR, gL, gk, gc, gh, gi, gl, gx, aZ w', aZ d', aB (ug Hd s true), yp, yc, ya, yv)) (H0 : ∀ w' d', fo_is w' d' n (10 + s) F e → (∀ i, i ≠ 10 + s → fo_eq w d w' d' n i) → e ≤ pb_sm (fun v => pb_ab (F v)) n → post 1 (nI n, gR, gL, gk, gc, gh, gi, gl, gx, aZ w', aZ d', aB (ug Hd s true), yp, yc, ya, yv)) : wpY_put post (nI n, gR, gL, gk, gc, gh, gi, gl, gx, aZ w, aZ d, aB Hd, yp, yc, ya, yv) (nI s) := by
  have a := yl_put (Hd := Hd) hn hs h hF hd (H1 _ _ fo_rs (fun i hi => fe_rs hn hi)) (H0 _ _ fo_rs (fun i hi => fe_rs hn hi)) (n + 1) 0 (by omega) (by omega)
  rw [rs_0] at a
  exact Exists.intro (n + 1) a
end
end
section
/-! the relation -/
theorem p2_8 {n : Nat} (hn : n ≤ 8) : 2 ^ n ≤ 256 := Nat.le_trans (Nat.pow_le_pow_right (by decide) hn) (by decide)
def iv (n rR lR rc : Nat) (has : Bool) (im : Nat) (be lo : Int) (W D : Nat → Int) (Hd : Nat → Bool) (A : Nat → Nat) (kk : Int) (gi : Int32) (w d : Nat → Int) (Fd : Nat → Bool) (P C : Nat → Int) : Prop :=
  (2 ≤ n ∧ n ≤ 8 ∧ rR ≤ 10 ∧ lR ≤ 12 ∧ rc ≤ rR) ∧
  (∀ i, i < 22 → fo_eq W D w d n i) ∧
  ((∀ v, v < n → P v = W (26 * 8 + v) ∧ -40 ≤ P v ∧ P v ≤ 40) ∧ kk = D 26 ∧ -400 ≤ kk ∧ kk ≤ 400) ∧
  ((∀ v, v < n → C v = W (27 * 8 + v) ∧ -15 ≤ C v ∧ C v ≤ 15) ∧ D 27 = pb_of C n) ∧
  (∀ r, r < rc → (∀ v, v < n → -40 ≤ W (r * 8 + v) ∧ W (r * 8 + v) ≤ 40) ∧ 0 ≤ D r ∧ D r ≤ 1220) ∧
  (∀ s, s < 12 → Hd s = true → (∀ v, v < n → -1000 ≤ W ((10 + s) * 8 + v) ∧ W ((10 + s) * 8 + v) ≤ 1000) ∧ 0 ≤ D (10 + s) ∧ D (10 + s) ≤ 9999) ∧
  ((∀ s, s < 12 → Fd s = Hd s) ∧ (∀ s, lR ≤ s → s < 12 → Hd s = false)) ∧
  (im < 2 ^ n ∧ (has = true → gi = nI im ∧ be = pb_ob C n im)) ∧
  (-10000 ≤ lo ∧ lo ≤ 10000) ∧
  (∀ v, v < n → A v ≤ 2)
def i_Rel (k : Nat) (u : SX) (v : SY) : Prop :=
  ∃ (n rR lR rc : Nat) (has : Bool) (im : Nat) (be lo : Int) (co : Bool) (ts ln : Nat) (W D : Nat → Int) (Hd : Nat → Bool) (A : Nat → Nat) (U : Nat → Bool) (V : Nat → Nat) (R : Nat → Int) (T : Nat → Nat) (kk : Int) (gi : Int32) (w d : Nat → Int) (Fd : Nat → Bool) (P C : Nat → Int) (Vy : Nat → Nat),
    (u = (10, 22, 23, 24, 25, 26, 27, 28, 32, 60, (-1), (-2), nI n, nI rR, nI lR, nI rc, xi has im, zI be, zI lo, b2 co, nI ts, nI ln, aZ W, aZ D, aB Hd, aN A, aB U, aN V, aZ R, aN T) ∧ v = (nI n, nI rR, nI lR, zI kk, nI rc, b2 has, gi, zI lo, b2 co, aZ w, aZ d, aB Fd, aZ P, aZ C, aN A, aN Vy)) ∧ iv n rR lR rc has im be lo W D Hd A kk gi w d Fd P C
theorem i_in {k n rR lR rc : Nat} {has : Bool} {im : Nat} {be lo : Int} {co : Bool} {ts ln : Nat} {W D : Nat → Int} {Hd : Nat → Bool} {A : Nat → Nat} {U : Nat → Bool} {V : Nat → Nat} {R : Nat → Int} {T : Nat → Nat} {kk : Int} {gi : Int32} {w d : Nat → Int} {Fd : Nat → Bool} {P C : Nat → Int} {Vy : Nat → Nat} (h : iv n rR lR rc has im be lo W D Hd A kk gi w d Fd P C) : i_Rel k (10, 22, 23, 24, 25, 26, 27, 28, 32, 60, (-1), (-2), nI n, nI rR, nI lR, nI rc, xi has im, zI be, zI lo, b2 co, nI ts, nI ln, aZ W, aZ D, aB Hd, aN A, aB U, aN V, aZ R, aN T) (nI n, nI rR, nI lR, zI kk, nI rc, b2 has, gi, zI lo, b2 co, aZ w, aZ d, aB Fd, aZ P, aZ C, aN A, aN Vy) :=
  ⟨n, rR, lR, rc, has, im, be, lo, co, ts, ln, W, D, Hd, A, U, V, R, T, kk, gi, w, d, Fd, P, C, Vy, ⟨rfl, rfl⟩, h⟩
theorem i_el {Q : SX → SY → Prop} {k : Nat} {u : SX} {v : SY} (I : i_Rel k u v) (h : ∀ (n rR lR rc : Nat) (has : Bool) (im : Nat) (be lo : Int) (co : Bool) (ts ln : Nat) (W D : Nat → Int) (Hd : Nat → Bool) (A : Nat → Nat) (U : Nat → Bool) (V : Nat → Nat) (R : Nat → Int) (T : Nat → Nat) (kk : Int) (gi : Int32) (w d : Nat → Int) (Fd : Nat → Bool) (P C : Nat → Int) (Vy : Nat → Nat), iv n rR lR rc has im be lo W D Hd A kk gi w d Fd P C → Q (10, 22, 23, 24, 25, 26, 27, 28, 32, 60, (-1), (-2), nI n, nI rR, nI lR, nI rc, xi has im, zI be, zI lo, b2 co, nI ts, nI ln, aZ W, aZ D, aB Hd, aN A, aB U, aN V, aZ R, aN T) (nI n, nI rR, nI lR, zI kk, nI rc, b2 has, gi, zI lo, b2 co, aZ w, aZ d, aB Fd, aZ P, aZ C, aN A, aN Vy)) : Q u v :=
  Exists.elim I fun n I => Exists.elim I fun rR I => Exists.elim I fun lR I => Exists.elim I fun rc I => Exists.elim I fun has I => Exists.elim I fun im I => Exists.elim I fun be I => Exists.elim I fun lo I => Exists.elim I fun co I => Exists.elim I fun ts I => Exists.elim I fun ln I => Exists.elim I fun W I => Exists.elim I fun D I => Exists.elim I fun Hd I => Exists.elim I fun A I => Exists.elim I fun U I => Exists.elim I fun V I => Exists.elim I fun R I => Exists.elim I fun T I => Exists.elim I fun kk I => Exists.elim I fun gi I => Exists.elim I fun w I => Exists.elim I fun d I => Exists.elim I fun Fd I => Exists.elim I fun P I => Exists.elim I fun C I => Exists.elim I fun Vy I =>
    I.1.1 ▸ I.1.2 ▸ h n rR lR rc has im be lo co ts ln W D Hd A U V R T kk gi w d Fd P C Vy I.2
theorem i_up {k : Nat} {u : SX} {v : SY} (h : i_Rel k u v) : i_Rel (k + 4) u v := h
/-! the constructors -/
theorem cl_out (p : Int32) (a b : Nat) (hab : a ≤ b) (hb : b < 2147483648) : ∃ j : Nat, (a ≤ j ∧ j ≤ b) ∧ (∀ (post : Int32 → Prop) (u : SX), post (nI j) → wpX_clamp post u p (nI a) (nI b)) ∧ (∀ (post : Int32 → Prop) (u : SY), post (nI j) → wpY_clamp post u p (nI a) (nI b)) := by
  by_cases h1 : nI a ≤ p
  · by_cases h2 : p ≤ nI b
    · have h0 : ¬ p < 0 := by
        have h3 : (0 : Int32) ≤ nI a := nI_pos' (by omega)
        exact Int32.not_lt.mpr (Int32.le_trans h3 h1)
      obtain ⟨j, hj, e⟩ := nI_of h0
      subst e
      rw [nI_leI (by omega) hj] at h1
      rw [nI_leI hj (by omega)] at h2
      exact ⟨j, ⟨h1, h2⟩, fun post u hp => br_t (nI_le h1 (by omega)) (br_t (nI_le h2 (by omega)) hp), fun post u hp => br_t (nI_le h1 (by omega)) (br_t (nI_le h2 (by omega)) hp)⟩
    · exact ⟨b, ⟨hab, Nat.le_refl _⟩, fun post u hp => br_t h1 (br_f h2 hp), fun post u hp => br_t h1 (br_f h2 hp)⟩
  · exact ⟨a, ⟨Nat.le_refl _, hab⟩, fun post u hp => br_f h1 hp, fun post u hp => br_f h1 hp⟩
def in2 (i : Nat) : Nat → Nat := fun j => if j < i then 2 else 0
theorem in2_s (i : Nat) : ug (in2 i) i 2 = in2 (i + 1) := by
  funext j
  show (if j = i then 2 else if j < i then 2 else 0) = (if j < i + 1 then 2 else 0)
  by_cases h : j = i
  · rw [if_pos h, if_pos (by omega)]
  · rw [if_neg h]
    by_cases h2 : j < i
    · rw [if_pos h2, if_pos (by omega)]
    · rw [if_neg h2, if_neg (by omega)]
section
variable {q0 q1 q2 q3 q4 q5 q6 q7 q8 q9 q10 q11 fn frR flR frc fin fbe flo fcl fts fln : Int32} {xw xd xh xa xu xv xr xt : Nat → Int32}
theorem xl_init {post : SX → Prop} (H : post (q0, q1, q2, q3, q4, q5, q6, q7, q8, q9, q10, q11, fn, frR, flR, frc, fin, fbe, flo, fcl, fts, fln, xw, xd, xh, aN (in2 8), xu, aN (in2 8), xr, xt)) : ∀ k i : Nat, i ≤ 8 → 8 < k + i → wX_init_184 post q0 q1 q2 q3 q4 q5 q6 q7 q8 q9 q10 q11 fn frR flR frc fin fbe flo fcl fts fln k (nI i) xw xd xh (aN (in2 i)) xu (aN (in2 i)) xr xt := by
  intro k
  induction k with
  | zero => intro i h1 h2; omega
  | succ k ih =>
    intro i h1 h2
    by_cases hi : i < 8
    · refine br_f (nI_ge (b := 8) hi (by decide)) ⟨in_n i hi, nm_r (wr_n i 2 rfl rfl) ⟨in_n i hi, nm_r (wr_n i 2 rfl rfl) (nm_r (nI_1 i) ?_)⟩⟩
      rw [in2_s]
      exact ih (i + 1) (by omega) (by omega)
    · have e : i = 8 := by omega
      subst e
      exact br_t (by decide) H
end
section
variable {gn gR gL gk gc gh gi gl gx : Int32} {yw yd yf yp yc ya yv : Nat → Int32}
theorem yl_init {post : SY → Prop} (H : post (gn, gR, gL, gk, gc, gh, gi, gl, gx, yw, yd, yf, yp, yc, aN (in2 8), yv)) : ∀ k i : Nat, i ≤ 8 → 8 < k + i → wY_init_100 post gn gR gL gk gc gh gi gl gx k (nI i) yw yd yf yp yc (aN (in2 i)) yv := by
  intro k
  induction k with
  | zero => intro i h1 h2; omega
  | succ k ih =>
    intro i h1 h2
    by_cases hi : i < 8
    · refine br_f (nI_ge (b := 8) hi (by decide)) ⟨in_n i hi, nm_r (wr_n i 2 rfl rfl) (nm_r (nI_1 i) ?_)⟩
      rw [in2_s]
      exact ih (i + 1) (by omega) (by omega)
    · have e : i = 8 := by omega
      subst e
      exact br_t (by decide) H
end
theorem pb_of_0 (n : Nat) : pb_of (fun _ => 0) n = 0 := by
  induction n with
  | zero => rfl
  | succ n ih => rw [pb_of_s, ih]; rfl
theorem fz_Z : (fun _ => 0 : Nat → Int32) = aZ (fun _ => 0) := rfl
theorem fz_B : (fun _ => 0 : Nat → Int32) = aB (fun _ => false) := rfl
theorem fz_N : (fun _ => 0 : Nat → Int32) = aN (fun _ => 0) := rfl
theorem fz_2 : aN (fun _ => 0) = aN (in2 0) := rfl
theorem iv_0 {n rR lR : Nat} (h1 : 2 ≤ n ∧ n ≤ 8) (h2 : rR ≤ 10) (h3 : lR ≤ 12) : iv n rR lR 0 false 0 0 0 (fun _ => 0) (fun _ => 0) (fun _ => false) (in2 8) 0 0 (fun _ => 0) (fun _ => 0) (fun _ => false) (fun _ => 0) (fun _ => 0) := by
  refine ⟨⟨h1.1, h1.2, h2, h3, by omega⟩, fun i _ => fo_er _ _ _ _, ⟨fun v _ => ⟨rfl, show (-40 : Int) ≤ 0 by decide, show (0 : Int) ≤ 40 by decide⟩, rfl, by decide, by decide⟩, ⟨fun v _ => ⟨rfl, show (-15 : Int) ≤ 0 by decide, show (0 : Int) ≤ 15 by decide⟩, (pb_of_0 n).symm⟩, fun r hr => absurd hr (by omega), fun s _ hs => Bool.noConfusion hs, ⟨fun _ _ => rfl, fun _ _ _ => rfl⟩, ⟨Nat.two_pow_pos n, fun z => absurd z (by decide)⟩, by decide, fun v hv => ?_⟩
  show (if v < 8 then 2 else 0) ≤ 2
  split <;> omega
theorem i_vc0 (k0 : Int32) (k1 : Int32) (k2 : Int32) : wpX_init (fun u => wpY_init (fun v => i_Rel 3 u v) k0 k1 k2) k0 k1 k2 := by
  obtain ⟨a, ha, xa, ya⟩ := cl_out k0 2 8 (by omega) (by omega)
  obtain ⟨b, hb, xb, yb⟩ := cl_out k1 2 10 (by omega) (by omega)
  obtain ⟨c, hc, xc, yc⟩ := cl_out k2 3 12 (by omega) (by omega)
  refine xa _ _ (xb _ _ (xc _ _ (Exists.intro 9 ?_)))
  refine xl_init (xw := aZ (fun _ => 0)) (xd := aZ (fun _ => 0)) (xh := aB (fun _ => false)) (xu := aB (fun _ => false)) (xr := aZ (fun _ => 0)) (xt := aN (fun _ => 0)) ?_ 9 0 (by omega) (by omega)
  refine ya _ _ (yb _ _ (yc _ _ (Exists.intro 9 ?_)))
  refine yl_init (yw := aZ (fun _ => 0)) (yd := aZ (fun _ => 0)) (yf := aB (fun _ => false)) (yp := aZ (fun _ => 0)) (yc := aZ (fun _ => 0)) (yv := aN (fun _ => 0)) ?_ 9 0 (by omega) (by omega)
  exact i_in (has := false) (im := 0) (be := 0) (lo := 0) (co := false) (ts := 0) (ln := 0) (W := fun _ => 0) (D := fun _ => 0) (Hd := fun _ => false) (A := in2 8) (U := fun _ => false) (V := in2 8) (R := fun _ => 0) (T := fun _ => 0) (kk := 0) (gi := 0) (w := fun _ => 0) (d := fun _ => 0) (Fd := fun _ => false) (P := fun _ => 0) (C := fun _ => 0) (Vy := fun _ => 0) (iv_0 ⟨ha.1, ha.2⟩ hb.2 hc.2)
end
section
/-! how the relation's facts move -/
theorem fo_sq {W D W' D' w d w' d' : Nat → Int} {n i : Nat} (h : fo_eq W D w d n i) (hx : fo_eq W D W' D' n i) (hy : fo_eq w d w' d' n i) : fo_eq W' D' w' d' n i :=
  ⟨fun v hv => ((hy.1 v hv).trans (h.1 v hv)).trans (hx.1 v hv).symm, (hy.2.trans h.2).trans hx.2.symm⟩
theorem fo_s2 {W D w d : Nat → Int} {n i : Nat} {F : Nat → Int} {e : Int} (hx : fo_is W D n i F e) (hy : fo_is w d n i F e) : fo_eq W D w d n i :=
  ⟨fun v hv => (hy.1 v hv).trans (hx.1 v hv).symm, hy.2.trans hx.2.symm⟩
section
variable {n rR lR rc : Nat} {has : Bool} {im : Nat} {be lo : Int} {W D : Nat → Int} {Hd : Nat → Bool} {A : Nat → Nat} {kk : Int} {gi : Int32} {w d : Nat → Int} {Fd : Nat → Bool} {P C : Nat → Int} {W' D' w' d' : Nat → Int}
theorem iv_n (h : iv n rR lR rc has im be lo W D Hd A kk gi w d Fd P C) : 2 ≤ n ∧ n ≤ 8 ∧ rR ≤ 10 ∧ lR ≤ 12 ∧ rc ≤ rR := h.1
theorem iv_e (h : iv n rR lR rc has im be lo W D Hd A kk gi w d Fd P C) : ∀ i, i < 22 → fo_eq W D w d n i := h.2.1
theorem iv_p (h : iv n rR lR rc has im be lo W D Hd A kk gi w d Fd P C) : ∀ v, v < n → P v = W (26 * 8 + v) ∧ -40 ≤ P v ∧ P v ≤ 40 := h.2.2.1.1
theorem iv_k (h : iv n rR lR rc has im be lo W D Hd A kk gi w d Fd P C) : kk = D 26 ∧ -400 ≤ kk ∧ kk ≤ 400 := h.2.2.1.2
theorem iv_c (h : iv n rR lR rc has im be lo W D Hd A kk gi w d Fd P C) : ∀ v, v < n → C v = W (27 * 8 + v) ∧ -15 ≤ C v ∧ C v ≤ 15 := h.2.2.2.1.1
theorem iv_o (h : iv n rR lR rc has im be lo W D Hd A kk gi w d Fd P C) : D 27 = pb_of C n := h.2.2.2.1.2
theorem iv_r (h : iv n rR lR rc has im be lo W D Hd A kk gi w d Fd P C) : ∀ r, r < rc → (∀ v, v < n → -40 ≤ W (r * 8 + v) ∧ W (r * 8 + v) ≤ 40) ∧ 0 ≤ D r ∧ D r ≤ 1220 := h.2.2.2.2.1
theorem iv_l (h : iv n rR lR rc has im be lo W D Hd A kk gi w d Fd P C) : ∀ s, s < 12 → Hd s = true → (∀ v, v < n → -1000 ≤ W ((10 + s) * 8 + v) ∧ W ((10 + s) * 8 + v) ≤ 1000) ∧ 0 ≤ D (10 + s) ∧ D (10 + s) ≤ 9999 := h.2.2.2.2.2.1
theorem iv_h (h : iv n rR lR rc has im be lo W D Hd A kk gi w d Fd P C) : (∀ s, s < 12 → Fd s = Hd s) ∧ (∀ s, lR ≤ s → s < 12 → Hd s = false) := h.2.2.2.2.2.2.1
theorem iv_m (h : iv n rR lR rc has im be lo W D Hd A kk gi w d Fd P C) : im < 2 ^ n ∧ (has = true → gi = nI im ∧ be = pb_ob C n im) := h.2.2.2.2.2.2.2.1
theorem iv_lo (h : iv n rR lR rc has im be lo W D Hd A kk gi w d Fd P C) : -10000 ≤ lo ∧ lo ≤ 10000 := h.2.2.2.2.2.2.2.2.1
theorem iv_a (h : iv n rR lR rc has im be lo W D Hd A kk gi w d Fd P C) : ∀ v, v < n → A v ≤ 2 := h.2.2.2.2.2.2.2.2.2
theorem iv_c1 (h : iv n rR lR rc has im be lo W D Hd A kk gi w d Fd P C) : ∀ v, v < n → W (27 * 8 + v) = C v := fun v hv => (iv_c h v hv).1.symm
theorem iv_cb (h : iv n rR lR rc has im be lo W D Hd A kk gi w d Fd P C) : ∀ v, v < n → -1000 ≤ C v ∧ C v ≤ 1000 := fun v hv => by have := iv_c h v hv; omega
theorem iv_im (h : iv n rR lR rc has im be lo W D Hd A kk gi w d Fd P C) : im < 2147483648 := by
  have := (iv_m h).1
  have := p2_8 (iv_n h).2.1
  omega
theorem iv_gi (h : iv n rR lR rc has im be lo W D Hd A kk gi w d Fd P C) : has = true → gi = nI im ∧ im < 2147483648 := fun z => ⟨((iv_m h).2 z).1, iv_im h⟩
theorem iv_ob (h : iv n rR lR rc has im be lo W D Hd A kk gi w d Fd P C) (m : Nat) : -120 ≤ pb_ob C n m ∧ pb_ob C n m ≤ 120 :=
  pb_sm_8 (g := fun v => if m.testBit v = true then C v else 0) (B := 15) (iv_n h).2.1 (by omega) (fun v hv => by
    have := iv_c h v hv
    (try dsimp only)
    split <;> omega)
theorem pb_of_b {C : Nat → Int} (hn : n ≤ 8) (hC : ∀ v, v < n → -15 ≤ C v ∧ C v ≤ 15) : -120 ≤ pb_of C n ∧ pb_of C n ≤ 0 := by
  have a := pb_sm_8 (g := fun v => min (C v) 0) (B := 15) hn (by omega) (fun v hv => by have := hC v hv; (try dsimp only); omega)
  have b := pb_sm_le (g := fun v => min (C v) 0) (h := fun _ => 0) n (fun v _ => by (try dsimp only); omega)
  have c : pb_sm (fun _ => 0) n = 0 := by
    clear a b hC hn
    induction n with
    | zero => rfl
    | succ n ih => rw [pb_sm_s, ih]; rfl
  unfold pb_of
  omega
theorem iv_be (h : iv n rR lR rc has im be lo W D Hd A kk gi w d Fd P C) (hh : has = true) : be = pb_ob C n im ∧ -120 ≤ be ∧ be ≤ 120 := by
  have a := ((iv_m h).2 hh).2
  have b := iv_ob h im
  omega
theorem iv_W (h : iv n rR lR rc has im be lo W D Hd A kk gi w d Fd P C) (hx : ∀ i, (i < 22 ∨ i = 26 ∨ i = 27) → fo_eq W D W' D' n i) (hy : ∀ i, i < 22 → fo_eq w d w' d' n i) : iv n rR lR rc has im be lo W' D' Hd A kk gi w' d' Fd P C := by
  have hN := iv_n h
  refine ⟨hN, fun i hi => fo_sq (iv_e h i hi) (hx i (Or.inl hi)) (hy i hi), ⟨fun v hv => ?_, ?_⟩, ⟨fun v hv => ?_, ?_⟩, fun r hr => ?_, fun s hs z => ?_, iv_h h, iv_m h, iv_lo h, iv_a h⟩
  · rw [(hx 26 (by omega)).1 v hv]; exact iv_p h v hv
  · rw [(hx 26 (by omega)).2]; exact iv_k h
  · rw [(hx 27 (by omega)).1 v hv]; exact iv_c h v hv
  · rw [(hx 27 (by omega)).2]; exact iv_o h
  · have e := hx r (by omega)
    rw [e.2]
    exact ⟨fun v hv => by rw [e.1 v hv]; exact (iv_r h r hr).1 v hv, (iv_r h r hr).2⟩
  · have e := hx (10 + s) (by omega)
    rw [e.2]
    exact ⟨fun v hv => by rw [e.1 v hv]; exact (iv_l h s hs z).1 v hv, (iv_l h s hs z).2⟩
theorem iv_line {s : Nat} {F : Nat → Int} {e : Int} (h : iv n rR lR rc has im be lo W D Hd A kk gi w d Fd P C) (hs : s < lR) (hx : fo_is W' D' n (10 + s) F e) (hxf : ∀ i, i ≠ 10 + s → i < 22 ∨ i = 26 ∨ i = 27 → fo_eq W D W' D' n i) (hy : fo_is w' d' n (10 + s) F e) (hyf : ∀ i, i ≠ 10 + s → i < 22 → fo_eq w d w' d' n i) (hF : ∀ v, v < n → -1000 ≤ F v ∧ F v ≤ 1000) (he : 0 ≤ e ∧ e ≤ 9999) : iv n rR lR rc has im be lo W' D' (ug Hd s true) A kk gi w' d' (ug Fd s true) P C := by
  have hN := iv_n h
  refine ⟨hN, fun i hi => ?_, ⟨fun v hv => ?_, ?_⟩, ⟨fun v hv => ?_, ?_⟩, fun r hr => ?_, fun t ht z => ?_, ⟨fun t ht => ?_, fun t h1 h2 => ?_⟩, iv_m h, iv_lo h, iv_a h⟩
  · by_cases c : i = 10 + s
    · subst c; exact fo_s2 hx hy
    · exact fo_sq (iv_e h i hi) (hxf i c (Or.inl hi)) (hyf i c hi)
  · rw [(hxf 26 (by omega) (by omega)).1 v hv]; exact iv_p h v hv
  · rw [(hxf 26 (by omega) (by omega)).2]; exact iv_k h
  · rw [(hxf 27 (by omega) (by omega)).1 v hv]; exact iv_c h v hv
  · rw [(hxf 27 (by omega) (by omega)).2]; exact iv_o h
  · have e := hxf r (by omega) (by omega)
    rw [e.2]
    exact ⟨fun v hv => by rw [e.1 v hv]; exact (iv_r h r hr).1 v hv, (iv_r h r hr).2⟩
  · by_cases c : t = s
    · subst c
      rw [hx.2]
      exact ⟨fun v hv => by rw [hx.1 v hv]; exact hF v hv, he⟩
    · rw [ug_n c] at z
      have e := hxf (10 + t) (by omega) (by omega)
      rw [e.2]
      exact ⟨fun v hv => by rw [e.1 v hv]; exact (iv_l h t ht z).1 v hv, (iv_l h t ht z).2⟩
  · by_cases c : t = s
    · subst c; rw [ug_s, ug_s]
    · rw [ug_n c, ug_n c]; exact (iv_h h).1 t ht
  · rw [ug_n (by omega)]; exact (iv_h h).2 t h1 h2
theorem iv_pend {P' : Nat → Int} {k' : Int} (h : iv n rR lR rc has im be lo W D Hd A kk gi w d Fd P C) (hxf : ∀ i, i ≠ 26 → i < 22 ∨ i = 26 ∨ i = 27 → fo_eq W D W' D' n i) (hP : ∀ v, v < n → P' v = W' (26 * 8 + v) ∧ -40 ≤ P' v ∧ P' v ≤ 40) (hk : k' = D' 26 ∧ -400 ≤ k' ∧ k' ≤ 400) : iv n rR lR rc has im be lo W' D' Hd A k' gi w d Fd P' C := by
  have hN := iv_n h
  refine ⟨hN, fun i hi => fo_sq (iv_e h i hi) (hxf i (by omega) (Or.inl hi)) (fo_er _ _ _ _), ⟨hP, hk⟩, ⟨fun v hv => ?_, ?_⟩, fun r hr => ?_, fun s hs z => ?_, iv_h h, iv_m h, iv_lo h, iv_a h⟩
  · rw [(hxf 27 (by omega) (by omega)).1 v hv]; exact iv_c h v hv
  · rw [(hxf 27 (by omega) (by omega)).2]; exact iv_o h
  · have e := hxf r (by omega) (by omega)
    rw [e.2]
    exact ⟨fun v hv => by rw [e.1 v hv]; exact (iv_r h r hr).1 v hv, (iv_r h r hr).2⟩
  · have e := hxf (10 + s) (by omega) (by omega)
    rw [e.2]
    exact ⟨fun v hv => by rw [e.1 v hv]; exact (iv_l h s hs z).1 v hv, (iv_l h s hs z).2⟩
theorem iv_rst (h : iv n rR lR rc has im be lo W D Hd A kk gi w d Fd P C) : iv n rR lR rc false 0 0 (pb_of C n) W D (cl Hd 12) A kk gi w d (cl Fd lR) P C := by
  have hN := iv_n h
  have hb := pb_of_b (C := C) hN.2.1 (fun v hv => (iv_c h v hv).2)
  refine ⟨hN, iv_e h, ⟨iv_p h, iv_k h⟩, ⟨iv_c h, iv_o h⟩, iv_r h, fun s hs z => ?_, ⟨fun s hs => ?_, fun s h1 h2 => if_pos h2⟩, ⟨Nat.two_pow_pos n, fun z => Bool.noConfusion z⟩, by omega, iv_a h⟩
  · rw [show cl Hd 12 s = false from if_pos hs] at z
    exact Bool.noConfusion z
  · rw [show cl Hd 12 s = false from if_pos hs]
    by_cases c : s < lR
    · exact if_pos c
    · rw [show cl Fd lR s = Fd s from if_neg c, (iv_h h).1 s hs, (iv_h h).2 s (by omega) hs]
/-- a row more, both sides alike; no line is held behind it (a reset follows) -/
theorem iv_app {F : Nat → Int} {e : Int} (h : iv n rR lR rc has im be lo W D Hd A kk gi w d Fd P C) (hr : rc < rR) (hx : fo_is W' D' n rc F e) (hxf : ∀ i, i ≠ rc → fo_eq W D W' D' n i) (hy : fo_is w' d' n rc F e) (hyf : ∀ i, i ≠ rc → fo_eq w d w' d' n i) (hF : ∀ v, v < n → -40 ≤ F v ∧ F v ≤ 40) (he : 0 ≤ e ∧ e ≤ 1220) : iv n rR lR (rc + 1) has im be lo W' D' Hd A kk gi w' d' Fd P C := by
  have hN := iv_n h
  refine ⟨by omega, fun i hi => ?_, ⟨fun v hv => ?_, ?_⟩, ⟨fun v hv => ?_, ?_⟩, fun r hr => ?_, fun t ht z => ?_, iv_h h, iv_m h, iv_lo h, iv_a h⟩
  · by_cases c : i = rc
    · subst c; exact fo_s2 hx hy
    · exact fo_sq (iv_e h i hi) (hxf i c) (hyf i c)
  · rw [(hxf 26 (by omega)).1 v hv]; exact iv_p h v hv
  · rw [(hxf 26 (by omega)).2]; exact iv_k h
  · rw [(hxf 27 (by omega)).1 v hv]; exact iv_c h v hv
  · rw [(hxf 27 (by omega)).2]; exact iv_o h
  · by_cases c : r = rc
    · subst c
      rw [hx.2]
      exact ⟨fun v hv => by rw [hx.1 v hv]; exact hF v hv, he⟩
    · have e := hxf r c
      rw [e.2]
      exact ⟨fun v hv => by rw [e.1 v hv]; exact (iv_r h r (by omega)).1 v hv, (iv_r h r (by omega)).2⟩
  · have e := hxf (10 + t) (by omega)
    rw [e.2]
    exact ⟨fun v hv => by rw [e.1 v hv]; exact (iv_l h t ht z).1 v hv, (iv_l h t ht z).2⟩
theorem iv_bdY (h : iv n rR lR rc has im be lo W D Hd A kk gi w d Fd P C) : pb_bd w d n rc := fun r hr => by
  have a := iv_r h r hr
  have hN := iv_n h
  have e := iv_e h r (by omega)
  rw [e.2]
  exact ⟨fun v hv => by rw [e.1 v hv]; have := a.1 v hv; omega, by omega⟩
theorem iv_fe (h : iv n rR lR rc has im be lo W D Hd A kk gi w d Fd P C) (m : Nat) : pb_fe w d n rc m ↔ pb_fe W D n rc m := by
  have hN := iv_n h
  constructor
  · intro z r hr
    have e := iv_e h r (by omega)
    exact pb_sat_cg (fun v hv => e.1 v hv) e.2 (z r hr)
  · intro z r hr
    have e := iv_e h r (by omega)
    exact pb_sat_cg (fun v hv => (e.1 v hv).symm) e.2.symm (z r hr)
end
end
section
/-! simple methods -/
theorem yi_1 {A B C : Prop} {p q r : Int32} (a b c : Int) (h : b ≤ a ∧ a ≤ c) (H : C) (hp : p = zI a := by rfl) (hq : q = zI b := by rfl) (hr : r = zI c := by rfl) (h1 : -2147483648 ≤ a := by omega) (h2 : a < 2147483648 := by omega) (h3 : -2147483648 ≤ b := by omega) (h4 : b < 2147483648 := by omega) (h5 : -2147483648 ≤ c := by omega) (h6 : c < 2147483648 := by omega) : (p < q → A) ∧ (¬ p < q → ((r < p → B) ∧ (¬ r < p → C))) :=
  zb_lt a b (fun z => absurd z (by omega)) (fun _ => zb_lt c a (fun z => absurd z (by omega)) (fun _ => H) hr hp) hp hq
theorem yi_0 {A C : Prop} {p q r : Int32} (a b c : Int) (h : ¬ (b ≤ a ∧ a ≤ c)) (H : A) (hp : p = zI a := by rfl) (hq : q = zI b := by rfl) (hr : r = zI c := by rfl) (h1 : -2147483648 ≤ a := by omega) (h2 : a < 2147483648 := by omega) (h3 : -2147483648 ≤ b := by omega) (h4 : b < 2147483648 := by omega) (h5 : -2147483648 ≤ c := by omega) (h6 : c < 2147483648 := by omega) : (p < q → A) ∧ (¬ p < q → ((r < p → A) ∧ (¬ r < p → C))) :=
  zb_lt a b (fun _ => H) (fun _ => zb_lt c a (fun _ => H) (fun z => absurd z (by omega)) hr hp) hp hq
theorem yr_1 {A B C : Prop} {j N : Nat} {r : Int32} (hj : j < N) (hN : N < 2147483648) (hr : r = nI N - 1) (H : C) : (nI j < 0 → A) ∧ (¬ nI j < 0 → ((r < nI j → B) ∧ (¬ r < nI j → C))) :=
  yi_1 (j : Int) 0 ((N : Int) - 1) (by omega) H (zI_nI j) rfl (hr.trans (nI_m1 N))
theorem yr_0 {A C : Prop} {p : Int32} {N : Nat} {r : Int32} (hp : ∀ j, j < N → p ≠ nI j) (hN : N < 2147483648) (hr : r = nI N - 1) (H : A) : (p < 0 → A) ∧ (¬ p < 0 → ((r < p → A) ∧ (¬ r < p → C))) := by
  refine yi_0 p.toInt 0 ((N : Int) - 1) (fun z => ?_) H (zI_of p) rfl (hr.trans (nI_m1 N)) p.le_toInt p.toInt_lt
  refine hp p.toInt.toNat (by omega) ?_
  rw [zI_nI, show ((p.toInt.toNat : Nat) : Int) = p.toInt by omega]
  exact zI_of p
theorem i_vc_report {k : Nat} {u : SX} {v : SY} (I : i_Rel k u v) (hk : k + 4 ≤ 2051) (v1 : Int32) : wpX_report (fun r => wpY_report (fun r' => r' = r ∧ i_Rel (k + 4) u v) v v1) u v1 := by
  refine i_el (Q := fun u v => wpX_report (fun r => wpY_report (fun r' => r' = r ∧ i_Rel (k + 4) u v) v v1) u v1) I ?_
  intro n rR lR rc has im be lo co ts ln W D Hd A U V R T kk gi w d Fd P C Vy h
  have hN := iv_n h
  have him := iv_im h
  by_cases h0 : v1 = 0
  · exact br_t h0 (xw_status him (br_t h0 (yw_status ⟨rfl, i_in h⟩)))
  · refine br_f h0 ?_
    by_cases h1 : v1 = 1
    · refine br_t h1 (zb_in him (fun z => br_f h0 (br_t h1 (zb_b has (fun _ => ⟨rfl, i_in h⟩) (fun z2 => by rw [z] at z2; cases z2)))) (fun z => br_f h0 (br_t h1 (zb_b has (fun z2 => by rw [z] at z2; cases z2) (fun _ => ?_)))))
      have e := (iv_m h).2 z
      have hg := i_in (k := k + 4) (co := co) (ts := ts) (ln := ln) (U := U) (V := V) (R := R) (T := T) (Vy := Vy) h
      obtain ⟨e1, e2⟩ := e
      subst e1
      exact yw_obj hN.2.1 him ⟨by rw [e2], hg⟩
    · refine br_f h1 ?_
      by_cases h2 : v1 = 2
      · exact br_t h2 (br_f h0 (br_f h1 (br_t h2 ⟨rfl, i_in h⟩)))
      · refine br_f h2 ?_
        by_cases h3 : v1 = 3
        · refine br_t h3 (zb_in him (fun z => br_f h0 (br_f h1 (br_f h2 (br_t h3 (zb_b has (fun _ => ⟨rfl, i_in h⟩) (fun z2 => by rw [z] at z2; cases z2)))))) (fun z => br_f h0 (br_f h1 (br_f h2 (br_t h3 (zb_b has (fun z2 => by rw [z] at z2; cases z2) (fun _ => ⟨?_, i_in h⟩)))))))
          rw [((iv_m h).2 z).1, z]
          rfl
        · refine br_f h3 ?_
          by_cases h4 : v1 = 4
          · exact br_t h4 (br_f h0 (br_f h1 (br_f h2 (br_f h3 (br_t h4 ⟨rfl, i_in h⟩)))))
          · exact br_f h4 (br_f h0 (br_f h1 (br_f h2 (br_f h3 (br_f h4 ⟨rfl, i_in h⟩)))))
theorem i_vc_degree {k : Nat} {u : SX} {v : SY} (I : i_Rel k u v) (hk : k + 4 ≤ 2051) (v1 : Int32) (v2 : Int32) : wpX_degree (fun r => wpY_degree (fun r' => r' = r ∧ i_Rel (k + 4) u v) v v1 v2) u v1 v2 := by
  refine i_el (Q := fun u v => wpX_degree (fun r => wpY_degree (fun r' => r' = r ∧ i_Rel (k + 4) u v) v v1 v2) u v1 v2) I ?_
  intro n rR lR rc has im be lo co ts ln W D Hd A U V R T kk gi w d Fd P C Vy h
  have hN := iv_n h
  by_cases h0 : v1 = 0
  · rcases rg_c v2 rc (by omega) with ⟨j, hj, rfl⟩ | hv
    · refine br_t h0 (xr_1 hj (by omega) (br_f (by decide) (br_t (nI_pos' (by omega)) ⟨in_n j (by omega), br_t h0 (yr_1 hj (by omega) rfl (br_f (by decide) ⟨in_n j (by omega), ?_, i_in h⟩))⟩)))
      rw [rd_z j, rd_z j, (iv_e h j (by omega)).2]
    · exact br_t h0 (xr_0 hv (by omega) (br_t rfl (br_f (by decide) (br_t h0 (yr_0 hv (by omega) rfl (br_t rfl ⟨rfl, i_in h⟩))))))
  · refine br_f h0 ?_
    by_cases h1 : v1 = 1
    · rcases rg_c v2 lR (by omega) with ⟨j, hj, rfl⟩ | hv
      · have eH := (iv_h h).1 j (by omega)
        refine br_t h1 (xr_1 hj (by omega) (br_f (by decide) ⟨in_n j (by omega), zb_b (Hd j) (fun z => br_f (by decide) (br_f h0 (br_t h1 (xr_1 hj (by omega) (br_f (by decide) ⟨in_n j (by omega), zb_b (Fd j) (fun _ => ⟨rfl, i_in h⟩) (fun z2 => by rw [eH, z] at z2; cases z2) (rd_b j)⟩))))) (fun z => ?_) (rd_b j)⟩))
        rw [ix_10]
        refine br_t (nI_pos' (by omega)) ⟨in_n (10 + j) (by omega), br_f h0 (br_t h1 (xr_1 hj (by omega) (br_f (by decide) ⟨in_n j (by omega), zb_b (Fd j) (fun z2 => by rw [eH, z] at z2; cases z2) (fun _ => ⟨in_n (10 + j) (by omega) (ix_10 j), ?_, i_in h⟩) (rd_b j)⟩)))⟩
        rw [rd_z (10 + j) (ix_10 j), rd_z (10 + j), (iv_e h (10 + j) (by omega)).2]
      · exact br_t h1 (xr_0 hv (by omega) (br_t rfl (br_f (by decide) (br_f h0 (br_t h1 (xr_0 hv (by omega) (br_t rfl ⟨rfl, i_in h⟩)))))))
    · refine br_f h1 ?_
      by_cases h2 : v1 = 2
      · exact br_t h2 (br_t (by decide) ⟨in_n 26 (by omega), br_f h0 (br_f h1 (br_t h2 ⟨congrArg zI (iv_k h).1, i_in h⟩))⟩)
      · refine br_f h2 ?_
        by_cases h3 : v1 = 3
        · exact br_t h3 (br_t (by decide) ⟨in_n 27 (by omega), br_f h0 (br_f h1 (br_f h2 (br_t h3 (yw_off hN.2.1 (iv_cb h) ⟨congrArg zI (iv_o h).symm, i_in h⟩))))⟩)
        · exact br_f h3 (br_f (by decide) (br_f h0 (br_f h1 (br_f h2 (br_f h3 ⟨rfl, i_in h⟩)))))
theorem i_vc_assume {k : Nat} {u : SX} {v : SY} (I : i_Rel k u v) (hk : k + 4 ≤ 2051) (v1 : Int32) (v2 : Int32) : wpX_assume (fun r u' => wpY_assume (fun r' v' => r' = r ∧ i_Rel (k + 4) u' v') v v1 v2) u v1 v2 := by
  refine i_el (Q := fun u v => wpX_assume (fun r u' => wpY_assume (fun r' v' => r' = r ∧ i_Rel (k + 4) u' v') v v1 v2) u v1 v2) I ?_
  intro n rR lR rc has im be lo co ts ln W D Hd A U V R T kk gi w d Fd P C Vy h
  have hN := iv_n h
  rcases rg_c v1 n (by omega) with ⟨j, hj, rfl⟩ | hv
  · rcases rg_c v2 3 (by omega) with ⟨b, hb, rfl⟩ | hb
    · have h' : iv n rR lR rc has im be lo W D Hd (ug A j b) kk gi w d Fd P C := ⟨iv_n h, iv_e h, ⟨iv_p h, iv_k h⟩, ⟨iv_c h, iv_o h⟩, iv_r h, iv_l h, iv_h h, iv_m h, iv_lo h, fun v hv => by
        by_cases c : v = j
        · subst c; rw [ug_s]; omega
        · rw [ug_n c]; exact iv_a h v hv⟩
      have K : vp_in (nI j) 8 ∧ ∀ a : Nat → Int32, a = upd (aN A) (nI j).toNatClampNeg (nI b) → wpY_assume (fun r' v' => r' = 1 ∧ i_Rel (k + 4) (10, 22, 23, 24, 25, 26, 27, 28, 32, 60, (-1), (-2), nI n, nI rR, nI lR, nI rc, xi has im, zI be, zI lo, b2 co, nI ts, nI ln, aZ W, aZ D, aB Hd, a, aB U, aN V, aZ R, aN T) v') (nI n, nI rR, nI lR, zI kk, nI rc, b2 has, gi, zI lo, b2 co, aZ w, aZ d, aB Fd, aZ P, aZ C, aN A, aN Vy) (nI j) (nI b) :=
        ⟨in_n j (by omega), nm_r (wr_n j b rfl rfl) (yr_1 hj (by omega) rfl (br_f (by decide) (yr_1 (N := 3) hb (by omega) rfl (br_f (by decide) ⟨in_n j (by omega), nm_r (wr_n j b rfl rfl) ⟨rfl, i_in h'⟩⟩))))⟩
      exact xr_1 hj (by omega) (br_f (by decide) (pk_eq b 0 (fun _ => K) (fun _ => pk_eq b 1 (fun _ => K) (fun _ => pk_eq b 2 (fun _ => K) (fun _ => by omega)))))
    · refine xr_1 hj (by omega) (br_f (by decide) (br_f (hb 0 (by omega)) (br_f (hb 1 (by omega)) (br_f (hb 2 (by omega)) (yr_1 hj (by omega) rfl (br_f (by decide) (yr_0 (N := 3) hb (by omega) rfl (br_t rfl ⟨rfl, i_in h⟩))))))))
  · exact xr_0 hv (by omega) (br_t rfl (yr_0 hv (by omega) rfl (br_t rfl ⟨rfl, i_in h⟩)))
theorem i_vc_weight {k : Nat} {u : SX} {v : SY} (I : i_Rel k u v) (hk : k + 4 ≤ 2051) (v1 : Int32) (v2 : Int32) (v3 : Int32) : wpX_weight (fun r => wpY_weight (fun r' => r' = r ∧ i_Rel (k + 4) u v) v v1 v2 v3) u v1 v2 v3 := by
  refine i_el (Q := fun u v => wpX_weight (fun r => wpY_weight (fun r' => r' = r ∧ i_Rel (k + 4) u v) v v1 v2 v3) u v1 v2 v3) I ?_
  intro n rR lR rc has im be lo co ts ln W D Hd A U V R T kk gi w d Fd P C Vy h
  have hN := iv_n h
  rcases rg_c v3 n (by omega) with ⟨q, hq, rfl⟩ | hv3
  · refine xr_1 hq (by omega) (br_f (by decide) ?_)
    rcases rg_c v1 5 (by omega) with ⟨a, ha, rfl⟩ | hv1
    · refine pk_eq a 4 (fun e => ?_) (fun e4 => ?_)
      · subst e
        exact ⟨in_n q (by omega), yr_1 (N := 5) ha (by omega) rfl (br_f (by decide) (yr_1 hq (by omega) rfl (br_f (by decide) (br_f (by decide) (br_f (by decide) (br_f (by decide) (br_f (by decide) ⟨in_n q (by omega), rfl, i_in h⟩)))))))⟩
      · refine pk_eq a 0 (fun e => ?_) (fun e0 => ?_)
        · subst e
          rcases rg_c v2 rc (by omega) with ⟨j, hj, rfl⟩ | hv
          · refine xr_1 hj (by omega) (br_f (by decide) (br_t (nI_pos' (by omega)) ⟨in_n (j * 8 + q) (by omega) (ix_x j q), yr_1 (N := 5) ha (by omega) rfl (br_f (by decide) (yr_1 hq (by omega) rfl (br_f (by decide) (br_t rfl (yr_1 hj (by omega) rfl (br_f (by decide) ⟨in_n (j * 8 + q) (by omega) (ix_y j q), ?_, i_in h⟩))))))⟩))
            rw [rd_z (j * 8 + q) (ix_y j q), rd_z (j * 8 + q) (ix_x j q), (iv_e h j (by omega)).1 q hq]
          · exact xr_0 hv (by omega) (br_t rfl (br_f (by decide) (yr_1 (N := 5) ha (by omega) rfl (br_f (by decide) (yr_1 hq (by omega) rfl (br_f (by decide) (br_t rfl (yr_0 hv (by omega) rfl (br_t rfl ⟨rfl, i_in h⟩)))))))))
        · refine pk_eq a 1 (fun e => ?_) (fun e1 => ?_)
          · subst e
            rcases rg_c v2 lR (by omega) with ⟨j, hj, rfl⟩ | hv
            · have eH := (iv_h h).1 j (by omega)
              refine xr_1 hj (by omega) (br_f (by decide) ⟨in_n j (by omega), zb_b (Hd j) (fun z => br_f (by decide) (yr_1 (N := 5) ha (by omega) rfl (br_f (by decide) (yr_1 hq (by omega) rfl (br_f (by decide) (br_f (by decide) (br_t rfl (xr_1 hj (by omega) (br_f (by decide) ⟨in_n j (by omega), zb_b (Fd j) (fun _ => ⟨rfl, i_in h⟩) (fun z2 => by rw [eH, z] at z2; cases z2) (rd_b j)⟩))))))))) (fun z => ?_) (rd_b j)⟩)
              rw [ix_10]
              refine br_t (nI_pos' (by omega)) ⟨in_n ((10 + j) * 8 + q) (by omega) (ix_x (10 + j) q), yr_1 (N := 5) ha (by omega) rfl (br_f (by decide) (yr_1 hq (by omega) rfl (br_f (by decide) (br_f (by decide) (br_t rfl (xr_1 hj (by omega) (br_f (by decide) ⟨in_n j (by omega), zb_b (Fd j) (fun z2 => by rw [eH, z] at z2; cases z2) (fun _ => ⟨in_n ((10 + j) * 8 + q) (by omega) (ix_8t j q), ?_, i_in h⟩) (rd_b j)⟩)))))))⟩
              rw [rd_z ((10 + j) * 8 + q) (ix_8t j q), rd_z ((10 + j) * 8 + q) (ix_x (10 + j) q), (iv_e h (10 + j) (by omega)).1 q hq]
            · exact xr_0 hv (by omega) (br_t rfl (br_f (by decide) (yr_1 (N := 5) ha (by omega) rfl (br_f (by decide) (yr_1 hq (by omega) rfl (br_f (by decide) (br_f (by decide) (br_t rfl (xr_0 hv (by omega) (br_t rfl ⟨rfl, i_in h⟩))))))))))
          · refine pk_eq a 2 (fun e => ?_) (fun e2 => ?_)
            · subst e
              refine br_t (by decide) ⟨in_n (26 * 8 + q) (by omega) (ix_x 26 q), yr_1 (N := 5) ha (by omega) rfl (br_f (by decide) (yr_1 hq (by omega) rfl (br_f (by decide) (br_f (by decide) (br_f (by decide) (br_t rfl ⟨in_n q (by omega), ?_, i_in h⟩))))))⟩
              rw [rd_z q, (iv_p h q hq).1]
              exact (rd_z (26 * 8 + q) (ix_x 26 q)).symm
            · refine pk_eq a 3 (fun e => ?_) (fun e3 => by omega)
              subst e
              refine br_t (by decide) ⟨in_n (27 * 8 + q) (by omega) (ix_x 27 q), yr_1 (N := 5) ha (by omega) rfl (br_f (by decide) (yr_1 hq (by omega) rfl (br_f (by decide) (br_f (by decide) (br_f (by decide) (br_f (by decide) (br_t rfl ⟨in_n q (by omega), ?_, i_in h⟩)))))))⟩
              rw [rd_z q, (iv_c h q hq).1]
              exact (rd_z (27 * 8 + q) (ix_x 27 q)).symm
    · exact br_f (hv1 4 (by omega)) (br_f (hv1 0 (by omega)) (br_f (hv1 1 (by omega)) (br_f (hv1 2 (by omega)) (br_f (hv1 3 (by omega)) (br_f (by decide) (yr_0 (N := 5) hv1 (by omega) rfl (br_t rfl ⟨rfl, i_in h⟩)))))))
  · refine xr_0 hv3 (by omega) (br_t rfl ?_)
    rcases rg_c v1 5 (by omega) with ⟨a, ha, rfl⟩ | hv1
    · exact yr_1 (N := 5) ha (by omega) rfl (br_f (by decide) (yr_0 hv3 (by omega) rfl (br_t rfl ⟨rfl, i_in h⟩)))
    · exact yr_0 (N := 5) hv1 (by omega) rfl (br_t rfl ⟨rfl, i_in h⟩)
theorem i_vc_retract {k : Nat} {u : SX} {v : SY} (I : i_Rel k u v) (hk : k + 4 ≤ 2051) : wpX_retract (fun r u' => wpY_retract (fun r' v' => r' = r ∧ i_Rel (k + 4) u' v') v) u := by
  refine i_el (Q := fun u v => wpX_retract (fun r u' => wpY_retract (fun r' v' => r' = r ∧ i_Rel (k + 4) u' v') v) u) I ?_
  intro n rR lR rc has im be lo co ts ln W D Hd A U V R T kk gi w d Fd P C Vy h
  have hN := iv_n h
  by_cases h0 : rc = 0
  · subst h0
    exact br_t rfl (br_t rfl ⟨rfl, i_in h⟩)
  · obtain ⟨m, rfl⟩ : ∃ m, rc = m + 1 := ⟨rc - 1, by omega⟩
    have h' : iv n rR lR m has im be lo W D Hd A kk gi w d Fd P C := ⟨by omega, iv_e h, ⟨iv_p h, iv_k h⟩, ⟨iv_c h, iv_o h⟩, fun r hr => iv_r h r (by omega), iv_l h, iv_h h, iv_m h, iv_lo h, iv_a h⟩
    have h2 := iv_rst h'
    rw [← iv_o h] at h2
    refine br_f (nI_ne0 (by omega) (by omega)) (nm_r (nI_pred m) (xw_reset (br_f (nI_ne0 (by omega) (by omega)) (nm_r (nI_pred m) (yw_reset hN.2.1 hN.2.2.2.1 (iv_cb h) ?_)))))
    rw [← iv_o h]
    exact ⟨rfl, i_in h2⟩
end
section
/-! term, cost, offer -/
theorem zI_ex (x : Int32) : ∃ a : Int, -2147483648 ≤ a ∧ a < 2147483648 ∧ x = zI a := ⟨x.toInt, x.le_toInt, x.toInt_lt, zI_of x⟩
theorem ix_208 {j : Nat} (hj : j < 16) : 208 + nI j / 2 = nI (26 * 8 + j / 2) := by
  rw [show (2 : Int32) = nI 2 from rfl, pk_div (by omega) (by omega) (by omega), show (208 : Int32) = nI 208 from rfl, nI_add]
theorem rm_2 {j : Nat} (hj : j < 16) : nI j - nI j / 2 * 2 = nI (j % 2) := by
  rw [show (2 : Int32) = nI 2 from rfl, pk_rem (by omega) (by omega) (by omega)]
theorem dv_2 {j : Nat} (hj : j < 16) : nI j / 2 = nI (j / 2) := by
  rw [show (2 : Int32) = nI 2 from rfl, pk_div (by omega) (by omega) (by omega)]
theorem rm_b {A B : Prop} {j : Nat} (hj : j < 16) (f : j % 2 = 0 → A) (g : j % 2 ≠ 0 → B) : ((nI j - nI j / 2 * 2) = 0 → A) ∧ (¬ (nI j - nI j / 2 * 2) = 0 → B) :=
  pk_eq (j % 2) 0 f g (rm_2 hj)
theorem xL_1 {A B C : Prop} {j n : Nat} (hj : j < 2 * n) (hn : n ≤ 8) (h : C) : (nI j < 0 → A) ∧ (¬ nI j < 0 → ((2 * nI n ≤ nI j → B) ∧ (¬ 2 * nI n ≤ nI j → C))) := by
  rw [two_n]
  exact xr_1 hj (by omega) h
theorem xL_0 {A C : Prop} {p : Int32} {n : Nat} (hp : ∀ j, j < 2 * n → p ≠ nI j) (hn : n ≤ 8) (h : A) : (p < 0 → A) ∧ (¬ p < 0 → ((2 * nI n ≤ p → A) ∧ (¬ 2 * nI n ≤ p → C))) := by
  rw [two_n]
  exact xr_0 hp (by omega) h
theorem n20 : ¬ (2 : Int32) = 0 := by decide
section
variable {q0 q1 q2 q3 q4 q5 q6 q7 q8 q9 q10 q11 fn frR flR frc fin fbe flo fcl fts fln : Int32} {xw xd xh xa xu xv xr xt : Nat → Int32}
variable {W D : Nat → Int} {n : Nat}
theorem xw_t76 {post : Int32 → SX → Prop} {v : Nat} {x y : Int} (hv : v < 8) (hx : -100 ≤ x ∧ x ≤ 100) (hy : -1000 ≤ y ∧ y ≤ 1000) (H1 : -40 ≤ x ∧ x ≤ 40 → -400 ≤ y ∧ y ≤ 400 → post 1 (q0, q1, q2, q3, q4, q5, q6, q7, q8, q9, q10, q11, fn, frR, flR, frc, fin, fbe, flo, fcl, fts, fln, aZ (ug W (26 * 8 + v) x), aZ (ug D 26 y), xh, xa, xu, xv, xr, xt)) (H0 : ¬ ((-40 ≤ x ∧ x ≤ 40) ∧ (-400 ≤ y ∧ y ≤ 400)) → post (-4) (q0, q1, q2, q3, q4, q5, q6, q7, q8, q9, q10, q11, fn, frR, flR, frc, fin, fbe, flo, fcl, fts, fln, aZ W, aZ D, xh, xa, xu, xv, xr, xt)) : wX_term_76 post (nI (26 * 8 + v)) (zI x) (zI y) q0 q1 q2 q3 q4 q5 q6 q7 q8 q9 q10 q11 fn frR flR frc fin fbe flo fcl fts fln (aZ W) (aZ D) xh xa xu xv xr xt :=
  zb_lt x (-40) (fun _ => H0 (by omega)) (fun _ => zb_le x 40 (fun _ => zb_lt y (-400) (fun _ => H0 (by omega)) (fun _ => zb_le y 400 (fun _ => ⟨in_n (26 * 8 + v) (by omega), nm_r (wr_z (26 * 8 + v) x) (nm_r aZ_u (H1 (by omega) (by omega)))⟩) (fun _ => H0 (by omega)))) (fun _ => H0 (by omega)))
theorem xl_cost {post : Int32 → SX → Prop} {C : Nat → Int} (hn : n ≤ 8) (hC : ∀ v, v < n → W (27 * 8 + v) = C v ∧ -15 ≤ C v ∧ C v ≤ 15) (H : wpX_reset (fun u => post 1 u) (q0, q1, q2, q3, q4, q5, q6, q7, q8, q9, q10, q11, nI n, frR, flR, frc, fin, fbe, flo, fcl, fts, fln, aZ W, aZ (ug D 27 (pb_of C n)), xh, xa, xu, xv, xr, xt)) : ∀ k i : Nat, i ≤ n → n < k + i → wX_cost_40 post q0 q1 q2 q3 q4 q5 q6 q7 q8 q9 q10 q11 (nI n) frR flR frc fin fbe flo fcl fts fln (aZ W) (aZ D) xh xa xu xv xr xt k (zI (pb_of C i)) (nI i) := by
  intro k
  induction k with
  | zero => intro i h1 h2; omega
  | succ k ih =>
    intro i h1 h2
    by_cases hi : i < n
    · have hb := hC i hi
      have ih' := ih (i + 1) (by omega) (by omega)
      rw [pb_of_s] at ih'
      refine br_f (nI_ge hi (by omega)) ⟨in_n (27 * 8 + i) (by omega) (ix_216 i), nm_r (e' := zI (C i)) ((rd_z (27 * 8 + i) (ix_216 i)).trans (congrArg zI hb.1)) (zb_le 0 (C i) (fun hq => nm_r (nI_1 i) ?_) (fun hq => nm_r (zI_add _ _) (nm_r (nI_1 i) ?_)))⟩
      · rw [show pb_of C i + min (C i) 0 = pb_of C i by omega] at ih'; exact ih'
      · rw [show pb_of C i + min (C i) 0 = pb_of C i + C i by omega] at ih'; exact ih'
    · have e : i = n := by omega
      subst e
      exact br_t (nI_le (Nat.le_refl _) (by omega)) (nm_r aZ_u H)
theorem xl_offer {post : Int32 → SX → Prop} {m rc im : Nat} {has : Bool} {be lo : Int} {co : Bool} {C : Nat → Int} (hn : n ≤ 8) (hm : m < 2147483648) (him : im < 2147483648) (hrc : rc ≤ 10) (hb : pb_bd W D n rc) (hC : ∀ v, v < n → W (27 * 8 + v) = C v) (hCb : ∀ v, v < n → -1000 ≤ C v ∧ C v ≤ 1000) (hbe : has = true → -10000 ≤ be ∧ be ≤ 10000) (hlo : -1000000 ≤ lo ∧ lo ≤ 1000000) (H0 : ¬ pb_fe W D n rc m → post 0 (q0, q1, q2, q3, q4, q5, q6, q7, q8, q9, q10, q11, nI n, frR, flR, nI rc, xi has im, zI be, zI lo, b2 co, fts, fln, aZ W, aZ D, xh, xa, xu, xv, xr, xt)) (H3 : pb_fe W D n rc m → has = true → be ≤ pb_ob C n m → post 3 (q0, q1, q2, q3, q4, q5, q6, q7, q8, q9, q10, q11, nI n, frR, flR, nI rc, xi has im, zI be, zI lo, b2 co, fts, fln, aZ W, aZ D, xh, xa, xu, xv, xr, xt)) (H1 : pb_fe W D n rc m → (has = true → pb_ob C n m < be) → post 1 (q0, q1, q2, q3, q4, q5, q6, q7, q8, q9, q10, q11, nI n, frR, flR, nI rc, xi true m, zI (pb_ob C n m), zI lo, b2 (co || decide (lo = pb_ob C n m)), fts, fln, aZ W, aZ D, xh, xa, xu, xv, xr, xt)) : ∀ k i : Nat, i ≤ rc → rc < k + i → pb_fe W D n i m → wX_offer_18 post (nI m) q0 q1 q2 q3 q4 q5 q6 q7 q8 q9 q10 q11 (nI n) frR flR (nI rc) (xi has im) (zI be) (zI lo) (b2 co) fts fln (aZ W) (aZ D) xh xa xu xv xr xt k (nI i) := by
  intro k
  induction k with
  | zero => intro i h1 h2; omega
  | succ k ih =>
    intro i h1 h2 h3
    by_cases hi : i < rc
    · have hbi := hb i hi
      exact br_f (nI_ge hi (by omega)) (xw_sts hn (by omega) hm (fo_rf W D n i) hbi.1 hbi.2 (fun hs => br_f (by decide) (nm_r (nI_1 i) (ih (i + 1) (by omega) (by omega) (lt_s h3 hs)))) (fun hs => br_t rfl (H0 (fun z => hs (z i hi)))))
    · have e : i = rc := by omega
      subst e
      have hob := pb_ob_b (m := m) hn hCb
      exact br_t (nI_le (Nat.le_refl _) (by omega)) (xw_obj hn hm hC (zb_in him (fun z => xw_take hn hm hC hCb hlo (H1 h3 (fun z2 => by rw [z] at z2; cases z2))) (fun z => by
        have hbe' := hbe z
        exact zb_lt (pb_ob C n m) be (fun hq => xw_take hn hm hC hCb hlo (H1 h3 (fun _ => hq))) (fun hq => H3 h3 z hq))))
end
section
variable {gn gR gL gk gc gh gi gl gx : Int32} {yw yd yf yp yc ya yv : Nat → Int32}
variable {n : Nat}
theorem yw_t81 {post : Int32 → SY → Prop} {v : Nat} {x y : Int} {P : Nat → Int} (hv : v < 8) (hx : -100 ≤ x ∧ x ≤ 100) (hy : -1000 ≤ y ∧ y ≤ 1000) (H1 : -40 ≤ x ∧ x ≤ 40 → -400 ≤ y ∧ y ≤ 400 → post 1 (gn, gR, gL, zI y, gc, gh, gi, gl, gx, yw, yd, yf, aZ (ug P v x), yc, ya, yv)) (H0 : ¬ ((-40 ≤ x ∧ x ≤ 40) ∧ (-400 ≤ y ∧ y ≤ 400)) → post (-4) (gn, gR, gL, gk, gc, gh, gi, gl, gx, yw, yd, yf, aZ P, yc, ya, yv)) : wY_term_81 post (nI v) (zI x) (zI y) gn gR gL gk gc gh gi gl gx yw yd yf (aZ P) yc ya yv := by
  by_cases h1 : -40 ≤ x ∧ x ≤ 40
  · refine yi_1 x (-40) 40 h1 (br_f (by decide) ?_)
    by_cases h2 : -400 ≤ y ∧ y ≤ 400
    · exact yi_1 y (-400) 400 h2 (br_f (by decide) ⟨in_n v hv, nm_r (wr_z v x) (H1 h1 h2)⟩)
    · exact yi_0 y (-400) 400 h2 (br_t rfl (H0 (fun z => h2 z.2)))
  · exact yi_0 x (-40) 40 h1 (br_t rfl (H0 (fun z => h1 z.1)))
theorem yw_term {post : Int32 → SY → Prop} {j : Nat} {a kk : Int} {P : Nat → Int} (hn : n ≤ 8) (hj : j < 2 * n) (ha : -15 ≤ a ∧ a ≤ 15) (He : j % 2 = 0 → wY_term_81 post (nI (j / 2)) (zI (P (j / 2) + a)) (zI kk) (nI n) gR gL (zI kk) gc gh gi gl gx yw yd yf (aZ P) yc ya yv) (Ho : j % 2 ≠ 0 → wY_term_81 post (nI (j / 2)) (zI (P (j / 2) - a)) (zI (kk + a)) (nI n) gR gL (zI kk) gc gh gi gl gx yw yd yf (aZ P) yc ya yv) : wpY_term post (nI n, gR, gL, zI kk, gc, gh, gi, gl, gx, yw, yd, yf, aZ P, yc, ya, yv) (zI a) (nI j) := by
  refine yi_1 a (-15) 15 ha (br_f (by decide) (yr_1 hj (by omega) (by rw [two_n]) (br_f (by decide) ⟨n20, nm_r (dv_2 (by omega)) ⟨n20, rm_b (by omega) (fun h => ⟨in_n (j / 2) (by omega), n20, ?_⟩) (fun h => ⟨in_n (j / 2) (by omega), n20, ?_⟩)⟩⟩)))
  · rw [rd_z (j / 2), zI_add]
    exact rm_b (by omega) He (fun z => absurd h z)
  · rw [rd_z (j / 2), zI_sub]
    refine rm_b (by omega) (fun z => absurd z h) (fun z => ?_)
    rw [zI_add]
    exact Ho z
end
theorem i_vc_term {k : Nat} {u : SX} {v : SY} (I : i_Rel k u v) (hk : k + 4 ≤ 2051) (v1 : Int32) (v2 : Int32) : wpX_term (fun r u' => wpY_term (fun r' v' => r' = r ∧ i_Rel (k + 4) u' v') v v1 v2) u v1 v2 := by
  refine i_el (Q := fun u v => wpX_term (fun r u' => wpY_term (fun r' v' => r' = r ∧ i_Rel (k + 4) u' v') v v1 v2) u v1 v2) I ?_
  intro n rR lR rc has im be lo co ts ln W D Hd A U V R T kk gi w d Fd P C Vy h
  have hN := iv_n h
  have hkk := iv_k h
  obtain ⟨a, ha1, ha2, rfl⟩ := zI_ex v1
  by_cases ha : -15 ≤ a ∧ a ≤ 15
  · refine zb_lt a (-15) (fun z => by omega) (fun _ => zb_le a 15 (fun _ => ?_) (fun z => by omega))
    rcases rg_c v2 (2 * n) (by omega) with ⟨j, hj, rfl⟩ | hv
    · have hp := iv_p h (j / 2) (by omega)
      have hi : ∀ x y : Int, -40 ≤ x ∧ x ≤ 40 → -400 ≤ y ∧ y ≤ 400 → iv n rR lR rc has im be lo (ug W (26 * 8 + j / 2) x) (ug D 26 y) Hd A y gi w d Fd (ug P (j / 2) x) C := fun x y h1 h2 =>
        iv_pend h (fun i hi hi2 => ⟨fun v hv => ug_n (by omega), ug_n hi⟩) (fun v hv => by
          by_cases c : v = j / 2
          · subst c; rw [ug_s, ug_s]; exact ⟨rfl, h1⟩
          · rw [ug_n c, ug_n (by omega)]; exact iv_p h v hv) ⟨ug_s.symm, h2⟩
      refine xL_1 hj hN.2.1 (br_f (by decide) ⟨n20, nm_r (ix_208 (by omega)) ⟨in_n (26 * 8 + j / 2) (by omega), nm_r (e' := zI (P (j / 2))) ((rd_z (26 * 8 + j / 2)).trans (congrArg zI hp.1.symm)) (nm_r (e' := zI kk) (congrArg zI hkk.1.symm) ⟨n20, rm_b (by omega) (fun he => nm_r (zI_add _ _) ?_) (fun ho => nm_r (zI_sub _ _) (nm_r (zI_add _ _) ?_))⟩)⟩⟩)
      · exact xw_t76 (by omega) (by omega) (by omega) (fun h1 h2 => yw_term hN.2.1 hj ha (fun _ => yw_t81 (by omega) (by omega) (by omega) (fun _ _ => ⟨rfl, i_in (hi _ _ h1 h2)⟩) (fun z => absurd ⟨h1, h2⟩ z)) (fun z => absurd he z)) (fun h0 => yw_term hN.2.1 hj ha (fun _ => yw_t81 (by omega) (by omega) (by omega) (fun h1 h2 => absurd ⟨h1, h2⟩ h0) (fun _ => ⟨rfl, i_in h⟩)) (fun z => absurd he z))
      · exact xw_t76 (by omega) (by omega) (by omega) (fun h1 h2 => yw_term hN.2.1 hj ha (fun z => absurd z ho) (fun _ => yw_t81 (by omega) (by omega) (by omega) (fun _ _ => ⟨rfl, i_in (hi _ _ h1 h2)⟩) (fun z => absurd ⟨h1, h2⟩ z))) (fun h0 => yw_term hN.2.1 hj ha (fun z => absurd z ho) (fun _ => yw_t81 (by omega) (by omega) (by omega) (fun h1 h2 => absurd ⟨h1, h2⟩ h0) (fun _ => ⟨rfl, i_in h⟩)))
    · exact xL_0 hv hN.2.1 (br_t rfl (yi_1 a (-15) 15 ha (br_f (by decide) (yr_0 hv (by omega) (by rw [two_n]) (br_t rfl ⟨rfl, i_in h⟩)))))
  · exact zb_lt a (-15) (fun _ => yi_0 a (-15) 15 ha (br_t rfl ⟨rfl, i_in h⟩)) (fun _ => zb_le a 15 (fun z => by omega) (fun _ => yi_0 a (-15) 15 ha (br_t rfl ⟨rfl, i_in h⟩)))
theorem i_vc_cost {k : Nat} {u : SX} {v : SY} (I : i_Rel k u v) (hk : k + 4 ≤ 2051) (v1 : Int32) (v2 : Int32) : wpX_cost (fun r u' => wpY_cost (fun r' v' => r' = r ∧ i_Rel (k + 4) u' v') v v1 v2) u v1 v2 := by
  refine i_el (Q := fun u v => wpX_cost (fun r u' => wpY_cost (fun r' v' => r' = r ∧ i_Rel (k + 4) u' v') v v1 v2) u v1 v2) I ?_
  intro n rR lR rc has im be lo co ts ln W D Hd A U V R T kk gi w d Fd P C Vy h
  have hN := iv_n h
  rcases rg_c v1 n (by omega) with ⟨j, hj, rfl⟩ | hv
  · refine xr_1 hj (by omega) (br_f (by decide) ?_)
    obtain ⟨a, ha1, ha2, rfl⟩ := zI_ex v2
    by_cases ha : -15 ≤ a ∧ a ≤ 15
    · refine zb_lt a (-15) (fun z => by omega) (fun _ => zb_le a 15 (fun _ => ⟨in_n (27 * 8 + j) (by omega) (ix_216 j), nm_r (wr_z (27 * 8 + j) a (ix_216 j) rfl) ?_⟩) (fun z => by omega))
      have hC' : ∀ v, v < n → ug W (27 * 8 + j) a (27 * 8 + v) = ug C j a v ∧ -15 ≤ ug C j a v ∧ ug C j a v ≤ 15 := fun v hv => by
        by_cases c : v = j
        · subst c; rw [ug_s, ug_s]; exact ⟨rfl, ha⟩
        · rw [ug_n c, ug_n (by omega)]
          have := iv_c h v hv
          exact ⟨this.1.symm, this.2⟩
      have h2 := iv_rst h
      have hb := pb_of_b (C := ug C j a) hN.2.1 (fun v hv => (hC' v hv).2)
      have h' : iv n rR lR rc false 0 0 (pb_of (ug C j a) n) (ug W (27 * 8 + j) a) (ug D 27 (pb_of (ug C j a) n)) (cl Hd 12) A kk gi w d (cl Fd lR) P (ug C j a) := by
        refine ⟨hN, fun i hi => fo_sq (iv_e h i hi) ⟨fun v hv => ug_n (by omega), ug_n (by omega)⟩ (fo_er _ _ _ _), ⟨fun v hv => ?_, ?_⟩, ⟨fun v hv => ⟨(hC' v hv).1.symm, (hC' v hv).2⟩, ug_s⟩, fun r hr => ?_, fun s hs z => ?_, iv_h h2, ⟨Nat.two_pow_pos n, fun z => Bool.noConfusion z⟩, by omega, iv_a h⟩
        · rw [ug_n (by omega)]; exact iv_p h v hv
        · rw [ug_n (by omega)]; exact iv_k h
        · rw [ug_n (by omega)]
          exact ⟨fun v hv => by rw [ug_n (by omega)]; exact (iv_r h r hr).1 v hv, (iv_r h r hr).2⟩
        · rw [show cl Hd 12 s = false from if_pos hs] at z
          exact Bool.noConfusion z
      have hCb : ∀ v, v < n → -1000 ≤ ug C j a v ∧ ug C j a v ≤ 1000 := fun v hv => by have := hC' v hv; omega
      refine Exists.intro (n + 1) (xl_cost (C := ug C j a) hN.2.1 hC' (xw_reset ?_) (n + 1) 0 (by omega) (by omega))
      refine yr_1 hj (by omega) rfl (br_f (by decide) (yi_1 a (-15) 15 ha (br_f (by decide) ⟨in_n j (by omega), nm_r (wr_z j a) (yw_reset hN.2.1 hN.2.2.2.1 hCb ⟨rfl, ?_⟩)⟩)))
      rw [ug_s]
      exact i_in h'
    · exact zb_lt a (-15) (fun _ => yr_1 hj (by omega) rfl (br_f (by decide) (yi_0 a (-15) 15 ha (br_t rfl ⟨rfl, i_in h⟩)))) (fun _ => zb_le a 15 (fun z => by omega) (fun _ => yr_1 hj (by omega) rfl (br_f (by decide) (yi_0 a (-15) 15 ha (br_t rfl ⟨rfl, i_in h⟩)))))
  · exact xr_0 hv (by omega) (br_t rfl (yr_0 hv (by omega) rfl (br_t rfl ⟨rfl, i_in h⟩)))
theorem iv_bdX {n rR lR rc : Nat} {has : Bool} {im : Nat} {be lo : Int} {W D : Nat → Int} {Hd : Nat → Bool} {A : Nat → Nat} {kk : Int} {gi : Int32} {w d : Nat → Int} {Fd : Nat → Bool} {P C : Nat → Int} (h : iv n rR lR rc has im be lo W D Hd A kk gi w d Fd P C) : pb_bd W D n rc := fun r hr => by
  have a := iv_r h r hr
  exact ⟨fun v hv => by have := a.1 v hv; omega, by omega⟩
theorem iv_take {n rR lR rc : Nat} {has : Bool} {im : Nat} {be lo : Int} {W D : Nat → Int} {Hd : Nat → Bool} {A : Nat → Nat} {kk : Int} {gi : Int32} {w d : Nat → Int} {Fd : Nat → Bool} {P C : Nat → Int} (h : iv n rR lR rc has im be lo W D Hd A kk gi w d Fd P C) {m : Nat} (hm : m < 2 ^ n) : iv n rR lR rc true m (pb_ob C n m) lo W D Hd A kk (nI m) w d Fd P C :=
  ⟨iv_n h, iv_e h, ⟨iv_p h, iv_k h⟩, ⟨iv_c h, iv_o h⟩, iv_r h, iv_l h, iv_h h, ⟨hm, fun _ => ⟨rfl, rfl⟩⟩, iv_lo h, iv_a h⟩
theorem i_vc_offer {k : Nat} {u : SX} {v : SY} (I : i_Rel k u v) (hk : k + 4 ≤ 2051) (v1 : Int32) : wpX_offer (fun r u' => wpY_offer (fun r' v' => r' = r ∧ i_Rel (k + 4) u' v') v v1) u v1 := by
  refine i_el (Q := fun u v => wpX_offer (fun r u' => wpY_offer (fun r' v' => r' = r ∧ i_Rel (k + 4) u' v') v v1) u v1) I ?_
  intro n rR lR rc has im be lo co ts ln W D Hd A U V R T kk gi w d Fd P C Vy h
  have hN := iv_n h
  have h8 := p2_8 hN.2.1
  have hlo := iv_lo h
  have esh := sh_1 hN.2.1
  rcases rg_c v1 (2 ^ n) (by omega) with ⟨m, hm, rfl⟩ | hv
  · refine br_f (nI_pos (by omega)) ?_
    have hm2 : m < 2147483648 := by omega
    have hr : (1 : Int32) <<< (nI n &&& 31) - 1 = nI (2 ^ n) - 1 := by rw [esh]
    have hlt : nI m < (1 : Int32) <<< (nI n &&& 31) := by rw [esh]; exact nI_lt hm (by omega)
    have hbe : has = true → -10000 ≤ be ∧ be ≤ 10000 := fun z => by have := iv_be h z; omega
    refine br_t hlt (Exists.intro (rc + 1) (xl_offer hN.2.1 hm2 (iv_im h) (by omega) (iv_bdX h) (iv_c1 h) (iv_cb h) hbe (by omega) (fun hf => ?_) (fun hf z hq => ?_) (fun hf hq => ?_) (rc + 1) 0 (by omega) (by omega) lt_0))
    · exact yr_1 hm (by omega) hr (br_f (by decide) (yw_fea hN.2.1 (by omega) hm2 (iv_bdY h) (fun z => absurd ((iv_fe h m).mp z) hf) (fun _ => br_t rfl ⟨rfl, i_in h⟩)))
    · exact yr_1 hm (by omega) hr (br_f (by decide) (yw_fea hN.2.1 (by omega) hm2 (iv_bdY h) (fun _ => br_f (by decide) (yw_bet hN.2.1 (by omega) hm2 (iv_bdY h) (iv_cb h) (iv_gi h) (fun zb => by have := zb.2 z; have := iv_be h z; omega) (fun _ => br_t rfl ⟨rfl, i_in h⟩))) (fun z => absurd ((iv_fe h m).mpr hf) z)))
    · exact yr_1 hm (by omega) hr (br_f (by decide) (yw_fea hN.2.1 (by omega) hm2 (iv_bdY h) (fun z => br_f (by decide) (yw_bet hN.2.1 (by omega) hm2 (iv_bdY h) (iv_cb h) (iv_gi h) (fun zb => br_f (by decide) (yw_take hN.2.1 hm2 (iv_cb h) (by omega) ⟨rfl, i_in (iv_take h hm)⟩)) (fun zb => absurd ⟨z, fun z2 => by have := hq z2; have := iv_be h z2; omega⟩ zb))) (fun z => absurd ((iv_fe h m).mpr hf) z)))
  · have hr : (1 : Int32) <<< (nI n &&& 31) - 1 = nI (2 ^ n) - 1 := by rw [esh]
    refine br_c (fun _ => yr_0 hv (by omega) hr (br_t rfl ⟨rfl, i_in h⟩)) (fun h0 => br_f (fun z => ?_) (yr_0 hv (by omega) hr (br_t rfl ⟨rfl, i_in h⟩)))
    obtain ⟨j, hj, e⟩ := nI_of h0
    subst e
    rw [esh, nI_ltI hj (by omega)] at z
    exact hv j z rfl
end
section
/-! Y: the derivation checker's loops -/
section
variable {gn gR gL gk gc gh gi gl gx : Int32} {yw yd yf yp yc ya yv : Nat → Int32}
variable {w d : Nat → Int} {n : Nat}
theorem yw_clamp {post : Int32 → Prop} {u : SY} {p q r : Int32} (x a b : Int) (hab : a ≤ b) (H : post (zI (max a (min x b)))) (hp : p = zI x := by rfl) (hq : q = zI a := by rfl) (hr : r = zI b := by rfl) (h1 : -2147483648 ≤ x := by omega) (h2 : x < 2147483648 := by omega) (h3 : -2147483648 ≤ a := by omega) (h4 : a < 2147483648 := by omega) (h5 : -2147483648 ≤ b := by omega) (h6 : b < 2147483648 := by omega) : wpY_clamp post u p q r := by
  subst hp hq hr
  show (zI a ≤ zI x → ((zI x ≤ zI b → post (zI x)) ∧ (¬ zI x ≤ zI b → post (zI b)))) ∧ (¬ zI a ≤ zI x → post (zI a))
  refine zb_le a x (fun z => zb_le x b (fun z2 => ?_) (fun z2 => ?_)) (fun z => ?_)
  · rw [show max a (min x b) = x by omega] at H; exact H
  · rw [show max a (min x b) = b by omega] at H; exact H
  · rw [show max a (min x b) = a by omega] at H; exact H
theorem yl_sat {post : Int32 → SY → Prop} {s a : Nat} {f F : Nat → Int} {e : Int} (hn : n ≤ 8) (ha : a < 12) (hf : ∀ v, v < n → w ((10 + a) * 8 + v) = f v) (hF : ∀ v, v < n → F v = pb_st e (f v)) (hb : ∀ v, v < n → -1000 ≤ f v ∧ f v ≤ 1000) (he : 0 ≤ e ∧ e ≤ 9999) (hd : d 23 = e) (H : wpY_put (fun r u => post r u) (nI n, gR, gL, gk, gc, gh, gi, gl, gx, aZ (rs w 23 n F), aZ d, yf, yp, yc, ya, yv) (nI s)) : ∀ k i : Nat, i ≤ n → n < k + i → wY_saturate_48 post (nI s) (nI a) (nI n) gR gL gk gc gh gi gl gx k (nI i) (aZ (rs w 23 i F)) (aZ d) yf yp yc ya yv := by
  intro k
  induction k with
  | zero => intro i h1 h2; omega
  | succ k ih =>
    intro i h1 h2
    by_cases hi : i < n
    · have ih' := ih (i + 1) (by omega) (by omega)
      have hbi := hb i hi
      refine br_f (nI_ge hi (by omega)) ⟨in_n ((10 + a) * 8 + i) (by omega) (ix_8t a i), yw_clamp (f i) (-e) e (by omega) ⟨in_n (23 * 8 + i) (by omega) (ix_184 i), nm_r (wr_z (23 * 8 + i) (F i) (ix_184 i) ?_) (nm_r (nI_1 i) ?_)⟩ ?_ ?_ (congrArg zI hd)⟩
      · rw [hF i hi]; rfl
      · rw [rs_s]; exact ih'
      · rw [rd_z ((10 + a) * 8 + i) (ix_8t a i), rs_ge (by omega) (Or.inr (by omega)) (by omega), hf i hi]
      · show -zI (d 23) = _
        rw [hd, zI_neg]
    · have ei : i = n := by omega
      subst ei
      exact br_t (nI_le (Nat.le_refl _) (by omega)) H
theorem yl_weak {post : Int32 → SY → Prop} {s a u : Nat} {f F : Nat → Int} {e : Int} (hn : n ≤ 8) (ha : a < 12) (hu : u < n) (hf : ∀ v, v < n → w ((10 + a) * 8 + v) = f v) (hF : ∀ v, v < n → F v = if v = u then 0 else f v) (hb : ∀ v, v < n → -1000 ≤ f v ∧ f v ≤ 1000) (he : 0 ≤ e ∧ e ≤ 9999) (hd : d (10 + a) = e) (H : wpY_put (fun r u => post r u) (nI n, gR, gL, gk, gc, gh, gi, gl, gx, aZ (rs w 23 n F), aZ (ug d 23 (max 0 (e - pb_ab (f u)))), yf, yp, yc, ya, yv) (nI s)) : ∀ k i : Nat, i ≤ n → n < k + i → wY_weaken_48 post (nI s) (nI a) (nI u) (nI n) gR gL gk gc gh gi gl gx k (nI i) (aZ (rs w 23 i F)) (aZ d) yf yp yc ya yv := by
  intro k
  induction k with
  | zero => intro i h1 h2; omega
  | succ k ih =>
    intro i h1 h2
    by_cases hi : i < n
    · have ih' := ih (i + 1) (by omega) (by omega)
      refine br_f (nI_ge hi (by omega)) (pk_eq i u (fun c => ⟨in_n (23 * 8 + i) (by omega) (ix_184 i), nm_r (wr_z (23 * 8 + i) (F i) (ix_184 i) ?_) (nm_r (nI_1 i) ?_)⟩) (fun c => ⟨in_n ((10 + a) * 8 + i) (by omega) (ix_8t a i), in_n (23 * 8 + i) (by omega) (ix_184 i), nm_r (wr_z (23 * 8 + i) (F i) (ix_184 i) ?_) (nm_r (nI_1 i) ?_)⟩))
      · rw [hF i hi, if_pos c]; rfl
      · rw [rs_s]; exact ih'
      · rw [rd_z ((10 + a) * 8 + i) (ix_8t a i), rs_ge (by omega) (Or.inr (by omega)) (by omega), hf i hi, hF i hi, if_neg c]
      · rw [rs_s]; exact ih'
    · have ei : i = n := by omega
      subst ei
      have hbu := hb u hu
      have hab := pb_ab_b hbu
      have hab0 := pb_ab_nn (f u)
      refine br_t (nI_le (Nat.le_refl _) (by omega)) ⟨in_n (10 + a) (by omega) (ix_10 a), in_n ((10 + a) * 8 + u) (by omega) (ix_8t a u), yw_abs (f u) (nm_r (e' := zI (e - pb_ab (f u))) ?_ (zb_le 0 (e - pb_ab (f u)) (fun hq => And.intro (in_n 23 (by omega)) (nm_r (wr_z 23 (e - pb_ab (f u))) ?_)) (fun hq => And.intro (in_n 23 (by omega)) (nm_r (wr_z 23 0) ?_)))) ?_⟩
      · rw [rd_z (10 + a) (ix_10 a), hd, zI_sub]
      · rw [show max 0 (e - pb_ab (f u)) = e - pb_ab (f u) by omega] at H; exact H
      · rw [show max 0 (e - pb_ab (f u)) = 0 by omega] at H; exact H
      · rw [rd_z ((10 + a) * 8 + u) (ix_8t a u), rs_ge (by omega) (Or.inr (by omega)) (by omega), hf u hu]
theorem yl_mul {post : Int32 → SY → Prop} {s a : Nat} {f F : Nat → Int} {e g : Int} (hn : n ≤ 8) (ha : a < 12) (hf : ∀ v, v < n → w ((10 + a) * 8 + v) = f v) (hF : ∀ v, v < n → F v = f v * g) (hd : d (10 + a) = e) (H : wpY_scratchTooBig (fun r => (r = 0 → wpY_put (fun r u => post r u) (nI n, gR, gL, gk, gc, gh, gi, gl, gx, aZ (rs w 23 n F), aZ (ug d 23 (e * g)), yf, yp, yc, ya, yv) (nI s)) ∧ (¬ r = 0 → post (-4) (nI n, gR, gL, gk, gc, gh, gi, gl, gx, aZ (rs w 23 n F), aZ (ug d 23 (e * g)), yf, yp, yc, ya, yv))) (nI n, gR, gL, gk, gc, gh, gi, gl, gx, aZ (rs w 23 n F), aZ (ug d 23 (e * g)), yf, yp, yc, ya, yv)) : ∀ k i : Nat, i ≤ n → n < k + i → wY_multiply_44 post (nI s) (nI a) (zI g) (nI n) gR gL gk gc gh gi gl gx k (nI i) (aZ (rs w 23 i F)) (aZ d) yf yp yc ya yv := by
  intro k
  induction k with
  | zero => intro i h1 h2; omega
  | succ k ih =>
    intro i h1 h2
    by_cases hi : i < n
    · have ih' := ih (i + 1) (by omega) (by omega)
      refine br_f (nI_ge hi (by omega)) ⟨in_n ((10 + a) * 8 + i) (by omega) (ix_8t a i), in_n (23 * 8 + i) (by omega) (ix_184 i), nm_r (wr_z (23 * 8 + i) (F i) (ix_184 i) ?_) (nm_r (nI_1 i) ?_)⟩
      · rw [rd_z ((10 + a) * 8 + i) (ix_8t a i), rs_ge (by omega) (Or.inr (by omega)) (by omega), hf i hi, hF i hi, zI_mul]
      · rw [rs_s]; exact ih'
    · have ei : i = n := by omega
      subst ei
      refine br_t (nI_le (Nat.le_refl _) (by omega)) ⟨in_n (10 + a) (by omega) (ix_10 a), nm_r (e' := aZ (ug d 23 (e * g))) ?_ H⟩
      rw [rd_z (10 + a) (ix_10 a), hd, zI_mul, aZ_u]
theorem yl_div {post : Int32 → SY → Prop} {s a : Nat} {f F : Nat → Int} {e p : Int} (hn : n ≤ 8) (ha : a < 12) (hp : 1 ≤ p ∧ p ≤ 100) (hf : ∀ v, v < n → w ((10 + a) * 8 + v) = f v) (hF : ∀ v, v < n → F v = pb_dv p (f v)) (hb : ∀ v, v < n → -1000 ≤ f v ∧ f v ≤ 1000) (he : 0 ≤ e ∧ e ≤ 9999) (hd : d (10 + a) = e) (H : wpY_put (fun r u => post r u) (nI n, gR, gL, gk, gc, gh, gi, gl, gx, aZ (rs w 23 n F), aZ (ug d 23 (pb_du p e)), yf, yp, yc, ya, yv) (nI s)) : ∀ k i : Nat, i ≤ n → n < k + i → wY_divide_44 post (nI s) (nI a) (zI p) (nI n) gR gL gk gc gh gi gl gx k (nI i) (aZ (rs w 23 i F)) (aZ d) yf yp yc ya yv := by
  have hp0 : ¬ zI p = 0 := by
    rw [show (0 : Int32) = zI 0 from rfl, zI_eq (by omega) (by omega) (by omega) (by omega)]; omega
  have hdu : ∀ x : Int, 0 ≤ x → x ≤ 1000000000 → (zI x + zI p - 1) / zI p = zI (pb_du p x) := by
    intro x h1 h2
    rw [zI_add, show (1 : Int32) = zI 1 from rfl, zI_sub, zI_div (by omega) (by omega) (by omega) (by omega)]
    rfl
  intro k
  induction k with
  | zero => intro i h1 h2; omega
  | succ k ih =>
    intro i h1 h2
    by_cases hi : i < n
    · have ih' := ih (i + 1) (by omega) (by omega)
      have hbi := hb i hi
      have hab0 := pb_ab_nn (f i)
      have hab := pb_ab_b hbi
      refine br_f (nI_ge hi (by omega)) ⟨in_n ((10 + a) * 8 + i) (by omega) (ix_8t a i), nm_r (e' := zI (f i)) ?_ (yw_abs (f i) ⟨hp0, nm_r (hdu _ hab0 (by omega)) (zb_le 0 (f i) (fun hq => ⟨in_n (23 * 8 + i) (by omega) (ix_184 i), nm_r (wr_z (23 * 8 + i) (F i) (ix_184 i) ?_) (nm_r (nI_1 i) ?_)⟩) (fun hq => ⟨in_n (23 * 8 + i) (by omega) (ix_184 i), nm_r (wr_z (23 * 8 + i) (F i) (ix_184 i) ?_) (nm_r (nI_1 i) ?_)⟩))⟩)⟩
      · rw [rd_z ((10 + a) * 8 + i) (ix_8t a i), rs_ge (by omega) (Or.inr (by omega)) (by omega), hf i hi]
      · rw [hF i hi, pb_dv_p (by omega)]
      · rw [rs_s]; exact ih'
      · rw [hF i hi, pb_dv_n (by omega), zI_neg]
      · rw [rs_s]; exact ih'
    · have ei : i = n := by omega
      subst ei
      refine br_t (nI_le (Nat.le_refl _) (by omega)) ⟨in_n (10 + a) (by omega) (ix_10 a), hp0, nm_r (e' := aZ (ug d 23 (pb_du p e))) ?_ H⟩
      rw [rd_z (10 + a) (ix_10 a), hd, hdu e he.1 (by omega), aZ_u]
theorem yl_a150 {post : Int32 → SY → Prop} {J : Int32 → Int32 → (Nat → Int32) → (Nat → Int32) → (Nat → Int32) → (Nat → Int32) → (Nat → Int32) → (Nat → Int32) → (Nat → Int32) → Prop} {i : Nat} {p1 p2 p3 : Int32} {x y c : Int} (hx : -1000000000 ≤ x ∧ x ≤ 1000000000) (hy : -1000000000 ≤ y ∧ y ≤ 1000000000) (H : J (zI (c - min (pb_ab x) (pb_ab y))) (nI (i + 1)) yw yd yf yp yc ya yv) : wY_add_150 post J p1 p2 p3 (zI c) (nI i) (zI x) (zI y) gn gR gL gk gc gh gi gl gx yw yd yf yp yc ya yv := by
  have hxb := pb_ab_b hx
  have hyb := pb_ab_b hy
  refine yw_abs x (yw_abs y (zb_le (pb_ab y) (pb_ab x) (fun hq => yw_abs y (nm_r (zI_sub _ _) (nm_r (nI_1 i) ?_))) (fun hq => yw_abs x (nm_r (zI_sub _ _) (nm_r (nI_1 i) ?_)))))
  · rw [show min (pb_ab x) (pb_ab y) = pb_ab y by omega] at H; exact H
  · rw [show min (pb_ab x) (pb_ab y) = pb_ab x by omega] at H; exact H
theorem yl_add {post : Int32 → SY → Prop} {s a b : Nat} {t : Int} {f g F : Nat → Int} (hn : n ≤ 8) (ha : a < 12) (hb : b < 12) (hf : ∀ v, v < n → w ((10 + a) * 8 + v) = f v) (hg : ∀ v, v < n → w ((10 + b) * 8 + v) = g v) (hF : ∀ v, v < n → F v = f v + g v) (hfb : ∀ v, v < n → -1000 ≤ f v ∧ f v ≤ 1000) (hgb : ∀ v, v < n → -1000 ≤ g v ∧ g v ≤ 1000) (ht : 0 ≤ t ∧ t ≤ 20000) (H : wpY_scratchTooBig (fun r => (r = 0 → wpY_put (fun r u => post r u) (nI n, gR, gL, gk, gc, gh, gi, gl, gx, aZ (rs w 23 n F), aZ (ug d 23 (max 0 (pb_ci f g t n))), yf, yp, yc, ya, yv) (nI s)) ∧ (¬ r = 0 → post (-4) (nI n, gR, gL, gk, gc, gh, gi, gl, gx, aZ (rs w 23 n F), aZ (ug d 23 (max 0 (pb_ci f g t n))), yf, yp, yc, ya, yv))) (nI n, gR, gL, gk, gc, gh, gi, gl, gx, aZ (rs w 23 n F), aZ (ug d 23 (max 0 (pb_ci f g t n))), yf, yp, yc, ya, yv)) : ∀ k i : Nat, i ≤ n → n < k + i → wY_add_71 post (nI s) (nI a) (nI b) (nI n) gR gL gk gc gh gi gl gx k (zI (pb_ci f g t i)) (nI i) (aZ (rs w 23 i F)) (aZ d) yf yp yc ya yv := by
  intro k
  induction k with
  | zero => intro i h1 h2; omega
  | succ k ih =>
    intro i h1 h2
    by_cases hi : i < n
    · have bf := hfb i hi
      have bg := hgb i hi
      have ih' := ih (i + 1) (by omega) (by omega)
      rw [pb_ci_s] at ih'
      have n65 : ¬ ((0 < f i ∧ g i < 0) ∨ (f i < 0 ∧ 0 < g i)) → wY_add_140 post (wY_add_71 post (nI s) (nI a) (nI b) (nI n) gR gL gk gc gh gi gl gx k) (nI s) (nI a) (nI b) (zI (pb_ci f g t i)) (nI i) (zI (f i)) (zI (g i)) (nI n) gR gL gk gc gh gi gl gx (aZ (rs w 23 (i + 1) F)) (aZ d) yf yp yc ya yv := fun hc => by
        rw [pb_cx_f hc, Int.sub_zero] at ih'
        exact zb_le 0 (f i) (fun hq => nm_r (nI_1 i) ih') (fun hq => zb_le (g i) 0 (fun hr => nm_r (nI_1 i) ih') (fun hr => absurd (Or.inr ⟨hq, hr⟩) hc))
      have y75 : ((0 < f i ∧ g i < 0) ∨ (f i < 0 ∧ 0 < g i)) → wY_add_150 post (wY_add_71 post (nI s) (nI a) (nI b) (nI n) gR gL gk gc gh gi gl gx k) (nI s) (nI a) (nI b) (zI (pb_ci f g t i)) (nI i) (zI (f i)) (zI (g i)) (nI n) gR gL gk gc gh gi gl gx (aZ (rs w 23 (i + 1) F)) (aZ d) yf yp yc ya yv := fun hc => by
        rw [pb_cx_t hc] at ih'
        exact yl_a150 (by omega) (by omega) ih'
      refine br_f (nI_ge hi (by omega)) ⟨in_n ((10 + a) * 8 + i) (by omega) (ix_8t a i), nm_r (e' := zI (f i)) ?_ ⟨in_n ((10 + b) * 8 + i) (by omega) (ix_8t b i), nm_r (e' := zI (g i)) ?_ ⟨in_n (23 * 8 + i) (by omega) (ix_184 i), nm_r (e' := aZ (rs w 23 (i + 1) F)) ?_ (zb_le (f i) 0 (fun hq => ?_) (fun hq => zb_lt (g i) 0 (fun hr => y75 (Or.inl ⟨hq, hr⟩)) (fun hr => n65 (by omega))))⟩⟩⟩
      · rw [rd_z ((10 + a) * 8 + i) (ix_8t a i), rs_ge (by omega) (Or.inr (by omega)) (by omega), hf i hi]
      · rw [rd_z ((10 + b) * 8 + i) (ix_8t b i), rs_ge (by omega) (Or.inr (by omega)) (by omega), hg i hi]
      · rw [wr_z (23 * 8 + i) (F i) (ix_184 i) (by rw [zI_add, hF i hi]), rs_s]
      · by_cases hc : (0 < f i ∧ g i < 0) ∨ (f i < 0 ∧ 0 < g i)
        · exact zb_le 0 (f i) (fun hr => absurd hc (by omega)) (fun hr => zb_le (g i) 0 (fun hr => absurd hc (by omega)) (fun hr => y75 hc))
        · exact n65 hc
    · have ei : i = n := by omega
      subst ei
      have hm := pb_sm_8 (g := fun v => pb_cx (f v) (g v)) (B := 1000) hn (by omega) (fun v hv => pb_cx_b (hfb v hv))
      have hc : pb_ci f g t i = t - pb_sm (fun v => pb_cx (f v) (g v)) i := rfl
      refine br_t (nI_le (Nat.le_refl _) (by omega)) (zb_le 0 (pb_ci f g t i) (fun hp => And.intro (in_n 23 (by omega)) (nm_r (wr_z 23 (pb_ci f g t i) rfl rfl) ?_)) (fun hp => And.intro (in_n 23 (by omega)) (nm_r (wr_z 23 0 rfl rfl) ?_)))
      · rw [show max 0 (pb_ci f g t i) = pb_ci f g t i by omega] at H; exact H
      · rw [show max 0 (pb_ci f g t i) = 0 by omega] at H; exact H
theorem yl_lrow {post : Int32 → SY → Prop} {s r : Nat} {F : Nat → Int} {e : Int} (hn : n ≤ 8) (hr : r < 10) (hF : ∀ v, v < n → w (r * 8 + v) = F v) (hd : d r = e) (H : wpY_put (fun r u => post r u) (nI n, gR, gL, gk, gc, gh, gi, gl, gx, aZ (rs w 23 n F), aZ (ug d 23 e), yf, yp, yc, ya, yv) (nI s)) : ∀ k i : Nat, i ≤ n → n < k + i → wY_load_100 post (nI s) 0 (nI r) (nI n) gR gL gk gc gh gi gl gx k (nI i) (aZ (rs w 23 i F)) (aZ d) yf yp yc ya yv := by
  intro k
  induction k with
  | zero => intro i h1 h2; omega
  | succ k ih =>
    intro i h1 h2
    by_cases hi : i < n
    · have ih' := ih (i + 1) (by omega) (by omega)
      refine br_f (nI_ge hi (by omega)) (br_t rfl ⟨in_n (r * 8 + i) (by omega) (ix_y r i), in_n (23 * 8 + i) (by omega) (ix_184 i), nm_r (wr_z (23 * 8 + i) (F i) (ix_184 i) ?_) (nm_r (nI_1 i) ?_)⟩)
      · rw [rd_z (r * 8 + i) (ix_y r i), rs_ge (by omega) (Or.inr (by omega)) (by omega), hF i hi]
      · rw [rs_s]; exact ih'
    · have ei : i = n := by omega
      subst ei
      exact br_t (nI_le (Nat.le_refl _) (by omega)) (br_t rfl ⟨in_n r (by omega), And.intro (in_n 23 (by omega)) (nm_r (wr_z 23 e rfl ((rd_z r).trans (congrArg zI hd))) H)⟩)
theorem yl_llit {post : Int32 → SY → Prop} {s j : Nat} {F : Nat → Int} (hn : n ≤ 8) (hj : j < 16) (hF : ∀ v, v < n → F v = if v = j / 2 then (if j % 2 = 0 then 1 else -1) else 0) (H : wpY_put (fun r u => post r u) (nI n, gR, gL, gk, gc, gh, gi, gl, gx, aZ (rs w 23 n F), aZ (ug d 23 0), yf, yp, yc, ya, yv) (nI s)) : ∀ k i : Nat, i ≤ n → n < k + i → wY_load_100 post (nI s) 2 (nI j) (nI n) gR gL gk gc gh gi gl gx k (nI i) (aZ (rs w 23 i F)) (aZ d) yf yp yc ya yv := by
  intro k
  induction k with
  | zero => intro i h1 h2; omega
  | succ k ih =>
    intro i h1 h2
    by_cases hi : i < n
    · have ih' := ih (i + 1) (by omega) (by omega)
      refine br_f (nI_ge hi (by omega)) (br_f n20 ⟨n20, pk_eq i (j / 2) (fun c => ⟨n20, rm_b hj (fun z => ⟨in_n (23 * 8 + i) (by omega) (ix_184 i), nm_r (wr_z (23 * 8 + i) (F i) (ix_184 i) ?_) (nm_r (nI_1 i) ?_)⟩) (fun z => ⟨in_n (23 * 8 + i) (by omega) (ix_184 i), nm_r (wr_z (23 * 8 + i) (F i) (ix_184 i) ?_) (nm_r (nI_1 i) ?_)⟩)⟩) (fun c => ⟨in_n (23 * 8 + i) (by omega) (ix_184 i), nm_r (wr_z (23 * 8 + i) (F i) (ix_184 i) ?_) (nm_r (nI_1 i) ?_)⟩) rfl (dv_2 hj)⟩)
      · rw [hF i hi, if_pos c, if_pos z]; rfl
      · rw [rs_s]; exact ih'
      · rw [hF i hi, if_pos c, if_neg z]; rfl
      · rw [rs_s]; exact ih'
      · rw [hF i hi, if_neg c]; rfl
      · rw [rs_s]; exact ih'
    · have ei : i = n := by omega
      subst ei
      exact br_t (nI_le (Nat.le_refl _) (by omega)) (br_f n20 (And.intro (in_n 23 (by omega)) (nm_r (wr_z 23 0 rfl rfl) H)))
/-- the end of a line operation on Y's side -/
theorem yw_tail {post : Int32 → SY → Prop} {s : Nat} {F : Nat → Int} {e : Int} {Fd : Nat → Bool} (hn : n ≤ 8) (hs : s < 12) (h : fo_is w d n 23 F e) (hF : ∀ v, v < n → -100000000 ≤ F v ∧ F v ≤ 100000000) (hd : 0 ≤ e ∧ e ≤ 1000000000) (HB : ((∃ v, v < n ∧ 1000 < pb_ab (F v)) ∨ 9999 < e) → post (-4) (nI n, gR, gL, gk, gc, gh, gi, gl, gx, aZ w, aZ d, aB Fd, yp, yc, ya, yv)) (H : (∀ v, v < n → pb_ab (F v) ≤ 1000) → e ≤ 9999 → ∀ w' d', fo_is w' d' n (10 + s) F e → (∀ i, i ≠ 10 + s → fo_eq w d w' d' n i) → (pb_sm (fun v => pb_ab (F v)) n < e → post 2 (nI n, gR, gL, gk, gc, gh, gi, gl, gx, aZ w', aZ d', aB (ug Fd s true), yp, yc, ya, yv)) ∧ (e ≤ pb_sm (fun v => pb_ab (F v)) n → post 1 (nI n, gR, gL, gk, gc, gh, gi, gl, gx, aZ w', aZ d', aB (ug Fd s true), yp, yc, ya, yv))) : wpY_scratchTooBig (fun r => (r = 0 → wpY_put (fun r u => post r u) (nI n, gR, gL, gk, gc, gh, gi, gl, gx, aZ w, aZ d, aB Fd, yp, yc, ya, yv) (nI s)) ∧ (¬ r = 0 → post (-4) (nI n, gR, gL, gk, gc, gh, gi, gl, gx, aZ w, aZ d, aB Fd, yp, yc, ya, yv))) (nI n, gR, gL, gk, gc, gh, gi, gl, gx, aZ w, aZ d, aB Fd, yp, yc, ya, yv) :=
  yw_big hn h hF hd (fun z => br_f (by decide) (HB z)) (fun z1 z2 => br_t rfl (yw_put hn hs h hF hd (fun w' d' a b c => (H z1 z2 w' d' a b).1 c) (fun w' d' a b c => (H z1 z2 w' d' a b).2 c)))
theorem yx_sat {post : Int32 → SY → Prop} {s a : Nat} {f F : Nat → Int} {e : Int} (hn : n ≤ 8) (ha : a < 12) (hf : ∀ v, v < n → w ((10 + a) * 8 + v) = f v) (hF : ∀ v, v < n → F v = pb_st e (f v)) (hb : ∀ v, v < n → -1000 ≤ f v ∧ f v ≤ 1000) (he : 0 ≤ e ∧ e ≤ 9999) (hd : d 23 = e) (H : wpY_put (fun r u => post r u) (nI n, gR, gL, gk, gc, gh, gi, gl, gx, aZ (rs w 23 n F), aZ d, yf, yp, yc, ya, yv) (nI s)) : wY_saturate_48 post (nI s) (nI a) (nI n) gR gL gk gc gh gi gl gx (n + 1) 0 (aZ w) (aZ d) yf yp yc ya yv := by
  have z := yl_sat hn ha hf hF hb he hd H (n + 1) 0 (by omega) (by omega)
  rw [rs_0] at z
  exact z
theorem yx_weak {post : Int32 → SY → Prop} {s a u : Nat} {f F : Nat → Int} {e : Int} (hn : n ≤ 8) (ha : a < 12) (hu : u < n) (hf : ∀ v, v < n → w ((10 + a) * 8 + v) = f v) (hF : ∀ v, v < n → F v = if v = u then 0 else f v) (hb : ∀ v, v < n → -1000 ≤ f v ∧ f v ≤ 1000) (he : 0 ≤ e ∧ e ≤ 9999) (hd : d (10 + a) = e) (H : wpY_put (fun r u => post r u) (nI n, gR, gL, gk, gc, gh, gi, gl, gx, aZ (rs w 23 n F), aZ (ug d 23 (max 0 (e - pb_ab (f u)))), yf, yp, yc, ya, yv) (nI s)) : wY_weaken_48 post (nI s) (nI a) (nI u) (nI n) gR gL gk gc gh gi gl gx (n + 1) 0 (aZ w) (aZ d) yf yp yc ya yv := by
  have z := yl_weak hn ha hu hf hF hb he hd H (n + 1) 0 (by omega) (by omega)
  rw [rs_0] at z
  exact z
theorem yx_mul {post : Int32 → SY → Prop} {s a : Nat} {f F : Nat → Int} {e g : Int} (hn : n ≤ 8) (ha : a < 12) (hf : ∀ v, v < n → w ((10 + a) * 8 + v) = f v) (hF : ∀ v, v < n → F v = f v * g) (hd : d (10 + a) = e) (H : wpY_scratchTooBig (fun r => (r = 0 → wpY_put (fun r u => post r u) (nI n, gR, gL, gk, gc, gh, gi, gl, gx, aZ (rs w 23 n F), aZ (ug d 23 (e * g)), yf, yp, yc, ya, yv) (nI s)) ∧ (¬ r = 0 → post (-4) (nI n, gR, gL, gk, gc, gh, gi, gl, gx, aZ (rs w 23 n F), aZ (ug d 23 (e * g)), yf, yp, yc, ya, yv))) (nI n, gR, gL, gk, gc, gh, gi, gl, gx, aZ (rs w 23 n F), aZ (ug d 23 (e * g)), yf, yp, yc, ya, yv)) : wY_multiply_44 post (nI s) (nI a) (zI g) (nI n) gR gL gk gc gh gi gl gx (n + 1) 0 (aZ w) (aZ d) yf yp yc ya yv := by
  have z := yl_mul hn ha hf hF hd H (n + 1) 0 (by omega) (by omega)
  rw [rs_0] at z
  exact z
theorem yx_div {post : Int32 → SY → Prop} {s a : Nat} {f F : Nat → Int} {e p : Int} (hn : n ≤ 8) (ha : a < 12) (hp : 1 ≤ p ∧ p ≤ 100) (hf : ∀ v, v < n → w ((10 + a) * 8 + v) = f v) (hF : ∀ v, v < n → F v = pb_dv p (f v)) (hb : ∀ v, v < n → -1000 ≤ f v ∧ f v ≤ 1000) (he : 0 ≤ e ∧ e ≤ 9999) (hd : d (10 + a) = e) (H : wpY_put (fun r u => post r u) (nI n, gR, gL, gk, gc, gh, gi, gl, gx, aZ (rs w 23 n F), aZ (ug d 23 (pb_du p e)), yf, yp, yc, ya, yv) (nI s)) : wY_divide_44 post (nI s) (nI a) (zI p) (nI n) gR gL gk gc gh gi gl gx (n + 1) 0 (aZ w) (aZ d) yf yp yc ya yv := by
  have z := yl_div hn ha hp hf hF hb he hd H (n + 1) 0 (by omega) (by omega)
  rw [rs_0] at z
  exact z
theorem yx_add {post : Int32 → SY → Prop} {s a b : Nat} {t : Int} {f g F : Nat → Int} (hn : n ≤ 8) (ha : a < 12) (hb : b < 12) (hf : ∀ v, v < n → w ((10 + a) * 8 + v) = f v) (hg : ∀ v, v < n → w ((10 + b) * 8 + v) = g v) (hF : ∀ v, v < n → F v = f v + g v) (hfb : ∀ v, v < n → -1000 ≤ f v ∧ f v ≤ 1000) (hgb : ∀ v, v < n → -1000 ≤ g v ∧ g v ≤ 1000) (ht : 0 ≤ t ∧ t ≤ 20000) (H : wpY_scratchTooBig (fun r => (r = 0 → wpY_put (fun r u => post r u) (nI n, gR, gL, gk, gc, gh, gi, gl, gx, aZ (rs w 23 n F), aZ (ug d 23 (max 0 (pb_ci f g t n))), yf, yp, yc, ya, yv) (nI s)) ∧ (¬ r = 0 → post (-4) (nI n, gR, gL, gk, gc, gh, gi, gl, gx, aZ (rs w 23 n F), aZ (ug d 23 (max 0 (pb_ci f g t n))), yf, yp, yc, ya, yv))) (nI n, gR, gL, gk, gc, gh, gi, gl, gx, aZ (rs w 23 n F), aZ (ug d 23 (max 0 (pb_ci f g t n))), yf, yp, yc, ya, yv)) : wY_add_71 post (nI s) (nI a) (nI b) (nI n) gR gL gk gc gh gi gl gx (n + 1) (zI t) 0 (aZ w) (aZ d) yf yp yc ya yv := by
  have z := yl_add hn ha hb hf hg hF hfb hgb ht H (n + 1) 0 (by omega) (by omega)
  rw [rs_0, show pb_ci f g t 0 = t from Int.sub_zero t] at z
  exact z
theorem yx_lrow {post : Int32 → SY → Prop} {s r : Nat} {F : Nat → Int} {e : Int} (hn : n ≤ 8) (hr : r < 10) (hF : ∀ v, v < n → w (r * 8 + v) = F v) (hd : d r = e) (H : wpY_put (fun r u => post r u) (nI n, gR, gL, gk, gc, gh, gi, gl, gx, aZ (rs w 23 n F), aZ (ug d 23 e), yf, yp, yc, ya, yv) (nI s)) : wY_load_100 post (nI s) 0 (nI r) (nI n) gR gL gk gc gh gi gl gx (n + 1) 0 (aZ w) (aZ d) yf yp yc ya yv := by
  have z := yl_lrow hn hr hF hd H (n + 1) 0 (by omega) (by omega)
  rw [rs_0] at z
  exact z
theorem yx_llit {post : Int32 → SY → Prop} {s j : Nat} {F : Nat → Int} (hn : n ≤ 8) (hj : j < 16) (hF : ∀ v, v < n → F v = if v = j / 2 then (if j % 2 = 0 then 1 else -1) else 0) (H : wpY_put (fun r u => post r u) (nI n, gR, gL, gk, gc, gh, gi, gl, gx, aZ (rs w 23 n F), aZ (ug d 23 0), yf, yp, yc, ya, yv) (nI s)) : wY_load_100 post (nI s) 2 (nI j) (nI n) gR gL gk gc gh gi gl gx (n + 1) 0 (aZ w) (aZ d) yf yp yc ya yv := by
  have z := yl_llit hn hj hF H (n + 1) 0 (by omega) (by omega)
  rw [rs_0] at z
  exact z
end
end
section
/-! the derivation checker: both sides -/
theorem hb_f {A B : Prop} {H : Nat → Bool} {a : Nat} (ha : a < 12) (e : H a = false) (x : A) : (aB H (nI a).toNatClampNeg = 0 → A) ∧ (¬ aB H (nI a).toNatClampNeg = 0 → B) :=
  zb_b (H a) (fun _ => x) (fun z => by rw [e] at z; cases z) (rd_b a)
theorem hb_t {A B : Prop} {H : Nat → Bool} {a : Nat} (ha : a < 12) (e : H a = true) (x : B) : (aB H (nI a).toNatClampNeg = 0 → A) ∧ (¬ aB H (nI a).toNatClampNeg = 0 → B) :=
  zb_b (H a) (fun z => by rw [e] at z; cases z) (fun _ => x) (rd_b a)
theorem ab_r {x : Int} (h : pb_ab x ≤ 1000) : -1000 ≤ x ∧ x ≤ 1000 := by unfold pb_ab at h; omega
section
variable {q0 q1 q2 q3 q4 q5 q6 q7 q8 q9 q10 q11 fn frR flR frc fin fbe flo fcl fts fln : Int32} {xw xd xh xa xu xv xr xt : Nat → Int32}
variable {W D W0 D0 : Nat → Int} {n : Nat}
theorem xw_fin {post : Int32 → SX → Prop} {s : Nat} {F : Nat → Int} {e : Int} {Hd : Nat → Bool} (hn : n ≤ 8) (hs : s < 12) (h : fo_is W D n 25 F e) (hfr : ∀ i, i ≠ 25 → fo_eq W0 D0 W D n i) (hF : ∀ v, v < n → -1000 ≤ F v ∧ F v ≤ 1000) (hd : 0 ≤ e ∧ e ≤ 9999) (H : ∀ W' D', fo_is W' D' n (10 + s) F e → (∀ i, i ≠ 10 + s → i < 22 ∨ i = 26 ∨ i = 27 → fo_eq W0 D0 W' D' n i) → (pb_sm (fun v => pb_ab (F v)) n < e → post 2 (q0, q1, q2, q3, q4, q5, q6, q7, q8, q9, q10, q11, nI n, frR, flR, frc, fin, fbe, flo, fcl, fts, fln, aZ W', aZ D', aB (ug Hd s true), xa, xu, xv, xr, xt)) ∧ (e ≤ pb_sm (fun v => pb_ab (F v)) n → post 1 (q0, q1, q2, q3, q4, q5, q6, q7, q8, q9, q10, q11, nI n, frR, flR, frc, fin, fbe, flo, fcl, fts, fln, aZ W', aZ D', aB (ug Hd s true), xa, xu, xv, xr, xt))) : wpX_store (fun r u => post r u) (q0, q1, q2, q3, q4, q5, q6, q7, q8, q9, q10, q11, nI n, frR, flR, frc, fin, fbe, flo, fcl, fts, fln, aZ W, aZ D, aB Hd, xa, xu, xv, xr, xt) (nI s) :=
  xw_store hn hs h (fun v hv => by have := hF v hv; omega) (by omega) (fun W' D' a b c => (H W' D' a (fun i h1 h2 => fo_et (hfr i (by omega)) (b i h1))).1 c) (fun W' D' a b c => (H W' D' a (fun i h1 h2 => fo_et (hfr i (by omega)) (b i h1))).2 c)
end
section
variable {gn gR gL gk gc gh gi gl gx : Int32} {yw yd yf yp yc ya yv : Nat → Int32}
variable {w d w0 d0 : Nat → Int} {n : Nat}
theorem yw_fin {post : Int32 → SY → Prop} {s : Nat} {F : Nat → Int} {e : Int} {Fd : Nat → Bool} (hn : n ≤ 8) (hs : s < 12) (h : fo_is w d n 23 F e) (hfr : ∀ i, i ≠ 23 → fo_eq w0 d0 w d n i) (hF : ∀ v, v < n → -1000 ≤ F v ∧ F v ≤ 1000) (hd : 0 ≤ e ∧ e ≤ 9999) (H : ∀ w' d', fo_is w' d' n (10 + s) F e → (∀ i, i ≠ 10 + s → i < 22 → fo_eq w0 d0 w' d' n i) → (pb_sm (fun v => pb_ab (F v)) n < e → post 2 (nI n, gR, gL, gk, gc, gh, gi, gl, gx, aZ w', aZ d', aB (ug Fd s true), yp, yc, ya, yv)) ∧ (e ≤ pb_sm (fun v => pb_ab (F v)) n → post 1 (nI n, gR, gL, gk, gc, gh, gi, gl, gx, aZ w', aZ d', aB (ug Fd s true), yp, yc, ya, yv))) : wpY_put (fun r u => post r u) (nI n, gR, gL, gk, gc, gh, gi, gl, gx, aZ w, aZ d, aB Fd, yp, yc, ya, yv) (nI s) :=
  yw_put hn hs h (fun v hv => by have := hF v hv; omega) (by omega) (fun w' d' a b c => (H w' d' a (fun i h1 h2 => fo_et (hfr i (by omega)) (b i h1))).1 c) (fun w' d' a b c => (H w' d' a (fun i h1 h2 => fo_et (hfr i (by omega)) (b i h1))).2 c)
end
section
variable {k n rR lR rc : Nat} {has : Bool} {im : Nat} {be lo : Int} {co : Bool} {ts ln : Nat} {W D : Nat → Int} {Hd : Nat → Bool} {A : Nat → Nat} {U : Nat → Bool} {V : Nat → Nat} {R : Nat → Int} {T : Nat → Nat} {kk : Int} {gi : Int32} {w d : Nat → Int} {Fd : Nat → Bool} {P C : Nat → Int} {Vy : Nat → Nat}
theorem jn_line {s : Nat} {F : Nat → Int} {e : Int} (XP : (Int32 → SX → Prop) → Prop) (YP : (Int32 → SY → Prop) → Prop) (h : iv n rR lR rc has im be lo W D Hd A kk gi w d Fd P C) (hs : s < lR) (hF : ∀ v, v < n → -1000 ≤ F v ∧ F v ≤ 1000) (he : 0 ≤ e ∧ e ≤ 9999)
  (hX : ∀ post : Int32 → SX → Prop, (∀ W' D', fo_is W' D' n (10 + s) F e → (∀ i, i ≠ 10 + s → i < 22 ∨ i = 26 ∨ i = 27 → fo_eq W D W' D' n i) → (pb_sm (fun v => pb_ab (F v)) n < e → post 2 (10, 22, 23, 24, 25, 26, 27, 28, 32, 60, (-1), (-2), nI n, nI rR, nI lR, nI rc, xi has im, zI be, zI lo, b2 co, nI ts, nI ln, aZ W', aZ D', aB (ug Hd s true), aN A, aB U, aN V, aZ R, aN T)) ∧ (e ≤ pb_sm (fun v => pb_ab (F v)) n → post 1 (10, 22, 23, 24, 25, 26, 27, 28, 32, 60, (-1), (-2), nI n, nI rR, nI lR, nI rc, xi has im, zI be, zI lo, b2 co, nI ts, nI ln, aZ W', aZ D', aB (ug Hd s true), aN A, aB U, aN V, aZ R, aN T))) → XP post)
  (hY : ∀ post : Int32 → SY → Prop, (∀ w' d', fo_is w' d' n (10 + s) F e → (∀ i, i ≠ 10 + s → i < 22 → fo_eq w d w' d' n i) → (pb_sm (fun v => pb_ab (F v)) n < e → post 2 (nI n, nI rR, nI lR, zI kk, nI rc, b2 has, gi, zI lo, b2 co, aZ w', aZ d', aB (ug Fd s true), aZ P, aZ C, aN A, aN Vy)) ∧ (e ≤ pb_sm (fun v => pb_ab (F v)) n → post 1 (nI n, nI rR, nI lR, zI kk, nI rc, b2 has, gi, zI lo, b2 co, aZ w', aZ d', aB (ug Fd s true), aZ P, aZ C, aN A, aN Vy))) → YP post) :
  XP (fun r u' => YP (fun r' v' => r' = r ∧ i_Rel (k + 4) u' v')) :=
  hX _ (fun W' D' a b => ⟨fun c => hY _ (fun w' d' a' b' => ⟨fun _ => ⟨rfl, i_in (iv_line h hs a b a' b' hF he)⟩, fun c' => absurd c (by omega)⟩), fun c => hY _ (fun w' d' a' b' => ⟨fun c' => absurd c (by omega), fun _ => ⟨rfl, i_in (iv_line h hs a b a' b' hF he)⟩⟩)⟩)
def bigF (n : Nat) (F : Nat → Int) (e : Int) : Prop := (∃ v, v < n ∧ 1000 < pb_ab (F v)) ∨ 9999 < e
theorem bigF_n {F : Nat → Int} {e : Int} (h : ¬ bigF n F e) : (∀ v, v < n → -1000 ≤ F v ∧ F v ≤ 1000) ∧ e ≤ 9999 := by
  refine ⟨fun v hv => ab_r ?_, ?_⟩
  · apply Classical.byContradiction
    intro z
    exact h (Or.inl ⟨v, hv, by omega⟩)
  · apply Classical.byContradiction
    intro z
    exact h (Or.inr (by omega))
theorem jn_big {s : Nat} {F : Nat → Int} {e : Int} (XP : (Int32 → SX → Prop) → Prop) (YP : (Int32 → SY → Prop) → Prop) (h : iv n rR lR rc has im be lo W D Hd A kk gi w d Fd P C) (hs : s < lR) (he : 0 ≤ e)
  (hX : ∀ post : Int32 → SX → Prop, (bigF n F e → ∀ W' D', (∀ i, i < 22 ∨ i = 26 ∨ i = 27 → fo_eq W D W' D' n i) → post (-4) (10, 22, 23, 24, 25, 26, 27, 28, 32, 60, (-1), (-2), nI n, nI rR, nI lR, nI rc, xi has im, zI be, zI lo, b2 co, nI ts, nI ln, aZ W', aZ D', aB Hd, aN A, aB U, aN V, aZ R, aN T)) → (¬ bigF n F e → ∀ W' D', fo_is W' D' n (10 + s) F e → (∀ i, i ≠ 10 + s → i < 22 ∨ i = 26 ∨ i = 27 → fo_eq W D W' D' n i) → (pb_sm (fun v => pb_ab (F v)) n < e → post 2 (10, 22, 23, 24, 25, 26, 27, 28, 32, 60, (-1), (-2), nI n, nI rR, nI lR, nI rc, xi has im, zI be, zI lo, b2 co, nI ts, nI ln, aZ W', aZ D', aB (ug Hd s true), aN A, aB U, aN V, aZ R, aN T)) ∧ (e ≤ pb_sm (fun v => pb_ab (F v)) n → post 1 (10, 22, 23, 24, 25, 26, 27, 28, 32, 60, (-1), (-2), nI n, nI rR, nI lR, nI rc, xi has im, zI be, zI lo, b2 co, nI ts, nI ln, aZ W', aZ D', aB (ug Hd s true), aN A, aB U, aN V, aZ R, aN T))) → XP post)
  (hY : ∀ post : Int32 → SY → Prop, (bigF n F e → ∀ w' d', (∀ i, i < 22 → fo_eq w d w' d' n i) → post (-4) (nI n, nI rR, nI lR, zI kk, nI rc, b2 has, gi, zI lo, b2 co, aZ w', aZ d', aB Fd, aZ P, aZ C, aN A, aN Vy)) → (¬ bigF n F e → ∀ w' d', fo_is w' d' n (10 + s) F e → (∀ i, i ≠ 10 + s → i < 22 → fo_eq w d w' d' n i) → (pb_sm (fun v => pb_ab (F v)) n < e → post 2 (nI n, nI rR, nI lR, zI kk, nI rc, b2 has, gi, zI lo, b2 co, aZ w', aZ d', aB (ug Fd s true), aZ P, aZ C, aN A, aN Vy)) ∧ (e ≤ pb_sm (fun v => pb_ab (F v)) n → post 1 (nI n, nI rR, nI lR, zI kk, nI rc, b2 has, gi, zI lo, b2 co, aZ w', aZ d', aB (ug Fd s true), aZ P, aZ C, aN A, aN Vy))) → YP post) :
  XP (fun r u' => YP (fun r' v' => r' = r ∧ i_Rel (k + 4) u' v')) :=
  hX _ (fun z W' D' b => hY _ (fun _ w' d' b' => ⟨rfl, i_in (iv_W h b b')⟩) (fun z2 => absurd z z2)) (fun z W' D' a b => ⟨fun c => hY _ (fun z2 => absurd z2 z) (fun _ w' d' a' b' => ⟨fun _ => ⟨rfl, i_in (iv_line h hs a b a' b' (bigF_n z).1 ⟨he, (bigF_n z).2⟩)⟩, fun c' => absurd c (by omega)⟩), fun c => hY _ (fun z2 => absurd z2 z) (fun _ w' d' a' b' => ⟨fun c' => absurd c (by omega), fun _ => ⟨rfl, i_in (iv_line h hs a b a' b' (bigF_n z).1 ⟨he, (bigF_n z).2⟩)⟩⟩)⟩)
end
theorem i_vc_saturate {k : Nat} {u : SX} {v : SY} (I : i_Rel k u v) (hk : k + 4 ≤ 2051) (v1 : Int32) (v2 : Int32) : wpX_saturate (fun r u' => wpY_saturate (fun r' v' => r' = r ∧ i_Rel (k + 4) u' v') v v1 v2) u v1 v2 := by
  refine i_el (Q := fun u v => wpX_saturate (fun r u' => wpY_saturate (fun r' v' => r' = r ∧ i_Rel (k + 4) u' v') v v1 v2) u v1 v2) I ?_
  intro n rR lR rc has im be lo co ts ln W D Hd A U V R T kk gi w d Fd P C Vy h
  have hN := iv_n h
  rcases rg_c v1 lR (by omega) with ⟨s, hs, rfl⟩ | hv
  · rcases rg_c v2 lR (by omega) with ⟨a, ha, rfl⟩ | hv
    · have eF := (iv_h h).1 a (by omega)
      cases ea : Hd a
      · rw [ea] at eF
        exact xr_1 hs (by omega) (br_f (by decide) (xr_1 ha (by omega) (br_f (by decide) ⟨in_n a (by omega), hb_f (by omega) ea (xr_1 hs (by omega) (br_f (by decide) (xr_1 ha (by omega) (br_f (by decide) ⟨in_n a (by omega), hb_f (by omega) eF ⟨rfl, i_in h⟩⟩))))⟩)))
      · rw [ea] at eF
        have hl := iv_l h a (by omega) ea
        have eY := iv_e h (10 + a) (by omega)
        refine jn_line (co := co) (ts := ts) (ln := ln) (U := U) (V := V) (R := R) (T := T) (Vy := Vy) (fun post => wpX_saturate post (10, 22, 23, 24, 25, 26, 27, 28, 32, 60, (-1), (-2), nI n, nI rR, nI lR, nI rc, xi has im, zI be, zI lo, b2 co, nI ts, nI ln, aZ W, aZ D, aB Hd, aN A, aB U, aN V, aZ R, aN T) (nI s) (nI a)) (fun post => wpY_saturate post (nI n, nI rR, nI lR, zI kk, nI rc, b2 has, gi, zI lo, b2 co, aZ w, aZ d, aB Fd, aZ P, aZ C, aN A, aN Vy) (nI s) (nI a)) (F := fun v => pb_st (D (10 + a)) (W ((10 + a) * 8 + v))) (e := D (10 + a)) h hs (fun v hv => ?_) hl.2 (fun post H => ?_) (fun post H => ?_)
        · have := hl.1 v hv
          (try dsimp only)
          unfold pb_st
          omega
        · refine xr_1 hs (by omega) (br_f (by decide) (xr_1 ha (by omega) (br_f (by decide) ⟨in_n a (by omega), hb_t (by omega) ea ?_⟩)))
          rw [ix_10]
          refine xw_copy (t := 25) (s := 10 + a) hN.2.1 (by omega) (by omega) (fo_rf W D n (10 + a)) (fun W1 D1 f1 g1 => xw_sat (t := 25) hN.2.1 (by omega) f1 (fun v hv => ?_) (by omega) (fun W2 f2 g2 => xw_fin hN.2.1 (by omega) f2 (fun i hi => fo_et (g1 i hi) (g2 i hi)) (fun v hv => ?_) hl.2 H))
          · have := hl.1 v hv
            (try dsimp only)
            omega
          · have := hl.1 v hv
            (try dsimp only)
            unfold pb_st
            omega
        · refine xr_1 hs (by omega) (br_f (by decide) (xr_1 ha (by omega) (br_f (by decide) ⟨in_n a (by omega), hb_t (by omega) eF ⟨in_n (10 + a) (by omega) (ix_10 a), nm_r (e' := aZ (ug d 23 (D (10 + a)))) ?_ (Exists.intro (n + 1) ?_)⟩⟩)))
          · rw [rd_z (10 + a) (ix_10 a), eY.2, aZ_u]
          · refine yx_sat (F := fun v => pb_st (D (10 + a)) (W ((10 + a) * 8 + v))) hN.2.1 (by omega) (fun v hv => eY.1 v hv) (fun v hv => rfl) hl.1 hl.2 ug_s (yw_fin hN.2.1 (by omega) (fo_rw ug_s) (fun i hi => ⟨fun v hv => rs_ge (by omega) (Or.inr hi) (by omega), ug_n hi⟩) (fun v hv => ?_) hl.2 H)
            have := hl.1 v hv
            (try dsimp only)
            unfold pb_st
            omega
    · exact xr_1 hs (by omega) (br_f (by decide) (xr_0 hv (by omega) (br_t rfl (xr_1 hs (by omega) (br_f (by decide) (xr_0 hv (by omega) (br_t rfl ⟨rfl, i_in h⟩)))))))
  · exact xr_0 hv (by omega) (br_t rfl (xr_0 hv (by omega) (br_t rfl ⟨rfl, i_in h⟩)))
end
section
/-! the derivation checker: the other line operations -/
theorem mul_bd {x g A B : Int} (hx : -A ≤ x ∧ x ≤ A) (hg : 0 ≤ g ∧ g ≤ B) : -(A * B) ≤ x * g ∧ x * g ≤ A * B := by
  have h1 : x * g ≤ A * g := Int.mul_le_mul_of_nonneg_right hx.2 hg.1
  have h2 : A * g ≤ A * B := Int.mul_le_mul_of_nonneg_left hg.2 (by omega)
  have h3 : -A * g ≤ x * g := Int.mul_le_mul_of_nonneg_right hx.1 hg.1
  rw [Int.neg_mul] at h3
  omega
theorem dv_bd {x p B : Int} (hp : 0 < p) (hx : -B ≤ x ∧ x ≤ B) : -B ≤ pb_dv p x ∧ pb_dv p x ≤ B := by
  have a := pb_ab_dv (x := x) hp
  have b := pb_du_le (d := pb_ab x) hp (pb_ab_nn x)
  have c := pb_ab_b hx
  have e : -pb_ab (pb_dv p x) ≤ pb_dv p x ∧ pb_dv p x ≤ pb_ab (pb_dv p x) := by
    generalize pb_dv p x = y
    unfold pb_ab
    omega
  omega
theorem bigF_i {n : Nat} {F : Nat → Int} {e : Int} (h1 : ∀ v, v < n → pb_ab (F v) ≤ 1000) (h2 : e ≤ 9999) : ¬ bigF n F e := by
  intro zb
  rcases zb with ⟨v, hv, zb⟩ | zb
  · have := h1 v hv; omega
  · omega
theorem i_vc_weaken {k : Nat} {u : SX} {v : SY} (I : i_Rel k u v) (hk : k + 4 ≤ 2051) (v1 : Int32) (v2 : Int32) (v3 : Int32) : wpX_weaken (fun r u' => wpY_weaken (fun r' v' => r' = r ∧ i_Rel (k + 4) u' v') v v1 v2 v3) u v1 v2 v3 := by
  refine i_el (Q := fun u v => wpX_weaken (fun r u' => wpY_weaken (fun r' v' => r' = r ∧ i_Rel (k + 4) u' v') v v1 v2 v3) u v1 v2 v3) I ?_
  intro n rR lR rc has im be lo co ts ln W D Hd A U V R T kk gi w d Fd P C Vy h
  have hN := iv_n h
  rcases rg_c v1 lR (by omega) with ⟨s, hs, rfl⟩ | hv
  · rcases rg_c v2 lR (by omega) with ⟨a, ha, rfl⟩ | hv
    · rcases rg_c v3 n (by omega) with ⟨q, hq, rfl⟩ | hv
      · have eF := (iv_h h).1 a (by omega)
        cases ea : Hd a
        · rw [ea] at eF
          exact xr_1 hs (by omega) (br_f (by decide) (xr_1 ha (by omega) (br_f (by decide) (xr_1 hq (by omega) (br_f (by decide) ⟨in_n a (by omega), hb_f (by omega) ea (xr_1 hs (by omega) (br_f (by decide) (xr_1 ha (by omega) (br_f (by decide) (yr_1 hq (by omega) rfl (br_f (by decide) ⟨in_n a (by omega), hb_f (by omega) eF ⟨rfl, i_in h⟩⟩))))))⟩)))))
        · rw [ea] at eF
          have hl := iv_l h a (by omega) ea
          have eY := iv_e h (10 + a) (by omega)
          have hab := pb_ab_nn (W ((10 + a) * 8 + q))
          have hFb : ∀ v, v < n → -1000 ≤ (if v = q then 0 else W ((10 + a) * 8 + v)) ∧ (if v = q then 0 else W ((10 + a) * 8 + v)) ≤ 1000 := fun v hv => by
            have := hl.1 v hv
            split <;> omega
          refine jn_line (co := co) (ts := ts) (ln := ln) (U := U) (V := V) (R := R) (T := T) (Vy := Vy) (fun post => wpX_weaken post (10, 22, 23, 24, 25, 26, 27, 28, 32, 60, (-1), (-2), nI n, nI rR, nI lR, nI rc, xi has im, zI be, zI lo, b2 co, nI ts, nI ln, aZ W, aZ D, aB Hd, aN A, aB U, aN V, aZ R, aN T) (nI s) (nI a) (nI q)) (fun post => wpY_weaken post (nI n, nI rR, nI lR, zI kk, nI rc, b2 has, gi, zI lo, b2 co, aZ w, aZ d, aB Fd, aZ P, aZ C, aN A, aN Vy) (nI s) (nI a) (nI q)) (F := fun v => if v = q then 0 else W ((10 + a) * 8 + v)) (e := max 0 (D (10 + a) - pb_ab (W ((10 + a) * 8 + q)))) h hs hFb (by omega) (fun post H => ?_) (fun post H => ?_)
          · refine xr_1 hs (by omega) (br_f (by decide) (xr_1 ha (by omega) (br_f (by decide) (xr_1 hq (by omega) (br_f (by decide) ⟨in_n a (by omega), hb_t (by omega) ea ?_⟩)))))
            rw [ix_10]
            refine xw_copy (t := 25) (s := 10 + a) hN.2.1 (by omega) (by omega) (fo_rf W D n (10 + a)) (fun W1 D1 f1 g1 => xw_weak (t := 25) hN.2.1 hq (by omega) f1 ?_ (by omega) (fun W2 D2 f2 g2 => xw_fin hN.2.1 (by omega) f2 (fun i hi => fo_et (g1 i hi) (g2 i hi)) hFb (by omega) H))
            have := hl.1 q hq
            (try dsimp only)
            omega
          · exact xr_1 hs (by omega) (br_f (by decide) (xr_1 ha (by omega) (br_f (by decide) (yr_1 hq (by omega) rfl (br_f (by decide) ⟨in_n a (by omega), hb_t (by omega) eF (Exists.intro (n + 1) (yx_weak (f := fun v => W ((10 + a) * 8 + v)) (F := fun v => if v = q then 0 else W ((10 + a) * 8 + v)) hN.2.1 (by omega) hq (fun v hv => eY.1 v hv) (fun v hv => rfl) hl.1 hl.2 eY.2 (yw_fin hN.2.1 (by omega) fo_rs (fun i hi => fe_rs hN.2.1 hi) hFb (by omega) H)))⟩)))))
      · exact xr_1 hs (by omega) (br_f (by decide) (xr_1 ha (by omega) (br_f (by decide) (xr_0 hv (by omega) (br_t rfl (xr_1 hs (by omega) (br_f (by decide) (xr_1 ha (by omega) (br_f (by decide) (yr_0 hv (by omega) rfl (br_t rfl ⟨rfl, i_in h⟩)))))))))))
    · exact xr_1 hs (by omega) (br_f (by decide) (xr_0 hv (by omega) (br_t rfl (xr_1 hs (by omega) (br_f (by decide) (xr_0 hv (by omega) (br_t rfl ⟨rfl, i_in h⟩)))))))
  · exact xr_0 hv (by omega) (br_t rfl (xr_0 hv (by omega) (br_t rfl ⟨rfl, i_in h⟩)))
theorem i_vc_divide {k : Nat} {u : SX} {v : SY} (I : i_Rel k u v) (hk : k + 4 ≤ 2051) (v1 : Int32) (v2 : Int32) (v3 : Int32) : wpX_divide (fun r u' => wpY_divide (fun r' v' => r' = r ∧ i_Rel (k + 4) u' v') v v1 v2 v3) u v1 v2 v3 := by
  refine i_el (Q := fun u v => wpX_divide (fun r u' => wpY_divide (fun r' v' => r' = r ∧ i_Rel (k + 4) u' v') v v1 v2 v3) u v1 v2 v3) I ?_
  intro n rR lR rc has im be lo co ts ln W D Hd A U V R T kk gi w d Fd P C Vy h
  have hN := iv_n h
  rcases rg_c v1 lR (by omega) with ⟨s, hs, rfl⟩ | hv
  · rcases rg_c v2 lR (by omega) with ⟨a, ha, rfl⟩ | hv
    · obtain ⟨p, hp1, hp2, rfl⟩ := zI_ex v3
      by_cases hp : 1 ≤ p ∧ p ≤ 100
      · have eF := (iv_h h).1 a (by omega)
        cases ea : Hd a
        · rw [ea] at eF
          exact xr_1 hs (by omega) (br_f (by decide) (xr_1 ha (by omega) (br_f (by decide) (zb_lt p 1 (fun z => by omega) (fun _ => zb_le p 100 (fun _ => ⟨in_n a (by omega), hb_f (by omega) ea (xr_1 hs (by omega) (br_f (by decide) (xr_1 ha (by omega) (br_f (by decide) (zb_lt p 1 (fun z => by omega) (fun _ => zb_le p 100 (fun _ => ⟨in_n a (by omega), hb_f (by omega) eF ⟨rfl, i_in h⟩⟩) (fun z => by omega)))))))⟩) (fun z => by omega))))))
        · rw [ea] at eF
          have hl := iv_l h a (by omega) ea
          have eY := iv_e h (10 + a) (by omega)
          have hFb : ∀ v, v < n → -1000 ≤ pb_dv p (W ((10 + a) * 8 + v)) ∧ pb_dv p (W ((10 + a) * 8 + v)) ≤ 1000 := fun v hv => dv_bd (by omega) (hl.1 v hv)
          have heb : 0 ≤ pb_du p (D (10 + a)) ∧ pb_du p (D (10 + a)) ≤ 9999 := by
            have e1 := pb_du_nn (p := p) (d := D (10 + a)) (by omega) hl.2.1
            have e2 := pb_du_le (p := p) (d := D (10 + a)) (by omega) hl.2.1
            omega
          refine jn_line (co := co) (ts := ts) (ln := ln) (U := U) (V := V) (R := R) (T := T) (Vy := Vy) (fun post => wpX_divide post (10, 22, 23, 24, 25, 26, 27, 28, 32, 60, (-1), (-2), nI n, nI rR, nI lR, nI rc, xi has im, zI be, zI lo, b2 co, nI ts, nI ln, aZ W, aZ D, aB Hd, aN A, aB U, aN V, aZ R, aN T) (nI s) (nI a) (zI p)) (fun post => wpY_divide post (nI n, nI rR, nI lR, zI kk, nI rc, b2 has, gi, zI lo, b2 co, aZ w, aZ d, aB Fd, aZ P, aZ C, aN A, aN Vy) (nI s) (nI a) (zI p)) (F := fun v => pb_dv p (W ((10 + a) * 8 + v))) (e := pb_du p (D (10 + a))) h hs hFb heb (fun post H => ?_) (fun post H => ?_)
          · refine xr_1 hs (by omega) (br_f (by decide) (xr_1 ha (by omega) (br_f (by decide) (zb_lt p 1 (fun z => by omega) (fun _ => zb_le p 100 (fun _ => ⟨in_n a (by omega), hb_t (by omega) ea ?_⟩) (fun z => by omega))))))
            rw [ix_10]
            refine xw_copy (t := 25) (s := 10 + a) hN.2.1 (by omega) (by omega) (fo_rf W D n (10 + a)) (fun W1 D1 f1 g1 => xw_div (t := 25) hN.2.1 (by omega) (by omega) f1 (fun v hv => ?_) (by omega) (fun W2 D2 f2 g2 => xw_fin hN.2.1 (by omega) f2 (fun i hi => fo_et (g1 i hi) (g2 i hi)) hFb heb H))
            have := hl.1 v hv
            (try dsimp only)
            omega
          · exact xr_1 hs (by omega) (br_f (by decide) (xr_1 ha (by omega) (br_f (by decide) (zb_lt p 1 (fun z => by omega) (fun _ => zb_le p 100 (fun _ => ⟨in_n a (by omega), hb_t (by omega) eF (Exists.intro (n + 1) (yx_div (f := fun v => W ((10 + a) * 8 + v)) (F := fun v => pb_dv p (W ((10 + a) * 8 + v))) hN.2.1 (by omega) hp (fun v hv => eY.1 v hv) (fun v hv => rfl) hl.1 hl.2 eY.2 (yw_fin hN.2.1 (by omega) fo_rs (fun i hi => fe_rs hN.2.1 hi) hFb heb H)))⟩) (fun z => by omega))))))
      · have YY : ∀ {u' : SX}, i_Rel (k + 4) u' (nI n, nI rR, nI lR, zI kk, nI rc, b2 has, gi, zI lo, b2 co, aZ w, aZ d, aB Fd, aZ P, aZ C, aN A, aN Vy) → wpY_divide (fun r' v' => r' = -1 ∧ i_Rel (k + 4) u' v') (nI n, nI rR, nI lR, zI kk, nI rc, b2 has, gi, zI lo, b2 co, aZ w, aZ d, aB Fd, aZ P, aZ C, aN A, aN Vy) (nI s) (nI a) (zI p) := fun hu => xr_1 hs (by omega) (br_f (by decide) (xr_1 ha (by omega) (br_f (by decide) (zb_lt p 1 (fun _ => ⟨rfl, hu⟩) (fun _ => zb_le p 100 (fun z => by omega) (fun _ => ⟨rfl, hu⟩))))))
        exact xr_1 hs (by omega) (br_f (by decide) (xr_1 ha (by omega) (br_f (by decide) (zb_lt p 1 (fun _ => YY (i_in h)) (fun _ => zb_le p 100 (fun z => by omega) (fun _ => YY (i_in h)))))))
    · exact xr_1 hs (by omega) (br_f (by decide) (xr_0 hv (by omega) (br_t rfl (xr_1 hs (by omega) (br_f (by decide) (xr_0 hv (by omega) (br_t rfl ⟨rfl, i_in h⟩)))))))
  · exact xr_0 hv (by omega) (br_t rfl (xr_0 hv (by omega) (br_t rfl ⟨rfl, i_in h⟩)))
theorem i_vc_multiply {k : Nat} {u : SX} {v : SY} (I : i_Rel k u v) (hk : k + 4 ≤ 2051) (v1 : Int32) (v2 : Int32) (v3 : Int32) : wpX_multiply (fun r u' => wpY_multiply (fun r' v' => r' = r ∧ i_Rel (k + 4) u' v') v v1 v2 v3) u v1 v2 v3 := by
  refine i_el (Q := fun u v => wpX_multiply (fun r u' => wpY_multiply (fun r' v' => r' = r ∧ i_Rel (k + 4) u' v') v v1 v2 v3) u v1 v2 v3) I ?_
  intro n rR lR rc has im be lo co ts ln W D Hd A U V R T kk gi w d Fd P C Vy h
  have hN := iv_n h
  rcases rg_c v1 lR (by omega) with ⟨s, hs, rfl⟩ | hv
  · rcases rg_c v2 lR (by omega) with ⟨a, ha, rfl⟩ | hv
    · obtain ⟨p, hp1, hp2, rfl⟩ := zI_ex v3
      by_cases hp : 1 ≤ p ∧ p ≤ 100
      · have eF := (iv_h h).1 a (by omega)
        cases ea : Hd a
        · rw [ea] at eF
          exact xr_1 hs (by omega) (br_f (by decide) (xr_1 ha (by omega) (br_f (by decide) (zb_lt p 1 (fun z => by omega) (fun _ => zb_le p 100 (fun _ => ⟨in_n a (by omega), hb_f (by omega) ea (xr_1 hs (by omega) (br_f (by decide) (xr_1 ha (by omega) (br_f (by decide) (yi_1 p 1 100 hp (br_f (by decide) ⟨in_n a (by omega), hb_f (by omega) eF ⟨rfl, i_in h⟩⟩))))))⟩) (fun z => by omega))))))
        · rw [ea] at eF
          have hl := iv_l h a (by omega) ea
          have eY := iv_e h (10 + a) (by omega)
          have hFb : ∀ v, v < n → -100000000 ≤ W ((10 + a) * 8 + v) * p ∧ W ((10 + a) * 8 + v) * p ≤ 100000000 := fun v hv => by
            have := mul_bd (A := 1000) (B := 100) (hl.1 v hv) (show 0 ≤ p ∧ p ≤ 100 by omega)
            omega
          have heb : 0 ≤ D (10 + a) * p ∧ D (10 + a) * p ≤ 1000000000 := by
            have e1 := mul_bd (x := D (10 + a)) (g := p) (A := 9999) (B := 100) (by omega) (by omega)
            have e2 := Int.mul_nonneg hl.2.1 (show 0 ≤ p by omega)
            omega
          refine jn_big (co := co) (ts := ts) (ln := ln) (U := U) (V := V) (R := R) (T := T) (Vy := Vy) (fun post => wpX_multiply post (10, 22, 23, 24, 25, 26, 27, 28, 32, 60, (-1), (-2), nI n, nI rR, nI lR, nI rc, xi has im, zI be, zI lo, b2 co, nI ts, nI ln, aZ W, aZ D, aB Hd, aN A, aB U, aN V, aZ R, aN T) (nI s) (nI a) (zI p)) (fun post => wpY_multiply post (nI n, nI rR, nI lR, zI kk, nI rc, b2 has, gi, zI lo, b2 co, aZ w, aZ d, aB Fd, aZ P, aZ C, aN A, aN Vy) (nI s) (nI a) (zI p)) (F := fun v => W ((10 + a) * 8 + v) * p) (e := D (10 + a) * p) h hs heb.1 (fun post HB H => ?_) (fun post HB H => ?_)
          · refine xr_1 hs (by omega) (br_f (by decide) (xr_1 ha (by omega) (br_f (by decide) (zb_lt p 1 (fun z => by omega) (fun _ => zb_le p 100 (fun _ => ⟨in_n a (by omega), hb_t (by omega) ea ?_⟩) (fun z => by omega))))))
            rw [ix_10]
            refine xw_copy (t := 25) (s := 10 + a) hN.2.1 (by omega) (by omega) (fo_rf W D n (10 + a)) (fun W1 D1 f1 g1 => xw_scale (t := 25) hN.2.1 (by omega) f1 (fun W2 D2 f2 g2 => xw_big (t := 25) hN.2.1 (by omega) f2 hFb heb (fun z => br_f (by decide) (HB z W2 D2 (fun i hi => fo_et (g1 i (by omega)) (g2 i (by omega))))) (fun z1 z2 => br_t rfl (xw_fin hN.2.1 (by omega) f2 (fun i hi => fo_et (g1 i hi) (g2 i hi)) (fun v hv => ab_r (z1 v hv)) ⟨heb.1, z2⟩ (H (bigF_i z1 z2))))))
          · refine xr_1 hs (by omega) (br_f (by decide) (xr_1 ha (by omega) (br_f (by decide) (yi_1 p 1 100 hp (br_f (by decide) ⟨in_n a (by omega), hb_t (by omega) eF (Exists.intro (n + 1) (yx_mul (f := fun v => W ((10 + a) * 8 + v)) (F := fun v => W ((10 + a) * 8 + v) * p) (g := p) hN.2.1 (by omega) (fun v hv => eY.1 v hv) (fun v hv => rfl) eY.2 (yw_tail hN.2.1 (by omega) fo_rs hFb heb (fun z => HB z _ _ (fun i hi => fe_rs hN.2.1 (by omega))) (fun z1 z2 w' d' f1 g1 => H (bigF_i z1 z2) w' d' f1 (fun i h1 h2 => fo_et (fe_rs hN.2.1 (by omega)) (g1 i h1))))))⟩)))))
      · have YY : ∀ {u' : SX}, i_Rel (k + 4) u' (nI n, nI rR, nI lR, zI kk, nI rc, b2 has, gi, zI lo, b2 co, aZ w, aZ d, aB Fd, aZ P, aZ C, aN A, aN Vy) → wpY_multiply (fun r' v' => r' = -1 ∧ i_Rel (k + 4) u' v') (nI n, nI rR, nI lR, zI kk, nI rc, b2 has, gi, zI lo, b2 co, aZ w, aZ d, aB Fd, aZ P, aZ C, aN A, aN Vy) (nI s) (nI a) (zI p) := fun hu => xr_1 hs (by omega) (br_f (by decide) (xr_1 ha (by omega) (br_f (by decide) (yi_0 p 1 100 hp (br_t rfl ⟨rfl, hu⟩)))))
        exact xr_1 hs (by omega) (br_f (by decide) (xr_1 ha (by omega) (br_f (by decide) (zb_lt p 1 (fun _ => YY (i_in h)) (fun _ => zb_le p 100 (fun z => by omega) (fun _ => YY (i_in h)))))))
    · exact xr_1 hs (by omega) (br_f (by decide) (xr_0 hv (by omega) (br_t rfl (xr_1 hs (by omega) (br_f (by decide) (xr_0 hv (by omega) (br_t rfl ⟨rfl, i_in h⟩)))))))
  · exact xr_0 hv (by omega) (br_t rfl (xr_0 hv (by omega) (br_t rfl ⟨rfl, i_in h⟩)))
theorem i_vc_add {k : Nat} {u : SX} {v : SY} (I : i_Rel k u v) (hk : k + 4 ≤ 2051) (v1 : Int32) (v2 : Int32) (v3 : Int32) : wpX_add (fun r u' => wpY_add (fun r' v' => r' = r ∧ i_Rel (k + 4) u' v') v v1 v2 v3) u v1 v2 v3 := by
  refine i_el (Q := fun u v => wpX_add (fun r u' => wpY_add (fun r' v' => r' = r ∧ i_Rel (k + 4) u' v') v v1 v2 v3) u v1 v2 v3) I ?_
  intro n rR lR rc has im be lo co ts ln W D Hd A U V R T kk gi w d Fd P C Vy h
  have hN := iv_n h
  rcases rg_c v1 lR (by omega) with ⟨s, hs, rfl⟩ | hv
  · rcases rg_c v2 lR (by omega) with ⟨a, ha, rfl⟩ | hv
    · rcases rg_c v3 lR (by omega) with ⟨b, hb, rfl⟩ | hv
      · have eF := (iv_h h).1 a (by omega)
        have eG := (iv_h h).1 b (by omega)
        cases ea : Hd a
        · rw [ea] at eF
          exact xr_1 hs (by omega) (br_f (by decide) (xr_1 ha (by omega) (br_f (by decide) (xr_1 hb (by omega) (br_f (by decide) ⟨in_n a (by omega), hb_f (by omega) ea (xr_1 hs (by omega) (br_f (by decide) (xr_1 ha (by omega) (br_f (by decide) (xr_1 hb (by omega) (br_f (by decide) ⟨in_n a (by omega), hb_f (by omega) eF ⟨rfl, i_in h⟩⟩))))))⟩)))))
        · rw [ea] at eF
          cases eb : Hd b
          · rw [eb] at eG
            exact xr_1 hs (by omega) (br_f (by decide) (xr_1 ha (by omega) (br_f (by decide) (xr_1 hb (by omega) (br_f (by decide) ⟨in_n a (by omega), hb_t (by omega) ea ⟨in_n b (by omega), hb_f (by omega) eb (xr_1 hs (by omega) (br_f (by decide) (xr_1 ha (by omega) (br_f (by decide) (xr_1 hb (by omega) (br_f (by decide) ⟨in_n a (by omega), hb_t (by omega) eF ⟨in_n b (by omega), hb_f (by omega) eG ⟨rfl, i_in h⟩⟩⟩))))))⟩⟩)))))
          · rw [eb] at eG
            have hl := iv_l h a (by omega) ea
            have hm := iv_l h b (by omega) eb
            have eY := iv_e h (10 + a) (by omega)
            have eZ := iv_e h (10 + b) (by omega)
            have hFb : ∀ v, v < n → -100000000 ≤ W ((10 + a) * 8 + v) + W ((10 + b) * 8 + v) ∧ W ((10 + a) * 8 + v) + W ((10 + b) * 8 + v) ≤ 100000000 := fun v hv => by
              have := hl.1 v hv
              have := hm.1 v hv
              omega
            have heb : 0 ≤ pb_cd (fun v => W ((10 + a) * 8 + v)) (fun v => W ((10 + b) * 8 + v)) (D (10 + a)) (D (10 + b)) n ∧ pb_cd (fun v => W ((10 + a) * 8 + v)) (fun v => W ((10 + b) * 8 + v)) (D (10 + a)) (D (10 + b)) n ≤ 1000000000 := by
              unfold pb_cd
              (try dsimp only)
              have := pb_sm_nn (g := fun v => pb_cx (W ((10 + a) * 8 + v)) (W ((10 + b) * 8 + v))) n (fun v _ => pb_cx_nn _ _)
              omega
            refine jn_big (co := co) (ts := ts) (ln := ln) (U := U) (V := V) (R := R) (T := T) (Vy := Vy) (fun post => wpX_add post (10, 22, 23, 24, 25, 26, 27, 28, 32, 60, (-1), (-2), nI n, nI rR, nI lR, nI rc, xi has im, zI be, zI lo, b2 co, nI ts, nI ln, aZ W, aZ D, aB Hd, aN A, aB U, aN V, aZ R, aN T) (nI s) (nI a) (nI b)) (fun post => wpY_add post (nI n, nI rR, nI lR, zI kk, nI rc, b2 has, gi, zI lo, b2 co, aZ w, aZ d, aB Fd, aZ P, aZ C, aN A, aN Vy) (nI s) (nI a) (nI b)) (F := fun v => W ((10 + a) * 8 + v) + W ((10 + b) * 8 + v)) (e := pb_cd (fun v => W ((10 + a) * 8 + v)) (fun v => W ((10 + b) * 8 + v)) (D (10 + a)) (D (10 + b)) n) h hs heb.1 (fun post HB H => ?_) (fun post HB H => ?_)
            · refine xr_1 hs (by omega) (br_f (by decide) (xr_1 ha (by omega) (br_f (by decide) (xr_1 hb (by omega) (br_f (by decide) ⟨in_n a (by omega), hb_t (by omega) ea ⟨in_n b (by omega), hb_t (by omega) eb ?_⟩⟩)))))
              rw [ix_10 a, ix_10 b]
              refine xw_comb (t := 25) (a := 10 + a) (b := 10 + b) hN.2.1 (by omega) (by omega) (by omega) (fo_rf W D n (10 + a)) (fo_rf W D n (10 + b)) (fun v hv => ?_) (fun v hv => ?_) (by omega) (by omega) (fun W2 D2 f2 g2 => xw_big (t := 25) hN.2.1 (by omega) f2 hFb heb (fun z => br_f (by decide) (HB z W2 D2 (fun i hi => g2 i (by omega)))) (fun z1 z2 => br_t rfl (xw_fin hN.2.1 (by omega) f2 (fun i hi => g2 i hi) (fun v hv => ab_r (z1 v hv)) ⟨heb.1, z2⟩ (H (bigF_i z1 z2)))))
              · have := hl.1 v hv
                (try dsimp only)
                omega
              · have := hm.1 v hv
                (try dsimp only)
                omega
            · refine xr_1 hs (by omega) (br_f (by decide) (xr_1 ha (by omega) (br_f (by decide) (xr_1 hb (by omega) (br_f (by decide) ⟨in_n a (by omega), hb_t (by omega) eF ⟨in_n b (by omega), hb_t (by omega) eG ⟨in_n (10 + a) (by omega) (ix_10 a), in_n (10 + b) (by omega) (ix_10 b), nm_r (e' := zI (D (10 + a) + D (10 + b))) ?_ (Exists.intro (n + 1) (yx_add (f := fun v => W ((10 + a) * 8 + v)) (g := fun v => W ((10 + b) * 8 + v)) (F := fun v => W ((10 + a) * 8 + v) + W ((10 + b) * 8 + v)) hN.2.1 (by omega) (by omega) (fun v hv => eY.1 v hv) (fun v hv => eZ.1 v hv) (fun v hv => rfl) hl.1 hm.1 (by omega) (yw_tail hN.2.1 (by omega) fo_rs hFb heb (fun z => HB z _ _ (fun i hi => fe_rs hN.2.1 (by omega))) (fun z1 z2 w' d' f1 g1 => H (bigF_i z1 z2) w' d' f1 (fun i h1 h2 => fo_et (fe_rs hN.2.1 (by omega)) (g1 i h1))))))⟩⟩⟩)))))
              · rw [rd_z (10 + a) (ix_10 a), rd_z (10 + b) (ix_10 b), eY.2, eZ.2, zI_add]
      · exact xr_1 hs (by omega) (br_f (by decide) (xr_1 ha (by omega) (br_f (by decide) (xr_0 hv (by omega) (br_t rfl (xr_1 hs (by omega) (br_f (by decide) (xr_1 ha (by omega) (br_f (by decide) (xr_0 hv (by omega) (br_t rfl ⟨rfl, i_in h⟩)))))))))))
    · exact xr_1 hs (by omega) (br_f (by decide) (xr_0 hv (by omega) (br_t rfl (xr_1 hs (by omega) (br_f (by decide) (xr_0 hv (by omega) (br_t rfl ⟨rfl, i_in h⟩)))))))
  · exact xr_0 hv (by omega) (br_t rfl (xr_0 hv (by omega) (br_t rfl ⟨rfl, i_in h⟩)))
end
section
/-! load, apply, commit -/
theorem i_vc_load {k : Nat} {u : SX} {v : SY} (I : i_Rel k u v) (hk : k + 4 ≤ 2051) (v1 : Int32) (v2 : Int32) (v3 : Int32) : wpX_load (fun r u' => wpY_load (fun r' v' => r' = r ∧ i_Rel (k + 4) u' v') v v1 v2 v3) u v1 v2 v3 := by
  refine i_el (Q := fun u v => wpX_load (fun r u' => wpY_load (fun r' v' => r' = r ∧ i_Rel (k + 4) u' v') v v1 v2 v3) u v1 v2 v3) I ?_
  intro n rR lR rc has im be lo co ts ln W D Hd A U V R T kk gi w d Fd P C Vy h
  have hN := iv_n h
  have him := iv_im h
  rcases rg_c v1 lR (by omega) with ⟨s, hs, rfl⟩ | hv
  · rcases rg_c v2 3 (by omega) with ⟨a, ha, rfl⟩ | hv
    · by_cases a0 : a = 0
      · subst a0
        rcases rg_c v3 rc (by omega) with ⟨r, hr, rfl⟩ | hv
        · have hl := iv_r h r hr
          have eY := iv_e h r (by omega)
          have hFb : ∀ v, v < n → -1000 ≤ W (r * 8 + v) ∧ W (r * 8 + v) ≤ 1000 := fun v hv => by have := hl.1 v hv; omega
          refine jn_line (co := co) (ts := ts) (ln := ln) (U := U) (V := V) (R := R) (T := T) (Vy := Vy) (fun post => wpX_load post (10, 22, 23, 24, 25, 26, 27, 28, 32, 60, (-1), (-2), nI n, nI rR, nI lR, nI rc, xi has im, zI be, zI lo, b2 co, nI ts, nI ln, aZ W, aZ D, aB Hd, aN A, aB U, aN V, aZ R, aN T) (nI s) (nI 0) (nI r)) (fun post => wpY_load post (nI n, nI rR, nI lR, zI kk, nI rc, b2 has, gi, zI lo, b2 co, aZ w, aZ d, aB Fd, aZ P, aZ C, aN A, aN Vy) (nI s) (nI 0) (nI r)) (F := fun v => W (r * 8 + v)) (e := D r) h hs hFb (by omega) (fun post H => ?_) (fun post H => ?_)
          · exact xr_1 hs (by omega) (br_f (by decide) (br_t rfl (xr_1 hr (by omega) (br_f (by decide) (xw_copy (t := 25) (s := r) hN.2.1 (by omega) (by omega) (fo_rf W D n r) (fun W1 D1 f1 g1 => xw_fin hN.2.1 (by omega) f1 g1 hFb (by omega) H))))))
          · exact xr_1 hs (by omega) (br_f (by decide) (yr_1 (N := 3) ha (by omega) rfl (br_f (by decide) (br_t rfl (yr_1 hr (by omega) rfl (br_f (by decide) (br_f (by decide) (br_f (by decide) (br_f (by decide) (Exists.intro (n + 1) (yx_lrow (F := fun v => W (r * 8 + v)) hN.2.1 (by omega) (fun v hv => eY.1 v hv) eY.2 (yw_fin hN.2.1 (by omega) fo_rs (fun i hi => fe_rs hN.2.1 hi) hFb (by omega) H))))))))))))
        · exact xr_1 hs (by omega) (br_f (by decide) (br_t rfl (xr_0 hv (by omega) (br_t rfl (xr_1 hs (by omega) (br_f (by decide) (yr_1 (N := 3) ha (by omega) rfl (br_f (by decide) (br_t rfl (yr_0 hv (by omega) rfl (br_t rfl ⟨rfl, i_in h⟩)))))))))))
      · by_cases a1 : a = 1
        · subst a1
          cases hh : has
          · subst hh
            exact xr_1 hs (by omega) (br_f (by decide) (br_f (by decide) (br_t rfl (zb_in' him (fun z => Bool.noConfusion z) (fun _ => xr_1 hs (by omega) (br_f (by decide) (yr_1 (N := 3) ha (by omega) rfl (br_f (by decide) (br_f (by decide) (br_f (by decide) (br_t rfl (br_t rfl ⟨rfl, i_in h⟩))))))))))))
          · subst hh
            obtain ⟨eg, eb⟩ := (iv_m h).2 rfl
            have hob := iv_ob h im
            have hcb := iv_c h
            have hFb : ∀ v, v < n → -1000 ≤ -1 * C v ∧ -1 * C v ≤ 1000 := fun v hv => by have := hcb v hv; omega
            have hcn := pb_cn_b (F := fun v => -1 * C v) (e := 1 - pb_ob C n im) (B := 15) hN.2.1 (fun v hv => by have := hcb v hv; (try dsimp only); omega) (by omega)
            refine jn_line (co := co) (ts := ts) (ln := ln) (U := U) (V := V) (R := R) (T := T) (Vy := Vy) (fun post => wpX_load post (10, 22, 23, 24, 25, 26, 27, 28, 32, 60, (-1), (-2), nI n, nI rR, nI lR, nI rc, xi true im, zI be, zI lo, b2 co, nI ts, nI ln, aZ W, aZ D, aB Hd, aN A, aB U, aN V, aZ R, aN T) (nI s) (nI 1) v3) (fun post => wpY_load post (nI n, nI rR, nI lR, zI kk, nI rc, b2 true, gi, zI lo, b2 co, aZ w, aZ d, aB Fd, aZ P, aZ C, aN A, aN Vy) (nI s) (nI 1) v3) (F := fun v => -1 * C v) (e := max 0 (pb_cn (fun v => -1 * C v) (1 - pb_ob C n im) n)) h hs hFb (by omega) (fun post H => ?_) (fun post H => ?_)
            · refine xr_1 hs (by omega) (br_f (by decide) (br_f (by decide) (br_t rfl (zb_in' him (fun _ => ?_) (fun z => Bool.noConfusion z)))))
              rw [eb, show (1 : Int32) = zI 1 from rfl, zI_sub]
              exact xw_canon (t := 25) (s := 27) (g := -1) (F := fun v => -1 * C v) hN.2.1 (by omega) (by omega) (fun v hv => by rw [iv_c1 h v hv]) (fun v hv => by have := hFb v hv; omega) (by omega) (fun W1 D1 f1 g1 => by rw [← eb]; exact xw_fin hN.2.1 (by omega) f1 g1 hFb (by omega) H)
            · subst eg
              exact xr_1 hs (by omega) (br_f (by decide) (yr_1 (N := 3) ha (by omega) rfl (br_f (by decide) (br_f (by decide) (br_f (by decide) (br_t rfl (br_f (by decide) (br_t rfl (yw_bound (t := 23) hN.2.1 (by omega) him (iv_cb h) (fun w1 d1 f1 g1 => yw_fin hN.2.1 (by omega) f1 g1 hFb (by omega) H))))))))))
        · have a2 : a = 2 := by omega
          subst a2
          rcases rg_c v3 (2 * n) (by omega) with ⟨j, hj, rfl⟩ | hv
          · have hFb : ∀ v, v < n → -1000 ≤ (if v = j / 2 then (if j % 2 = 0 then (1 : Int) else -1) else 0) ∧ (if v = j / 2 then (if j % 2 = 0 then (1 : Int) else -1) else 0) ≤ 1000 := fun v hv => by
              split
              · split <;> omega
              · omega
            refine jn_line (co := co) (ts := ts) (ln := ln) (U := U) (V := V) (R := R) (T := T) (Vy := Vy) (fun post => wpX_load post (10, 22, 23, 24, 25, 26, 27, 28, 32, 60, (-1), (-2), nI n, nI rR, nI lR, nI rc, xi has im, zI be, zI lo, b2 co, nI ts, nI ln, aZ W, aZ D, aB Hd, aN A, aB U, aN V, aZ R, aN T) (nI s) (nI 2) (nI j)) (fun post => wpY_load post (nI n, nI rR, nI lR, zI kk, nI rc, b2 has, gi, zI lo, b2 co, aZ w, aZ d, aB Fd, aZ P, aZ C, aN A, aN Vy) (nI s) (nI 2) (nI j)) (F := fun v => if v = j / 2 then (if j % 2 = 0 then (1 : Int) else -1) else 0) (e := 0) h hs hFb (by omega) (fun post H => ?_) (fun post H => ?_)
            · have K : ∀ (x : Int) (W1 D1 : Nat → Int), x = (if j % 2 = 0 then 1 else -1) → fo_is W1 D1 n 25 (fun _ => 0) 0 → (∀ i, i ≠ 25 → fo_eq W D W1 D1 n i) → wX_load_110 post (nI s) (zI x) (200 + nI j / 2) 10 22 23 24 25 26 27 28 32 60 ((-1)) ((-2)) (nI n) (nI rR) (nI lR) (nI rc) (xi has im) (zI be) (zI lo) (b2 co) (nI ts) (nI ln) (aZ W1) (aZ D1) (aB Hd) (aN A) (aB U) (aN V) (aZ R) (aN T) := fun x W1 D1 hx f1 g1 => by
                have e200 : 200 + nI j / 2 = nI (25 * 8 + j / 2) := by
                  rw [dv_2 (by omega), show (200 : Int32) = nI 200 from rfl, nI_add]
                refine And.intro (in_n (25 * 8 + j / 2) (by omega) e200) (nm_r (wr_z (25 * 8 + j / 2) x e200 rfl) (xw_fin hN.2.1 (by omega) ⟨fun v hv => ?_, f1.2⟩ (fun i hi => fo_et (g1 i hi) ⟨fun v hv => ug_n (by omega), rfl⟩) hFb (by omega) H))
                by_cases c : v = j / 2
                · subst c; rw [ug_s, hx]; exact (if_pos rfl).symm
                · rw [ug_n (by omega), f1.1 v hv]; exact (if_neg c).symm
              exact xr_1 hs (by omega) (br_f (by decide) (br_f (by decide) (br_f (by decide) (br_t rfl (xL_1 hj hN.2.1 (br_f (by decide) (xw_clear (t := 25) hN.2.1 (by omega) (fun W1 D1 f1 g1 => ⟨n20, n20, rm_b (by omega) (fun z => K 1 W1 D1 (if_pos z).symm f1 g1) (fun z => K (-1) W1 D1 (if_neg z).symm f1 g1)⟩))))))))
            · exact xr_1 hs (by omega) (br_f (by decide) (yr_1 (N := 3) ha (by omega) rfl (br_f (by decide) (br_f (by decide) (br_t rfl (yr_1 hj (by omega) (by rw [two_n]) (br_f (by decide) (br_f (by decide) (br_f (by decide) (Exists.intro (n + 1) (yx_llit (F := fun v => if v = j / 2 then (if j % 2 = 0 then (1 : Int) else -1) else 0) hN.2.1 (by omega) (fun v hv => rfl) (yw_fin hN.2.1 (by omega) fo_rs (fun i hi => fe_rs hN.2.1 hi) hFb (by omega) H))))))))))))
          · exact xr_1 hs (by omega) (br_f (by decide) (br_f (by decide) (br_f (by decide) (br_t rfl (xL_0 hv hN.2.1 (br_t rfl (xr_1 hs (by omega) (br_f (by decide) (yr_1 (N := 3) ha (by omega) rfl (br_f (by decide) (br_f (by decide) (br_t rfl (yr_0 hv (by omega) (by rw [two_n]) (br_t rfl ⟨rfl, i_in h⟩))))))))))))))
    · exact xr_1 hs (by omega) (br_f (by decide) (br_f (hv 0 (by omega)) (br_f (hv 1 (by omega)) (br_f (hv 2 (by omega)) (xr_1 hs (by omega) (br_f (by decide) (yr_0 (N := 3) hv (by omega) rfl (br_t rfl ⟨rfl, i_in h⟩))))))))
  · exact xr_0 hv (by omega) (br_t rfl (xr_0 hv (by omega) (br_t rfl ⟨rfl, i_in h⟩)))
section
variable {gn gR gL gk gc gh gi gl gx : Int32} {yw yd yf yp yc ya yv : Nat → Int32}
variable {w d C : Nat → Int} {n : Nat}
theorem yl_app2 {post : Int32 → SY → Prop} {s : Nat} {F : Nat → Int} (hn : n ≤ 8) (hs : s < 12) (hf : ∀ v, v < n → w ((10 + s) * 8 + v) = F v) (hF : ∀ v, v < n → -1000 ≤ F v ∧ F v ≤ 1000) (hC : ∀ v, v < n → -1000 ≤ C v ∧ C v ≤ 1000) (H0 : ¬ pb_bc F C n → post 0 (nI n, gR, gL, gk, gc, gh, gi, gl, gx, aZ w, aZ d, yf, yp, aZ C, ya, yv)) (H1 : pb_bc F C n → ∀ k, wY_apply_51 post (nI s) (nI n) gR gL gk gc gh gi gl gx (aZ w) (aZ d) yf yp (aZ C) ya yv (k + 1) (nI n)) : ∀ k i : Nat, i ≤ n → n < k + i → pb_bc F C i → wY_apply_51 post (nI s) (nI n) gR gL gk gc gh gi gl gx (aZ w) (aZ d) yf yp (aZ C) ya yv k (nI i) := by
  intro k
  induction k with
  | zero => intro i h1 h2; omega
  | succ k ih =>
    intro i h1 h2 h3
    by_cases hi : i < n
    · have bF := hF i hi
      have bC := hC i hi
      have aF := pb_ab_b bF
      have aC := pb_ab_b bC
      have G : ∀ z : Int32, (F i = 0 ∨ (z = 1 ∧ ((0 < F i ∧ 0 < C i) ∨ (F i < 0 ∧ C i < 0)))) ∨ (F i ≠ 0 ∧ z = 0 ∧ ¬ ((0 < F i ∧ 0 < C i) ∨ (F i < 0 ∧ C i < 0))) → wY_apply_105 post (wY_apply_51 post (nI s) (nI n) gR gL gk gc gh gi gl gx (aZ w) (aZ d) yf yp (aZ C) ya yv k) (nI s) (nI i) (zI (F i)) z (nI n) gR gL gk gc gh gi gl gx (aZ w) (aZ d) yf yp (aZ C) ya yv := fun z hz => by
        refine zb_eq (F i) 0 (fun q0 => nm_r (nI_1 i) (ih (i + 1) (by omega) (by omega) (lt_s h3 ⟨fun _ => by omega, fun _ => by omega⟩))) (fun q0 => ?_)
        rcases hz with (hz | ⟨hz, hsg⟩) | ⟨_, hz, hsg⟩
        · exact absurd hz q0
        · subst hz
          refine br_f (by decide) (yw_abs (F i) ⟨in_n i (by omega), yw_abs (C i) (zb_le (pb_ab (F i)) (pb_ab (C i)) (fun q => nm_r (nI_1 i) (ih (i + 1) (by omega) (by omega) (lt_s h3 ?_))) (fun q => H0 (fun zz => ?_))) (rd_z i)⟩)
          · unfold pb_ab at q; constructor <;> intro _ <;> omega
          · have := zz i hi; unfold pb_ab at q; omega
        · subst hz
          refine br_t rfl (H0 (fun zz => ?_))
          have := zz i hi
          omega
      have E87 : ¬ (0 < F i ∧ 0 < C i) → wY_apply_87 post (wY_apply_51 post (nI s) (nI n) gR gL gk gc gh gi gl gx (aZ w) (aZ d) yf yp (aZ C) ya yv k) (nI s) (nI i) (zI (F i)) (nI n) gR gL gk gc gh gi gl gx (aZ w) (aZ d) yf yp (aZ C) ya yv := fun hg =>
        zb_le 0 (F i) (fun q => G 0 (by
          by_cases c : F i = 0
          · exact Or.inl (Or.inl c)
          · exact Or.inr ⟨c, rfl, by omega⟩)) (fun q => ⟨in_n i (by omega), zb_le 0 (C i) (fun q2 => G 0 (Or.inr ⟨by omega, rfl, by omega⟩)) (fun q2 => G 1 (Or.inl (Or.inr ⟨rfl, by omega⟩))) rfl (rd_z i)⟩)
      exact br_f (nI_ge hi (by omega)) ⟨in_n ((10 + s) * 8 + i) (by omega) (ix_8t s i), nm_r (e' := zI (F i)) ((rd_z ((10 + s) * 8 + i) (ix_8t s i)).trans (congrArg zI (hf i hi))) (zb_le (F i) 0 (fun q => E87 (by omega)) (fun q => ⟨in_n i (by omega), zb_lt 0 (C i) (fun q2 => G 1 (Or.inl (Or.inr ⟨rfl, by omega⟩))) (fun q2 => E87 (by omega)) rfl (rd_z i)⟩))⟩
    · have ei : i = n := by omega
      subst ei
      exact H1 h3 k
end
end
section
/-! apply, commit -/
section
variable {q0 q1 q2 q3 q4 q5 q6 q7 q8 q9 q10 q11 fn frR flR frc fin fbe flo fcl fts fln : Int32} {xw xd xh xa xu xv xr xt : Nat → Int32}
variable {W D : Nat → Int} {n : Nat}
theorem xw_a95 {post : Int32 → SX → Prop} {t be lo : Int} {has : Bool} {im : Nat} (him : im < 2147483648) (ht : -20000 ≤ t ∧ t ≤ 20000) (hb : has = true → -10000 ≤ be ∧ be ≤ 10000) (hl : -10000 ≤ lo ∧ lo ≤ 10000) (H0 : t ≤ lo → post 0 (q0, q1, q2, q3, q4, q5, q6, q7, q8, q9, q10, q11, fn, frR, flR, frc, xi has im, zI be, zI lo, b2 false, fts, fln, xw, xd, xh, xa, xu, xv, xr, xt)) (H1 : lo < t → post 1 (q0, q1, q2, q3, q4, q5, q6, q7, q8, q9, q10, q11, fn, frR, flR, frc, xi has im, zI be, zI t, b2 (has && decide (t = be)), fts, fln, xw, xd, xh, xa, xu, xv, xr, xt)) : wX_apply_95 post (zI t) q0 q1 q2 q3 q4 q5 q6 q7 q8 q9 q10 q11 fn frR flR frc (xi has im) (zI be) (zI lo) (b2 false) fts fln xw xd xh xa xu xv xr xt := by
  refine zb_lt lo t (fun q => ?_) H0
  have H := H1 q
  refine zb_in him (fun z => ?_) (fun z => ?_)
  · subst z; exact H
  · subst z
    have hb' := hb rfl
    refine zb_eq t be (fun e => ?_) (fun e => ?_)
    · rw [decide_eq_true e] at H; exact H
    · rw [decide_eq_false e] at H; exact H
theorem xw_119 {post : Int32 → SX → Prop} {r : Int32} {Hd : Nat → Bool} (hn : n ≤ 8) (H : ∀ W' D', fo_is W' D' n 26 (fun _ => 0) 0 → (∀ i, i ≠ 26 → fo_eq W D W' D' n i) → post r (q0, q1, q2, q3, q4, q5, q6, q7, q8, q9, q10, q11, nI n, frR, flR, frc, xi false 0, zI 0, zI (D' 27), b2 false, fts, fln, aZ W', aZ D', aB (cl Hd 12), xa, xu, xv, xr, xt)) : wX_commit_119 post r q0 q1 q2 q3 q4 q5 q6 q7 q8 q9 q10 q11 (nI n) frR flR frc fin fbe flo fcl fts fln (aZ W) (aZ D) (aB Hd) xa xu xv xr xt :=
  xw_clear (t := 26) hn (by omega) (fun W' D' a b => xw_reset (H W' D' a b))
end
def zp (P : Nat → Int) (i : Nat) : Nat → Int := fun j => if j < i then 0 else P j
theorem zp_s {P : Nat → Int} {i : Nat} : ug (zp P i) i 0 = zp P (i + 1) := by
  funext j
  show (if j = i then 0 else if j < i then 0 else P j) = (if j < i + 1 then 0 else P j)
  by_cases h : j = i
  · rw [if_pos h, if_pos (by omega)]
  · rw [if_neg h]
    by_cases h2 : j < i
    · rw [if_pos h2, if_pos (by omega)]
    · rw [if_neg h2, if_neg (by omega)]
theorem zp_0 {P : Nat → Int} : zp P 0 = P := by
  funext j
  exact if_neg (by omega)
section
variable {gn gR gL gk gc gh gi gl gx : Int32} {yw yd yf yp yc ya yv : Nat → Int32}
variable {w d C : Nat → Int} {n : Nat}
theorem yw_a185 {post : Int32 → SY → Prop} {t lo : Int} {has : Bool} {im : Nat} (hn : n ≤ 8) (hgi : has = true → gi = nI im ∧ im < 2147483648) (hC : ∀ v, v < n → -1000 ≤ C v ∧ C v ≤ 1000) (ht : -20000 ≤ t ∧ t ≤ 20000) (hl : -10000 ≤ lo ∧ lo ≤ 10000) (H0 : t ≤ lo → post 0 (nI n, gR, gL, gk, gc, b2 has, gi, zI lo, b2 false, yw, yd, yf, yp, aZ C, ya, yv)) (H1 : lo < t → post 1 (nI n, gR, gL, gk, gc, b2 has, gi, zI t, b2 (has && decide (t = pb_ob C n im)), yw, yd, yf, yp, aZ C, ya, yv)) : wY_apply_185 post (zI t) (nI n) gR gL gk gc (b2 has) gi (zI lo) (b2 false) yw yd yf yp (aZ C) ya yv := by
  refine zb_lt lo t (fun q => ?_) H0
  have H := H1 q
  refine zb_b has (fun z => ?_) (fun z => ?_)
  · subst z; exact H
  · obtain ⟨e1, him⟩ := hgi z
    subst z
    subst e1
    have hob := pb_ob_b (m := im) hn hC
    refine yw_obj hn him (zb_eq t (pb_ob C n im) (fun e => ?_) (fun e => ?_))
    · rw [decide_eq_true e] at H; exact H
    · rw [decide_eq_false e] at H; exact H
theorem yl_c90 {post : Int32 → SY → Prop} {r : Int32} {P : Nat → Int} {Fd : Nat → Bool} {l : Nat} (hn : n ≤ 8) (hl : l ≤ 12) (hC : ∀ v, v < n → -1000 ≤ C v ∧ C v ≤ 1000) (H : post r (nI n, gR, nI l, zI 0, gc, b2 false, gi, zI (pb_of C n), b2 false, yw, yd, aB (cl Fd l), aZ (zp P n), aZ C, ya, yv)) : ∀ k i : Nat, i ≤ n → n < k + i → wY_commit_90 post r (nI n) gR (nI l) gk gc gh gi gl gx k (nI i) yw yd (aB Fd) (aZ (zp P i)) (aZ C) ya yv := by
  intro k
  induction k with
  | zero => intro i h1 h2; omega
  | succ k ih =>
    intro i h1 h2
    by_cases hi : i < n
    · refine br_f (nI_ge hi (by omega)) ⟨in_n i (by omega), nm_r (wr_z i 0 rfl rfl) (nm_r (nI_1 i) ?_)⟩
      rw [zp_s]
      exact ih (i + 1) (by omega) (by omega)
    · have e : i = n := by omega
      subst e
      exact br_t (nI_le (Nat.le_refl _) (by omega)) (yw_reset hn hl hC H)
theorem yx_c90 {post : Int32 → SY → Prop} {r : Int32} {P : Nat → Int} {Fd : Nat → Bool} {l : Nat} (hn : n ≤ 8) (hl : l ≤ 12) (hC : ∀ v, v < n → -1000 ≤ C v ∧ C v ≤ 1000) (H : post r (nI n, gR, nI l, zI 0, gc, b2 false, gi, zI (pb_of C n), b2 false, yw, yd, aB (cl Fd l), aZ (zp P n), aZ C, ya, yv)) : ∃ k, wY_commit_90 post r (nI n) gR (nI l) gk gc gh gi gl gx k 0 yw yd (aB Fd) (aZ P) (aZ C) ya yv := by
  have z := yl_c90 (gk := gk) (gh := gh) (gl := gl) (gx := gx) (Fd := Fd) hn hl hC H (n + 1) 0 (by omega) (by omega)
  rw [zp_0] at z
  exact ⟨n + 1, z⟩
end
theorem iv_lo' {n rR lR rc : Nat} {has : Bool} {im : Nat} {be lo : Int} {W D : Nat → Int} {Hd : Nat → Bool} {A : Nat → Nat} {kk : Int} {gi : Int32} {w d : Nat → Int} {Fd : Nat → Bool} {P C : Nat → Int} {l' : Int} (h : iv n rR lR rc has im be lo W D Hd A kk gi w d Fd P C) (hl : -10000 ≤ l' ∧ l' ≤ 10000) : iv n rR lR rc has im be l' W D Hd A kk gi w d Fd P C :=
  ⟨iv_n h, iv_e h, ⟨iv_p h, iv_k h⟩, ⟨iv_c h, iv_o h⟩, iv_r h, iv_l h, iv_h h, iv_m h, hl, iv_a h⟩
theorem i_vc_apply {k : Nat} {u : SX} {v : SY} (I : i_Rel k u v) (hk : k + 4 ≤ 2051) (v1 : Int32) : wpX_apply (fun r u' => wpY_apply (fun r' v' => r' = r ∧ i_Rel (k + 4) u' v') v v1) u v1 := by
  refine i_el (Q := fun u v => wpX_apply (fun r u' => wpY_apply (fun r' v' => r' = r ∧ i_Rel (k + 4) u' v') v v1) u v1) I ?_
  intro n rR lR rc has im be lo co ts ln W D Hd A U V R T kk gi w d Fd P C Vy h
  have hN := iv_n h
  have him := iv_im h
  have hlo := iv_lo h
  rcases rg_c v1 lR (by omega) with ⟨s, hs, rfl⟩ | hv
  · have eF := (iv_h h).1 s (by omega)
    cases es : Hd s
    · rw [es] at eF
      exact xr_1 hs (by omega) (br_f (by decide) ⟨in_n s (by omega), hb_f (by omega) es (xr_1 hs (by omega) (br_f (by decide) ⟨in_n s (by omega), hb_f (by omega) eF ⟨rfl, i_in h⟩⟩))⟩)
    · rw [es] at eF
      have hl := iv_l h s (by omega) es
      have eY := iv_e h (10 + s) (by omega)
      have hFb : ∀ v, v < n → -100000000 ≤ W ((10 + s) * 8 + v) ∧ W ((10 + s) * 8 + v) ≤ 100000000 := fun v hv => by have := hl.1 v hv; omega
      have fY : fo_is w d n (10 + s) (fun v => W ((10 + s) * 8 + v)) (D (10 + s)) := fo_tr eY (fo_rf W D n (10 + s))
      have hof := pb_of_b (C := C) hN.2.1 (fun v hv => (iv_c h v hv).2)
      have hbe : has = true → be = pb_ob C n im ∧ -120 ≤ be ∧ be ≤ 120 := iv_be h
      refine xr_1 hs (by omega) (br_f (by decide) ⟨in_n s (by omega), hb_t (by omega) es (zb_b co (fun hco => ?_) (fun hco => ?_))⟩)
      · subst hco
        have YW : ∀ {post : Int32 → SY → Prop}, wpY_verdict (fun r_22 => (r_22 = 2 → wpY_shut (fun u => post 1 u) (nI n, nI rR, nI lR, zI kk, nI rc, b2 has, gi, zI lo, b2 false, aZ w, aZ d, aB Fd, aZ P, aZ C, aN A, aN Vy)) ∧ (¬ r_22 = 2 → ∃ n51 : Nat, wY_apply_51 post (nI s) (nI n) (nI rR) (nI lR) (zI kk) (nI rc) (b2 has) gi (zI lo) (b2 false) (aZ w) (aZ d) (aB Fd) (aZ P) (aZ C) (aN A) (aN Vy) n51 0)) (nI n, nI rR, nI lR, zI kk, nI rc, b2 has, gi, zI lo, b2 false, aZ w, aZ d, aB Fd, aZ P, aZ C, aN A, aN Vy) (10 + nI s) → wpY_apply post (nI n, nI rR, nI lR, zI kk, nI rc, b2 has, gi, zI lo, b2 false, aZ w, aZ d, aB Fd, aZ P, aZ C, aN A, aN Vy) (nI s) := fun z => xr_1 hs (by omega) (br_f (by decide) ⟨in_n s (by omega), hb_t (by omega) eF (br_t rfl z)⟩)
        refine nm_r (ix_10 s) (xw_con (t := 10 + s) hN.2.1 (by omega) (fo_rf W D n (10 + s)) hFb (by omega) (fun hc => br_f (by decide) (xw_shut him (YW ?_))) (fun hc => br_t rfl (xw_bel (t := 10 + s) (F := fun v => W ((10 + s) * 8 + v)) hN.2.1 (by omega) (fun v hv => rfl) (iv_c1 h) hFb (iv_cb h) (fun hb => br_f (by decide) ⟨in_n (10 + s) (by omega), nm_r (e' := zI (pb_of C n + D (10 + s))) ?_ ?_⟩) (fun hb => br_t rfl (YW ?_)))))
        · rw [ix_10]
          refine yw_ver hN.2.1 (by omega) fY hFb (by omega) (fun _ => br_t rfl (yw_shut hN.2.1 (iv_gi h) ?_)) (fun z => absurd hc (by omega))
          have e : (if has = true then pb_ob C n im else lo) = (if has = true then be else lo) := by
            by_cases z : has = true
            · rw [if_pos z, if_pos z, (hbe z).1]
            · rw [if_neg z, if_neg z]
          rw [e]
          refine ⟨rfl, i_in (iv_lo' h ?_)⟩
          by_cases z : has = true
          · rw [if_pos z]; have := hbe z; omega
          · rw [if_neg z]; exact hlo
        · rw [rd_z (10 + s), show aZ D 27 = zI (D 27) from rfl, iv_o h, zI_add]
        · have YZ : ∀ {post : Int32 → SY → Prop} (t : Int), (has = false → t = pb_of C n + D (10 + s)) → (has = true → t = min (pb_of C n + D (10 + s)) be) → wY_apply_185 post (zI t) (nI n) (nI rR) (nI lR) (zI kk) (nI rc) (b2 has) gi (zI lo) (b2 false) (aZ w) (aZ d) (aB Fd) (aZ P) (aZ C) (aN A) (aN Vy) → wpY_apply post (nI n, nI rR, nI lR, zI kk, nI rc, b2 has, gi, zI lo, b2 false, aZ w, aZ d, aB Fd, aZ P, aZ C, aN A, aN Vy) (nI s) := fun {post} t ht1 ht2 z => YW (by
            rw [ix_10]
            refine yw_ver hN.2.1 (by omega) fY hFb (by omega) (fun z => absurd hc (by omega)) (fun _ => br_f (by decide) (Exists.intro (n + 1) (yl_app2 (F := fun v => W ((10 + s) * 8 + v)) hN.2.1 (by omega) (fun v hv => eY.1 v hv) hl.1 (iv_cb h) (fun z => absurd hb z) (fun _ k => br_t (nI_le (Nat.le_refl _) (by omega)) (yw_off hN.2.1 (iv_cb h) ⟨in_n (10 + s) (by omega) (ix_10 s), nm_r (e' := zI (pb_of C n + D (10 + s))) ?_ (zb_b has (fun hh => ?_) (fun hh => ?_))⟩)) (n + 1) 0 (by omega) (by omega) lt_0)))
            · rw [rd_z (10 + s) (ix_10 s), eY.2, zI_add]
            · rw [← ht1 hh]; exact z
            · have hb2 := hbe hh
              have ht := ht2 hh
              obtain ⟨eg, _⟩ := iv_gi h hh
              subst eg
              refine yw_obj hN.2.1 him (zb_le (pb_of C n + D (10 + s)) (pb_ob C n im) (fun q => ?_) (fun q => yw_obj hN.2.1 him ?_))
              · rw [show pb_of C n + D (10 + s) = t by omega]; exact z
              · rw [show pb_ob C n im = t by omega]; exact z)
          have XZ : ∀ t : Int, (has = false → t = pb_of C n + D (10 + s)) → (has = true → t = min (pb_of C n + D (10 + s)) be) → wX_apply_95 (fun r u' => wpY_apply (fun r' v' => r' = r ∧ i_Rel (k + 4) u' v') (nI n, nI rR, nI lR, zI kk, nI rc, b2 has, gi, zI lo, b2 false, aZ w, aZ d, aB Fd, aZ P, aZ C, aN A, aN Vy) (nI s)) (zI t) 10 22 23 24 25 26 27 28 32 60 ((-1)) ((-2)) (nI n) (nI rR) (nI lR) (nI rc) (xi has im) (zI be) (zI lo) (b2 false) (nI ts) (nI ln) (aZ W) (aZ D) (aB Hd) (aN A) (aB U) (aN V) (aZ R) (aN T) := fun t ht1 ht2 => by
            have hbt : -200 ≤ t ∧ t ≤ 9999 := by
              cases hh : has
              · have := ht1 hh; omega
              · have := ht2 hh; have := hbe hh; omega
            have ee : (has && decide (t = pb_ob C n im)) = (has && decide (t = be)) := by
              cases hh : has
              · rfl
              · rw [(hbe hh).1]
            refine xw_a95 him (by omega) (fun z => by have := hbe z; omega) hlo (fun q => YZ t ht1 ht2 (yw_a185 hN.2.1 (iv_gi h) (iv_cb h) (by omega) hlo (fun _ => ⟨rfl, i_in h⟩) (fun z => absurd q (by omega)))) (fun q => YZ t ht1 ht2 (yw_a185 hN.2.1 (iv_gi h) (iv_cb h) (by omega) hlo (fun z => absurd q (by omega)) (fun _ => ?_)))
            rw [ee]
            exact ⟨rfl, i_in (iv_lo' h (by omega))⟩
          refine zb_in him (fun hh => XZ _ (fun _ => rfl) (fun z => by rw [hh] at z; cases z)) (fun hh => ?_)
          have hb2 := hbe hh
          exact zb_le (pb_of C n + D (10 + s)) be (fun q => XZ _ (fun z => absurd (hh.symm.trans z) (by decide)) (fun _ => by omega)) (fun q => XZ _ (fun z => absurd (hh.symm.trans z) (by decide)) (fun _ => by omega))
        · rw [ix_10]
          exact yw_ver hN.2.1 (by omega) fY hFb (by omega) (fun z => absurd hc (by omega)) (fun _ => br_f (by decide) (Exists.intro (n + 1) (yl_app2 (F := fun v => W ((10 + s) * 8 + v)) hN.2.1 (by omega) (fun v hv => eY.1 v hv) hl.1 (iv_cb h) (fun _ => ⟨rfl, i_in h⟩) (fun z => absurd z hb) (n + 1) 0 (by omega) (by omega) lt_0)))
      · subst hco
        exact xr_1 hs (by omega) (br_f (by decide) ⟨in_n s (by omega), hb_t (by omega) eF (br_f (by decide) ⟨rfl, i_in h⟩)⟩)
  · exact xr_0 hv (by omega) (br_t rfl (xr_0 hv (by omega) (br_t rfl ⟨rfl, i_in h⟩)))
end
section
/-! commit -/
theorem rl_1 {A B : Prop} {a : Nat} (ha : a < 3) (x : A) : (nI a = 0 → A) ∧ (¬ nI a = 0 → ((nI a = 1 → A) ∧ (¬ nI a = 1 → ((nI a = 2 → A) ∧ (¬ nI a = 2 → B))))) :=
  pk_eq a 0 (fun _ => x) (fun _ => pk_eq a 1 (fun _ => x) (fun _ => pk_eq a 2 (fun _ => x) (fun _ => by omega)))
theorem rl_0 {A B : Prop} {p : Int32} (hp : ∀ j, j < 3 → p ≠ nI j) (x : B) : (p = 0 → A) ∧ (¬ p = 0 → ((p = 1 → A) ∧ (¬ p = 1 → ((p = 2 → A) ∧ (¬ p = 2 → B))))) :=
  br_f (hp 0 (by omega)) (br_f (hp 1 (by omega)) (br_f (hp 2 (by omega)) x))
theorem rh_1 {A B C : Prop} {b : Int} (h : -500 ≤ b ∧ b ≤ 500) (x : C) : (zI b < (-500) → A) ∧ (¬ zI b < (-500) → ((500 < zI b → B) ∧ (¬ 500 < zI b → C))) :=
  zb_lt b (-500) (fun z => by omega) (fun _ => zb_lt 500 b (fun z => by omega) (fun _ => x))
theorem rh_0 {A C : Prop} {b : Int} (h : ¬ (-500 ≤ b ∧ b ≤ 500)) (h1 : -2147483648 ≤ b) (h2 : b < 2147483648) (x : A) : (zI b < (-500) → A) ∧ (¬ zI b < (-500) → ((500 < zI b → A) ∧ (¬ 500 < zI b → C))) :=
  zb_lt b (-500) (fun _ => x) (fun _ => zb_lt 500 b (fun _ => x) (fun z => by omega))
theorem rc_a {A B : Prop} {rc rR z : Nat} {x : Int32} (hx : x = nI z) (hr : rc ≤ 10) (hR : rR ≤ 10) (hz : z ≤ 2) (f : rc + z ≤ rR → A) (g : rR < rc + z → B) : (nI rc + x ≤ nI rR → A) ∧ (¬ nI rc + x ≤ nI rR → B) :=
  pk_le (rc + z) rR f g (by rw [hx, nI_add]) rfl
section
variable {n rR lR rc : Nat} {has : Bool} {im : Nat} {be lo : Int} {co : Bool} {W D : Nat → Int} {Hd : Nat → Bool} {A : Nat → Nat} {kk : Int} {gi : Int32} {w d : Nat → Int} {Fd : Nat → Bool} {P C : Nat → Int}
theorem iv_com {W' D' : Nat → Int} (h : iv n rR lR rc has im be lo W D Hd A kk gi w d Fd P C) (hx : fo_is W' D' n 26 (fun _ => 0) 0) (hf : ∀ i, i ≠ 26 → fo_eq W D W' D' n i) : iv n rR lR rc false 0 0 (D' 27) W' D' (cl Hd 12) A 0 gi w d (cl Fd lR) (zp P n) C := by
  have h1 : iv n rR lR rc has im be lo W' D' Hd A 0 gi w d Fd (zp P n) C := iv_pend h (fun i hi _ => hf i hi) (fun v hv => by
    rw [show zp P n v = 0 from if_pos hv, hx.1 v hv]
    exact ⟨rfl, by decide, by decide⟩) ⟨hx.2.symm, by decide, by decide⟩
  rw [iv_o h1]
  exact iv_rst h1
theorem iv_cmb {g : Int} {e : Int} (h : iv n rR lR rc has im be lo W D Hd A kk gi w d Fd P C) (hg : g = 1 ∨ g = -1) (he : -900 ≤ e ∧ e ≤ 900) : (∀ v, v < n → -40 ≤ g * P v ∧ g * P v ≤ 40) ∧ 0 ≤ max 0 (pb_cn (fun v => g * P v) e n) ∧ max 0 (pb_cn (fun v => g * P v) e n) ≤ 1220 := by
  have hb : ∀ v, v < n → -40 ≤ g * P v ∧ g * P v ≤ 40 := fun v hv => by
    have := iv_p h v hv
    rcases hg with e | e <;> rw [e] <;> omega
  have c := pb_cn_b (F := fun v => g * P v) (e := e) (B := 40) (iv_n h).2.1 hb (by omega)
  exact ⟨hb, by omega, by omega⟩
end
theorem i_vc_commit {k : Nat} {u : SX} {v : SY} (I : i_Rel k u v) (hk : k + 4 ≤ 2051) (v1 : Int32) (v2 : Int32) : wpX_commit (fun r u' => wpY_commit (fun r' v' => r' = r ∧ i_Rel (k + 4) u' v') v v1 v2) u v1 v2 := by
  refine i_el (Q := fun u v => wpX_commit (fun r u' => wpY_commit (fun r' v' => r' = r ∧ i_Rel (k + 4) u' v') v v1 v2) u v1 v2) I ?_
  intro n rR lR rc has im be lo co ts ln W D Hd A U V R T kk gi w d Fd P C Vy h
  have hN := iv_n h
  have hkk := iv_k h
  obtain ⟨b, hb1, hb2, rfl⟩ := zI_ex v2
  rcases rg_c v1 3 (by omega) with ⟨a, ha, rfl⟩ | hv
  · refine rl_1 ha (br_f (by decide) ?_)
    by_cases hb : -500 ≤ b ∧ b ≤ 500
    · refine rh_1 hb (br_f (by decide) ?_)
      have YS : ∀ {post : Int32 → SY → Prop}, (nI a = 2 → wY_commit_40 post (nI a) (zI b) 2 (nI rc) (nI n) (nI rR) (nI lR) (zI kk) (nI rc) (b2 has) gi (zI lo) (b2 co) (aZ w) (aZ d) (aB Fd) (aZ P) (aZ C) (aN A) (aN Vy)) ∧ (¬ nI a = 2 → wY_commit_40 post (nI a) (zI b) 1 (nI rc) (nI n) (nI rR) (nI lR) (zI kk) (nI rc) (b2 has) gi (zI lo) (b2 co) (aZ w) (aZ d) (aB Fd) (aZ P) (aZ C) (aN A) (aN Vy)) → wpY_commit post (nI n, nI rR, nI lR, zI kk, nI rc, b2 has, gi, zI lo, b2 co, aZ w, aZ d, aB Fd, aZ P, aZ C, aN A, aN Vy) (nI a) (zI b) := fun z => yr_1 (N := 3) ha (by omega) rfl (br_f (by decide) (yi_1 b (-500) 500 hb (br_f (by decide) z)))
      have hk2 : aZ D 26 = zI kk := congrArg zI hkk.1.symm
      by_cases a0 : a = 0
      · subst a0
        refine br_f (by decide) (rc_a (z := 1) rfl (by omega) (by omega) (by omega) (fun hr => nm_r hk2 (br_f (by decide) ?_)) (fun hr => YS (br_f (by decide) (rc_a (z := 1) rfl (by omega) (by omega) (by omega) (fun z => by omega) (fun _ => ⟨rfl, i_in h⟩)))))
        have hB := iv_cmb (g := 1) (e := b - kk) h (Or.inl rfl) (by omega)
        have hP := iv_p h
        rw [zI_sub]
        refine xw_canon (t := rc) (s := 26) (g := 1) (F := fun v => 1 * P v) hN.2.1 (by omega) (by omega) (fun v hv => by rw [(hP v hv).1]) (fun v hv => by have := hB.1 v hv; omega) (by omega) (fun W1 D1 f1 g1 => nm_r (nI_1 rc) (br_t rfl (xw_119 hN.2.1 (fun W2 D2 f2 g2 => YS (br_f (by decide) (rc_a (z := 1) rfl (by omega) (by omega) (by omega) (fun _ => br_f (by decide) ?_) (fun z => by omega)))))))
        rw [zI_sub]
        refine yw_app (g := 1) (F := fun v => 1 * P v) hN.2.1 (by omega) (fun v hv => rfl) (fun v hv => by have := hB.1 v hv; omega) (by omega) (fun w1 d1 p1 q1 => br_t rfl (yx_c90 hN.2.1 (by omega) (iv_cb h) ?_))
        have h1 := iv_app h (by omega) f1 g1 p1 q1 hB.1 hB.2
        have h2 := iv_com h1 f2 g2
        rw [iv_o h2] at h2 ⊢
        exact ⟨rfl, i_in h2⟩
      · by_cases a1 : a = 1
        · subst a1
          refine br_f (by decide) (rc_a (z := 1) rfl (by omega) (by omega) (by omega) (fun hr => nm_r hk2 (br_t rfl (br_f (by decide) ?_))) (fun hr => YS (br_f (by decide) (rc_a (z := 1) rfl (by omega) (by omega) (by omega) (fun z => by omega) (fun _ => ⟨rfl, i_in h⟩)))))
          have hB := iv_cmb (g := -1) (e := kk - b) h (Or.inr rfl) (by omega)
          have hP := iv_p h
          rw [zI_sub]
          refine xw_canon (t := rc) (s := 26) (g := -1) (F := fun v => -1 * P v) hN.2.1 (by omega) (by omega) (fun v hv => by rw [(hP v hv).1]) (fun v hv => by have := hB.1 v hv; omega) (by omega) (fun W1 D1 f1 g1 => nm_r (nI_1 rc) (xw_119 hN.2.1 (fun W2 D2 f2 g2 => YS (br_f (by decide) (rc_a (z := 1) rfl (by omega) (by omega) (by omega) (fun _ => br_t rfl (br_f (by decide) ?_)) (fun z => by omega))))))
          rw [zI_sub]
          refine yw_app (g := -1) (F := fun v => -1 * P v) hN.2.1 (by omega) (fun v hv => rfl) (fun v hv => by have := hB.1 v hv; omega) (by omega) (fun w1 d1 p1 q1 => yx_c90 hN.2.1 (by omega) (iv_cb h) ?_)
          have h1 := iv_app h (by omega) f1 g1 p1 q1 hB.1 hB.2
          have h2 := iv_com h1 f2 g2
          rw [iv_o h2] at h2 ⊢
          exact ⟨rfl, i_in h2⟩
        · have a2 : a = 2 := by omega
          subst a2
          refine br_t rfl (rc_a (z := 2) rfl (by omega) (by omega) (by omega) (fun hr => nm_r hk2 (br_f (by decide) ?_)) (fun hr => YS (br_t rfl (rc_a (z := 2) rfl (by omega) (by omega) (by omega) (fun z => by omega) (fun _ => ⟨rfl, i_in h⟩)))))
          have hA := iv_cmb (g := 1) (e := b - kk) h (Or.inl rfl) (by omega)
          have hB := iv_cmb (g := -1) (e := kk - b) h (Or.inr rfl) (by omega)
          have hP := iv_p h
          rw [zI_sub]
          refine xw_canon (t := rc) (s := 26) (g := 1) (F := fun v => 1 * P v) hN.2.1 (by omega) (by omega) (fun v hv => by rw [(hP v hv).1]) (fun v hv => by have := hA.1 v hv; omega) (by omega) (fun W1 D1 f1 g1 => nm_r (nI_1 rc) (br_f (by decide) ?_))
          rw [zI_sub]
          refine xw_canon (t := rc + 1) (s := 26) (g := -1) (F := fun v => -1 * P v) hN.2.1 (by omega) (by omega) (fun v hv => by rw [(hP v hv).1, (g1 26 (by omega)).1 v hv]) (fun v hv => by have := hB.1 v hv; omega) (by omega) (fun W2 D2 f2 g2 => nm_r (nI_1 (rc + 1)) (xw_119 hN.2.1 (fun W3 D3 f3 g3 => YS (br_t rfl (rc_a (z := 2) rfl (by omega) (by omega) (by omega) (fun _ => br_f (by decide) ?_) (fun z => by omega))))))
          rw [zI_sub]
          refine yw_app (g := 1) (F := fun v => 1 * P v) hN.2.1 (by omega) (fun v hv => rfl) (fun v hv => by have := hA.1 v hv; omega) (by omega) (fun w1 d1 p1 q1 => br_f (by decide) ?_)
          rw [zI_sub]
          refine yw_app (g := -1) (F := fun v => -1 * P v) hN.2.1 (by omega) (fun v hv => rfl) (fun v hv => by have := hB.1 v hv; omega) (by omega) (fun w2 d2 p2 q2 => yx_c90 hN.2.1 (by omega) (iv_cb h) ?_)
          have h1 := iv_app h (by omega) f1 g1 p1 q1 hA.1 hA.2
          have h2 := iv_app h1 (by omega) f2 g2 p2 q2 hB.1 hB.2
          have h3 := iv_com h2 f3 g3
          rw [iv_o h3] at h3 ⊢
          exact ⟨rfl, i_in h3⟩
    · exact rh_0 hb hb1 hb2 (br_t rfl (yr_1 (N := 3) ha (by omega) rfl (br_f (by decide) (yi_0 b (-500) 500 hb (br_t rfl ⟨rfl, i_in h⟩)))))
  · exact rl_0 hv (br_t rfl (yr_0 (N := 3) hv (by omega) rfl (br_t rfl ⟨rfl, i_in h⟩)))
end
section
/-! the trail as a list, newest first: (variable, value, reason) -/
abbrev En : Type := Nat × Nat × Int
def tv : List En → Nat → Nat
  | [], _ => 2
  | e :: L, v => if v = e.1 then e.2.1 else tv L v
theorem tv_h {e : En} {L : List En} : tv (e :: L) e.1 = e.2.1 := if_pos rfl
theorem tv_t {e : En} {L : List En} {v : Nat} (h : v ≠ e.1) : tv (e :: L) v = tv L v := if_neg h
def ta2 (R : Nat → Int) (T : Nat → Nat) : List En → Prop
  | [] => True
  | e :: L => T L.length = e.1 ∧ R e.1 = e.2.2 ∧ ta2 R T L
def ta (n : Nat) (V : Nat → Nat) (R : Nat → Int) (T : Nat → Nat) (L : List En) : Prop := (∀ v, v < n → V v = tv L v) ∧ ta2 R T L
/-- why an entry stands on the trail L below it -/
def te (n : Nat) (W D : Nat → Int) (U : Nat → Bool) (L : List En) (e : En) : Prop :=
  (e.2.2 = -2 ∧ ∀ x, x ∈ L → x.2.2 = -2) ∨
  (e.2.2 = -1 ∧ e.2.1 = 0 ∧ ∀ u, e.1 < u → u < n → tv L u ≠ 2) ∨
  (∃ r : Nat, e.2.2 = (r : Int) ∧ r < 60 ∧ U r = true ∧ ((0 < W (r * 8 + e.1) ∧ e.2.1 = 1) ∨ (W (r * 8 + e.1) < 0 ∧ e.2.1 = 0)) ∧ pb_slk (fun v => W (r * 8 + v)) (D r) (tv L) n < pb_ab (W (r * 8 + e.1)))
def tk (n : Nat) (W D : Nat → Int) (U : Nat → Bool) : List En → Prop
  | [] => True
  | e :: L => (e.1 < n ∧ tv L e.1 = 2 ∧ e.2.1 ≤ 1) ∧ te n W D U L e ∧ tk n W D U L
section
variable {n : Nat} {W D : Nat → Int} {U : Nat → Bool}
theorem tv_le {L : List En} (h : tk n W D U L) (v : Nat) : tv L v ≤ 2 := by
  induction L with
  | nil => exact Nat.le_refl _
  | cons e L ih =>
    by_cases c : v = e.1
    · rw [c, tv_h]; have := h.1.2.2; omega
    · rw [tv_t c]; exact ih h.2.2
theorem tv_mem {L : List En} (h : tk n W D U L) {e : En} (he : e ∈ L) : tv L e.1 = e.2.1 ∧ e.2.1 ≤ 1 ∧ e.1 < n := by
  induction L with
  | nil => cases he
  | cons x L ih =>
    rcases List.mem_cons.mp he with c | c
    · subst c; exact ⟨tv_h, h.1.2.2, h.1.1⟩
    · have a := ih h.2.2 c
      by_cases q : e.1 = x.1
      · have := h.1.2.1
        rw [← q, a.1] at this
        omega
      · rw [tv_t q]; exact a
theorem tv_in {L : List En} {v : Nat} (h : tv L v ≠ 2) : ∃ e, e ∈ L ∧ e.1 = v ∧ e.2.1 = tv L v := by
  induction L with
  | nil => exact absurd rfl h
  | cons x L ih =>
    by_cases q : v = x.1
    · subst q; exact ⟨x, List.mem_cons_self, rfl, tv_h.symm⟩
    · rw [tv_t q] at h ⊢
      obtain ⟨e, a, b, c⟩ := ih h
      exact ⟨e, List.mem_cons_of_mem _ a, b, c⟩
theorem tk_len {L : List En} (h : tk n W D U L) : (L.length : Int) = pb_sm (fun v => if tv L v = 2 then 0 else 1) n := by
  induction L with
  | nil =>
    have : ∀ k, pb_sm (fun v => if tv [] v = 2 then 0 else 1) k = 0 := by
      intro k
      induction k with
      | zero => rfl
      | succ k ih => rw [pb_sm_s, ih]; rfl
    rw [this]; rfl
  | cons e L ih =>
    have a := ih h.2.2
    have b := pb_sm_one (g := fun v => if tv (e :: L) v = 2 then 0 else 1) (h := fun v => if tv L v = 2 then 0 else 1) e.1 n h.1.1 (fun v _ hv => by rw [tv_t hv])
    rw [if_neg (by rw [tv_h]; have := h.1.2.2; omega), if_pos h.1.2.1] at b
    rw [b, ← a, List.length_cons]
    omega
theorem pb_sm_c1 (n : Nat) : pb_sm (fun _ => 1) n = n := by
  induction n with
  | zero => rfl
  | succ n ih => rw [pb_sm_s, ih]; omega
theorem tk_le {L : List En} (h : tk n W D U L) : L.length ≤ n := by
  have a := tk_len h
  have b := pb_sm_le (g := fun v => if tv L v = 2 then 0 else 1) (h := fun _ => 1) n (fun v _ => by (try dsimp only); split <;> omega)
  rw [pb_sm_c1] at b
  omega
theorem tk_lt {L : List En} (h : tk n W D U L) {v : Nat} (hv : v < n) (hf : tv L v = 2) : L.length < n := by
  have a := tk_len h
  have b := pb_sm_lt (g := fun v => if tv L v = 2 then 0 else 1) (h := fun _ => 1) (k := 1) v n hv (fun v _ => by (try dsimp only); split <;> omega) (by (try dsimp only); rw [if_pos hf]; omega)
  rw [pb_sm_c1] at b
  omega
theorem tk_all {L : List En} (h : tk n W D U L) (hl : n ≤ L.length) {v : Nat} (hv : v < n) : tv L v ≠ 2 := fun z => by
  have := tk_lt h hv z
  omega
theorem tk_ex {L : List En} (h : tk n W D U L) (hl : L.length < n) : ∃ v, v < n ∧ tv L v = 2 := by
  apply Classical.byContradiction
  intro hc
  have a := tk_len h
  have b := pb_sm_congr (g := fun v => if tv L v = 2 then 0 else 1) (h := fun _ => 1) n (fun v hv => if_neg (fun z => hc ⟨v, hv, z⟩))
  rw [pb_sm_c1] at b
  omega
theorem tk_ext1 {e : En} {L : List En} (h : tk n W D U (e :: L)) : pb_ext (tv L) (tv (e :: L)) n := fun v _ hv => by
  by_cases c : v = e.1
  · rw [c] at hv; exact absurd h.1.2.1 hv
  · exact tv_t c
theorem tk_app {L1 L : List En} (h : tk n W D U (L1 ++ L)) : tk n W D U L := by
  induction L1 with
  | nil => exact h
  | cons e L1 ih => exact ih h.2.2
theorem tk_ext {L1 L : List En} (h : tk n W D U (L1 ++ L)) : pb_ext (tv L) (tv (L1 ++ L)) n := by
  induction L1 with
  | nil => exact fun _ _ _ => rfl
  | cons e L1 ih =>
    have a := ih h.2.2
    have b : pb_ext (tv (L1 ++ L)) (tv (e :: (L1 ++ L))) n := tk_ext1 h
    intro v hv hf
    have c := a v hv hf
    rw [← c]
    exact b v hv (by rw [c]; exact hf)
theorem tk_cg {W' D' : Nat → Int} {U' : Nat → Bool} {L : List En} (h : tk n W D U L) (hc : ∀ r : Nat, r < 60 → (∃ e, e ∈ L ∧ e.2.2 = (r : Int)) → U' r = true ∧ (∀ v, v < n → W' (r * 8 + v) = W (r * 8 + v)) ∧ D r ≤ D' r) : tk n W' D' U' L := by
  induction L with
  | nil => trivial
  | cons e L ih =>
    refine ⟨h.1, ?_, ih h.2.2 (fun r hr ⟨x, hx, q⟩ => hc r hr ⟨x, List.mem_cons_of_mem _ hx, q⟩)⟩
    rcases h.2.1 with a | a | ⟨r, e1, e2, e3, e4, e5⟩
    · exact Or.inl a
    · exact Or.inr (Or.inl a)
    · obtain ⟨c1, c2, c3⟩ := hc r e2 ⟨e, List.mem_cons_self, e1⟩
      refine Or.inr (Or.inr ⟨r, e1, e2, c1, ?_, ?_⟩)
      · rw [c2 e.1 h.1.1]; exact e4
      · rw [c2 e.1 h.1.1]
        have q : pb_slk (fun v => W' (r * 8 + v)) (D' r) (tv L) n ≤ pb_slk (fun v => W (r * 8 + v)) (D r) (tv L) n := by
          have := pb_slk_cg (f := fun v => W' (r * 8 + v)) (g := fun v => W (r * 8 + v)) (d := D r) (e := D r) (V := tv L) (V' := tv L) (n := n) c2 (fun _ _ => rfl) rfl
          unfold pb_slk at *
          omega
        omega
theorem ta2_ug {R : Nat → Int} {T : Nat → Nat} {L : List En} {v p : Nat} {r : Int} (h : ta2 R T L) (hv : ∀ e, e ∈ L → e.1 ≠ v) (hp : L.length ≤ p) : ta2 (ug R v r) (ug T p v) L := by
  induction L with
  | nil => trivial
  | cons e L ih =>
    rw [List.length_cons] at hp
    refine ⟨?_, ?_, ih h.2.2 (fun x hx => hv x (List.mem_cons_of_mem _ hx)) (by omega)⟩
    · rw [ug_n (by omega)]; exact h.1
    · rw [ug_n (hv e List.mem_cons_self)]; exact h.2.1
theorem ta_push {V : Nat → Nat} {R : Nat → Int} {T : Nat → Nat} {L : List En} {v b : Nat} {r : Int} (h : ta n V R T L) (hk : tk n W D U L) (hf : tv L v = 2) : ta n (ug V v b) (ug R v r) (ug T L.length v) ((v, b, r) :: L) := by
  refine ⟨fun u hu => ?_, ug_s, ug_s, ta2_ug h.2 (fun e he c => ?_) (Nat.le_refl _)⟩
  · by_cases c : u = v
    · subst c; rw [ug_s]; exact (tv_h (e := (u, b, r))).symm
    · rw [ug_n c, tv_t (e := (v, b, r)) c]; exact h.1 u hu
  · have a := tv_mem hk he
    rw [c, hf] at a
    omega
theorem ta_pop {V : Nat → Nat} {R : Nat → Int} {T : Nat → Nat} {L : List En} {e : En} (h : ta n V R T (e :: L)) (hk : tk n W D U (e :: L)) : ta n (ug V e.1 2) R T L := by
  refine ⟨fun u hu => ?_, h.2.2.2⟩
  by_cases c : u = e.1
  · subst c; rw [ug_s]; exact hk.1.2.1.symm
  · rw [ug_n c, h.1 u hu, tv_t c]
theorem ta2_at {R : Nat → Int} {T : Nat → Nat} {L : List En} (h : ta2 R T L) {p : Nat} (hp : p < L.length) : ∃ e, e ∈ L ∧ T p = e.1 ∧ R e.1 = e.2.2 := by
  induction L with
  | nil => cases hp
  | cons e L ih =>
    by_cases c : p = L.length
    · subst c; exact ⟨e, List.mem_cons_self, h.1, h.2.1⟩
    · rw [List.length_cons] at hp
      obtain ⟨x, a, b⟩ := ih h.2.2 (by omega)
      exact ⟨x, List.mem_cons_of_mem _ a, b⟩
theorem ta2_pos {R : Nat → Int} {T : Nat → Nat} {L : List En} (h : ta2 R T L) {e : En} (he : e ∈ L) : ∃ p, p < L.length ∧ T p = e.1 ∧ R e.1 = e.2.2 := by
  induction L with
  | nil => cases he
  | cons x L ih =>
    rw [List.length_cons]
    rcases List.mem_cons.mp he with c | c
    · subst c; exact ⟨L.length, by omega, h.1, h.2.1⟩
    · obtain ⟨p, a, b⟩ := ih h.2.2 c
      exact ⟨p, by omega, b⟩
/-- the slack of a form under a trail whose new literal is true in it -/
theorem slk_true {f : Nat → Int} {d : Int} {L : List En} {v b : Nat} {r : Int} (hf : tv L v = 2) (hs : (0 < f v ∧ b = 1) ∨ (f v < 0 ∧ b = 0)) : pb_slk f d (tv ((v, b, r) :: L)) n = pb_slk f d (tv L) n := by
  unfold pb_slk
  rw [pb_sm_congr (g := fun u => pb_nf (f u) (tv ((v, b, r) :: L) u)) (h := fun u => pb_nf (f u) (tv L u)) n (fun u _ => ?_)]
  show pb_nf (f u) (tv ((v, b, r) :: L) u) = pb_nf (f u) (tv L u)
  by_cases c : u = v
  · subst c
    rw [show tv ((u, b, r) :: L) u = b from tv_h (e := (u, b, r)), hf, pb_nf_2, pb_nf_f (by omega)]
  · rw [tv_t (e := (v, b, r)) c]
/-- taking back a falsified literal -/
theorem slk_pop {f : Nat → Int} {d : Int} {L : List En} {e : En} (hv : e.1 < n) (hf : tv L e.1 = 2) : pb_slk f d (tv L) n ≤ pb_slk f d (tv (e :: L)) n + pb_ab (f e.1) := by
  unfold pb_slk
  have a := pb_sm_one (g := fun u => pb_nf (f u) (tv L u)) (h := fun u => pb_nf (f u) (tv (e :: L) u)) e.1 n hv (fun u _ hu => by rw [tv_t hu])
  rw [hf, pb_nf_2] at a
  have b := pb_nf_nn (f e.1) (tv (e :: L) e.1)
  omega
theorem slk_keep {f : Nat → Int} {d : Int} {L : List En} {e : En} (hf : tv L e.1 = 2) (hs : ¬ ((0 < f e.1 ∧ e.2.1 = 0) ∨ (f e.1 < 0 ∧ e.2.1 = 1))) : pb_slk f d (tv L) n = pb_slk f d (tv (e :: L)) n := by
  unfold pb_slk
  rw [pb_sm_congr (g := fun u => pb_nf (f u) (tv L u)) (h := fun u => pb_nf (f u) (tv (e :: L) u)) n (fun u _ => ?_)]
  show pb_nf (f u) (tv L u) = pb_nf (f u) (tv (e :: L) u)
  by_cases c : u = e.1
  · rw [c, hf, pb_nf_2, tv_h, pb_nf_f hs]
  · rw [tv_t c]
/-- a mask that keeps the forms agrees with the trail or leaves it first at a decision, upwards -/
def as (L : List En) (m : Nat) : Prop := ∀ e, e ∈ L → e.2.2 = -2 → e.2.1 = (m.testBit e.1).toNat
theorem tk_lex {L : List En} {m : Nat} (h : tk n W D U L) (hs : ∀ r : Nat, r < 60 → U r = true → pb_sat (fun v => W (r * 8 + v)) (D r) n m) (ha : as L m) : pb_agr (tv L) m n ∨ ∃ v, v < n ∧ tv L v = 0 ∧ m.testBit v = true ∧ ∀ u, v < u → u < n → tv L u = (m.testBit u).toNat := by
  induction L with
  | nil => exact Or.inl (fun v _ hv => absurd rfl hv)
  | cons e L ih =>
    have push : pb_agr (tv L) m n → e.2.1 = (m.testBit e.1).toNat → pb_agr (tv (e :: L)) m n := fun g q v hv hf => by
      by_cases c : v = e.1
      · rw [c, tv_h]; exact q
      · rw [tv_t c] at hf ⊢; exact g v hv hf
    rcases ih h.2.2 (fun x hx => ha x (List.mem_cons_of_mem _ hx)) with g | ⟨v, hv, h0, h1, h2⟩
    · rcases h.2.1 with ⟨a, _⟩ | ⟨a, a0, a1⟩ | ⟨r, e1, e2, e3, e4, e5⟩
      · exact Or.inl (push g (ha e List.mem_cons_self a))
      · cases hb : m.testBit e.1
        · exact Or.inl (push g (by rw [a0, hb]; rfl))
        · refine Or.inr ⟨e.1, h.1.1, by rw [tv_h]; exact a0, hb, fun u hu1 hu2 => ?_⟩
          rw [tv_t (by omega)]
          exact g u hu2 (a1 u hu1 hu2)
      · have q := pb_force (f := fun v => W (r * 8 + v)) h.1.1 h.1.2.1 g (hs r e2 e3) e5
        refine Or.inl (push g ?_)
        rcases q with ⟨q1, q2⟩ | ⟨q1, q2⟩
        · rw [q2]; show e.2.1 = 1; omega
        · rw [q2]; show e.2.1 = 0; omega
    · right
      have hne : v ≠ e.1 := fun c => by
        have := h.1.2.1
        rw [← c, h0] at this
        omega
      refine ⟨v, hv, by rw [tv_t hne]; exact h0, h1, fun u hu1 hu2 => ?_⟩
      have hq := h2 u hu1 hu2
      have hne2 : u ≠ e.1 := fun c => by
        have := h.1.2.1
        rw [← c, hq] at this
        have := Bool.toNat_le (m.testBit u)
        omega
      rw [tv_t hne2]
      exact hq
end
end
section
/-! X: assign, forceLiterals, propagate -/
/-- every form in use is small -/
def ub (n : Nat) (W D : Nat → Int) (U : Nat → Bool) : Prop := ∀ r : Nat, r < 60 → U r = true → (∀ v, v < n → -9999 ≤ W (r * 8 + v) ∧ W (r * 8 + v) ≤ 9999) ∧ 0 ≤ D r ∧ D r ≤ 9999
/-- L' is L with forced entries on top -/
def xg (L L' : List En) : Prop := ∃ L1, L' = L1 ++ L ∧ ∀ e, e ∈ L1 → 0 ≤ e.2.2
theorem xg_r (L : List En) : xg L L := ⟨[], rfl, fun _ h => by cases h⟩
theorem xg_c {L L' : List En} {e : En} (h : xg L L') (he : 0 ≤ e.2.2) : xg L (e :: L') := by
  obtain ⟨L1, rfl, a⟩ := h
  refine ⟨e :: L1, rfl, fun x hx => ?_⟩
  rcases List.mem_cons.mp hx with c | c
  · subst c; exact he
  · exact a x c
theorem xg_t {L L' L'' : List En} (h : xg L L') (h2 : xg L' L'') : xg L L'' := by
  obtain ⟨L1, rfl, a⟩ := h
  obtain ⟨L2, rfl, b⟩ := h2
  refine ⟨L2 ++ L1, (List.append_assoc _ _ _).symm, fun x hx => ?_⟩
  rcases List.mem_append.mp hx with c | c
  · exact b x c
  · exact a x c
theorem xg_len {L L' : List En} (h : xg L L') : L.length ≤ L'.length ∧ (L'.length = L.length → L' = L) := by
  obtain ⟨L1, rfl, a⟩ := h
  rw [List.length_append]
  refine ⟨by omega, fun z => ?_⟩
  have : L1 = [] := List.eq_nil_of_length_eq_zero (by omega)
  rw [this]; rfl
/-- nothing in form r is violated or to be forced under V -/
def cd1 (n : Nat) (W D : Nat → Int) (V : Nat → Nat) (r : Nat) : Prop := 0 ≤ pb_slk (fun v => W (r * 8 + v)) (D r) V n ∧ ∀ v, v < n → V v = 2 → pb_ab (W (r * 8 + v)) ≤ pb_slk (fun v => W (r * 8 + v)) (D r) V n
theorem slk_b {n : Nat} {f : Nat → Int} {d : Int} {V : Nat → Nat} {B : Int} (hn : n ≤ 8) (hB : 0 ≤ B) (hf : ∀ v, v < n → -B ≤ f v ∧ f v ≤ B) (hd : 0 ≤ d ∧ d ≤ B) : -B ≤ pb_slk f d V n ∧ pb_slk f d V n ≤ 8 * B := by
  have a := pb_sm_8 (g := fun v => pb_nf (f v) (V v)) hn hB (fun v hv => by
    have := pb_nf_nn (f v) (V v)
    have := pb_nf_le (f v) (V v)
    have := pb_ab_b (hf v hv)
    (try dsimp only)
    omega)
  have b := pb_sm_nn (g := fun v => pb_nf (f v) (V v)) n (fun v _ => pb_nf_nn _ _)
  unfold pb_slk
  omega
section
variable {q0 q1 q2 q3 q4 q5 q6 q7 q8 q9 q10 q11 fn frR flR frc fin fbe flo fcl fts fln : Int32} {xw xd xh xa xu xv xr xt : Nat → Int32}
variable {W D : Nat → Int} {U : Nat → Bool} {n : Nat}
theorem xw_asg {post : SX → Prop} {V : Nat → Nat} {R : Nat → Int} {T : Nat → Nat} {v b s : Nat} {p1 p2 : Int32} (r : Int) (hv : v < 8) (hs : s < 8) (h1 : p1 = nI b) (h2 : p2 = zI r) (H : post (q0, q1, q2, q3, q4, q5, q6, q7, q8, q9, q10, q11, fn, frR, flR, frc, fin, fbe, flo, fcl, nI (s + 1), fln, xw, xd, xh, xa, xu, aN (ug V v b), aZ (ug R v r), aN (ug T s v))) : wpX_assign post (q0, q1, q2, q3, q4, q5, q6, q7, q8, q9, q10, q11, fn, frR, flR, frc, fin, fbe, flo, fcl, nI s, fln, xw, xd, xh, xa, xu, aN V, aZ R, aN T) (nI v) p1 p2 :=
  And.intro (in_n v hv) (nm_r (wr_n v b rfl h1) (And.intro (in_n v hv) (nm_r (wr_z v r rfl h2) (And.intro (in_n s hs) (nm_r (wr_n s v rfl rfl) (nm_r (nI_1 s) H))))))
theorem xl_force {post : SX → Prop} {r : Nat} {room : Int} {L0 : List En} (hn : n ≤ 8) (hr : r < 60) (hu : U r = true) (hb : ∀ v, v < n → -9999 ≤ W (r * 8 + v) ∧ W (r * 8 + v) ≤ 9999) (hroom : 0 ≤ room ∧ room ≤ 100000) (H : ∀ L V R T, tk n W D U L → ta n V R T L → xg L0 L → pb_slk (fun v => W (r * 8 + v)) (D r) (tv L) n = room → (∀ v, v < n → tv L v = 2 → pb_ab (W (r * 8 + v)) ≤ room) → post (q0, q1, q2, q3, q4, q5, q6, q7, q8, q9, q10, q11, nI n, frR, flR, frc, fin, fbe, flo, fcl, nI L.length, fln, aZ W, aZ D, xh, xa, aB U, aN V, aZ R, aN T)) : ∀ k i L V R T, i ≤ n → n < k + i → tk n W D U L → ta n V R T L → xg L0 L → pb_slk (fun v => W (r * 8 + v)) (D r) (tv L) n = room → (∀ v, v < i → tv L v = 2 → pb_ab (W (r * 8 + v)) ≤ room) → wX_forceLiterals_2 post (nI r) (zI room) k (nI i) q0 q1 q2 q3 q4 q5 q6 q7 q8 q9 q10 q11 (nI n) frR flR frc fin fbe flo fcl (nI L.length) fln (aZ W) (aZ D) xh xa (aB U) (aN V) (aZ R) (aN T) := by
  intro k
  induction k with
  | zero => intro i L V R T h1 h2; omega
  | succ k ih =>
    intro i L V R T h1 h2 hk ht hx hs hc
    by_cases hi : i < n
    · have hbi := hb i hi
      have hab := pb_ab_b hbi
      have eV := ht.1 i hi
      have eL := tv_le hk i
      have PUSH : ∀ b : Nat, tv L i = 2 → room < pb_ab (W (r * 8 + i)) → ((0 < W (r * 8 + i) ∧ b = 1) ∨ (W (r * 8 + i) < 0 ∧ b = 0)) → ∀ p1 : Int32, p1 = nI b → wX_forceLiterals_59 post (wX_forceLiterals_2 post (nI r) (zI room) k) (nI r) (zI room) (nI i) p1 (nI i) q0 q1 q2 q3 q4 q5 q6 q7 q8 q9 q10 q11 (nI n) frR flR frc fin fbe flo fcl (nI L.length) fln (aZ W) (aZ D) xh xa (aB U) (aN V) (aZ R) (aN T) := fun b hf hg hsg p1 hp1 => by
        have hl := tk_lt hk hi hf
        have hk' : tk n W D U ((i, b, (r : Int)) :: L) := ⟨⟨hi, hf, by show b ≤ 1; omega⟩, Or.inr (Or.inr ⟨r, rfl, hr, hu, hsg, by rw [hs]; exact hg⟩), hk⟩
        refine xw_asg (r : Int) (by omega) (by omega) hp1 (zI_nI r) (nm_r (nI_1 i) (ih (i + 1) ((i, b, (r : Int)) :: L) _ _ _ (by omega) (by omega) hk' (ta_push ht hk hf) (xg_c hx (by show (0 : Int) ≤ (r : Int); omega)) ?_ (fun v hv hf2 => ?_)))
        · rw [slk_true hf hsg]; exact hs
        · by_cases c : v = i
          · subst c
            rw [show tv ((v, b, (r : Int)) :: L) v = b from tv_h (e := (v, b, (r : Int)))] at hf2
            omega
          · rw [tv_t (e := (i, b, (r : Int))) c] at hf2
            exact hc v (by omega) hf2
      refine br_f (nI_ge hi (by omega)) ⟨in_n (r * 8 + i) (by omega) (ix_x r i), nm_r (e' := zI (W (r * 8 + i))) (rd_z (r * 8 + i) (ix_x r i)) (xw_mag (W (r * 8 + i)) ⟨in_n i (by omega), pk_eq (V i) 2 (fun e2 => zb_le (pb_ab (W (r * 8 + i))) room (fun q => nm_r (nI_1 i) (ih (i + 1) L V R T (by omega) (by omega) hk ht hx hs (lt_s hc (fun _ => q)))) (fun q => zb_le (W (r * 8 + i)) 0 (fun q2 => PUSH 0 (by omega) q (Or.inr ⟨by unfold pb_ab at q; omega, rfl⟩) 0 rfl) (fun q2 => PUSH 1 (by omega) q (Or.inl ⟨q2, rfl⟩) 1 rfl))) (fun e2 => nm_r (nI_1 i) (ih (i + 1) L V R T (by omega) (by omega) hk ht hx hs (lt_s hc (fun z => by omega)))) (rd_n i)⟩)⟩
    · have e : i = n := by omega
      subst e
      exact br_t (nI_le (Nat.le_refl _) (by omega)) (H L V R T hk ht hx hs hc)
theorem xl_prop15 {post : Int32 → SX → Prop} {J : Int32 → Int32 → Int32 → Int32 → Int32 → Int32 → Int32 → Int32 → Int32 → Int32 → Int32 → Int32 → Int32 → Int32 → Int32 → Int32 → Int32 → Int32 → Int32 → Int32 → Int32 → Int32 → Int32 → (Nat → Int32) → (Nat → Int32) → (Nat → Int32) → (Nat → Int32) → (Nat → Int32) → (Nat → Int32) → (Nat → Int32) → (Nat → Int32) → Prop} {L0 : List En} {rd : Nat} (hn : n ≤ 8) (hb : ub n W D U) (Hc : ∀ r L V R T, tk n W D U L → ta n V R T L → xg L0 L → r < 60 → U r = true → pb_slk (fun v => W (r * 8 + v)) (D r) (tv L) n < 0 → post (nI r) (q0, q1, q2, q3, q4, q5, q6, q7, q8, q9, q10, q11, nI n, frR, flR, frc, fin, fbe, flo, fcl, nI L.length, fln, aZ W, aZ D, xh, xa, aB U, aN V, aZ R, aN T)) (He : ∀ V R T, tk n W D U L0 → ta n V R T L0 → (∀ r : Nat, r < 60 → U r = true → cd1 n W D (tv L0) r) → post (-1) (q0, q1, q2, q3, q4, q5, q6, q7, q8, q9, q10, q11, nI n, frR, flR, frc, fin, fbe, flo, fcl, nI L0.length, fln, aZ W, aZ D, xh, xa, aB U, aN V, aZ R, aN T)) (Hj : ∀ L V R T, tk n W D U L → ta n V R T L → xg L0 L → L0.length < L.length → J (nI (rd + 1)) q0 q1 q2 q3 q4 q5 q6 q7 q8 q9 q10 q11 (nI n) frR flR frc fin fbe flo fcl (nI L.length) fln (aZ W) (aZ D) xh xa (aB U) (aN V) (aZ R) (aN T)) : ∀ k i L V R T, i ≤ 60 → 60 < k + i → tk n W D U L → ta n V R T L → xg L0 L → (L = L0 → ∀ r : Nat, r < i → U r = true → cd1 n W D (tv L0) r) → wX_propagate_15 post J (nI rd) (nI L0.length) k (nI i) q0 q1 q2 q3 q4 q5 q6 q7 q8 q9 q10 q11 (nI n) frR flR frc fin fbe flo fcl (nI L.length) fln (aZ W) (aZ D) xh xa (aB U) (aN V) (aZ R) (aN T) := by
  intro k
  induction k with
  | zero => intro i L V R T h1 h2; omega
  | succ k ih =>
    intro i L V R T h1 h2 hk ht hx hc
    have hle := tk_le hk
    have hxl := xg_len hx
    by_cases hi : i < 60
    · refine br_f (nI_ge (b := 60) hi (by decide)) ⟨in_n i hi, zb_b (U i) (fun hu => nm_r (nI_1 i) (ih (i + 1) L V R T (by omega) (by omega) hk ht hx (fun e => lt_s (hc e) (fun z => by rw [hu] at z; cases z)))) (fun hu => ?_) (rd_b i)⟩
      have hbi := hb i hi hu
      have hsb := slk_b (V := V) hn (by omega) hbi.1 hbi.2
      have esl : pb_slk (fun v => W (i * 8 + v)) (D i) V n = pb_slk (fun v => W (i * 8 + v)) (D i) (tv L) n := pb_slk_cg (fun _ _ => rfl) ht.1 rfl
      refine xw_slk (F := fun v => W (i * 8 + v)) hn hi (fo_rf W D n i) (fun v hv => by have := hbi.1 v hv; (try dsimp only); omega) (fun v hv => by rw [ht.1 v hv]; exact tv_le hk v) (zb_le 0 (pb_slk (fun v => W (i * 8 + v)) (D i) V n) (fun q => Exists.intro (n + 1) (xl_force (L0 := L) hn hi hu hbi.1 (by omega) (fun L' V' R' T' hk' ht' hx' hs' hc' => nm_r (nI_1 i) (ih (i + 1) L' V' R' T' (by omega) (by omega) hk' ht' (xg_t hx hx') (fun e => ?_))) (n + 1) 0 L V R T (by omega) (by omega) hk ht (xg_r L) esl.symm lt_0)) (fun q => Hc i L V R T hk ht hx hi hu (by rw [← esl]; exact q)))
      have hll := xg_len hx'
      have e2 : L = L0 := hxl.2 (by rw [e] at hll; omega)
      have e3 : L' = L := by rw [e, e2]
      refine lt_s (hc e2) (fun _ => ?_)
      rw [e3] at hs' hc'
      rw [e2] at hs' hc'
      exact ⟨by rw [hs']; exact q, fun v hv hf => by rw [hs']; exact hc' v hv hf⟩
    · have e : i = 60 := by omega
      subst e
      refine br_t (by decide) (pk_eq L.length L0.length (fun e2 => ?_) (fun e2 => nm_r (nI_1 rd) (Hj L V R T hk ht hx (by omega))))
      have e3 := hxl.2 e2
      subst e3
      exact He V R T hk ht (fun r hr => hc rfl r hr)
theorem xl_prop2 {post : Int32 → SX → Prop} {L00 : List En} (hn : n ≤ 8) (hb : ub n W D U) (Hc : ∀ r L V R T, tk n W D U L → ta n V R T L → xg L00 L → r < 60 → U r = true → pb_slk (fun v => W (r * 8 + v)) (D r) (tv L) n < 0 → post (nI r) (q0, q1, q2, q3, q4, q5, q6, q7, q8, q9, q10, q11, nI n, frR, flR, frc, fin, fbe, flo, fcl, nI L.length, fln, aZ W, aZ D, xh, xa, aB U, aN V, aZ R, aN T)) (He : ∀ L V R T, tk n W D U L → ta n V R T L → xg L00 L → (∀ r : Nat, r < 60 → U r = true → cd1 n W D (tv L) r) → post (-1) (q0, q1, q2, q3, q4, q5, q6, q7, q8, q9, q10, q11, nI n, frR, flR, frc, fin, fbe, flo, fcl, nI L.length, fln, aZ W, aZ D, xh, xa, aB U, aN V, aZ R, aN T)) : ∀ k rd L V R T, rd ≤ L.length → 9 < k + rd → tk n W D U L → ta n V R T L → xg L00 L → wX_propagate_2 post k (nI rd) q0 q1 q2 q3 q4 q5 q6 q7 q8 q9 q10 q11 (nI n) frR flR frc fin fbe flo fcl (nI L.length) fln (aZ W) (aZ D) xh xa (aB U) (aN V) (aZ R) (aN T) := by
  intro k
  induction k with
  | zero =>
    intro rd L V R T h1 h2 hk
    have := tk_le hk
    omega
  | succ k ih =>
    intro rd L V R T h1 h2 hk ht hx
    have hle := tk_le hk
    refine br_f (nI_nlt (b := 8) (a := 8) (Nat.le_refl _) (by decide) |> fun _ => ?_) (Exists.intro 61 (xl_prop15 (L0 := L) hn hb (fun r L' V' R' T' a b c => Hc r L' V' R' T' a b (xg_t hx c)) (fun V' R' T' a b c => He L V' R' T' a b hx c) (fun L' V' R' T' a b c d => ih (rd + 1) L' V' R' T' (by omega) (by omega) a b (xg_t hx c)) 61 0 L V R T (by omega) (by omega) hk ht (xg_r L) (fun _ => lt_0)))
    exact nI_nlt (a := 8) (b := rd) (by omega) (by decide)
theorem xw_prop {post : Int32 → SX → Prop} {L : List En} {V : Nat → Nat} {R : Nat → Int} {T : Nat → Nat} (hn : n ≤ 8) (hb : ub n W D U) (hk : tk n W D U L) (ht : ta n V R T L) (Hc : ∀ r L' V' R' T', tk n W D U L' → ta n V' R' T' L' → xg L L' → r < 60 → U r = true → pb_slk (fun v => W (r * 8 + v)) (D r) (tv L') n < 0 → post (nI r) (q0, q1, q2, q3, q4, q5, q6, q7, q8, q9, q10, q11, nI n, frR, flR, frc, fin, fbe, flo, fcl, nI L'.length, fln, aZ W, aZ D, xh, xa, aB U, aN V', aZ R', aN T')) (He : ∀ L' V' R' T', tk n W D U L' → ta n V' R' T' L' → xg L L' → (∀ r : Nat, r < 60 → U r = true → cd1 n W D (tv L') r) → post (-1) (q0, q1, q2, q3, q4, q5, q6, q7, q8, q9, q10, q11, nI n, frR, flR, frc, fin, fbe, flo, fcl, nI L'.length, fln, aZ W, aZ D, xh, xa, aB U, aN V', aZ R', aN T')) : wpX_propagate post (q0, q1, q2, q3, q4, q5, q6, q7, q8, q9, q10, q11, nI n, frR, flR, frc, fin, fbe, flo, fcl, nI L.length, fln, aZ W, aZ D, xh, xa, aB U, aN V, aZ R, aN T) :=
  Exists.intro 10 (xl_prop2 hn hb Hc He 10 0 L V R T (by omega) (by omega) hk ht (xg_r L))
end
end
section
/-! the cancelling step, plain -/
def fl (x : Int) (b : Nat) : Bool := decide ((0 < x ∧ b = 0) ∨ (x < 0 ∧ b = 1))
theorem fl_nf {x : Int} {b : Nat} (h : fl x b = false) : pb_nf x b = pb_ab x := pb_nf_f (of_decide_eq_false h)
theorem fl_0 {x : Int} {b : Nat} (h : fl x b = true) : pb_nf x b = 0 := pb_nf_t (of_decide_eq_true h)
/-- which variables the rounding of a reason drops -/
def bad1 (g : Nat → Int) (p : Int) (V : Nat → Nat) : Nat → Bool := fun v => decide (pb_ab (g v) % p ≠ 0) && !(fl (g v) (V v))
def bad2 (f : Nat → Int) (V : Nat → Nat) : Nat → Bool := fun v => !(fl (f v) (V v))
theorem wf_b {bad : Nat → Bool} {f : Nat → Int} {i v : Nat} {B : Int} (h : -B ≤ f v ∧ f v ≤ B) (hB : 0 ≤ B) : -B ≤ pb_wf bad f i v ∧ pb_wf bad f i v ≤ B := by
  unfold pb_wf
  split
  · omega
  · exact h
theorem wd_b {bad : Nat → Bool} {f : Nat → Int} {d : Int} {i : Nat} (h : 0 ≤ d) : 0 ≤ pb_wd bad f d i ∧ pb_wd bad f d i ≤ d := by
  unfold pb_wd
  have := pb_sm_nn (g := pb_wt bad f) i (fun v _ => pb_wt_nn bad f v)
  omega
theorem cd_b {f g : Nat → Int} {d e : Int} {n : Nat} (h : 0 ≤ d + e) : 0 ≤ pb_cd f g d e n ∧ pb_cd f g d e n ≤ d + e := by
  unfold pb_cd
  have := pb_sm_nn (g := fun v => pb_cx (f v) (g v)) n (fun v _ => pb_cx_nn _ _)
  omega
section
variable {n u : Nat} {V : Nat → Nat} {f g : Nat → Int} {d e : Int}
theorem cn_round (hu : u < n) (h2 : V u = 2) (hp : 0 < pb_ab (g u)) (hs : pb_slk g e V n < pb_ab (g u)) : pb_slk (fun v => pb_dv (pb_ab (g u)) (pb_wf (bad1 g (pb_ab (g u)) V) g n v)) (pb_du (pb_ab (g u)) (pb_wd (bad1 g (pb_ab (g u)) V) g e n)) V n ≤ 0 := by
  have a := pb_slk_wk (bad := bad1 g (pb_ab (g u)) V) (f := g) (d := e) (V := V) (n := n) (fun v _ hb => by
    apply fl_nf
    unfold bad1 at hb
    cases hq : fl (g v) (V v)
    · rfl
    · rw [hq] at hb; simp at hb)
  have b := pb_slk_dv (f := pb_wf (bad1 g (pb_ab (g u)) V) g n) (d := pb_wd (bad1 g (pb_ab (g u)) V) g e n) (p := pb_ab (g u)) (V := V) (n := n) hp (fun v hv => by
    unfold pb_wf
    by_cases hb : bad1 g (pb_ab (g u)) V v = true
    · rw [if_pos ⟨hv, hb⟩, pb_nf_f (by omega)]
      rfl
    · rw [if_neg (fun z => hb z.2)]
      cases hq : fl (g v) (V v)
      · rw [fl_nf hq]
        apply Classical.byContradiction
        intro hz
        apply hb
        unfold bad1
        rw [hq, decide_eq_true hz]; rfl
      · rw [fl_0 hq]; exact Int.zero_emod _)
  generalize pb_slk (fun v => pb_dv (pb_ab (g u)) (pb_wf (bad1 g (pb_ab (g u)) V) g n v)) (pb_du (pb_ab (g u)) (pb_wd (bad1 g (pb_ab (g u)) V) g e n)) V n = S at *
  have c : S < 1 := Int.lt_of_mul_lt_mul_left (a := pb_ab (g u)) (by rw [Int.mul_one]; omega) (by omega)
  omega
theorem cn_piv (hu : u < n) (hp : 0 < pb_ab (g u)) (hop : (0 < f u ∧ g u < 0) ∨ (f u < 0 ∧ 0 < g u)) : pb_dv (pb_ab (g u)) (pb_wf (bad1 g (pb_ab (g u)) V) g n u) * pb_ab (f u) = -f u := by
  have hb : ¬ bad1 g (pb_ab (g u)) V u = true := by
    unfold bad1
    rw [decide_eq_false (by rw [Int.emod_self]; simp)]
    simp
  have e : pb_wf (bad1 g (pb_ab (g u)) V) g n u = g u := by
    unfold pb_wf
    rw [if_neg (fun z => hb z.2)]
  rw [e]
  rcases hop with ⟨h1, h2⟩ | ⟨h1, h2⟩
  · rw [pb_dv_n h2, pb_du_self hp]
    unfold pb_ab
    rw [show max (f u) (-f u) = f u by omega]
    omega
  · rw [pb_dv_p (by omega), pb_du_self hp]
    unfold pb_ab
    rw [show max (f u) (-f u) = -f u by omega]
    omega
/-- the sum of the work form and the rounded, scaled reason is violated -/
theorem cn_sum (hu : u < n) (h2 : V u = 2) (hop : (0 < f u ∧ g u < 0) ∨ (f u < 0 ∧ 0 < g u)) (hs : pb_slk g e V n < pb_ab (g u)) (hf : pb_slk f d V n < pb_ab (f u)) : pb_slk (fun v => f v + pb_dv (pb_ab (g u)) (pb_wf (bad1 g (pb_ab (g u)) V) g n v) * pb_ab (f u)) (pb_cd f (fun v => pb_dv (pb_ab (g u)) (pb_wf (bad1 g (pb_ab (g u)) V) g n v) * pb_ab (f u)) d (pb_du (pb_ab (g u)) (pb_wd (bad1 g (pb_ab (g u)) V) g e n) * pb_ab (f u)) n) V n < 0 := by
  have hp : 0 < pb_ab (g u) := by unfold pb_ab; omega
  have a := cn_round hu h2 hp hs
  have b := pb_slk_sc (f := fun v => pb_dv (pb_ab (g u)) (pb_wf (bad1 g (pb_ab (g u)) V) g n v)) (d := pb_du (pb_ab (g u)) (pb_wd (bad1 g (pb_ab (g u)) V) g e n)) (V := V) (n := n) (pb_ab_nn (f u))
  have c := pb_slk_comb (f := f) (g := fun v => pb_dv (pb_ab (g u)) (pb_wf (bad1 g (pb_ab (g u)) V) g n v) * pb_ab (f u)) (d := d) (e := pb_du (pb_ab (g u)) (pb_wd (bad1 g (pb_ab (g u)) V) g e n) * pb_ab (f u)) (V := V) hu h2 (cn_piv hu hp hop)
  have q : pb_ab (f u) * pb_slk (fun v => pb_dv (pb_ab (g u)) (pb_wf (bad1 g (pb_ab (g u)) V) g n v)) (pb_du (pb_ab (g u)) (pb_wd (bad1 g (pb_ab (g u)) V) g e n)) V n ≤ pb_ab (f u) * 0 := Int.mul_le_mul_of_nonneg_left a (pb_ab_nn _)
  rw [Int.mul_zero] at q
  rw [b] at c
  generalize pb_ab (f u) * pb_slk (fun v => pb_dv (pb_ab (g u)) (pb_wf (bad1 g (pb_ab (g u)) V) g n v)) (pb_du (pb_ab (g u)) (pb_wd (bad1 g (pb_ab (g u)) V) g e n)) V n = S at *
  omega
theorem cn_sat {m : Nat} (hp : 0 < pb_ab (g u)) (hf : pb_sat f d n m) (hg : pb_sat g e n m) : pb_sat (fun v => f v + pb_dv (pb_ab (g u)) (pb_wf (bad1 g (pb_ab (g u)) V) g n v) * pb_ab (f u)) (pb_cd f (fun v => pb_dv (pb_ab (g u)) (pb_wf (bad1 g (pb_ab (g u)) V) g n v) * pb_ab (f u)) d (pb_du (pb_ab (g u)) (pb_wd (bad1 g (pb_ab (g u)) V) g e n) * pb_ab (f u)) n) n m :=
  pb_sat_comb hf (pb_sat_sc (pb_ab_nn _) (pb_sat_dv hp (pb_sat_wk hg)))
/-- the clause of the false literals -/
theorem cl_slk (hs : pb_slk f d V n < 0) : (∀ v, v < n → pb_nf (pb_wf (bad2 f V) f n v) (V v) = 0) ∧ 0 < pb_wd (bad2 f V) f d n := by
  have a := pb_slk_wk (bad := bad2 f V) (f := f) (d := d) (V := V) (n := n) (fun v _ hb => by
    apply fl_nf
    unfold bad2 at hb
    cases hq : fl (f v) (V v)
    · rfl
    · rw [hq] at hb; simp at hb)
  have b : ∀ v, v < n → pb_nf (pb_wf (bad2 f V) f n v) (V v) = 0 := fun v hv => by
    unfold pb_wf
    by_cases hb : bad2 f V v = true
    · rw [if_pos ⟨hv, hb⟩, pb_nf_f (by omega)]; rfl
    · rw [if_neg (fun z => hb z.2)]
      apply fl_0
      unfold bad2 at hb
      cases hq : fl (f v) (V v)
      · rw [hq] at hb; simp at hb
      · rfl
  refine ⟨b, ?_⟩
  unfold pb_slk at a hs
  have c := pb_sm_nn (g := fun v => pb_nf (pb_wf (bad2 f V) f n v) (V v)) n (fun v _ => pb_nf_nn _ _)
  have q : pb_sm (fun v => pb_nf (pb_wf (bad2 f V) f n v) (V v)) n = pb_sm (fun _ => 0) n := pb_sm_congr n b
  have q0 : pb_sm (fun _ => 0) n = 0 := by
    have := pb_sm_mul 0 (fun _ => 0) n
    simp only [Int.zero_mul] at this
    exact this
  omega
theorem cl_end {h : Nat → Int} {p : Int} (hp : 0 < p) (hz : ∀ v, v < n → pb_nf (h v) (V v) = 0) : pb_slk (fun v => pb_dv p (pb_st p (h v))) (pb_du p p) V n < 0 := by
  have q : ∀ v, v < n → pb_nf (pb_dv p (pb_st p (h v))) (V v) = 0 := fun v hv => by
    rw [pb_nf_dv hp]
    have a := pb_nf_st (d := p) (x := h v) (by omega) (V v)
    have b := pb_nf_nn (pb_st p (h v)) (V v)
    rw [hz v hv] at a
    rw [show pb_nf (pb_st p (h v)) (V v) = 0 by omega, pb_du_0 hp]
  unfold pb_slk
  rw [pb_du_self hp, pb_sm_congr (g := fun v => pb_nf (pb_dv p (pb_st p (h v))) (V v)) (h := fun _ => 0) n q]
  have q0 : pb_sm (fun _ => 0) n = 0 := by
    have := pb_sm_mul 0 (fun _ => 0) n
    simp only [Int.zero_mul] at this
    exact this
  omega
theorem cl_bd {p x : Int} (hp : 0 < p) : -1 ≤ pb_dv p (pb_st p x) ∧ pb_dv p (pb_st p x) ≤ 1 := by
  have a := pb_st_b (d := p) (x := x) (by omega)
  have b := pb_ab_dv (x := pb_st p x) hp
  have c := pb_ab_b a
  have e : pb_du p (pb_ab (pb_st p x)) < 2 := by
    have q := pb_du_lt (d := pb_ab (pb_st p x)) hp
    exact Int.lt_of_mul_lt_mul_left (a := p) (by rw [Int.mul_comm p 2]; omega) (by omega)
  have z : -pb_ab (pb_dv p (pb_st p x)) ≤ pb_dv p (pb_st p x) ∧ pb_dv p (pb_st p x) ≤ pb_ab (pb_dv p (pb_st p x)) := by
    generalize pb_dv p (pb_st p x) = y
    unfold pb_ab
    omega
  omega
theorem cl_sat {m : Nat} (hd : 0 ≤ d) (hp : 0 < pb_wd (bad2 f V) f d n) (hf : pb_sat f d n m) : pb_sat (fun v => pb_dv (pb_wd (bad2 f V) f d n) (pb_st (pb_wd (bad2 f V) f d n) (pb_wf (bad2 f V) f n v))) (pb_du (pb_wd (bad2 f V) f d n) (pb_wd (bad2 f V) f d n)) n m :=
  pb_sat_dv hp (pb_sat_st (by omega) (pb_sat_wk hf))
end
end
section
/-! X: roundReason, reduceToClause, cancel -/
theorem fo_cg {W D : Nat → Int} {n i : Nat} {f f' : Nat → Int} {d d' : Int} (h : fo_is W D n i f d) (hf : ∀ v, v < n → f v = f' v) (hd : d = d') : fo_is W D n i f' d' := ⟨fun v hv => (h.1 v hv).trans (hf v hv), h.2.trans hd⟩
theorem ix_200 (i : Nat) : 200 + nI i = nI (25 * 8 + i) := by
  rw [show (200 : Int32) = nI 200 from rfl, nI_add]
theorem ix_192 (i : Nat) : 192 + nI i = nI (24 * 8 + i) := by
  rw [show (192 : Int32) = nI 192 from rfl, nI_add]
section
variable {bad : Nat → Bool} {g : Nat → Int} {e : Int}
theorem wf_i (i : Nat) : pb_wf bad g i i = g i := if_neg (fun z => by omega)
theorem wf_0 : pb_wf bad g 0 = g := by
  funext v
  exact if_neg (fun z => by omega)
theorem wd_0 (he : 0 ≤ e) : pb_wd bad g e 0 = e := by
  unfold pb_wd
  rw [show pb_sm (pb_wt bad g) 0 = 0 from rfl]
  omega
theorem wf_k {i : Nat} (hb : bad i = false) (v : Nat) : pb_wf bad g i v = pb_wf bad g (i + 1) v := by
  unfold pb_wf
  by_cases c : v = i
  · subst c
    rw [if_neg (fun z => by omega), if_neg (fun z => by rw [hb] at z; cases z.2)]
  · by_cases c2 : v < i ∧ bad v = true
    · rw [if_pos c2, if_pos ⟨by omega, c2.2⟩]
    · rw [if_neg c2, if_neg (fun z => c2 ⟨by omega, z.2⟩)]
theorem wd_k {i : Nat} (hb : bad i = false) : pb_wd bad g e i = pb_wd bad g e (i + 1) := by
  unfold pb_wd
  rw [pb_sm_s, show pb_wt bad g i = 0 from if_neg (by rw [hb]; decide)]
  omega
theorem wf_d {i : Nat} (hb : bad i = true) (v : Nat) : (if v = i then 0 else pb_wf bad g i v) = pb_wf bad g (i + 1) v := by
  unfold pb_wf
  by_cases c : v = i
  · subst c
    rw [if_pos rfl, if_pos ⟨by omega, hb⟩]
  · rw [if_neg c]
    by_cases c2 : v < i ∧ bad v = true
    · rw [if_pos c2, if_pos ⟨by omega, c2.2⟩]
    · rw [if_neg c2, if_neg (fun z => c2 ⟨by omega, z.2⟩)]
theorem wd_d {i : Nat} (hb : bad i = true) : max 0 (pb_wd bad g e i - pb_ab (g i)) = pb_wd bad g e (i + 1) := by
  unfold pb_wd
  rw [pb_sm_s, show pb_wt bad g i = pb_ab (g i) from if_pos hb]
  have := pb_ab_nn (g i)
  omega
end
section
variable {q0 q1 q2 q3 q4 q5 q6 q7 q8 q9 q10 q11 fn frR flR frc fin fbe flo fcl fts fln : Int32} {xw xd xh xa xu xv xr xt : Nat → Int32}
variable {W0 D0 : Nat → Int} {n : Nat} {V : Nat → Nat}
theorem xl_round {post : SX → Prop} {g : Nat → Int} {e p : Int} (hn : n ≤ 8) (hp : 0 < p ∧ p ≤ 9999) (hg : ∀ v, v < n → -9999 ≤ g v ∧ g v ≤ 9999) (he : 0 ≤ e ∧ e ≤ 9999) (hV : ∀ v, v < n → V v ≤ 2) (H : ∀ W' D', fo_is W' D' n 25 (fun v => pb_dv p (pb_wf (bad1 g p V) g n v)) (pb_du p (pb_wd (bad1 g p V) g e n)) → (∀ i, i ≠ 25 → fo_eq W0 D0 W' D' n i) → post (q0, q1, q2, q3, q4, q5, q6, q7, q8, q9, q10, q11, nI n, frR, flR, frc, fin, fbe, flo, fcl, fts, fln, aZ W', aZ D', xh, xa, xu, aN V, xr, xt)) : ∀ k i W D, i ≤ n → n < k + i → fo_is W D n 25 (pb_wf (bad1 g p V) g i) (pb_wd (bad1 g p V) g e i) → (∀ i, i ≠ 25 → fo_eq W0 D0 W D n i) → wX_roundReason_23 post (zI p) k (nI i) q0 q1 q2 q3 q4 q5 q6 q7 q8 q9 q10 q11 (nI n) frR flR frc fin fbe flo fcl fts fln (aZ W) (aZ D) xh xa xu (aN V) xr xt := by
  have hp0 : ¬ zI p = 0 := by
    rw [show (0 : Int32) = zI 0 from rfl, zI_eq (by omega) (by omega) (by omega) (by omega)]; omega
  intro k
  induction k with
  | zero => intro i W D h1 h2; omega
  | succ k ih =>
    intro i W D h1 h2 hf hfr
    by_cases hi : i < n
    · have hb := hg i hi
      have hab := pb_ab_b hb
      have hab0 := pb_ab_nn (g i)
      have ei : W (25 * 8 + i) = g i := by rw [hf.1 i hi, wf_i]
      have hm := Int.emod_nonneg (pb_ab (g i)) (show p ≠ 0 by omega)
      have hm2 := Int.emod_lt_of_pos (pb_ab (g i)) hp.1
      have hwd := wd_b (bad := bad1 g p V) (f := g) (i := i) he.1
      have KEEP : bad1 g p V i = false → wX_roundReason_23 post (zI p) k (nI (i + 1)) q0 q1 q2 q3 q4 q5 q6 q7 q8 q9 q10 q11 (nI n) frR flR frc fin fbe flo fcl fts fln (aZ W) (aZ D) xh xa xu (aN V) xr xt := fun hb => ih (i + 1) W D (by omega) (by omega) (fo_cg hf (fun v _ => wf_k hb v) (wd_k hb)) hfr
      refine br_f (nI_ge hi (by omega)) ⟨in_n (25 * 8 + i) (by omega) (ix_200 i), xw_mag (g i) ⟨hp0, zb_eq (pb_ab (g i) % p) 0 (fun q => nm_r (nI_1 i) (KEEP ?_)) (fun q => xw_fals (t := 25) (x := g i) (by omega) (by omega) ei (by omega) (hV i hi) (fun c => br_f (by decide) (nm_r (nI_1 i) (KEEP ?_))) (fun c => br_t rfl (xw_weak (t := 25) hn hi (by omega) hf (by rw [wf_i]; omega) (by omega) (fun W' D' f' g' => nm_r (nI_1 i) (ih (i + 1) W' D' (by omega) (by omega) ?_ (fun j hj => fo_et (hfr j hj) (g' j hj))))))) (zI_rem hab0 (by omega) hp.1 (by omega))⟩ ((rd_z (25 * 8 + i) (ix_200 i)).trans (congrArg zI ei))⟩
      · unfold bad1; rw [decide_eq_false (fun z => z q)]; rfl
      · unfold bad1 fl; rw [decide_eq_true c]; simp
      · have hbad : bad1 g p V i = true := by
          unfold bad1 fl; rw [decide_eq_true q, decide_eq_false c]; rfl
        exact fo_cg f' (fun v _ => wf_d hbad v) (by rw [wf_i]; exact wd_d hbad)
    · have e1 : i = n := by omega
      subst e1
      have hwd := wd_b (bad := bad1 g p V) (f := g) (i := i) he.1
      exact br_t (nI_le (Nat.le_refl _) (by omega)) (xw_div (t := 25) hn (by omega) (by omega) hf (fun v hv => by
        have := wf_b (bad := bad1 g p V) (i := i) (hg v hv) (by omega)
        omega) (by omega) (fun W' D' f' g' => H W' D' f' (fun j hj => fo_et (hfr j hj) (g' j hj))))
theorem xw_round {post : SX → Prop} {W D : Nat → Int} {g : Nat → Int} {e : Int} {u : Nat} (hn : n ≤ 8) (hu : u < n) (hp : 0 < pb_ab (g u)) (hg : ∀ v, v < n → -9999 ≤ g v ∧ g v ≤ 9999) (he : 0 ≤ e ∧ e ≤ 9999) (hV : ∀ v, v < n → V v ≤ 2) (hf : fo_is W D n 25 g e) (H : ∀ W' D', fo_is W' D' n 25 (fun v => pb_dv (pb_ab (g u)) (pb_wf (bad1 g (pb_ab (g u)) V) g n v)) (pb_du (pb_ab (g u)) (pb_wd (bad1 g (pb_ab (g u)) V) g e n)) → (∀ i, i ≠ 25 → fo_eq W D W' D' n i) → post (q0, q1, q2, q3, q4, q5, q6, q7, q8, q9, q10, q11, nI n, frR, flR, frc, fin, fbe, flo, fcl, fts, fln, aZ W', aZ D', xh, xa, xu, aN V, xr, xt)) : wpX_roundReason post (q0, q1, q2, q3, q4, q5, q6, q7, q8, q9, q10, q11, nI n, frR, flR, frc, fin, fbe, flo, fcl, fts, fln, aZ W, aZ D, xh, xa, xu, aN V, xr, xt) (nI u) := by
  have hb := hg u hu
  have hab := pb_ab_b hb
  refine And.intro (in_n (25 * 8 + u) (by omega) (ix_200 u)) (xw_mag (g u) (br_t ((zI_le (a := 1) (by omega) (by omega) (by omega) (by omega)).mpr (by omega)) (Exists.intro (n + 1) (xl_round (W0 := W) (D0 := D) hn (by omega) hg he hV H (n + 1) 0 W D (by omega) (by omega) ?_ (fun i _ => fo_er _ _ _ _)))) ((rd_z (25 * 8 + u) (ix_200 u)).trans (congrArg zI (hf.1 u hu))))
  rw [wf_0, wd_0 he.1]
  exact hf
theorem xw_div' {post : SX → Prop} {W D : Nat → Int} {t : Nat} {F : Nat → Int} {p d : Int} {q : Int32} (hq : q = zI p) (hn : n ≤ 8) (ht : t < 60) (hp : 0 < p ∧ p ≤ 1000000000) (h : fo_is W D n t F d) (hF : ∀ v, v < n → -1000000000 ≤ F v ∧ F v ≤ 1000000000) (hd : 0 ≤ d ∧ d ≤ 1000000000) (H : ∀ W' D', fo_is W' D' n t (fun v => pb_dv p (F v)) (pb_du p d) → (∀ i, i ≠ t → fo_eq W D W' D' n i) → post (q0, q1, q2, q3, q4, q5, q6, q7, q8, q9, q10, q11, nI n, frR, flR, frc, fin, fbe, flo, fcl, fts, fln, aZ W', aZ D', xh, xa, xu, xv, xr, xt)) : wpX_divideForm post (q0, q1, q2, q3, q4, q5, q6, q7, q8, q9, q10, q11, nI n, frR, flR, frc, fin, fbe, flo, fcl, fts, fln, aZ W, aZ D, xh, xa, xu, xv, xr, xt) (nI t) q := by
  subst hq
  exact xw_div hn ht hp h hF hd H
theorem xl_red {post : SX → Prop} {f : Nat → Int} {d : Int} (hn : n ≤ 8) (hfb : ∀ v, v < n → -100000000 ≤ f v ∧ f v ≤ 100000000) (hd : 0 ≤ d ∧ d ≤ 100000000) (hV : ∀ v, v < n → V v ≤ 2) (hp : 0 < pb_wd (bad2 f V) f d n) (H : ∀ W' D', fo_is W' D' n 24 (fun v => pb_dv (pb_wd (bad2 f V) f d n) (pb_st (pb_wd (bad2 f V) f d n) (pb_wf (bad2 f V) f n v))) (pb_du (pb_wd (bad2 f V) f d n) (pb_wd (bad2 f V) f d n)) → (∀ i, i ≠ 24 → fo_eq W0 D0 W' D' n i) → post (q0, q1, q2, q3, q4, q5, q6, q7, q8, q9, q10, q11, nI n, frR, flR, frc, fin, fbe, flo, fcl, fts, fln, aZ W', aZ D', xh, xa, xu, aN V, xr, xt)) : ∀ k i W D, i ≤ n → n < k + i → fo_is W D n 24 (pb_wf (bad2 f V) f i) (pb_wd (bad2 f V) f d i) → (∀ i, i ≠ 24 → fo_eq W0 D0 W D n i) → wX_reduceToClause_2 post k (nI i) q0 q1 q2 q3 q4 q5 q6 q7 q8 q9 q10 q11 (nI n) frR flR frc fin fbe flo fcl fts fln (aZ W) (aZ D) xh xa xu (aN V) xr xt := by
  intro k
  induction k with
  | zero => intro i W D h1 h2; omega
  | succ k ih =>
    intro i W D h1 h2 hf hfr
    have hwd := wd_b (bad := bad2 f V) (f := f) (i := i) hd.1
    by_cases hi : i < n
    · have hb := hfb i hi
      have ei : W (24 * 8 + i) = f i := by rw [hf.1 i hi, wf_i]
      refine br_f (nI_ge hi (by omega)) (xw_fals (t := 24) (x := f i) (by omega) (by omega) ei (by omega) (hV i hi) (fun c => br_f (by decide) (nm_r (nI_1 i) ?_)) (fun c => br_t rfl (xw_weak (t := 24) hn hi (by omega) hf (by rw [wf_i]; omega) (by omega) (fun W' D' f' g' => nm_r (nI_1 i) (ih (i + 1) W' D' (by omega) (by omega) ?_ (fun j hj => fo_et (hfr j hj) (g' j hj)))))))
      · have hbad : bad2 f V i = false := by
          unfold bad2 fl; rw [decide_eq_true c]; rfl
        exact ih (i + 1) W D (by omega) (by omega) (fo_cg hf (fun v _ => wf_k hbad v) (wd_k hbad)) hfr
      · have hbad : bad2 f V i = true := by
          unfold bad2 fl; rw [decide_eq_false c]; rfl
        exact fo_cg f' (fun v _ => wf_d hbad v) (by rw [wf_i]; exact wd_d hbad)
    · have e1 : i = n := by omega
      subst e1
      have hst : ∀ v, v < i → -1000000000 ≤ pb_st (pb_wd (bad2 f V) f d i) (pb_wf (bad2 f V) f i v) ∧ pb_st (pb_wd (bad2 f V) f d i) (pb_wf (bad2 f V) f i v) ≤ 1000000000 := fun v hv => by
        have := pb_st_b (d := pb_wd (bad2 f V) f d i) (x := pb_wf (bad2 f V) f i v) (by omega)
        omega
      refine br_t (nI_le (Nat.le_refl _) (by omega)) (xw_sat (t := 24) hn (by omega) hf (fun v hv => by
        have := wf_b (bad := bad2 f V) (i := i) (hfb v hv) (by omega)
        omega) (by omega) (fun W' f' g' => ?_))
      exact xw_div' (t := 24) (congrArg zI hf.2) hn (by omega) (by omega) f' hst (by omega) (fun W2 D2 f2 g2 => H W2 D2 f2 (fun j hj => fo_et (hfr j hj) (fo_et (g' j hj) (g2 j hj))))
theorem xw_cancel {post : SX → Prop} {W D : Nat → Int} {f g : Nat → Int} {d e : Int} {u r : Nat} (hn : n ≤ 8) (hu : u < n) (hr : r < 60) (hr4 : r ≠ 24) (hr5 : r ≠ 25) (hf : fo_is W D n 24 f d) (hg : fo_is W D n r g e) (hfb : ∀ v, v < n → -9999 ≤ f v ∧ f v ≤ 9999) (hd : 0 ≤ d ∧ d ≤ 9999) (hgb : ∀ v, v < n → -9999 ≤ g v ∧ g v ≤ 9999) (he : 0 ≤ e ∧ e ≤ 9999) (hV : ∀ v, v < n → V v ≤ 2) (h2 : V u = 2) (hop : (0 < f u ∧ g u < 0) ∨ (f u < 0 ∧ 0 < g u)) (hsg : pb_slk g e V n < pb_ab (g u)) (hsf : pb_slk f d V n < pb_ab (f u)) (H : ∀ W' D' f' d', fo_is W' D' n 24 f' d' → (∀ i, i ≠ 24 → i ≠ 25 → fo_eq W D W' D' n i) → (∀ v, v < n → -9999 ≤ f' v ∧ f' v ≤ 9999) → (0 ≤ d' ∧ d' ≤ 9999) → pb_slk f' d' V n < 0 → (∀ m, pb_sat f d n m → pb_sat g e n m → pb_sat f' d' n m) → post (q0, q1, q2, q3, q4, q5, q6, q7, q8, q9, q10, q11, nI n, frR, flR, frc, fin, fbe, flo, fcl, fts, fln, aZ W', aZ D', xh, xa, xu, aN V, xr, xt)) : wpX_cancel post (q0, q1, q2, q3, q4, q5, q6, q7, q8, q9, q10, q11, nI n, frR, flR, frc, fin, fbe, flo, fcl, fts, fln, aZ W, aZ D, xh, xa, xu, aN V, xr, xt) (nI u) (nI r) := by
  have hp : 0 < pb_ab (g u) := by unfold pb_ab; omega
  have hfu := pb_ab_b (hfb u hu)
  have hfu0 := pb_ab_nn (f u)
  have hfu1 := hfb u hu
  have S := cn_sum hu h2 hop hsg hsf
  have SS : ∀ m, pb_sat f d n m → pb_sat g e n m → _ := fun m a b => cn_sat (u := u) (V := V) hp a b
  have b1 : ∀ v, v < n → -9999 ≤ pb_dv (pb_ab (g u)) (pb_wf (bad1 g (pb_ab (g u)) V) g n v) ∧ pb_dv (pb_ab (g u)) (pb_wf (bad1 g (pb_ab (g u)) V) g n v) ≤ 9999 := fun v hv => dv_bd hp (wf_b (hgb v hv) (by omega))
  have b2 : 0 ≤ pb_du (pb_ab (g u)) (pb_wd (bad1 g (pb_ab (g u)) V) g e n) ∧ pb_du (pb_ab (g u)) (pb_wd (bad1 g (pb_ab (g u)) V) g e n) ≤ 9999 := by
    have q1 := wd_b (bad := bad1 g (pb_ab (g u)) V) (f := g) (i := n) he.1
    have q2 := pb_du_nn hp q1.1
    have q3 := pb_du_le hp q1.1
    omega
  have b3 : ∀ v, v < n → -99980001 ≤ pb_dv (pb_ab (g u)) (pb_wf (bad1 g (pb_ab (g u)) V) g n v) * pb_ab (f u) ∧ pb_dv (pb_ab (g u)) (pb_wf (bad1 g (pb_ab (g u)) V) g n v) * pb_ab (f u) ≤ 99980001 := fun v hv => mul_bd (A := 9999) (B := 9999) (b1 v hv) (by omega)
  have b4 : 0 ≤ pb_du (pb_ab (g u)) (pb_wd (bad1 g (pb_ab (g u)) V) g e n) * pb_ab (f u) ∧ pb_du (pb_ab (g u)) (pb_wd (bad1 g (pb_ab (g u)) V) g e n) * pb_ab (f u) ≤ 99980001 := by
    have q1 := mul_bd (x := pb_du (pb_ab (g u)) (pb_wd (bad1 g (pb_ab (g u)) V) g e n)) (g := pb_ab (f u)) (A := 9999) (B := 9999) (by omega) (by omega)
    have q2 := Int.mul_nonneg b2.1 hfu0
    omega
  generalize hg2 : (fun v => pb_dv (pb_ab (g u)) (pb_wf (bad1 g (pb_ab (g u)) V) g n v)) = g2 at *
  generalize he2 : pb_du (pb_ab (g u)) (pb_wd (bad1 g (pb_ab (g u)) V) g e n) = e2 at *
  have eg : ∀ v, pb_dv (pb_ab (g u)) (pb_wf (bad1 g (pb_ab (g u)) V) g n v) = g2 v := fun v => congrFun hg2 v
  simp only [eg] at S SS b3
  have b5 := cd_b (f := f) (g := fun v => g2 v * pb_ab (f u)) (d := d) (e := e2 * pb_ab (f u)) (n := n) (by omega)
  generalize hd1 : pb_cd f (fun v => g2 v * pb_ab (f u)) d (e2 * pb_ab (f u)) n = d1 at *
  have b6 : ∀ v, v < n → -99990000 ≤ f v + g2 v * pb_ab (f u) ∧ f v + g2 v * pb_ab (f u) ≤ 99990000 := fun v hv => by
    have := hfb v hv
    have := b3 v hv
    omega
  have S2 := pb_slk_st (f := fun v => f v + g2 v * pb_ab (f u)) (d := d1) (V := V) (n := n) b5.1
  refine xw_copy (t := 25) (s := r) hn (by omega) hr hg (fun W1 D1 f1 g1 => xw_round hn hu hp hgb he hV f1 (fun W2 D2 f2 g2' => ?_))
  rw [hg2, he2] at f2
  have f24 : fo_is W2 D2 n 24 f d := fo_tr (g2' 24 (by omega)) (fo_tr (g1 24 (by omega)) hf)
  refine And.intro (in_n (24 * 8 + u) (by omega) (ix_192 u)) (xw_mag (f u) (xw_scale (t := 25) (g := pb_ab (f u)) hn (by omega) f2 (fun W3 D3 f3 g3 => xw_comb (t := 24) (a := 24) (b := 25) hn (by omega) (by omega) (by omega) (fo_tr (g3 24 (by omega)) f24) f3 (fun v hv => by have := hfb v hv; omega) (fun v hv => by have := b3 v hv; (try dsimp only); omega) (by omega) (by omega) (fun W4 D4 f4 g4 => ?_))) ((rd_z (24 * 8 + u) (ix_192 u)).trans (congrArg zI (f24.1 u hu))))
  rw [hd1] at f4
  have FR : ∀ i, i ≠ 24 → i ≠ 25 → fo_eq W D W4 D4 n i := fun i h4 h5 => fo_et (g1 i h5) (fo_et (g2' i h5) (fo_et (g3 i h5) (g4 i h4)))
  have e4 : ∀ {W5 : Nat → Int}, aZ D4 24 = zI d1 := congrArg zI f4.2
  refine xw_sat (t := 24) hn (by omega) f4 (fun v hv => by have := b6 v hv; (try dsimp only); omega) (by omega) (fun W5 f5 g5 => zb_le d1 9999 (fun q => ?_) (fun q => ?_) (congrArg zI f4.2))
  · refine H W5 D4 _ _ f5 (fun i h4 h5 => fo_et (FR i h4 h5) (g5 i h4)) (fun v hv => ?_) (by omega) (by omega) (fun m a b => pb_sat_st b5.1 (SS m a b))
    have := pb_st_b (d := d1) (x := f v + g2 v * pb_ab (f u)) b5.1
    (try dsimp only)
    omega
  · have C1 := cl_slk (f := fun v => pb_st d1 (f v + g2 v * pb_ab (f u))) (d := d1) (V := V) (n := n) (by omega)
    have hstb : ∀ v, v < n → -100000000 ≤ pb_st d1 (f v + g2 v * pb_ab (f u)) ∧ pb_st d1 (f v + g2 v * pb_ab (f u)) ≤ 100000000 := fun v hv => by
      have := pb_st_b (d := d1) (x := f v + g2 v * pb_ab (f u)) b5.1
      omega
    refine Exists.intro (n + 1) (xl_red (W0 := W5) (D0 := D4) hn hstb (by omega) hV C1.2 (fun W' D' f' g' => ?_) (n + 1) 0 W5 D4 (by omega) (by omega) ?_ (fun i _ => fo_er _ _ _ _))
    · refine H W' D' _ _ f' (fun i h4 h5 => fo_et (FR i h4 h5) (fo_et (g5 i h4) (g' i h4))) (fun v hv => ?_) ?_ (cl_end C1.2 C1.1) (fun m a b => cl_sat b5.1 C1.2 (pb_sat_st b5.1 (SS m a b)))
      · have := cl_bd (x := pb_wf (bad2 (fun v => pb_st d1 (f v + g2 v * pb_ab (f u))) V) (fun v => pb_st d1 (f v + g2 v * pb_ab (f u))) n v) C1.2
        (try dsimp only)
        omega
      · rw [pb_du_self C1.2]; omega
    · rw [wf_0, wd_0 b5.1]
      exact f5
end
end
section
/-! X: learned places, learnAndFlip -/
theorem pg (N : Nat) : ∀ (t : Nat) (c φ : Nat → Int), (∀ a b, a < t → b < t → c a = c b → a = b) → (∀ s, s < t → ∃ q, q < N ∧ φ q = c s) → t ≤ N := by
  induction N with
  | zero =>
    intro t c φ _ hc
    apply Classical.byContradiction
    intro z
    obtain ⟨q, hq, _⟩ := hc 0 (by omega)
    omega
  | succ N ih =>
    intro t c φ hi hc
    by_cases h : ∃ s, s < t ∧ φ N = c s
    · obtain ⟨s0, hs0, e⟩ := h
      have := ih (t - 1) (fun s => if s = s0 then c (t - 1) else c s) φ (fun a b ha hb hab => by
        (try dsimp only at hab)
        by_cases c1 : a = s0
        · by_cases c2 : b = s0
          · omega
          · rw [if_pos c1, if_neg c2] at hab
            have := hi (t - 1) b (by omega) (by omega) hab
            omega
        · by_cases c2 : b = s0
          · rw [if_neg c1, if_pos c2] at hab
            have := hi a (t - 1) (by omega) (by omega) hab
            omega
          · rw [if_neg c1, if_neg c2] at hab
            exact hi a b (by omega) (by omega) hab) (fun s hs => by
        (try dsimp only)
        by_cases c1 : s = s0
        · rw [if_pos c1]
          obtain ⟨q, hq, e2⟩ := hc (t - 1) (by omega)
          refine ⟨q, ?_, e2⟩
          by_cases c2 : q = N
          · rw [c2, e] at e2
            have := hi s0 (t - 1) hs0 (by omega) e2
            omega
          · omega
        · rw [if_neg c1]
          obtain ⟨q, hq, e2⟩ := hc s (by omega)
          refine ⟨q, ?_, e2⟩
          by_cases c2 : q = N
          · rw [c2, e] at e2
            have := hi s0 s hs0 (by omega) e2
            omega
          · omega)
      omega
    · have := ih t c φ hi (fun s hs => by
        obtain ⟨q, hq, e2⟩ := hc s hs
        refine ⟨q, ?_, e2⟩
        by_cases c2 : q = N
        · rw [c2] at e2; exact absurd ⟨s, hs, e2⟩ h
        · omega)
      omega
section
variable {n : Nat} {W D : Nat → Int} {U : Nat → Bool}
theorem tk_rg {L : List En} (h : tk n W D U L) {e : En} (he : e ∈ L) : -2 ≤ e.2.2 ∧ e.2.2 < 60 := by
  induction L with
  | nil => cases he
  | cons x L ih =>
    rcases List.mem_cons.mp he with c | c
    · subst c
      rcases h.2.1 with ⟨a, _⟩ | ⟨a, _⟩ | ⟨r, a, b, _⟩ <;> omega
    · exact ih h.2.2 c
theorem tk_U {L : List En} (h : tk n W D U L) {e : En} (he : e ∈ L) {r : Nat} (hr : e.2.2 = (r : Int)) : U r = true ∧ r < 60 := by
  induction L with
  | nil => cases he
  | cons x L ih =>
    rcases List.mem_cons.mp he with c | c
    · subst c
      rcases h.2.1 with ⟨a, _⟩ | ⟨a, _⟩ | ⟨q, a, b, c, _⟩
      · omega
      · omega
      · have : q = r := by omega
        subst this
        exact ⟨c, b⟩
    · exact ih h.2.2 c
end
section
variable {q0 q1 q2 q3 q4 q5 q6 q7 q8 q9 q10 q11 fn frR flR frc fin fbe flo fcl fts fln : Int32} {xw xd xh xa xu xv xr xt : Nat → Int32}
variable {W0 D0 : Nat → Int} {U : Nat → Bool} {n : Nat} {R : Nat → Int} {T : Nat → Nat} {L : List En}
theorem xl_isr {post : Int32 → Prop} {V : Nat → Nat} {x : Nat} (hn : n ≤ 8) (hx : x < 60) (hk : tk n W0 D0 U L) (ht : ta n V R T L) (H1 : (∃ e, e ∈ L ∧ e.2.2 = (x : Int)) → post 1) (H0 : (∀ e, e ∈ L → e.2.2 ≠ (x : Int)) → post 0) : ∀ k i, i ≤ L.length → L.length < k + i → (∀ q, q < i → R (T q) ≠ (x : Int)) → wX_isReason_2 post (nI x) q0 q1 q2 q3 q4 q5 q6 q7 q8 q9 q10 q11 (nI n) frR flR frc fin fbe flo fcl (nI L.length) fln xw xd xh xa xu xv (aZ R) (aN T) k (nI i) := by
  have hle := tk_le hk
  intro k
  induction k with
  | zero => intro i h1 h2; omega
  | succ k ih =>
    intro i h1 h2 hq
    by_cases hi : i < L.length
    · obtain ⟨e, he, e1, e2⟩ := ta2_at ht.2 hi
      have hm := tv_mem hk he
      have hr := tk_rg hk he
      have eT : T i < 8 := by omega
      have eR : R (T i) = e.2.2 := by rw [e1]; exact e2
      refine br_f (nI_ge hi (by omega)) ⟨in_n i (by omega), in_n (T i) eT (rd_n i), zb_eq (R (T i)) (x : Int) (fun q => H1 ⟨e, he, by omega⟩) (fun q => nm_r (nI_1 i) (ih (i + 1) (by omega) (by omega) (lt_s hq q))) (rd_z (T i) (rd_n i)) (zI_nI x)⟩
    · have e : i = L.length := by omega
      subst e
      refine br_t (nI_le (Nat.le_refl _) (by omega)) (H0 (fun e he z => ?_))
      obtain ⟨p, hp, e1, e2⟩ := ta2_pos ht.2 he
      apply hq p hp
      rw [e1, e2, z]
theorem xl_lp {post : Int32 → SX → Prop} {V : Nat → Nat} {l0 : Nat} (hn : n ≤ 8) (hk : tk n W0 D0 U L) (ht : ta n V R T L) (H : ∀ x l' : Nat, 28 ≤ x → x < 60 → (∀ e, e ∈ L → e.2.2 ≠ (x : Int)) → l' < 32 → post (nI x) (q0, q1, q2, q3, q4, q5, q6, q7, q8, q9, q10, q11, nI n, frR, flR, frc, fin, fbe, flo, fcl, nI L.length, nI l', xw, xd, xh, xa, xu, xv, aZ R, aN T)) : ∀ k t, t ≤ 32 → 32 < k + t → (∀ s, s < t → ∃ e, e ∈ L ∧ e.2.2 = ((28 + (l0 + s) % 32 : Nat) : Int)) → wX_learnedPlace_2 post q0 q1 q2 q3 q4 q5 q6 q7 q8 q9 q10 q11 (nI n) frR flR frc fin fbe flo fcl (nI L.length) xw xd xh xa xu xv (aZ R) (aN T) k (nI t) (nI ((l0 + t) % 32)) := by
  have hle := tk_le hk
  intro k
  induction k with
  | zero => intro t h1 h2; omega
  | succ k ih =>
    intro t h1 h2 hq
    have ht8 : t ≤ L.length := by
      refine pg L.length t (fun s => ((28 + (l0 + s) % 32 : Nat) : Int)) (fun p => R (T p)) (fun a b ha hb hab => by (try dsimp only at hab); omega) (fun s hs => ?_)
      obtain ⟨e, he, e1⟩ := hq s hs
      obtain ⟨p, hp, e2, e3⟩ := ta2_pos ht.2 he
      exact ⟨p, hp, by (try dsimp only); rw [e2, e3]; exact e1⟩
    have hm : (l0 + t) % 32 < 32 := Nat.mod_lt _ (by omega)
    have e28 : 28 + nI ((l0 + t) % 32) = nI (28 + (l0 + t) % 32) := by
      rw [show (28 : Int32) = nI 28 from rfl, nI_add]
    have GO : ∀ l', l' < 32 → l' = (l0 + (t + 1)) % 32 → wX_learnedPlace_40 post (wX_learnedPlace_2 post q0 q1 q2 q3 q4 q5 q6 q7 q8 q9 q10 q11 (nI n) frR flR frc fin fbe flo fcl (nI L.length) xw xd xh xa xu xv (aZ R) (aN T) k) (nI t) (nI (28 + (l0 + t) % 32)) q0 q1 q2 q3 q4 q5 q6 q7 q8 q9 q10 q11 (nI n) frR flR frc fin fbe flo fcl (nI L.length) (nI l') xw xd xh xa xu xv (aZ R) (aN T) := fun l' hl' el => by
      refine Exists.intro (L.length + 1) (xl_isr hn (by omega) hk ht (fun hr => br_f (by decide) (nm_r (nI_1 t) ?_)) (fun hr => br_t rfl (H _ l' (by omega) (by omega) hr hl')) (L.length + 1) 0 (by omega) (by omega) lt_0)
      rw [el]
      exact ih (t + 1) (by omega) (by omega) (lt_s hq hr)
    refine br_f (nI_ge (b := 32) (by omega) (by decide)) (nm_r e28 (nm_r (nI_1 _) (pk_lt ((l0 + t) % 32 + 1) 32 (fun q => GO _ q (by omega)) (fun q => GO 0 (by omega) (by omega)))))
theorem xw_lp {post : Int32 → SX → Prop} {V : Nat → Nat} {l0 : Nat} (hn : n ≤ 8) (hl : l0 < 32) (hk : tk n W0 D0 U L) (ht : ta n V R T L) (H : ∀ x l' : Nat, 28 ≤ x → x < 60 → (∀ e, e ∈ L → e.2.2 ≠ (x : Int)) → l' < 32 → post (nI x) (q0, q1, q2, q3, q4, q5, q6, q7, q8, q9, q10, q11, nI n, frR, flR, frc, fin, fbe, flo, fcl, nI L.length, nI l', xw, xd, xh, xa, xu, xv, aZ R, aN T)) : wpX_learnedPlace post (q0, q1, q2, q3, q4, q5, q6, q7, q8, q9, q10, q11, nI n, frR, flR, frc, fin, fbe, flo, fcl, nI L.length, nI l0, xw, xd, xh, xa, xu, xv, aZ R, aN T) := by
  have a := xl_lp (l0 := l0) hn hk ht H 33 0 (by omega) (by omega) (fun s hs => absurd hs (by omega))
  rw [Nat.add_zero, Nat.mod_eq_of_lt hl] at a
  exact Exists.intro 33 a
theorem xw_cancel2 {post : SX → Prop} {W D : Nat → Int} {V : Nat → Nat} {f g : Nat → Int} {d e : Int} {u r : Nat} {q : Int32} (hq : q = nI r) (hn : n ≤ 8) (hu : u < n) (hr : r < 60) (hr4 : r ≠ 24) (hr5 : r ≠ 25) (hf : fo_is W D n 24 f d) (hg : fo_is W D n r g e) (hfb : ∀ v, v < n → -9999 ≤ f v ∧ f v ≤ 9999) (hd : 0 ≤ d ∧ d ≤ 9999) (hgb : ∀ v, v < n → -9999 ≤ g v ∧ g v ≤ 9999) (he : 0 ≤ e ∧ e ≤ 9999) (hV : ∀ v, v < n → V v ≤ 2) (h2 : V u = 2) (hop : (0 < f u ∧ g u < 0) ∨ (f u < 0 ∧ 0 < g u)) (hsg : pb_slk g e V n < pb_ab (g u)) (hsf : pb_slk f d V n < pb_ab (f u)) (H : ∀ W' D' f' d', fo_is W' D' n 24 f' d' → (∀ i, i ≠ 24 → i ≠ 25 → fo_eq W D W' D' n i) → (∀ v, v < n → -9999 ≤ f' v ∧ f' v ≤ 9999) → (0 ≤ d' ∧ d' ≤ 9999) → pb_slk f' d' V n < 0 → (∀ m, pb_sat f d n m → pb_sat g e n m → pb_sat f' d' n m) → post (q0, q1, q2, q3, q4, q5, q6, q7, q8, q9, q10, q11, nI n, frR, flR, frc, fin, fbe, flo, fcl, fts, fln, aZ W', aZ D', xh, xa, xu, aN V, xr, xt)) : wpX_cancel post (q0, q1, q2, q3, q4, q5, q6, q7, q8, q9, q10, q11, nI n, frR, flR, frc, fin, fbe, flo, fcl, fts, fln, aZ W, aZ D, xh, xa, xu, aN V, xr, xt) (nI u) q := by
  subst hq
  exact xw_cancel hn hu hr hr4 hr5 hf hg hfb hd hgb he hV h2 hop hsg hsf H
theorem xl_flip {post : Int32 → SX → Prop} {P : Nat → Prop} {L0 : List En} {ln : Nat} (hn : n ≤ 8) (hln : ln < 32) (h24 : U 24 = false) (h25 : U 25 = false) (hb : ub n W0 D0 U) (hs : ∀ m, P m → ∀ r : Nat, r < 60 → U r = true → pb_sat (fun v => W0 (r * 8 + v)) (D0 r) n m)
  (H0 : (∀ m, P m → as L0 m → False) → ∀ ts W D V, (∀ i, i ≠ 24 → i ≠ 25 → fo_eq W0 D0 W D n i) → post 0 (q0, q1, q2, q3, q4, q5, q6, q7, q8, q9, q10, q11, nI n, frR, flR, frc, fin, fbe, flo, fcl, nI ts, nI ln, aZ W, aZ D, xh, xa, aB U, aN V, aZ R, aN T))
  (H1 : ∀ (L1 L : List En) (v x l' : Nat) (W D : Nat → Int) (V : Nat → Nat) (R : Nat → Int) (T : Nat → Nat), L0 = L1 ++ (v, 0, -1) :: L → (∀ e, e ∈ L1 → e.2.2 ≠ -2) → 28 ≤ x → x < 60 → l' < 32 → tk n W D (ug U x true) ((v, 1, (x : Int)) :: L) → ta n V R T ((v, 1, (x : Int)) :: L) → (∀ i, i ≠ 24 → i ≠ 25 → i ≠ x → fo_eq W0 D0 W D n i) → ((∀ v, v < n → -9999 ≤ W (x * 8 + v) ∧ W (x * 8 + v) ≤ 9999) ∧ 0 ≤ D x ∧ D x ≤ 9999) → (∀ m, P m → pb_sat (fun v => W (x * 8 + v)) (D x) n m) → post 1 (q0, q1, q2, q3, q4, q5, q6, q7, q8, q9, q10, q11, nI n, frR, flR, frc, fin, fbe, flo, fcl, nI (L.length + 1), nI l', aZ W, aZ D, xh, xa, aB (ug U x true), aN V, aZ R, aN T)) :
  ∀ k L L1 W D V f d, L0 = L1 ++ L → (∀ e, e ∈ L1 → e.2.2 ≠ -2) → L.length < k → tk n W0 D0 U L → ta n V R T L → fo_is W D n 24 f d → (∀ i, i ≠ 24 → i ≠ 25 → fo_eq W0 D0 W D n i) → (∀ v, v < n → -9999 ≤ f v ∧ f v ≤ 9999) → (0 ≤ d ∧ d ≤ 9999) → pb_slk f d (tv L) n < 0 → (∀ m, P m → pb_sat f d n m) → wX_learnAndFlip_20 post k (nI L.length - 1) q0 q1 q2 q3 q4 q5 q6 q7 q8 q9 q10 q11 (nI n) frR flR frc fin fbe flo fcl (nI L.length) (nI ln) (aZ W) (aZ D) xh xa (aB U) (aN V) (aZ R) (aN T) := by
  intro k
  induction k with
  | zero => intro L L1 W D V f d _ _ h; omega
  | succ k ih =>
    intro L L1 W D V f d hL hL1 hlen hk ht hf hfr hfb hd hsl hP
    cases L with
    | nil =>
      refine br_t (show nI 0 - 1 < 0 by decide) (H0 (fun m hm _ => ?_) 0 W D V hfr)
      have := pb_slk_sat (V := tv []) (fun v _ hv => absurd rfl hv) (hP m hm)
      omega
    | cons e L =>
      have hkL : tk n W0 D0 U L := hk.2.2
      have hle := tk_le hk
      rw [List.length_cons] at hle
      have htp := ta_pop ht hk
      have hv := hk.1.1
      have hfe := hfb e.1 hv
      have eT : T L.length = e.1 := ht.2.1
      have eR : R e.1 = e.2.2 := ht.2.2.1
      have eV : V e.1 = e.2.1 := by rw [ht.1 e.1 hv, tv_h]
      have hV' : ∀ v, v < n → ug V e.1 2 v ≤ 2 := fun v hv => by rw [htp.1 v hv]; exact tv_le hkL v
      have hrg := tk_rg hk (List.mem_cons_self (a := e) (l := L))
      have esl : ∀ (F : Nat → Int) (q : Int), pb_slk F q (ug V e.1 2) n = pb_slk F q (tv L) n := fun F q => pb_slk_cg (fun _ _ => rfl) htp.1 rfl
      have hpop := slk_pop (f := f) (d := d) hv hk.1.2.1
      have NEXT : ∀ W' D' f' d', e.2.2 ≠ -2 → fo_is W' D' n 24 f' d' → (∀ i, i ≠ 24 → i ≠ 25 → fo_eq W0 D0 W' D' n i) → (∀ v, v < n → -9999 ≤ f' v ∧ f' v ≤ 9999) → (0 ≤ d' ∧ d' ≤ 9999) → pb_slk f' d' (tv L) n < 0 → (∀ m, P m → pb_sat f' d' n m) → wX_learnAndFlip_20 post k (nI L.length + (-1)) q0 q1 q2 q3 q4 q5 q6 q7 q8 q9 q10 q11 (nI n) frR flR frc fin fbe flo fcl (nI L.length) (nI ln) (aZ W') (aZ D') xh xa (aB U) (aN (ug V e.1 2)) (aZ R) (aN T) := fun W' D' f' d' hne a b c q r s => by
        rw [show nI L.length + (-1) = nI L.length - 1 from (Int32.sub_eq_add_neg _ _).symm]
        refine ih L (L1 ++ [e]) W' D' (ug V e.1 2) f' d' (by rw [hL]; simp) (fun x hx => ?_) (by rw [List.length_cons] at hlen; omega) hkL htp a b c q r s
        rcases List.mem_append.mp hx with z | z
        · exact hL1 x z
        · rw [List.mem_singleton.mp z]; exact hne
      rw [show nI (e :: L).length - 1 = nI L.length from nI_pred L.length]
      have hR : aZ R (nI e.1).toNatClampNeg = zI e.2.2 := (rd_z e.1).trans (congrArg zI eR)
      rcases hk.2.1 with ⟨a, a2⟩ | ⟨a, a0, a1⟩ | ⟨r, e1, e2, e3, e4, e5⟩
      · have NO : ∀ m, P m → as L0 m → False := fun m hm ha => by
          have := pb_slk_sat (V := tv (e :: L)) (fun v _ hv => by
            obtain ⟨x, hx, x1, x2⟩ := tv_in hv
            have x3 : x.2.2 = -2 := by
              rcases List.mem_cons.mp hx with z | z
              · rw [z]; exact a
              · exact a2 x z
            rw [← x2, ← x1]
            exact ha x (by rw [hL]; exact List.mem_append_right _ hx) x3) (hP m hm)
          omega
        refine br_f (nI_pos (by omega)) ⟨in_n L.length (by omega), nm_r (e' := nI e.1) ((rd_n L.length).trans (congrArg nI eT)) (xw_fals (t := 24) (x := f e.1) (by omega) (by omega) (hf.1 e.1 hv) (by omega) (by rw [eV]; have := hk.1.2.2; omega) (fun c => ?_) (fun c => ?_))⟩
        · exact ⟨in_n e.1 (by omega), nm_r (wr_n e.1 2 rfl rfl) ⟨in_n e.1 (by omega), zb_lt e.2.2 0 (fun _ => ⟨in_n e.1 (by omega), zb_eq e.2.2 (-2) (fun _ => H0 NO L.length W D (ug V e.1 2) hfr) (fun z => absurd a z) hR⟩) (fun z => by omega) hR⟩⟩
        · exact ⟨in_n e.1 (by omega), nm_r (wr_n e.1 2 rfl rfl) ⟨in_n e.1 (by omega), zb_lt e.2.2 0 (fun _ => ⟨in_n e.1 (by omega), zb_eq e.2.2 (-2) (fun _ => H0 NO L.length W D (ug V e.1 2) hfr) (fun z => absurd a z) hR⟩) (fun z => by omega) hR⟩⟩
      · have hslb := slk_b (V := ug V e.1 2) (B := 9999) hn (by omega) hfb hd
        have ag : 0 ≤ pb_slk f d (tv L) n → 0 < f e.1 := fun q => by
          apply Classical.byContradiction
          intro z
          have := slk_keep (f := f) (d := d) (n := n) hk.1.2.1 (by omega)
          omega
        have LEARN : ∀ (x l' : Nat) (W2 D2 : Nat → Int), 28 ≤ x → x < 60 → (∀ e, e ∈ L → e.2.2 ≠ (x : Int)) → l' < 32 → 0 ≤ pb_slk f d (tv L) n → fo_is W2 D2 n x f d → (∀ i, i ≠ x → fo_eq W D W2 D2 n i) → wpX_assign (fun u => post 1 u) (q0, q1, q2, q3, q4, q5, q6, q7, q8, q9, q10, q11, nI n, frR, flR, frc, fin, fbe, flo, fcl, nI L.length, nI l', aZ W2, aZ D2, xh, xa, aB (ug U x true), aN (ug V e.1 2), aZ R, aN T) (nI e.1) 1 (nI x) := fun x l' W2 D2 hx1 hx2 hnr hl' q f2 g2 => by
          have hpos := ag q
          have hk2 : tk n W2 D2 (ug U x true) ((e.1, 1, (x : Int)) :: L) := by
            refine ⟨⟨hv, hk.1.2.1, Nat.le_refl _⟩, Or.inr (Or.inr ⟨x, rfl, hx2, ug_s, Or.inl ⟨?_, rfl⟩, ?_⟩), tk_cg hkL (fun r hr hre => ?_)⟩
            · rw [f2.1 e.1 hv]; exact hpos
            · rw [f2.1 e.1 hv, pb_slk_cg (f := fun v => W2 (x * 8 + v)) (g := f) (V := tv L) (V' := tv L) f2.1 (fun _ _ => rfl) f2.2]; omega
            · obtain ⟨y, hy, y1⟩ := hre
              have hu := (tk_U hkL hy y1).1
              have hrx : r ≠ x := fun z => hnr y hy (by rw [y1, z])
              have h4 : r ≠ 24 := fun z => by rw [z, h24] at hu; cases hu
              have h5 : r ≠ 25 := fun z => by rw [z, h25] at hu; cases hu
              have eq := fo_et (hfr r h4 h5) (g2 r hrx)
              exact ⟨by rw [ug_n hrx]; exact hu, eq.1, by rw [eq.2]; exact Int.le_refl _⟩
          have ee : e = (e.1, 0, -1) := Prod.ext rfl (Prod.ext a0 a)
          refine xw_asg (x : Int) (by omega) (by omega) rfl (zI_nI x) (H1 L1 L e.1 x l' W2 D2 _ _ _ (hL.trans (by rw [← ee])) hL1 hx1 hx2 hl' hk2 (ta_push htp hkL hk.1.2.1) (fun i h4 h5 hx => fo_et (hfr i h4 h5) (g2 i hx)) ?_ (fun m hm => pb_sat_cg (fun v hv => (f2.1 v hv).symm) f2.2.symm (hP m hm)))
          exact ⟨fun v hv => by rw [f2.1 v hv]; exact hfb v hv, by rw [f2.2]; exact hd⟩
        refine br_f (nI_pos (by omega)) ⟨in_n L.length (by omega), nm_r (e' := nI e.1) ((rd_n L.length).trans (congrArg nI eT)) (xw_fals (t := 24) (x := f e.1) (by omega) (by omega) (hf.1 e.1 hv) (by omega) (by rw [eV]; have := hk.1.2.2; omega) (fun c => ?_) (fun c => ?_))⟩
        · exact ⟨in_n e.1 (by omega), nm_r (wr_n e.1 2 rfl rfl) ⟨in_n e.1 (by omega), zb_lt e.2.2 0 (fun _ => ⟨in_n e.1 (by omega), zb_eq e.2.2 (-2) (fun z => by omega) (fun _ => xw_slk (t := 24) (F := f) hn (by omega) hf (fun v hv => by have := hfb v hv; omega) hV' (zb_lt (pb_slk f d (ug V e.1 2) n) 0 (fun q => nm_r rfl (NEXT W D f d (by omega) hf hfr hfb hd (by rw [← esl]; exact q) hP)) (fun q => xw_lp (V := ug V e.1 2) hn hln hkL htp (fun x l' hx1 hx2 hnr hl' => xw_copy (t := x) (s := 24) hn hx2 (by omega) hf (fun W2 D2 f2 g2 => ⟨in_n x (by omega), nm_r (wr_b x true rfl b2_n1) (LEARN x l' W2 D2 hx1 hx2 hnr hl' (by rw [← esl]; exact q) f2 g2)⟩))))) hR⟩) (fun z => by omega) hR⟩⟩
        · exact ⟨in_n e.1 (by omega), nm_r (wr_n e.1 2 rfl rfl) ⟨in_n e.1 (by omega), zb_lt e.2.2 0 (fun _ => ⟨in_n e.1 (by omega), zb_eq e.2.2 (-2) (fun z => by omega) (fun _ => xw_slk (t := 24) (F := f) hn (by omega) hf (fun v hv => by have := hfb v hv; omega) hV' (zb_lt (pb_slk f d (ug V e.1 2) n) 0 (fun q => nm_r rfl (NEXT W D f d (by omega) hf hfr hfb hd (by rw [← esl]; exact q) hP)) (fun q => xw_lp (V := ug V e.1 2) hn hln hkL htp (fun x l' hx1 hx2 hnr hl' => xw_copy (t := x) (s := 24) hn hx2 (by omega) hf (fun W2 D2 f2 g2 => ⟨in_n x (by omega), nm_r (wr_b x true rfl b2_n1) (LEARN x l' W2 D2 hx1 hx2 hnr hl' (by rw [← esl]; exact q) f2 g2)⟩))))) hR⟩) (fun z => by omega) hR⟩⟩
      · have r24 : r ≠ 24 := fun z => by rw [z, h24] at e3; cases e3
        have r25 : r ≠ 25 := fun z => by rw [z, h25] at e3; cases e3
        refine br_f (nI_pos (by omega)) ⟨in_n L.length (by omega), nm_r (e' := nI e.1) ((rd_n L.length).trans (congrArg nI eT)) (xw_fals (t := 24) (x := f e.1) (by omega) (by omega) (hf.1 e.1 hv) (by omega) (by rw [eV]; have := hk.1.2.2; omega) (fun c => ?_) (fun c => ?_))⟩
        · exact ⟨in_n e.1 (by omega), nm_r (wr_n e.1 2 rfl rfl) ⟨in_n e.1 (by omega), zb_lt e.2.2 0 (fun z => by omega) (fun _ => br_f (by decide) ⟨in_n e.1 (by omega), xw_cancel2 (hR.trans (by rw [e1, zI_nI])) hn hv e2 r24 r25 hf (fo_tr (hfr r r24 r25) (fo_rf W0 D0 n r)) hfb hd (hb r e2 e3).1 (hb r e2 e3).2 hV' ug_s (by rw [eV] at c; (try dsimp only); omega) (by rw [esl]; exact e5) (by rw [esl]; omega) (fun W' D' f' d' a1 a2 a3 a4 a5 a6 => nm_r rfl (NEXT W' D' f' d' (by omega) a1 (fun i h4 h5 => fo_et (hfr i h4 h5) (a2 i h4 h5)) a3 a4 (by rw [← esl]; exact a5) (fun m hm => a6 m (hP m hm) (hs m hm r e2 e3))))⟩) hR⟩⟩
        · exact ⟨in_n e.1 (by omega), nm_r (wr_n e.1 2 rfl rfl) ⟨in_n e.1 (by omega), zb_lt e.2.2 0 (fun z => by omega) (fun _ => br_t rfl (nm_r rfl (NEXT W D f d (by omega) hf hfr hfb hd (by rw [slk_keep hk.1.2.1 (by rw [eV] at c; exact c)]; exact hsl) hP))) hR⟩⟩
theorem xw_flip {post : Int32 → SX → Prop} {P : Nat → Prop} {L0 : List En} {V : Nat → Nat} {ln c : Nat} (hn : n ≤ 8) (hln : ln < 32) (h24 : U 24 = false) (h25 : U 25 = false) (hb : ub n W0 D0 U) (hs : ∀ m, P m → ∀ r : Nat, r < 60 → U r = true → pb_sat (fun v => W0 (r * 8 + v)) (D0 r) n m) (hk : tk n W0 D0 U L0) (ht : ta n V R T L0) (hc : c < 60) (hcu : U c = true) (hcs : pb_slk (fun v => W0 (c * 8 + v)) (D0 c) (tv L0) n < 0)
  (H0 : (∀ m, P m → as L0 m → False) → ∀ ts W D V, (∀ i, i ≠ 24 → i ≠ 25 → fo_eq W0 D0 W D n i) → post 0 (q0, q1, q2, q3, q4, q5, q6, q7, q8, q9, q10, q11, nI n, frR, flR, frc, fin, fbe, flo, fcl, nI ts, nI ln, aZ W, aZ D, xh, xa, aB U, aN V, aZ R, aN T))
  (H1 : ∀ (L1 L : List En) (v x l' : Nat) (W D : Nat → Int) (V : Nat → Nat) (R : Nat → Int) (T : Nat → Nat), L0 = L1 ++ (v, 0, -1) :: L → (∀ e, e ∈ L1 → e.2.2 ≠ -2) → 28 ≤ x → x < 60 → l' < 32 → tk n W D (ug U x true) ((v, 1, (x : Int)) :: L) → ta n V R T ((v, 1, (x : Int)) :: L) → (∀ i, i ≠ 24 → i ≠ 25 → i ≠ x → fo_eq W0 D0 W D n i) → ((∀ v, v < n → -9999 ≤ W (x * 8 + v) ∧ W (x * 8 + v) ≤ 9999) ∧ 0 ≤ D x ∧ D x ≤ 9999) → (∀ m, P m → pb_sat (fun v => W (x * 8 + v)) (D x) n m) → post 1 (q0, q1, q2, q3, q4, q5, q6, q7, q8, q9, q10, q11, nI n, frR, flR, frc, fin, fbe, flo, fcl, nI (L.length + 1), nI l', aZ W, aZ D, xh, xa, aB (ug U x true), aN V, aZ R, aN T)) : wpX_learnAndFlip post (q0, q1, q2, q3, q4, q5, q6, q7, q8, q9, q10, q11, nI n, frR, flR, frc, fin, fbe, flo, fcl, nI L0.length, nI ln, aZ W0, aZ D0, xh, xa, aB U, aN V, aZ R, aN T) (nI c) := by
  have hbc := hb c hc hcu
  refine xw_copy (t := 24) (s := c) hn (by omega) hc (fo_rf W0 D0 n c) (fun W1 D1 f1 g1 => xw_sat (t := 24) hn (by omega) f1 (fun v hv => by have := hbc.1 v hv; (try dsimp only); omega) (by omega) (fun W2 f2 g2 => nm_r rfl (Exists.intro (L0.length + 1) (xl_flip hn hln h24 h25 hb hs H0 H1 (L0.length + 1) L0 [] W2 D1 V _ _ rfl (fun e he => by cases he) (by omega) hk ht f2 (fun i h4 h5 => fo_et (g1 i h4) (g2 i h4)) (fun v hv => ?_) hbc.2 ?_ (fun m hm => pb_sat_st hbc.2.1 (hs m hm c hc hcu))))))
  · have := pb_st_b (d := D0 c) (x := W0 (c * 8 + v)) hbc.2.1
    (try dsimp only)
    omega
  · have := pb_slk_st (f := fun v => W0 (c * 8 + v)) (d := D0 c) (V := tv L0) (n := n) hbc.2.1
    omega
end
end
section
/-! X: decide, assignedMask, demandBelow; masks; the measure -/
theorem nI_or (a b : Nat) : nI a ||| nI b = nI (a ||| b) := by
  apply Int32.toBitVec_inj.1
  show BitVec.ofNat 32 a ||| BitVec.ofNat 32 b = BitVec.ofNat 32 (a ||| b)
  apply BitVec.eq_of_getLsbD_eq
  intro i hi
  simp [hi]
def mk (V : Nat → Nat) : Nat → Nat
  | 0 => 0
  | i + 1 => if V i = 1 then 2 ^ i + mk V i else mk V i
theorem mk_lt (V : Nat → Nat) (i : Nat) : mk V i < 2 ^ i := by
  induction i with
  | zero => exact Nat.zero_lt_one
  | succ i ih =>
    show (if V i = 1 then 2 ^ i + mk V i else mk V i) < 2 ^ (i + 1)
    rw [Nat.pow_succ]
    split <;> omega
theorem mk_bit (V : Nat → Nat) : ∀ i v : Nat, v < i → (mk V i).testBit v = decide (V v = 1) := by
  intro i
  induction i with
  | zero => intro v hv; omega
  | succ i ih =>
    intro v hv
    have hl := mk_lt V i
    show (if V i = 1 then 2 ^ i + mk V i else mk V i).testBit v = _
    by_cases c : v = i
    · subst c
      by_cases c2 : V v = 1
      · rw [if_pos c2, Nat.testBit_two_pow_add_eq, Nat.testBit_lt_two_pow hl, decide_eq_true c2]; rfl
      · rw [if_neg c2, Nat.testBit_lt_two_pow hl, decide_eq_false c2]
    · by_cases c2 : V i = 1
      · rw [if_pos c2, Nat.testBit_two_pow_add_gt (by omega)]; exact ih v (by omega)
      · rw [if_neg c2]; exact ih v (by omega)
theorem mk_cg {V V' : Nat → Nat} : ∀ i : Nat, (∀ v, v < i → V v = V' v) → mk V i = mk V' i := by
  intro i
  induction i with
  | zero => intro _; rfl
  | succ i ih =>
    intro h
    show (if V i = 1 then 2 ^ i + mk V i else mk V i) = (if V' i = 1 then 2 ^ i + mk V' i else mk V' i)
    rw [ih (fun v hv => h v (by omega)), h i (by omega)]
theorem mk_or (V : Nat → Nat) (i : Nat) : mk V i ||| 2 ^ i = 2 ^ i + mk V i := by
  have := Nat.two_pow_add_eq_or_of_lt (mk_lt V i) 1
  rw [Nat.mul_one] at this
  rw [this, Nat.or_comm]
theorem lt_bit {x y : Nat} (i : Nat) (hx : x.testBit i = false) (hy : y.testBit i = true) (h : ∀ j, i < j → x.testBit j = y.testBit j) : x < y := by
  have e : x / 2 ^ (i + 1) = y / 2 ^ (i + 1) := by
    apply Nat.eq_of_testBit_eq
    intro j
    rw [Nat.testBit_div_two_pow, Nat.testBit_div_two_pow]
    exact h _ (by omega)
  rw [Nat.testBit_eq_decide_div_mod_eq] at hx hy
  have hx' := of_decide_eq_false hx
  have hy' := of_decide_eq_true hy
  have ex : x / 2 ^ (i + 1) = x / 2 ^ i / 2 := by rw [Nat.pow_succ, Nat.div_div_eq_div_mul]
  have ey : y / 2 ^ (i + 1) = y / 2 ^ i / 2 := by rw [Nat.pow_succ, Nat.div_div_eq_div_mul]
  apply Classical.byContradiction
  intro c
  have := Nat.div_le_div_right (c := 2 ^ i) (show y ≤ x by omega)
  omega
/-- the full trail's mask is the least among the masks that keep the forms -/
theorem mk_min {n : Nat} {W D : Nat → Int} {U : Nat → Bool} {L : List En} {m : Nat} (hk : tk n W D U L) (hl : n ≤ L.length) (hs : ∀ r : Nat, r < 60 → U r = true → pb_sat (fun v => W (r * 8 + v)) (D r) n m) (ha : as L m) (hm : m < 2 ^ n) : mk (tv L) n ≤ m := by
  have fb : ∀ v, v < n → tv L v = (m.testBit v).toNat → (mk (tv L) n).testBit v = m.testBit v := fun v hv e => by
    rw [mk_bit _ _ _ hv, e]
    cases m.testBit v <;> rfl
  have hi : ∀ x v : Nat, x < 2 ^ n → n ≤ v → x.testBit v = false := fun x v hx hv => Nat.testBit_lt_two_pow (Nat.lt_of_lt_of_le hx (Nat.pow_le_pow_right (by decide) hv))
  rcases tk_lex hk hs ha with g | ⟨v, hv, h0, h1, h2⟩
  · have : mk (tv L) n = m := by
      apply Nat.eq_of_testBit_eq
      intro i
      by_cases c : i < n
      · exact fb i c (g i c (tk_all hk hl c))
      · rw [hi m i hm (by omega), hi _ i (mk_lt _ _) (by omega)]
    omega
  · apply Nat.le_of_lt
    apply lt_bit v
    · rw [mk_bit _ _ _ hv, h0]; rfl
    · exact h1
    · intro j hj
      by_cases c : j < n
      · exact fb j c (h2 j hj c)
      · rw [hi m j hm (by omega), hi _ j (mk_lt _ _) (by omega)]
theorem mk_full {n : Nat} {W D : Nat → Int} {U : Nat → Bool} {L : List En} (hk : tk n W D U L) (hl : n ≤ L.length) : (∀ v, v < n → tv L v = ((mk (tv L) n).testBit v).toNat) ∧ as L (mk (tv L) n) := by
  have a : ∀ v, v < n → tv L v = ((mk (tv L) n).testBit v).toNat := fun v hv => by
    have h1 := tk_all hk hl hv
    have h2 := tv_le hk v
    rw [mk_bit _ _ _ hv]
    by_cases c : tv L v = 1
    · rw [decide_eq_true c]; exact c
    · rw [decide_eq_false c]; show tv L v = 0; omega
  refine ⟨a, fun e he _ => ?_⟩
  have h := tv_mem hk he
  rw [← a e.1 h.2.2, h.1]
theorem mk_sat {n : Nat} {W D : Nat → Int} {U : Nat → Bool} {L : List En} (hk : tk n W D U L) (hl : n ≤ L.length) (hc : ∀ r : Nat, r < 60 → U r = true → cd1 n W D (tv L) r) : ∀ r : Nat, r < 60 → U r = true → pb_sat (fun v => W (r * 8 + v)) (D r) n (mk (tv L) n) := fun r hr hu =>
  pb_full (mk_full hk hl).1 (hc r hr hu).1
/-! the measure -/
def tq (k : Nat) : Nat := 3 * 2 ^ k - 1
theorem tq_0 : tq 0 = 2 := rfl
theorem tq_s (k : Nat) : tq (k + 1) = 2 * tq k + 1 := by
  unfold tq
  have := Nat.two_pow_pos k
  rw [Nat.pow_succ]
  omega
theorem tq_2 (k : Nat) : 2 ≤ tq k := by
  unfold tq
  have := Nat.two_pow_pos k
  omega
theorem tq_mono {a b : Nat} (h : a ≤ b) : tq a ≤ tq b := by
  unfold tq
  have : 2 ^ a ≤ 2 ^ b := Nat.pow_le_pow_right (by decide) h
  omega
def po (n : Nat) : List En → Nat
  | [] => 0
  | e :: L => po n L + (if e.2.2 = -1 then tq (n - L.length - 1) else 0)
theorem po_app {n : Nat} {L1 L : List En} : po n L ≤ po n (L1 ++ L) := by
  induction L1 with
  | nil => exact Nat.le_refl _
  | cons e L1 ih =>
    show po n L ≤ po n (L1 ++ L) + _
    omega
theorem po_xg {n : Nat} {L L' : List En} (h : xg L L') : po n L' = po n L := by
  obtain ⟨L1, rfl, a⟩ := h
  induction L1 with
  | nil => rfl
  | cons e L1 ih =>
    show po n (L1 ++ L) + _ = _
    rw [if_neg (by have := a e List.mem_cons_self; omega), ih (fun x hx => a x (List.mem_cons_of_mem _ hx))]
    rfl
theorem as_xg {L L' : List En} (h : xg L L') (m : Nat) : as L' m ↔ as L m := by
  obtain ⟨L1, rfl, a⟩ := h
  constructor
  · intro z e he hr
    exact z e (List.mem_append_right _ he) hr
  · intro z e he hr
    rcases List.mem_append.mp he with c | c
    · have := a e c; omega
    · exact z e c hr
theorem as_cons {L : List En} {e : En} (he : e.2.2 ≠ -2) (m : Nat) : as (e :: L) m ↔ as L m := by
  constructor
  · intro z x hx hr
    exact z x (List.mem_cons_of_mem _ hx) hr
  · intro z x hx hr
    rcases List.mem_cons.mp hx with c | c
    · subst c; exact absurd hr he
    · exact z x c hr
theorem as_app {L1 L : List En} (h : ∀ e, e ∈ L1 → e.2.2 ≠ -2) (m : Nat) : as (L1 ++ L) m ↔ as L m := by
  induction L1 with
  | nil => exact Iff.rfl
  | cons e L1 ih => exact (as_cons (h e List.mem_cons_self) m).trans (ih (fun x hx => h x (List.mem_cons_of_mem _ hx)))
section
variable {q0 q1 q2 q3 q4 q5 q6 q7 q8 q9 q10 q11 fn frR flR frc fin fbe flo fcl fts fln : Int32} {xw xd xh xa xu xv xr xt : Nat → Int32}
variable {W D : Nat → Int} {U : Nat → Bool} {n : Nat} {V : Nat → Nat} {R : Nat → Int} {T : Nat → Nat}
theorem xl_dec {post : SX → Prop} {s : Nat} (hn : n ≤ 8) (hs : s < 8) (hex : ∃ v, v < n ∧ V v = 2) (hV : ∀ v, v < n → V v ≤ 2) (H : ∀ v, v < n → V v = 2 → (∀ u, v < u → u < n → V u ≠ 2) → post (q0, q1, q2, q3, q4, q5, q6, q7, q8, q9, q10, q11, nI n, frR, flR, frc, fin, fbe, flo, fcl, nI (s + 1), fln, xw, xd, xh, xa, xu, aN (ug V v 0), aZ (ug R v (-1)), aN (ug T s v))) : ∀ k i, i ≤ n → i < k → (∀ u, i ≤ u → u < n → V u ≠ 2) → wX_decide_7 post q0 q1 q2 q3 q4 q5 q6 q7 q8 q9 q10 q11 (nI n) frR flR frc fin fbe flo fcl (nI s) fln xw xd xh xa xu (aN V) (aZ R) (aN T) k (nI i - 1) := by
  intro k
  induction k with
  | zero => intro i _ h; omega
  | succ k ih =>
    intro i h1 h2 hq
    cases i with
    | zero =>
      obtain ⟨v, hv, e⟩ := hex
      exact absurd e (hq v (by omega) hv)
    | succ i =>
      rw [nI_pred]
      have hvi := hV i (by omega)
      refine br_f (nI_pos (by omega)) ⟨in_n i (by omega), pk_eq (V i) 2 (fun c => xw_asg (b := 0) (-1) (by omega) hs rfl rfl (H i (by omega) c (fun u hu1 hu2 => hq u (by omega) hu2))) (fun c => nm_r (Int32.sub_eq_add_neg _ _).symm (ih i (by omega) (by omega) (fun u hu1 hu2 => ?_))) (rd_n i)⟩
      by_cases e : u = i
      · subst e; exact c
      · exact hq u (by omega) hu2
theorem xw_dec {post : SX → Prop} {s : Nat} (hn : n ≤ 8) (hs : s < 8) (hex : ∃ v, v < n ∧ V v = 2) (hV : ∀ v, v < n → V v ≤ 2) (H : ∀ v, v < n → V v = 2 → (∀ u, v < u → u < n → V u ≠ 2) → post (q0, q1, q2, q3, q4, q5, q6, q7, q8, q9, q10, q11, nI n, frR, flR, frc, fin, fbe, flo, fcl, nI (s + 1), fln, xw, xd, xh, xa, xu, aN (ug V v 0), aZ (ug R v (-1)), aN (ug T s v))) : wpX_decide post (q0, q1, q2, q3, q4, q5, q6, q7, q8, q9, q10, q11, nI n, frR, flR, frc, fin, fbe, flo, fcl, nI s, fln, xw, xd, xh, xa, xu, aN V, aZ R, aN T) :=
  nm_r rfl (Exists.intro (n + 1) (xl_dec hn hs hex hV H (n + 1) n (Nat.le_refl _) (by omega) (fun u h1 h2 => by omega)))
theorem xl_am {post : Int32 → Prop} (hn : n ≤ 8) (hV : ∀ v, v < n → V v ≤ 2) (H : post (nI (mk V n))) : ∀ k i, i ≤ n → n < k + i → wX_assignedMask_4 post q0 q1 q2 q3 q4 q5 q6 q7 q8 q9 q10 q11 (nI n) frR flR frc fin fbe flo fcl fts fln xw xd xh xa xu (aN V) xr xt k (nI (mk V i)) (nI i) := by
  intro k
  induction k with
  | zero => intro i _ h; omega
  | succ k ih =>
    intro i h1 h2
    by_cases hi : i < n
    · have ih' := ih (i + 1) (by omega) (by omega)
      have hvi := hV i hi
      refine br_f (nI_ge hi (by omega)) ⟨in_n i (by omega), pk_eq (V i) 1 (fun c => nm_r (e' := nI (mk V (i + 1))) ?_ (nm_r (nI_1 i) ih')) (fun c => nm_r (nI_1 i) ?_) (rd_n i)⟩
      · rw [sh_1 (by omega), nI_or, mk_or, show mk V (i + 1) = 2 ^ i + mk V i from if_pos c]
      · rw [show mk V (i + 1) = mk V i from if_neg c] at ih'; exact ih'
    · have e : i = n := by omega
      subst e
      exact br_t (nI_le (Nat.le_refl _) (by omega)) H
theorem xw_am {post : Int32 → Prop} (hn : n ≤ 8) (hV : ∀ v, v < n → V v ≤ 2) (H : post (nI (mk V n))) : wpX_assignedMask post (q0, q1, q2, q3, q4, q5, q6, q7, q8, q9, q10, q11, nI n, frR, flR, frc, fin, fbe, flo, fcl, fts, fln, xw, xd, xh, xa, xu, aN V, xr, xt) :=
  Exists.intro (n + 1) (xl_am hn hV H (n + 1) 0 (by omega) (by omega))
theorem xw_dem {post : SX → Prop} {C : Nat → Int} {val : Int} {p : Int32} (hp : p = zI val) (hn : n ≤ 8) (hC : ∀ v, v < n → W (27 * 8 + v) = C v) (hCb : ∀ v, v < n → -15 ≤ C v ∧ C v ≤ 15) (hv : -1000 ≤ val ∧ val ≤ 1000) (H : ∀ W' D', fo_is W' D' n 22 (fun v => -1 * C v) (max 0 (pb_cn (fun v => -1 * C v) (1 - val) n)) → (∀ i, i ≠ 22 → fo_eq W D W' D' n i) → post (q0, q1, q2, q3, q4, q5, q6, q7, q8, q9, q10, q11, nI n, frR, flR, frc, fin, fbe, flo, fcl, fts, fln, aZ W', aZ D', xh, xa, aB (ug U 22 true), xv, xr, xt)) : wpX_demandBelow post (q0, q1, q2, q3, q4, q5, q6, q7, q8, q9, q10, q11, nI n, frR, flR, frc, fin, fbe, flo, fcl, fts, fln, aZ W, aZ D, xh, xa, aB U, xv, xr, xt) p := by
  subst hp
  have K := xw_canon (W := W) (D := D) (n := n) (t := 22) (s := 27) (g := -1) (e := 1 - val) (F := fun v => -1 * C v) (q0 := q0) (q1 := q1) (q2 := q2) (q3 := q3) (q4 := q4) (q5 := q5) (q6 := q6) (q7 := q7) (q8 := q8) (q9 := q9) (q10 := q10) (q11 := q11) (frR := frR) (flR := flR) (frc := frc) (fin := fin) (fbe := fbe) (flo := flo) (fcl := fcl) (fts := fts) (fln := fln) (xh := xh) (xa := xa) (xu := aB U) (xv := xv) (xr := xr) (xt := xt) (post := fun u => match u with | (q0, q1, q2, q3, q4, q5, q6, q7, q8, q9, q10, q11, fn, frR, flR, frc, fin, fbe, flo, fcl, fts, fln, xw, xd, xh, xa, xu, xv, xr, xt) => ∀ z : Nat → Int32, z = upd xu 22 (vp_nar .boolean 1) → post (q0, q1, q2, q3, q4, q5, q6, q7, q8, q9, q10, q11, fn, frR, flR, frc, fin, fbe, flo, fcl, fts, fln, xw, xd, xh, xa, z, xv, xr, xt)) hn (by omega) (by omega) (fun v hv => by rw [hC v hv]) (fun v hv => by have := hCb v hv; (try dsimp only); omega) (by omega) (fun W' D' a b => nm_r (by rw [b2_n1, aB_u]) (H W' D' a b))
  rw [← zI_sub] at K
  exact K
end
end
section
/-! X: search -/
def sv (n : Nat) (W D : Nat → Int) (U : Nat → Bool) (L : List En) (P Z : Nat → Prop) : Prop :=
  tk n W D U L ∧ ub n W D U ∧ (U 24 = false ∧ U 25 = false) ∧
  (∀ m, P m → ∀ r : Nat, r < 60 → U r = true → pb_sat (fun v => W (r * 8 + v)) (D r) n m) ∧
  (∀ m, (∀ r : Nat, r < 28 → U r = true → pb_sat (fun v => W (r * 8 + v)) (D r) n m) → P m) ∧
  (∀ m, Z m ↔ as L m)
def sb (n : Nat) (W D : Nat → Int) (U : Nat → Bool) (C : Nat → Int) (P : Nat → Prop) : Prop :=
  U 22 = true → ∃ val : Int, (∀ v, v < n → W (22 * 8 + v) = -1 * C v) ∧ D 22 = max 0 (pb_cn (fun v => -1 * C v) (1 - val) n) ∧ ∀ m, P m → pb_ob C n m < val
def sf (n : Nat) (opt : Bool) (C : Nat → Int) (P0 Z P : Nat → Prop) (x : Int32) : Prop :=
  (x = -1 ∧ ∀ m, P m ↔ P0 m) ∨ (∃ m0, x = nI m0 ∧ m0 < 2 ^ n ∧ opt = true ∧ P0 m0 ∧ Z m0 ∧ (∀ m, P m ↔ P0 m ∧ pb_ob C n m < pb_ob C n m0) ∧ (∀ m, m < 2 ^ n → P0 m → Z m → pb_ob C n m = pb_ob C n m0 → m0 ≤ m))
def sr (n : Nat) (opt : Bool) (C : Nat → Int) (P0 Z : Nat → Prop) (x : Int32) : Prop :=
  (x = -1 ∧ ∀ m, m < 2 ^ n → P0 m → Z m → False) ∨ (∃ m0, x = nI m0 ∧ m0 < 2 ^ n ∧ P0 m0 ∧ Z m0 ∧ (opt = false → ∀ m, m < 2 ^ n → P0 m → Z m → m0 ≤ m) ∧ (opt = true → ∀ m, m < 2 ^ n → P0 m → Z m → pb_ob C n m0 < pb_ob C n m ∨ (pb_ob C n m0 = pb_ob C n m ∧ m0 ≤ m)))
theorem sf_end {n : Nat} {opt : Bool} {C : Nat → Int} {P0 Z P : Nat → Prop} {x : Int32} (h : sf n opt C P0 Z P x) (hno : ∀ m, P m → Z m → False) : sr n opt C P0 Z x := by
  rcases h with ⟨e, hi⟩ | ⟨m0, e, hm, ho, h0, hz, hi, hl⟩
  · exact Or.inl ⟨e, fun m _ hp hz => hno m ((hi m).mpr hp) hz⟩
  · refine Or.inr ⟨m0, e, hm, h0, hz, fun z => (by rw [ho] at z; cases z), fun _ m hm hp hz => ?_⟩
    by_cases c : pb_ob C n m < pb_ob C n m0
    · exact absurd hz (fun z => hno m ((hi m).mpr ⟨hp, c⟩) z)
    · by_cases c2 : pb_ob C n m = pb_ob C n m0
      · exact Or.inr ⟨c2.symm, hl m hm hp hz c2⟩
      · exact Or.inl (by omega)
theorem sf_new {n : Nat} {C : Nat → Int} {P0 Z P : Nat → Prop} {x : Int32} {m0 : Nat} (h : sf n true C P0 Z P x) (hm : m0 < 2 ^ n) (hp : P m0) (hz : Z m0) (hmin : ∀ m, m < 2 ^ n → P m → Z m → m0 ≤ m) : sf n true C P0 Z (fun m => P m ∧ pb_ob C n m < pb_ob C n m0) (nI m0) := by
  rcases h with ⟨_, hi⟩ | ⟨m1, _, _, _, _, _, hi, _⟩
  · exact Or.inr ⟨m0, rfl, hm, rfl, (hi m0).mp hp, hz, fun m => ⟨fun z => ⟨(hi m).mp z.1, z.2⟩, fun z => ⟨(hi m).mpr z.1, z.2⟩⟩, fun m h1 h2 h3 _ => hmin m h1 ((hi m).mpr h2) h3⟩
  · have hp' := (hi m0).mp hp
    exact Or.inr ⟨m0, rfl, hm, rfl, hp'.1, hz, fun m => ⟨fun z => ⟨((hi m).mp z.1).1, z.2⟩, fun z => ⟨(hi m).mpr ⟨z.1, by omega⟩, z.2⟩⟩, fun m h1 h2 h3 h4 => hmin m h1 ((hi m).mpr ⟨h2, by omega⟩) h3⟩
theorem sf_one {n : Nat} {opt : Bool} {C : Nat → Int} {P0 Z P : Nat → Prop} {x : Int32} {m0 : Nat} (ho : opt = false) (h : sf n opt C P0 Z P x) (hm : m0 < 2 ^ n) (hp : P m0) (hz : Z m0) (hmin : ∀ m, m < 2 ^ n → P m → Z m → m0 ≤ m) : sr n opt C P0 Z (nI m0) := by
  rcases h with ⟨_, hi⟩ | ⟨m1, _, _, ho2, _⟩
  · exact Or.inr ⟨m0, rfl, hm, (hi m0).mp hp, hz, fun _ m h1 h2 h3 => hmin m h1 ((hi m).mpr h2) h3, fun z => by rw [ho] at z; cases z⟩
  · rw [ho] at ho2; cases ho2
/-- what a learned form does to the search's facts -/
theorem sv_flip {n x : Nat} {W D W' D' : Nat → Int} {U : Nat → Bool} {L L2 : List En} {P Z : Nat → Prop} (h : sv n W D U L P Z) (hx : 28 ≤ x) (hk : tk n W' D' (ug U x true) L2) (hfr : ∀ i, i ≠ 24 → i ≠ 25 → i ≠ x → fo_eq W D W' D' n i) (hb : (∀ v, v < n → -9999 ≤ W' (x * 8 + v) ∧ W' (x * 8 + v) ≤ 9999) ∧ 0 ≤ D' x ∧ D' x ≤ 9999) (hs : ∀ m, P m → pb_sat (fun v => W' (x * 8 + v)) (D' x) n m) (ha : ∀ m, as L2 m ↔ as L m) : sv n W' D' (ug U x true) L2 P Z := by
  obtain ⟨_, h2, ⟨h3, h4⟩, h5, h6, h7⟩ := h
  have hne : ∀ r, U r = true → r ≠ 24 ∧ r ≠ 25 := fun r hu => ⟨fun z => (by rw [z, h3] at hu; cases hu), fun z => (by rw [z, h4] at hu; cases hu)⟩
  refine ⟨hk, fun r hr hu => ?_, ⟨by rw [ug_n (by omega)]; exact h3, by rw [ug_n (by omega)]; exact h4⟩, fun m hm r hr hu => ?_, fun m hm => h6 m (fun r hr hu => ?_), fun m => (h7 m).trans (ha m).symm⟩
  · by_cases c : r = x
    · subst c; exact hb
    · rw [ug_n c] at hu
      have e := hfr r (hne r hu).1 (hne r hu).2 c
      rw [e.2]
      exact ⟨fun v hv => by rw [e.1 v hv]; exact (h2 r hr hu).1 v hv, (h2 r hr hu).2⟩
  · by_cases c : r = x
    · subst c; exact hs m hm
    · rw [ug_n c] at hu
      have e := hfr r (hne r hu).1 (hne r hu).2 c
      exact pb_sat_cg (fun v hv => (e.1 v hv).symm) e.2.symm (h5 m hm r hr hu)
  · have e := hfr r (hne r hu).1 (hne r hu).2 (by omega)
    exact pb_sat_cg (fun v hv => e.1 v hv) e.2 (hm r hr (by rw [ug_n (by omega)]; exact hu))
theorem bd_sat {n m : Nat} {C : Nat → Int} {val : Int} : pb_sat (fun v => -1 * C v) (max 0 (pb_cn (fun v => -1 * C v) (1 - val) n)) n m ↔ pb_ob C n m < val := by
  rw [pb_cn_sat, pb_ob_neg]
  omega
/-- the new bound -/
theorem sv_bound {n : Nat} {W D W' D' : Nat → Int} {U : Nat → Bool} {L : List En} {P Z : Nat → Prop} {C : Nat → Int} {val : Int} (hn : n ≤ 8) (h : sv n W D U L P Z) (hsb : sb n W D U C P) (hCb : ∀ v, v < n → -15 ≤ C v ∧ C v ≤ 15) (hv : -1000 ≤ val ∧ val ≤ 1000) (hval : ∃ m, P m ∧ pb_ob C n m = val) (hf : fo_is W' D' n 22 (fun v => -1 * C v) (max 0 (pb_cn (fun v => -1 * C v) (1 - val) n))) (hfr : ∀ i, i ≠ 22 → fo_eq W D W' D' n i) : sv n W' D' (ug U 22 true) L (fun m => P m ∧ pb_ob C n m < val) Z ∧ sb n W' D' (ug U 22 true) C (fun m => P m ∧ pb_ob C n m < val) := by
  obtain ⟨h1, h2, ⟨h3, h4⟩, h5, h6, h7⟩ := h
  obtain ⟨m1, hm1, hm2⟩ := hval
  have hcn := pb_cn_b (F := fun v => -1 * C v) (e := 1 - val) (B := 15) hn (fun v hv => by have := hCb v hv; (try dsimp only); omega) (by omega)
  refine ⟨⟨tk_cg h1 (fun r hr hre => ?_), fun r hr hu => ?_, ⟨by rw [ug_n (by omega)]; exact h3, by rw [ug_n (by omega)]; exact h4⟩, fun m hm r hr hu => ?_, fun m hm => ?_, h7⟩, fun _ => ⟨val, hf.1, hf.2, fun m hm => hm.2⟩⟩
  · obtain ⟨y, hy, y1⟩ := hre
    have hu := (tk_U h1 hy y1).1
    by_cases c : r = 22
    · subst c
      obtain ⟨v0, a, b, cc⟩ := hsb hu
      refine ⟨ug_s, fun v hv => by rw [hf.1 v hv, a v hv], ?_⟩
      have := cc m1 hm1
      rw [hf.2, b]
      unfold pb_cn
      omega
    · have e := hfr r c
      exact ⟨by rw [ug_n c]; exact hu, e.1, by rw [e.2]; exact Int.le_refl _⟩
  · by_cases c : r = 22
    · subst c
      rw [hf.2]
      exact ⟨fun v hv => by rw [hf.1 v hv]; have := hCb v hv; (try dsimp only); omega, by omega⟩
    · rw [ug_n c] at hu
      have e := hfr r c
      rw [e.2]
      exact ⟨fun v hv => by rw [e.1 v hv]; exact (h2 r hr hu).1 v hv, (h2 r hr hu).2⟩
  · by_cases c : r = 22
    · subst c
      exact pb_sat_cg (fun v hv => (hf.1 v hv).symm) hf.2.symm (bd_sat.mpr hm.2)
    · rw [ug_n c] at hu
      have e := hfr r c
      exact pb_sat_cg (fun v hv => (e.1 v hv).symm) e.2.symm (h5 m hm.1 r hr hu)
  · have q : pb_ob C n m < val := bd_sat.mp (pb_sat_cg (fun v hv => hf.1 v hv) hf.2 (hm 22 (by omega) ug_s))
    refine ⟨h6 m (fun r hr hu => ?_), q⟩
    by_cases c : r = 22
    · subst c
      obtain ⟨v0, a, b, cc⟩ := hsb hu
      have := cc m1 hm1
      exact pb_sat_cg (fun v hv => (a v hv).symm) b.symm (bd_sat.mpr (by omega))
    · have e := hfr r c
      exact pb_sat_cg (fun v hv => e.1 v hv) e.2 (hm r hr (by rw [ug_n c]; exact hu))
section
variable {q0 q1 q2 q3 q4 q5 q6 q7 q8 q9 q10 q11 fn frR flR frc fin fbe flo fcl fts fln : Int32} {xw xd xh xa xu xv xr xt : Nat → Int32}
variable {n : Nat}
theorem xl_search {post : Int32 → SX → Prop} {opt : Bool} {P0 Z : Nat → Prop} {C W0 D0 : Nat → Int} (hn : n ≤ 8) (hC0 : ∀ v, v < n → W0 (27 * 8 + v) = C v) (hCb : ∀ v, v < n → -15 ≤ C v ∧ C v ≤ 15) (H : ∀ (x : Int32) (ts ln : Nat) (W D : Nat → Int) (U : Nat → Bool) (V : Nat → Nat) (R : Nat → Int) (T : Nat → Nat), sr n opt C P0 Z x → (∀ i, i < 22 ∨ i = 26 ∨ i = 27 → fo_eq W0 D0 W D n i) → post x (q0, q1, q2, q3, q4, q5, q6, q7, q8, q9, q10, q11, nI n, frR, flR, frc, fin, fbe, flo, fcl, nI ts, nI ln, aZ W, aZ D, xh, xa, aB U, aN V, aZ R, aN T)) :
  ∀ (k step : Nat) (x : Int32) (L : List En) (W D : Nat → Int) (U : Nat → Bool) (ln : Nat) (V : Nat → Nat) (R : Nat → Int) (T : Nat → Nat) (P : Nat → Prop) (c : Nat), sv n W D U L P Z → ta n V R T L → ln < 32 → sb n W D U C P → sf n opt C P0 Z P x → (∀ i, i < 22 ∨ i = 26 ∨ i = 27 → fo_eq W0 D0 W D n i) → (c = tq (n - L.length) ∨ (c = 1 ∧ L.length = n ∧ ¬ P (mk (tv L) n))) → po n L + c + step ≤ 1024 → 1024 < k + step → wX_search_4 post (b2 opt) k x (nI step) q0 q1 q2 q3 q4 q5 q6 q7 q8 q9 q10 q11 (nI n) frR flR frc fin fbe flo fcl (nI L.length) (nI ln) (aZ W) (aZ D) xh xa (aB U) (aN V) (aZ R) (aN T) := by
  intro k
  induction k with
  | zero => intro step x L W D U ln V R T P c _ _ _ _ _ _ _ h1 h2; omega
  | succ k ih =>
    intro step x L W D U ln V R T P c hsv hta hln hsb hsf hfr hc hpo hst
    have hc1 : 1 ≤ c := by
      rcases hc with e | e
      · have := tq_2 (n - L.length); omega
      · omega
    have hsv' := hsv
    obtain ⟨htk, hub, ⟨h24, h25⟩, hso, hco, hZ⟩ := hsv'
    have hcost : ∀ v, v < n → W (27 * 8 + v) = C v := fun v hv => by rw [(hfr 27 (by omega)).1 v hv, hC0 v hv]
    refine br_f (nI_ge (b := 1024) (by omega) (by decide)) (xw_prop hn hub htk hta (fun r L' V' R' T' hk' ht' hx' hr hu hs => ?_) (fun L' V' R' T' hk' ht' hx' hcl => ?_))
    · refine br_f (nI_pos (by omega)) (xw_flip (P := P) hn hln h24 h25 hub hso hk' ht' hr hu hs (fun hno ts W' D' V2 hfr' => br_t rfl (H x ts ln W' D' U V2 R' T' (sf_end hsf (fun m hp hz => hno m hp ((as_xg hx' m).mpr ((hZ m).mp hz)))) (fun i hi => fo_et (hfr i hi) (hfr' i (by omega) (by omega))))) (fun L1 L2 v y l' W' D' V2 R2 T2 hL hL1 hy1 hy2 hl' hk2 ht2 hfr2 hb2 hs2 => br_f (by decide) (nm_r (nI_1 step) ?_)))
      have hpx := po_xg (n := n) hx'
      have hp2 : po n ((v, 0, -1) :: L2) ≤ po n L' := by rw [hL]; exact po_app
      have hp3 : po n ((v, 0, -1) :: L2) = po n L2 + tq (n - L2.length - 1) := rfl
      have hp4 : po n ((v, 1, (y : Int)) :: L2) = po n L2 := by
        show po n L2 + (if (y : Int) = -1 then _ else 0) = _
        rw [if_neg (by omega)]; rfl
      have hsv2 : sv n W' D' (ug U y true) ((v, 1, (y : Int)) :: L2) P Z := sv_flip hsv hy1 hk2 hfr2 hb2 hs2 (fun m => by
        rw [as_cons (by show (y : Int) ≠ -2; omega), ← as_xg hx' m, hL, as_app hL1, as_cons (show (-1 : Int) ≠ -2 by decide)])
      refine ih (step + 1) x ((v, 1, (y : Int)) :: L2) W' D' (ug U y true) l' V2 R2 T2 P (tq (n - ((v, 1, (y : Int)) :: L2).length)) hsv2 ht2 hl' (fun hu2 => ?_) hsf (fun i hi => fo_et (hfr i hi) (hfr2 i (by omega) (by omega) (by omega))) (Or.inl rfl) ?_ (by omega)
      · rw [ug_n (by omega)] at hu2
        obtain ⟨val, a, b, cc⟩ := hsb hu2
        have e := hfr2 22 (by omega) (by omega) (by omega)
        exact ⟨val, fun v hv => by rw [e.1 v hv]; exact a v hv, by rw [e.2]; exact b, cc⟩
      · rw [hp4, List.length_cons, show n - (L2.length + 1) = n - L2.length - 1 by omega]
        omega
    · have hle := tk_le hk'
      have hxl := xg_len hx'
      have hpx := po_xg (n := n) hx'
      have hV' : ∀ v, v < n → V' v ≤ 2 := fun v hv => by rw [ht'.1 v hv]; exact tv_le hk' v
      refine br_t (by decide) (pk_lt L'.length n (fun hlt => ?_) (fun hge => ?_))
      · obtain ⟨v0, hv0, ev0⟩ := tk_ex hk' hlt
        refine xw_dec hn (by omega) ⟨v0, hv0, by rw [ht'.1 v0 hv0]; exact ev0⟩ hV' (fun v hv hf hup => nm_r (nI_1 step) ?_)
        have hf' : tv L' v = 2 := by rw [← ht'.1 v hv]; exact hf
        have hk2 : tk n W D U ((v, 0, -1) :: L') := ⟨⟨hv, hf', Nat.zero_le _⟩, Or.inr (Or.inl ⟨rfl, rfl, fun u h1 h2 => by rw [← ht'.1 u h2]; exact hup u h1 h2⟩), hk'⟩
        have hcc : c = tq (n - L.length) := by
          rcases hc with e | ⟨_, e, _⟩
          · exact e
          · omega
        have hm1 := tq_mono (show n - L'.length ≤ n - L.length by omega)
        have hm2 := tq_s (n - L'.length - 1)
        rw [show n - L'.length - 1 + 1 = n - L'.length by omega] at hm2
        have hp3 : po n ((v, 0, -1) :: L') = po n L' + tq (n - L'.length - 1) := rfl
        refine ih (step + 1) x ((v, 0, -1) :: L') W D U ln _ _ _ P (tq (n - ((v, 0, -1) :: L').length)) ⟨hk2, hub, ⟨h24, h25⟩, hso, hco, fun m => by rw [as_cons (show (-1 : Int) ≠ -2 by decide), as_xg hx' m]; exact hZ m⟩ (ta_push ht' hk' hf') hln hsb hsf hfr (Or.inl rfl) ?_ (by omega)
        rw [hp3, List.length_cons, show n - (L'.length + 1) = n - L'.length - 1 by omega]
        omega
      · have emk : mk V' n = mk (tv L') n := mk_cg n ht'.1
        have hsat := mk_sat hk' hge hcl
        have hPm : P (mk (tv L') n) := hco _ (fun r hr hu => hsat r (by omega) hu)
        have hZm : Z (mk (tv L') n) := (hZ _).mpr ((as_xg hx' _).mp (mk_full hk' hge).2)
        have hmin : ∀ m, m < 2 ^ n → P m → Z m → mk (tv L') n ≤ m := fun m hm hp hz => mk_min hk' hge (hso m hp) ((as_xg hx' m).mpr ((hZ m).mp hz)) hm
        have hml := mk_lt (tv L') n
        have h8 := p2_8 hn
        have hcc : c = tq (n - L.length) := by
          rcases hc with e | ⟨_, e1, e2⟩
          · exact e
          · have e3 := hxl.2 (by omega)
            rw [e3] at hPm
            exact absurd hPm e2
        have hc2 := tq_2 (n - L.length)
        refine xw_am hn hV' ?_
        rw [emk]
        refine zb_b opt (fun ho => H _ _ _ _ _ _ _ _ _ (sf_one ho hsf hml hPm hZm hmin) hfr) (fun ho => ?_)
        have hob2 : -1000 ≤ pb_ob C n (mk (tv L') n) ∧ pb_ob C n (mk (tv L') n) ≤ 1000 := by
          have := pb_sm_8 (g := fun v => if (mk (tv L') n).testBit v = true then C v else 0) (B := 15) hn (by omega) (fun v hv => by
            have := hCb v hv
            (try dsimp only)
            split <;> omega)
          have e : pb_ob C n (mk (tv L') n) = pb_sm (fun v => if (mk (tv L') n).testBit v = true then C v else 0) n := rfl
          omega
        subst ho
        refine xw_obj hn (by omega) hcost (xw_dem rfl hn hcost hCb hob2 (fun W' D' f' g' => nm_r (nI_1 step) ?_))
        have hsv2 : sv n W D U L' P Z := ⟨hk', hub, ⟨h24, h25⟩, hso, hco, fun m => (hZ m).trans (as_xg hx' m).symm⟩
        have hB := sv_bound hn hsv2 hsb hCb hob2 ⟨_, hPm, rfl⟩ f' g'
        exact ih (step + 1) (nI (mk (tv L') n)) L' W' D' (ug U 22 true) ln V' R' T' _ 1 hB.1 ht' hln hB.2 (sf_new hsf hml hPm hZm hmin) (fun i hi => fo_et (hfr i hi) (g' i (by omega))) (Or.inr ⟨rfl, by omega, fun z => by have := z.2; omega⟩) (by omega) (by omega)
theorem xw_search {post : Int32 → SX → Prop} {opt : Bool} {P0 Z : Nat → Prop} {C W D : Nat → Int} {U : Nat → Bool} {L : List En} {V : Nat → Nat} {R : Nat → Int} {T : Nat → Nat} {ln : Nat} {p : Int32} (hp : p = b2 opt) (hn : n ≤ 8) (hC0 : ∀ v, v < n → W (27 * 8 + v) = C v) (hCb : ∀ v, v < n → -15 ≤ C v ∧ C v ≤ 15) (hsv : sv n W D U L P0 Z) (hta : ta n V R T L) (hln : ln < 32) (hsb : sb n W D U C P0) (hpo : po n L = 0) (H : ∀ (x : Int32) (ts ln : Nat) (W' D' : Nat → Int) (U : Nat → Bool) (V : Nat → Nat) (R : Nat → Int) (T : Nat → Nat), sr n opt C P0 Z x → (∀ i, i < 22 ∨ i = 26 ∨ i = 27 → fo_eq W D W' D' n i) → post x (q0, q1, q2, q3, q4, q5, q6, q7, q8, q9, q10, q11, nI n, frR, flR, frc, fin, fbe, flo, fcl, nI ts, nI ln, aZ W', aZ D', xh, xa, aB U, aN V, aZ R, aN T)) : wpX_search post (q0, q1, q2, q3, q4, q5, q6, q7, q8, q9, q10, q11, nI n, frR, flR, frc, fin, fbe, flo, fcl, nI L.length, nI ln, aZ W, aZ D, xh, xa, aB U, aN V, aZ R, aN T) p := by
  subst hp
  refine Exists.intro 1025 (xl_search (W0 := W) (D0 := D) hn hC0 hCb H 1025 0 (-1) L W D U ln V R T P0 (tq (n - L.length)) hsv hta hln hsb (Or.inl ⟨rfl, fun _ => Iff.rfl⟩) (fun i _ => fo_er _ _ _ _) (Or.inl rfl) ?_ (by omega))
  have h1 := tq_mono (show n - L.length ≤ 8 by omega)
  have h2 : tq 8 = 767 := by decide
  omega
end
end
section
/-! X: prepare, placeAssumptions; the search's first facts -/
def pu (U : Nat → Bool) (rc i : Nat) : Nat → Bool := fun j => if j < i then decide (j < rc) else U j
theorem pu_s {U : Nat → Bool} {rc i : Nat} : ug (pu U rc i) i (decide (i < rc)) = pu U rc (i + 1) := by
  funext j
  show (if j = i then decide (i < rc) else if j < i then decide (j < rc) else U j) = (if j < i + 1 then decide (j < rc) else U j)
  by_cases h : j = i
  · rw [if_pos h, if_pos (by omega), h]
  · rw [if_neg h]
    by_cases h2 : j < i
    · rw [if_pos h2, if_pos (by omega)]
    · rw [if_neg h2, if_neg (by omega)]
theorem pu_0 {U : Nat → Bool} {rc : Nat} : pu U rc 0 = U := by
  funext j
  exact if_neg (by omega)
def pv (V : Nat → Nat) (i : Nat) : Nat → Nat := fun j => if j < i then 2 else V j
theorem pv_s {V : Nat → Nat} {i : Nat} : ug (pv V i) i 2 = pv V (i + 1) := by
  funext j
  show (if j = i then 2 else if j < i then 2 else V j) = (if j < i + 1 then 2 else V j)
  by_cases h : j = i
  · rw [if_pos h, if_pos (by omega)]
  · rw [if_neg h]
    by_cases h2 : j < i
    · rw [if_pos h2, if_pos (by omega)]
    · rw [if_neg h2, if_neg (by omega)]
theorem pv_0 {V : Nat → Nat} : pv V 0 = V := by
  funext j
  exact if_neg (by omega)
theorem pu_1 {U : Nat → Bool} {rc r : Nat} (hr : r < 60) : pu U rc 60 r = decide (r < rc) := if_pos hr
section
variable {q0 q1 q2 q3 q4 q5 q6 q7 q8 q9 q10 q11 fn frR flR frc fin fbe flo fcl fts fln : Int32} {xw xd xh xa xu xv xr xt : Nat → Int32}
variable {W D : Nat → Int} {U : Nat → Bool} {n : Nat} {V : Nat → Nat}
theorem xl_prep35 {post : SX → Prop} {wb has : Bool} {im : Nat} {be : Int} {C : Nat → Int} (hn : n ≤ 8) (him : im < 2147483648) (hC : ∀ v, v < n → W (27 * 8 + v) = C v) (hCb : ∀ v, v < n → -15 ≤ C v ∧ C v ≤ 15) (hbe : has = true → -1000 ≤ be ∧ be ≤ 1000) (H0 : (wb = false ∨ has = false) → post (q0, q1, q2, q3, q4, q5, q6, q7, q8, q9, q10, q11, nI n, frR, flR, frc, xi has im, zI be, flo, fcl, nI 0, nI 0, aZ W, aZ D, xh, xa, aB U, aN (pv V n), xr, xt)) (H1 : wb = true → has = true → ∀ W' D', fo_is W' D' n 22 (fun v => -1 * C v) (max 0 (pb_cn (fun v => -1 * C v) (1 - be) n)) → (∀ i, i ≠ 22 → fo_eq W D W' D' n i) → post (q0, q1, q2, q3, q4, q5, q6, q7, q8, q9, q10, q11, nI n, frR, flR, frc, xi has im, zI be, flo, fcl, nI 0, nI 0, aZ W', aZ D', xh, xa, aB (ug U 22 true), aN (pv V n), xr, xt)) : ∀ k i, i ≤ n → n < k + i → wX_prepare_35 post (b2 wb) q0 q1 q2 q3 q4 q5 q6 q7 q8 q9 q10 q11 (nI n) frR flR frc (xi has im) (zI be) flo fcl fts fln k (nI i) (aZ W) (aZ D) xh xa (aB U) (aN (pv V i)) xr xt := by
  intro k
  induction k with
  | zero => intro i _ h; omega
  | succ k ih =>
    intro i h1 h2
    by_cases hi : i < n
    · refine br_f (nI_ge hi (by omega)) ⟨in_n i (by omega), nm_r (wr_n i 2 rfl rfl) (nm_r (nI_1 i) ?_)⟩
      rw [pv_s]
      exact ih (i + 1) (by omega) (by omega)
    · have e : i = n := by omega
      subst e
      refine br_t (nI_le (Nat.le_refl _) (by omega)) (zb_b wb (fun z => H0 (Or.inl z)) (fun z => zb_in him (fun z2 => H0 (Or.inr z2)) (fun z2 => xw_dem rfl hn hC hCb (hbe z2) (fun W' D' a b => H1 z z2 W' D' a b))))
theorem xl_prep2 {post : SX → Prop} {wb has : Bool} {im rc : Nat} {be : Int} {C : Nat → Int} (hn : n ≤ 8) (hrc : rc ≤ 10) (him : im < 2147483648) (hC : ∀ v, v < n → W (27 * 8 + v) = C v) (hCb : ∀ v, v < n → -15 ≤ C v ∧ C v ≤ 15) (hbe : has = true → -1000 ≤ be ∧ be ≤ 1000) (H0 : (wb = false ∨ has = false) → post (q0, q1, q2, q3, q4, q5, q6, q7, q8, q9, q10, q11, nI n, frR, flR, nI rc, xi has im, zI be, flo, fcl, nI 0, nI 0, aZ W, aZ D, xh, xa, aB (pu U rc 60), aN (pv V n), xr, xt)) (H1 : wb = true → has = true → ∀ W' D', fo_is W' D' n 22 (fun v => -1 * C v) (max 0 (pb_cn (fun v => -1 * C v) (1 - be) n)) → (∀ i, i ≠ 22 → fo_eq W D W' D' n i) → post (q0, q1, q2, q3, q4, q5, q6, q7, q8, q9, q10, q11, nI n, frR, flR, nI rc, xi has im, zI be, flo, fcl, nI 0, nI 0, aZ W', aZ D', xh, xa, aB (ug (pu U rc 60) 22 true), aN (pv V n), xr, xt)) : ∀ k i, i ≤ 60 → 60 < k + i → wX_prepare_2 post (b2 wb) q0 q1 q2 q3 q4 q5 q6 q7 q8 q9 q10 q11 (nI n) frR flR (nI rc) (xi has im) (zI be) flo fcl fts fln k (nI i) (aZ W) (aZ D) xh xa (aB (pu U rc i)) (aN V) xr xt := by
  intro k
  induction k with
  | zero => intro i _ h; omega
  | succ k ih =>
    intro i h1 h2
    by_cases hi : i < 60
    · have ih' := ih (i + 1) (by omega) (by omega)
      refine br_f (nI_ge (b := 60) hi (by decide)) (pk_le rc i (fun q => ⟨in_n i hi, nm_r (e' := aB (pu U rc (i + 1))) ?_ (nm_r (nI_1 i) ih')⟩) (fun q => ⟨in_n i hi, nm_r (e' := aB (pu U rc (i + 1))) ?_ (nm_r (nI_1 i) ih')⟩))
      · rw [wr_b i false rfl b2_n0, ← pu_s, decide_eq_false (show ¬ i < rc by omega)]
      · rw [wr_b i true rfl b2_n1, ← pu_s, decide_eq_true (show i < rc by omega)]
    · have e : i = 60 := by omega
      subst e
      have a := xl_prep35 (V := V) (U := pu U rc 60) (frc := nI rc) (fts := fts) (fln := fln) hn him hC hCb hbe H0 H1 (n + 1) 0 (by omega) (by omega)
      rw [pv_0] at a
      exact br_t (by decide) (Exists.intro (n + 1) a)
theorem xw_prep {post : SX → Prop} {has : Bool} {im rc : Nat} {be : Int} {C : Nat → Int} {p : Int32} (wb : Bool) (hp : p = b2 wb) (hn : n ≤ 8) (hrc : rc ≤ 10) (him : im < 2147483648) (hC : ∀ v, v < n → W (27 * 8 + v) = C v) (hCb : ∀ v, v < n → -15 ≤ C v ∧ C v ≤ 15) (hbe : has = true → -1000 ≤ be ∧ be ≤ 1000) (H0 : (wb = false ∨ has = false) → post (q0, q1, q2, q3, q4, q5, q6, q7, q8, q9, q10, q11, nI n, frR, flR, nI rc, xi has im, zI be, flo, fcl, nI 0, nI 0, aZ W, aZ D, xh, xa, aB (pu U rc 60), aN (pv V n), xr, xt)) (H1 : wb = true → has = true → ∀ W' D', fo_is W' D' n 22 (fun v => -1 * C v) (max 0 (pb_cn (fun v => -1 * C v) (1 - be) n)) → (∀ i, i ≠ 22 → fo_eq W D W' D' n i) → post (q0, q1, q2, q3, q4, q5, q6, q7, q8, q9, q10, q11, nI n, frR, flR, nI rc, xi has im, zI be, flo, fcl, nI 0, nI 0, aZ W', aZ D', xh, xa, aB (ug (pu U rc 60) 22 true), aN (pv V n), xr, xt)) : wpX_prepare post (q0, q1, q2, q3, q4, q5, q6, q7, q8, q9, q10, q11, nI n, frR, flR, nI rc, xi has im, zI be, flo, fcl, fts, fln, aZ W, aZ D, xh, xa, aB U, aN V, xr, xt) p := by
  subst hp
  have a := xl_prep2 (U := U) (V := V) (fts := fts) (fln := fln) hn hrc him hC hCb hbe H0 H1 61 0 (by omega) (by omega)
  rw [pu_0] at a
  exact Exists.intro 61 a
theorem xl_pla {post : SX → Prop} {A : Nat → Nat} (hn : n ≤ 8) (hA : ∀ v, v < n → A v ≤ 2) (H : ∀ L V R T, tk n W D U L → ta n V R T L → (∀ e, e ∈ L → e.2.2 = -2) → (∀ v, v < n → tv L v = A v) → post (q0, q1, q2, q3, q4, q5, q6, q7, q8, q9, q10, q11, nI n, frR, flR, frc, fin, fbe, flo, fcl, nI L.length, fln, aZ W, aZ D, xh, aN A, aB U, aN V, aZ R, aN T)) : ∀ k i L V R T, i ≤ n → n < k + i → tk n W D U L → ta n V R T L → (∀ e, e ∈ L → e.2.2 = -2) → (∀ v, v < i → tv L v = A v) → (∀ v, i ≤ v → tv L v = 2) → wX_placeAssumptions_2 post k (nI i) q0 q1 q2 q3 q4 q5 q6 q7 q8 q9 q10 q11 (nI n) frR flR frc fin fbe flo fcl (nI L.length) fln (aZ W) (aZ D) xh (aN A) (aB U) (aN V) (aZ R) (aN T) := by
  intro k
  induction k with
  | zero => intro i L V R T _ h; omega
  | succ k ih =>
    intro i L V R T h1 h2 hk ht ha hb hc
    by_cases hi : i < n
    · have hai := hA i hi
      have hf := hc i (Nat.le_refl _)
      have hl := tk_lt hk hi hf
      refine br_f (nI_ge hi (by omega)) ⟨in_n i (by omega), pk_eq (A i) 2 (fun c => nm_r (nI_1 i) (ih (i + 1) L V R T (by omega) (by omega) hk ht ha (lt_s hb (by rw [hf, c])) (fun v hv => hc v (by omega)))) (fun c => ⟨in_n i (by omega), xw_asg (b := A i) (-2) (by omega) (by omega) (rd_n i) rfl (nm_r (nI_1 i) (ih (i + 1) ((i, A i, -2) :: L) _ _ _ (by omega) (by omega) ⟨⟨hi, hf, ?_⟩, Or.inl ⟨rfl, ha⟩, hk⟩ (ta_push ht hk hf) (fun e he => ?_) (lt_s (fun v hv => ?_) tv_h) (fun v hv => ?_)))⟩) (rd_n i)⟩
      · show A i ≤ 1; omega
      · rcases List.mem_cons.mp he with z | z
        · subst z; rfl
        · exact ha e z
      · rw [tv_t (e := (i, A i, -2)) (show v ≠ i by omega)]; exact hb v hv
      · rw [tv_t (e := (i, A i, -2)) (show v ≠ i by omega)]; exact hc v (by omega)
    · have e : i = n := by omega
      subst e
      exact br_t (nI_le (Nat.le_refl _) (by omega)) (H L V R T hk ht ha hb)
theorem xw_pla {post : SX → Prop} {A : Nat → Nat} {R : Nat → Int} {T : Nat → Nat} (hn : n ≤ 8) (hA : ∀ v, v < n → A v ≤ 2) (ht : ta n V R T []) (H : ∀ L V R T, tk n W D U L → ta n V R T L → (∀ e, e ∈ L → e.2.2 = -2) → (∀ v, v < n → tv L v = A v) → post (q0, q1, q2, q3, q4, q5, q6, q7, q8, q9, q10, q11, nI n, frR, flR, frc, fin, fbe, flo, fcl, nI L.length, fln, aZ W, aZ D, xh, aN A, aB U, aN V, aZ R, aN T)) : wpX_placeAssumptions post (q0, q1, q2, q3, q4, q5, q6, q7, q8, q9, q10, q11, nI n, frR, flR, frc, fin, fbe, flo, fcl, nI 0, fln, aZ W, aZ D, xh, aN A, aB U, aN V, aZ R, aN T) :=
  Exists.intro (n + 1) (xl_pla hn hA H (n + 1) 0 [] V R T (by omega) (by omega) trivial ht (fun e he => by cases he) lt_0 (fun v _ => rfl))
end
theorem ta_nil {n : Nat} {V : Nat → Nat} {R : Nat → Int} {T : Nat → Nat} : ta n (pv V n) R T [] := ⟨fun _ hv => if_pos hv, trivial⟩
theorem po_as {n : Nat} {L : List En} (h : ∀ e, e ∈ L → e.2.2 = -2) : po n L = 0 := by
  induction L with
  | nil => rfl
  | cons e L ih =>
    show po n L + (if e.2.2 = -1 then _ else 0) = 0
    rw [if_neg (by rw [h e List.mem_cons_self]; decide), ih (fun x hx => h x (List.mem_cons_of_mem _ hx))]
/-- agreement with the assumptions -/
def zA (n : Nat) (A : Nat → Nat) (m : Nat) : Prop := ∀ v, v < n → A v ≠ 2 → A v = (m.testBit v).toNat
theorem zA_as {n : Nat} {W D : Nat → Int} {U : Nat → Bool} {A : Nat → Nat} {L : List En} (hk : tk n W D U L) (ha : ∀ e, e ∈ L → e.2.2 = -2) (hA : ∀ v, v < n → tv L v = A v) (m : Nat) : zA n A m ↔ as L m := by
  constructor
  · intro z e he _
    have h := tv_mem hk he
    have e1 := hA e.1 h.2.2
    rw [← z e.1 h.2.2 (by omega), ← e1, h.1]
  · intro z v hv hne
    rw [← hA v hv] at hne ⊢
    obtain ⟨e, he, e1, e2⟩ := tv_in hne
    rw [← e2, ← e1]
    exact z e he (ha e he)
/-- a set of allowed masks: the rows and, if wanted, one more form r0 -/
theorem sv_rows {n rc : Nat} {W D : Nat → Int} {U : Nat → Bool} {L : List En} {Z : Nat → Prop} (hrc : rc ≤ 10) (hb : ∀ r : Nat, r < rc → (∀ v, v < n → -40 ≤ W (r * 8 + v) ∧ W (r * 8 + v) ≤ 40) ∧ 0 ≤ D r ∧ D r ≤ 1220) (hk : tk n W D (pu U rc 60) L) (hZ : ∀ m, Z m ↔ as L m) : sv n W D (pu U rc 60) L (pb_fe W D n rc) Z := by
  have hu : ∀ r : Nat, r < 60 → pu U rc 60 r = true → r < rc := fun r hr z => by
    rw [pu_1 hr] at z
    exact of_decide_eq_true z
  refine ⟨hk, fun r hr z => ?_, ⟨?_, ?_⟩, fun m hm r hr z => hm r (hu r hr z), fun m hm r hr => hm r (by omega) ?_, hZ⟩
  · have := hb r (hu r hr z)
    exact ⟨fun v hv => by have := this.1 v hv; omega, by omega⟩
  · rw [pu_1 (by omega)]; exact decide_eq_false (by omega)
  · rw [pu_1 (by omega)]; exact decide_eq_false (by omega)
  · rw [pu_1 (by omega)]; exact decide_eq_true hr
theorem sv_more {n rc r0 : Nat} {W D W' D' : Nat → Int} {U : Nat → Bool} {L : List En} {Z Q : Nat → Prop} {F : Nat → Int} {e : Int} (hr0 : 22 ≤ r0) (hr1 : r0 < 24) (hrc : rc ≤ 10) (hb : ∀ r : Nat, r < rc → (∀ v, v < n → -40 ≤ W (r * 8 + v) ∧ W (r * 8 + v) ≤ 40) ∧ 0 ≤ D r ∧ D r ≤ 1220) (hF : ∀ v, v < n → -9999 ≤ F v ∧ F v ≤ 9999) (he : 0 ≤ e ∧ e ≤ 9999) (hf : fo_is W' D' n r0 F e) (hfr : ∀ i, i ≠ r0 → fo_eq W D W' D' n i) (hk : tk n W' D' (ug (pu U rc 60) r0 true) L) (hQ : ∀ m, Q m ↔ pb_sat F e n m) (hZ : ∀ m, Z m ↔ as L m) : sv n W' D' (ug (pu U rc 60) r0 true) L (fun m => pb_fe W D n rc m ∧ Q m) Z := by
  have hu : ∀ r : Nat, r < 60 → r ≠ r0 → ug (pu U rc 60) r0 true r = true → r < rc := fun r hr hne z => by
    rw [ug_n hne, pu_1 hr] at z
    exact of_decide_eq_true z
  refine ⟨hk, fun r hr z => ?_, ⟨?_, ?_⟩, fun m hm r hr z => ?_, fun m hm => ⟨fun r hr => ?_, ?_⟩, hZ⟩
  · by_cases c : r = r0
    · subst c
      rw [hf.2]
      exact ⟨fun v hv => by rw [hf.1 v hv]; exact hF v hv, he⟩
    · have := hb r (hu r hr c z)
      have e := hfr r c
      rw [e.2]
      exact ⟨fun v hv => by rw [e.1 v hv]; have := this.1 v hv; omega, by omega⟩
  · rw [ug_n (by omega), pu_1 (by omega)]; exact decide_eq_false (by omega)
  · rw [ug_n (by omega), pu_1 (by omega)]; exact decide_eq_false (by omega)
  · by_cases c : r = r0
    · subst c
      exact pb_sat_cg (fun v hv => (hf.1 v hv).symm) hf.2.symm ((hQ m).mp hm.2)
    · have e := hfr r c
      exact pb_sat_cg (fun v hv => (e.1 v hv).symm) e.2.symm (hm.1 r (hu r hr c z))
  · have e := hfr r (by omega)
    exact pb_sat_cg (fun v hv => e.1 v hv) e.2 (hm r (by omega) (by rw [ug_n (by omega), pu_1 (by omega)]; exact decide_eq_true hr))
  · exact (hQ m).mpr (pb_sat_cg (fun v hv => hf.1 v hv) hf.2 (hm r0 (by omega) ug_s))
end
section
/-! Y: the loops over all masks -/
section
variable {gn gR gL gk gc gh gi gl gx : Int32} {yw yd yf yp yc ya yv : Nat → Int32}
variable {w d C : Nat → Int} {n rc im : Nat} {has : Bool}
theorem yl_imp0 {post : Int32 → SY → Prop} (hn : n ≤ 8) (hrc : rc ≤ 10) (hb : pb_bd w d n rc) (hC : ∀ v, v < n → -1000 ≤ C v ∧ C v ≤ 1000) (hgi : has = true → gi = nI im ∧ im < 2147483648) (hno : ∀ m, m < 2 ^ n → ¬ pb_be w d C n rc has im m) (H : wpY_shut (fun u => wpY_status (fun r => post r u) u) (nI n, gR, gL, gk, nI rc, b2 has, gi, gl, gx, aZ w, aZ d, yf, yp, aZ C, ya, yv)) : ∀ k i, i ≤ 2 ^ n → 2 ^ n < k + i → wY_improve_14 post (nI n) gR gL gk (nI rc) (b2 has) gi gl gx (aZ w) (aZ d) yf yp (aZ C) ya yv k (nI i) := by
  have h8 := p2_8 hn
  intro k
  induction k with
  | zero => intro i _ h; omega
  | succ k ih =>
    intro i h1 h2
    by_cases hi : i < 2 ^ n
    · refine br_f (by rw [sh_1 hn]; exact nI_ge hi (by omega)) (yw_bet hn hrc (by omega) hb hC hgi (fun z => absurd z (hno i hi)) (fun _ => br_t rfl (nm_r (nI_1 i) (ih (i + 1) (by omega) (by omega)))))
    · have e : i = 2 ^ n := by omega
      subst e
      exact br_t (by rw [sh_1 hn]; exact nI_le (Nat.le_refl _) (by omega)) H
theorem yl_imp1 {post : Int32 → SY → Prop} {m0 : Nat} (hn : n ≤ 8) (hrc : rc ≤ 10) (hb : pb_bd w d n rc) (hC : ∀ v, v < n → -1000 ≤ C v ∧ C v ≤ 1000) (hgi : has = true → gi = nI im ∧ im < 2147483648) (hm0 : m0 < 2 ^ n) (hbe : pb_be w d C n rc has im m0) (hmin : ∀ m, m < 2 ^ n → pb_be w d C n rc has im m → m0 ≤ m) (H : wpY_take (fun u => wpY_status (fun r => post r u) u) (nI n, gR, gL, gk, nI rc, b2 has, gi, gl, gx, aZ w, aZ d, yf, yp, aZ C, ya, yv) (nI m0)) : ∀ k i, i ≤ m0 → m0 < k + i → wY_improve_14 post (nI n) gR gL gk (nI rc) (b2 has) gi gl gx (aZ w) (aZ d) yf yp (aZ C) ya yv k (nI i) := by
  have h8 := p2_8 hn
  intro k
  induction k with
  | zero => intro i _ h; omega
  | succ k ih =>
    intro i h1 h2
    refine br_f (by rw [sh_1 hn]; exact nI_ge (show i < 2 ^ n by omega) (by omega)) (yw_bet hn hrc (by omega) hb hC hgi (fun z => br_f (by decide) ?_) (fun z => br_t rfl (nm_r (nI_1 i) (ih (i + 1) ?_ (by omega)))))
    · have := hmin i (by omega) z
      have e : i = m0 := by omega
      subst e
      exact H
    · have : i ≠ m0 := fun e => z (by rw [e]; exact hbe)
      omega
/-- the best of the masks below i: x -/
def oi (n : Nat) (C : Nat → Int) (P : Nat → Prop) (i : Nat) (x : Int32) : Prop := (x = -1 ∧ ∀ m, m < i → ¬ P m) ∨ (∃ f, f < i ∧ x = nI f ∧ P f ∧ ∀ m, m < i → P m → pb_ob C n f < pb_ob C n m ∨ (pb_ob C n f = pb_ob C n m ∧ f ≤ m))
theorem yl_opt {post : Int32 → SY → Prop} (hn : n ≤ 8) (hrc : rc ≤ 10) (hb : pb_bd w d n rc) (hC : ∀ v, v < n → -1000 ≤ C v ∧ C v ≤ 1000) (hgi : has = true → gi = nI im ∧ im < 2147483648) (H : ∀ x, oi n C (pb_be w d C n rc has im) (2 ^ n) x → (x < 0 → wY_optimise_68 post (nI n) gR gL gk (nI rc) (b2 has) gi gl gx (aZ w) (aZ d) yf yp (aZ C) ya yv) ∧ (¬ x < 0 → wpY_take (fun u => match u with | (gn, gR, gL, gk, gc, gh, gi, gl, gx, yw, yd, yf, yp, yc, ya, yv) => wY_optimise_68 post gn gR gL gk gc gh gi gl gx yw yd yf yp yc ya yv) (nI n, gR, gL, gk, nI rc, b2 has, gi, gl, gx, aZ w, aZ d, yf, yp, aZ C, ya, yv) x)) : ∀ k i x, i ≤ 2 ^ n → 2 ^ n < k + i → oi n C (pb_be w d C n rc has im) i x → wY_optimise_16 post (nI n) gR gL gk (nI rc) (b2 has) gi gl gx (aZ w) (aZ d) yf yp (aZ C) ya yv k x (nI i) := by
  have h8 := p2_8 hn
  intro k
  induction k with
  | zero => intro i x _ h; omega
  | succ k ih =>
    intro i x h1 h2 ho
    by_cases hi : i < 2 ^ n
    · refine br_f (by rw [sh_1 hn]; exact nI_ge hi (by omega)) (yw_bet hn hrc (by omega) hb hC hgi (fun z => br_f (by decide) ?_) (fun z => br_t rfl (nm_r (nI_1 i) (ih (i + 1) x (by omega) (by omega) ?_))))
      · rcases ho with ⟨e, hno⟩ | ⟨f, hf, e, hp, hm⟩
        · subst e
          exact br_t (by decide) (nm_r (nI_1 i) (ih (i + 1) (nI i) (by omega) (by omega) (Or.inr ⟨i, by omega, rfl, z, lt_s (fun m hm hp => absurd hp (hno m hm)) (fun _ => Or.inr ⟨rfl, Nat.le_refl _⟩)⟩)))
        · subst e
          have b1 := pb_ob_b (m := i) hn hC
          have b2' := pb_ob_b (m := f) hn hC
          refine br_f (nI_pos (by omega)) (yw_obj hn (by omega) (yw_obj hn (by omega) (zb_le (pb_ob C n f) (pb_ob C n i) (fun q => nm_r (nI_1 i) (ih (i + 1) (nI f) (by omega) (by omega) (Or.inr ⟨f, by omega, rfl, hp, lt_s hm (fun _ => by omega)⟩))) (fun q => nm_r (nI_1 i) (ih (i + 1) (nI i) (by omega) (by omega) (Or.inr ⟨i, by omega, rfl, z, lt_s (fun m h3 h4 => ?_) (fun _ => Or.inr ⟨rfl, Nat.le_refl _⟩)⟩))))))
          have := hm m h3 h4
          omega
      · rcases ho with ⟨e, hno⟩ | ⟨f, hf, e, hp, hm⟩
        · exact Or.inl ⟨e, lt_s hno z⟩
        · exact Or.inr ⟨f, by omega, e, hp, lt_s hm (fun q => absurd q z)⟩
    · have e : i = 2 ^ n := by omega
      subst e
      exact br_t (by rw [sh_1 hn]; exact nI_le (Nat.le_refl _) (by omega)) (H x ho)
theorem yl_wit20 {post : Int32 → Prop} {J : Int32 → Prop} {A : Nat → Nat} {m : Nat} {B : Prop} (hn : n ≤ 8) (hm : m < 2147483648) (hA : ∀ v, v < n → A v ≤ 2) (H1 : B → zA n A m → post (nI m)) (H0 : ¬ (B ∧ zA n A m) → J (nI (m + 1))) : ∀ k i x, i ≤ n → n < k + i → ((x = 1 ∧ B ∧ zA i A m) ∨ (x = 0 ∧ ¬ (B ∧ zA i A m))) → wY_witness_20 post J (nI m) (nI n) gR gL gk gc gh gi gl gx yw yd yf yp yc (aN A) yv k x (nI i) := by
  intro k
  induction k with
  | zero => intro i x _ h; omega
  | succ k ih =>
    intro i x h1 h2 hx
    by_cases hi : i < n
    · have hai := hA i hi
      have hbt := Bool.toNat_le (m.testBit i)
      have OK : (A i ≠ 2 → A i = (m.testBit i).toNat) → ((x = 1 ∧ B ∧ zA (i + 1) A m) ∨ (x = 0 ∧ ¬ (B ∧ zA (i + 1) A m))) := fun q => by
        rcases hx with ⟨e, b, z⟩ | ⟨e, z⟩
        · exact Or.inl ⟨e, b, lt_s z q⟩
        · exact Or.inr ⟨e, fun y => z ⟨y.1, fun v hv => y.2 v (by omega)⟩⟩
      refine br_f (nI_ge hi (by omega)) ⟨in_n i (by omega), pk_eq (A i) 2 (fun c => nm_r (nI_1 i) (ih (i + 1) x (by omega) (by omega) (OK (fun z => absurd c z)))) (fun c => ⟨in_n i (by omega), ?_⟩) (rd_n i)⟩
      exact pk_eq (A i) (m.testBit i).toNat (fun q => nm_r (nI_1 i) (ih (i + 1) x (by omega) (by omega) (OK (fun _ => q)))) (fun q => nm_r (nI_1 i) (ih (i + 1) 0 (by omega) (by omega) (Or.inr ⟨rfl, fun y => q (y.2 i (by omega) c)⟩))) (rd_n i) (bt_x hm (by omega))
    · have e : i = n := by omega
      subst e
      rcases hx with ⟨e, b, z⟩ | ⟨e, z⟩
      · subst e
        exact br_t (nI_le (Nat.le_refl _) (by omega)) (br_f (by decide) (H1 b z))
      · subst e
        exact br_t (nI_le (Nat.le_refl _) (by omega)) (br_t rfl (nm_r (nI_1 m) (H0 z)))
theorem yl_wit {post : Int32 → Prop} {A : Nat → Nat} (hn : n ≤ 8) (hrc : rc ≤ 10) (hb : pb_bd w d n rc) (hC : ∀ v, v < n → -1000 ≤ C v ∧ C v ≤ 1000) (hgi : has = true → gi = nI im ∧ im < 2147483648) (hA : ∀ v, v < n → A v ≤ 2) (H : ∀ x, ((x = -1 ∧ ∀ m, m < 2 ^ n → ¬ (pb_be w d C n rc has im m ∧ zA n A m)) ∨ (∃ m0, m0 < 2 ^ n ∧ x = nI m0 ∧ pb_be w d C n rc has im m0 ∧ zA n A m0 ∧ ∀ m, m < m0 → ¬ (pb_be w d C n rc has im m ∧ zA n A m))) → post x) : ∀ k i, i ≤ 2 ^ n → 2 ^ n < k + i → (∀ m, m < i → ¬ (pb_be w d C n rc has im m ∧ zA n A m)) → wY_witness_2 post (nI n) gR gL gk (nI rc) (b2 has) gi gl gx (aZ w) (aZ d) yf yp (aZ C) (aN A) yv k (nI i) := by
  have h8 := p2_8 hn
  intro k
  induction k with
  | zero => intro i _ h; omega
  | succ k ih =>
    intro i h1 h2 hno
    by_cases hi : i < 2 ^ n
    · refine br_f (by rw [sh_1 hn]; exact nI_ge hi (by omega)) (yw_bet hn hrc (by omega) hb hC hgi (fun z => Exists.intro (n + 1) (yl_wit20 (B := pb_be w d C n rc has im i) hn (by omega) hA (fun a b => H _ (Or.inr ⟨i, hi, rfl, a, b, hno⟩)) (fun q => ih (i + 1) (by omega) (by omega) (lt_s hno q)) (n + 1) 0 1 (by omega) (by omega) (Or.inl ⟨rfl, z, lt_0⟩))) (fun z => Exists.intro (n + 1) (yl_wit20 (B := pb_be w d C n rc has im i) hn (by omega) hA (fun a b => H _ (Or.inr ⟨i, hi, rfl, a, b, hno⟩)) (fun q => ih (i + 1) (by omega) (by omega) (lt_s hno q)) (n + 1) 0 0 (by omega) (by omega) (Or.inr ⟨rfl, fun y => z y.1⟩))))
    · have e : i = 2 ^ n := by omega
      subst e
      exact br_t (by rw [sh_1 hn]; exact nI_le (Nat.le_refl _) (by omega)) (H _ (Or.inl ⟨rfl, hno⟩))
/-- what entails asks of a mask -/
def hd (a : Nat) (b s : Int) : Prop := if a = 0 then b ≤ s else if a = 1 then s ≤ b else s = b
theorem yl_ent {post : Int32 → Prop} {P : Nat → Int} {kk b : Int} {a : Nat} (hn : n ≤ 8) (hrc : rc ≤ 10) (hb : pb_bd w d n rc) (hP : ∀ v, v < n → -40 ≤ P v ∧ P v ≤ 40) (hk : -400 ≤ kk ∧ kk ≤ 400) (hbb : -500 ≤ b ∧ b ≤ 500) (ha : a < 3) (H0 : (∃ m, m < 2 ^ n ∧ pb_fe w d n rc m ∧ ¬ hd a b (kk + pb_ob P n m)) → post 0) (H1 : (∀ m, m < 2 ^ n → pb_fe w d n rc m → hd a b (kk + pb_ob P n m)) → post 1) : ∀ k i, i ≤ 2 ^ n → 2 ^ n < k + i → (∀ m, m < i → pb_fe w d n rc m → hd a b (kk + pb_ob P n m)) → wY_entails_28 post (nI a) (zI b) (nI n) gR gL (zI kk) (nI rc) gh gi gl gx (aZ w) (aZ d) yf (aZ P) yc ya yv k (nI i) := by
  have h8 := p2_8 hn
  intro k
  induction k with
  | zero => intro i _ h; omega
  | succ k ih =>
    intro i h1 h2 hno
    by_cases hi : i < 2 ^ n
    · have hob := pb_ob_b (m := i) (c := P) hn (fun v hv => by have := hP v hv; omega)
      have K1 : hd a b (kk + pb_ob P n i) → wY_entails_130 post (wY_entails_28 post (nI a) (zI b) (nI n) gR gL (zI kk) (nI rc) gh gi gl gx (aZ w) (aZ d) yf (aZ P) yc ya yv k) (nI a) (zI b) (nI i) 1 (nI n) gR gL (zI kk) (nI rc) gh gi gl gx (aZ w) (aZ d) yf (aZ P) yc ya yv := fun q => yw_fea hn hrc (by omega) hb (fun z => br_f (by decide) (br_f (by decide) (nm_r (nI_1 i) (ih (i + 1) (by omega) (by omega) (lt_s hno (fun _ => q)))))) (fun z => br_t rfl (nm_r (nI_1 i) (ih (i + 1) (by omega) (by omega) (lt_s hno (fun _ => q)))))
      have K0 : ¬ hd a b (kk + pb_ob P n i) → wY_entails_130 post (wY_entails_28 post (nI a) (zI b) (nI n) gR gL (zI kk) (nI rc) gh gi gl gx (aZ w) (aZ d) yf (aZ P) yc ya yv k) (nI a) (zI b) (nI i) 0 (nI n) gR gL (zI kk) (nI rc) gh gi gl gx (aZ w) (aZ d) yf (aZ P) yc ya yv := fun q => yw_fea hn hrc (by omega) hb (fun z => br_f (by decide) (br_t rfl (H0 ⟨i, hi, z, q⟩))) (fun z => br_t rfl (nm_r (nI_1 i) (ih (i + 1) (by omega) (by omega) (lt_s hno (fun y => absurd y z)))))
      have LP : ∀ k2 j, j ≤ n → n < k2 + j → wY_entails_47 post (wY_entails_28 post (nI a) (zI b) (nI n) gR gL (zI kk) (nI rc) gh gi gl gx (aZ w) (aZ d) yf (aZ P) yc ya yv k) (nI a) (zI b) (nI i) (nI n) gR gL (zI kk) (nI rc) gh gi gl gx (aZ w) (aZ d) yf (aZ P) yc ya yv k2 (zI (kk + pb_ob P j i)) (nI j) := by
        intro k2
        induction k2 with
        | zero => intro j _ h; omega
        | succ k2 ih2 =>
          intro j h3 h4
          by_cases hj : j < n
          · refine br_f (nI_ge hj (by omega)) (And.intro (in_n j (by omega)) ?_)
            refine nm_r (e' := zI (kk + pb_ob P (j + 1) i)) ?_ (nm_r (nI_1 j) (ih2 (j + 1) (by omega) (by omega)))
            rw [cb_m (rd_z j) (by omega) (by omega), zI_add, pb_ob_s, Int.add_assoc]
          · have e : j = n := by omega
            subst e
            refine br_t (nI_le (Nat.le_refl _) (by omega)) (pk_eq a 0 (fun e => ?_) (fun e => pk_eq a 1 (fun e2 => ?_) (fun e2 => ?_)))
            · exact zb_lt (kk + pb_ob P j i) b (fun q => K0 (by unfold hd; rw [if_pos e]; omega)) (fun q => K1 (by unfold hd; rw [if_pos e]; exact q))
            · exact zb_lt b (kk + pb_ob P j i) (fun q => K0 (by unfold hd; rw [if_neg e, if_pos e2]; omega)) (fun q => K1 (by unfold hd; rw [if_neg e, if_pos e2]; exact q))
            · exact zb_eq (kk + pb_ob P j i) b (fun q => K1 (by unfold hd; rw [if_neg e, if_neg e2]; exact q)) (fun q => K0 (by unfold hd; rw [if_neg e, if_neg e2]; exact q))
      have z := LP (n + 1) 0 (by omega) (by omega)
      rw [show kk + pb_ob P 0 i = kk from Int.add_zero kk] at z
      exact br_f (by rw [sh_1 hn]; exact nI_ge hi (by omega)) (Exists.intro (n + 1) z)
    · have e : i = 2 ^ n := by omega
      subst e
      exact br_t (by rw [sh_1 hn]; exact nI_le (Nat.le_refl _) (by omega)) (H1 hno)
end
end
section
/-! improve, optimise, witness, entails -/
def pP (W D C : Nat → Int) (n rc : Nat) (has : Bool) (be : Int) (m : Nat) : Prop := pb_fe W D n rc m ∧ (has = true → pb_ob C n m < be)
theorem sv_cg {n : Nat} {W D : Nat → Int} {U : Nat → Bool} {L : List En} {P P' Z : Nat → Prop} (h : sv n W D U L P Z) (hi : ∀ m, P m ↔ P' m) : sv n W D U L P' Z :=
  ⟨h.1, h.2.1, h.2.2.1, fun m hm => h.2.2.2.1 m ((hi m).mpr hm), fun m hm => (hi m).mp (h.2.2.2.2.1 m hm), h.2.2.2.2.2⟩
theorem as_nil (m : Nat) : True ↔ as [] m := ⟨fun _ e he => (by cases he), fun _ => trivial⟩
section
variable {n rR lR rc : Nat} {has : Bool} {im : Nat} {be lo : Int} {co : Bool} {ts ln : Nat} {W D : Nat → Int} {Hd : Nat → Bool} {A : Nat → Nat} {U : Nat → Bool} {V : Nat → Nat} {R : Nat → Int} {T : Nat → Nat} {kk : Int} {gi : Int32} {w d : Nat → Int} {Fd : Nat → Bool} {P C : Nat → Int} {Vy : Nat → Nat}
theorem iv_pP (h : iv n rR lR rc has im be lo W D Hd A kk gi w d Fd P C) (m : Nat) : pb_be w d C n rc has im m ↔ pP W D C n rc has be m := by
  unfold pb_be pP
  rw [iv_fe h m]
  constructor
  · intro z; exact ⟨z.1, fun hh => by have := z.2 hh; have := iv_be h hh; omega⟩
  · intro z; exact ⟨z.1, fun hh => by have := z.2 hh; have := iv_be h hh; omega⟩
theorem iv_cb' (h : iv n rR lR rc has im be lo W D Hd A kk gi w d Fd P C) : ∀ v, v < n → -15 ≤ C v ∧ C v ≤ 15 := fun v hv => (iv_c h v hv).2
theorem xq_prep {post : SX → Prop} (h : iv n rR lR rc has im be lo W D Hd A kk gi w d Fd P C) (H : ∀ W1 D1 U1 V1, (∀ i, i ≠ 22 → fo_eq W D W1 D1 n i) → (∀ L Z, tk n W1 D1 U1 L → (∀ m, Z m ↔ as L m) → sv n W1 D1 U1 L (pP W D C n rc has be) Z ∧ sb n W1 D1 U1 C (pP W D C n rc has be)) → ta n V1 R T [] → post (10, 22, 23, 24, 25, 26, 27, 28, 32, 60, (-1), (-2), nI n, nI rR, nI lR, nI rc, xi has im, zI be, zI lo, b2 co, nI 0, nI 0, aZ W1, aZ D1, aB Hd, aN A, aB U1, aN V1, aZ R, aN T)) : wpX_prepare post (10, 22, 23, 24, 25, 26, 27, 28, 32, 60, (-1), (-2), nI n, nI rR, nI lR, nI rc, xi has im, zI be, zI lo, b2 co, nI ts, nI ln, aZ W, aZ D, aB Hd, aN A, aB U, aN V, aZ R, aN T) 1 := by
  have hN := iv_n h
  have hCb := iv_cb' h
  refine xw_prep true rfl hN.2.1 (by omega) (iv_im h) (iv_c1 h) hCb (fun z => by have := iv_be h z; omega) (fun hh => ?_) (fun _ hh W' D' f' g' => ?_)
  · have hf : has = false := by
      rcases hh with z | z
      · cases z
      · exact z
    refine H W D _ _ (fun i _ => fo_er _ _ _ _) (fun L Z hk hZ => ⟨sv_cg (sv_rows (by omega) (iv_r h) hk hZ) (fun m => ⟨fun z => ⟨z, fun y => by rw [hf] at y; cases y⟩, fun z => z.1⟩), fun z => ?_⟩) ta_nil
    rw [pu_1 (by omega), decide_eq_false (by omega)] at z
    cases z
  · have hb := iv_be h hh
    have hcn := pb_cn_b (F := fun v => -1 * C v) (e := 1 - be) (B := 15) hN.2.1 (fun v hv => by have := hCb v hv; (try dsimp only); omega) (by omega)
    refine H W' D' _ _ g' (fun L Z hk hZ => ⟨sv_cg (sv_more (r0 := 22) (Q := fun m => pb_ob C n m < be) (by omega) (by omega) (by omega) (iv_r h) (fun v hv => by have := hCb v hv; (try dsimp only); omega) (by omega) f' g' hk (fun m => bd_sat.symm) hZ) (fun m => ⟨fun z => ⟨z.1, fun _ => z.2⟩, fun z => ⟨z.1, z.2 hh⟩⟩), fun _ => ⟨be, f'.1, f'.2, fun m hm => hm.2 hh⟩⟩) ta_nil
theorem xw_reach {post : Int32 → SX → Prop} {g e : Int} {p q : Int32} (hp : p = zI g) (hq : q = zI e) (h : iv n rR lR rc has im be lo W D Hd A kk gi w d Fd P C) (hg : g = 1 ∨ g = -1) (he : -2000 ≤ e ∧ e ≤ 2000) (H : ∀ (ts ln : Nat) (W' D' : Nat → Int) (U : Nat → Bool) (V : Nat → Nat) (R : Nat → Int) (T : Nat → Nat), (∀ i, i < 22 ∨ i = 26 ∨ i = 27 → fo_eq W D W' D' n i) → ((∀ m, m < 2 ^ n → pb_fe W D n rc m → e ≤ pb_ob (fun v => g * P v) n m → False) → post 0 (10, 22, 23, 24, 25, 26, 27, 28, 32, 60, (-1), (-2), nI n, nI rR, nI lR, nI rc, xi has im, zI be, zI lo, b2 co, nI ts, nI ln, aZ W', aZ D', aB Hd, aN A, aB U, aN V, aZ R, aN T)) ∧ ((∃ m, m < 2 ^ n ∧ pb_fe W D n rc m ∧ e ≤ pb_ob (fun v => g * P v) n m) → post 1 (10, 22, 23, 24, 25, 26, 27, 28, 32, 60, (-1), (-2), nI n, nI rR, nI lR, nI rc, xi has im, zI be, zI lo, b2 co, nI ts, nI ln, aZ W', aZ D', aB Hd, aN A, aB U, aN V, aZ R, aN T))) : wpX_reachable post (10, 22, 23, 24, 25, 26, 27, 28, 32, 60, (-1), (-2), nI n, nI rR, nI lR, nI rc, xi has im, zI be, zI lo, b2 co, nI ts, nI ln, aZ W, aZ D, aB Hd, aN A, aB U, aN V, aZ R, aN T) p q := by
  subst hp hq
  have hN := iv_n h
  have hCb := iv_cb' h
  have h8 := p2_8 hN.2.1
  have hPb : ∀ v, v < n → -40 ≤ g * P v ∧ g * P v ≤ 40 := fun v hv => by
    have := iv_p h v hv
    rcases hg with z | z <;> rw [z] <;> omega
  have hcn := pb_cn_b (F := fun v => g * P v) (e := e) (B := 40) hN.2.1 hPb (by omega)
  refine xw_prep false rfl hN.2.1 (by omega) (iv_im h) (iv_c1 h) hCb (fun z => by have := iv_be h z; omega) (fun _ => ?_) (fun z => by cases z)
  refine xw_canon (t := 23) (s := 26) (g := g) (F := fun v => g * P v) hN.2.1 (by omega) (by omega) (fun v hv => by rw [(iv_p h v hv).1]) (fun v hv => by have := hPb v hv; (try dsimp only); omega) (by omega) (fun W' D' f' g' => nm_r (e' := aB (ug (pu U rc 60) 23 true)) (by rw [b2_n1, aB_u]) ?_)
  refine xw_search (L := []) (opt := false) (C := C) (P0 := fun m => pb_fe W D n rc m ∧ e ≤ pb_ob (fun v => g * P v) n m) (Z := fun _ => True) rfl hN.2.1 (fun v hv => by rw [(g' 27 (by omega)).1 v hv]; exact iv_c1 h v hv) hCb (sv_more (r0 := 23) (by omega) (by omega) (by omega) (iv_r h) (fun v hv => by have := hPb v hv; (try dsimp only); omega) (by omega) f' g' trivial (fun m => pb_cn_sat.symm) as_nil) ta_nil (by omega) (fun z => ?_) rfl (fun x ts ln W2 D2 U2 V2 R2 T2 hr fr => ?_)
  · rw [ug_n (by omega), pu_1 (by omega), decide_eq_false (by omega)] at z
    cases z
  · have K := H ts ln W2 D2 U2 V2 R2 T2 (fun i hi => fo_et (g' i (by omega)) (fr i hi))
    rcases hr with ⟨e1, hno⟩ | ⟨m0, e1, hm, hp, _⟩
    · subst e1
      exact br_t (by decide) (K.1 (fun m hm a b => hno m hm ⟨a, b⟩ trivial))
    · subst e1
      exact br_f (nI_pos (by omega)) (K.2 ⟨m0, hm, hp⟩)
end
theorem i_vc_improve {k : Nat} {u : SX} {v : SY} (I : i_Rel k u v) (hk : k + 4 ≤ 2051) : wpX_improve (fun r u' => wpY_improve (fun r' v' => r' = r ∧ i_Rel (k + 4) u' v') v) u := by
  refine i_el (Q := fun u v => wpX_improve (fun r u' => wpY_improve (fun r' v' => r' = r ∧ i_Rel (k + 4) u' v') v) u) I ?_
  intro n rR lR rc has im be lo co ts ln W D Hd A U V R T kk gi w d Fd P C Vy h
  have hN := iv_n h
  have him := iv_im h
  have h8 := p2_8 hN.2.1
  have hlo := iv_lo h
  refine zb_b co (fun hco => ?_) (fun hco => ?_)
  · subst hco
    refine xq_prep h (fun W1 D1 U1 V1 fr1 hsv hta => xw_search (L := []) (opt := false) (C := C) (Z := fun _ => True) rfl hN.2.1 (fun v hv => by rw [(fr1 27 (by omega)).1 v hv]; exact iv_c1 h v hv) (iv_cb' h) (hsv [] _ trivial as_nil).1 hta (by omega) (hsv [] _ trivial as_nil).2 rfl (fun x ts2 ln2 W2 D2 U2 V2 R2 T2 hr fr => ?_))
    have h2 : iv n rR lR rc has im be lo W2 D2 Hd A kk gi w d Fd P C := iv_W h (fun i hi => fo_et (fr1 i (by omega)) (fr i hi)) (fun i _ => fo_er _ _ _ _)
    rcases hr with ⟨e1, hno⟩ | ⟨m0, e1, hm, hp, _, hmin, _⟩
    · subst e1
      refine br_t (by decide) (xw_shut him (xw_status him (br_t rfl (Exists.intro (2 ^ n + 1) (yl_imp0 hN.2.1 (by omega) (iv_bdY h) (iv_cb h) (iv_gi h) (fun m hm z => hno m hm ((iv_pP h m).mp z) trivial) (yw_shut hN.2.1 (iv_gi h) (yw_status ?_)) (2 ^ n + 1) 0 (Nat.zero_le _) (by omega))))))
      have e : (if has = true then pb_ob C n im else lo) = (if has = true then be else lo) := by
        by_cases z : has = true
        · rw [if_pos z, if_pos z, (iv_be h z).1]
        · rw [if_neg z, if_neg z]
      rw [e]
      refine ⟨rfl, i_in (iv_lo' h2 ?_)⟩
      by_cases z : has = true
      · rw [if_pos z]; have := iv_be h z; omega
      · rw [if_neg z]; exact hlo
    · subst e1
      have hc2 := iv_c1 h2
      exact br_f (nI_pos (by omega)) (xw_take hN.2.1 (by omega) hc2 (iv_cb h) (by omega) (xw_status (by omega) (br_t rfl (Exists.intro (m0 + 1) (yl_imp1 hN.2.1 (by omega) (iv_bdY h) (iv_cb h) (iv_gi h) hm ((iv_pP h m0).mpr hp) (fun m hm2 z => hmin rfl m hm2 ((iv_pP h m).mp z) trivial) (yw_take hN.2.1 (by omega) (iv_cb h) (by omega) (yw_status ⟨rfl, i_in (iv_take h2 hm)⟩)) (m0 + 1) 0 (by omega) (by omega))))))
  · subst hco
    exact xw_status him (br_f (by decide) (yw_status ⟨rfl, i_in h⟩))
theorem i_vc_witness {k : Nat} {u : SX} {v : SY} (I : i_Rel k u v) (hk : k + 4 ≤ 2051) : wpX_witness (fun r u' => wpY_witness (fun r' => r' = r ∧ i_Rel (k + 4) u' v) v) u := by
  refine i_el (Q := fun u v => wpX_witness (fun r u' => wpY_witness (fun r' => r' = r ∧ i_Rel (k + 4) u' v) v) u) I ?_
  intro n rR lR rc has im be lo co ts ln W D Hd A U V R T kk gi w d Fd P C Vy h
  have hN := iv_n h
  have him := iv_im h
  have h8 := p2_8 hN.2.1
  refine xq_prep h (fun W1 D1 U1 V1 fr1 hsv hta => xw_pla hN.2.1 (iv_a h) hta (fun L V2 R2 T2 hk2 ht2 ha2 hA2 => xw_search (opt := false) (C := C) (Z := zA n A) rfl hN.2.1 (fun v hv => by rw [(fr1 27 (by omega)).1 v hv]; exact iv_c1 h v hv) (iv_cb' h) (hsv L _ hk2 (zA_as hk2 ha2 hA2)).1 ht2 (by omega) (hsv L _ hk2 (zA_as hk2 ha2 hA2)).2 (po_as ha2) (fun x ts2 ln2 W2 D2 U2 V2 R2 T2 hr fr => ?_)))
  have h2 : iv n rR lR rc has im be lo W2 D2 Hd A kk gi w d Fd P C := iv_W h (fun i hi => fo_et (fr1 i (by omega)) (fr i hi)) (fun i _ => fo_er _ _ _ _)
  refine Exists.intro (2 ^ n + 1) (yl_wit hN.2.1 (by omega) (iv_bdY h) (iv_cb h) (iv_gi h) (iv_a h) (fun y hy => ⟨?_, i_in h2⟩) (2 ^ n + 1) 0 (Nat.zero_le _) (by omega) lt_0)
  rcases hr with ⟨e1, hno⟩ | ⟨m0, e1, hm, hp, hz, hmin, _⟩
  · rcases hy with ⟨e2, _⟩ | ⟨m1, hm1, e2, hp1, hz1, _⟩
    · rw [e1, e2]
    · exact absurd hz1 (fun z => hno m1 hm1 ((iv_pP h m1).mp hp1) z)
  · rcases hy with ⟨e2, hno⟩ | ⟨m1, hm1, e2, hp1, hz1, hmin1⟩
    · exact absurd ⟨(iv_pP h m0).mpr hp, hz⟩ (hno m0 hm)
    · have a := hmin rfl m1 hm1 ((iv_pP h m1).mp hp1) hz1
      have b : ¬ m0 < m1 := fun z => hmin1 m0 z ⟨(iv_pP h m0).mpr hp, hz⟩
      rw [e1, e2, show m1 = m0 by omega]
theorem i_vc_optimise {k : Nat} {u : SX} {v : SY} (I : i_Rel k u v) (hk : k + 4 ≤ 2051) : wpX_optimise (fun r u' => wpY_optimise (fun r' v' => r' = r ∧ i_Rel (k + 4) u' v') v) u := by
  refine i_el (Q := fun u v => wpX_optimise (fun r u' => wpY_optimise (fun r' v' => r' = r ∧ i_Rel (k + 4) u' v') v) u) I ?_
  intro n rR lR rc has im be lo co ts ln W D Hd A U V R T kk gi w d Fd P C Vy h
  have hN := iv_n h
  have him := iv_im h
  have h8 := p2_8 hN.2.1
  have hlo := iv_lo h
  refine zb_b co (fun hco => ?_) (fun hco => ?_)
  · subst hco
    refine xq_prep h (fun W1 D1 U1 V1 fr1 hsv hta => xw_search (L := []) (opt := true) (C := C) (Z := fun _ => True) rfl hN.2.1 (fun v hv => by rw [(fr1 27 (by omega)).1 v hv]; exact iv_c1 h v hv) (iv_cb' h) (hsv [] _ trivial as_nil).1 hta (by omega) (hsv [] _ trivial as_nil).2 rfl (fun x ts2 ln2 W2 D2 U2 V2 R2 T2 hr fr => ?_))
    have h2 : iv n rR lR rc has im be lo W2 D2 Hd A kk gi w d Fd P C := iv_W h (fun i hi => fo_et (fr1 i (by omega)) (fr i hi)) (fun i _ => fo_er _ _ _ _)
    rcases hr with ⟨e1, hno⟩ | ⟨m0, e1, hm, hp, _, _, hmin⟩
    · subst e1
      refine br_t (by decide) (xw_shut him (xw_status him (br_t rfl (Exists.intro (2 ^ n + 1) (yl_opt hN.2.1 (by omega) (iv_bdY h) (iv_cb h) (iv_gi h) (fun y hy => ?_) (2 ^ n + 1) 0 (-1) (Nat.zero_le _) (by omega) (Or.inl ⟨rfl, lt_0⟩))))))
      rcases hy with ⟨e2, _⟩ | ⟨m1, hm1, e2, hp1, _⟩
      · subst e2
        refine br_t (by decide) (yw_shut hN.2.1 (iv_gi h) (yw_status ?_))
        have e : (if has = true then pb_ob C n im else lo) = (if has = true then be else lo) := by
          by_cases z : has = true
          · rw [if_pos z, if_pos z, (iv_be h z).1]
          · rw [if_neg z, if_neg z]
        rw [e]
        refine ⟨rfl, i_in (iv_lo' h2 ?_)⟩
        by_cases z : has = true
        · rw [if_pos z]; have := iv_be h z; omega
        · rw [if_neg z]; exact hlo
      · exact absurd trivial (fun z => hno m1 hm1 ((iv_pP h m1).mp hp1) z)
    · subst e1
      have hc2 := iv_c1 h2
      have hob := iv_ob h m0
      refine br_f (nI_pos (by omega)) (xw_take hN.2.1 (by omega) hc2 (iv_cb h) (by omega) (xw_shut (by omega) (xw_status (by omega) (br_t rfl (Exists.intro (2 ^ n + 1) (yl_opt hN.2.1 (by omega) (iv_bdY h) (iv_cb h) (iv_gi h) (fun y hy => ?_) (2 ^ n + 1) 0 (-1) (Nat.zero_le _) (by omega) (Or.inl ⟨rfl, lt_0⟩)))))))
      rcases hy with ⟨e2, hno⟩ | ⟨m1, hm1, e2, hp1, hmin1⟩
      · exact absurd ((iv_pP h m0).mpr hp) (hno m0 hm)
      · have a := hmin rfl m1 hm1 ((iv_pP h m1).mp hp1) trivial
        have b := hmin1 m0 hm ((iv_pP h m0).mpr hp)
        have e3 : m1 = m0 := by omega
        subst e3
        subst e2
        exact br_f (nI_pos (by omega)) (yw_take hN.2.1 (by omega) (iv_cb h) (by omega) (yw_shut hN.2.1 (fun _ => ⟨rfl, by omega⟩) (yw_status ⟨rfl, i_in (iv_lo' (iv_take h2 hm) (by rw [if_pos rfl]; omega))⟩)))
  · subst hco
    exact xw_status him (br_f (by decide) (yw_status ⟨rfl, i_in h⟩))
theorem i_vc_entails {k : Nat} {u : SX} {v : SY} (I : i_Rel k u v) (hk : k + 4 ≤ 2051) (v1 : Int32) (v2 : Int32) : wpX_entails (fun r u' => wpY_entails (fun r' => r' = r ∧ i_Rel (k + 4) u' v) v v1 v2) u v1 v2 := by
  refine i_el (Q := fun u v => wpX_entails (fun r u' => wpY_entails (fun r' => r' = r ∧ i_Rel (k + 4) u' v) v v1 v2) u v1 v2) I ?_
  intro n rR lR rc has im be lo co ts ln W D Hd A U V R T kk gi w d Fd P C Vy h
  have hN := iv_n h
  have hkk := iv_k h
  obtain ⟨b, hb1, hb2, rfl⟩ := zI_ex v2
  rcases rg_c v1 3 (by omega) with ⟨a, ha, rfl⟩ | hv
  · refine rl_1 ha (br_f (by decide) ?_)
    by_cases hb : -500 ≤ b ∧ b ≤ 500
    · refine rh_1 hb (br_f (by decide) (nm_r (e' := zI kk) (congrArg zI hkk.1.symm) ?_))
      have YE : ∀ {u' : SX}, i_Rel (k + 4) u' (nI n, nI rR, nI lR, zI kk, nI rc, b2 has, gi, zI lo, b2 co, aZ w, aZ d, aB Fd, aZ P, aZ C, aN A, aN Vy) → ∀ r : Int32, ((∃ m, m < 2 ^ n ∧ pb_fe W D n rc m ∧ ¬ hd a b (kk + pb_ob P n m)) → r = 0) → ((∀ m, m < 2 ^ n → pb_fe W D n rc m → hd a b (kk + pb_ob P n m)) → r = 1) → wpY_entails (fun r' => r' = r ∧ i_Rel (k + 4) u' (nI n, nI rR, nI lR, zI kk, nI rc, b2 has, gi, zI lo, b2 co, aZ w, aZ d, aB Fd, aZ P, aZ C, aN A, aN Vy)) (nI n, nI rR, nI lR, zI kk, nI rc, b2 has, gi, zI lo, b2 co, aZ w, aZ d, aB Fd, aZ P, aZ C, aN A, aN Vy) (nI a) (zI b) := fun hu r h0 h1 =>
        yr_1 (N := 3) ha (by omega) rfl (br_f (by decide) (yi_1 b (-500) 500 hb (br_f (by decide) (Exists.intro (2 ^ n + 1) (yl_ent hN.2.1 (by omega) (iv_bdY h) (fun v hv => (iv_p h v hv).2) hkk.2 hb ha (fun ⟨m, z1, z2, z3⟩ => ⟨(h0 ⟨m, z1, (iv_fe h m).mp z2, z3⟩).symm, hu⟩) (fun z => ⟨(h1 (fun m hm hf => z m hm ((iv_fe h m).mpr hf))).symm, hu⟩) (2 ^ n + 1) 0 (Nat.zero_le _) (by omega) lt_0)))))
      have ob1 : ∀ m, pb_ob (fun v => 1 * P v) n m = pb_ob P n m := fun m => pb_ob_cg (fun v _ => Int.one_mul _)
      have ob2 : ∀ m, pb_ob (fun v => -1 * P v) n m = -pb_ob P n m := fun m => pb_ob_neg P n m
      have hd0 : ∀ s, hd 0 b s ↔ b ≤ s := fun s => by unfold hd; rw [if_pos rfl]
      have hd1 : ∀ s, hd 1 b s ↔ s ≤ b := fun s => by unfold hd; rw [if_neg (by decide), if_pos rfl]
      have hd2 : ∀ s, hd 2 b s ↔ s = b := fun s => by unfold hd; rw [if_neg (by decide), if_neg (by decide)]
      by_cases a0 : a = 0
      · subst a0
        refine br_f (by decide) (xw_reach (g := -1) (e := kk - b + 1) rfl (by rw [show (1 : Int32) = zI 1 from rfl, zI_sub, zI_add]) h (Or.inr rfl) (by omega) (fun ts2 ln2 W2 D2 U2 V2 R2 T2 fr => ?_))
        have h2 : iv n rR lR rc has im be lo W2 D2 Hd A kk gi w d Fd P C := iv_W h fr (fun i _ => fo_er _ _ _ _)
        refine ⟨fun hno => br_t rfl (br_t rfl (YE (i_in h2) 1 (fun ⟨m, z1, z2, z3⟩ => ?_) (fun _ => rfl))), fun ⟨m, z1, z2, z3⟩ => br_f (by decide) (YE (i_in h2) 0 (fun _ => rfl) (fun z => ?_))⟩
        · rw [hd0] at z3
          have := hno m z1 z2
          rw [ob2] at this
          exact (this (by omega)).elim
        · have := (hd0 _).mp (z m z1 z2)
          rw [ob2] at z3
          omega
      · by_cases a1 : a = 1
        · subst a1
          refine br_t rfl (br_f (by decide) (xw_reach (g := 1) (e := b - kk + 1) rfl (by rw [show (1 : Int32) = zI 1 from rfl, zI_sub, zI_add]) h (Or.inl rfl) (by omega) (fun ts2 ln2 W2 D2 U2 V2 R2 T2 fr => ?_)))
          have h2 : iv n rR lR rc has im be lo W2 D2 Hd A kk gi w d Fd P C := iv_W h fr (fun i _ => fo_er _ _ _ _)
          refine ⟨fun hno => br_t rfl (YE (i_in h2) 1 (fun ⟨m, z1, z2, z3⟩ => ?_) (fun _ => rfl)), fun ⟨m, z1, z2, z3⟩ => br_f (by decide) (YE (i_in h2) 0 (fun _ => rfl) (fun z => ?_))⟩
          · rw [hd1] at z3
            have := hno m z1 z2
            rw [ob1] at this
            exact (this (by omega)).elim
          · have := (hd1 _).mp (z m z1 z2)
            rw [ob1] at z3
            omega
        · have a2 : a = 2 := by omega
          subst a2
          refine br_f (by decide) (xw_reach (g := -1) (e := kk - b + 1) rfl (by rw [show (1 : Int32) = zI 1 from rfl, zI_sub, zI_add]) h (Or.inr rfl) (by omega) (fun ts2 ln2 W2 D2 U2 V2 R2 T2 fr => ?_))
          have h2 : iv n rR lR rc has im be lo W2 D2 Hd A kk gi w d Fd P C := iv_W h fr (fun i _ => fo_er _ _ _ _)
          refine ⟨fun hno => br_t rfl (br_f (by decide) (xw_reach (g := 1) (e := b - kk + 1) rfl (by rw [show (1 : Int32) = zI 1 from rfl, zI_sub, zI_add]) h2 (Or.inl rfl) (by omega) (fun ts3 ln3 W3 D3 U3 V3 R3 T3 fr3 => ?_))), fun ⟨m, z1, z2, z3⟩ => br_f (by decide) (YE (i_in h2) 0 (fun _ => rfl) (fun z => ?_))⟩
          · have h3 : iv n rR lR rc has im be lo W3 D3 Hd A kk gi w d Fd P C := iv_W h2 fr3 (fun i _ => fo_er _ _ _ _)
            have hfe : ∀ m, pb_fe W2 D2 n rc m ↔ pb_fe W D n rc m := fun m => (iv_fe h2 m).symm.trans (iv_fe h m)
            refine ⟨fun hno3 => br_t rfl (YE (i_in h3) 1 (fun ⟨m, z1, z2, z3⟩ => ?_) (fun _ => rfl)), fun ⟨m, z1, z2, z3⟩ => br_f (by decide) (YE (i_in h3) 0 (fun _ => rfl) (fun z => ?_))⟩
            · rw [hd2] at z3
              have q1 := hno m z1 z2
              have q2 := hno3 m z1 ((hfe m).mpr z2)
              rw [ob2] at q1
              rw [ob1] at q2
              by_cases q3 : kk + pb_ob P n m < b
              · exact (q1 (by omega)).elim
              · exact (q2 (by omega)).elim
            · have := (hd2 _).mp (z m z1 ((hfe m).mp z2))
              rw [ob1] at z3
              omega
          · have := (hd2 _).mp (z m z1 z2)
            rw [ob2] at z3
            omega
    · exact rh_0 hb hb1 hb2 (br_t rfl (yr_1 (N := 3) ha (by omega) rfl (br_f (by decide) (yi_0 b (-500) 500 hb (br_t rfl ⟨rfl, i_in h⟩)))))
  · exact rl_0 hv (br_t rfl (yr_0 (N := 3) hv (by omega) rfl (br_t rfl ⟨rfl, i_in h⟩)))
end
section
/-! forced: propagation on both sides reaches the same valuation -/
/-- no form in use (below 23) is violated or forces anything under V -/
def uc (n : Nat) (W D : Nat → Int) (U : Nat → Bool) (V : Nat → Nat) : Prop := ∀ r : Nat, r < 23 → U r = true → cd1 n W D V r
/-- V lies below every closed valuation above A -/
def yD (n : Nat) (W D : Nat → Int) (U : Nat → Bool) (A V : Nat → Nat) : Prop := ∀ F : Nat → Nat, (∀ v, v < n → A v ≠ 2 → F v = A v) → (∀ v, v < n → F v ≤ 2) → uc n W D U F → pb_ext V F n
theorem der_step {n v r : Nat} {W D : Nat → Int} {V F : Nat → Nat} (he : pb_ext V F n) (hv : v < n) (h2 : V v = 2) (hF : F v ≤ 2) (hc : cd1 n W D F r) (hs : pb_slk (fun v => W (r * 8 + v)) (D r) V n < pb_ab (W (r * 8 + v))) : (0 < W (r * 8 + v) ∧ F v = 1) ∨ (W (r * 8 + v) < 0 ∧ F v = 0) := by
  have e1 := pb_slk_ext (f := fun v => W (r * 8 + v)) (d := D r) he
  by_cases c : F v = 2
  · have := hc.2 v hv c
    omega
  · apply Classical.byContradiction
    intro z
    have z2 : pb_nf (W (r * 8 + v)) (F v) = 0 := by
      by_cases q : (0 < W (r * 8 + v) ∧ F v = 0) ∨ (W (r * 8 + v) < 0 ∧ F v = 1)
      · exact pb_nf_t q
      · rw [pb_nf_f q]
        have : W (r * 8 + v) = 0 := by omega
        rw [this]; rfl
    have a := pb_sm_lt (g := fun u => pb_nf (W (r * 8 + u)) (F u)) (h := fun u => pb_nf (W (r * 8 + u)) (V u)) (k := pb_ab (W (r * 8 + v))) v n hv (fun u hu => by
      (try dsimp only)
      by_cases q : V u = 2
      · rw [q, pb_nf_2]; exact pb_nf_le _ _
      · rw [he u hu q]; exact Int.le_refl _) (by
      (try dsimp only)
      rw [z2, h2, pb_nf_2]; omega)
    have b := hc.1
    unfold pb_slk at hs b
    (try dsimp only at hs b)
    omega
theorem yD_push {n v r b : Nat} {W D : Nat → Int} {U : Nat → Bool} {A V : Nat → Nat} (h : yD n W D U A V) (hr : r < 23) (hu : U r = true) (hv : v < n) (h2 : V v = 2) (hs : pb_slk (fun v => W (r * 8 + v)) (D r) V n < pb_ab (W (r * 8 + v))) (hb : (0 < W (r * 8 + v) ∧ b = 1) ∨ (W (r * 8 + v) < 0 ∧ b = 0)) : yD n W D U A (ug V v b) := by
  intro F h1 h3 h4 u hu2 hne
  have he := h F h1 h3 h4
  by_cases c : u = v
  · subst c
    rw [ug_s]
    have := der_step he hu2 h2 (h3 u hu2) (h4 r hr hu) hs
    omega
  · rw [ug_n c] at hne ⊢
    exact he u hu2 hne
theorem yD_tk {n : Nat} {W D : Nat → Int} {U : Nat → Bool} {A : Nat → Nat} {L0 L : List En} (hu : ∀ r, 23 ≤ r → r < 60 → U r = false) (hk : tk n W D U L) (hx : xg L0 L) (h0 : ∀ v, v < n → tv L0 v = A v) : yD n W D U A (tv L) := by
  obtain ⟨L1, rfl, a⟩ := hx
  induction L1 with
  | nil =>
    intro F h1 _ _ v hv hne
    rw [List.nil_append] at hne ⊢
    rw [h0 v hv] at hne ⊢
    exact h1 v hv hne
  | cons e L1 ih =>
    have ih' := ih (fun x hx => a x (List.mem_cons_of_mem _ hx)) hk.2.2
    have h1 : 0 ≤ e.2.2 := a e List.mem_cons_self
    rcases hk.2.1 with ⟨z, _⟩ | ⟨z, _⟩ | ⟨r, e1, e2, e3, e4, e5⟩
    · omega
    · omega
    · intro F q1 q2 q3 u hu2 hne
      have he := ih' F q1 q2 q3
      have hr : r < 23 := by
        apply Classical.byContradiction
        intro z
        rw [hu r (by omega) e2] at e3
        cases e3
      rw [List.cons_append] at hne ⊢
      by_cases c : u = e.1
      · rw [c, tv_h]
        have := der_step he hk.1.1 hk.1.2.1 (q2 e.1 hk.1.1) (q3 r hr e3) e5
        omega
      · rw [tv_t c] at hne ⊢
        exact he u hu2 hne
theorem uc_cg {n : Nat} {W D w d : Nat → Int} {U : Nat → Bool} {V : Nat → Nat} (h : ∀ r : Nat, r < 23 → U r = true → fo_eq W D w d n r) : uc n W D U V ↔ uc n w d U V := by
  have K : ∀ {a b c e : Nat → Int} {r : Nat}, fo_eq a b c e n r → cd1 n a b V r → cd1 n c e V r := fun {a b c e r} q z => by
    have e1 : pb_slk (fun v => c (r * 8 + v)) (e r) V n = pb_slk (fun v => a (r * 8 + v)) (b r) V n := pb_slk_cg q.1 (fun _ _ => rfl) q.2
    refine ⟨by rw [e1]; exact z.1, fun v hv hf => ?_⟩
    rw [e1, q.1 v hv]
    exact z.2 v hv hf
  exact ⟨fun z r hr hu => K (h r hr hu) (z r hr hu), fun z r hr hu => K ⟨fun v hv => ((h r hr hu).1 v hv).symm, (h r hr hu).2.symm⟩ (z r hr hu)⟩
section
variable {gn gR gL gk gc gh gi gl gx : Int32} {yw yd yf yp yc ya yv : Nat → Int32}
variable {w d : Nat → Int} {n rc : Nat} {has : Bool} {Fd U : Nat → Bool} {V : Nat → Nat}
/-- what Y's used answers -/
def yU (rc : Nat) (has : Bool) (Fd U : Nat → Bool) : Prop := (∀ r, r < 10 → U r = decide (r < rc)) ∧ (∀ s, s < 12 → U (10 + s) = Fd s) ∧ U 22 = has
theorem yw_used {post : Int32 → Prop} {r : Nat} (hU : yU rc has Fd U) (hrc : rc ≤ 10) (hr : r < 23) (H1 : U r = true → post 1) (H0 : U r = false → post 0) : wpY_used post (gn, gR, gL, gk, nI rc, b2 has, gi, gl, gx, yw, yd, aB Fd, yp, yc, ya, yv) (nI r) := by
  have HB : ∀ b : Bool, U r = b → post (b2 b) := fun b e => by
    cases b
    · exact H0 e
    · exact H1 e
  refine pk_le 10 r (fun q => pk_eq r 22 (fun q2 => ⟨b2_nr has, HB has (by rw [q2]; exact hU.2.2)⟩) (fun q2 => ?_)) (fun q => pk_le rc r (fun q2 => H0 (by rw [hU.1 r q]; exact decide_eq_false (by omega))) (fun q2 => H1 (by rw [hU.1 r q]; exact decide_eq_true (by omega))))
  obtain ⟨s, hs⟩ : ∃ s, r = 10 + s := ⟨r - 10, by omega⟩
  have e10 : nI r - 10 = nI s := by
    rw [show (10 : Int32) = nI 10 from rfl, pk_sub (by omega)]
    exact congrArg nI (by omega)
  have eF : aB Fd (nI r - 10).toNatClampNeg = b2 (Fd s) := rd_b s e10
  rw [eF]
  exact ⟨in_n s (by omega) e10, b2_nr _, HB (Fd s) (by rw [hs]; exact hU.2.1 s (by omega))⟩
theorem yl_slk {post : Int32 → Prop} {t : Nat} {F : Nat → Int} {s : Int} (hn : n ≤ 8) (ht : t < 24) (h : ∀ v, v < n → w (t * 8 + v) = F v) (hF : ∀ v, v < n → -2147483648 < F v ∧ F v < 2147483648) (hV : ∀ v, v < n → V v ≤ 2) (H : post (zI (s + pb_sm (fun v => pb_nf (F v) (V v)) n))) : ∀ k i : Nat, i ≤ n → n < k + i → wY_slack_10 post (nI t) (nI n) gR gL gk gc gh gi gl gx (aZ w) yd yf yp yc ya (aN V) k (zI (s + pb_sm (fun v => pb_nf (F v) (V v)) i)) (nI i) := by
  intro k
  induction k with
  | zero => intro i h1 h2; omega
  | succ k ih =>
    intro i h1 h2
    by_cases hi : i < n
    · have hb := hF i hi
      have hv := hV i hi
      have ih' := ih (i + 1) (by omega) (by omega)
      rw [pb_sm_s, ← Int.add_assoc] at ih'
      have ADD : pb_nf (F i) (V i) = pb_ab (F i) → wY_slack_69 post (wY_slack_10 post (nI t) (nI n) gR gL gk gc gh gi gl gx (aZ w) yd yf yp yc ya (aN V) k) (nI t) (zI (s + pb_sm (fun v => pb_nf (F v) (V v)) i)) (nI i) (zI (F i)) (nI n) gR gL gk gc gh gi gl gx (aZ w) yd yf yp yc ya (aN V) := fun q => by
        rw [q] at ih'
        exact yw_abs (F i) (nm_r (zI_add _ _) (nm_r (nI_1 i) ih'))
      have SKIP : pb_nf (F i) (V i) = 0 → ∀ x3 : Int32, x3 = nI i + 1 → wY_slack_10 post (nI t) (nI n) gR gL gk gc gh gi gl gx (aZ w) yd yf yp yc ya (aN V) k (zI (s + pb_sm (fun v => pb_nf (F v) (V v)) i)) x3 := fun q => by
        rw [q, Int.add_zero] at ih'
        exact nm_r (nI_1 i) ih'
      refine br_f (nI_ge hi (by omega)) ⟨in_n (t * 8 + i) (by omega) (ix_y t i), nm_r (e' := zI (F i)) ((rd_z (t * 8 + i) (ix_y t i)).trans (congrArg zI (h i hi))) ⟨in_n i (by omega), pk_eq (V i) 2 (fun c => ADD (by rw [c, pb_nf_2])) (fun c => ⟨in_n i (by omega), pk_eq (V i) 1 (fun c1 => zb_le (F i) 0 (fun q => br_f (by decide) (SKIP ?_)) (fun q => br_t rfl (ADD (pb_nf_f (by omega))))) (fun c1 => zb_le (F i) 0 (fun q => br_t rfl (ADD (pb_nf_f (by omega)))) (fun q => br_f (by decide) (SKIP (pb_nf_t (by omega))))) (rd_n i)⟩) (rd_n i)⟩⟩
      by_cases q0 : F i = 0
      · rw [q0, pb_nf_f (by omega)]; rfl
      · exact pb_nf_t (by omega)
    · have e : i = n := by omega
      subst e
      exact br_t (nI_le (Nat.le_refl _) (by omega)) H
theorem yw_slk {post : Int32 → Prop} {t : Nat} (hn : n ≤ 8) (ht : t < 24) (hF : ∀ v, v < n → -9999 ≤ w (t * 8 + v) ∧ w (t * 8 + v) ≤ 9999) (hV : ∀ v, v < n → V v ≤ 2) (H : post (zI (pb_slk (fun v => w (t * 8 + v)) (d t) V n))) : wpY_slack post (nI n, gR, gL, gk, gc, gh, gi, gl, gx, aZ w, aZ d, yf, yp, yc, ya, aN V) (nI t) := by
  refine And.intro (in_n t ht) (nm_r (e' := zI (-d t)) (by rw [rd_z t, zI_neg]) (Exists.intro (n + 1) ?_))
  rw [show zI (-d t) = zI (-d t + pb_sm (fun v => pb_nf (w (t * 8 + v)) (V v)) 0) from congrArg zI (Int.add_zero _).symm]
  exact yl_slk (F := fun v => w (t * 8 + v)) hn ht (fun _ _ => rfl) (fun v hv => by have := hF v hv; (try dsimp only); omega) hV (by rw [show -d t + pb_sm (fun v => pb_nf (w (t * 8 + v)) (V v)) n = pb_slk (fun v => w (t * 8 + v)) (d t) V n by unfold pb_slk; (try dsimp only); omega]; exact H) (n + 1) 0 (by omega) (by omega)
def yb (n : Nat) (w d : Nat → Int) (U : Nat → Bool) : Prop := ∀ r : Nat, r < 23 → U r = true → (∀ v, v < n → -9999 ≤ w (r * 8 + v) ∧ w (r * 8 + v) ≤ 9999) ∧ 0 ≤ d r ∧ d r ≤ 9999
theorem yl_f10 {post : SY → Prop} {J : Int32 → Prop} {r : Nat} (hn : n ≤ 8) (hrc : rc ≤ 10) (hr : r < 23) (hU : yU rc has Fd U) (hb : yb n w d U) (hV : ∀ v, v < n → V v ≤ 2) (hnn : U r = true → 0 ≤ pb_slk (fun v => w (r * 8 + v)) (d r) V n) (H1 : ∀ v b, U r = true → v < n → V v = 2 → pb_slk (fun v => w (r * 8 + v)) (d r) V n < pb_ab (w (r * 8 + v)) → ((0 < w (r * 8 + v) ∧ b = 1) ∨ (w (r * 8 + v) < 0 ∧ b = 0)) → post (nI n, gR, gL, gk, nI rc, b2 has, gi, gl, gx, aZ w, aZ d, aB Fd, yp, yc, ya, aN (ug V v b))) (H0 : (U r = true → ∀ v, v < n → V v = 2 → pb_ab (w (r * 8 + v)) ≤ pb_slk (fun v => w (r * 8 + v)) (d r) V n) → J (nI (r + 1))) : ∀ k i, i ≤ n → n < k + i → (U r = true → ∀ v, v < i → V v = 2 → pb_ab (w (r * 8 + v)) ≤ pb_slk (fun v => w (r * 8 + v)) (d r) V n) → wY_forceOne_10 post J (nI r) (nI n) gR gL gk (nI rc) (b2 has) gi gl gx (aZ w) (aZ d) (aB Fd) yp yc ya (aN V) k (nI i) := by
  intro k
  induction k with
  | zero => intro i _ h; omega
  | succ k ih =>
    intro i h1 h2 hq
    by_cases hi : i < n
    · have hv := hV i hi
      refine br_f (nI_ge hi (by omega)) ⟨in_n (r * 8 + i) (by omega) (ix_y r i), nm_r (e' := zI (w (r * 8 + i))) (rd_z (r * 8 + i) (ix_y r i)) (yw_used hU hrc hr (fun hu => br_f (by decide) ⟨in_n i (by omega), pk_eq (V i) 2 (fun c => ?_) (fun c => nm_r (nI_1 i) (ih (i + 1) (by omega) (by omega) (fun z => lt_s (hq z) (fun y => absurd y c)))) (rd_n i)⟩) (fun hu => br_t rfl (nm_r (nI_1 i) (ih (i + 1) (by omega) (by omega) (fun z => by rw [hu] at z; cases z)))))⟩
      have hbr := hb r hr hu
      have hbi := hbr.1 i hi
      have hab := pb_ab_b hbi
      have hsb := slk_b (V := V) hn (by omega) hbr.1 hbr.2
      have hn0 := hnn hu
      refine yw_abs (w (r * 8 + i)) (yw_slk hn (by omega) hbr.1 hV (zb_le (pb_ab (w (r * 8 + i))) (pb_slk (fun v => w (r * 8 + v)) (d r) V n) (fun q => nm_r (nI_1 i) (ih (i + 1) (by omega) (by omega) (fun z => lt_s (hq z) (fun _ => q)))) (fun q => zb_le (w (r * 8 + i)) 0 (fun q2 => ⟨in_n i (by omega), nm_r (wr_n i 0 rfl rfl) (H1 i 0 hu hi c q (Or.inr ⟨by unfold pb_ab at q; omega, rfl⟩))⟩) (fun q2 => ⟨in_n i (by omega), nm_r (wr_n i 1 rfl rfl) (H1 i 1 hu hi c q (Or.inl ⟨q2, rfl⟩))⟩))))
    · have e : i = n := by omega
      subst e
      exact br_t (nI_le (Nat.le_refl _) (by omega)) (nm_r (nI_1 r) (H0 hq))
theorem yl_f2 {post : SY → Prop} (hn : n ≤ 8) (hrc : rc ≤ 10) (hU : yU rc has Fd U) (hb : yb n w d U) (hV : ∀ v, v < n → V v ≤ 2) (hnn : ∀ r : Nat, r < 23 → U r = true → 0 ≤ pb_slk (fun v => w (r * 8 + v)) (d r) V n) (H1 : ∀ r v b, r < 23 → U r = true → v < n → V v = 2 → pb_slk (fun v => w (r * 8 + v)) (d r) V n < pb_ab (w (r * 8 + v)) → ((0 < w (r * 8 + v) ∧ b = 1) ∨ (w (r * 8 + v) < 0 ∧ b = 0)) → post (nI n, gR, gL, gk, nI rc, b2 has, gi, gl, gx, aZ w, aZ d, aB Fd, yp, yc, ya, aN (ug V v b))) (H0 : uc n w d U V → post (nI n, gR, gL, gk, nI rc, b2 has, gi, gl, gx, aZ w, aZ d, aB Fd, yp, yc, ya, aN V)) : ∀ k i, i ≤ 23 → 23 < k + i → (∀ r : Nat, r < i → U r = true → cd1 n w d V r) → wY_forceOne_2 post (nI n) gR gL gk (nI rc) (b2 has) gi gl gx (aZ w) (aZ d) (aB Fd) yp yc ya (aN V) k (nI i) := by
  intro k
  induction k with
  | zero => intro i _ h; omega
  | succ k ih =>
    intro i h1 h2 hq
    by_cases hi : i < 23
    · exact br_f (nI_nlt (a := 22) (by omega) (by decide)) (Exists.intro (n + 1) (yl_f10 hn hrc hi hU hb hV (hnn i hi) (fun v b => H1 i v b hi) (fun q => ih (i + 1) (by omega) (by omega) (lt_s hq (fun hu => ⟨hnn i hi hu, q hu⟩))) (n + 1) 0 (by omega) (by omega) (fun _ => lt_0)))
    · have e : i = 23 := by omega
      subst e
      exact br_t (by decide) (H0 hq)
theorem yl_f70 {post : Int32 → SY → Prop} {J : Int32 → Int32 → Int32 → Int32 → Int32 → Int32 → Int32 → Int32 → Int32 → Int32 → (Nat → Int32) → (Nat → Int32) → (Nat → Int32) → (Nat → Int32) → (Nat → Int32) → (Nat → Int32) → (Nat → Int32) → Prop} {p : Int32} {rd : Nat} (hn : n ≤ 8) (hrc : rc ≤ 10) (hU : yU rc has Fd U) (hb : yb n w d U) (hV : ∀ v, v < n → V v ≤ 2) (Hc : ∀ r : Nat, r < 23 → U r = true → pb_slk (fun v => w (r * 8 + v)) (d r) V n < 0 → post 3 (nI n, gR, gL, gk, nI rc, b2 has, gi, gl, gx, aZ w, aZ d, aB Fd, yp, yc, ya, aN V)) (H1 : ∀ r v b, r < 23 → U r = true → v < n → V v = 2 → pb_slk (fun v => w (r * 8 + v)) (d r) V n < pb_ab (w (r * 8 + v)) → ((0 < w (r * 8 + v) ∧ b = 1) ∨ (w (r * 8 + v) < 0 ∧ b = 0)) → J (nI (rd + 1)) (nI n) gR gL gk (nI rc) (b2 has) gi gl gx (aZ w) (aZ d) (aB Fd) yp yc ya (aN (ug V v b))) (H0 : uc n w d U V → J (nI (rd + 1)) (nI n) gR gL gk (nI rc) (b2 has) gi gl gx (aZ w) (aZ d) (aB Fd) yp yc ya (aN V)) : ∀ k i, i ≤ 23 → 23 < k + i → (∀ r : Nat, r < i → U r = true → 0 ≤ pb_slk (fun v => w (r * 8 + v)) (d r) V n) → wY_forced_70 post J p (nI rd) (nI n) gR gL gk (nI rc) (b2 has) gi gl gx (aZ w) (aZ d) (aB Fd) yp yc ya (aN V) k (nI i) := by
  intro k
  induction k with
  | zero => intro i _ h; omega
  | succ k ih =>
    intro i h1 h2 hq
    by_cases hi : i < 23
    · refine br_f (nI_nlt (a := 22) (by omega) (by decide)) (yw_used hU hrc hi (fun hu => br_f (by decide) ?_) (fun hu => br_t rfl (nm_r (nI_1 i) (ih (i + 1) (by omega) (by omega) (lt_s hq (fun z => by rw [hu] at z; cases z))))))
      have hbr := hb i hi hu
      have hsb := slk_b (V := V) hn (by omega) hbr.1 hbr.2
      exact yw_slk hn (by omega) hbr.1 hV (zb_le 0 (pb_slk (fun v => w (i * 8 + v)) (d i) V n) (fun q => nm_r (nI_1 i) (ih (i + 1) (by omega) (by omega) (lt_s hq (fun _ => q)))) (fun q => Hc i hi hu q))
    · have e : i = 23 := by omega
      subst e
      exact br_t (by decide) (Exists.intro 24 (yl_f2 hn hrc hU hb hV hq (fun r v b a1 a2 a3 a4 a5 a6 => nm_r (nI_1 rd) (H1 r v b a1 a2 a3 a4 a5 a6)) (fun z => nm_r (nI_1 rd) (H0 z)) 24 0 (by omega) (by omega) lt_0))
def cV (V : Nat → Nat) (n : Nat) : Int := pb_sm (fun v => if V v = 2 then 0 else 1) n
theorem cV_le (V : Nat → Nat) (n : Nat) : cV V n ≤ n := by
  have b := pb_sm_le (g := fun v => if V v = 2 then 0 else 1) (h := fun _ => 1) n (fun v _ => by (try dsimp only); split <;> omega)
  rw [pb_sm_c1] at b
  exact b
theorem cV_push {v b : Nat} (hv : v < n) (h2 : V v = 2) (hb : b ≤ 1) : cV (ug V v b) n = cV V n + 1 := by
  have a := pb_sm_one (g := fun u => if ug V v b u = 2 then 0 else 1) (h := fun u => if V u = 2 then 0 else 1) v n hv (fun u _ hu => by rw [ug_n hu])
  rw [if_neg (by rw [ug_s]; omega), if_pos h2] at a
  unfold cV
  omega
theorem yl_f60 {post : Int32 → SY → Prop} {A : Nat → Nat} {p : Nat} (hn : n ≤ 8) (hp : p < n) (hrc : rc ≤ 10) (hU : yU rc has Fd U) (hb : yb n w d U) (Hc : ∀ V, yD n w d U A V → (∀ v, v < n → A v ≠ 2 → V v = A v) → (∃ r : Nat, r < 23 ∧ U r = true ∧ pb_slk (fun v => w (r * 8 + v)) (d r) V n < 0) → post 3 (nI n, gR, gL, gk, nI rc, b2 has, gi, gl, gx, aZ w, aZ d, aB Fd, yp, yc, ya, aN V)) (He : ∀ V, yD n w d U A V → (∀ v, v < n → A v ≠ 2 → V v = A v) → (∀ v, v < n → V v ≤ 2) → uc n w d U V → post (nI (V p)) (nI n, gR, gL, gk, nI rc, b2 has, gi, gl, gx, aZ w, aZ d, aB Fd, yp, yc, ya, aN V)) : ∀ (k rd : Nat) (V : Nat → Nat), rd ≤ n + 1 → n + 1 < k + rd → (∀ v, v < n → V v ≤ 2) → (∀ v, v < n → A v ≠ 2 → V v = A v) → yD n w d U A V → (uc n w d U V ∨ (rd : Int) ≤ cV V n) → wY_forced_60 post (nI p) k (nI rd) (nI n) gR gL gk (nI rc) (b2 has) gi gl gx (aZ w) (aZ d) (aB Fd) yp yc ya (aN V) := by
  intro k
  induction k with
  | zero => intro rd V _ h; omega
  | succ k ih =>
    intro rd V h1 h2 hV hA hD hc
    by_cases hi : rd ≤ n
    · refine br_f (nI_nlt hi (by omega)) (Exists.intro 24 (yl_f70 hn hrc hU hb hV (fun r a1 a2 a3 => Hc V hD hA ⟨r, a1, a2, a3⟩) (fun r v b a1 a2 a3 a4 a5 a6 => ih (rd + 1) (ug V v b) (by omega) (by omega) (fun u hu => ?_) (fun u hu hne => ?_) (yD_push hD a1 a2 a3 a4 a5 a6) (Or.inr ?_)) (fun z => ih (rd + 1) V (by omega) (by omega) hV hA hD (Or.inl z)) 24 0 (by omega) (by omega) lt_0))
      · by_cases c : u = v
        · subst c; rw [ug_s]; omega
        · rw [ug_n c]; exact hV u hu
      · by_cases c : u = v
        · subst c
          have := hA u hu hne
          omega
        · rw [ug_n c]; exact hA u hu hne
      · rw [cV_push a3 a4 (by omega)]
        rcases hc with z | z
        · have := (z r a1 a2).2 v a3 a4
          omega
        · omega
    · have e : rd = n + 1 := by omega
      subst e
      have hcl := cV_le V n
      have hv := hV p hp
      refine br_t (nI_lt (by omega) (by omega)) ⟨in_n p (by omega), ?_⟩
      rw [rd_n p]
      refine He V hD hA hV ?_
      rcases hc with z | z
      · exact z
      · omega
theorem yl_f19 {post : Int32 → SY → Prop} {A : Nat → Nat} {p : Int32} (hn : n ≤ 8) (H : ∀ k, wY_forced_19 post p (nI n) gR gL gk gc gh gi gl gx (k + 1) (nI n) yw yd yf yp yc (aN A) (aN (fun j => if j < n then A j else V j))) : ∀ k i, i ≤ n → n < k + i → wY_forced_19 post p (nI n) gR gL gk gc gh gi gl gx k (nI i) yw yd yf yp yc (aN A) (aN (fun j => if j < i then A j else V j)) := by
  intro k
  induction k with
  | zero => intro i _ h; omega
  | succ k ih =>
    intro i h1 h2
    by_cases hi : i < n
    · refine br_f (nI_ge hi (by omega)) ⟨in_n i (by omega), in_n i (by omega), nm_r (wr_n i (A i) rfl (rd_n i)) (nm_r (nI_1 i) ?_)⟩
      have e : ug (fun j => if j < i then A j else V j) i (A i) = (fun j => if j < i + 1 then A j else V j) := by
        funext j
        show (if j = i then A i else if j < i then A j else V j) = _
        by_cases c : j = i
        · rw [if_pos c, if_pos (by omega), c]
        · rw [if_neg c]
          by_cases c2 : j < i
          · rw [if_pos c2, if_pos (by omega)]
          · rw [if_neg c2, if_neg (by omega)]
      rw [e]
      exact ih (i + 1) (by omega) (by omega)
    · have e : i = n := by omega
      subst e
      exact H k
end
end
section
/-! forced: both sides -/
def ul (U Hd : Nat → Bool) (i : Nat) : Nat → Bool := fun j => if 10 ≤ j ∧ j < 10 + i then Hd (j - 10) else U j
theorem ul_s {U Hd : Nat → Bool} {i : Nat} : ug (ul U Hd i) (10 + i) (Hd i) = ul U Hd (i + 1) := by
  funext j
  show (if j = 10 + i then Hd i else if 10 ≤ j ∧ j < 10 + i then Hd (j - 10) else U j) = (if 10 ≤ j ∧ j < 10 + (i + 1) then Hd (j - 10) else U j)
  by_cases h : j = 10 + i
  · rw [if_pos h, if_pos (by omega), h, Nat.add_sub_cancel_left]
  · rw [if_neg h]
    by_cases h2 : 10 ≤ j ∧ j < 10 + i
    · rw [if_pos h2, if_pos (by omega)]
    · rw [if_neg h2, if_neg (by omega)]
theorem ul_0 {U Hd : Nat → Bool} : ul U Hd 0 = U := by
  funext j
  exact if_neg (by omega)
theorem ul_n {U Hd : Nat → Bool} {i j : Nat} (h : ¬ (10 ≤ j ∧ j < 10 + i)) : ul U Hd i j = U j := if_neg h
theorem ul_y {U Hd : Nat → Bool} {i s : Nat} (h : s < i) : ul U Hd i (10 + s) = Hd s := by
  unfold ul
  rw [if_pos (by omega), Nat.add_sub_cancel_left]
section
variable {q0 q1 q2 q3 q4 q5 q6 q7 q8 q9 q10 q11 fn frR flR frc fin fbe flo fcl fts fln : Int32} {xw xd xh xa xu xv xr xt : Nat → Int32}
variable {U Hd : Nat → Bool} {l : Nat}
theorem xl_f17 {post : Int32 → SX → Prop} {p : Int32} (hl : l ≤ 12) (H : ∀ k, wX_forced_17 post p q0 q1 q2 q3 q4 q5 q6 q7 q8 q9 q10 q11 fn frR (nI l) frc fin fbe flo fcl fts fln (k + 1) (nI l) xw xd (aB Hd) xa (aB (ul U Hd l)) xv xr xt) : ∀ k i, i ≤ l → l < k + i → wX_forced_17 post p q0 q1 q2 q3 q4 q5 q6 q7 q8 q9 q10 q11 fn frR (nI l) frc fin fbe flo fcl fts fln k (nI i) xw xd (aB Hd) xa (aB (ul U Hd i)) xv xr xt := by
  intro k
  induction k with
  | zero => intro i _ h; omega
  | succ k ih =>
    intro i h1 h2
    by_cases hi : i < l
    · refine br_f (nI_ge hi (by omega)) ⟨in_n i (by omega), in_n (10 + i) (by omega) (ix_10 i), nm_r (wr_b (10 + i) (Hd i) (ix_10 i) (by rw [rd_b i, b2_nb])) (nm_r (nI_1 i) ?_)⟩
      rw [ul_s]
      exact ih (i + 1) (by omega) (by omega)
    · have e : i = l := by omega
      subst e
      exact H k
end
/-- the forms that propagate, and where they lie -/
def fX (n rc : Nat) (has : Bool) (be : Int) (C W D W1 D1 : Nat → Int) (Fd U : Nat → Bool) : Prop := (∀ i, i ≠ 22 → fo_eq W D W1 D1 n i) ∧ (has = true → fo_is W1 D1 n 22 (fun v => -1 * C v) (max 0 (pb_cn (fun v => -1 * C v) (1 - be) n))) ∧ yU rc has Fd U ∧ ub n W1 D1 U ∧ (∀ r, 23 ≤ r → r < 60 → U r = false)
section
variable {n rR lR rc : Nat} {has : Bool} {im : Nat} {be lo : Int} {co : Bool} {ts ln : Nat} {W D : Nat → Int} {Hd : Nat → Bool} {A : Nat → Nat} {U : Nat → Bool} {V : Nat → Nat} {R : Nat → Int} {T : Nat → Nat} {kk : Int} {gi : Int32} {w d : Nat → Int} {Fd : Nat → Bool} {P C : Nat → Int} {Vy : Nat → Nat}
theorem fX_i {U1 : Nat → Bool} {W1 D1 : Nat → Int} (h : iv n rR lR rc has im be lo W D Hd A kk gi w d Fd P C) (h1 : ∀ r, r < 60 → r ≠ 22 → U1 r = decide (r < rc)) (h2 : U1 22 = has) (hf : ∀ i, i ≠ 22 → fo_eq W D W1 D1 n i) (hb : has = true → fo_is W1 D1 n 22 (fun v => -1 * C v) (max 0 (pb_cn (fun v => -1 * C v) (1 - be) n))) : fX n rc has be C W D W1 D1 Fd (ul U1 Hd lR) := by
  have hN := iv_n h
  have hH := iv_h h
  have hs : ∀ s, s < 12 → ul U1 Hd lR (10 + s) = Hd s := fun s hs => by
    by_cases c : s < lR
    · exact ul_y c
    · rw [ul_n (by omega), h1 (10 + s) (by omega) (by omega), hH.2 s (by omega) hs]
      exact decide_eq_false (by omega)
  refine ⟨hf, hb, ⟨fun r hr => ?_, fun s hs2 => ?_, ?_⟩, fun r hr hu => ?_, fun r h3 h4 => ?_⟩
  · rw [ul_n (by omega), h1 r (by omega) (by omega)]
  · rw [hs s hs2, hH.1 s hs2]
  · rw [ul_n (by omega), h2]
  · by_cases c : r = 22
    · subst c
      rw [ul_n (by omega), h2] at hu
      have e := hb hu
      have hbe := iv_be h hu
      have hcn := pb_cn_b (F := fun v => -1 * C v) (e := 1 - be) (B := 15) hN.2.1 (fun v hv => by have := iv_cb' h v hv; (try dsimp only); omega) (by omega)
      rw [e.2]
      exact ⟨fun v hv => by rw [e.1 v hv]; have := iv_cb' h v hv; (try dsimp only); omega, by omega⟩
    · have e := hf r c
      rw [e.2]
      by_cases c2 : 10 ≤ r ∧ r < 22
      · obtain ⟨s, rfl⟩ : ∃ s, r = 10 + s := ⟨r - 10, by omega⟩
        rw [hs s (by omega)] at hu
        have := iv_l h s (by omega) hu
        exact ⟨fun v hv => by rw [e.1 v hv]; have := this.1 v hv; omega, by omega⟩
      · rw [ul_n (by omega), h1 r hr c] at hu
        have := iv_r h r (of_decide_eq_true hu)
        exact ⟨fun v hv => by rw [e.1 v hv]; have := this.1 v hv; omega, by omega⟩
  · rw [ul_n (by omega), h1 r h4 (by omega)]
    exact decide_eq_false (by omega)
theorem xw_forced {post : Int32 → SX → Prop} {p : Nat} (h : iv n rR lR rc has im be lo W D Hd A kk gi w d Fd P C) (hp : p < n) (H3 : ∀ (ts : Nat) (W1 D1 : Nat → Int) (U1 : Nat → Bool) (V1 : Nat → Nat) (R1 : Nat → Int) (T1 : Nat → Nat) (L : List En), fX n rc has be C W D W1 D1 Fd U1 → yD n W1 D1 U1 A (tv L) → (∃ r : Nat, r < 23 ∧ U1 r = true ∧ pb_slk (fun v => W1 (r * 8 + v)) (D1 r) (tv L) n < 0) → post 3 (10, 22, 23, 24, 25, 26, 27, 28, 32, 60, (-1), (-2), nI n, nI rR, nI lR, nI rc, xi has im, zI be, zI lo, b2 co, nI ts, nI 0, aZ W1, aZ D1, aB Hd, aN A, aB U1, aN V1, aZ R1, aN T1)) (Hv : ∀ (ts : Nat) (W1 D1 : Nat → Int) (U1 : Nat → Bool) (V1 : Nat → Nat) (R1 : Nat → Int) (T1 : Nat → Nat) (L : List En), fX n rc has be C W D W1 D1 Fd U1 → yD n W1 D1 U1 A (tv L) → (∀ v, v < n → tv L v ≤ 2) → (∀ v, v < n → A v ≠ 2 → tv L v = A v) → uc n W1 D1 U1 (tv L) → post (nI (tv L p)) (10, 22, 23, 24, 25, 26, 27, 28, 32, 60, (-1), (-2), nI n, nI rR, nI lR, nI rc, xi has im, zI be, zI lo, b2 co, nI ts, nI 0, aZ W1, aZ D1, aB Hd, aN A, aB U1, aN V1, aZ R1, aN T1)) : wpX_forced post (10, 22, 23, 24, 25, 26, 27, 28, 32, 60, (-1), (-2), nI n, nI rR, nI lR, nI rc, xi has im, zI be, zI lo, b2 co, nI ts, nI ln, aZ W, aZ D, aB Hd, aN A, aB U, aN V, aZ R, aN T) (nI p) := by
  have hN := iv_n h
  have hCb := iv_cb' h
  have GO : ∀ (W1 D1 : Nat → Int) (U1 : Nat → Bool), (∀ r, r < 60 → r ≠ 22 → U1 r = decide (r < rc)) → U1 22 = has → (∀ i, i ≠ 22 → fo_eq W D W1 D1 n i) → (has = true → fo_is W1 D1 n 22 (fun v => -1 * C v) (max 0 (pb_cn (fun v => -1 * C v) (1 - be) n))) → ∃ n17, wX_forced_17 post (nI p) 10 22 23 24 25 26 27 28 32 60 ((-1)) ((-2)) (nI n) (nI rR) (nI lR) (nI rc) (xi has im) (zI be) (zI lo) (b2 co) (nI 0) (nI 0) n17 0 (aZ W1) (aZ D1) (aB Hd) (aN A) (aB U1) (aN (pv V n)) (aZ R) (aN T) := fun W1 D1 U1 a1 a2 a3 a4 => by
    have F := fX_i h a1 a2 a3 a4
    have z := xl_f17 (post := post) (U := U1) (Hd := Hd) (l := lR) (p := nI p) (q0 := 10) (q1 := 22) (q2 := 23) (q3 := 24) (q4 := 25) (q5 := 26) (q6 := 27) (q7 := 28) (q8 := 32) (q9 := 60) (q10 := -1) (q11 := -2) (fn := nI n) (frR := nI rR) (frc := nI rc) (fin := xi has im) (fbe := zI be) (flo := zI lo) (fcl := b2 co) (fts := nI 0) (fln := nI 0) (xw := aZ W1) (xd := aZ D1) (xa := aN A) (xv := aN (pv V n)) (xr := aZ R) (xt := aN T) hN.2.2.2.1 (fun k => br_t (nI_le (Nat.le_refl _) (by omega)) (xw_pla hN.2.1 (iv_a h) ta_nil (fun L0 V1 R1 T1 hk ht ha hA => xw_prop hN.2.1 F.2.2.2.1 hk ht (fun r L V2 R2 T2 hk2 ht2 hx hr hu hs => br_f (nI_pos (by omega)) (H3 L.length W1 D1 _ V2 R2 T2 L F (yD_tk F.2.2.2.2 hk2 hx hA) ⟨r, ?_, hu, hs⟩)) (fun L V2 R2 T2 hk2 ht2 hx hcl => br_t (by decide) ⟨in_n p (by omega), ?_⟩)))) (lR + 1) 0 (by omega) (by omega)
    · rw [ul_0] at z
      exact ⟨lR + 1, z⟩
    · apply Classical.byContradiction
      intro z
      rw [F.2.2.2.2 r (by omega) hr] at hu
      cases hu
    · rw [show aN V2 (nI p).toNatClampNeg = nI (tv L p) from (rd_n p).trans (congrArg nI (ht2.1 p hp))]
      refine Hv L.length W1 D1 _ V2 R2 T2 L F (yD_tk F.2.2.2.2 hk2 hx hA) (fun v _ => tv_le hk2 v) (fun v hv hne => ?_) (fun r hr hu => hcl r (by omega) hu)
      obtain ⟨L1, rfl, _⟩ := hx
      rw [tk_ext hk2 v hv (by rw [hA v hv]; exact hne), hA v hv]
  refine xr_1 hp (by omega) (br_f (by decide) (xw_prep true rfl hN.2.1 (by omega) (iv_im h) (iv_c1 h) hCb (fun z => by have := iv_be h z; omega) (fun hh => GO W D _ (fun r hr _ => pu_1 hr) ?_ (fun i _ => fo_er _ _ _ _) ?_) (fun _ hh W' D' f' g' => GO W' D' _ (fun r hr hne => by rw [ug_n hne, pu_1 hr]) (by rw [ug_s, hh]) g' (fun _ => f'))))
  · rw [pu_1 (by omega), decide_eq_false (by omega)]
    rcases hh with z | z
    · cases z
    · rw [z]
  · intro z
    rcases hh with y | y
    · cases y
    · rw [y] at z; cases z
theorem yw_forced {post : Int32 → SY → Prop} {p : Nat} {W1 D1 : Nat → Int} {U1 : Nat → Bool} (h : iv n rR lR rc has im be lo W D Hd A kk gi w d Fd P C) (hp : p < n) (F : fX n rc has be C W D W1 D1 Fd U1) (H3 : ∀ (w1 d1 : Nat → Int) (V1 : Nat → Nat), (∀ i, i < 22 → fo_eq w d w1 d1 n i) → (∀ r : Nat, r < 23 → U1 r = true → fo_eq W1 D1 w1 d1 n r) → yD n w1 d1 U1 A V1 → (∀ v, v < n → A v ≠ 2 → V1 v = A v) → (∃ r : Nat, r < 23 ∧ U1 r = true ∧ pb_slk (fun v => w1 (r * 8 + v)) (d1 r) V1 n < 0) → post 3 (nI n, nI rR, nI lR, zI kk, nI rc, b2 has, gi, zI lo, b2 co, aZ w1, aZ d1, aB Fd, aZ P, aZ C, aN A, aN V1)) (Hv : ∀ (w1 d1 : Nat → Int) (V1 : Nat → Nat), (∀ i, i < 22 → fo_eq w d w1 d1 n i) → (∀ r : Nat, r < 23 → U1 r = true → fo_eq W1 D1 w1 d1 n r) → yD n w1 d1 U1 A V1 → (∀ v, v < n → A v ≠ 2 → V1 v = A v) → (∀ v, v < n → V1 v ≤ 2) → uc n w1 d1 U1 V1 → post (nI (V1 p)) (nI n, nI rR, nI lR, zI kk, nI rc, b2 has, gi, zI lo, b2 co, aZ w1, aZ d1, aB Fd, aZ P, aZ C, aN A, aN V1)) : wpY_forced post (nI n, nI rR, nI lR, zI kk, nI rc, b2 has, gi, zI lo, b2 co, aZ w, aZ d, aB Fd, aZ P, aZ C, aN A, aN Vy) (nI p) := by
  have hN := iv_n h
  have hA := iv_a h
  have GO : ∀ w1 d1 : Nat → Int, (∀ i, i ≠ 22 → fo_eq w d w1 d1 n i) → (has = true → fo_is w1 d1 n 22 (fun v => -1 * C v) (max 0 (pb_cn (fun v => -1 * C v) (1 - be) n))) → ∃ n60, wY_forced_60 post (nI p) n60 0 (nI n) (nI rR) (nI lR) (zI kk) (nI rc) (b2 has) gi (zI lo) (b2 co) (aZ w1) (aZ d1) (aB Fd) (aZ P) (aZ C) (aN A) (aN (fun j => if j < n then A j else Vy j)) := fun w1 d1 a1 a2 => by
    have hq : ∀ r : Nat, r < 23 → U1 r = true → fo_eq W1 D1 w1 d1 n r := fun r hr hu => by
      by_cases c : r = 22
      · subst c
        have hh : has = true := by rw [← F.2.2.1.2.2]; exact hu
        exact fo_s2 (F.2.1 hh) (a2 hh)
      · exact fo_sq (iv_e h r (by omega)) (F.1 r c) (a1 r c)
    have hyb : yb n w1 d1 U1 := fun r hr hu => by
      have e := hq r hr hu
      have b := F.2.2.2.1 r (by omega) hu
      rw [e.2]
      exact ⟨fun v hv => by rw [e.1 v hv]; exact b.1 v hv, b.2⟩
    refine ⟨n + 3, yl_f60 hN.2.1 hp (by omega) F.2.2.1 hyb (fun V1 b1 b2 b3 => H3 w1 d1 V1 (fun i hi => a1 i (by omega)) hq b1 b2 b3) (fun V1 b1 b2 b3 b4 => Hv w1 d1 V1 (fun i hi => a1 i (by omega)) hq b1 b2 b3 b4) (n + 3) 0 _ (by omega) (by omega) (fun v hv => ?_) (fun v hv _ => if_pos hv) (fun G g1 g2 g3 v hv hne => ?_) (Or.inr ?_)⟩
    · rw [if_pos hv]; exact hA v hv
    · rw [if_pos hv] at hne ⊢
      exact g1 v hv hne
    · exact pb_sm_nn n (fun v _ => by (try dsimp only); split <;> omega)
  have z := yl_f19 (post := post) (V := Vy) (A := A) (p := nI p) (gR := nI rR) (gL := nI lR) (gk := zI kk) (gc := nI rc) (gh := b2 has) (gi := gi) (gl := zI lo) (gx := b2 co) (yw := aZ w) (yd := aZ d) (yf := aB Fd) (yp := aZ P) (yc := aZ C) hN.2.1 (fun k => br_t (nI_le (Nat.le_refl _) (by omega)) (zb_b has (fun hh => GO w d (fun i _ => fo_er _ _ _ _) (fun y => by rw [hh] at y; cases y)) (fun hh => ?_))) (n + 1) 0 (by omega) (by omega)
  · rw [show (fun j => if j < 0 then A j else Vy j) = Vy from funext (fun j => if_neg (by omega))] at z
    exact yr_1 hp (by omega) rfl (br_f (by decide) (Exists.intro (n + 1) z))
  · obtain ⟨eg, eb⟩ := (iv_m h).2 hh
    subst eg
    exact yw_bound (t := 22) hN.2.1 (by omega) (iv_im h) (iv_cb h) (fun w1 d1 f1 g1 => GO w1 d1 g1 (fun _ => by rw [eb]; exact f1))
end
theorem i_vc_forced {k : Nat} {u : SX} {v : SY} (I : i_Rel k u v) (hk : k + 4 ≤ 2051) (v1 : Int32) : wpX_forced (fun r u' => wpY_forced (fun r' v' => r' = r ∧ i_Rel (k + 4) u' v') v v1) u v1 := by
  refine i_el (Q := fun u v => wpX_forced (fun r u' => wpY_forced (fun r' v' => r' = r ∧ i_Rel (k + 4) u' v') v v1) u v1) I ?_
  intro n rR lR rc has im be lo co ts ln W D Hd A U V R T kk gi w d Fd P C Vy h
  have hN := iv_n h
  rcases rg_c v1 n (by omega) with ⟨p, hp, rfl⟩ | hv
  · refine xw_forced h hp (fun ts1 W1 D1 U1 V1 R1 T1 L F hD ⟨r, hr, hu, hs⟩ => yw_forced h hp F (fun w1 d1 V2 q1 q2 b1 b2 b3 => ⟨rfl, i_in (iv_W h (fun i hi => F.1 i (by omega)) q1)⟩) (fun w1 d1 V2 q1 q2 b1 b2 b3 b4 => ?_)) (fun ts1 W1 D1 U1 V1 R1 T1 L F hD hL hLA hcl => yw_forced h hp F (fun w1 d1 V2 q1 q2 b1 b2 ⟨r, hr, hu, hs⟩ => ?_) (fun w1 d1 V2 q1 q2 b1 b2 b3 b4 => ⟨?_, i_in (iv_W h (fun i hi => F.1 i (by omega)) q1)⟩))
    · have hcl := (uc_cg q2).mpr b4
      have e := hD V2 b2 b3 hcl
      have e1 := pb_slk_ext (f := fun v => W1 (r * 8 + v)) (d := D1 r) e
      have e2 := (hcl r hr hu).1
      omega
    · have e := b1 (tv L) hLA hL ((uc_cg q2).mp hcl)
      have e1 := pb_slk_ext (f := fun v => w1 (r * 8 + v)) (d := d1 r) e
      have e2 := (((uc_cg q2).mp hcl) r hr hu).1
      omega
    · have e1 := hD V2 b2 b3 ((uc_cg q2).mpr b4) p hp
      have e2 := b1 (tv L) hLA hL ((uc_cg q2).mp hcl) p hp
      by_cases c : tv L p = 2
      · by_cases c2 : V2 p = 2
        · rw [c, c2]
        · rw [e2 c2]
      · rw [e1 c]
  · exact xr_0 hv (by omega) (br_t rfl (yr_0 hv (by omega) rfl (br_t rfl ⟨rfl, i_in h⟩)))
end
