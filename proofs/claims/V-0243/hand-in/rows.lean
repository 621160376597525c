section
/-! pure rows to paste: stores, nI and lN arithmetic, masks, shifts, narrowing, branches by naturals (pk_le, pk_lt, pk_eq), loops (lp1 .. lp16: the measure of the state; rp1 ..: recursion), negatives. Take what you need -/
theorem pk_us {f : Nat → Int32} {k : Nat} {x : Int32} : upd f k x k = x := if_pos rfl
theorem pk_un {f : Nat → Int32} {k j : Nat} {x : Int32} (h : j ≠ k) : upd f k x j = f j := if_neg h
theorem pk_uLs {f : Nat → Int64} {k : Nat} {x : Int64} : vp_updL f k x k = x := if_pos rfl
theorem pk_uLn {f : Nat → Int64} {k j : Nat} {x : Int64} (h : j ≠ k) : vp_updL f k x j = f j := if_neg h
theorem pk_sub {a b : Nat} (h : b ≤ a) : nI a - nI b = nI (a - b) := by
  obtain ⟨c, rfl⟩ : ∃ c, a = c + b := ⟨a - b, by omega⟩
  rw [← nI_add, Int32.add_sub_cancel, Nat.add_sub_cancel]
theorem pk_m1 (n : Nat) : nI (n + 1) + (-1) = nI n := by
  rw [← nI_1, Int32.add_assoc, show (1 : Int32) + (-1) = 0 from rfl, Int32.add_zero]
theorem pk_mul (a b : Nat) : nI a * nI b = nI (a * b) := (Int32.ofNat_mul a b).symm
theorem pk_div {a d : Nat} (ha : a < 2 ^ 31) (h0 : 0 < d) (hd : d < 2 ^ 31) : nI a / nI d = nI (a / d) := by
  apply Int32.toInt_inj.mp
  rw [lg_idiv_nonneg (by rw [nI_toInt ha]; omega) (by rw [nI_toInt hd]; omega), nI_toInt ha, nI_toInt hd, nI_toInt (Nat.lt_of_le_of_lt (Nat.div_le_self a d) ha)]
  first | rfl | exact (Int.natCast_ediv _ _).symm
theorem pk_rem {a d : Nat} (ha : a < 2 ^ 31) (h0 : 0 < d) (hd : d < 2 ^ 31) : nI a - nI a / nI d * nI d = nI (a % d) := by
  rw [pk_div ha h0 hd, pk_mul, pk_sub (Nat.div_mul_le_self a d)]
  exact congrArg nI (by have := Nat.div_add_mod' a d; omega)
theorem pk_sub_toInt {a b : Nat} (ha : a < 2 ^ 30) (hb : b < 2 ^ 30) : (nI a - nI b).toInt = (a : Int) - b := by
  rw [Int32.toInt_sub, nI_toInt (by omega), nI_toInt (by omega)]
  exact Int.bmod_eq_of_le (by omega) (by omega)
theorem pk_sneg {a b : Nat} (hb : b < 2 ^ 30) (h : a < b) : nI a - nI b < 0 := by
  rw [Int32.lt_iff_toInt_lt, pk_sub_toInt (by omega) hb, show (0 : Int32).toInt = 0 from by decide]
  omega
theorem pk_ix (x : Int32) {n : Nat} (hn : n < 2 ^ 31) : x < 0 ∨ nI n ≤ x ∨ ∃ j : Nat, j < n ∧ x = nI j := by
  by_cases h : x < 0
  · exact Or.inl h
  · obtain ⟨j, hj, rfl⟩ := nI_of h
    by_cases h2 : j < n
    · exact Or.inr (Or.inr ⟨j, h2, rfl⟩)
    · exact Or.inr (Or.inl (nI_le (by omega) hj))
theorem pk_le {x y : Int32} {A B : Prop} (a b : Nat) (f : a ≤ b → A) (g : b < a → B) (hx : x = nI a := by rfl) (hy : y = nI b := by rfl) (ha : a < 2 ^ 31 := by omega) (hb : b < 2 ^ 31 := by omega) : (x ≤ y → A) ∧ (¬ x ≤ y → B) := by
  subst hx hy
  rw [nI_leI ha hb]
  exact ⟨f, fun z => g (by omega)⟩
theorem pk_lt {x y : Int32} {A B : Prop} (a b : Nat) (f : a < b → A) (g : b ≤ a → B) (hx : x = nI a := by rfl) (hy : y = nI b := by rfl) (ha : a < 2 ^ 31 := by omega) (hb : b < 2 ^ 31 := by omega) : (x < y → A) ∧ (¬ x < y → B) := by
  subst hx hy
  rw [nI_ltI ha hb]
  exact ⟨f, fun z => g (by omega)⟩
theorem pk_eq {x y : Int32} {A B : Prop} (a b : Nat) (f : a = b → A) (g : a ≠ b → B) (hx : x = nI a := by rfl) (hy : y = nI b := by rfl) (ha : a < 2 ^ 31 := by omega) (hb : b < 2 ^ 31 := by omega) : (x = y → A) ∧ (¬ x = y → B) := by
  subst hx hy
  rw [nI_eq ha hb]
  exact ⟨f, g⟩
theorem pk_in {x : Int32} (n N : Nat) (h : n < N) (hx : x = nI n := by rfl) (hN : N < 2 ^ 31 := by omega) : vp_in x N := by
  subst hx
  exact vp_in_nI h hN
theorem pk_cl {x : Int32} (n : Nat) (hx : x = nI n := by rfl) (h : n < 2 ^ 31 := by omega) : x.toNatClampNeg = n := by
  subst hx
  exact nI_clamp h
theorem pk_tn {n : Nat} (h : n < 2 ^ 32) : (nI n).toBitVec.toNat = n := Nat.mod_eq_of_lt h
theorem pk_and (x : Int32) {m : Int32} (k : Nat) (hm : m.toBitVec.toNat = 2 ^ k - 1) : x &&& m = nI (x.toBitVec.toNat % 2 ^ k) := by
  apply Int32.toBitVec_inj.mp
  apply BitVec.eq_of_toNat_eq
  rw [Int32.toBitVec_and, BitVec.toNat_and, hm, Nat.and_two_pow_sub_one_eq_mod]
  show _ = (BitVec.ofNat 32 _).toNat
  rw [BitVec.toNat_ofNat]
  exact (Nat.mod_eq_of_lt (Nat.lt_of_le_of_lt (Nat.mod_le _ _) x.toBitVec.isLt)).symm
theorem pk_andN {n : Nat} (h : n < 2 ^ 32) {m : Int32} (k : Nat) (hm : m.toBitVec.toNat = 2 ^ k - 1) : nI n &&& m = nI (n % 2 ^ k) := by
  rw [pk_and _ k hm, pk_tn h]
theorem pk_andE (x : Int32) {m : Int32} (k : Nat) (hm : m.toBitVec.toNat = 2 ^ k - 1) : ∃ j : Nat, j < 2 ^ k ∧ x &&& m = nI j := ⟨_, Nat.mod_lt _ (Nat.two_pow_pos k), pk_and x k hm⟩
theorem pk_andIn (x : Int32) {m : Int32} (k : Nat) (hm : m.toBitVec.toNat = 2 ^ k - 1) (hk : k ≤ 30) : vp_in (x &&& m) (2 ^ k) := by
  obtain ⟨j, hj, e⟩ := pk_andE x k hm
  rw [e]
  exact vp_in_nI hj (Nat.lt_of_le_of_lt (Nat.pow_le_pow_right (by decide) hk) (by decide))
theorem pk_shl (a s : Int32) (k : Nat) (hs : (s.toBitVec.smod 32).toNat = k) : (a <<< s).toBitVec.toNat = a.toBitVec.toNat * 2 ^ k % 2 ^ 32 := by
  show (a.toBitVec <<< (s.toBitVec.smod 32).toNat).toNat = _
  rw [hs, BitVec.toNat_shiftLeft, Nat.shiftLeft_eq]
theorem pk_shlN {n : Nat} (s : Int32) (k : Nat) (hs : (s.toBitVec.smod 32).toNat = k) (h : n * 2 ^ k < 2 ^ 32) : nI n <<< s = nI (n * 2 ^ k) := by
  apply Int32.toBitVec_inj.mp
  apply BitVec.eq_of_toNat_eq
  have hn : n < 2 ^ 32 := Nat.lt_of_le_of_lt (Nat.le_mul_of_pos_right n (Nat.two_pow_pos k)) h
  rw [pk_shl _ _ k hs, pk_tn hn, pk_tn h, Nat.mod_eq_of_lt h]
theorem pk_shr (a s : Int32) (k : Nat) (hs : (s.toBitVec.smod 32).toNat = k) : (a >>> s).toInt = a.toInt >>> k := by
  show (a.toBitVec.sshiftRight (s.toBitVec.smod 32).toNat).toInt = _
  rw [hs, BitVec.toInt_sshiftRight]
  rfl
theorem pk_shrN {n : Nat} (h : n < 2 ^ 31) (s : Int32) (k : Nat) (hs : (s.toBitVec.smod 32).toNat = k) : nI n >>> s = nI (n / 2 ^ k) := by
  apply Int32.toInt_inj.mp
  have h2 : n / 2 ^ k ≤ n := Nat.div_le_self _ _
  rw [pk_shr _ _ k hs, nI_toInt h, nI_toInt (by omega), Int.shiftRight_eq_div_pow]
  rfl
theorem pk_ushr (x s : Int32) (k : Nat) (hs : ((s.toUInt32 &&& Int32.toUInt32 31).toBitVec % 32).toNat = k) : (x.toUInt32 >>> (s.toUInt32 &&& Int32.toUInt32 31)).toInt32.toBitVec.toNat = x.toBitVec.toNat / 2 ^ k := by
  have e : (x.toUInt32 >>> (s.toUInt32 &&& Int32.toUInt32 31)).toInt32.toBitVec = x.toBitVec >>> k := by
    rw [← hs]
    exact UInt32.toBitVec_shiftRight _ _
  rw [e, BitVec.toNat_ushiftRight, Nat.shiftRight_eq_div_pow]
theorem pk_least (P : Nat → Prop) (h : ∃ k, P k) : ∃ k, P k ∧ ∀ j, j < k → ¬ P j := by
  obtain ⟨k, hk⟩ := h
  induction k using Nat.strongRecOn with
  | ind k ih =>
    by_cases e : ∃ j, j < k ∧ P j
    · obtain ⟨j, hj, pj⟩ := e
      exact ih j hj pj
    · exact ⟨k, hk, fun j hj pj => e ⟨j, hj, pj⟩⟩
theorem ek_if {c d A B : Prop} (e : c ↔ d) (f : d → A) (g : ¬ d → B) : (c → A) ∧ (¬ c → B) :=
  ⟨fun z => f (e.mp z), fun z => g (fun y => z (e.mpr y))⟩
theorem sb_m1 {p : Nat} (h : 0 < p) : nI p + (-1) = nI (p - 1) := by
  obtain ⟨q, rfl⟩ : ∃ q, p = q + 1 := ⟨p - 1, by omega⟩
  exact pk_m1 q
/-! ===== Int32 by its bits: bt x i ===== -/
def bt (x : Int32) (i : Nat) : Bool := x.toBitVec.getLsbD i
theorem b_ext {x y : Int32} (h : ∀ i, i < 32 → bt x i = bt y i) : x = y := Int32.toBitVec_inj.mp (BitVec.eq_of_getLsbD_eq (fun i hi => h i hi))
theorem b_or (x y : Int32) (i : Nat) : bt (x ||| y) i = (bt x i || bt y i) := by unfold bt; rw [Int32.toBitVec_or, BitVec.getLsbD_or]
theorem b_and (x y : Int32) (i : Nat) : bt (x &&& y) i = (bt x i && bt y i) := by unfold bt; rw [Int32.toBitVec_and, BitVec.getLsbD_and]
theorem b_xor (x y : Int32) (i : Nat) : bt (x ^^^ y) i = (bt x i ^^ bt y i) := by unfold bt; rw [Int32.toBitVec_xor, BitVec.getLsbD_xor]
theorem b_big {x : Int32} {i : Nat} (h : 32 ≤ i) : bt x i = false := BitVec.getLsbD_of_ge _ _ h
theorem b_255 (i : Nat) : bt 255 i = decide (i < 8) := by
  rcases Nat.lt_or_ge i 32 with h | h
  · exact (by decide +kernel : ∀ i, i < 32 → bt 255 i = decide (i < 8)) i h
  · rw [b_big h, decide_eq_false (by omega)]
theorem b_65535 (i : Nat) : bt 65535 i = decide (i < 16) := by
  rcases Nat.lt_or_ge i 32 with h | h
  · exact (by decide +kernel : ∀ i, i < 32 → bt 65535 i = decide (i < 16)) i h
  · rw [b_big h, decide_eq_false (by omega)]
theorem b_m1 : ∀ i, i < 32 → bt (-1) i = true := by decide +kernel
theorem b_0 (i : Nat) : bt 0 i = false := BitVec.getLsbD_zero
theorem s_l : ∀ n, n < 32 → ((nI n &&& 31).toBitVec.smod 32).toNat = n := by decide +kernel
theorem s_u : ∀ n, n < 32 → (((nI n).toUInt32 &&& Int32.toUInt32 31).toBitVec % 32).toNat = n := by decide +kernel
theorem b_shl (n : Nat) (hn : n < 32) (x : Int32) {i : Nat} (hi : i < 32) : bt (x <<< (nI n &&& 31)) i = (decide (n ≤ i) && bt x (i - n)) := by
  unfold bt
  rw [Int32.toBitVec_shiftLeft]
  show (x.toBitVec <<< ((nI n &&& 31).toBitVec.smod 32).toNat).getLsbD i = _
  rw [s_l n hn, BitVec.getLsbD_shiftLeft]
  rcases Nat.lt_or_ge i n with h | h
  · simp [h, Nat.not_le.mpr h]
  · simp [hi, h, Nat.not_lt.mpr h]
theorem b_ushr (n : Nat) (hn : n < 32) (x : Int32) (i : Nat) : bt ((x.toUInt32 >>> ((nI n).toUInt32 &&& Int32.toUInt32 31)).toInt32) i = bt x (n + i) := by
  show (x.toUInt32 >>> ((nI n).toUInt32 &&& Int32.toUInt32 31)).toBitVec.getLsbD i = x.toUInt32.toBitVec.getLsbD (n + i)
  rw [UInt32.toBitVec_shiftRight]
  show (x.toUInt32.toBitVec >>> (((nI n).toUInt32 &&& Int32.toUInt32 31).toBitVec % 32).toNat).getLsbD i = _
  rw [s_u n hn, BitVec.getLsbD_ushiftRight]
theorem b_sshr (n : Nat) (hn : n < 32) (x : Int32) {i : Nat} (hi : i < 32) : bt (x >>> (nI n &&& 31)) i = if n + i < 32 then bt x (n + i) else bt x 31 := by
  unfold bt
  rw [Int32.toBitVec_shiftRight]
  show (x.toBitVec.sshiftRight ((nI n &&& 31).toBitVec.smod 32).toNat).getLsbD i = _
  rw [s_l n hn, BitVec.getLsbD_sshiftRight, BitVec.msb_eq_getLsbD_last]
  simp [hi]
theorem b_shl8 (x : Int32) {i : Nat} (hi : i < 32) : bt (x <<< ((8 : Int32) &&& 31)) i = (decide (8 ≤ i) && bt x (i - 8)) := b_shl 8 (by omega) x hi
theorem b_shl16 (x : Int32) {i : Nat} (hi : i < 32) : bt (x <<< ((16 : Int32) &&& 31)) i = (decide (16 ≤ i) && bt x (i - 16)) := b_shl 16 (by omega) x hi
theorem b_shl24 (x : Int32) {i : Nat} (hi : i < 32) : bt (x <<< ((24 : Int32) &&& 31)) i = (decide (24 ≤ i) && bt x (i - 24)) := b_shl 24 (by omega) x hi
theorem b_sshr8 (x : Int32) {i : Nat} (hi : i < 32) : bt (x >>> ((8 : Int32) &&& 31)) i = if 8 + i < 32 then bt x (8 + i) else bt x 31 := b_sshr 8 (by omega) x hi
end
section
/-! ===== masks as functions on bits ===== -/
theorem zk_bt1 : ∀ k, k < 32 → bt 1 k = decide (k = 0) := by decide +kernel
theorem zk_sh {p j : Nat} (hp : p < 32) (hj : j < 32) : bt ((1 : Int32) <<< (nI p &&& 31)) j = decide (j = p) := by
  rw [b_shl p hp 1 hj, zk_bt1 _ (by omega)]
  by_cases h : j = p
  · subst h; simp
  · rw [decide_eq_false h]
    by_cases h2 : p ≤ j
    · rw [decide_eq_true h2, decide_eq_false (by omega)]; rfl
    · rw [decide_eq_false h2]; rfl
def zk_N (f : Nat → Bool) : Nat → Int32
  | 0 => 0
  | m + 1 => zk_N f m ||| (if f m = true then (1 : Int32) <<< (nI m &&& 31) else 0)
theorem zk_Nb (f : Nat → Bool) : ∀ m, m ≤ 32 → ∀ j, j < 32 → bt (zk_N f m) j = (decide (j < m) && f j) := by
  intro m
  induction m with
  | zero => intro _ j _; rw [show zk_N f 0 = 0 from rfl, b_0]; simp
  | succ m ih =>
    intro hm j hj
    rw [show zk_N f (m + 1) = zk_N f m ||| (if f m = true then (1 : Int32) <<< (nI m &&& 31) else 0) from rfl, b_or, ih (by omega) j hj]
    by_cases e : j = m
    · subst e
      cases h : f j
      · rw [if_neg (by simp), b_0]; simp
      · rw [if_pos rfl, zk_sh (by omega) hj]; simp
    · have e2 : bt (if f m = true then (1 : Int32) <<< (nI m &&& 31) else 0) j = false := by
        cases h : f m
        · rw [if_neg (by simp), b_0]
        · rw [if_pos rfl, zk_sh (by omega) hj, decide_eq_false e]
      rw [e2, Bool.or_false]
      by_cases h : j < m
      · rw [decide_eq_true h, decide_eq_true (by omega)]
      · rw [decide_eq_false h, decide_eq_false (by omega)]
def zk_m (f : Nat → Bool) : Int32 := zk_N f 32
theorem zk_bt (f : Nat → Bool) {j : Nat} (hj : j < 32) : bt (zk_m f) j = f j := by
  rw [show zk_m f = zk_N f 32 from rfl, zk_Nb f 32 (by omega) j hj, decide_eq_true hj]; rfl
theorem zk_ext {f g : Nat → Bool} (h : ∀ j, j < 32 → f j = g j) : zk_m f = zk_m g :=
  b_ext fun i hi => by rw [zk_bt f hi, zk_bt g hi, h i hi]
theorem zk_of {x : Int32} {g : Nat → Bool} (h : ∀ j, j < 32 → bt x j = g j) : x = zk_m g :=
  b_ext fun i hi => by rw [zk_bt g hi, h i hi]
theorem zk_inj {f g : Nat → Bool} (h : zk_m f = zk_m g) {j : Nat} (hj : j < 32) : f j = g j := by
  rw [← zk_bt f hj, h, zk_bt g hj]
theorem zk_or (f g : Nat → Bool) : zk_m f ||| zk_m g = zk_m (fun j => f j || g j) :=
  zk_of fun j hj => by rw [b_or, zk_bt f hj, zk_bt g hj]
theorem zk_and (f g : Nat → Bool) : zk_m f &&& zk_m g = zk_m (fun j => f j && g j) :=
  zk_of fun j hj => by rw [b_and, zk_bt f hj, zk_bt g hj]
theorem zk_0 {f : Nat → Bool} (h : ∀ j, j < 32 → f j = false) : zk_m f = 0 :=
  (zk_of (x := 0) fun j hj => by rw [b_0, h j hj]).symm
theorem zk_z {x : Int32} (h : ∀ j, j < 32 → bt x j = false) : x = 0 := b_ext fun i hi => by rw [h i hi, b_0]
theorem zk_nz {x : Int32} (h : ¬ x = 0) : ∃ j, j < 32 ∧ bt x j = true := by
  apply Classical.byContradiction
  intro hn
  apply h
  apply zk_z
  intro j hj
  cases e : bt x j
  · rfl
  · exact absurd ⟨j, hj, e⟩ hn
theorem zk_one {p : Nat} (hp : p < 32) : (1 : Int32) <<< (nI p &&& 31) = zk_m (fun j => decide (j = p)) :=
  zk_of fun _ hj => zk_sh hp hj
/-- a boolean as an int -/
def b01 (b : Bool) : Int32 := if b = true then 1 else 0
theorem b01_t : b01 true = 1 := rfl
theorem b01_f : b01 false = 0 := rfl
theorem b01_0 {b : Bool} : b01 b = 0 ↔ b = false := by cases b <;> decide
theorem b01_1 {b : Bool} : b01 b = 1 ↔ b = true := by cases b <;> decide
theorem b01_nar (b : Bool) : vp_nar .boolean (b01 b) = b01 b := by cases b <;> rfl
theorem b01_n0 : vp_nar .boolean 0 = b01 false := rfl
theorem b01_n1 : vp_nar .boolean 1 = b01 true := rfl
theorem zk_tv (x : Int32) {p : Nat} (hp : p < 32) : (x >>> (nI p &&& 31)) &&& 1 = b01 (bt x p) := by
  apply b_ext
  intro i hi
  rw [b_and, b_sshr p hp x hi, zk_bt1 i hi]
  by_cases e : i = 0
  · subst e
    rw [if_pos (by omega), Nat.add_zero]
    cases bt x p <;> decide
  · rw [decide_eq_false e, Bool.and_false]
    cases bt x p
    · rw [b01_f, b_0]
    · rw [b01_t, zk_bt1 i hi, decide_eq_false e]
theorem zk_t0 {x : Int32} {p : Nat} (hp : p < 32) : ((x >>> (nI p &&& 31)) &&& 1) = 0 ↔ bt x p = false := by
  rw [zk_tv x hp, b01_0]
theorem zk_t1 {x : Int32} {p : Nat} (hp : p < 32) : ((x >>> (nI p &&& 31)) &&& 1) = 1 ↔ bt x p = true := by
  rw [zk_tv x hp, b01_1]
theorem zk_br {x : Int32} {A B : Prop} (p : Nat) (hp : p < 32) (f : bt x p = false → A) (g : bt x p = true → B) :
    ((((x >>> (nI p &&& 31)) &&& 1) = 0 → A) ∧ (¬ ((x >>> (nI p &&& 31)) &&& 1) = 0 → B)) := by
  refine ⟨fun h => f ((zk_t0 hp).mp h), fun h => g ?_⟩
  cases e : bt x p
  · exact absurd ((zk_t0 hp).mpr e) h
  · rfl
theorem zk_br1 {x : Int32} {A B : Prop} (p : Nat) (hp : p < 32) (f : bt x p = true → A) (g : bt x p = false → B) :
    ((((x >>> (nI p &&& 31)) &&& 1) = 1 → A) ∧ (¬ ((x >>> (nI p &&& 31)) &&& 1) = 1 → B)) := by
  refine ⟨fun h => f ((zk_t1 hp).mp h), fun h => g ?_⟩
  cases e : bt x p
  · rfl
  · exact absurd ((zk_t1 hp).mpr e) h
theorem zk_bb {b : Bool} {z : Int32} {A B : Prop} (hz : z = b01 b) (f : b = false → A) (g : b = true → B) :
    ((z = 0 → A) ∧ (¬ z = 0 → B)) := by
  subst hz
  cases b
  · exact ⟨fun _ => f rfl, fun h => absurd b01_f h⟩
  · exact ⟨fun h => absurd h (by decide), fun _ => g rfl⟩
theorem zk_not (x : Int32) {j : Nat} (hj : j < 32) : bt (x ^^^ (-1)) j = !bt x j := by
  rw [b_xor, b_m1 j hj]; cases bt x j <;> rfl
theorem zk_sub {x y : Int32} : (x &&& (y ^^^ (-1))) = 0 ↔ ∀ j, j < 32 → bt x j = true → bt y j = true := by
  constructor
  · intro h j hj hx
    have e : bt (x &&& (y ^^^ (-1))) j = false := by rw [h, b_0]
    rw [b_and, zk_not y hj, hx] at e
    cases hy : bt y j
    · rw [hy] at e; cases e
    · rfl
  · intro h
    apply zk_z
    intro j hj
    rw [b_and, zk_not y hj]
    cases hx : bt x j
    · rfl
    · rw [h j hj hx]; rfl
/-! ===== a bounded 'exists' as a boolean ===== -/
def ex_b : Nat → (Nat → Bool) → Bool
  | 0, _ => false
  | m + 1, f => ex_b m f || f m
theorem ex_s (m : Nat) (f : Nat → Bool) : ex_b (m + 1) f = (ex_b m f || f m) := rfl
theorem ex_iff {m : Nat} {f : Nat → Bool} : ex_b m f = true ↔ ∃ a, a < m ∧ f a = true := by
  induction m with
  | zero => exact ⟨fun h => (nomatch h), fun ⟨a, h, _⟩ => absurd h (by omega)⟩
  | succ m ih =>
    rw [ex_s, Bool.or_eq_true, ih]
    constructor
    · rintro (⟨a, h, e⟩ | h)
      · exact ⟨a, by omega, e⟩
      · exact ⟨m, by omega, h⟩
    · rintro ⟨a, h, e⟩
      by_cases z : a = m
      · subst z; exact Or.inr e
      · exact Or.inl ⟨a, by omega, e⟩
theorem ex_ff {m : Nat} {f : Nat → Bool} : ex_b m f = false ↔ ∀ a, a < m → f a = false := by
  constructor
  · intro h a ha
    cases e : f a
    · rfl
    · rw [ex_iff.mpr ⟨a, ha, e⟩] at h; cases h
  · intro h
    cases e : ex_b m f
    · rfl
    · obtain ⟨a, ha, e2⟩ := ex_iff.mp e
      rw [h a ha] at e2; cases e2
theorem ex_c {m : Nat} {f g : Nat → Bool} (h : ∀ a, a < m → f a = g a) : ex_b m f = ex_b m g := by
  induction m with
  | zero => rfl
  | succ m ih => rw [ex_s, ex_s, ih (fun a ha => h a (by omega)), h m (by omega)]
theorem ex_or (m : Nat) (f g : Nat → Bool) : ex_b m (fun a => f a || g a) = (ex_b m f || ex_b m g) := by
  induction m with
  | zero => rfl
  | succ m ih =>
    rw [ex_s, ex_s, ex_s, ih]
    cases ex_b m f <;> cases ex_b m g <;> cases f m <;> cases g m <;> rfl
theorem ex_and (m : Nat) (f : Nat → Bool) (c : Bool) : ex_b m (fun a => f a && c) = (ex_b m f && c) := by
  induction m with
  | zero => rfl
  | succ m ih =>
    rw [ex_s, ex_s, ih]
    cases ex_b m f <;> cases f m <;> cases c <;> rfl
theorem ex_f (m : Nat) : ex_b m (fun _ => false) = false := ex_ff.mpr fun _ _ => rfl
theorem ex_at {m k : Nat} (hk : k < m) (f : Nat → Bool) : ex_b m (fun a => f a && decide (a = k)) = f k := by
  cases e : f k
  · apply ex_ff.mpr
    intro a _
    by_cases z : a = k
    · subst z; rw [e]; rfl
    · rw [decide_eq_false z, Bool.and_false]
  · exact ex_iff.mpr ⟨k, hk, by rw [e]; simp⟩
theorem bo_iff {a b : Bool} (h : a = true ↔ b = true) : a = b := by
  cases a <;> cases b <;> simp_all
end
section
/-! ===== the token machine, pure ===== -/
def tk_ar (c : Nat) : Nat := if c = 2 ∨ c = 3 then 1 else if c = 4 ∨ c = 5 ∨ c = 7 then 2 else if c = 6 then 3 else 0
def tk_hg (tk : Nat → Nat) : Nat → Nat
  | 0 => 0
  | i + 1 => tk_hg tk i - tk_ar (tk i) + 1
def tk_ac (tk : Nat → Nat) : Nat → Nat
  | 0 => 0
  | i + 1 => tk_ac tk i + (if 16 ≤ tk i then 1 else 0)
/-- the slot that token i writes -/
def tk_P (tk : Nat → Nat) (i : Nat) : Nat := tk_hg tk i - tk_ar (tk i)
/-- start place of the operand in a slot; at the height: i -/
def tk_sp (tk : Nat → Nat) : Nat → Nat → Nat
  | 0 => fun _ => 0
  | i + 1 => fun k => if k = tk_P tk i + 1 then i + 1 else tk_sp tk i k
/-- an operand: has an action; one x; first x q; last x a; follow a x q -/
abbrev Od : Type := Bool × (Nat → Bool) × (Nat → Nat → Bool) × (Nat → Nat → Bool) × (Nat → Nat → Nat → Bool)
def od_h (o : Od) : Bool := o.1
def od_on (o : Od) : Nat → Bool := o.2.1
def od_fi (o : Od) : Nat → Nat → Bool := o.2.2.1
def od_la (o : Od) : Nat → Nat → Bool := o.2.2.2.1
def od_fo (o : Od) : Nat → Nat → Nat → Bool := o.2.2.2.2
def od_0 : Od := (false, fun _ => false, fun _ _ => false, fun _ _ => false, fun _ _ _ => false)
def od_not (p : Od) : Od := (od_h p, fun x => !od_on p x, od_fi p, od_la p, od_fo p)
def od_star (p : Od) : Od := (od_h p, fun _ => true, od_fi p, od_la p, fun a x b => od_fo p a x b || (od_la p x a && od_fi p x b))
def od_seq (p q : Od) : Od := (od_h p || od_h q, fun x => od_on p x && od_on q x, fun x b => od_fi p x b || (od_on p x && od_fi q x b),
  fun x a => od_la q x a || (od_la p x a && od_on q x), fun a x b => (od_fo p a x b || od_fo q a x b) || (od_la p x a && od_fi q x b))
def od_plus (p q : Od) : Od := (od_h p || od_h q, fun x => od_on p x || od_on q x, fun x b => od_fi p x b || od_fi q x b,
  fun x a => od_la p x a || od_la q x a, fun a x b => od_fo p a x b || od_fo q a x b)
def od_if (p q r : Od) : Od := (od_h q || od_h r, fun x => if od_on p x = true then od_on q x else od_on r x,
  fun x b => if od_on p x = true then od_fi q x b else od_fi r x b,
  fun x a => od_la q x a || od_la r x a, fun a x b => od_fo q a x b || od_fo r a x b)
def od_while (p q : Od) : Od := (od_h q, fun x => !od_on p x, fun x b => od_on p x && od_fi q x b,
  fun x a => od_la q x a && !od_on p x, fun a x b => od_fo q a x b || (od_la q x a && (od_on p x && od_fi q x b)))
def od_leaf (c k : Nat) : Od := (decide (16 ≤ c), fun x => decide (c = 1) || (decide (8 ≤ c) && (decide (c < 16) && x.testBit (c - 8))),
  fun _ b => decide (16 ≤ c) && decide (b = k), fun _ a => decide (16 ≤ c) && decide (a = k), fun _ _ _ => false)
def od_new (c k : Nat) (p q r : Od) : Od :=
  if c = 2 then od_not p else if c = 3 then od_star p else if c = 4 then od_seq p q else if c = 5 then od_plus p q
  else if c = 6 then od_if p q r else if c = 7 then od_while p q else od_leaf c k
def tk_st (tk : Nat → Nat) : Nat → Nat → Od
  | 0 => fun _ => od_0
  | i + 1 => fun k => if k = tk_P tk i then od_new (tk i) (tk_ac tk i) (tk_st tk i (tk_P tk i)) (tk_st tk i (tk_P tk i + 1)) (tk_st tk i (tk_P tk i + 2)) else tk_st tk i k
theorem tk_st_new (tk : Nat → Nat) (i : Nat) : tk_st tk (i + 1) (tk_P tk i) = od_new (tk i) (tk_ac tk i) (tk_st tk i (tk_P tk i)) (tk_st tk i (tk_P tk i + 1)) (tk_st tk i (tk_P tk i + 2)) := if_pos rfl
theorem tk_st_old {tk : Nat → Nat} {i k : Nat} (h : k ≠ tk_P tk i) : tk_st tk (i + 1) k = tk_st tk i k := if_neg h
theorem tk_hg_s (tk : Nat → Nat) (i : Nat) : tk_hg tk (i + 1) = tk_P tk i + 1 := rfl
theorem tk_ac_s (tk : Nat → Nat) (i : Nat) : tk_ac tk (i + 1) = tk_ac tk i + (if 16 ≤ tk i then 1 else 0) := rfl
theorem tk_ac_a {tk : Nat → Nat} {i : Nat} (h : 16 ≤ tk i) : tk_ac tk (i + 1) = tk_ac tk i + 1 := by rw [tk_ac_s, if_pos h]
theorem tk_ac_n {tk : Nat → Nat} {i : Nat} (h : ¬ 16 ≤ tk i) : tk_ac tk (i + 1) = tk_ac tk i := by rw [tk_ac_s, if_neg h]; rfl
theorem tk_ac_mono (tk : Nat → Nat) {i j : Nat} (h : i ≤ j) : tk_ac tk i ≤ tk_ac tk j := by
  induction j with
  | zero => rw [show i = 0 by omega]; exact Nat.le_refl _
  | succ j ih =>
    by_cases e : i = j + 1
    · rw [e]; exact Nat.le_refl _
    · have := ih (by omega)
      rw [tk_ac_s]; omega
theorem tk_ac_lt (tk : Nat → Nat) {i j : Nat} (h : i < j) (ha : 16 ≤ tk i) : tk_ac tk i < tk_ac tk j := by
  have h1 := tk_ac_mono tk (show i + 1 ≤ j from h)
  rw [tk_ac_a ha] at h1; omega
theorem tk_ac_inj {tk : Nat → Nat} {i j : Nat} (hi : 16 ≤ tk i) (hj : 16 ≤ tk j) (e : tk_ac tk i = tk_ac tk j) : i = j := by
  rcases Nat.lt_trichotomy i j with h | h | h
  · have := tk_ac_lt tk h hi; omega
  · exact h
  · have := tk_ac_lt tk h hj; omega
theorem tk_ac_le (tk : Nat → Nat) (i : Nat) : tk_ac tk i ≤ i := by
  induction i with
  | zero => exact Nat.le_refl _
  | succ i ih => rw [tk_ac_s]; split <;> omega
/-- every occurrence has a place -/
theorem tk_ac_pl (tk : Nat → Nat) : ∀ n a, a < tk_ac tk n → ∃ i, i < n ∧ 16 ≤ tk i ∧ tk_ac tk i = a := by
  intro n
  induction n with
  | zero => intro a h; exact absurd h (Nat.not_lt_zero _)
  | succ n ih =>
    intro a h
    by_cases z : a < tk_ac tk n
    · obtain ⟨i, h1, h2, h3⟩ := ih a z
      exact ⟨i, by omega, h2, h3⟩
    · by_cases z2 : 16 ≤ tk n
      · rw [tk_ac_a z2] at h
        exact ⟨n, by omega, z2, by omega⟩
      · rw [tk_ac_n z2] at h
        exact absurd h z
/-- the action of an occurrence -/
def tk_lb (tk : Nat → Nat) : Nat → Nat → Nat
  | 0 => fun _ => 0
  | i + 1 => fun a => if 16 ≤ tk i ∧ tk_ac tk i = a then tk i - 16 else tk_lb tk i a
theorem tk_lb_at {tk : Nat → Nat} {n i : Nat} (hi : i < n) (ha : 16 ≤ tk i) : tk_lb tk n (tk_ac tk i) = tk i - 16 := by
  induction n with
  | zero => omega
  | succ n ih =>
    by_cases e : i = n
    · subst e; exact if_pos ⟨ha, rfl⟩
    · have : ¬ (16 ≤ tk n ∧ tk_ac tk n = tk_ac tk i) := fun z => e (tk_ac_inj ha z.1 z.2.symm)
      rw [show tk_lb tk (n + 1) (tk_ac tk i) = tk_lb tk n (tk_ac tk i) from if_neg this]
      exact ih (by omega)
/-! what depends on the first i tokens only -/
theorem tk_cong {tk tk' : Nat → Nat} : ∀ i, (∀ j, j < i → tk j = tk' j) → tk_hg tk i = tk_hg tk' i ∧ tk_ac tk i = tk_ac tk' i ∧ tk_sp tk i = tk_sp tk' i ∧ tk_st tk i = tk_st tk' i ∧ tk_lb tk i = tk_lb tk' i := by
  intro i
  induction i with
  | zero => intro _; exact ⟨rfl, rfl, rfl, rfl, rfl⟩
  | succ i ih =>
    intro h
    obtain ⟨h1, h2, h3, h4, h5⟩ := ih (fun j hj => h j (by omega))
    have e := h i (by omega)
    have hP : tk_P tk i = tk_P tk' i := by unfold tk_P; rw [h1, e]
    refine ⟨by rw [tk_hg_s, tk_hg_s, hP], by rw [tk_ac_s, tk_ac_s, h2, e], ?_, ?_, ?_⟩
    · funext k
      show (if k = tk_P tk i + 1 then i + 1 else tk_sp tk i k) = (if k = tk_P tk' i + 1 then i + 1 else tk_sp tk' i k)
      rw [hP, h3]
    · funext k
      show (if k = tk_P tk i then od_new (tk i) (tk_ac tk i) (tk_st tk i (tk_P tk i)) (tk_st tk i (tk_P tk i + 1)) (tk_st tk i (tk_P tk i + 2)) else tk_st tk i k) = (if k = tk_P tk' i then od_new (tk' i) (tk_ac tk' i) (tk_st tk' i (tk_P tk' i)) (tk_st tk' i (tk_P tk' i + 1)) (tk_st tk' i (tk_P tk' i + 2)) else tk_st tk' i k)
      rw [hP, h4, h2, e]
    · funext a
      show (if 16 ≤ tk i ∧ tk_ac tk i = a then tk i - 16 else tk_lb tk i a) = (if 16 ≤ tk' i ∧ tk_ac tk' i = a then tk' i - 16 else tk_lb tk' i a)
      rw [h2, h5, e]
/-- a lawful list of n tokens with T tests and A actions -/
def tk_code (T A c : Nat) : Prop := c ≤ 7 ∨ (8 ≤ c ∧ c < 8 + T) ∨ (16 ≤ c ∧ c < 16 + A)
def tk_ok1 (T A : Nat) (tk : Nat → Nat) (i : Nat) : Prop :=
  tk_ar (tk i) ≤ tk_hg tk i ∧ tk_code T A (tk i) ∧ ((tk i = 2 ∨ tk i = 6 ∨ tk i = 7) → od_h (tk_st tk i (tk_P tk i)) = false)
def tk_ok (T A : Nat) (tk : Nat → Nat) (n : Nat) : Prop := ∀ i, i < n → tk_ok1 T A tk i
theorem tk_ok_le {T A : Nat} {tk : Nat → Nat} {n m : Nat} (h : tk_ok T A tk n) (hm : m ≤ n) : tk_ok T A tk m := fun i hi => h i (by omega)
theorem tk_ok_cong {T A : Nat} {tk tk' : Nat → Nat} {n : Nat} (e : ∀ j, j < n → tk j = tk' j) (h : tk_ok T A tk n) : tk_ok T A tk' n := by
  intro i hi
  obtain ⟨h1, h2, h3⟩ := h i hi
  obtain ⟨e1, e2, e3, e4, e5⟩ := tk_cong (tk := tk) (tk' := tk') i (fun j hj => e j (by omega))
  have ei := e i hi
  have hP : tk_P tk i = tk_P tk' i := by unfold tk_P; rw [e1, ei]
  exact ⟨by rw [← ei, ← e1]; exact h1, by rw [← ei]; exact h2, by rw [← ei, ← e4, ← hP]; exact h3⟩
theorem tk_hg_le (tk : Nat → Nat) (i : Nat) : tk_hg tk i ≤ i := by
  induction i with
  | zero => exact Nat.le_refl _
  | succ i ih => rw [tk_hg_s]; unfold tk_P; omega
theorem tk_P_lt {tk : Nat → Nat} {i : Nat} : tk_P tk i ≤ i := by
  have := tk_hg_le tk i; unfold tk_P; omega
/-! spans -/
theorem tk_sp_at {tk : Nat → Nat} (i : Nat) : tk_sp tk i (tk_hg tk i) = i := by
  cases i with
  | zero => rfl
  | succ i => exact if_pos rfl
theorem tk_sp_0 {tk : Nat → Nat} (i : Nat) : tk_sp tk i 0 = 0 := by
  induction i with
  | zero => rfl
  | succ i ih =>
    show (if 0 = tk_P tk i + 1 then i + 1 else tk_sp tk i 0) = 0
    rw [if_neg (by omega)]; exact ih
theorem tk_sp_le {tk : Nat → Nat} {i k : Nat} (h : k ≤ tk_P tk i) : tk_sp tk (i + 1) k = tk_sp tk i k := if_neg (by omega)
theorem tk_sp_s (tk : Nat → Nat) (i : Nat) : tk_sp tk (i + 1) (tk_P tk i + 1) = i + 1 := if_pos rfl
theorem tk_sp_b {tk : Nat → Nat} : ∀ i k, tk_sp tk i k ≤ i := by
  intro i
  induction i with
  | zero => intro k; exact Nat.le_refl _
  | succ i ih =>
    intro k
    by_cases e : k = tk_P tk i + 1
    · rw [e, tk_sp_s]; exact Nat.le_refl _
    · rw [show tk_sp tk (i + 1) k = tk_sp tk i k from if_neg e]; exact Nat.le_succ_of_le (ih k)
/-- every slot's last token knows its start -/
theorem tk_sp_bg {tk : Nat → Nat} : ∀ i k, k < tk_hg tk i → tk_sp tk i k < tk_sp tk i (k + 1) ∧ tk_sp tk (tk_sp tk i (k + 1) - 1) (tk_P tk (tk_sp tk i (k + 1) - 1)) = tk_sp tk i k := by
  intro i
  induction i with
  | zero => intro k h; exact absurd h (Nat.not_lt_zero _)
  | succ i ih =>
    intro k h
    rw [tk_hg_s] at h
    by_cases e : k = tk_P tk i
    · subst e
      rw [tk_sp_s, tk_sp_le (Nat.le_refl _), Nat.add_sub_cancel]
      exact ⟨by have := tk_sp_b (tk := tk) i (tk_P tk i); omega, rfl⟩
    · have hk : k + 1 ≤ tk_P tk i := by omega
      have hh : k < tk_hg tk i := by unfold tk_P at hk; omega
      rw [tk_sp_le hk, tk_sp_le (by omega)]
      exact ih k hh
theorem tk_sp_mono {tk : Nat → Nat} {i : Nat} : ∀ d k, k + d ≤ tk_hg tk i → tk_sp tk i k ≤ tk_sp tk i (k + d) := by
  intro d
  induction d with
  | zero => intro k _; exact Nat.le_refl _
  | succ d ih =>
    intro k h
    have h1 := ih k (by omega)
    have h2 := (tk_sp_bg (tk := tk) i (k + d) (by omega)).1
    rw [show k + (d + 1) = k + d + 1 from rfl]; omega
theorem tk_ar_cases (c : Nat) : (c = 2 ∧ tk_ar c = 1) ∨ (c = 3 ∧ tk_ar c = 1) ∨ (c = 4 ∧ tk_ar c = 2) ∨ (c = 5 ∧ tk_ar c = 2) ∨ (c = 6 ∧ tk_ar c = 3) ∨ (c = 7 ∧ tk_ar c = 2) ∨ ((c ≠ 2 ∧ c ≠ 3 ∧ c ≠ 4 ∧ c ≠ 5 ∧ c ≠ 6 ∧ c ≠ 7) ∧ tk_ar c = 0) := by
  by_cases h2 : c = 2
  · subst h2; exact Or.inl ⟨rfl, rfl⟩
  by_cases h3 : c = 3
  · subst h3; exact Or.inr (Or.inl ⟨rfl, rfl⟩)
  by_cases h4 : c = 4
  · subst h4; exact Or.inr (Or.inr (Or.inl ⟨rfl, rfl⟩))
  by_cases h5 : c = 5
  · subst h5; exact Or.inr (Or.inr (Or.inr (Or.inl ⟨rfl, rfl⟩)))
  by_cases h6 : c = 6
  · subst h6; exact Or.inr (Or.inr (Or.inr (Or.inr (Or.inl ⟨rfl, rfl⟩))))
  by_cases h7 : c = 7
  · subst h7; exact Or.inr (Or.inr (Or.inr (Or.inr (Or.inr (Or.inl ⟨rfl, rfl⟩)))))
  refine Or.inr (Or.inr (Or.inr (Or.inr (Or.inr (Or.inr ⟨⟨h2, h3, h4, h5, h6, h7⟩, ?_⟩)))))
  unfold tk_ar
  rw [if_neg (by omega), if_neg (by omega), if_neg (by omega)]
theorem od_new_leaf {c k : Nat} {p q r : Od} (h : c ≠ 2 ∧ c ≠ 3 ∧ c ≠ 4 ∧ c ≠ 5 ∧ c ≠ 6 ∧ c ≠ 7) : od_new c k p q r = od_leaf c k := by
  unfold od_new
  rw [if_neg h.1, if_neg h.2.1, if_neg h.2.2.1, if_neg h.2.2.2.1, if_neg h.2.2.2.2.1, if_neg h.2.2.2.2.2]
/-- an operand has an action iff its span has one -/
theorem tk_has {T A : Nat} {tk : Nat → Nat} : ∀ i, tk_ok T A tk i → ∀ k, k < tk_hg tk i → (od_h (tk_st tk i k) = decide (tk_ac tk (tk_sp tk i k) < tk_ac tk (tk_sp tk i (k + 1)))) := by
  intro i
  induction i with
  | zero => intro _ k h; exact absurd h (Nat.not_lt_zero _)
  | succ i ih =>
    intro ok k h
    have ok' := tk_ok_le ok (Nat.le_succ i)
    have IH := ih ok'
    obtain ⟨o1, o2, o3⟩ := ok i (Nat.lt_succ_self i)
    rw [tk_hg_s] at h
    by_cases e : k = tk_P tk i
    · subst e
      rw [tk_st_new, tk_sp_s, tk_sp_le (Nat.le_refl _)]
      have hat := tk_sp_at (tk := tk) i
      have hm : tk_sp tk i (tk_P tk i) ≤ i := tk_sp_b i _
      rcases tk_ar_cases (tk i) with ⟨c, a⟩ | ⟨c, a⟩ | ⟨c, a⟩ | ⟨c, a⟩ | ⟨c, a⟩ | ⟨c, a⟩ | ⟨c, a⟩
      all_goals rw [a] at o1
      · have hP : tk_P tk i + 1 = tk_hg tk i := by unfold tk_P; rw [a]; omega
        have h1 := IH (tk_P tk i) (by omega)
        rw [hP, hat] at h1
        rw [tk_ac_n (by omega), ← h1, c]; rfl
      · have hP : tk_P tk i + 1 = tk_hg tk i := by unfold tk_P; rw [a]; omega
        have h1 := IH (tk_P tk i) (by omega)
        rw [hP, hat] at h1
        rw [tk_ac_n (by omega), ← h1, c]; rfl
      · have hP : tk_P tk i + 2 = tk_hg tk i := by unfold tk_P; rw [a]; omega
        have h1 := IH (tk_P tk i) (by omega)
        have h2 := IH (tk_P tk i + 1) (by omega)
        rw [show tk_P tk i + 1 + 1 = tk_hg tk i from hP, hat] at h2
        have m1 := tk_ac_mono tk (tk_sp_mono (tk := tk) (i := i) 1 (tk_P tk i) (by omega))
        have m2 := tk_ac_mono tk (tk_sp_b (tk := tk) i (tk_P tk i + 1))
        rw [tk_ac_n (by omega), c]
        show (od_h _ || od_h _) = _
        rw [h1, h2, ← Bool.decide_or]
        exact decide_eq_decide.mpr (by omega)
      · have hP : tk_P tk i + 2 = tk_hg tk i := by unfold tk_P; rw [a]; omega
        have h1 := IH (tk_P tk i) (by omega)
        have h2 := IH (tk_P tk i + 1) (by omega)
        rw [show tk_P tk i + 1 + 1 = tk_hg tk i from hP, hat] at h2
        have m1 := tk_ac_mono tk (tk_sp_mono (tk := tk) (i := i) 1 (tk_P tk i) (by omega))
        have m2 := tk_ac_mono tk (tk_sp_b (tk := tk) i (tk_P tk i + 1))
        rw [tk_ac_n (by omega), c]
        show (od_h _ || od_h _) = _
        rw [h1, h2, ← Bool.decide_or]
        exact decide_eq_decide.mpr (by omega)
      · have hP : tk_P tk i + 3 = tk_hg tk i := by unfold tk_P; rw [a]; omega
        have h0 := IH (tk_P tk i) (by omega)
        rw [o3 (by omega)] at h0
        have h0 := of_decide_eq_false h0.symm
        have h1 := IH (tk_P tk i + 1) (by omega)
        have h2 := IH (tk_P tk i + 2) (by omega)
        rw [show tk_P tk i + 2 + 1 = tk_hg tk i from hP, hat] at h2
        have m0 := tk_ac_mono tk (tk_sp_mono (tk := tk) (i := i) 1 (tk_P tk i) (by omega))
        have m1 := tk_ac_mono tk (tk_sp_mono (tk := tk) (i := i) 1 (tk_P tk i + 1) (by omega))
        have m2 := tk_ac_mono tk (tk_sp_b (tk := tk) i (tk_P tk i + 2))
        rw [tk_ac_n (by omega), c]
        show (od_h _ || od_h _) = _
        rw [h1, h2, ← Bool.decide_or]
        rw [show tk_P tk i + 1 + 1 = tk_P tk i + 2 from rfl] at *
        exact decide_eq_decide.mpr (by omega)
      · have hP : tk_P tk i + 2 = tk_hg tk i := by unfold tk_P; rw [a]; omega
        have h0 := IH (tk_P tk i) (by omega)
        rw [o3 (by omega)] at h0
        have h0 := of_decide_eq_false h0.symm
        have h2 := IH (tk_P tk i + 1) (by omega)
        rw [show tk_P tk i + 1 + 1 = tk_hg tk i from hP, hat] at h2
        have m1 := tk_ac_mono tk (tk_sp_mono (tk := tk) (i := i) 1 (tk_P tk i) (by omega))
        have m2 := tk_ac_mono tk (tk_sp_b (tk := tk) i (tk_P tk i + 1))
        rw [tk_ac_n (by omega), c]
        refine h2.trans ?_
        exact decide_eq_decide.mpr (by omega)
      · have hP : tk_P tk i = tk_hg tk i := by unfold tk_P; rw [a]; omega
        rw [od_new_leaf c, hP, hat, tk_ac_s]
        show decide (16 ≤ tk i) = _
        refine decide_eq_decide.mpr ?_
        split <;> omega
    · have hk : k + 1 ≤ tk_P tk i := by omega
      have hh : k < tk_hg tk i := by unfold tk_P at hk; omega
      rw [tk_st_old e, tk_sp_le hk, tk_sp_le (by omega)]
      exact IH k hh
/-- bounds: an operand speaks of occurrences below m only -/
def od_B (m : Nat) (o : Od) : Prop := (∀ x b, od_fi o x b = true → b < m) ∧ (∀ x a, od_la o x a = true → a < m) ∧ (∀ a x b, od_fo o a x b = true → a < m ∧ b < m)
def od_Z (o : Od) : Prop := od_h o = false → (∀ x b, od_fi o x b = false) ∧ (∀ x a, od_la o x a = false) ∧ (∀ a x b, od_fo o a x b = false)
theorem od_B_le {m m' : Nat} {o : Od} (h : od_B m o) (hm : m ≤ m') : od_B m' o :=
  ⟨fun x b e => Nat.lt_of_lt_of_le (h.1 x b e) hm, fun x a e => Nat.lt_of_lt_of_le (h.2.1 x a e) hm, fun a x b e => ⟨Nat.lt_of_lt_of_le (h.2.2 a x b e).1 hm, Nat.lt_of_lt_of_le (h.2.2 a x b e).2 hm⟩⟩
theorem od_B_0 (m : Nat) : od_B m od_0 := ⟨fun _ _ h => (nomatch h), fun _ _ h => (nomatch h), fun _ _ _ h => (nomatch h)⟩
theorem od_B_not {m : Nat} {p : Od} (hp : od_B m p) : od_B m (od_not p) := hp
theorem od_B_star {m : Nat} {p : Od} (hp : od_B m p) : od_B m (od_star p) := by
  refine ⟨hp.1, hp.2.1, fun a x b e => ?_⟩
  have e : (od_fo p a x b || (od_la p x a && od_fi p x b)) = true := e
  rw [Bool.or_eq_true, Bool.and_eq_true] at e
  rcases e with e | ⟨e1, e2⟩
  · exact hp.2.2 a x b e
  · exact ⟨hp.2.1 x a e1, hp.1 x b e2⟩
theorem od_B_seq {m : Nat} {p q : Od} (hp : od_B m p) (hq : od_B m q) : od_B m (od_seq p q) := by
  refine ⟨fun x b e => ?_, fun x a e => ?_, fun a x b e => ?_⟩
  · have e : (od_fi p x b || (od_on p x && od_fi q x b)) = true := e
    rw [Bool.or_eq_true, Bool.and_eq_true] at e
    rcases e with e | ⟨_, e⟩
    · exact hp.1 x b e
    · exact hq.1 x b e
  · have e : (od_la q x a || (od_la p x a && od_on q x)) = true := e
    rw [Bool.or_eq_true, Bool.and_eq_true] at e
    rcases e with e | ⟨e, _⟩
    · exact hq.2.1 x a e
    · exact hp.2.1 x a e
  · have e : ((od_fo p a x b || od_fo q a x b) || (od_la p x a && od_fi q x b)) = true := e
    rw [Bool.or_eq_true, Bool.or_eq_true, Bool.and_eq_true] at e
    rcases e with (e | e) | ⟨e1, e2⟩
    · exact hp.2.2 a x b e
    · exact hq.2.2 a x b e
    · exact ⟨hp.2.1 x a e1, hq.1 x b e2⟩
theorem od_B_plus {m : Nat} {p q : Od} (hp : od_B m p) (hq : od_B m q) : od_B m (od_plus p q) := by
  refine ⟨fun x b e => ?_, fun x a e => ?_, fun a x b e => ?_⟩
  · rcases (Bool.or_eq_true _ _).mp e with e | e
    · exact hp.1 x b e
    · exact hq.1 x b e
  · rcases (Bool.or_eq_true _ _).mp e with e | e
    · exact hp.2.1 x a e
    · exact hq.2.1 x a e
  · rcases (Bool.or_eq_true _ _).mp e with e | e
    · exact hp.2.2 a x b e
    · exact hq.2.2 a x b e
theorem od_B_if {m : Nat} {p q r : Od} (hq : od_B m q) (hr : od_B m r) : od_B m (od_if p q r) := by
  refine ⟨fun x b e => ?_, fun x a e => ?_, fun a x b e => ?_⟩
  · have e : (if od_on p x = true then od_fi q x b else od_fi r x b) = true := e
    split at e
    · exact hq.1 x b e
    · exact hr.1 x b e
  · rcases (Bool.or_eq_true _ _).mp e with e | e
    · exact hq.2.1 x a e
    · exact hr.2.1 x a e
  · rcases (Bool.or_eq_true _ _).mp e with e | e
    · exact hq.2.2 a x b e
    · exact hr.2.2 a x b e
theorem od_B_while {m : Nat} {p q : Od} (hq : od_B m q) : od_B m (od_while p q) := by
  refine ⟨fun x b e => ?_, fun x a e => ?_, fun a x b e => ?_⟩
  · have e : (od_on p x && od_fi q x b) = true := e
    rw [Bool.and_eq_true] at e
    exact hq.1 x b e.2
  · have e : (od_la q x a && !od_on p x) = true := e
    rw [Bool.and_eq_true] at e
    exact hq.2.1 x a e.1
  · have e : (od_fo q a x b || (od_la q x a && (od_on p x && od_fi q x b))) = true := e
    rw [Bool.or_eq_true, Bool.and_eq_true, Bool.and_eq_true] at e
    rcases e with e | ⟨e1, _, e2⟩
    · exact hq.2.2 a x b e
    · exact ⟨hq.2.1 x a e1, hq.1 x b e2⟩
theorem od_B_leaf {m c k : Nat} (h : 16 ≤ c → k < m) : od_B m (od_leaf c k) := by
  refine ⟨fun x b e => ?_, fun x a e => ?_, fun a x b e => (nomatch e)⟩
  · have e : (decide (16 ≤ c) && decide (b = k)) = true := e
    rw [Bool.and_eq_true, decide_eq_true_eq, decide_eq_true_eq] at e
    rw [e.2]; exact h e.1
  · have e : (decide (16 ≤ c) && decide (a = k)) = true := e
    rw [Bool.and_eq_true, decide_eq_true_eq, decide_eq_true_eq] at e
    rw [e.2]; exact h e.1
theorem od_B_new {m c k : Nat} {p q r : Od} (hp : od_B m p) (hq : od_B m q) (hr : od_B m r) (h : 16 ≤ c → k < m) : od_B m (od_new c k p q r) := by
  unfold od_new
  split
  · exact od_B_not hp
  split
  · exact od_B_star hp
  split
  · exact od_B_seq hp hq
  split
  · exact od_B_plus hp hq
  split
  · exact od_B_if hq hr
  split
  · exact od_B_while hq
  exact od_B_leaf h
theorem tk_B (tk : Nat → Nat) : ∀ i k, od_B (tk_ac tk i) (tk_st tk i k) := by
  intro i
  induction i with
  | zero => intro k; exact od_B_0 _
  | succ i ih =>
    intro k
    have hm : tk_ac tk i ≤ tk_ac tk (i + 1) := tk_ac_mono tk (Nat.le_succ i)
    by_cases e : k = tk_P tk i
    · rw [e, tk_st_new]
      exact od_B_new (od_B_le (ih _) hm) (od_B_le (ih _) hm) (od_B_le (ih _) hm) (fun h => by rw [tk_ac_a h]; omega)
    · rw [tk_st_old e]; exact od_B_le (ih k) hm
theorem od_Z_star {p : Od} (hp : od_Z p) : od_Z (od_star p) := by
  intro h
  obtain ⟨h1, h2, h3⟩ := hp h
  refine ⟨h1, h2, fun a x b => ?_⟩
  show (od_fo p a x b || (od_la p x a && od_fi p x b)) = false
  rw [h3, h2]; rfl
theorem od_Z_seq {p q : Od} (hp : od_Z p) (hq : od_Z q) : od_Z (od_seq p q) := by
  intro h
  have h : (od_h p || od_h q) = false := h
  rw [Bool.or_eq_false_iff] at h
  obtain ⟨p1, p2, p3⟩ := hp h.1
  obtain ⟨q1, q2, q3⟩ := hq h.2
  refine ⟨fun x b => ?_, fun x a => ?_, fun a x b => ?_⟩
  · show (od_fi p x b || (od_on p x && od_fi q x b)) = false
    rw [p1, q1, Bool.and_false]; rfl
  · show (od_la q x a || (od_la p x a && od_on q x)) = false
    rw [p2, q2]; rfl
  · show ((od_fo p a x b || od_fo q a x b) || (od_la p x a && od_fi q x b)) = false
    rw [p3, q3, p2]; rfl
theorem od_Z_plus {p q : Od} (hp : od_Z p) (hq : od_Z q) : od_Z (od_plus p q) := by
  intro h
  have h : (od_h p || od_h q) = false := h
  rw [Bool.or_eq_false_iff] at h
  obtain ⟨p1, p2, p3⟩ := hp h.1
  obtain ⟨q1, q2, q3⟩ := hq h.2
  refine ⟨fun x b => ?_, fun x a => ?_, fun a x b => ?_⟩
  · show (od_fi p x b || od_fi q x b) = false
    rw [p1, q1]; rfl
  · show (od_la p x a || od_la q x a) = false
    rw [p2, q2]; rfl
  · show (od_fo p a x b || od_fo q a x b) = false
    rw [p3, q3]; rfl
theorem od_Z_if {p q r : Od} (hq : od_Z q) (hr : od_Z r) : od_Z (od_if p q r) := by
  intro h
  have h : (od_h q || od_h r) = false := h
  rw [Bool.or_eq_false_iff] at h
  obtain ⟨p1, p2, p3⟩ := hq h.1
  obtain ⟨q1, q2, q3⟩ := hr h.2
  refine ⟨fun x b => ?_, fun x a => ?_, fun a x b => ?_⟩
  · show (if od_on p x = true then od_fi q x b else od_fi r x b) = false
    rw [p1, q1]; split <;> rfl
  · show (od_la q x a || od_la r x a) = false
    rw [p2, q2]; rfl
  · show (od_fo q a x b || od_fo r a x b) = false
    rw [p3, q3]; rfl
theorem od_Z_while {p q : Od} (hq : od_Z q) : od_Z (od_while p q) := by
  intro h
  obtain ⟨q1, q2, q3⟩ := hq h
  refine ⟨fun x b => ?_, fun x a => ?_, fun a x b => ?_⟩
  · show (od_on p x && od_fi q x b) = false
    rw [q1, Bool.and_false]
  · show (od_la q x a && !od_on p x) = false
    rw [q2]; rfl
  · show (od_fo q a x b || (od_la q x a && (od_on p x && od_fi q x b))) = false
    rw [q3, q2]; rfl
theorem od_Z_leaf {c k : Nat} : od_Z (od_leaf c k) := by
  intro h
  have h : decide (16 ≤ c) = false := h
  refine ⟨fun x b => ?_, fun x a => ?_, fun a x b => rfl⟩
  · show (decide (16 ≤ c) && decide (b = k)) = false
    rw [h]; rfl
  · show (decide (16 ≤ c) && decide (a = k)) = false
    rw [h]; rfl
theorem tk_Z (tk : Nat → Nat) : ∀ i k, od_Z (tk_st tk i k) := by
  intro i
  induction i with
  | zero => intro k _; exact ⟨fun _ _ => rfl, fun _ _ => rfl, fun _ _ _ => rfl⟩
  | succ i ih =>
    intro k
    by_cases e : k = tk_P tk i
    · rw [e, tk_st_new]
      unfold od_new
      split
      · exact ih _
      split
      · exact od_Z_star (ih _)
      split
      · exact od_Z_seq (ih _) (ih _)
      split
      · exact od_Z_plus (ih _) (ih _)
      split
      · exact od_Z_if (ih _) (ih _)
      split
      · exact od_Z_while (ih _)
      exact od_Z_leaf
    · rw [tk_st_old e]; exact ih k
end
section
/-! ===== counting ===== -/
theorem ph_le : ∀ (N m : Nat) (f : Nat → Nat), (∀ j, j < m → f j < N) → (∀ i j, i < m → j < m → f i = f j → i = j) → m ≤ N := by
  intro N
  induction N with
  | zero =>
    intro m f h _
    rcases Nat.eq_zero_or_pos m with z | z
    · omega
    · exact absurd (h 0 z) (Nat.not_lt_zero _)
  | succ N ih =>
    intro m f h inj
    by_cases e : ∃ j, j < m ∧ f j = N
    · obtain ⟨j0, hj0, ej⟩ := e
      have hm : m - 1 ≤ N := by
        apply ih (m - 1) (fun j => if j = j0 then f (m - 1) else f j)
        · intro j hj
          by_cases z : j = j0
          · have h1 := h (m - 1) (by omega)
            have h2 : f (m - 1) ≠ N := fun q => by have := inj (m - 1) j0 (by omega) hj0 (q.trans ej.symm); omega
            show (if j = j0 then f (m - 1) else f j) < N
            rw [if_pos z]; omega
          · have h1 := h j (by omega)
            have h2 : f j ≠ N := fun q => z (inj j j0 (by omega) hj0 (q.trans ej.symm))
            show (if j = j0 then f (m - 1) else f j) < N
            rw [if_neg z]; omega
        · intro i j hi hj q
          have q : (if i = j0 then f (m - 1) else f i) = (if j = j0 then f (m - 1) else f j) := q
          by_cases z : i = j0
          · by_cases y : j = j0
            · omega
            · rw [if_pos z, if_neg y] at q
              have := inj (m - 1) j (by omega) (by omega) q; omega
          · by_cases y : j = j0
            · rw [if_neg z, if_pos y] at q
              have := inj i (m - 1) (by omega) (by omega) q; omega
            · rw [if_neg z, if_neg y] at q
              exact inj i j (by omega) (by omega) q
      omega
    · have := ih m f (fun j hj => by
        have h1 := h j hj
        have h2 : f j ≠ N := fun q => e ⟨j, hj, q⟩
        omega) inj
      omega
def cn_b : Nat → (Nat → Bool) → Nat
  | 0, _ => 0
  | m + 1, f => cn_b m f + (if f m = true then 1 else 0)
theorem cn_le (m : Nat) (f : Nat → Bool) : cn_b m f ≤ m := by
  induction m with
  | zero => exact Nat.le_refl _
  | succ m ih => show cn_b m f + (if f m = true then 1 else 0) ≤ m + 1; split <;> omega
theorem cn_mono {m : Nat} {f g : Nat → Bool} (h : ∀ a, a < m → f a = true → g a = true) : cn_b m f ≤ cn_b m g := by
  induction m with
  | zero => exact Nat.le_refl _
  | succ m ih =>
    have h1 := ih (fun a ha => h a (by omega))
    show cn_b m f + (if f m = true then 1 else 0) ≤ cn_b m g + (if g m = true then 1 else 0)
    by_cases e : f m = true
    · rw [if_pos e, if_pos (h m (by omega) e)]; omega
    · rw [if_neg e]; split <;> omega
theorem cn_lt {m : Nat} {f g : Nat → Bool} (h : ∀ a, a < m → f a = true → g a = true) {a : Nat} (ha : a < m) (hg : g a = true) (hf : f a = false) : cn_b m f < cn_b m g := by
  induction m with
  | zero => omega
  | succ m ih =>
    show cn_b m f + (if f m = true then 1 else 0) < cn_b m g + (if g m = true then 1 else 0)
    by_cases e : a = m
    · subst e
      have h1 := cn_mono (m := a) (fun b hb => h b (by omega))
      rw [if_pos hg, if_neg (by rw [hf]; decide)]; omega
    · have h1 := ih (fun b hb => h b (by omega)) (by omega)
      by_cases e2 : f m = true
      · rw [if_pos e2, if_pos (h m (by omega) e2)]; omega
      · rw [if_neg e2]; split <;> omega
theorem ch_stab {c : Nat} {P : Nat → Nat → Bool} (mono : ∀ d q, q < c → P d q = true → P (d + 1) q = true)
    (stp : ∀ d, (∀ q, q < c → P (d + 1) q = true → P d q = true) → ∀ q, q < c → P (d + 2) q = true → P (d + 1) q = true)
    (base : (∀ q, q < c → P 0 q = false) → ∀ q, q < c → P 1 q = false) :
    ∀ d q, q < c → P d q = true → P (c - 1) q = true := by
  have up : ∀ k d q, q < c → P d q = true → P (d + k) q = true := by
    intro k
    induction k with
    | zero => intro d q _ h; exact h
    | succ k ih => intro d q hq h; exact mono (d + k) q hq (ih d q hq h)
  by_cases ex : ∃ e, e ≤ c - 1 ∧ ∀ q, q < c → P (e + 1) q = true → P e q = true
  · obtain ⟨e, he, st⟩ := ex
    have st2 : ∀ k, ∀ q, q < c → P (e + k + 1) q = true → P (e + k) q = true := by
      intro k
      induction k with
      | zero => exact st
      | succ k ih => exact stp (e + k) ih
    have dn : ∀ k q, q < c → P (e + k) q = true → P e q = true := by
      intro k
      induction k with
      | zero => intro q _ h; exact h
      | succ k ih => intro q hq h; exact ih q hq (st2 k q hq h)
    intro d q hq h
    have h1 : P (e + d) q = true := by
      have := up e d q hq h
      rwa [Nat.add_comm] at this
    have h2 := up (c - 1 - e) e q hq (dn d q hq h1)
    rwa [show e + (c - 1 - e) = c - 1 by omega] at h2
  · have ns : ∀ e, e ≤ c - 1 → ∃ q, q < c ∧ P (e + 1) q = true ∧ P e q = false := by
      intro e he
      apply Classical.byContradiction
      intro hn
      apply ex
      refine ⟨e, he, fun q hq h => ?_⟩
      cases z : P e q
      · exact absurd ⟨q, hq, h, z⟩ hn
      · rfl
    intro d q hq h
    have c0 : 1 ≤ cn_b c (P 0) := by
      apply Classical.byContradiction
      intro hz
      have all0 : ∀ q, q < c → P 0 q = false := by
        intro q hq
        cases z : P 0 q
        · rfl
        · have := cn_lt (m := c) (f := fun _ => false) (g := P 0) (fun _ _ h => nomatch h) hq z rfl
          omega
      obtain ⟨q, hq, h1, _⟩ := ns 0 (Nat.zero_le _)
      rw [base all0 q hq] at h1
      cases h1
    have grow : ∀ e, e ≤ c → e + 1 ≤ cn_b c (P e) := by
      intro e
      induction e with
      | zero => intro _; exact c0
      | succ e ih =>
        intro he
        obtain ⟨q, hq, h1, h2⟩ := ns e (by omega)
        have := cn_lt (m := c) (f := P e) (g := P (e + 1)) (fun a ha => mono e a ha) hq h1 h2
        have := ih (by omega)
        omega
    have := grow c (Nat.le_refl _)
    have := cn_le c (P c)
    omega
/-! ===== words, the newest letter first; the order of strings is the order of numbers ===== -/
def wd_c (K : Nat) : List Nat → Nat
  | [] => 0
  | l :: w => wd_c K w * K + l + 1
def wd_r {σ : Type} (step : σ → Nat → σ) (s : σ) : List Nat → σ
  | [] => s
  | l :: w => step (wd_r step s w) l
theorem wd_r_app {σ : Type} (step : σ → Nat → σ) (s : σ) (v u : List Nat) : wd_r step s (v ++ u) = wd_r step (wd_r step s u) v := by
  induction v with
  | nil => rfl
  | cons l v ih => show step (wd_r step s (v ++ u)) l = step (wd_r step (wd_r step s u) v) l; rw [ih]
theorem wd_c_lt {K a b : Nat} (hK : 0 < K) {l : Nat} (h : a < b) : a * K + l + 1 < b * K + l + 1 := by
  have := Nat.mul_lt_mul_of_pos_right h hK
  omega
theorem wd_c_app {K : Nat} (hK : 0 < K) {u u' : List Nat} (h : wd_c K u < wd_c K u') (v : List Nat) : wd_c K (v ++ u) < wd_c K (v ++ u') := by
  induction v with
  | nil => exact h
  | cons l v ih => exact wd_c_lt hK ih
theorem wd_c_le {K : Nat} (hK : 0 < K) (v u : List Nat) : wd_c K u ≤ wd_c K (v ++ u) := by
  induction v with
  | nil => exact Nat.le_refl _
  | cons l v ih =>
    show wd_c K u ≤ wd_c K (v ++ u) * K + l + 1
    have := Nat.le_mul_of_pos_right (wd_c K (v ++ u)) hK
    omega
theorem wd_step {K a b l l' : Nat} (hl : l < K) (h : a < b) : a * K + l + 1 < b * K + l' + 1 := by
  have : (a + 1) * K ≤ b * K := Nat.mul_le_mul_right K h
  rw [Nat.add_mul, Nat.one_mul] at this
  omega
theorem wd_c_inj {K : Nat} : ∀ (u v : List Nat), (∀ l, l ∈ u → l < K) → (∀ l, l ∈ v → l < K) → wd_c K u = wd_c K v → u = v := by
  intro u
  induction u with
  | nil =>
    intro v _ _ e
    cases v with
    | nil => rfl
    | cons l v => exact absurd e (by show (0 : Nat) ≠ wd_c K v * K + l + 1; omega)
  | cons l u ih =>
    intro v hu hv e
    cases v with
    | nil => exact absurd e (by show wd_c K u * K + l + 1 ≠ (0 : Nat); omega)
    | cons l' v =>
      have e : wd_c K u * K + l + 1 = wd_c K v * K + l' + 1 := e
      have hl := hu l (List.mem_cons_self ..)
      have hl' := hv l' (List.mem_cons_self ..)
      rcases Nat.lt_trichotomy (wd_c K u) (wd_c K v) with h | h | h
      · have := wd_step (l' := l') hl h; omega
      · rw [ih v (fun a ha => hu a (List.mem_cons_of_mem _ ha)) (fun a ha => hv a (List.mem_cons_of_mem _ ha)) h]
        rw [h] at e
        rw [show l = l' by omega]
      · have := wd_step (l' := l) hl' h; omega
/-! ===== the search ===== -/
def bf_cov {σ : Type} (step : σ → Nat → σ) (fl : σ → Prop) (s0 : σ) (K cnt : Nat) (wd : Nat → List Nat) (u : List Nat) : Prop :=
  ∀ v, (∀ l, l ∈ v → l < K) → fl (wd_r step s0 (v ++ u)) → ∃ j, j < cnt ∧ wd_c K (wd j) < wd_c K u ∧ fl (wd_r step s0 (v ++ wd j))
def bf_I {σ : Type} (step : σ → Nat → σ) (fl : σ → Prop) (s0 : σ) (K cnt i c : Nat) (wd : Nat → List Nat) (pa lt : Nat → Nat) : Prop :=
  0 < cnt ∧ wd 0 = [] ∧
  (∀ j, 0 < j → j < cnt → pa j < j ∧ lt j < K ∧ wd j = lt j :: wd (pa j) ∧ (pa j < i ∨ (pa j = i ∧ lt j < c))) ∧
  (∀ j k, j < k → k < cnt → wd_c K (wd j) < wd_c K (wd k)) ∧
  (∀ p l, p < cnt → l < K → (p < i ∨ (p = i ∧ l < c)) → (∃ j, j < cnt ∧ wd j = l :: wd p) ∨ bf_cov step fl s0 K cnt wd (l :: wd p)) ∧
  (∀ j, j < i → ¬ fl (wd_r step s0 (wd j)))
section
variable {σ : Type} {step : σ → Nat → σ} {fl : σ → Prop} {s0 : σ} {K cnt i c : Nat} {wd : Nat → List Nat} {pa lt : Nat → Nat}
theorem bf_0 : bf_I step fl s0 K 1 0 0 (fun _ => []) pa lt :=
  ⟨Nat.one_pos, rfl, fun j h0 h1 => absurd h1 (by omega), fun j k h0 h1 => absurd h1 (by omega), fun p l _ _ h => absurd h (by omega), fun j h => absurd h (Nat.not_lt_zero _)⟩
theorem bf_let (I : bf_I step fl s0 K cnt i c wd pa lt) : ∀ j, j < cnt → ∀ l, l ∈ wd j → l < K := by
  obtain ⟨h1, h2, h3, _⟩ := I
  intro j
  induction j using Nat.strongRecOn with
  | ind j ih =>
    intro hj l hl
    rcases Nat.eq_zero_or_pos j with z | z
    · rw [z, h2] at hl; cases hl
    · obtain ⟨a, b, e, _⟩ := h3 j z hj
      rw [e] at hl
      rcases List.mem_cons.mp hl with q | q
      · rw [q]; exact b
      · exact ih (pa j) a (by omega) l q
theorem bf_lt (I : bf_I step fl s0 K cnt i c wd pa lt) (hK : 0 < K) (hi : i < cnt) : ∀ j, j < cnt → wd_c K (wd j) < wd_c K (c :: wd i) := by
  obtain ⟨h1, h2, h3, h4, _⟩ := I
  intro j hj
  show _ < wd_c K (wd i) * K + c + 1
  rcases Nat.eq_zero_or_pos j with z | z
  · rw [z, h2]; exact Nat.succ_pos _
  · obtain ⟨a, b, e, q⟩ := h3 j z hj
    rw [e]
    show wd_c K (wd (pa j)) * K + lt j + 1 < _
    rcases q with q | ⟨q, q2⟩
    · exact wd_step b (h4 _ _ q hi)
    · rw [q]; omega
theorem bf_skip (I : bf_I step fl s0 K cnt i c wd pa lt) (hK : 0 < K) (hi : i < cnt)
    (h : ∀ v, (∀ l, l ∈ v → l < K) → fl (wd_r step (step (wd_r step s0 (wd i)) c) v) → ∃ j, j < cnt ∧ fl (wd_r step (wd_r step s0 (wd j)) v)) :
    bf_I step fl s0 K cnt i (c + 1) wd pa lt := by
  have L := bf_lt I hK hi
  obtain ⟨h1, h2, h3, h4, h5, h6⟩ := I
  refine ⟨h1, h2, fun j z hj => ?_, h4, fun p l hp hl q => ?_, h6⟩
  · obtain ⟨a, b, e, q⟩ := h3 j z hj
    exact ⟨a, b, e, by omega⟩
  · by_cases z : p = i ∧ l = c
    · obtain ⟨rfl, rfl⟩ := z
      refine Or.inr fun v hv f => ?_
      rw [wd_r_app] at f
      obtain ⟨j, hj, fj⟩ := h v hv f
      exact ⟨j, hj, L j hj, by rw [wd_r_app]; exact fj⟩
    · exact h5 p l hp hl (by omega)
theorem bf_add (I : bf_I step fl s0 K cnt i c wd pa lt) (hK : 0 < K) (hi : i < cnt) (hc : c < K) :
    bf_I step fl s0 K (cnt + 1) i (c + 1) (fun j => if j = cnt then c :: wd i else wd j) (fun j => if j = cnt then i else pa j) (fun j => if j = cnt then c else lt j) := by
  have L := bf_lt I hK hi
  obtain ⟨h1, h2, h3, h4, h5, h6⟩ := I
  have o : ∀ j, j < cnt → (if j = cnt then c :: wd i else wd j) = wd j := fun j hj => if_neg (by omega)
  have n : (if cnt = cnt then c :: wd i else wd cnt) = c :: wd i := if_pos rfl
  refine ⟨Nat.succ_pos _, ?_, fun j z hj => ?_, fun j k hjk hk => ?_, fun p l hp hl q => ?_, fun j hj => ?_⟩
  · show (if 0 = cnt then c :: wd i else wd 0) = []
    rw [o 0 h1, h2]
  · show (if j = cnt then i else pa j) < j ∧ (if j = cnt then c else lt j) < K ∧ (if j = cnt then c :: wd i else wd j) = (if j = cnt then c else lt j) :: (if (if j = cnt then i else pa j) = cnt then c :: wd i else wd (if j = cnt then i else pa j)) ∧ ((if j = cnt then i else pa j) < i ∨ ((if j = cnt then i else pa j) = i ∧ (if j = cnt then c else lt j) < c + 1))
    by_cases e : j = cnt
    · rw [if_pos e, if_pos e, if_pos e, if_neg (show ¬ i = cnt by omega)]
      exact ⟨by omega, hc, rfl, Or.inr ⟨rfl, Nat.lt_succ_self _⟩⟩
    · obtain ⟨a, b, e2, q⟩ := h3 j z (by omega)
      rw [if_neg e, if_neg e, if_neg e, if_neg (show ¬ pa j = cnt by omega)]
      exact ⟨a, b, e2, by omega⟩
  · show wd_c K (if j = cnt then c :: wd i else wd j) < wd_c K (if k = cnt then c :: wd i else wd k)
    rw [o j (by omega)]
    by_cases e : k = cnt
    · rw [if_pos e]; exact L j (by omega)
    · rw [if_neg e]; exact h4 j k hjk (by omega)
  · show (∃ j, j < cnt + 1 ∧ (if j = cnt then c :: wd i else wd j) = l :: (if p = cnt then c :: wd i else wd p)) ∨ bf_cov step fl s0 K (cnt + 1) (fun j => if j = cnt then c :: wd i else wd j) (l :: (if p = cnt then c :: wd i else wd p))
    have hp' : p < cnt := by omega
    rw [o p hp']
    by_cases z : p = i ∧ l = c
    · refine Or.inl ⟨cnt, Nat.lt_succ_self _, ?_⟩
      rw [n, z.1, z.2]
    · rcases h5 p l hp' hl (by omega) with ⟨j, hj, e⟩ | cv
      · exact Or.inl ⟨j, by omega, by rw [o j hj]; exact e⟩
      · refine Or.inr fun v hv f => ?_
        obtain ⟨j, hj, a, b⟩ := cv v hv f
        refine ⟨j, by omega, ?_, ?_⟩
        · show wd_c K (if j = cnt then c :: wd i else wd j) < _
          rw [o j hj]; exact a
        · show fl (wd_r step s0 (v ++ (if j = cnt then c :: wd i else wd j)))
          rw [o j hj]; exact b
  · show ¬ fl (wd_r step s0 (if j = cnt then c :: wd i else wd j))
    rw [o j (by omega)]; exact h6 j hj
theorem bf_next (I : bf_I step fl s0 K cnt i K wd pa lt) (h : ¬ fl (wd_r step s0 (wd i))) : bf_I step fl s0 K cnt (i + 1) 0 wd pa lt := by
  obtain ⟨h1, h2, h3, h4, h5, h6⟩ := I
  refine ⟨h1, h2, fun j z hj => ?_, h4, fun p l hp hl q => h5 p l hp hl (by omega), fun j hj => ?_⟩
  · obtain ⟨a, b, e, q⟩ := h3 j z hj
    exact ⟨a, b, e, by omega⟩
  · by_cases e : j = i
    · rw [e]; exact h
    · exact h6 j (by omega)
theorem bf_main (I : bf_I step fl s0 K cnt i c wd pa lt) (hK : 0 < K) {B : Nat} (hB : ∀ p, p < cnt → wd_c K (wd p) < B → p < i) :
    ∀ m w, wd_c K w = m → (∀ l, l ∈ w → l < K) → m < B → ¬ fl (wd_r step s0 w) := by
  have LT := bf_let I
  obtain ⟨h1, h2, h3, h4, h5, h6⟩ := I
  intro m
  induction m using Nat.strongRecOn with
  | ind m ih =>
    intro w em hw hm f
    have key : ∀ u v, w = v ++ u → ∃ j, j < cnt ∧ wd j = u := by
      intro u
      induction u with
      | nil => intro v _; exact ⟨0, h1, h2⟩
      | cons l u ihu =>
        intro v e
        obtain ⟨p, hp, ep⟩ := ihu (v ++ [l]) (by rw [e, List.append_assoc]; rfl)
        have hl : l < K := hw l (by rw [e]; exact List.mem_append_right _ (List.mem_cons_self ..))
        have hpi : p < i := hB p hp (by
          rw [ep]
          have := wd_c_le hK (v ++ [l]) u
          rw [List.append_assoc, show [l] ++ u = l :: u from rfl, ← e] at this
          omega)
        rcases h5 p l hp hl (Or.inl hpi) with ⟨j, hj, ej⟩ | cv
        · exact ⟨j, hj, by rw [ej, ep]⟩
        · rw [ep] at cv
          have hv : ∀ a, a ∈ v → a < K := fun a ha => hw a (by rw [e]; exact List.mem_append_left _ ha)
          obtain ⟨j, hj, a, b⟩ := cv v hv (by rw [← e]; exact f)
          have lt1 : wd_c K (v ++ wd j) < m := by
            have := wd_c_app hK a v
            rw [← e, em] at this
            exact this
          refine absurd b (ih _ lt1 _ rfl (fun q hq => ?_) (by omega))
          rcases List.mem_append.mp hq with z | z
          · exact hv q z
          · exact LT j hj q z
    obtain ⟨j, hj, ej⟩ := key w [] rfl
    have : j < i := hB j hj (by rw [ej, em]; exact hm)
    have := h6 j this
    rw [ej] at this
    exact this f
theorem bf_done (I : bf_I step fl s0 K cnt i c wd pa lt) (hK : 0 < K) (hi : cnt ≤ i) : ∀ w, (∀ l, l ∈ w → l < K) → ¬ fl (wd_r step s0 w) :=
  fun w hw => bf_main I hK (B := wd_c K w + 1) (fun p hp _ => by omega) _ w rfl hw (Nat.lt_succ_self _)
theorem bf_fail (I : bf_I step fl s0 K cnt i c wd pa lt) (hK : 0 < K) (hi : i < cnt) : ∀ w, (∀ l, l ∈ w → l < K) → fl (wd_r step s0 w) → wd_c K (wd i) ≤ wd_c K w := by
  intro w hw f
  apply Classical.byContradiction
  intro hn
  refine bf_main I hK (B := wd_c K (wd i)) (fun p hp hlt => ?_) _ w rfl hw (by omega) f
  apply Classical.byContradiction
  intro hq
  rcases Nat.lt_or_ge i p with z | z
  · have := I.2.2.2.1 i p z hp; omega
  · rw [show p = i by omega] at hlt; omega
end
end
section
/-! ===== the automaton of one operand: states 0 .. 7 (occurrences) and 8 (start) ===== -/
def au_acc (o : Od) (p x : Nat) : Bool := if p = 8 then od_on o x else od_la o x p
def au_nx (o : Od) (p x q : Nat) : Bool := if p = 8 then od_fi o x q else od_fo o p x q
theorem au_acc8 (o : Od) (x : Nat) : au_acc o 8 x = od_on o x := if_pos rfl
theorem au_accn (o : Od) {p : Nat} (x : Nat) (h : p < 8) : au_acc o p x = od_la o x p := if_neg (by omega)
theorem au_nx8 (o : Od) (x q : Nat) : au_nx o 8 x q = od_fi o x q := if_pos rfl
theorem au_nxn (o : Od) {p : Nat} (x q : Nat) (h : p < 8) : au_nx o p x q = od_fo o p x q := if_neg (by omega)
theorem au_nx_b {m : Nat} {o : Od} (h : od_B m o) {p x q : Nat} (e : au_nx o p x q = true) : q < m := by
  unfold au_nx at e
  split at e
  · exact h.1 x q e
  · exact (h.2.2 p x q e).2
/-- from p an end is reached within d actions -/
def au_lv (o : Od) (N : Nat) : Nat → Nat → Bool
  | 0 => fun p => ex_b N (fun x => au_acc o p x)
  | d + 1 => fun p => ex_b N (fun x => au_acc o p x) || ex_b 8 (fun q => ex_b N (fun x => au_nx o p x q) && au_lv o N d q)
theorem au_lv_s (o : Od) (N d p : Nat) : au_lv o N (d + 1) p = (ex_b N (fun x => au_acc o p x) || ex_b 8 (fun q => ex_b N (fun x => au_nx o p x q) && au_lv o N d q)) := rfl
theorem au_lv_s_iff {o : Od} {N d p : Nat} : au_lv o N (d + 1) p = true ↔ (au_lv o N 0 p = true ∨ ∃ q x, q < 8 ∧ x < N ∧ au_nx o p x q = true ∧ au_lv o N d q = true) := by
  rw [au_lv_s, Bool.or_eq_true]
  constructor
  · rintro (h | h)
    · exact Or.inl h
    · obtain ⟨q, hq, e⟩ := ex_iff.mp h
      rw [Bool.and_eq_true] at e
      obtain ⟨x, hx, ex⟩ := ex_iff.mp e.1
      exact Or.inr ⟨q, x, hq, hx, ex, e.2⟩
  · rintro (h | ⟨q, x, hq, hx, e1, e2⟩)
    · exact Or.inl h
    · exact Or.inr (ex_iff.mpr ⟨q, hq, by rw [Bool.and_eq_true]; exact ⟨ex_iff.mpr ⟨x, hx, e1⟩, e2⟩⟩)
theorem au_lv_mono {o : Od} {N : Nat} : ∀ d p, au_lv o N d p = true → au_lv o N (d + 1) p = true := by
  intro d
  induction d with
  | zero => intro p h; exact au_lv_s_iff.mpr (Or.inl h)
  | succ d ih =>
    intro p h
    rcases au_lv_s_iff.mp h with h | ⟨q, x, hq, hx, e1, e2⟩
    · exact au_lv_s_iff.mpr (Or.inl h)
    · exact au_lv_s_iff.mpr (Or.inr ⟨q, x, hq, hx, e1, ih q e2⟩)
theorem au_lv_up {o : Od} {N : Nat} {d p : Nat} (h : au_lv o N d p = true) : ∀ k, au_lv o N (d + k) p = true := by
  intro k
  induction k with
  | zero => exact h
  | succ k ih => exact au_lv_mono (d + k) p ih
theorem au_lv_le {o : Od} {N : Nat} {d e p : Nat} (h : au_lv o N d p = true) (hd : d ≤ e) : au_lv o N e p = true := by
  have := au_lv_up h (e - d)
  rwa [show d + (e - d) = e by omega] at this
theorem au_stab {o : Od} {N c : Nat} (hB : od_B c o) (hc : c ≤ 8) : ∀ d q, q < c → au_lv o N d q = true → au_lv o N (c - 1) q = true := by
  apply ch_stab (P := au_lv o N)
  · intro d q _ h; exact au_lv_mono d q h
  · intro d h q hq e
    rcases au_lv_s_iff.mp e with e | ⟨r, x, hr, hx, e1, e2⟩
    · exact au_lv_s_iff.mpr (Or.inl e)
    · exact au_lv_s_iff.mpr (Or.inr ⟨r, x, hr, hx, e1, h r (au_nx_b hB e1) e2⟩)
  · intro h q hq
    cases z : au_lv o N 1 q
    · rfl
    · rcases au_lv_s_iff.mp z with e | ⟨r, x, hr, hx, e1, e2⟩
      · rw [h q hq] at e; cases e
      · rw [h r (au_nx_b hB e1)] at e2; cases e2
theorem au_stab8 {o : Od} {N c : Nat} (hB : od_B c o) (hc : c ≤ 8) {d p : Nat} (h : au_lv o N d p = true) : au_lv o N c p = true := by
  cases d with
  | zero => exact au_lv_le h (Nat.zero_le _)
  | succ d =>
    rcases au_lv_s_iff.mp h with e | ⟨r, x, hr, hx, e1, e2⟩
    · exact au_lv_le e (Nat.zero_le _)
    · have hrc := au_nx_b hB e1
      have := au_stab hB hc d r hrc e2
      have := au_lv_s_iff.mpr (Or.inr ⟨r, x, hr, hx, e1, this⟩ : au_lv o N 0 p = true ∨ _)
      rwa [show c - 1 + 1 = c by omega] at this
/-- live: an end can be reached -/
def au_live (o : Od) (N : Nat) (p : Nat) : Bool := au_lv o N 9 p
theorem au_live_of {o : Od} {N c : Nat} (hB : od_B c o) (hc : c ≤ 8) {d p : Nat} (h : au_lv o N d p = true) : au_live o N p = true :=
  au_lv_le (au_stab8 hB hc h) (by omega)
theorem au_live_acc {o : Od} {N p x : Nat} (hx : x < N) (h : au_acc o p x = true) : au_live o N p = true :=
  au_lv_le (d := 0) (ex_iff.mpr ⟨x, hx, h⟩) (by omega)
theorem au_live_nx {o : Od} {N c : Nat} (hB : od_B c o) (hc : c ≤ 8) {p x q : Nat} (hx : x < N) (h : au_nx o p x q = true) (hq : au_live o N q = true) : au_live o N p = true :=
  au_live_of hB hc (d := 10) (au_lv_s_iff.mpr (Or.inr ⟨q, x, by have := au_nx_b hB h; omega, hx, h, hq⟩))
/-! sets of states and their steps; a letter l is the pair of atom l / A and action l % A -/
def au_s0 : Nat → Bool := fun a => decide (a = 8)
def au_go (o : Od) (S : Nat → Bool) (x q : Nat) : Bool := ex_b 9 (fun a => S a && au_nx o a x q)
def au_F (o : Od) (lb : Nat → Nat) (A : Nat) (S : Nat → Bool) (l : Nat) : Nat → Bool :=
  fun q => au_go o S (l / A) q && decide (lb q = l % A)
def au_T (o : Od) (lb : Nat → Nat) (N A : Nat) (S : Nat → Bool) (l : Nat) : Nat → Bool :=
  fun q => (au_go o S (l / A) q && au_live o N q) && decide (lb q = l % A)
def au_end (o : Od) (S : Nat → Bool) (x : Nat) : Bool := ex_b 9 (fun a => S a && au_acc o a x)
theorem au_go_iff {o : Od} {S : Nat → Bool} {x q : Nat} : au_go o S x q = true ↔ ∃ a, a < 9 ∧ S a = true ∧ au_nx o a x q = true := by
  unfold au_go
  rw [ex_iff]
  constructor
  · rintro ⟨a, h, e⟩
    rw [Bool.and_eq_true] at e
    exact ⟨a, h, e⟩
  · rintro ⟨a, h, e⟩
    exact ⟨a, h, by rw [Bool.and_eq_true]; exact e⟩
theorem au_end_iff {o : Od} {S : Nat → Bool} {x : Nat} : au_end o S x = true ↔ ∃ a, a < 9 ∧ S a = true ∧ au_acc o a x = true := by
  unfold au_end
  rw [ex_iff]
  constructor
  · rintro ⟨a, h, e⟩
    rw [Bool.and_eq_true] at e
    exact ⟨a, h, e⟩
  · rintro ⟨a, h, e⟩
    exact ⟨a, h, by rw [Bool.and_eq_true]; exact e⟩
theorem au_F_b {m : Nat} {o : Od} (hB : od_B m o) {lb : Nat → Nat} {A : Nat} {S : Nat → Bool} {l q : Nat} (e : au_F o lb A S l q = true) : q < m := by
  have e : (au_go o S (l / A) q && decide (lb q = l % A)) = true := e
  rw [Bool.and_eq_true] at e
  obtain ⟨a, _, _, h⟩ := au_go_iff.mp e.1
  exact au_nx_b hB h
theorem au_T_b {m : Nat} {o : Od} (hB : od_B m o) {lb : Nat → Nat} {N A : Nat} {S : Nat → Bool} {l q : Nat} (e : au_T o lb N A S l q = true) : q < m := by
  have e : ((au_go o S (l / A) q && au_live o N q) && decide (lb q = l % A)) = true := e
  rw [Bool.and_eq_true, Bool.and_eq_true] at e
  obtain ⟨a, _, _, h⟩ := au_go_iff.mp e.1.1
  exact au_nx_b hB h
/-- the trimmed run is the full run cut to the live states -/
theorem au_trim {o : Od} {N c A : Nat} {lb : Nat → Nat} (hB : od_B c o) (hc : c ≤ 8) (hA : 0 < A) : ∀ w, (∀ l, l ∈ w → l < N * A) → ∀ q,
    wd_r (au_T o lb N A) au_s0 w q = (wd_r (au_F o lb A) au_s0 w q && (au_live o N q || w.isEmpty)) := by
  intro w
  induction w with
  | nil =>
    intro _ q
    show au_s0 q = (au_s0 q && (au_live o N q || true))
    rw [Bool.or_true, Bool.and_true]
  | cons l w ih =>
    intro hw q
    have hl : l < N * A := hw l (List.mem_cons_self ..)
    have hx : l / A < N := Nat.div_lt_of_lt_mul (by rw [Nat.mul_comm]; exact hl)
    have IH := ih (fun a ha => hw a (List.mem_cons_of_mem _ ha))
    show ((au_go o (wd_r (au_T o lb N A) au_s0 w) (l / A) q && au_live o N q) && decide (lb q = l % A)) = ((au_go o (wd_r (au_F o lb A) au_s0 w) (l / A) q && decide (lb q = l % A)) && (au_live o N q || false))
    rw [Bool.or_false]
    cases hq : au_live o N q
    · rw [Bool.and_false, Bool.and_false]; rfl
    · rw [Bool.and_true, Bool.and_true]
      congr 1
      apply bo_iff
      rw [au_go_iff, au_go_iff]
      constructor
      · rintro ⟨a, ha, h1, h2⟩
        rw [IH, Bool.and_eq_true] at h1
        exact ⟨a, ha, h1.1, h2⟩
      · rintro ⟨a, ha, h1, h2⟩
        refine ⟨a, ha, ?_, h2⟩
        rw [IH, h1, au_live_nx hB hc hx h2 hq]; rfl
theorem au_trim_end {o : Od} {N c A : Nat} {lb : Nat → Nat} (hB : od_B c o) (hc : c ≤ 8) (hA : 0 < A) (w : List Nat) (hw : ∀ l, l ∈ w → l < N * A) {x : Nat} (hx : x < N) :
    au_end o (wd_r (au_T o lb N A) au_s0 w) x = au_end o (wd_r (au_F o lb A) au_s0 w) x := by
  apply bo_iff
  rw [au_end_iff, au_end_iff]
  constructor
  · rintro ⟨a, ha, h1, h2⟩
    rw [au_trim hB hc hA w hw, Bool.and_eq_true] at h1
    exact ⟨a, ha, h1.1, h2⟩
  · rintro ⟨a, ha, h1, h2⟩
    refine ⟨a, ha, ?_, h2⟩
    rw [au_trim hB hc hA w hw, h1, au_live_acc hx h2]; rfl
theorem au_F_b8 {m : Nat} {o : Od} (hB : od_B m o) {lb : Nat → Nat} {A : Nat} (w : List Nat) {q : Nat} (e : wd_r (au_F o lb A) au_s0 w q = true) : q < m ∨ (w = [] ∧ q = 8) := by
  cases w with
  | nil => exact Or.inr ⟨rfl, of_decide_eq_true e⟩
  | cons l w => exact Or.inl (au_F_b hB e)
theorem au_T_b8 {m : Nat} {o : Od} (hB : od_B m o) {lb : Nat → Nat} {N A : Nat} (w : List Nat) {q : Nat} (e : wd_r (au_T o lb N A) au_s0 w q = true) : q < m ∨ (w = [] ∧ q = 8) := by
  cases w with
  | nil => exact Or.inr ⟨rfl, of_decide_eq_true e⟩
  | cons l w => exact Or.inl (au_T_b hB e)
/-! ===== least distance ===== -/
/-- some state of S is within d -/
def au_in (o : Od) (N : Nat) (S : Nat → Bool) (d : Nat) : Bool := ex_b 9 (fun a => S a && au_lv o N d a)
theorem au_in_iff {o : Od} {N : Nat} {S : Nat → Bool} {d : Nat} : au_in o N S d = true ↔ ∃ a, a < 9 ∧ S a = true ∧ au_lv o N d a = true := by
  unfold au_in
  rw [ex_iff]
  constructor
  · rintro ⟨a, h, e⟩
    rw [Bool.and_eq_true] at e
    exact ⟨a, h, e⟩
  · rintro ⟨a, h, e⟩
    exact ⟨a, h, by rw [Bool.and_eq_true]; exact e⟩
/-- the set of all that can come next, over any atom -/
def au_all (o : Od) (N : Nat) (S : Nat → Bool) : Nat → Bool := fun q => ex_b N (fun x => au_go o S x q)
theorem au_in_s {o : Od} {N c : Nat} (hB : od_B c o) (hc : c ≤ 8) {S : Nat → Bool} (h0 : au_in o N S 0 = false) (d : Nat) : au_in o N S (d + 1) = au_in o N (au_all o N S) d := by
  apply bo_iff
  rw [au_in_iff, au_in_iff]
  constructor
  · rintro ⟨a, ha, h1, h2⟩
    rcases au_lv_s_iff.mp h2 with e | ⟨q, x, hq, hx, e1, e2⟩
    · rw [au_in_iff.mpr ⟨a, ha, h1, e⟩] at h0; cases h0
    · exact ⟨q, by omega, ex_iff.mpr ⟨x, hx, au_go_iff.mpr ⟨a, ha, h1, e1⟩⟩, e2⟩
  · rintro ⟨q, hq, h1, h2⟩
    obtain ⟨x, hx, e⟩ := ex_iff.mp h1
    obtain ⟨a, ha, e1, e2⟩ := au_go_iff.mp e
    have := au_nx_b hB e2
    exact ⟨a, ha, e1, au_lv_s_iff.mpr (Or.inr ⟨q, x, by omega, hx, e2, h2⟩)⟩
end
section
/-! ===== the reference reads a side ===== -/
def yM (tk : Nat → Nat) (n : Nat) (f : Nat → Bool) : Int32 := zk_m (fun j => (decide (j < n) && decide (16 ≤ tk j)) && f (tk_ac tk j))
theorem yM_or (tk : Nat → Nat) (n : Nat) (f g : Nat → Bool) : yM tk n f ||| yM tk n g = yM tk n (fun q => f q || g q) := by
  unfold yM
  rw [zk_or]
  apply zk_ext
  intro j _
  cases (decide (j < n) && decide (16 ≤ tk j)) <;> rfl
theorem yM_ext {tk : Nat → Nat} {n : Nat} {f g : Nat → Bool} (h : ∀ q, f q = g q) : yM tk n f = yM tk n g := by
  rw [show f = g from funext h]
theorem yM_0 {tk : Nat → Nat} {n : Nat} {f : Nat → Bool} (h : ∀ q, f q = false) : yM tk n f = 0 := by
  unfold yM
  apply zk_0
  intro j _
  rw [h, Bool.and_false]
theorem yM_bt {tk : Nat → Nat} {n : Nat} {f : Nat → Bool} {j : Nat} (hj : j < 32) : bt (yM tk n f) j = ((decide (j < n) && decide (16 ≤ tk j)) && f (tk_ac tk j)) := zk_bt _ hj
/-- the words of one slot tell the operand o, for the set S and the atom x -/
def yr_sl (tk : Nat → Nat) (n : Nat) (S : Nat → Bool) (x : Nat) (o : Od) (h e f d t : Int32) : Prop :=
  h = b01 (od_h o) ∧ e = b01 (od_on o x) ∧ f = yM tk n (od_fi o x) ∧ d = b01 (ex_b 8 (fun a => S a && od_la o x a)) ∧ t = yM tk n (fun q => ex_b 8 (fun a => S a && od_fo o a x q))
def yr_D (tk : Nat → Nat) (n : Nat) (S : Nat → Bool) (x i : Nat) (h e f d t : Nat → Int32) : Prop :=
  ∀ k, k < tk_hg tk i → yr_sl tk n S x (tk_st tk i k) (h k) (e k) (f k) (d k) (t k)
/-- the arrays but for slot P -/
def yr_K (P : Nat) (h e f d t h' e' f' d' t' : Nat → Int32) : Prop := ∀ k, k < P → h' k = h k ∧ e' k = e k ∧ f' k = f k ∧ d' k = d k ∧ t' k = t k
theorem yr_new {tk : Nat → Nat} {n : Nat} {S : Nat → Bool} {x i : Nat} {h e f d t h' e' f' d' t' : Nat → Int32} (D : yr_D tk n S x i h e f d t)
    (K : yr_K (tk_P tk i) h e f d t h' e' f' d' t')
    (s : yr_sl tk n S x (od_new (tk i) (tk_ac tk i) (tk_st tk i (tk_P tk i)) (tk_st tk i (tk_P tk i + 1)) (tk_st tk i (tk_P tk i + 2))) (h' (tk_P tk i)) (e' (tk_P tk i)) (f' (tk_P tk i)) (d' (tk_P tk i)) (t' (tk_P tk i))) :
    yr_D tk n S x (i + 1) h' e' f' d' t' := by
  intro k hk
  rw [tk_hg_s] at hk
  by_cases z : k = tk_P tk i
  · subst z; rw [tk_st_new]; exact s
  · have hk' : k < tk_P tk i := by omega
    obtain ⟨a1, a2, a3, a4, a5⟩ := K k hk'
    rw [tk_st_old z, a1, a2, a3, a4, a5]
    exact D k (by unfold tk_P at hk'; omega)
theorem yu_b {f : Nat → Int32} {P : Nat} {z : Int32} {b : Bool} (hP : P < 32) (hz : z = b01 b) : upd f (nI P).toNatClampNeg (vp_nar .boolean z) = upd f P (b01 b) := by
  rw [nI_clamp (by omega), hz, b01_nar]
theorem yu_i {f : Nat → Int32} {P : Nat} {z w : Int32} (hP : P < 32) (hz : z = w) : upd f (nI P).toNatClampNeg z = upd f P w := by
  rw [nI_clamp (by omega), hz]
theorem yu_r {f : Nat → Int32} {P : Nat} {w : Int32} (hP : P < 32) (h : f P = w) : f (nI P).toNatClampNeg = w := by
  rw [nI_clamp (by omega), h]
theorem yu_s (f : Nat → Int32) (P : Nat) (z : Int32) : upd f P z P = z := if_pos rfl
theorem yu_n (f : Nat → Int32) {P k : Nat} (z : Int32) (h : k ≠ P) : upd f P z k = f k := if_neg h
theorem yu_lt (f : Nat → Int32) {P k : Nat} (z : Int32) (h : k < P) : upd f P z k = f k := if_neg (by omega)
theorem yu_in {P : Nat} (hP : P < 32) : vp_in (nI P) 32 := vp_in_nI hP (by decide)
section
variable {post : SY → Prop} {J8 : Int32 → Int32 → (Nat → Int32) → (Nat → Int32) → (Nat → Int32) → (Nat → Int32) → (Nat → Int32) → (Nat → Int32) → (Nat → Int32) → (Nat → Int32) → (Nat → Int32) → (Nat → Int32) → (Nat → Int32) → (Nat → Int32) → (Nat → Int32) → (Nat → Int32) → (Nat → Int32) → Prop} {tk : Nat → Nat} {n : Nat} {S : Nat → Bool} {x i P : Nat} {x1 x2 x3 : Int32} {p q r : Od}
variable {f_t f_a f_l f_m f_n f_count f_known f_mode f_wlen f_wside f_top : Int32} {a_tok a_len a_str a_wit a_has a_one a_first a_done a_next a_ls a_rs a_from a_byAtom a_byAction a_depth : Nat → Int32}
/-- what the loop asks behind a token whose operand is o -/
def yr_J (tk : Nat → Nat) (n : Nat) (S : Nat → Bool) (x i P : Nat) (o : Od) (J8 : Int32 → Int32 → (Nat → Int32) → (Nat → Int32) → (Nat → Int32) → (Nat → Int32) → (Nat → Int32) → (Nat → Int32) → (Nat → Int32) → (Nat → Int32) → (Nat → Int32) → (Nat → Int32) → (Nat → Int32) → (Nat → Int32) → (Nat → Int32) → (Nat → Int32) → (Nat → Int32) → Prop) (a_tok a_len a_str a_wit a_has a_one a_first a_done a_next a_ls a_rs a_from a_byAtom a_byAction a_depth : Nat → Int32) : Prop :=
  ∀ h e f d t, yr_K P a_has a_one a_first a_done a_next h e f d t → yr_sl tk n S x o (h P) (e P) (f P) (d P) (t P) →
    J8 (nI (i + 1)) (nI (P + 1)) a_tok a_len a_str a_wit h e f d t a_ls a_rs a_from a_byAtom a_byAction a_depth
/-! the leaf -/
theorem yr_181 {b : Bool} {z : Int32} (hP : P < 32) (hz : z = b01 b)
    (hJ : J8 (nI (i + 1)) (nI (P + 1)) a_tok a_len a_str a_wit a_has a_one a_first (upd a_done P (b01 b)) (upd a_next P 0) a_ls a_rs a_from a_byAtom a_byAction a_depth) :
    wY_read_181 post J8 x1 x2 x3 (nI i) (nI P) z (nI P) f_t f_a f_l f_m f_n f_count f_known f_mode f_wlen f_wside f_top a_tok a_len a_str a_wit a_has a_one a_first a_done a_next a_ls a_rs a_from a_byAtom a_byAction a_depth := by
  unfold wY_read_181
  exact ⟨yu_in hP, nm_r (yu_b hP hz) ⟨yu_in hP, nm_r (yu_i hP rfl) (nm_r (nI_1 P) (nm_r (nI_1 i) hJ))⟩⟩
theorem yr_152 {c : Nat} {z : Int32} (hP : P < 32) (hi : i < 32) (hc : c < 2 ^ 31) {b : Bool} (hb : b = (decide (16 ≤ c) && bt x2 i))
    (hJ : J8 (nI (i + 1)) (nI (P + 1)) a_tok a_len a_str a_wit a_has a_one (upd a_first P z) (upd a_done P (b01 b)) (upd a_next P 0) a_ls a_rs a_from a_byAtom a_byAction a_depth) :
    wY_read_152 post J8 x1 x2 x3 (nI i) (nI c) (nI P) z (nI P) f_t f_a f_l f_m f_n f_count f_known f_mode f_wlen f_wside f_top a_tok a_len a_str a_wit a_has a_one a_first a_done a_next a_ls a_rs a_from a_byAtom a_byAction a_depth := by
  unfold wY_read_152
  refine ⟨yu_in hP, nm_r (yu_i hP rfl) ?_⟩
  refine pk_lt c 16 (fun h => ?_) (fun h => ?_)
  · unfold wY_read_180
    refine yr_181 (b := b) hP ?_ hJ
    rw [hb, decide_eq_false (by omega)]; rfl
  · refine zk_br1 i hi (fun e => ?_) (fun e => ?_)
    · refine yr_181 (b := b) hP ?_ hJ
      rw [hb, e, decide_eq_true h]; rfl
    · unfold wY_read_180
      refine yr_181 (b := b) hP ?_ hJ
      rw [hb, e, Bool.and_false]; rfl
theorem yr_130 {c : Nat} {z : Int32} {b : Bool} (hP : P < 32) (hi : i < 32) (hc : c < 2 ^ 31) (hz : z = b01 b)
    (hJ : J8 (nI (i + 1)) (nI (P + 1)) a_tok a_len a_str a_wit a_has (upd a_one P (b01 b)) (upd a_first P (if 16 ≤ c then (1 : Int32) <<< (nI i &&& 31) else 0)) (upd a_done P (b01 (decide (16 ≤ c) && bt x2 i))) (upd a_next P 0) a_ls a_rs a_from a_byAtom a_byAction a_depth) :
    wY_read_130 post J8 x1 x2 x3 (nI i) (nI c) (nI P) z (nI P) f_t f_a f_l f_m f_n f_count f_known f_mode f_wlen f_wside f_top a_tok a_len a_str a_wit a_has a_one a_first a_done a_next a_ls a_rs a_from a_byAtom a_byAction a_depth := by
  unfold wY_read_130
  refine ⟨yu_in hP, nm_r (yu_b hP hz) ?_⟩
  refine pk_lt c 16 (fun h => ?_) (fun h => ?_)
  · rw [if_neg (by omega)] at hJ
    exact yr_152 hP hi hc rfl hJ
  · rw [if_pos h] at hJ
    exact yr_152 hP hi hc rfl hJ
theorem yr_85 {c y : Nat} {z : Int32} {b : Bool} (hP : P < 32) (hi : i < 32) (hc : c < 19) (hz : z = b01 b) (hx3 : x3 = nI y) (hy : y < 2 ^ 31)
    (hJ : J8 (nI (i + 1)) (nI (P + 1)) a_tok a_len a_str a_wit (upd a_has P (b01 b)) (upd a_one P (b01 (decide (c = 1) || (decide (8 ≤ c) && (decide (c < 16) && y.testBit (c - 8)))))) (upd a_first P (if 16 ≤ c then (1 : Int32) <<< (nI i &&& 31) else 0)) (upd a_done P (b01 (decide (16 ≤ c) && bt x2 i))) (upd a_next P 0) a_ls a_rs a_from a_byAtom a_byAction a_depth) :
    wY_read_85 post J8 x1 x2 x3 (nI i) (nI c) (nI P) z (nI P) f_t f_a f_l f_m f_n f_count f_known f_mode f_wlen f_wside f_top a_tok a_len a_str a_wit a_has a_one a_first a_done a_next a_ls a_rs a_from a_byAtom a_byAction a_depth := by
  unfold wY_read_85
  have T : ∀ (e : (decide (c = 1) || (decide (8 ≤ c) && (decide (c < 16) && y.testBit (c - 8)))) = true), wY_read_125 post J8 x1 x2 x3 (nI i) (nI c) (nI P) (nI P) f_t f_a f_l f_m f_n f_count f_known f_mode f_wlen f_wside f_top a_tok a_len a_str a_wit (upd a_has P (b01 b)) a_one a_first a_done a_next a_ls a_rs a_from a_byAtom a_byAction a_depth := by
    intro e
    unfold wY_read_125
    exact yr_130 (b := true) hP hi (by omega) rfl (by rw [e] at hJ; exact hJ)
  have F : ∀ (e : (decide (c = 1) || (decide (8 ≤ c) && (decide (c < 16) && y.testBit (c - 8)))) = false), wY_read_129 post J8 x1 x2 x3 (nI i) (nI c) (nI P) (nI P) f_t f_a f_l f_m f_n f_count f_known f_mode f_wlen f_wside f_top a_tok a_len a_str a_wit (upd a_has P (b01 b)) a_one a_first a_done a_next a_ls a_rs a_from a_byAtom a_byAction a_depth := by
    intro e
    unfold wY_read_129
    exact yr_130 (b := false) hP hi (by omega) rfl (by rw [e] at hJ; exact hJ)
  refine ⟨yu_in hP, nm_r (yu_b hP hz) ?_⟩
  refine pk_eq c 1 (fun h => T ?_) (fun h1 => ?_)
  · rw [decide_eq_true h]; rfl
  refine pk_lt c 8 (fun h => F ?_) (fun h8 => ?_)
  · rw [decide_eq_false h1, decide_eq_false (by omega)]; rfl
  refine pk_le 16 c (fun h => F ?_) (fun h16 => ?_)
  · rw [decide_eq_false h1, decide_eq_false (show ¬ c < 16 by omega), Bool.false_and, Bool.and_false]; rfl
  have e8 : nI c - 8 = nI (c - 8) := pk_sub (a := c) (b := 8) h8
  have eb : bt x3 (c - 8) = y.testBit (c - 8) := by
    rw [hx3]
    show (BitVec.ofNat 32 y).getLsbD (c - 8) = _
    rw [BitVec.getLsbD_ofNat, decide_eq_true (by omega)]; rfl
  rw [e8]
  refine zk_br1 (c - 8) (by omega) (fun e => T ?_) (fun e => F ?_)
  · rw [← eb, e, decide_eq_true h8, decide_eq_true h16, Bool.or_comm]; rfl
  · rw [← eb, e, decide_eq_false h1, Bool.and_false, Bool.and_false]; rfl
/-! plus -/
theorem yr_572 {z : Int32} {b : Bool} (hP : P + 1 < 32) (hz : z = b01 b)
    (hJ : J8 (nI (i + 1)) (nI (P + 1)) a_tok a_len a_str a_wit a_has a_one a_first (upd a_done P (b01 b)) (upd a_next P (a_next P ||| a_next (P + 1))) a_ls a_rs a_from a_byAtom a_byAction a_depth) :
    wY_read_572 post J8 x1 x2 x3 (nI i) (nI P) (nI (P + 1)) z (nI P) f_t f_a f_l f_m f_n f_count f_known f_mode f_wlen f_wside f_top a_tok a_len a_str a_wit a_has a_one a_first a_done a_next a_ls a_rs a_from a_byAtom a_byAction a_depth := by
  unfold wY_read_572
  exact ⟨yu_in (by omega), nm_r (yu_b (by omega) hz) ⟨yu_in (by omega), yu_in hP, yu_in (by omega), nm_r (by rw [nI_clamp (by omega), nI_clamp (by omega)]) (nm_r (nI_1 P) (nm_r (nI_1 i) hJ))⟩⟩
theorem yr_523 {z : Int32} {b d1 d2 : Bool} (hP : P + 1 < 32) (hz : z = b01 b) (h1 : a_done P = b01 d1) (h2 : a_done (P + 1) = b01 d2)
    (hJ : J8 (nI (i + 1)) (nI (P + 1)) a_tok a_len a_str a_wit a_has (upd a_one P (b01 b)) (upd a_first P (a_first P ||| a_first (P + 1))) (upd a_done P (b01 (d1 || d2))) (upd a_next P (a_next P ||| a_next (P + 1))) a_ls a_rs a_from a_byAtom a_byAction a_depth) :
    wY_read_523 post J8 x1 x2 x3 (nI i) (nI P) (nI (P + 1)) z (nI P) f_t f_a f_l f_m f_n f_count f_known f_mode f_wlen f_wside f_top a_tok a_len a_str a_wit a_has a_one a_first a_done a_next a_ls a_rs a_from a_byAtom a_byAction a_depth := by
  unfold wY_read_523
  refine ⟨yu_in (by omega), nm_r (yu_b (by omega) hz) ⟨yu_in (by omega), yu_in hP, yu_in (by omega), nm_r (e' := upd a_first P (a_first P ||| a_first (P + 1))) (by rw [nI_clamp (by omega), nI_clamp (by omega)]) ⟨yu_in (by omega), ?_⟩⟩⟩
  refine zk_bb (yu_r (by omega) h1) (fun e1 => ⟨yu_in hP, zk_bb (yu_r hP h2) (fun e2 => ?_) (fun e2 => ?_)⟩) (fun e1 => ?_)
  · exact yr_572 (b := d1 || d2) hP (by rw [e1, e2]; rfl) hJ
  · exact yr_572 (b := d1 || d2) hP (by rw [e1, e2]; rfl) hJ
  · exact yr_572 (b := d1 || d2) hP (by rw [e1]; rfl) hJ
theorem yr_491 {z : Int32} {b o1 o2 d1 d2 : Bool} (hP : P + 1 < 32) (hz : z = b01 b) (g1 : a_one P = b01 o1) (g2 : a_one (P + 1) = b01 o2) (h1 : a_done P = b01 d1) (h2 : a_done (P + 1) = b01 d2)
    (hJ : J8 (nI (i + 1)) (nI (P + 1)) a_tok a_len a_str a_wit (upd a_has P (b01 b)) (upd a_one P (b01 (o1 || o2))) (upd a_first P (a_first P ||| a_first (P + 1))) (upd a_done P (b01 (d1 || d2))) (upd a_next P (a_next P ||| a_next (P + 1))) a_ls a_rs a_from a_byAtom a_byAction a_depth) :
    wY_read_491 post J8 x1 x2 x3 (nI i) (nI P) (nI (P + 1)) z (nI P) f_t f_a f_l f_m f_n f_count f_known f_mode f_wlen f_wside f_top a_tok a_len a_str a_wit a_has a_one a_first a_done a_next a_ls a_rs a_from a_byAtom a_byAction a_depth := by
  unfold wY_read_491
  refine ⟨yu_in (by omega), nm_r (yu_b (by omega) hz) ⟨yu_in (by omega), ?_⟩⟩
  refine zk_bb (yu_r (by omega) g1) (fun e1 => ⟨yu_in hP, zk_bb (yu_r hP g2) (fun e2 => ?_) (fun e2 => ?_)⟩) (fun e1 => ?_)
  · exact yr_523 (b := o1 || o2) hP (by rw [e1, e2]; rfl) h1 h2 hJ
  · exact yr_523 (b := o1 || o2) hP (by rw [e1, e2]; rfl) h1 h2 hJ
  · exact yr_523 (b := o1 || o2) hP (by rw [e1]; rfl) h1 h2 hJ
end
end
section
section
variable {post : SY → Prop} {J8 : Int32 → Int32 → (Nat → Int32) → (Nat → Int32) → (Nat → Int32) → (Nat → Int32) → (Nat → Int32) → (Nat → Int32) → (Nat → Int32) → (Nat → Int32) → (Nat → Int32) → (Nat → Int32) → (Nat → Int32) → (Nat → Int32) → (Nat → Int32) → (Nat → Int32) → (Nat → Int32) → Prop} {tk : Nat → Nat} {n : Nat} {S : Nat → Bool} {x i P : Nat} {x1 x2 x3 : Int32} {p q r : Od}
variable {f_t f_a f_l f_m f_n f_count f_known f_mode f_wlen f_wside f_top : Int32} {a_tok a_len a_str a_wit a_has a_one a_first a_done a_next a_ls a_rs a_from a_byAtom a_byAction a_depth : Nat → Int32}
/-! seq -/
theorem yr_450 {z : Int32} {b : Bool} (hP : P < 32) (hz : z = b01 b)
    (hJ : J8 (nI (i + 1)) (nI (P + 1)) a_tok a_len a_str a_wit a_has (upd a_one P (b01 b)) a_first a_done a_next a_ls a_rs a_from a_byAtom a_byAction a_depth) :
    wY_read_450 post J8 x1 x2 x3 (nI i) (nI P) z (nI P) f_t f_a f_l f_m f_n f_count f_known f_mode f_wlen f_wside f_top a_tok a_len a_str a_wit a_has a_one a_first a_done a_next a_ls a_rs a_from a_byAtom a_byAction a_depth := by
  unfold wY_read_450
  exact ⟨yu_in hP, nm_r (yu_b hP hz) (nm_r (nI_1 P) (nm_r (nI_1 i) hJ))⟩
theorem yr_418 {z : Int32} {b o1 o2 : Bool} (hP : P + 1 < 32) (hz : z = b01 b) (g1 : a_one P = b01 o1) (g2 : a_one (P + 1) = b01 o2)
    (hJ : J8 (nI (i + 1)) (nI (P + 1)) a_tok a_len a_str a_wit a_has (upd a_one P (b01 (o1 && o2))) a_first (upd a_done P (b01 b)) a_next a_ls a_rs a_from a_byAtom a_byAction a_depth) :
    wY_read_418 post J8 x1 x2 x3 (nI i) (nI P) (nI (P + 1)) z (nI P) f_t f_a f_l f_m f_n f_count f_known f_mode f_wlen f_wside f_top a_tok a_len a_str a_wit a_has a_one a_first a_done a_next a_ls a_rs a_from a_byAtom a_byAction a_depth := by
  unfold wY_read_418
  refine ⟨yu_in (by omega), nm_r (yu_b (by omega) hz) ⟨yu_in (by omega), ?_⟩⟩
  refine zk_bb (yu_r (by omega) g1) (fun e1 => ?_) (fun e1 => ⟨yu_in hP, zk_bb (yu_r hP g2) (fun e2 => ?_) (fun e2 => ?_)⟩)
  · unfold wY_read_449
    exact yr_450 (b := o1 && o2) (by omega) (by rw [e1]; rfl) hJ
  · unfold wY_read_449
    exact yr_450 (b := o1 && o2) (by omega) (by rw [e1, e2]; rfl) hJ
  · exact yr_450 (b := o1 && o2) (by omega) (by rw [e1, e2]; rfl) hJ
theorem yr_377 {o1 o2 d1 d2 : Bool} (hP : P + 1 < 32) (g1 : a_one P = b01 o1) (g2 : a_one (P + 1) = b01 o2) (h1 : a_done P = b01 d1) (h2 : a_done (P + 1) = b01 d2)
    (hJ : J8 (nI (i + 1)) (nI (P + 1)) a_tok a_len a_str a_wit a_has (upd a_one P (b01 (o1 && o2))) a_first (upd a_done P (b01 (d2 || (d1 && o2)))) a_next a_ls a_rs a_from a_byAtom a_byAction a_depth) :
    wY_read_377 post J8 x1 x2 x3 (nI i) (nI P) (nI (P + 1)) f_t f_a f_l f_m f_n f_count f_known f_mode f_wlen f_wside f_top a_tok a_len a_str a_wit a_has a_one a_first a_done a_next a_ls a_rs a_from a_byAtom a_byAction a_depth := by
  unfold wY_read_377
  refine ⟨yu_in hP, ?_⟩
  refine zk_bb (yu_r hP h2) (fun e2 => ⟨yu_in (by omega), zk_bb (yu_r (by omega) h1) (fun e1 => ?_) (fun e1 => ⟨yu_in hP, zk_bb (yu_r hP g2) (fun e3 => ?_) (fun e3 => ?_)⟩)⟩) (fun e2 => ?_)
  · unfold wY_read_417
    exact yr_418 (b := d2 || (d1 && o2)) hP (by rw [e1, e2]; rfl) g1 g2 hJ
  · unfold wY_read_417
    exact yr_418 (b := d2 || (d1 && o2)) hP (by rw [e1, e2, e3]; rfl) g1 g2 hJ
  · unfold wY_read_413
    exact yr_418 (b := d2 || (d1 && o2)) hP (by rw [e1, e2, e3]; rfl) g1 g2 hJ
  · unfold wY_read_413
    exact yr_418 (b := d2 || (d1 && o2)) hP (by rw [e2]; rfl) g1 g2 hJ
theorem yr_350 {o1 o2 d1 d2 : Bool} (hP : P + 1 < 32) (g1 : a_one P = b01 o1) (g2 : a_one (P + 1) = b01 o2) (h1 : a_done P = b01 d1) (h2 : a_done (P + 1) = b01 d2)
    (hJ : J8 (nI (i + 1)) (nI (P + 1)) a_tok a_len a_str a_wit a_has (upd a_one P (b01 (o1 && o2))) (if o1 = true then upd a_first P (a_first P ||| a_first (P + 1)) else a_first) (upd a_done P (b01 (d2 || (d1 && o2)))) a_next a_ls a_rs a_from a_byAtom a_byAction a_depth) :
    wY_read_350 post J8 x1 x2 x3 (nI i) (nI P) (nI (P + 1)) f_t f_a f_l f_m f_n f_count f_known f_mode f_wlen f_wside f_top a_tok a_len a_str a_wit a_has a_one a_first a_done a_next a_ls a_rs a_from a_byAtom a_byAction a_depth := by
  unfold wY_read_350
  refine ⟨yu_in (by omega), ?_⟩
  refine zk_bb (yu_r (by omega) g1) (fun e1 => ?_) (fun e1 => ⟨yu_in (by omega), yu_in hP, yu_in (by omega), nm_r (e' := upd a_first P (a_first P ||| a_first (P + 1))) (by rw [nI_clamp (by omega), nI_clamp (by omega)]) ?_⟩)
  · rw [if_neg (by rw [e1]; decide)] at hJ
    exact yr_377 hP g1 g2 h1 h2 hJ
  · rw [if_pos e1] at hJ
    exact yr_377 hP g1 g2 h1 h2 hJ
theorem yr_305 {z : Int32} {b o1 o2 d1 d2 : Bool} (hP : P + 1 < 32) (hz : z = b01 b) (g1 : a_one P = b01 o1) (g2 : a_one (P + 1) = b01 o2) (h1 : a_done P = b01 d1) (h2 : a_done (P + 1) = b01 d2)
    (hJ : J8 (nI (i + 1)) (nI (P + 1)) a_tok a_len a_str a_wit (upd a_has P (b01 b)) (upd a_one P (b01 (o1 && o2))) (if o1 = true then upd a_first P (a_first P ||| a_first (P + 1)) else a_first) (upd a_done P (b01 (d2 || (d1 && o2)))) (if d1 = true then upd (upd a_next P (a_next P ||| a_next (P + 1))) P ((a_next P ||| a_next (P + 1)) ||| a_first (P + 1)) else upd a_next P (a_next P ||| a_next (P + 1))) a_ls a_rs a_from a_byAtom a_byAction a_depth) :
    wY_read_305 post J8 x1 x2 x3 (nI i) (nI P) (nI (P + 1)) z (nI P) f_t f_a f_l f_m f_n f_count f_known f_mode f_wlen f_wside f_top a_tok a_len a_str a_wit a_has a_one a_first a_done a_next a_ls a_rs a_from a_byAtom a_byAction a_depth := by
  unfold wY_read_305
  refine ⟨yu_in (by omega), nm_r (yu_b (by omega) hz) ⟨yu_in (by omega), yu_in hP, yu_in (by omega), nm_r (e' := upd a_next P (a_next P ||| a_next (P + 1))) (by rw [nI_clamp (by omega), nI_clamp (by omega)]) ⟨yu_in (by omega), ?_⟩⟩⟩
  refine zk_bb (yu_r (by omega) h1) (fun e1 => ?_) (fun e1 => ⟨yu_in (by omega), yu_in hP, yu_in (by omega), nm_r (e' := upd (upd a_next P (a_next P ||| a_next (P + 1))) P ((a_next P ||| a_next (P + 1)) ||| a_first (P + 1))) (by rw [nI_clamp (by omega), nI_clamp (by omega), yu_s]) ?_⟩)
  · have e1' : ¬ d1 = true := by rw [e1]; decide
    rw [if_neg e1'] at hJ
    exact yr_350 hP g1 g2 h1 h2 hJ
  · rw [if_pos e1] at hJ
    exact yr_350 hP g1 g2 h1 h2 hJ
/-! if -/
theorem yr_753 {z : Int32} {b : Bool} (hP : P < 32) (hz : z = b01 b)
    (hJ : J8 (nI (i + 1)) (nI (P + 1)) a_tok a_len a_str a_wit a_has (upd a_one P (b01 b)) a_first a_done a_next a_ls a_rs a_from a_byAtom a_byAction a_depth) :
    wY_read_753 post J8 x1 x2 x3 (nI i) (nI P) z (nI P) f_t f_a f_l f_m f_n f_count f_known f_mode f_wlen f_wside f_top a_tok a_len a_str a_wit a_has a_one a_first a_done a_next a_ls a_rs a_from a_byAtom a_byAction a_depth := by
  unfold wY_read_753
  exact ⟨yu_in hP, nm_r (yu_b hP hz) (nm_r (nI_1 P) (nm_r (nI_1 i) hJ))⟩
theorem yr_697 {z : Int32} {b o1 o2 o3 : Bool} (hP : P + 2 < 32) (hz : z = b01 b) (g1 : a_one P = b01 o1) (g2 : a_one (P + 1) = b01 o2) (g3 : a_one (P + 2) = b01 o3)
    (hJ : J8 (nI (i + 1)) (nI (P + 1)) a_tok a_len a_str a_wit a_has (upd a_one P (b01 (if o1 = true then o2 else o3))) a_first (upd a_done P (b01 b)) (upd a_next P (a_next (P + 1) ||| a_next (P + 2))) a_ls a_rs a_from a_byAtom a_byAction a_depth) :
    wY_read_697 post J8 x1 x2 x3 (nI i) (nI P) (nI (P + 1)) (nI (P + 2)) z (nI P) f_t f_a f_l f_m f_n f_count f_known f_mode f_wlen f_wside f_top a_tok a_len a_str a_wit a_has a_one a_first a_done a_next a_ls a_rs a_from a_byAtom a_byAction a_depth := by
  unfold wY_read_697
  refine ⟨yu_in (by omega), nm_r (yu_b (by omega) hz) ⟨yu_in (by omega), yu_in hP, yu_in (by omega), nm_r (e' := upd a_next P (a_next (P + 1) ||| a_next (P + 2))) (by rw [nI_clamp (by omega), nI_clamp (by omega), nI_clamp (by omega)]) ⟨yu_in (by omega), ?_⟩⟩⟩
  refine zk_bb (yu_r (by omega) g1) (fun e1 => ⟨yu_in hP, ?_⟩) (fun e1 => ⟨yu_in (by omega), ?_⟩)
  · have e1' : ¬ o1 = true := by rw [e1]; decide
    rw [if_neg e1'] at hJ
    exact yr_753 (b := o3) (by omega) (yu_r hP g3) hJ
  · rw [if_pos e1] at hJ
    exact yr_753 (b := o2) (by omega) (yu_r (by omega) g2) hJ
theorem yr_665 {z : Int32} {o1 o2 o3 d2 d3 : Bool} (hP : P + 2 < 32) (g1 : a_one P = b01 o1) (g2 : a_one (P + 1) = b01 o2) (g3 : a_one (P + 2) = b01 o3) (h2 : a_done (P + 1) = b01 d2) (h3 : a_done (P + 2) = b01 d3)
    (hJ : J8 (nI (i + 1)) (nI (P + 1)) a_tok a_len a_str a_wit a_has (upd a_one P (b01 (if o1 = true then o2 else o3))) (upd a_first P z) (upd a_done P (b01 (d2 || d3))) (upd a_next P (a_next (P + 1) ||| a_next (P + 2))) a_ls a_rs a_from a_byAtom a_byAction a_depth) :
    wY_read_665 post J8 x1 x2 x3 (nI i) (nI P) (nI (P + 1)) (nI (P + 2)) z (nI P) f_t f_a f_l f_m f_n f_count f_known f_mode f_wlen f_wside f_top a_tok a_len a_str a_wit a_has a_one a_first a_done a_next a_ls a_rs a_from a_byAtom a_byAction a_depth := by
  unfold wY_read_665
  refine ⟨yu_in (by omega), nm_r (yu_i (by omega) rfl) ⟨yu_in (by omega), ?_⟩⟩
  refine zk_bb (yu_r (by omega) h2) (fun e2 => ⟨yu_in hP, zk_bb (yu_r hP h3) (fun e3 => ?_) (fun e3 => ?_)⟩) (fun e2 => ?_)
  · exact yr_697 (b := d2 || d3) hP (by rw [e2, e3]; rfl) g1 g2 g3 hJ
  · unfold wY_read_692
    exact yr_697 (b := d2 || d3) hP (by rw [e2, e3]; rfl) g1 g2 g3 hJ
  · unfold wY_read_692
    exact yr_697 (b := d2 || d3) hP (by rw [e2]; rfl) g1 g2 g3 hJ
theorem yr_631 {z : Int32} {b o1 o2 o3 d2 d3 : Bool} (hP : P + 2 < 32) (hz : z = b01 b) (g1 : a_one P = b01 o1) (g2 : a_one (P + 1) = b01 o2) (g3 : a_one (P + 2) = b01 o3) (h2 : a_done (P + 1) = b01 d2) (h3 : a_done (P + 2) = b01 d3)
    (hJ : J8 (nI (i + 1)) (nI (P + 1)) a_tok a_len a_str a_wit (upd a_has P (b01 b)) (upd a_one P (b01 (if o1 = true then o2 else o3))) (upd a_first P (if o1 = true then a_first (P + 1) else a_first (P + 2))) (upd a_done P (b01 (d2 || d3))) (upd a_next P (a_next (P + 1) ||| a_next (P + 2))) a_ls a_rs a_from a_byAtom a_byAction a_depth) :
    wY_read_631 post J8 x1 x2 x3 (nI i) (nI P) (nI (P + 1)) (nI (P + 2)) z (nI P) f_t f_a f_l f_m f_n f_count f_known f_mode f_wlen f_wside f_top a_tok a_len a_str a_wit a_has a_one a_first a_done a_next a_ls a_rs a_from a_byAtom a_byAction a_depth := by
  unfold wY_read_631
  refine ⟨yu_in (by omega), nm_r (yu_b (by omega) hz) ⟨yu_in (by omega), ?_⟩⟩
  refine zk_bb (yu_r (by omega) g1) (fun e1 => ⟨yu_in hP, ?_⟩) (fun e1 => ⟨yu_in (by omega), ?_⟩)
  · have e1' : ¬ o1 = true := by rw [e1]; decide
    refine yr_665 hP g1 g2 g3 h2 h3 ?_
    rw [nI_clamp (by omega)]
    rw [if_neg e1', if_neg e1'] at hJ
    rw [if_neg e1']
    exact hJ
  · refine yr_665 hP g1 g2 g3 h2 h3 ?_
    rw [nI_clamp (by omega)]
    rw [if_pos e1, if_pos e1] at hJ
    rw [if_pos e1]
    exact hJ
/-! while -/
theorem yr_888 {z : Int32} {b : Bool} (hP : P < 32) (hz : z = b01 b)
    (hJ : J8 (nI (i + 1)) (nI (P + 1)) a_tok a_len a_str a_wit a_has (upd a_one P (b01 b)) a_first a_done a_next a_ls a_rs a_from a_byAtom a_byAction a_depth) :
    wY_read_888 post J8 x1 x2 x3 (nI i) (nI P) z (nI P) f_t f_a f_l f_m f_n f_count f_known f_mode f_wlen f_wside f_top a_tok a_len a_str a_wit a_has a_one a_first a_done a_next a_ls a_rs a_from a_byAtom a_byAction a_depth := by
  unfold wY_read_888
  exact ⟨yu_in hP, nm_r (yu_b hP hz) (nm_r (nI_1 P) (nm_r (nI_1 i) hJ))⟩
theorem yr_866 {z : Int32} {b o1 : Bool} (hP : P < 32) (hz : z = b01 b) (g1 : a_one P = b01 o1)
    (hJ : J8 (nI (i + 1)) (nI (P + 1)) a_tok a_len a_str a_wit a_has (upd a_one P (b01 (!o1))) a_first (upd a_done P (b01 b)) a_next a_ls a_rs a_from a_byAtom a_byAction a_depth) :
    wY_read_866 post J8 x1 x2 x3 (nI i) (nI P) z (nI P) f_t f_a f_l f_m f_n f_count f_known f_mode f_wlen f_wside f_top a_tok a_len a_str a_wit a_has a_one a_first a_done a_next a_ls a_rs a_from a_byAtom a_byAction a_depth := by
  unfold wY_read_866
  refine ⟨yu_in hP, nm_r (yu_b hP hz) ⟨yu_in hP, ?_⟩⟩
  refine zk_bb (yu_r hP g1) (fun e1 => ?_) (fun e1 => ?_)
  · exact yr_888 (b := !o1) hP (by rw [e1]; rfl) hJ
  · exact yr_888 (b := !o1) hP (by rw [e1]; rfl) hJ
theorem yr_833 {z0 z1 : Int32} {o1 d2 : Bool} (hP : P + 1 < 32) (g1 : a_one P = b01 o1) (h2 : a_done (P + 1) = b01 d2)
    (hJ : J8 (nI (i + 1)) (nI (P + 1)) a_tok a_len a_str a_wit a_has (upd a_one P (b01 (!o1))) a_first (upd a_done P (b01 (d2 && !o1))) (upd a_next P (z1 ||| z0)) a_ls a_rs a_from a_byAtom a_byAction a_depth) :
    wY_read_833 post J8 x1 x2 x3 (nI i) (nI P) (nI (P + 1)) z0 z1 (nI P) f_t f_a f_l f_m f_n f_count f_known f_mode f_wlen f_wside f_top a_tok a_len a_str a_wit a_has a_one a_first a_done a_next a_ls a_rs a_from a_byAtom a_byAction a_depth := by
  unfold wY_read_833
  refine ⟨yu_in (by omega), nm_r (yu_i (by omega) rfl) ⟨yu_in hP, ?_⟩⟩
  refine zk_bb (yu_r hP h2) (fun e2 => ?_) (fun e2 => ⟨yu_in (by omega), zk_bb (yu_r (by omega) g1) (fun e1 => ?_) (fun e1 => ?_)⟩)
  · unfold wY_read_865
    exact yr_866 (b := d2 && !o1) (by omega) (by rw [e2]; rfl) g1 hJ
  · exact yr_866 (b := d2 && !o1) (by omega) (by rw [e2, e1]; rfl) g1 hJ
  · unfold wY_read_865
    exact yr_866 (b := d2 && !o1) (by omega) (by rw [e2, e1]; rfl) g1 hJ
theorem yr_798 {z : Int32} {o1 d2 : Bool} (hP : P + 1 < 32) (g1 : a_one P = b01 o1) (h2 : a_done (P + 1) = b01 d2)
    (hJ : J8 (nI (i + 1)) (nI (P + 1)) a_tok a_len a_str a_wit a_has (upd a_one P (b01 (!o1))) (upd a_first P z) (upd a_done P (b01 (d2 && !o1))) (upd a_next P (a_next (P + 1) ||| (if d2 = true then z else 0))) a_ls a_rs a_from a_byAtom a_byAction a_depth) :
    wY_read_798 post J8 x1 x2 x3 (nI i) (nI P) (nI (P + 1)) z (nI P) f_t f_a f_l f_m f_n f_count f_known f_mode f_wlen f_wside f_top a_tok a_len a_str a_wit a_has a_one a_first a_done a_next a_ls a_rs a_from a_byAtom a_byAction a_depth := by
  unfold wY_read_798
  refine ⟨yu_in (by omega), nm_r (yu_i (by omega) rfl) ⟨yu_in hP, yu_in hP, ?_⟩⟩
  refine zk_bb (yu_r hP h2) (fun e2 => ?_) (fun e2 => ⟨yu_in (by omega), ?_⟩)
  · refine yr_833 hP g1 h2 ?_
    rw [nI_clamp (by omega)]
    have e2' : ¬ d2 = true := by rw [e2]; decide
    rw [if_neg e2'] at hJ
    exact hJ
  · refine yr_833 hP g1 h2 ?_
    rw [nI_clamp (by omega), nI_clamp (by omega), yu_s]
    rw [if_pos e2] at hJ
    exact hJ
/-! not, star -/
theorem yr_220 {z : Int32} {b : Bool} (hP : P < 32) (hz : z = b01 b)
    (hJ : J8 (nI (i + 1)) (nI (P + 1)) a_tok a_len a_str a_wit a_has (upd a_one P (b01 b)) a_first a_done a_next a_ls a_rs a_from a_byAtom a_byAction a_depth) :
    wY_read_220 post J8 x1 x2 x3 (nI i) (nI P) z (nI P) f_t f_a f_l f_m f_n f_count f_known f_mode f_wlen f_wside f_top a_tok a_len a_str a_wit a_has a_one a_first a_done a_next a_ls a_rs a_from a_byAtom a_byAction a_depth := by
  unfold wY_read_220
  exact ⟨yu_in hP, nm_r (yu_b hP hz) (nm_r (nI_1 P) (nm_r (nI_1 i) hJ))⟩
theorem yr_257 (hP : P < 32) (hJ : J8 (nI (i + 1)) (nI (P + 1)) a_tok a_len a_str a_wit a_has (upd a_one P (b01 true)) a_first a_done a_next a_ls a_rs a_from a_byAtom a_byAction a_depth) :
    wY_read_257 post J8 x1 x2 x3 (nI i) (nI P) f_t f_a f_l f_m f_n f_count f_known f_mode f_wlen f_wside f_top a_tok a_len a_str a_wit a_has a_one a_first a_done a_next a_ls a_rs a_from a_byAtom a_byAction a_depth := by
  unfold wY_read_257
  exact ⟨yu_in hP, nm_r (yu_b hP rfl) (nm_r (nI_1 P) (nm_r (nI_1 i) hJ))⟩
end
end
section
/-! slots under the operators -/
theorem ex_or2 (m : Nat) (S f g : Nat → Bool) : ex_b m (fun a => S a && (f a || g a)) = (ex_b m (fun a => S a && f a) || ex_b m (fun a => S a && g a)) := by
  rw [← ex_or]
  exact ex_c fun a _ => by cases S a <;> rfl
theorem ex_and2 (m : Nat) (S f : Nat → Bool) (c : Bool) : ex_b m (fun a => S a && (f a && c)) = (ex_b m (fun a => S a && f a) && c) := by
  rw [← ex_and]
  exact ex_c fun a _ => by cases S a <;> rfl
theorem yM_c (tk : Nat → Nat) (n : Nat) (c : Bool) (f : Nat → Bool) : yM tk n (fun q => c && f q) = if c = true then yM tk n f else 0 := by
  cases c
  · rw [if_neg (by decide)]; exact yM_0 fun _ => rfl
  · rw [if_pos rfl]; rfl
section
variable {tk : Nat → Nat} {n : Nat} {S : Nat → Bool} {x : Nat} {p q r : Od} {h1 e1 f1 d1 t1 h2 e2 f2 d2 t2 h3 e3 f3 d3 t3 : Int32}
theorem sl_not (a : yr_sl tk n S x p h1 e1 f1 d1 t1) : yr_sl tk n S x (od_not p) h1 (b01 (!od_on p x)) f1 d1 t1 :=
  ⟨a.1, rfl, a.2.2.1, a.2.2.2.1, a.2.2.2.2⟩
theorem sl_star (a : yr_sl tk n S x p h1 e1 f1 d1 t1) : yr_sl tk n S x (od_star p) h1 (b01 true) f1 d1 (t1 ||| (if ex_b 8 (fun a => S a && od_la p x a) = true then f1 else 0)) := by
  refine ⟨a.1, rfl, a.2.2.1, a.2.2.2.1, ?_⟩
  rw [a.2.2.2.2, a.2.2.1, ← yM_c, yM_or]
  apply yM_ext
  intro b
  show _ = ex_b 8 (fun a => S a && (od_fo p a x b || (od_la p x a && od_fi p x b)))
  rw [ex_or2 8 S (fun a => od_fo p a x b) (fun a => od_la p x a && od_fi p x b), ex_and2 8 S (fun a => od_la p x a)]
theorem sl_seq (a : yr_sl tk n S x p h1 e1 f1 d1 t1) (b : yr_sl tk n S x q h2 e2 f2 d2 t2) :
    yr_sl tk n S x (od_seq p q) (b01 (od_h p || od_h q)) (b01 (od_on p x && od_on q x)) (f1 ||| (if od_on p x = true then f2 else 0))
      (b01 (ex_b 8 (fun a => S a && od_la q x a) || (ex_b 8 (fun a => S a && od_la p x a) && od_on q x))) ((t1 ||| t2) ||| (if ex_b 8 (fun a => S a && od_la p x a) = true then f2 else 0)) := by
  refine ⟨rfl, rfl, ?_, ?_, ?_⟩
  · rw [a.2.2.1, b.2.2.1, ← yM_c, yM_or]; rfl
  · show _ = b01 (ex_b 8 (fun a => S a && (od_la q x a || (od_la p x a && od_on q x))))
    rw [ex_or2 8 S (fun a => od_la q x a) (fun a => od_la p x a && od_on q x), ex_and2 8 S (fun a => od_la p x a)]
  · rw [a.2.2.2.2, b.2.2.2.2, b.2.2.1, ← yM_c, yM_or, yM_or]
    apply yM_ext
    intro c
    show _ = ex_b 8 (fun a => S a && ((od_fo p a x c || od_fo q a x c) || (od_la p x a && od_fi q x c)))
    rw [ex_or2 8 S (fun a => od_fo p a x c || od_fo q a x c) (fun a => od_la p x a && od_fi q x c), ex_or2 8 S (fun a => od_fo p a x c) (fun a => od_fo q a x c), ex_and2 8 S (fun a => od_la p x a)]
theorem sl_plus (a : yr_sl tk n S x p h1 e1 f1 d1 t1) (b : yr_sl tk n S x q h2 e2 f2 d2 t2) :
    yr_sl tk n S x (od_plus p q) (b01 (od_h p || od_h q)) (b01 (od_on p x || od_on q x)) (f1 ||| f2)
      (b01 (ex_b 8 (fun a => S a && od_la p x a) || ex_b 8 (fun a => S a && od_la q x a))) (t1 ||| t2) := by
  refine ⟨rfl, rfl, ?_, ?_, ?_⟩
  · rw [a.2.2.1, b.2.2.1, yM_or]; rfl
  · show _ = b01 (ex_b 8 (fun a => S a && (od_la p x a || od_la q x a)))
    rw [ex_or2 8 S (fun a => od_la p x a) (fun a => od_la q x a)]
  · rw [a.2.2.2.2, b.2.2.2.2, yM_or]
    apply yM_ext
    intro c
    show _ = ex_b 8 (fun a => S a && (od_fo p a x c || od_fo q a x c))
    rw [ex_or2 8 S (fun a => od_fo p a x c) (fun a => od_fo q a x c)]
theorem sl_if (b : yr_sl tk n S x q h2 e2 f2 d2 t2) (c : yr_sl tk n S x r h3 e3 f3 d3 t3) :
    yr_sl tk n S x (od_if p q r) (b01 (od_h q || od_h r)) (b01 (if od_on p x = true then od_on q x else od_on r x)) (if od_on p x = true then f2 else f3)
      (b01 (ex_b 8 (fun a => S a && od_la q x a) || ex_b 8 (fun a => S a && od_la r x a))) (t2 ||| t3) := by
  refine ⟨rfl, rfl, ?_, ?_, ?_⟩
  · show _ = yM tk n (fun b => if od_on p x = true then od_fi q x b else od_fi r x b)
    by_cases e : od_on p x = true
    · rw [if_pos e, b.2.2.1]; exact yM_ext fun k => (if_pos e).symm
    · rw [if_neg e, c.2.2.1]; exact yM_ext fun k => (if_neg e).symm
  · show _ = b01 (ex_b 8 (fun a => S a && (od_la q x a || od_la r x a)))
    rw [ex_or2 8 S (fun a => od_la q x a) (fun a => od_la r x a)]
  · rw [b.2.2.2.2, c.2.2.2.2, yM_or]
    apply yM_ext
    intro k
    show _ = ex_b 8 (fun a => S a && (od_fo q a x k || od_fo r a x k))
    rw [ex_or2 8 S (fun a => od_fo q a x k) (fun a => od_fo r a x k)]
theorem sl_while (b : yr_sl tk n S x q h2 e2 f2 d2 t2) :
    yr_sl tk n S x (od_while p q) (b01 (od_h q)) (b01 (!od_on p x)) (if od_on p x = true then f2 else 0)
      (b01 (ex_b 8 (fun a => S a && od_la q x a) && !od_on p x)) (t2 ||| (if ex_b 8 (fun a => S a && od_la q x a) = true then (if od_on p x = true then f2 else 0) else 0)) := by
  refine ⟨rfl, rfl, ?_, ?_, ?_⟩
  · rw [b.2.2.1, ← yM_c]; rfl
  · show _ = b01 (ex_b 8 (fun a => S a && (od_la q x a && !od_on p x)))
    rw [ex_and2 8 S (fun a => od_la q x a)]
  · rw [b.2.2.2.2, b.2.2.1, ← yM_c, ← yM_c, yM_or]
    apply yM_ext
    intro c
    show _ = ex_b 8 (fun a => S a && (od_fo q a x c || (od_la q x a && (od_on p x && od_fi q x c))))
    rw [ex_or2 8 S (fun a => od_fo q a x c) (fun a => od_la q x a && (od_on p x && od_fi q x c)), ex_and2 8 S (fun a => od_la q x a)]
theorem sl_leaf {i c : Nat} {M : Int32} (hi : i < n) (hn : n ≤ 32) (hc : tk i = c) (h8 : tk_ac tk n ≤ 8) (hM : 16 ≤ tk i → bt M i = S (tk_ac tk i)) :
    yr_sl tk n S x (od_leaf c (tk_ac tk i)) (b01 (decide (16 ≤ c))) (b01 (decide (c = 1) || (decide (8 ≤ c) && (decide (c < 16) && x.testBit (c - 8)))))
      (if 16 ≤ c then (1 : Int32) <<< (nI i &&& 31) else 0) (b01 (decide (16 ≤ c) && bt M i)) 0 := by
  refine ⟨rfl, rfl, ?_, ?_, ?_⟩
  · show _ = yM tk n (fun b => decide (16 ≤ c) && decide (b = tk_ac tk i))
    rw [yM_c]
    by_cases h : 16 ≤ c
    · rw [if_pos h, if_pos (decide_eq_true h), zk_one (by omega)]
      unfold yM
      apply zk_ext
      intro j hj
      apply bo_iff
      rw [Bool.and_eq_true, Bool.and_eq_true, decide_eq_true_eq, decide_eq_true_eq, decide_eq_true_eq, decide_eq_true_eq]
      constructor
      · rintro rfl
        exact ⟨⟨hi, by omega⟩, rfl⟩
      · rintro ⟨⟨a, b⟩, e⟩
        exact tk_ac_inj b (by omega) e
    · rw [if_neg h, if_neg (by rw [decide_eq_false h]; decide)]
  · show _ = b01 (ex_b 8 (fun a => S a && (decide (16 ≤ c) && decide (a = tk_ac tk i))))
    congr 1
    by_cases h : 16 ≤ c
    · rw [decide_eq_true h]
      rw [hM (by omega)]
      have : tk_ac tk i < tk_ac tk n := tk_ac_lt tk hi (by omega)
      exact (ex_at (by omega) S).symm
    · rw [decide_eq_false h]
      exact (ex_ff.mpr fun a _ => by rw [Bool.false_and, Bool.and_false]).symm
  · exact (yM_0 fun q => ex_ff.mpr fun a _ => Bool.and_false _).symm
end
theorem y_takes {post : Int32 → Prop} {u : SY} {c : Nat} (hc : c < 2 ^ 31) (h : post (nI (tk_ar c))) : wpY_takes post u (nI c) := by
  unfold wpY_takes
  dsimp only
  refine pk_eq c 2 (fun e => ?_) (fun e2 => ?_)
  · subst e; exact h
  refine pk_eq c 3 (fun e => ?_) (fun e3 => ?_)
  · subst e; exact h
  refine pk_eq c 4 (fun e => ?_) (fun e4 => ?_)
  · subst e; exact h
  refine pk_eq c 5 (fun e => ?_) (fun e5 => ?_)
  · subst e; exact h
  refine pk_eq c 7 (fun e => ?_) (fun e7 => ?_)
  · subst e; exact h
  refine pk_eq c 6 (fun e => ?_) (fun e6 => ?_)
  · subst e; exact h
  have : tk_ar c = 0 := by
    unfold tk_ar
    rw [if_neg (by omega), if_neg (by omega), if_neg (by omega)]
  rw [this] at h
  exact h
end
section
section
variable {post : SY → Prop} {tk : Nat → Nat} {n : Nat} {S : Nat → Bool} {x : Nat} {s T A : Nat} {M : Int32}
variable {f_t f_a f_l f_m f_n f_count f_known f_mode f_wlen f_wside f_top : Int32} {a_tok a_len a_str a_wit a_has a_one a_first a_done a_next a_ls a_rs a_from a_byAtom a_byAction a_depth : Nat → Int32}
/-- a lawful side of the reference -/
def yr_ok (T A s : Nat) (tk : Nat → Nat) (n : Nat) (a_tok a_len : Nat → Int32) : Prop :=
  s < 2 ∧ T ≤ 2 ∧ A ≤ 3 ∧ n ≤ 32 ∧ a_len s = nI n ∧ (∀ i, i < n → a_tok (32 * s + i) = nI (tk i)) ∧ tk_ok T A tk n ∧ tk_ac tk n ≤ 8
theorem yr_code {T A c : Nat} (hT : T ≤ 2) (hA : A ≤ 3) (h : tk_code T A c) : c < 19 := by
  rcases h with h | h | h <;> omega
theorem yr_step (ok : yr_ok T A s tk n a_tok a_len) (hx : x < 4) (hM : ∀ i, i < n → 16 ≤ tk i → bt M i = S (tk_ac tk i)) {m i : Nat} (hi : i < n)
    (D : yr_D tk n S x i a_has a_one a_first a_done a_next)
    (hJ : ∀ h e f d t, yr_D tk n S x (i + 1) h e f d t → wY_read_8 post (nI s) M (nI x) f_t f_a f_l f_m f_n f_count f_known f_mode f_wlen f_wside m (nI (i + 1)) (nI (tk_hg tk (i + 1))) a_tok a_len a_str a_wit h e f d t a_ls a_rs a_from a_byAtom a_byAction a_depth) :
    wY_read_8 post (nI s) M (nI x) f_t f_a f_l f_m f_n f_count f_known f_mode f_wlen f_wside (m + 1) (nI i) (nI (tk_hg tk i)) a_tok a_len a_str a_wit a_has a_one a_first a_done a_next a_ls a_rs a_from a_byAtom a_byAction a_depth := by
  obtain ⟨hs, hT, hA, hn, hlen, htok, ok, h8⟩ := ok
  obtain ⟨o1, o2, o3⟩ := ok i hi
  have hc : tk i < 19 := yr_code hT hA o2
  have hg : tk_hg tk i ≤ i := tk_hg_le tk i
  have hPi : tk_P tk i ≤ i := tk_P_lt
  rw [wY_read_8]
  refine ⟨vp_in_nI hs (by decide), ?_⟩
  have e1 : a_len (nI s).toNatClampNeg = nI n := by rw [nI_clamp (by omega), hlen]
  have e2 : (32 : Int32) * nI s + nI i = nI (32 * s + i) := by
    show nI 32 * nI s + nI i = _
    rw [pk_mul, nI_add]
  rw [e1, e2]
  refine br_f (nI_ge hi (by omega)) ⟨vp_in_nI (by omega) (by decide), nm_r (e' := nI (tk i)) (by rw [nI_clamp (by omega)]; exact htok i hi) ?_⟩
  refine y_takes (by omega) ?_
  refine nm_r (e' := nI (tk_P tk i)) (by rw [pk_sub o1]; rfl) (nm_r (nI_1 _) (nm_r (e' := nI (tk_P tk i + 2)) (by show nI _ + nI 2 = _; rw [nI_add]) ?_))
  have fin : ∀ h e f d t, yr_K (tk_P tk i) a_has a_one a_first a_done a_next h e f d t → yr_sl tk n S x (od_new (tk i) (tk_ac tk i) (tk_st tk i (tk_P tk i)) (tk_st tk i (tk_P tk i + 1)) (tk_st tk i (tk_P tk i + 2))) (h (tk_P tk i)) (e (tk_P tk i)) (f (tk_P tk i)) (d (tk_P tk i)) (t (tk_P tk i)) →
      wY_read_8 post (nI s) M (nI x) f_t f_a f_l f_m f_n f_count f_known f_mode f_wlen f_wside m (nI (i + 1)) (nI (tk_P tk i + 1)) a_tok a_len a_str a_wit h e f d t a_ls a_rs a_from a_byAtom a_byAction a_depth :=
    fun h e f d t K sl => hJ h e f d t (yr_new D K sl)
  have hPP : tk_P tk i = tk_hg tk i - tk_ar (tk i) := rfl
  generalize tk_P tk i = P at *
  rcases tk_ar_cases (tk i) with ⟨c, a⟩ | ⟨c, a⟩ | ⟨c, a⟩ | ⟨c, a⟩ | ⟨c, a⟩ | ⟨c, a⟩ | ⟨c, a⟩
  all_goals rw [a] at o1 hPP ⊢
  -- not
  · rw [c] at fin ⊢
    have sp := D P (by omega)
    refine br_f (by decide) (br_t (by decide) ⟨yu_in (by omega), ?_⟩)
    refine zk_bb (yu_r (by omega) sp.2.1) (fun z => ?_) (fun z => ?_)
    all_goals
      refine yr_220 (b := !od_on (tk_st tk i P) x) (by omega) (by rw [z]; rfl) (fin _ _ _ _ _ (fun k hk => ⟨rfl, yu_lt _ _ hk, rfl, rfl, rfl⟩) ?_)
      rw [yu_s]
      exact sl_not sp
  -- star
  · rw [c] at fin ⊢
    have sp := D P (by omega)
    have sl := sl_star sp
    refine br_f (by decide) (br_f (by decide) (br_t (by decide) ⟨yu_in (by omega), ?_⟩))
    refine zk_bb (yu_r (by omega) sp.2.2.2.1) (fun z => ?_) (fun z => ?_)
    · refine yr_257 (by omega) (fin _ _ _ _ _ (fun k hk => ⟨rfl, yu_lt _ _ hk, rfl, rfl, rfl⟩) ?_)
      rw [yu_s]
      rw [z, if_neg (by decide), Int32.or_zero] at sl
      exact sl
    · refine ⟨yu_in (by omega), yu_in (by omega), yu_in (by omega), nm_r (e' := upd a_next P (a_next P ||| a_first P)) (by rw [nI_clamp (by omega)]) ?_⟩
      refine yr_257 (by omega) (fin _ _ _ _ _ (fun k hk => ⟨rfl, yu_lt _ _ hk, rfl, rfl, yu_lt _ _ hk⟩) ?_)
      rw [yu_s, yu_s]
      rw [z, if_pos rfl] at sl
      exact sl
  -- seq
  · rw [c] at fin ⊢
    have sp := D P (by omega)
    have sq := D (P + 1) (by omega)
    have sl := sl_seq sp sq
    refine br_f (by decide) (br_f (by decide) (br_f (by decide) (br_t (by decide) ⟨yu_in (by omega), ?_⟩)))
    have F : ∀ z, z = b01 (od_h (tk_st tk i P) || od_h (tk_st tk i (P + 1))) → wY_read_305 post (wY_read_8 post (nI s) M (nI x) f_t f_a f_l f_m f_n f_count f_known f_mode f_wlen f_wside m) (nI s) M (nI x) (nI i) (nI P) (nI (P + 1)) z (nI P) f_t f_a f_l f_m f_n f_count f_known f_mode f_wlen f_wside (nI (tk_hg tk i)) a_tok a_len a_str a_wit a_has a_one a_first a_done a_next a_ls a_rs a_from a_byAtom a_byAction a_depth := by
      intro z hz
      refine yr_305 (b := od_h (tk_st tk i P) || od_h (tk_st tk i (P + 1))) (by omega) hz sp.2.1 sq.2.1 sp.2.2.2.1 sq.2.2.2.1 (fin _ _ _ _ _ (fun k hk => ⟨yu_lt _ _ hk, yu_lt _ _ hk, ?_, yu_lt _ _ hk, ?_⟩) ?_)
      · split
        · exact yu_lt _ _ hk
        · rfl
      · split
        · rw [yu_lt _ _ hk, yu_lt _ _ hk]
        · exact yu_lt _ _ hk
      · rw [yu_s, yu_s, yu_s]
        have ef : (if od_on (tk_st tk i P) x = true then upd a_first P (a_first P ||| a_first (P + 1)) else a_first) P = a_first P ||| (if od_on (tk_st tk i P) x = true then a_first (P + 1) else 0) := by
          split
          · rw [yu_s]
          · rw [Int32.or_zero]
        have en : (if ex_b 8 (fun a => S a && od_la (tk_st tk i P) x a) = true then upd (upd a_next P (a_next P ||| a_next (P + 1))) P ((a_next P ||| a_next (P + 1)) ||| a_first (P + 1)) else upd a_next P (a_next P ||| a_next (P + 1))) P = (a_next P ||| a_next (P + 1)) ||| (if ex_b 8 (fun a => S a && od_la (tk_st tk i P) x a) = true then a_first (P + 1) else 0) := by
          split
          · rw [yu_s]
          · rw [yu_s, Int32.or_zero]
        rw [ef, en]
        exact sl
    refine zk_bb (yu_r (by omega) sp.1) (fun z1 => ⟨yu_in (by omega), zk_bb (yu_r (by omega) sq.1) (fun z2 => ?_) (fun z2 => ?_)⟩) (fun z1 => ?_)
    · exact F 0 (by rw [z1, z2]; rfl)
    · unfold wY_read_300
      exact F 1 (by rw [z1, z2]; rfl)
    · unfold wY_read_300
      exact F 1 (by rw [z1]; rfl)
  -- plus
  · rw [c] at fin ⊢
    have sp := D P (by omega)
    have sq := D (P + 1) (by omega)
    have sl := sl_plus sp sq
    refine br_f (by decide) (br_f (by decide) (br_f (by decide) (br_f (by decide) (br_t (by decide) ⟨yu_in (by omega), ?_⟩))))
    have F : ∀ z, z = b01 (od_h (tk_st tk i P) || od_h (tk_st tk i (P + 1))) → wY_read_491 post (wY_read_8 post (nI s) M (nI x) f_t f_a f_l f_m f_n f_count f_known f_mode f_wlen f_wside m) (nI s) M (nI x) (nI i) (nI P) (nI (P + 1)) z (nI P) f_t f_a f_l f_m f_n f_count f_known f_mode f_wlen f_wside (nI (tk_hg tk i)) a_tok a_len a_str a_wit a_has a_one a_first a_done a_next a_ls a_rs a_from a_byAtom a_byAction a_depth := by
      intro z hz
      refine yr_491 (b := od_h (tk_st tk i P) || od_h (tk_st tk i (P + 1))) (by omega) hz sp.2.1 sq.2.1 sp.2.2.2.1 sq.2.2.2.1 (fin _ _ _ _ _ (fun k hk => ⟨yu_lt _ _ hk, yu_lt _ _ hk, yu_lt _ _ hk, yu_lt _ _ hk, yu_lt _ _ hk⟩) ?_)
      rw [yu_s, yu_s, yu_s, yu_s, yu_s]
      exact sl
    refine zk_bb (yu_r (by omega) sp.1) (fun z1 => ⟨yu_in (by omega), zk_bb (yu_r (by omega) sq.1) (fun z2 => ?_) (fun z2 => ?_)⟩) (fun z1 => ?_)
    · exact F 0 (by rw [z1, z2]; rfl)
    · unfold wY_read_486
      exact F 1 (by rw [z1, z2]; rfl)
    · unfold wY_read_486
      exact F 1 (by rw [z1]; rfl)
  -- if
  · rw [c] at fin ⊢
    have sp := D P (by omega)
    have sq := D (P + 1) (by omega)
    have sr := D (P + 2) (by omega)
    have sl := sl_if (p := tk_st tk i P) sq sr
    refine br_f (by decide) (br_f (by decide) (br_f (by decide) (br_f (by decide) (br_f (by decide) (br_t (by decide) ⟨yu_in (by omega), ?_⟩)))))
    have F : ∀ z, z = b01 (od_h (tk_st tk i (P + 1)) || od_h (tk_st tk i (P + 2))) → wY_read_631 post (wY_read_8 post (nI s) M (nI x) f_t f_a f_l f_m f_n f_count f_known f_mode f_wlen f_wside m) (nI s) M (nI x) (nI i) (nI P) (nI (P + 1)) (nI (P + 2)) z (nI P) f_t f_a f_l f_m f_n f_count f_known f_mode f_wlen f_wside (nI (tk_hg tk i)) a_tok a_len a_str a_wit a_has a_one a_first a_done a_next a_ls a_rs a_from a_byAtom a_byAction a_depth := by
      intro z hz
      refine yr_631 (b := od_h (tk_st tk i (P + 1)) || od_h (tk_st tk i (P + 2))) (by omega) hz sp.2.1 sq.2.1 sr.2.1 sq.2.2.2.1 sr.2.2.2.1 (fin _ _ _ _ _ (fun k hk => ⟨yu_lt _ _ hk, yu_lt _ _ hk, yu_lt _ _ hk, yu_lt _ _ hk, yu_lt _ _ hk⟩) ?_)
      rw [yu_s, yu_s, yu_s, yu_s, yu_s]
      exact sl
    refine zk_bb (yu_r (by omega) sq.1) (fun z1 => ⟨yu_in (by omega), zk_bb (yu_r (by omega) sr.1) (fun z2 => ?_) (fun z2 => ?_)⟩) (fun z1 => ?_)
    · exact F 0 (by rw [z1, z2]; rfl)
    · unfold wY_read_626
      exact F 1 (by rw [z1, z2]; rfl)
    · unfold wY_read_626
      exact F 1 (by rw [z1]; rfl)
  -- while
  · rw [c] at fin ⊢
    have sp := D P (by omega)
    have sq := D (P + 1) (by omega)
    have sl := sl_while (p := tk_st tk i P) sq
    refine br_f (by decide) (br_f (by decide) (br_f (by decide) (br_f (by decide) (br_f (by decide) (br_f (by decide) ⟨yu_in (by omega), yu_in (by omega), nm_r (e' := upd a_has P (b01 (od_h (tk_st tk i (P + 1))))) (yu_b (by omega) (yu_r (by omega) sq.1)) ⟨yu_in (by omega), ?_⟩⟩)))))
    refine zk_bb (yu_r (by omega) sp.2.1) (fun z1 => ?_) (fun z1 => ⟨yu_in (by omega), ?_⟩)
    · refine yr_798 (by omega) sp.2.1 sq.2.2.2.1 (fin _ _ _ _ _ (fun k hk => ⟨yu_lt _ _ hk, yu_lt _ _ hk, yu_lt _ _ hk, yu_lt _ _ hk, yu_lt _ _ hk⟩) ?_)
      rw [yu_s, yu_s, yu_s, yu_s, yu_s]
      have z1' : ¬ od_on (tk_st tk i P) x = true := by rw [z1]; decide
      rw [if_neg z1'] at sl
      exact sl
    · refine yr_798 (by omega) sp.2.1 sq.2.2.2.1 (fin _ _ _ _ _ (fun k hk => ⟨yu_lt _ _ hk, yu_lt _ _ hk, yu_lt _ _ hk, yu_lt _ _ hk, yu_lt _ _ hk⟩) ?_)
      rw [yu_s, yu_s, yu_s, yu_s, yu_s, nI_clamp (by omega)]
      rw [if_pos z1] at sl
      exact sl
  -- leaf
  · have sl := sl_leaf (x := x) (M := M) hi hn rfl h8 (hM i hi)
    rw [od_new_leaf c] at fin
    refine br_t (by decide) ?_
    have F : ∀ z, z = b01 (decide (16 ≤ tk i)) → wY_read_85 post (wY_read_8 post (nI s) M (nI x) f_t f_a f_l f_m f_n f_count f_known f_mode f_wlen f_wside m) (nI s) M (nI x) (nI i) (nI (tk i)) (nI P) z (nI P) f_t f_a f_l f_m f_n f_count f_known f_mode f_wlen f_wside (nI (tk_hg tk i)) a_tok a_len a_str a_wit a_has a_one a_first a_done a_next a_ls a_rs a_from a_byAtom a_byAction a_depth := by
      intro z hz
      refine yr_85 (b := decide (16 ≤ tk i)) (y := x) (by omega) (by omega) hc hz rfl (by omega) (fin _ _ _ _ _ (fun k hk => ⟨yu_lt _ _ hk, yu_lt _ _ hk, yu_lt _ _ hk, yu_lt _ _ hk, yu_lt _ _ hk⟩) ?_)
      rw [yu_s, yu_s, yu_s, yu_s, yu_s]
      exact sl
    refine pk_lt (tk i) 16 (fun z => F 0 ?_) (fun z => F 1 ?_)
    · rw [decide_eq_false (by omega)]; rfl
    · rw [decide_eq_true z]; rfl
end
end
section
section
variable {tk : Nat → Nat} {n : Nat} {S : Nat → Bool} {x : Nat} {s T A : Nat} {M : Int32}
variable {f_t f_a f_l f_m f_n f_count f_known f_mode f_wlen f_wside f_top : Int32} {a_tok a_len a_str a_wit a_has a_one a_first a_done a_next a_ls a_rs a_from a_byAtom a_byAction a_depth : Nat → Int32}
theorem yr_loop {post : SY → Prop} (ok : yr_ok T A s tk n a_tok a_len) (hx : x < 4) (hM : ∀ i, i < n → 16 ≤ tk i → bt M i = S (tk_ac tk i))
    (K : ∀ h e f d t, yr_D tk n S x n h e f d t → post (f_t, f_a, f_l, f_m, f_n, f_count, f_known, f_mode, f_wlen, f_wside, nI (tk_hg tk n), a_tok, a_len, a_str, a_wit, h, e, f, d, t, a_ls, a_rs, a_from, a_byAtom, a_byAction, a_depth)) :
    ∀ dd i, i + dd = n → ∀ h e f d t, yr_D tk n S x i h e f d t → wY_read_8 post (nI s) M (nI x) f_t f_a f_l f_m f_n f_count f_known f_mode f_wlen f_wside (dd + 1) (nI i) (nI (tk_hg tk i)) a_tok a_len a_str a_wit h e f d t a_ls a_rs a_from a_byAtom a_byAction a_depth := by
  intro dd
  induction dd with
  | zero =>
    intro i hi h e f d t D
    obtain ⟨hs, hT, hA, hn, hlen, htok, ok, h8⟩ := ok
    have hi : i = n := hi
    subst hi
    rw [wY_read_8]
    refine ⟨vp_in_nI hs (by decide), br_t ?_ (K h e f d t D)⟩
    rw [nI_clamp (by omega), hlen]
    exact nI_le (Nat.le_refl _) (by omega)
  | succ dd ih =>
    intro i hi h e f d t D
    exact yr_step ok hx hM (by omega) D (fun h e f d t D => ih (i + 1) (by omega) h e f d t D)
theorem y_read {post : SY → Prop} (ok : yr_ok T A s tk n a_tok a_len) (hx : x < 4) (hM : ∀ i, i < n → 16 ≤ tk i → bt M i = S (tk_ac tk i))
    (K : ∀ h e f d t, yr_D tk n S x n h e f d t → post (f_t, f_a, f_l, f_m, f_n, f_count, f_known, f_mode, f_wlen, f_wside, nI (tk_hg tk n), a_tok, a_len, a_str, a_wit, h, e, f, d, t, a_ls, a_rs, a_from, a_byAtom, a_byAction, a_depth)) :
    wpY_read post (f_t, f_a, f_l, f_m, f_n, f_count, f_known, f_mode, f_wlen, f_wside, f_top, a_tok, a_len, a_str, a_wit, a_has, a_one, a_first, a_done, a_next, a_ls, a_rs, a_from, a_byAtom, a_byAction, a_depth) (nI s) M (nI x) :=
  ⟨n + 1, yr_loop ok hx hM K n 0 (Nat.zero_add n) _ _ _ _ _ (fun k hk => absurd hk (Nat.not_lt_zero _))⟩
theorem y_side {post : Int32 → Prop} {u : SY} (hs : s < 2) (h : post 0) : wpY_noSide post u (nI s) := by
  unfold wpY_noSide
  dsimp only
  refine pk_eq s 0 (fun _ => h) (fun h0 => pk_eq s 1 (fun _ => h) (fun h1 => ?_))
  omega
theorem y_noside {post : Int32 → Prop} {u : SY} {v : Int32} (h0 : ¬ v = 0) (h1 : ¬ v = 1) (h : post 1) : wpY_noSide post u v := by
  unfold wpY_noSide
  dsimp only
  exact br_f h0 (br_f h1 h)
theorem y_height {post : Int32 → SY → Prop} (ok : yr_ok T A s tk n a_tok a_len)
    (K : ∀ h e f d t, yr_D tk n (fun _ => false) 0 n h e f d t → post (nI (tk_hg tk n)) (f_t, f_a, f_l, f_m, f_n, f_count, f_known, f_mode, f_wlen, f_wside, nI (tk_hg tk n), a_tok, a_len, a_str, a_wit, h, e, f, d, t, a_ls, a_rs, a_from, a_byAtom, a_byAction, a_depth)) :
    wpY_height post (f_t, f_a, f_l, f_m, f_n, f_count, f_known, f_mode, f_wlen, f_wside, f_top, a_tok, a_len, a_str, a_wit, a_has, a_one, a_first, a_done, a_next, a_ls, a_rs, a_from, a_byAtom, a_byAction, a_depth) (nI s) := by
  unfold wpY_height
  dsimp only
  refine y_side ok.1 (br_t rfl ?_)
  exact y_read (x := 0) (S := fun _ => false) (M := 0) ok (by omega) (fun i _ _ => b_0 i) K
theorem y_occ_loop {post : Int32 → Prop} (ok : yr_ok T A s tk n a_tok a_len) (K : post (nI (tk_ac tk n))) :
    ∀ dd i, i + dd = n → wY_occurrences_14 post (nI s) f_t f_a f_l f_m f_n f_count f_known f_mode f_wlen f_wside f_top a_tok a_len a_str a_wit a_has a_one a_first a_done a_next a_ls a_rs a_from a_byAtom a_byAction a_depth (dd + 1) (nI (tk_ac tk i)) (nI i) := by
  obtain ⟨hs, hT, hA, hn, hlen, htok, ok, h8⟩ := ok
  have e1 : a_len (nI s).toNatClampNeg = nI n := by rw [nI_clamp (by omega), hlen]
  intro dd
  induction dd with
  | zero =>
    intro i hi
    have hi : i = n := hi
    subst hi
    rw [wY_occurrences_14]
    refine ⟨vp_in_nI hs (by decide), br_t ?_ K⟩
    rw [e1]
    exact nI_le (Nat.le_refl _) (by omega)
  | succ dd ih =>
    intro i hi
    rw [wY_occurrences_14]
    have e2 : (32 : Int32) * nI s + nI i = nI (32 * s + i) := by
      show nI 32 * nI s + nI i = _
      rw [pk_mul, nI_add]
    have hc : tk i < 19 := yr_code hT hA (ok i (by omega)).2.1
    dsimp only
    rw [e1, e2]
    refine ⟨vp_in_nI hs (by decide), br_f (nI_ge (by omega) (by omega)) ⟨vp_in_nI (by omega) (by decide), ?_⟩⟩
    rw [nI_clamp (by omega), htok i (by omega)]
    have := ih (i + 1) (by omega)
    refine pk_lt (tk i) 16 (fun z => nm_r (nI_1 i) ?_) (fun z => nm_r (nI_1 _) (nm_r (nI_1 i) ?_))
    · rw [tk_ac_n (by omega)] at this; exact this
    · rw [tk_ac_a z] at this; exact this
theorem y_occ {post : Int32 → Prop} (ok : yr_ok T A s tk n a_tok a_len) (K : post (nI (tk_ac tk n))) : wpY_occurrences post (f_t, f_a, f_l, f_m, f_n, f_count, f_known, f_mode, f_wlen, f_wside, f_top, a_tok, a_len, a_str, a_wit, a_has, a_one, a_first, a_done, a_next, a_ls, a_rs, a_from, a_byAtom, a_byAction, a_depth) (nI s) := by
  unfold wpY_occurrences
  dsimp only
  exact y_side ok.1 (br_t rfl ⟨n + 1, y_occ_loop ok K n 0 (Nat.zero_add n)⟩)
/-! the places with an action -/
def yo_k (tk : Nat → Nat) (n : Nat) (f : Nat → Bool) (c i : Nat) : Int32 := zk_m (fun j => decide (j < i) && ((decide (j < n) && decide (16 ≤ tk j)) && (f (tk_ac tk j) && decide (tk_lb tk n (tk_ac tk j) = c))))
theorem yo_n (tk : Nat → Nat) (n : Nat) (f : Nat → Bool) (c : Nat) : yo_k tk n f c n = yM tk n (fun a => f a && decide (tk_lb tk n a = c)) := by
  apply zk_ext
  intro j _
  by_cases h : j < n
  · rw [decide_eq_true h]; rfl
  · rw [decide_eq_false h]; rfl
theorem yo_s {i : Nat} (hi : i < n) (hn : n ≤ 32) (f : Nat → Bool) (c : Nat) : yo_k tk n f c (i + 1) = if tk i = 16 + c then yo_k tk n f c i ||| (yM tk n f &&& ((1 : Int32) <<< (nI i &&& 31))) else yo_k tk n f c i := by
  split
  · rename_i h
    apply b_ext
    intro j hj
    rw [b_or, b_and, zk_sh (by omega) hj, yM_bt hj]
    unfold yo_k
    rw [zk_bt _ hj, zk_bt _ hj]
    by_cases e : j = i
    · subst e
      have h16 : 16 ≤ tk j := by omega
      rw [tk_lb_at hi h16, decide_eq_true (show j < j + 1 by omega), decide_eq_false (show ¬ j < j by omega), decide_eq_true (show tk j - 16 = c by omega), decide_eq_true (show j = j from rfl)]
      cases ((decide (j < n) && decide (16 ≤ tk j))) <;> cases f (tk_ac tk j) <;> rfl
    · rw [decide_eq_false e, Bool.and_false, Bool.or_false]
      by_cases z : j < i
      · rw [decide_eq_true z, decide_eq_true (show j < i + 1 by omega)]
      · rw [decide_eq_false z, decide_eq_false (show ¬ j < i + 1 by omega)]
  · rename_i h
    apply zk_ext
    intro j hj
    by_cases e : j = i
    · subst e
      rw [decide_eq_true (show j < j + 1 by omega), decide_eq_false (show ¬ j < j by omega)]
      by_cases h16 : 16 ≤ tk j
      · rw [tk_lb_at hi h16, decide_eq_false (show ¬ tk j - 16 = c by omega), Bool.and_false, Bool.and_false]; rfl
      · rw [decide_eq_false h16, Bool.and_false]; rfl
    · by_cases z : j < i
      · rw [decide_eq_true z, decide_eq_true (show j < i + 1 by omega)]
      · rw [decide_eq_false z, decide_eq_false (show ¬ j < i + 1 by omega)]
theorem y_only_loop {post : Int32 → Prop} {f : Nat → Bool} {c : Nat} (hc : c < 4) (ok : yr_ok T A s tk n a_tok a_len) (K : post (yM tk n (fun a => f a && decide (tk_lb tk n a = c)))) :
    ∀ dd i, i + dd = n → wY_only_6 post (nI s) (yM tk n f) (nI c) f_t f_a f_l f_m f_n f_count f_known f_mode f_wlen f_wside f_top a_tok a_len a_str a_wit a_has a_one a_first a_done a_next a_ls a_rs a_from a_byAtom a_byAction a_depth (dd + 1) (yo_k tk n f c i) (nI i) := by
  obtain ⟨hs, hT, hA, hn, hlen, htok, ok, h8⟩ := ok
  have e1 : a_len (nI s).toNatClampNeg = nI n := by rw [nI_clamp (by omega), hlen]
  intro dd
  induction dd with
  | zero =>
    intro i hi
    have hi : i = n := hi
    subst hi
    rw [wY_only_6]
    refine ⟨vp_in_nI hs (by decide), br_t ?_ ?_⟩
    · rw [e1]; exact nI_le (Nat.le_refl _) (by omega)
    · rw [yo_n]; exact K
  | succ dd ih =>
    intro i hi
    rw [wY_only_6]
    have e2 : (32 : Int32) * nI s + nI i = nI (32 * s + i) := by
      show nI 32 * nI s + nI i = _
      rw [pk_mul, nI_add]
    have hc' : tk i < 19 := yr_code hT hA (ok i (by omega)).2.1
    have e3 : (16 : Int32) + nI c = nI (16 + c) := by show nI 16 + nI c = _; rw [nI_add]
    dsimp only
    rw [e1, e2]
    refine ⟨vp_in_nI hs (by decide), br_f (nI_ge (by omega) (by omega)) ⟨vp_in_nI (by omega) (by decide), ?_⟩⟩
    rw [nI_clamp (by omega), htok i (by omega), e3]
    have := ih (i + 1) (by omega)
    rw [yo_s (by omega) hn] at this
    refine pk_eq (tk i) (16 + c) (fun z => nm_e (nm_r (nI_1 i) ?_)) (fun z => nm_r (nI_1 i) ?_)
    · rw [if_pos z] at this; exact this
    · rw [if_neg z] at this; exact this
theorem y_only {post : Int32 → Prop} {f : Nat → Bool} {c : Nat} (hc : c < 4) (ok : yr_ok T A s tk n a_tok a_len) (K : post (yM tk n (fun a => f a && decide (tk_lb tk n a = c)))) :
    wpY_only post (f_t, f_a, f_l, f_m, f_n, f_count, f_known, f_mode, f_wlen, f_wside, f_top, a_tok, a_len, a_str, a_wit, a_has, a_one, a_first, a_done, a_next, a_ls, a_rs, a_from, a_byAtom, a_byAction, a_depth) (nI s) (yM tk n f) (nI c) := by
  refine ⟨n + 1, ?_⟩
  have := y_only_loop (post := post) (f := f) (f_t := f_t) (f_a := f_a) (f_l := f_l) (f_m := f_m) (f_n := f_n) (f_count := f_count) (f_known := f_known) (f_mode := f_mode) (f_wlen := f_wlen) (f_wside := f_wside) (f_top := f_top) (a_tok := a_tok) (a_len := a_len) (a_str := a_str) (a_wit := a_wit) (a_has := a_has) (a_one := a_one) (a_first := a_first) (a_done := a_done) (a_next := a_next) (a_ls := a_ls) (a_rs := a_rs) (a_from := a_from) (a_byAtom := a_byAtom) (a_byAction := a_byAction) (a_depth := a_depth) hc ok K n 0 (Nat.zero_add n)
  rw [show yo_k tk n f c 0 = 0 from zk_0 fun j _ => by rw [decide_eq_false (Nat.not_lt_zero _)]; rfl] at this
  exact this
end
end
section
/-! ===== the entered string ===== -/
def ew (A : Nat) (e : Nat → Nat) : Nat → List Nat
  | 0 => []
  | k + 1 => (e (2 * k) * A + e (2 * k + 1)) :: ew A e k
def en_ok (N A cnt : Nat) (e : Nat → Nat) (a : Nat → Int32) : Prop :=
  cnt ≤ 17 ∧ ∀ i, i < cnt → a i = nI (e i) ∧ e i < (if i % 2 = 0 then N else A)
theorem en_at {N A cnt : Nat} {e : Nat → Nat} {a : Nat → Int32} (h : en_ok N A cnt e a) {k : Nat} (hk : 2 * k < cnt) : a (2 * k) = nI (e (2 * k)) ∧ e (2 * k) < N := by
  have := h.2 (2 * k) hk
  rwa [if_pos (by omega)] at this
theorem en_ac {N A cnt : Nat} {e : Nat → Nat} {a : Nat → Int32} (h : en_ok N A cnt e a) {k : Nat} (hk : 2 * k + 1 < cnt) : a (2 * k + 1) = nI (e (2 * k + 1)) ∧ e (2 * k + 1) < A := by
  have := h.2 (2 * k + 1) hk
  rwa [if_neg (by omega)] at this
theorem ew_div {A x c : Nat} (hc : c < A) : (x * A + c) / A = x := by
  rw [Nat.mul_comm, Nat.mul_add_div (by omega), Nat.div_eq_of_lt hc, Nat.add_zero]
theorem ew_mod {A x c : Nat} (hc : c < A) : (x * A + c) % A = c := by
  rw [Nat.mul_comm, Nat.mul_add_mod, Nat.mod_eq_of_lt hc]
theorem ew_b {N A x c : Nat} (hx : x < N) (hc : c < A) : x * A + c < N * A := by
  have : (x + 1) * A ≤ N * A := Nat.mul_le_mul_right A hx
  rw [Nat.add_mul, Nat.one_mul] at this
  omega
theorem ew_lt {N A cnt : Nat} {e : Nat → Nat} {a : Nat → Int32} (h : en_ok N A cnt e a) : ∀ k, 2 * k ≤ cnt → ∀ l, l ∈ ew A e k → l < N * A := by
  intro k
  induction k with
  | zero => intro _ l hl; cases hl
  | succ k ih =>
    intro hk l hl
    rcases List.mem_cons.mp hl with z | z
    · rw [z]; exact ew_b (en_at h (by omega)).2 (en_ac h (by omega)).2
    · exact ih (by omega) l z
/-! steps of a set that is the start, or has no start -/
theorem au_go_s0 (o : Od) (x q : Nat) : au_go o au_s0 x q = od_fi o x q := by
  apply bo_iff
  rw [au_go_iff]
  constructor
  · rintro ⟨a, _, h1, h2⟩
    have : a = 8 := of_decide_eq_true h1
    subst this
    rwa [au_nx8] at h2
  · intro h
    exact ⟨8, by omega, rfl, by rw [au_nx8]; exact h⟩
theorem au_end_s0 (o : Od) (x : Nat) : au_end o au_s0 x = od_on o x := by
  apply bo_iff
  rw [au_end_iff]
  constructor
  · rintro ⟨a, _, h1, h2⟩
    have : a = 8 := of_decide_eq_true h1
    subst this
    rwa [au_acc8] at h2
  · intro h
    exact ⟨8, by omega, rfl, by rw [au_acc8]; exact h⟩
theorem au_go_n {o : Od} {S : Nat → Bool} (h : S 8 = false) (x q : Nat) : au_go o S x q = ex_b 8 (fun a => S a && od_fo o a x q) := by
  unfold au_go
  rw [ex_s, h, Bool.false_and, Bool.or_false]
  exact ex_c fun a ha => by rw [au_nxn o x q ha]
theorem au_end_n {o : Od} {S : Nat → Bool} (h : S 8 = false) (x : Nat) : au_end o S x = ex_b 8 (fun a => S a && od_la o x a) := by
  unfold au_end
  rw [ex_s, h, Bool.false_and, Bool.or_false]
  exact ex_c fun a ha => by rw [au_accn o x ha]
/-- st tells whether S is the start -/
def au_stt (st : Bool) (S : Nat → Bool) : Prop := (st = true ∧ S = au_s0) ∨ (st = false ∧ S 8 = false)
theorem au_stt_w {c : Nat} {o : Od} (hB : od_B c o) (hc : c ≤ 8) {lb : Nat → Nat} {A : Nat} (w : List Nat) : au_stt w.isEmpty (wd_r (au_F o lb A) au_s0 w) := by
  cases w with
  | nil => exact Or.inl ⟨rfl, rfl⟩
  | cons l w =>
    refine Or.inr ⟨rfl, ?_⟩
    cases z : wd_r (au_F o lb A) au_s0 (l :: w) 8
    · rfl
    · have := au_F_b hB z; omega
section
variable {tk : Nat → Nat} {n : Nat} {S : Nat → Bool} {x : Nat} {s T A N cnt : Nat} {M : Int32} {e : Nat → Nat}
variable {f_t f_a f_l f_m f_n f_count f_known f_mode f_wlen f_wside f_top : Int32} {a_tok a_len a_str a_wit a_has a_one a_first a_done a_next a_ls a_rs a_from a_byAtom a_byAction a_depth : Nat → Int32}
theorem yr_goS {st : Bool} (hs : au_stt st S) {o : Od} {h1 e1 f1 d1 t1 : Int32} (sl : yr_sl tk n S x o h1 e1 f1 d1 t1) : (st = true → f1 = yM tk n (au_go o S x) ∧ e1 = b01 (au_end o S x)) ∧ (st = false → t1 = yM tk n (au_go o S x) ∧ d1 = b01 (au_end o S x)) := by
  obtain ⟨a1, a2, a3, a4, a5⟩ := sl
  rcases hs with ⟨z, rfl⟩ | ⟨z, hz⟩
  · refine ⟨fun _ => ⟨?_, ?_⟩, fun h => absurd (z.symm.trans h) (by decide)⟩
    · rw [a3]; exact yM_ext fun q => (au_go_s0 o x q).symm
    · rw [a2, au_end_s0]
  · refine ⟨fun h => absurd (z.symm.trans h) (by decide), fun _ => ⟨?_, ?_⟩⟩
    · rw [a5]; exact yM_ext fun q => (au_go_n hz x q).symm
    · rw [a4, au_end_n hz]
theorem yM_hM (hn : n ≤ 32) : ∀ i, i < n → 16 ≤ tk i → bt (yM tk n S) i = S (tk_ac tk i) := by
  intro i hi h
  rw [yM_bt (by omega), decide_eq_true hi, decide_eq_true h]; rfl
theorem yM_s0 (h8 : tk_ac tk n ≤ 8) : yM tk n au_s0 = 0 := by
  unfold yM
  apply zk_0
  intro j hj
  by_cases a : j < n
  · by_cases b : 16 ≤ tk j
    · have := tk_ac_lt tk a b
      have h : au_s0 (tk_ac tk j) = false := decide_eq_false (by omega)
      rw [h, Bool.and_false]
    · rw [decide_eq_false b, Bool.and_false]; rfl
  · rw [decide_eq_false a]; rfl
theorem y_after_loop {post : Int32 → SY → Prop} (ok : yr_ok T A s tk n a_tok a_len) (h1 : tk_hg tk n = 1) (hN : N ≤ 4) (hE : en_ok N A cnt e a_str) {k : Nat} (hk : 2 * k ≤ cnt)
    (K : ∀ top h o f d t, post (yM tk n (wd_r (au_F (tk_st tk n 0) (tk_lb tk n) A) au_s0 (ew A e k))) (f_t, f_a, f_l, f_m, f_n, f_count, f_known, f_mode, f_wlen, f_wside, top, a_tok, a_len, a_str, a_wit, h, o, f, d, t, a_ls, a_rs, a_from, a_byAtom, a_byAction, a_depth)) :
    ∀ dd i, i + dd = k → ∀ top h o f d t, wY_after_5 post (nI s) (nI k) (dd + 1) (yM tk n (wd_r (au_F (tk_st tk n 0) (tk_lb tk n) A) au_s0 (ew A e i))) (nI i) f_t f_a f_l f_m f_n f_count f_known f_mode f_wlen f_wside top a_tok a_len a_str a_wit h o f d t a_ls a_rs a_from a_byAtom a_byAction a_depth := by
  have hcnt := hE.1
  intro dd
  induction dd with
  | zero =>
    intro i hi top h o f d t
    have hi : i = k := hi
    subst hi
    rw [wY_after_5]
    exact br_t (nI_le (Nat.le_refl _) (by omega)) (K _ _ _ _ _ _)
  | succ dd ih =>
    intro i hi top h o f d t
    rw [wY_after_5]
    have e2 : (2 : Int32) * nI i = nI (2 * i) := by show nI 2 * nI i = _; rw [pk_mul]
    have e3 : nI (2 * i) + 1 = nI (2 * i + 1) := nI_1 _
    have E1 := en_at hE (k := i) (by omega)
    have E2 := en_ac hE (k := i) (by omega)
    dsimp only
    rw [e2]
    refine br_f (nI_ge (by omega) (by omega)) ⟨vp_in_nI (by omega) (by decide), ?_⟩
    rw [nI_clamp (by omega), E1.1]
    refine y_read ok (by omega) (yM_hM ok.2.2.2.1) (fun h o f d t D => ?_)
    have sl := D 0 (by omega)
    have hst : au_stt (decide (i = 0)) (wd_r (au_F (tk_st tk n 0) (tk_lb tk n) A) au_s0 (ew A e i)) := by
      have := au_stt_w (tk_B tk n 0) ok.2.2.2.2.2.2.2 (lb := tk_lb tk n) (A := A) (ew A e i)
      cases i with
      | zero => exact this
      | succ i => exact this
    have G := yr_goS hst sl
    have F : ∀ z, z = yM tk n (au_go (tk_st tk n 0) (wd_r (au_F (tk_st tk n 0) (tk_lb tk n) A) au_s0 (ew A e i)) (e (2 * i))) → wY_after_46 post (wY_after_5 post (nI s) (nI k) (dd + 1)) (nI s) (nI k) (nI i) z f_t f_a f_l f_m f_n f_count f_known f_mode f_wlen f_wside (nI (tk_hg tk n)) a_tok a_len a_str a_wit h o f d t a_ls a_rs a_from a_byAtom a_byAction a_depth := by
      intro z hz
      unfold wY_after_46
      rw [e2, e3, hz]
      refine ⟨vp_in_nI (by omega) (by decide), ?_⟩
      rw [nI_clamp (by omega), E2.1]
      refine y_only (by have := ok.2.2.1; omega) ok (nm_r (nI_1 i) ?_)
      have := ih (i + 1) (by omega) (nI (tk_hg tk n)) h o f d t
      have ex : (fun a => au_go (tk_st tk n 0) (wd_r (au_F (tk_st tk n 0) (tk_lb tk n) A) au_s0 (ew A e i)) (e (2 * i)) a && decide (tk_lb tk n a = e (2 * i + 1))) = wd_r (au_F (tk_st tk n 0) (tk_lb tk n) A) au_s0 (ew A e (i + 1)) := by
        funext a
        show _ = (au_go (tk_st tk n 0) (wd_r (au_F (tk_st tk n 0) (tk_lb tk n) A) au_s0 (ew A e i)) ((e (2 * i) * A + e (2 * i + 1)) / A) a && decide (tk_lb tk n a = (e (2 * i) * A + e (2 * i + 1)) % A))
        rw [ew_div E2.2, ew_mod E2.2]
      rw [ex]
      exact this
    refine pk_eq i 0 (fun z => F _ ?_) (fun z => F _ ?_)
    · exact (G.1 (decide_eq_true z)).1
    · exact (G.2 (decide_eq_false z)).1
theorem y_after {post : Int32 → SY → Prop} (ok : yr_ok T A s tk n a_tok a_len) (h1 : tk_hg tk n = 1) (hN : N ≤ 4) (hE : en_ok N A cnt e a_str) {k : Nat} (hk : 2 * k ≤ cnt)
    (K : ∀ top h o f d t, post (yM tk n (wd_r (au_F (tk_st tk n 0) (tk_lb tk n) A) au_s0 (ew A e k))) (f_t, f_a, f_l, f_m, f_n, f_count, f_known, f_mode, f_wlen, f_wside, top, a_tok, a_len, a_str, a_wit, h, o, f, d, t, a_ls, a_rs, a_from, a_byAtom, a_byAction, a_depth)) :
    wpY_after post (f_t, f_a, f_l, f_m, f_n, f_count, f_known, f_mode, f_wlen, f_wside, f_top, a_tok, a_len, a_str, a_wit, a_has, a_one, a_first, a_done, a_next, a_ls, a_rs, a_from, a_byAtom, a_byAction, a_depth) (nI s) (nI k) := by
  refine ⟨k + 1, ?_⟩
  have := y_after_loop ok h1 hN hE hk K k 0 (Nat.zero_add k) f_top a_has a_one a_first a_done a_next
  rw [show yM tk n (wd_r (au_F (tk_st tk n 0) (tk_lb tk n) A) au_s0 (ew A e 0)) = 0 from yM_s0 ok.2.2.2.2.2.2.2] at this
  exact this
/-- accepts, when the side is ready and the string is complete -/
theorem y_accepts {post : Int32 → SY → Prop} (ok : yr_ok T A s tk n a_tok a_len) (h1 : tk_hg tk n = 1) (hN : N ≤ 4) (hE : en_ok N A cnt e a_str) (hc : f_count = nI cnt) (hodd : cnt % 2 = 1)
    (K : ∀ top h o f d t, post (b01 (au_end (tk_st tk n 0) (wd_r (au_F (tk_st tk n 0) (tk_lb tk n) A) au_s0 (ew A e (cnt / 2))) (e (cnt - 1)))) (f_t, f_a, f_l, f_m, f_n, f_count, f_known, f_mode, f_wlen, f_wside, top, a_tok, a_len, a_str, a_wit, h, o, f, d, t, a_ls, a_rs, a_from, a_byAtom, a_byAction, a_depth)) :
    wpY_accepts post (f_t, f_a, f_l, f_m, f_n, f_count, f_known, f_mode, f_wlen, f_wside, f_top, a_tok, a_len, a_str, a_wit, a_has, a_one, a_first, a_done, a_next, a_ls, a_rs, a_from, a_byAtom, a_byAction, a_depth) (nI s) := by
  have hcnt := hE.1
  have E1 := en_at hE (k := cnt / 2) (by omega)
  have ec : 2 * (cnt / 2) = cnt - 1 := by omega
  rw [ec] at E1
  unfold wpY_accepts
  dsimp only
  subst hc
  refine y_side ok.1 (br_t rfl (y_height ok fun h o f d t _ => ?_))
  dsimp only
  rw [h1]
  refine br_t rfl ⟨by decide, ?_⟩
  have er : nI cnt - nI cnt / 2 * 2 = nI (cnt % 2) := pk_rem (d := 2) (by omega) (by omega) (by omega)
  have ed : nI cnt / 2 = nI (cnt / 2) := pk_div (d := 2) (by omega) (by omega) (by omega)
  have em : nI cnt - 1 = nI (cnt - 1) := pk_sub (b := 1) (by omega)
  rw [er, hodd, ed]
  refine br_f (by decide) ⟨by decide, y_after ok h1 hN hE (by omega) fun top h o f d t => ?_⟩
  dsimp only
  rw [em]
  refine ⟨vp_in_nI (by omega) (by decide), ?_⟩
  rw [nI_clamp (by omega), E1.1]
  refine y_read ok (by omega) (yM_hM ok.2.2.2.1) (fun h o f d t D => ?_)
  dsimp only
  have sl := D 0 (by omega)
  have hst : au_stt (decide (cnt = 1)) (wd_r (au_F (tk_st tk n 0) (tk_lb tk n) A) au_s0 (ew A e (cnt / 2))) := by
    have := au_stt_w (tk_B tk n 0) ok.2.2.2.2.2.2.2 (lb := tk_lb tk n) (A := A) (ew A e (cnt / 2))
    by_cases z : cnt = 1
    · rw [z] at this ⊢; exact this
    · rw [decide_eq_false z]
      obtain ⟨q, hq⟩ : ∃ q, cnt / 2 = q + 1 := ⟨cnt / 2 - 1, by omega⟩
      rw [hq] at this ⊢
      exact this
  have G := yr_goS hst sl
  have F : ∀ z, z = b01 (au_end (tk_st tk n 0) (wd_r (au_F (tk_st tk n 0) (tk_lb tk n) A) au_s0 (ew A e (cnt / 2))) (e (cnt - 1))) → wY_accepts_86 post z f_t f_a f_l f_m f_n (nI cnt) f_known f_mode f_wlen f_wside (nI (tk_hg tk n)) a_tok a_len a_str a_wit h o f d t a_ls a_rs a_from a_byAtom a_byAction a_depth := by
    intro z hz
    unfold wY_accepts_86
    have K := K (nI (tk_hg tk n)) h o f d t
    refine zk_bb hz (fun y => ?_) (fun y => ?_)
    · rw [y] at K; exact K
    · rw [y] at K; exact K
  refine pk_eq cnt 1 (fun z => F _ ?_) (fun z => F _ ?_)
  · exact (G.1 (decide_eq_true z)).2
  · exact (G.2 (decide_eq_false z)).2
end
end
section
/-! ===== the reference's distance ===== -/
theorem au_in0_iff {o : Od} {N : Nat} {S : Nat → Bool} : au_in o N S 0 = true ↔ ∃ x, x < N ∧ au_end o S x = true := by
  rw [au_in_iff]
  constructor
  · rintro ⟨a, ha, h1, h2⟩
    obtain ⟨x, hx, e⟩ := ex_iff.mp h2
    exact ⟨x, hx, au_end_iff.mpr ⟨a, ha, h1, e⟩⟩
  · rintro ⟨x, hx, e⟩
    obtain ⟨a, ha, h1, h2⟩ := au_end_iff.mp e
    exact ⟨a, ha, h1, ex_iff.mpr ⟨x, hx, h2⟩⟩
section
variable {tk : Nat → Nat} {n : Nat} {S : Nat → Bool} {s T A N cnt m : Nat} {e : Nat → Nat} {st : Bool} {post : Int32 → SY → Prop}
variable {f_t f_a f_l f_m f_n f_count f_known f_mode f_wlen f_wside f_top : Int32} {a_tok a_len a_str a_wit a_has a_one a_first a_done a_next a_ls a_rs a_from a_byAtom a_byAction a_depth : Nat → Int32}
theorem yd_106 {J52 : Int32 → Int32 → Int32 → Int32 → Int32 → Int32 → Int32 → Int32 → Int32 → Int32 → Int32 → Int32 → Int32 → Int32 → (Nat → Int32) → (Nat → Int32) → (Nat → Int32) → (Nat → Int32) → (Nat → Int32) → (Nat → Int32) → (Nat → Int32) → (Nat → Int32) → (Nat → Int32) → (Nat → Int32) → (Nat → Int32) → (Nat → Int32) → (Nat → Int32) → (Nat → Int32) → (Nat → Int32) → Prop} {J67 : Int32 → Int32 → Int32 → Int32 → Int32 → Int32 → Int32 → Int32 → Int32 → Int32 → Int32 → Int32 → Int32 → (Nat → Int32) → (Nat → Int32) → (Nat → Int32) → (Nat → Int32) → (Nat → Int32) → (Nat → Int32) → (Nat → Int32) → (Nat → Int32) → (Nat → Int32) → (Nat → Int32) → (Nat → Int32) → (Nat → Int32) → (Nat → Int32) → (Nat → Int32) → (Nat → Int32) → Prop} {y : Nat} {x4 x5 : Int32} (ok : yr_ok T A s tk n a_tok a_len) (h1 : tk_hg tk n = 1) (hy : y < 4) (hst : au_stt st S)
    (K1 : au_end (tk_st tk n 0) S y = true → ∀ top h o f d t, post x4 (f_t, f_a, f_l, f_m, f_n, f_count, f_known, f_mode, f_wlen, f_wside, top, a_tok, a_len, a_str, a_wit, h, o, f, d, t, a_ls, a_rs, a_from, a_byAtom, a_byAction, a_depth))
    (K2 : au_end (tk_st tk n 0) S y = false → ∀ top h o f d t, J67 (x5 ||| yM tk n (au_go (tk_st tk n 0) S y)) (nI (y + 1)) f_t f_a f_l f_m f_n f_count f_known f_mode f_wlen f_wside top a_tok a_len a_str a_wit h o f d t a_ls a_rs a_from a_byAtom a_byAction a_depth) :
    wY_distance_106 post J52 J67 (nI s) (yM tk n S) (b01 st) x4 x5 (nI y) f_t f_a f_l f_m f_n f_count f_known f_mode f_wlen f_wside f_top a_tok a_len a_str a_wit a_has a_one a_first a_done a_next a_ls a_rs a_from a_byAtom a_byAction a_depth := by
  unfold wY_distance_106
  refine y_read ok hy (yM_hM ok.2.2.2.1) (fun h o f d t D => ?_)
  have sl := D 0 (by omega)
  have G := yr_goS hst sl
  dsimp only
  refine zk_bb rfl (fun z => zk_bb (G.2 z).2 (fun w => ?_) (fun w => K1 w _ _ _ _ _ _)) (fun z => zk_bb (G.1 z).2 (fun w => ?_) (fun w => K1 w _ _ _ _ _ _))
  · unfold wY_distance_142
    refine br_t (by rw [z]; rfl) (nm_r (e' := x5 ||| yM tk n (au_go (tk_st tk n 0) S y)) (by rw [(G.2 z).1]) (nm_r (nI_1 y) (K2 w _ _ _ _ _ _)))
  · unfold wY_distance_142
    refine br_f (by rw [z]; decide) (nm_r (e' := x5 ||| yM tk n (au_go (tk_st tk n 0) S y)) (by rw [(G.1 z).1]) (nm_r (nI_1 y) (K2 w _ _ _ _ _ _)))
theorem yd_67 {J52 : Int32 → Int32 → Int32 → Int32 → Int32 → Int32 → Int32 → Int32 → Int32 → Int32 → Int32 → Int32 → Int32 → Int32 → (Nat → Int32) → (Nat → Int32) → (Nat → Int32) → (Nat → Int32) → (Nat → Int32) → (Nat → Int32) → (Nat → Int32) → (Nat → Int32) → (Nat → Int32) → (Nat → Int32) → (Nat → Int32) → (Nat → Int32) → (Nat → Int32) → (Nat → Int32) → (Nat → Int32) → Prop} {k : Nat} (ok : yr_ok T A s tk n a_tok a_len) (h1 : tk_hg tk n = 1) (hN : N ≤ 4) (hk : k < 100) (hst : au_stt st S) (hn : f_n = nI N) (hc : f_count = nI cnt) (hcnt : cnt ≤ 17) (hg : 0 < k ∨ cnt % 2 = 0)
    (K1 : au_in (tk_st tk n 0) N S 0 = true → ∀ top h o f d t, post (nI k) (f_t, f_a, f_l, f_m, f_n, f_count, f_known, f_mode, f_wlen, f_wside, top, a_tok, a_len, a_str, a_wit, h, o, f, d, t, a_ls, a_rs, a_from, a_byAtom, a_byAction, a_depth))
    (K2 : au_in (tk_st tk n 0) N S 0 = false → ∀ top h o f d t, J52 (yM tk n (au_all (tk_st tk n 0) N S)) 0 (nI (k + 1)) f_t f_a f_l f_m f_n f_count f_known f_mode f_wlen f_wside top a_tok a_len a_str a_wit h o f d t a_ls a_rs a_from a_byAtom a_byAction a_depth) :
    ∀ dd y, y + dd = N → (∀ z, z < y → au_end (tk_st tk n 0) S z = false) → ∀ top h o f d t, wY_distance_67 post J52 (nI s) (yM tk n S) (b01 st) (nI k) (dd + 1) (yM tk n (fun q => ex_b y (fun z => au_go (tk_st tk n 0) S z q))) (nI y) f_t f_a f_l f_m f_n f_count f_known f_mode f_wlen f_wside top a_tok a_len a_str a_wit h o f d t a_ls a_rs a_from a_byAtom a_byAction a_depth := by
  subst hn hc
  intro dd
  induction dd with
  | zero =>
    intro y hy hz top h o f d t
    have hy : y = N := hy
    subst hy
    rw [wY_distance_67]
    refine br_t (nI_le (Nat.le_refl _) (by omega)) (nm_r (nI_1 k) (K2 ?_ _ _ _ _ _ _))
    cases w : au_in (tk_st tk n 0) y S 0
    · rfl
    · obtain ⟨x, hx, e⟩ := au_in0_iff.mp w
      rw [hz x hx] at e; cases e
  | succ dd ih =>
    intro y hy hz top h o f d t
    have F : wY_distance_106 post J52 (wY_distance_67 post J52 (nI s) (yM tk n S) (b01 st) (nI k) (dd + 1)) (nI s) (yM tk n S) (b01 st) (nI k) (yM tk n (fun q => ex_b y (fun z => au_go (tk_st tk n 0) S z q))) (nI y) f_t f_a f_l f_m (nI N) (nI cnt) f_known f_mode f_wlen f_wside top a_tok a_len a_str a_wit h o f d t a_ls a_rs a_from a_byAtom a_byAction a_depth := by
      refine yd_106 ok h1 (by omega) hst (fun w => K1 (au_in0_iff.mpr ⟨y, by omega, w⟩)) (fun w => ?_)
      rw [yM_or]
      exact ih (y + 1) (by omega) (fun z hz' => by
        by_cases q : z = y
        · rw [q]; exact w
        · exact hz z (by omega))
    rw [wY_distance_67]
    refine br_f (nI_ge (by omega) (by omega)) ?_
    have er : nI cnt - nI cnt / 2 * 2 = nI (cnt % 2) := pk_rem (d := 2) (by omega) (by omega) (by omega)
    refine pk_lt 0 k (fun _ => F) (fun z => ⟨by decide, ?_⟩)
    rw [er]
    exact br_t (by rw [show cnt % 2 = 0 by omega]; rfl) F
theorem yd_52 (ok : yr_ok T A s tk n a_tok a_len) (h1 : tk_hg tk n = 1) (hN : N ≤ 4) (hm : m < 50) (hn : f_n = nI N) (hfm : f_m = nI m) (hc : f_count = nI cnt) (hcnt : cnt ≤ 17) :
    ∀ dd k, k + dd = m + 1 → ∀ (st : Bool) (S : Nat → Bool), au_stt st S → (0 < k ∨ cnt % 2 = 0) →
    (∀ j, k + j ≤ m → au_in (tk_st tk n 0) N S j = true → (∀ i, i < j → au_in (tk_st tk n 0) N S i = false) → ∀ top h o f d t, post (nI (k + j)) (f_t, f_a, f_l, f_m, f_n, f_count, f_known, f_mode, f_wlen, f_wside, top, a_tok, a_len, a_str, a_wit, h, o, f, d, t, a_ls, a_rs, a_from, a_byAtom, a_byAction, a_depth)) →
    ((∀ j, k + j ≤ m → au_in (tk_st tk n 0) N S j = false) → ∀ top h o f d t, post (-11) (f_t, f_a, f_l, f_m, f_n, f_count, f_known, f_mode, f_wlen, f_wside, top, a_tok, a_len, a_str, a_wit, h, o, f, d, t, a_ls, a_rs, a_from, a_byAtom, a_byAction, a_depth)) →
    ∀ top h o f d t, wY_distance_52 post (nI s) (dd + 1) (yM tk n S) (b01 st) (nI k) f_t f_a f_l f_m f_n f_count f_known f_mode f_wlen f_wside top a_tok a_len a_str a_wit h o f d t a_ls a_rs a_from a_byAtom a_byAction a_depth := by
  have hB := tk_B tk n 0
  have h8 := ok.2.2.2.2.2.2.2
  intro dd
  induction dd with
  | zero =>
    intro k hk st S hst hg H1 H2 top h o f d t
    subst hfm
    rw [wY_distance_52]
    exact br_t (nI_lt (by omega) (by omega)) (H2 (fun j hj => by omega) _ _ _ _ _ _)
  | succ dd ih =>
    intro k hk st S hst hg H1 H2 top h o f d t
    subst hfm
    rw [wY_distance_52]
    refine br_f (nI_nlt (by omega) (by omega)) ⟨N + 1, ?_⟩
    have := yd_67 (J52 := wY_distance_52 post (nI s) (dd + 1)) (k := k) (f_m := nI m) ok h1 hN (by omega) hst hn hc hcnt hg
      (fun w => H1 0 (by omega) w (fun i hi => absurd hi (Nat.not_lt_zero _)))
      (fun w => ih (k + 1) (by omega) false (au_all (tk_st tk n 0) N S) (Or.inr ⟨rfl, by
          cases z : au_all (tk_st tk n 0) N S 8
          · rfl
          · obtain ⟨x, hx, e⟩ := ex_iff.mp z
            obtain ⟨a, ha, e1, e2⟩ := au_go_iff.mp e
            have := au_nx_b hB e2
            omega⟩) (Or.inl (Nat.succ_pos _))
        (fun j hj hin hlt => by
          rw [show k + 1 + j = k + (j + 1) by omega]
          refine H1 (j + 1) (by omega) (by rw [au_in_s hB h8 w]; exact hin) (fun i hi => ?_)
          cases i with
          | zero => exact w
          | succ i => rw [au_in_s hB h8 w]; exact hlt i (by omega))
        (fun hz => H2 (fun j hj => by
          cases j with
          | zero => exact w
          | succ j => rw [au_in_s hB h8 w]; exact hz j (by omega))))
      N 0 (Nat.zero_add N) (fun z hz => absurd hz (Nat.not_lt_zero _)) top h o f d t
    rw [show yM tk n (fun q => ex_b 0 (fun z => au_go (tk_st tk n 0) S z q)) = 0 from yM_0 fun _ => rfl] at this
    exact this
/-- one atom alone: the next one is fixed -/
theorem yd_67o {J52 : Int32 → Int32 → Int32 → Int32 → Int32 → Int32 → Int32 → Int32 → Int32 → Int32 → Int32 → Int32 → Int32 → Int32 → (Nat → Int32) → (Nat → Int32) → (Nat → Int32) → (Nat → Int32) → (Nat → Int32) → (Nat → Int32) → (Nat → Int32) → (Nat → Int32) → (Nat → Int32) → (Nat → Int32) → (Nat → Int32) → (Nat → Int32) → (Nat → Int32) → (Nat → Int32) → (Nat → Int32) → Prop} (ok : yr_ok T A s tk n a_tok a_len) (h1 : tk_hg tk n = 1) (hN : N ≤ 4) (hst : au_stt st S) (hn : f_n = nI N) (hc : f_count = nI cnt) (hE : en_ok N A cnt e a_str) (hodd : cnt % 2 = 1)
    (K1 : au_end (tk_st tk n 0) S (e (cnt - 1)) = true → ∀ top h o f d t, post 0 (f_t, f_a, f_l, f_m, f_n, f_count, f_known, f_mode, f_wlen, f_wside, top, a_tok, a_len, a_str, a_wit, h, o, f, d, t, a_ls, a_rs, a_from, a_byAtom, a_byAction, a_depth))
    (K2 : au_end (tk_st tk n 0) S (e (cnt - 1)) = false → ∀ top h o f d t, J52 (yM tk n (au_go (tk_st tk n 0) S (e (cnt - 1)))) 0 (nI 1) f_t f_a f_l f_m f_n f_count f_known f_mode f_wlen f_wside top a_tok a_len a_str a_wit h o f d t a_ls a_rs a_from a_byAtom a_byAction a_depth) :
    ∀ dd y, y + dd = N → (e (cnt - 1) < y → au_end (tk_st tk n 0) S (e (cnt - 1)) = false) → ∀ top h o f d t, wY_distance_67 post J52 (nI s) (yM tk n S) (b01 st) 0 (dd + 1) (if e (cnt - 1) < y then yM tk n (au_go (tk_st tk n 0) S (e (cnt - 1))) else 0) (nI y) f_t f_a f_l f_m f_n f_count f_known f_mode f_wlen f_wside top a_tok a_len a_str a_wit h o f d t a_ls a_rs a_from a_byAtom a_byAction a_depth := by
  have hcnt := hE.1
  have E1 := en_at hE (k := cnt / 2) (by omega)
  rw [show 2 * (cnt / 2) = cnt - 1 by omega] at E1
  subst hn hc
  intro dd
  induction dd with
  | zero =>
    intro y hy hz top h o f d t
    have hy : y = N := hy
    subst hy
    rw [wY_distance_67, if_pos E1.2]
    exact br_t (nI_le (Nat.le_refl _) (by omega)) (nm_r (e' := nI 1) rfl (K2 (hz E1.2) _ _ _ _ _ _))
  | succ dd ih =>
    intro y hy hz top h o f d t
    rw [wY_distance_67]
    have er : nI cnt - nI cnt / 2 * 2 = nI (cnt % 2) := pk_rem (d := 2) (by omega) (by omega) (by omega)
    have em : nI cnt - 1 = nI (cnt - 1) := pk_sub (b := 1) (by omega)
    refine br_f (nI_ge (by omega) (by omega)) (br_f (by decide) ⟨by decide, ?_⟩)
    rw [er, hodd, em]
    refine br_f (by decide) ⟨vp_in_nI (by omega) (by decide), ?_⟩
    rw [nI_clamp (by omega), E1.1]
    refine pk_eq y (e (cnt - 1)) (fun z => ?_) (fun z => nm_r (nI_1 y) ?_)
    · rw [if_neg (by omega)]
      refine yd_106 ok h1 (by omega) hst (fun w => K1 (by rw [← z]; exact w)) (fun w top h o f d t => ?_)
      have := ih (y + 1) (by omega) (fun _ => by rw [← z]; exact w) top h o f d t
      rw [if_pos (by omega)] at this
      rw [Int32.zero_or, z]
      rw [z] at this
      exact this
    · have := ih (y + 1) (by omega) (fun q => hz (by omega)) top h o f d t
      by_cases q : e (cnt - 1) < y
      · rw [if_pos q]; rw [if_pos (by omega)] at this; exact this
      · rw [if_neg q]; rw [if_neg (by omega)] at this; exact this
/-- distance, when the side is ready -/
theorem y_distance (ok : yr_ok T A s tk n a_tok a_len) (h1 : tk_hg tk n = 1) (hN : N ≤ 4) (hm : m < 50) (hn : f_n = nI N) (hfm : f_m = nI m) (hc : f_count = nI cnt) (hE : en_ok N A cnt e a_str)
    (E1 : cnt % 2 = 0 → ∀ j, j ≤ m → au_in (tk_st tk n 0) N (wd_r (au_F (tk_st tk n 0) (tk_lb tk n) A) au_s0 (ew A e (cnt / 2))) j = true → (∀ i, i < j → au_in (tk_st tk n 0) N (wd_r (au_F (tk_st tk n 0) (tk_lb tk n) A) au_s0 (ew A e (cnt / 2))) i = false) → ∀ top h o f d t, post (nI j) (f_t, f_a, f_l, f_m, f_n, f_count, f_known, f_mode, f_wlen, f_wside, top, a_tok, a_len, a_str, a_wit, h, o, f, d, t, a_ls, a_rs, a_from, a_byAtom, a_byAction, a_depth))
    (E2 : cnt % 2 = 0 → (∀ j, j ≤ m → au_in (tk_st tk n 0) N (wd_r (au_F (tk_st tk n 0) (tk_lb tk n) A) au_s0 (ew A e (cnt / 2))) j = false) → ∀ top h o f d t, post (-11) (f_t, f_a, f_l, f_m, f_n, f_count, f_known, f_mode, f_wlen, f_wside, top, a_tok, a_len, a_str, a_wit, h, o, f, d, t, a_ls, a_rs, a_from, a_byAtom, a_byAction, a_depth))
    (O0 : cnt % 2 = 1 → au_end (tk_st tk n 0) (wd_r (au_F (tk_st tk n 0) (tk_lb tk n) A) au_s0 (ew A e (cnt / 2))) (e (cnt - 1)) = true → ∀ top h o f d t, post 0 (f_t, f_a, f_l, f_m, f_n, f_count, f_known, f_mode, f_wlen, f_wside, top, a_tok, a_len, a_str, a_wit, h, o, f, d, t, a_ls, a_rs, a_from, a_byAtom, a_byAction, a_depth))
    (O1 : cnt % 2 = 1 → au_end (tk_st tk n 0) (wd_r (au_F (tk_st tk n 0) (tk_lb tk n) A) au_s0 (ew A e (cnt / 2))) (e (cnt - 1)) = false → ∀ j, 1 + j ≤ m → au_in (tk_st tk n 0) N (au_go (tk_st tk n 0) (wd_r (au_F (tk_st tk n 0) (tk_lb tk n) A) au_s0 (ew A e (cnt / 2))) (e (cnt - 1))) j = true → (∀ i, i < j → au_in (tk_st tk n 0) N (au_go (tk_st tk n 0) (wd_r (au_F (tk_st tk n 0) (tk_lb tk n) A) au_s0 (ew A e (cnt / 2))) (e (cnt - 1))) i = false) → ∀ top h o f d t, post (nI (1 + j)) (f_t, f_a, f_l, f_m, f_n, f_count, f_known, f_mode, f_wlen, f_wside, top, a_tok, a_len, a_str, a_wit, h, o, f, d, t, a_ls, a_rs, a_from, a_byAtom, a_byAction, a_depth))
    (O2 : cnt % 2 = 1 → au_end (tk_st tk n 0) (wd_r (au_F (tk_st tk n 0) (tk_lb tk n) A) au_s0 (ew A e (cnt / 2))) (e (cnt - 1)) = false → (∀ j, 1 + j ≤ m → au_in (tk_st tk n 0) N (au_go (tk_st tk n 0) (wd_r (au_F (tk_st tk n 0) (tk_lb tk n) A) au_s0 (ew A e (cnt / 2))) (e (cnt - 1))) j = false) → ∀ top h o f d t, post (-11) (f_t, f_a, f_l, f_m, f_n, f_count, f_known, f_mode, f_wlen, f_wside, top, a_tok, a_len, a_str, a_wit, h, o, f, d, t, a_ls, a_rs, a_from, a_byAtom, a_byAction, a_depth)) :
    wpY_distance post (f_t, f_a, f_l, f_m, f_n, f_count, f_known, f_mode, f_wlen, f_wside, f_top, a_tok, a_len, a_str, a_wit, a_has, a_one, a_first, a_done, a_next, a_ls, a_rs, a_from, a_byAtom, a_byAction, a_depth) (nI s) := by
  have hcnt := hE.1
  have hB := tk_B tk n 0
  have h8 := ok.2.2.2.2.2.2.2
  have hst := au_stt_w hB h8 (lb := tk_lb tk n) (A := A) (ew A e (cnt / 2))
  generalize hS : wd_r (au_F (tk_st tk n 0) (tk_lb tk n) A) au_s0 (ew A e (cnt / 2)) = S at *
  unfold wpY_distance
  dsimp only
  refine y_side ok.1 (br_t rfl (y_height ok fun h o f d t _ => ?_))
  dsimp only
  rw [h1]
  subst hc
  have ed : nI cnt / 2 = nI (cnt / 2) := pk_div (d := 2) (by omega) (by omega) (by omega)
  rw [ed]
  refine br_t rfl ⟨by decide, y_after ok h1 hN hE (by omega) fun top h o f d t => ⟨by decide, ?_⟩⟩
  rw [hS]
  dsimp only
  rw [ed]
  have F : wY_distance_52 post (nI s) (m + 2) (yM tk n S) (b01 (ew A e (cnt / 2)).isEmpty) 0 f_t f_a f_l f_m f_n (nI cnt) f_known f_mode f_wlen f_wside top a_tok a_len a_str a_wit h o f d t a_ls a_rs a_from a_byAtom a_byAction a_depth := by
    by_cases ev : cnt % 2 = 0
    · exact yd_52 ok h1 hN hm hn hfm rfl hcnt (m + 1) 0 (Nat.zero_add _) _ S hst (Or.inr ev)
        (fun j hj a b => by rw [Nat.zero_add]; exact E1 ev j (by omega) a b)
        (fun hz => E2 ev (fun j hj => hz j (by omega))) top h o f d t
    · have od : cnt % 2 = 1 := by omega
      subst hfm
      rw [wY_distance_52]
      refine br_f (by rw [← nI_0]; exact nI_nlt (Nat.zero_le _) (by omega)) ⟨N + 1, ?_⟩
      have := yd_67o (J52 := wY_distance_52 post (nI s) (m + 1)) (f_m := nI m) ok h1 hN hst hn rfl hE od (O0 od)
        (fun w => yd_52 ok h1 hN hm hn rfl rfl hcnt m 1 (Nat.add_comm 1 m) false (au_go (tk_st tk n 0) S (e (cnt - 1))) (Or.inr ⟨rfl, by
          cases z : au_go (tk_st tk n 0) S (e (cnt - 1)) 8
          · rfl
          · obtain ⟨a, ha, e1, e2⟩ := au_go_iff.mp z
            have := au_nx_b hB e2
            omega⟩) (Or.inl Nat.one_pos) (O1 od w) (O2 od w))
        N 0 (Nat.zero_add N) (fun hz => absurd hz (Nat.not_lt_zero _)) top h o f d t
      rw [if_neg (Nat.not_lt_zero _)] at this
      exact this
  refine pk_eq (cnt / 2) 0 (fun z => ⟨m + 2, ?_⟩) (fun z => ⟨m + 2, ?_⟩)
  · rw [z] at F; exact F
  · obtain ⟨q, hq⟩ : ∃ q, cnt / 2 = q + 1 := ⟨cnt / 2 - 1, by omega⟩
    rw [hq] at F; exact F
end
end
section
/-! ===== the component's loops over four atoms ===== -/
def xf_m (b x : Nat) (sp F : Nat → Int32) : Nat → Int32 := fun j => if j / 4 = b ∧ j % 4 < x then sp j else F j
theorem xf_s {b x : Nat} {sp F : Nat → Int32} (hx : x < 4) : upd (xf_m b x sp F) (b * 4 + x) (sp (b * 4 + x)) = xf_m b (x + 1) sp F := by
  funext j
  show (if j = b * 4 + x then sp (b * 4 + x) else (if j / 4 = b ∧ j % 4 < x then sp j else F j)) = (if j / 4 = b ∧ j % 4 < x + 1 then sp j else F j)
  by_cases e : j = b * 4 + x
  · rw [if_pos e, if_pos (by omega), e]
  · rw [if_neg e]
    by_cases z : j / 4 = b ∧ j % 4 < x
    · rw [if_pos z, if_pos (by omega)]
    · rw [if_neg z, if_neg (by omega)]
theorem xf_sv {b x : Nat} {sp F : Nat → Int32} {v : Int32} (hx : x < 4) (hv : v = sp (b * 4 + x)) : upd (xf_m b x sp F) (b * 4 + x) v = xf_m b (x + 1) sp F := by
  rw [hv, xf_s hx]
theorem xf_k {b x : Nat} {sp F : Nat → Int32} (h : sp (b * 4 + x) = F (b * 4 + x)) : xf_m b (x + 1) sp F = xf_m b x sp F := by
  funext j
  show (if j / 4 = b ∧ j % 4 < x + 1 then sp j else F j) = (if j / 4 = b ∧ j % 4 < x then sp j else F j)
  by_cases z : j / 4 = b ∧ j % 4 < x
  · rw [if_pos z, if_pos (by omega)]
  · rw [if_neg z]
    by_cases w : j / 4 = b ∧ j % 4 < x + 1
    · rw [if_pos w, show j = b * 4 + x by omega, h]
    · rw [if_neg w]
theorem xf_0 (b : Nat) (sp F : Nat → Int32) : xf_m b 0 sp F = F := by
  funext j
  exact if_neg (by omega)
theorem xf_at (b x : Nat) (sp F : Nat → Int32) (hx : x < 4) : xf_m b x sp F (b * 4 + x) = F (b * 4 + x) := if_neg (by omega)
theorem xf_out {b x j : Nat} {sp F : Nat → Int32} (h : j / 4 ≠ b) : xf_m b x sp F j = F j := if_neg (by omega)
theorem xf_in {b x y : Nat} {sp F : Nat → Int32} (hx : x < y) (h4 : x < 4) : xf_m b y sp F (b * 4 + x) = sp (b * 4 + x) := if_pos (by omega)
theorem xi4 (b x : Nat) : nI b * 4 + nI x = nI (b * 4 + x) := by
  show nI b * nI 4 + nI x = _
  rw [pk_mul, nI_add]
theorem xuc {f : Nat → Int32} {j : Nat} {v w : Int32} (hj : j < 2 ^ 31) (hv : v = w) : upd f (nI j).toNatClampNeg v = upd f j w := by
  rw [nI_clamp hj, hv]
section
variable {post : SX → Prop} {b N : Nat}
variable {f_testCount f_actionCount f_tokenLimit f_occurrenceLimit f_atomCount f_allAtoms f_enteredSize f_nodeCount f_hasResult f_resultMode f_resultVerdict f_witnessSize f_witnessOwner : Int32} {a_size a_list a_begin a_heightAfter a_actionsAfter a_entered a_built a_states a_follow a_accepting a_need a_labelled a_opAtoms a_opFirst a_opLast a_nodeSet a_nodeParent a_nodeAtom a_nodeAction a_nodeDepth a_witness : Nat → Int32}
theorem x_clear_lp (hb : b < 10) (K : post (f_testCount, f_actionCount, f_tokenLimit, f_occurrenceLimit, f_atomCount, f_allAtoms, f_enteredSize, f_nodeCount, f_hasResult, f_resultMode, f_resultVerdict, f_witnessSize, f_witnessOwner, a_size, a_list, a_begin, a_heightAfter, a_actionsAfter, a_entered, a_built, a_states, xf_m b 4 (fun _ => 0) a_follow, a_accepting, a_need, a_labelled, a_opAtoms, a_opFirst, a_opLast, a_nodeSet, a_nodeParent, a_nodeAtom, a_nodeAction, a_nodeDepth, a_witness)) :
    ∀ dd x, x + dd = 4 → wX_clearState_9 post (nI b) f_testCount f_actionCount f_tokenLimit f_occurrenceLimit f_atomCount f_allAtoms f_enteredSize f_nodeCount f_hasResult f_resultMode f_resultVerdict f_witnessSize f_witnessOwner (dd + 1) (nI x) a_size a_list a_begin a_heightAfter a_actionsAfter a_entered a_built a_states (xf_m b x (fun _ => 0) a_follow) a_accepting a_need a_labelled a_opAtoms a_opFirst a_opLast a_nodeSet a_nodeParent a_nodeAtom a_nodeAction a_nodeDepth a_witness := by
  intro dd
  induction dd with
  | zero =>
    intro x hx
    have hx : x = 4 := hx
    subst hx
    rw [wX_clearState_9]
    exact br_t (by decide) K
  | succ dd ih =>
    intro x hx
    rw [wX_clearState_9]
    dsimp only
    rw [xi4]
    refine br_f (nI_ge (b := 4) (by omega) (by decide)) ⟨vp_in_nI (by omega) (by decide), nm_r (e' := xf_m b (x + 1) (fun _ => 0) a_follow) ?_ (nm_r (nI_1 x) (ih (x + 1) (by omega)))⟩
    rw [nI_clamp (by omega)]
    exact xf_sv (by omega) rfl
theorem x_clear (hb : b < 10) (K : post (f_testCount, f_actionCount, f_tokenLimit, f_occurrenceLimit, f_atomCount, f_allAtoms, f_enteredSize, f_nodeCount, f_hasResult, f_resultMode, f_resultVerdict, f_witnessSize, f_witnessOwner, a_size, a_list, a_begin, a_heightAfter, a_actionsAfter, a_entered, a_built, a_states, xf_m b 4 (fun _ => 0) a_follow, upd a_accepting b 0, a_need, a_labelled, a_opAtoms, a_opFirst, a_opLast, a_nodeSet, a_nodeParent, a_nodeAtom, a_nodeAction, a_nodeDepth, a_witness)) : wpX_clearState post (f_testCount, f_actionCount, f_tokenLimit, f_occurrenceLimit, f_atomCount, f_allAtoms, f_enteredSize, f_nodeCount, f_hasResult, f_resultMode, f_resultVerdict, f_witnessSize, f_witnessOwner, a_size, a_list, a_begin, a_heightAfter, a_actionsAfter, a_entered, a_built, a_states, a_follow, a_accepting, a_need, a_labelled, a_opAtoms, a_opFirst, a_opLast, a_nodeSet, a_nodeParent, a_nodeAtom, a_nodeAction, a_nodeDepth, a_witness) (nI b) := by
  unfold wpX_clearState
  refine ⟨vp_in_nI hb (by decide), nm_r (xuc (by omega) rfl) ⟨5, ?_⟩⟩
  have := x_clear_lp (a_accepting := upd a_accepting b 0) hb K 4 0 rfl
  rw [xf_0] at this
  exact this
theorem x_pushAtoms_lp (hb : b < 32) (K : post (f_testCount, f_actionCount, f_tokenLimit, f_occurrenceLimit, f_atomCount, f_allAtoms, f_enteredSize, f_nodeCount, f_hasResult, f_resultMode, f_resultVerdict, f_witnessSize, f_witnessOwner, a_size, a_list, a_begin, a_heightAfter, a_actionsAfter, a_entered, a_built, a_states, a_follow, a_accepting, a_need, a_labelled, a_opAtoms, xf_m b 4 (fun _ => 0) a_opFirst, xf_m b 4 (fun _ => 0) a_opLast, a_nodeSet, a_nodeParent, a_nodeAtom, a_nodeAction, a_nodeDepth, a_witness)) :
    ∀ dd x, x + dd = 4 → wX_pushAtoms_9 post (nI b) f_testCount f_actionCount f_tokenLimit f_occurrenceLimit f_atomCount f_allAtoms f_enteredSize f_nodeCount f_hasResult f_resultMode f_resultVerdict f_witnessSize f_witnessOwner (dd + 1) (nI x) a_size a_list a_begin a_heightAfter a_actionsAfter a_entered a_built a_states a_follow a_accepting a_need a_labelled a_opAtoms (xf_m b x (fun _ => 0) a_opFirst) (xf_m b x (fun _ => 0) a_opLast) a_nodeSet a_nodeParent a_nodeAtom a_nodeAction a_nodeDepth a_witness := by
  intro dd
  induction dd with
  | zero =>
    intro x hx
    have hx : x = 4 := hx
    subst hx
    rw [wX_pushAtoms_9]
    exact br_t (by decide) K
  | succ dd ih =>
    intro x hx
    rw [wX_pushAtoms_9]
    dsimp only
    rw [xi4]
    refine br_f (nI_ge (b := 4) (by omega) (by decide)) ⟨vp_in_nI (by omega) (by decide), nm_r (e' := xf_m b (x + 1) (fun _ => 0) a_opFirst) ?_ ⟨vp_in_nI (by omega) (by decide), nm_r (e' := xf_m b (x + 1) (fun _ => 0) a_opLast) ?_ (nm_r (nI_1 x) (ih (x + 1) (by omega)))⟩⟩
    · rw [nI_clamp (by omega)]; exact xf_sv (by omega) rfl
    · rw [nI_clamp (by omega)]; exact xf_sv (by omega) rfl
theorem x_pushAtoms {v : Int32} (hb : b < 32) (K : post (f_testCount, f_actionCount, f_tokenLimit, f_occurrenceLimit, f_atomCount, f_allAtoms, f_enteredSize, f_nodeCount, f_hasResult, f_resultMode, f_resultVerdict, f_witnessSize, f_witnessOwner, a_size, a_list, a_begin, a_heightAfter, a_actionsAfter, a_entered, a_built, a_states, a_follow, a_accepting, a_need, a_labelled, upd a_opAtoms b v, xf_m b 4 (fun _ => 0) a_opFirst, xf_m b 4 (fun _ => 0) a_opLast, a_nodeSet, a_nodeParent, a_nodeAtom, a_nodeAction, a_nodeDepth, a_witness)) : wpX_pushAtoms post (f_testCount, f_actionCount, f_tokenLimit, f_occurrenceLimit, f_atomCount, f_allAtoms, f_enteredSize, f_nodeCount, f_hasResult, f_resultMode, f_resultVerdict, f_witnessSize, f_witnessOwner, a_size, a_list, a_begin, a_heightAfter, a_actionsAfter, a_entered, a_built, a_states, a_follow, a_accepting, a_need, a_labelled, a_opAtoms, a_opFirst, a_opLast, a_nodeSet, a_nodeParent, a_nodeAtom, a_nodeAction, a_nodeDepth, a_witness) (nI b) v := by
  unfold wpX_pushAtoms
  refine ⟨vp_in_nI hb (by decide), nm_r (xuc (by omega) rfl) ⟨5, ?_⟩⟩
  have := x_pushAtoms_lp (a_opAtoms := upd a_opAtoms b v) hb K 4 0 rfl
  rw [xf_0, xf_0] at this
  exact this
theorem x_pushAction_60 {v : Int32} (hb : b < 32) (hN : N ≤ 4) (hfN : f_atomCount = nI N) (K : post (f_testCount, f_actionCount, f_tokenLimit, f_occurrenceLimit, f_atomCount, f_allAtoms, f_enteredSize, f_nodeCount, f_hasResult, f_resultMode, f_resultVerdict, f_witnessSize, f_witnessOwner, a_size, a_list, a_begin, a_heightAfter, a_actionsAfter, a_entered, a_built, a_states, a_follow, a_accepting, a_need, a_labelled, a_opAtoms, xf_m b N (fun _ => v) a_opFirst, xf_m b N (fun _ => v) a_opLast, a_nodeSet, a_nodeParent, a_nodeAtom, a_nodeAction, a_nodeDepth, a_witness)) :
    ∀ dd x, x + dd = N → wX_pushAction_60 post (nI b) v f_testCount f_actionCount f_tokenLimit f_occurrenceLimit f_atomCount f_allAtoms f_enteredSize f_nodeCount f_hasResult f_resultMode f_resultVerdict f_witnessSize f_witnessOwner (dd + 1) (nI x) a_size a_list a_begin a_heightAfter a_actionsAfter a_entered a_built a_states a_follow a_accepting a_need a_labelled a_opAtoms (xf_m b x (fun _ => v) a_opFirst) (xf_m b x (fun _ => v) a_opLast) a_nodeSet a_nodeParent a_nodeAtom a_nodeAction a_nodeDepth a_witness := by
  subst hfN
  intro dd
  induction dd with
  | zero =>
    intro x hx
    have hx : x = N := hx
    subst hx
    rw [wX_pushAction_60]
    exact br_t (nI_le (Nat.le_refl _) (by omega)) K
  | succ dd ih =>
    intro x hx
    rw [wX_pushAction_60]
    dsimp only
    rw [xi4]
    refine br_f (nI_ge (by omega) (by omega)) ⟨vp_in_nI (by omega) (by decide), nm_r (e' := xf_m b (x + 1) (fun _ => v) a_opFirst) ?_ ⟨vp_in_nI (by omega) (by decide), nm_r (e' := xf_m b (x + 1) (fun _ => v) a_opLast) ?_ (nm_r (nI_1 x) (ih (x + 1) (by omega)))⟩⟩
    · rw [nI_clamp (by omega)]; exact xf_sv (by omega) rfl
    · rw [nI_clamp (by omega)]; exact xf_sv (by omega) rfl
/-- the labels without a bit -/
def xl_w (v : Int32) (k : Nat) (F : Nat → Int32) : Nat → Int32 := fun j => if j < k then F j &&& (v ^^^ (-1)) else F j
theorem xl_ws (v : Int32) (k : Nat) (F : Nat → Int32) : upd (xl_w v k F) k (xl_w v k F k &&& (v ^^^ (-1))) = xl_w v (k + 1) F := by
  funext j
  show (if j = k then (if k < k then F k &&& (v ^^^ (-1)) else F k) &&& (v ^^^ (-1)) else (if j < k then F j &&& (v ^^^ (-1)) else F j)) = (if j < k + 1 then F j &&& (v ^^^ (-1)) else F j)
  by_cases e : j = k
  · rw [if_pos e, if_neg (Nat.lt_irrefl k), if_pos (by omega), e]
  · rw [if_neg e]
    by_cases z : j < k
    · rw [if_pos z, if_pos (by omega)]
    · rw [if_neg z, if_neg (by omega)]
theorem x_pushAction_13 {v : Int32} {c : Nat} (hb : b < 32) (hc : c < 3) (hN : N ≤ 4) (hfN : f_atomCount = nI N)
    (K : post (f_testCount, f_actionCount, f_tokenLimit, f_occurrenceLimit, f_atomCount, f_allAtoms, f_enteredSize, f_nodeCount, f_hasResult, f_resultMode, f_resultVerdict, f_witnessSize, f_witnessOwner, a_size, a_list, a_begin, a_heightAfter, a_actionsAfter, a_entered, a_built, a_states, a_follow, a_accepting, a_need, upd (xl_w v 3 a_labelled) c (xl_w v 3 a_labelled c ||| v), upd a_opAtoms b 0, xf_m b N (fun _ => v) a_opFirst, xf_m b N (fun _ => v) a_opLast, a_nodeSet, a_nodeParent, a_nodeAtom, a_nodeAction, a_nodeDepth, a_witness)) :
    ∀ dd k, k + dd = 3 → wX_pushAction_13 post (nI b) (nI c) v f_testCount f_actionCount f_tokenLimit f_occurrenceLimit f_atomCount f_allAtoms f_enteredSize f_nodeCount f_hasResult f_resultMode f_resultVerdict f_witnessSize f_witnessOwner (dd + 1) (nI k) a_size a_list a_begin a_heightAfter a_actionsAfter a_entered a_built a_states a_follow a_accepting a_need (xl_w v k a_labelled) a_opAtoms a_opFirst a_opLast a_nodeSet a_nodeParent a_nodeAtom a_nodeAction a_nodeDepth a_witness := by
  intro dd
  induction dd with
  | zero =>
    intro k hk
    have hk : k = 3 := hk
    subst hk
    rw [wX_pushAction_13]
    refine br_t (by decide) ⟨vp_in_nI hc (by decide), vp_in_nI hc (by decide), nm_r (e' := upd (xl_w v 3 a_labelled) c (xl_w v 3 a_labelled c ||| v)) (by rw [nI_clamp (by omega)]) ⟨vp_in_nI hb (by decide), nm_r (xuc (by omega) rfl) ⟨N + 1, ?_⟩⟩⟩
    have := x_pushAction_60 (a_opAtoms := upd a_opAtoms b 0) (a_labelled := upd (xl_w v 3 a_labelled) c (xl_w v 3 a_labelled c ||| v)) hb hN hfN K N 0 (Nat.zero_add N)
    rw [xf_0, xf_0] at this
    exact this
  | succ dd ih =>
    intro k hk
    rw [wX_pushAction_13]
    refine br_f (nI_ge (b := 3) (by omega) (by decide)) ⟨vp_in_nI (by omega) (by decide), vp_in_nI (by omega) (by decide), nm_r (e' := xl_w v (k + 1) a_labelled) ?_ (nm_r (nI_1 k) (ih (k + 1) (by omega)))⟩
    rw [nI_clamp (by omega)]
    exact xl_ws v k a_labelled
theorem x_pushAction {q c : Nat} (hb : b < 32) (hq : q < 10) (hc : c < 3) (hN : N ≤ 4) (hfN : f_atomCount = nI N)
    (K : post (f_testCount, f_actionCount, f_tokenLimit, f_occurrenceLimit, f_atomCount, f_allAtoms, f_enteredSize, f_nodeCount, f_hasResult, f_resultMode, f_resultVerdict, f_witnessSize, f_witnessOwner, a_size, a_list, a_begin, a_heightAfter, a_actionsAfter, a_entered, a_built, a_states, xf_m q 4 (fun _ => 0) a_follow, upd a_accepting q 0, a_need, upd (xl_w ((1 : Int32) <<< (nI q &&& 31)) 3 a_labelled) c (xl_w ((1 : Int32) <<< (nI q &&& 31)) 3 a_labelled c ||| ((1 : Int32) <<< (nI q &&& 31))), upd a_opAtoms b 0, xf_m b N (fun _ => (1 : Int32) <<< (nI q &&& 31)) a_opFirst, xf_m b N (fun _ => (1 : Int32) <<< (nI q &&& 31)) a_opLast, a_nodeSet, a_nodeParent, a_nodeAtom, a_nodeAction, a_nodeDepth, a_witness)) :
    wpX_pushAction post (f_testCount, f_actionCount, f_tokenLimit, f_occurrenceLimit, f_atomCount, f_allAtoms, f_enteredSize, f_nodeCount, f_hasResult, f_resultMode, f_resultVerdict, f_witnessSize, f_witnessOwner, a_size, a_list, a_begin, a_heightAfter, a_actionsAfter, a_entered, a_built, a_states, a_follow, a_accepting, a_need, a_labelled, a_opAtoms, a_opFirst, a_opLast, a_nodeSet, a_nodeParent, a_nodeAtom, a_nodeAction, a_nodeDepth, a_witness) (nI b) (nI q) (nI c) := by
  unfold wpX_pushAction
  refine nm_e (x_clear hq ⟨4, ?_⟩)
  exact x_pushAction_13 hb hc hN hfN K 3 0 rfl
/-! link -/
def xk_p (fo : Nat → Int32) (la fi : Int32) (x p : Nat) : Nat → Int32 := fun j => if j % 4 = x ∧ j / 4 < p ∧ bt la (j / 4) = true then fo j ||| fi else fo j
theorem xk_s {fo : Nat → Int32} {la fi : Int32} {x p : Nat} (hx : x < 4) : xk_p fo la fi x (p + 1) = if bt la p = true then upd (xk_p fo la fi x p) (p * 4 + x) (xk_p fo la fi x p (p * 4 + x) ||| fi) else xk_p fo la fi x p := by
  funext j
  have e0 : xk_p fo la fi x p (p * 4 + x) = fo (p * 4 + x) := if_neg (by omega)
  rw [e0]
  show (if j % 4 = x ∧ j / 4 < p + 1 ∧ bt la (j / 4) = true then fo j ||| fi else fo j) = _
  by_cases h : bt la p = true
  · rw [if_pos h]
    show _ = (if j = p * 4 + x then fo (p * 4 + x) ||| fi else (if j % 4 = x ∧ j / 4 < p ∧ bt la (j / 4) = true then fo j ||| fi else fo j))
    by_cases e : j = p * 4 + x
    · have e4 : j / 4 = p := by omega
      rw [if_pos e, if_pos ⟨by omega, by omega, by rw [e4]; exact h⟩, e]
    · rw [if_neg e]
      by_cases z : j % 4 = x ∧ j / 4 < p ∧ bt la (j / 4) = true
      · rw [if_pos z, if_pos ⟨z.1, by omega, z.2.2⟩]
      · rw [if_neg z, if_neg (fun w => z ⟨w.1, by omega, w.2.2⟩)]
  · rw [if_neg h]
    show _ = (if j % 4 = x ∧ j / 4 < p ∧ bt la (j / 4) = true then fo j ||| fi else fo j)
    by_cases z : j % 4 = x ∧ j / 4 < p ∧ bt la (j / 4) = true
    · rw [if_pos z, if_pos ⟨z.1, by omega, z.2.2⟩]
    · refine (if_neg (fun w => z ⟨w.1, ?_, w.2.2⟩)).trans (if_neg z).symm
      apply Classical.byContradiction
      intro q
      have e4 : j / 4 = p := by omega
      rw [e4] at w
      exact h w.2.2
theorem x_link_50 {J3 : Int32 → (Nat → Int32) → (Nat → Int32) → (Nat → Int32) → (Nat → Int32) → (Nat → Int32) → (Nat → Int32) → (Nat → Int32) → (Nat → Int32) → (Nat → Int32) → (Nat → Int32) → (Nat → Int32) → (Nat → Int32) → (Nat → Int32) → (Nat → Int32) → (Nat → Int32) → (Nat → Int32) → (Nat → Int32) → (Nat → Int32) → (Nat → Int32) → (Nat → Int32) → (Nat → Int32) → Prop} {x : Nat} {x1 x2 x3 la fi : Int32} (hx : x < 4) (K : J3 (nI (x + 1)) a_size a_list a_begin a_heightAfter a_actionsAfter a_entered a_built a_states (xk_p a_follow la fi x 8) a_accepting a_need a_labelled a_opAtoms a_opFirst a_opLast a_nodeSet a_nodeParent a_nodeAtom a_nodeAction a_nodeDepth a_witness) :
    ∀ dd p, p + dd = 8 → wX_link_50 post J3 x1 x2 x3 (nI x) la fi f_testCount f_actionCount f_tokenLimit f_occurrenceLimit f_atomCount f_allAtoms f_enteredSize f_nodeCount f_hasResult f_resultMode f_resultVerdict f_witnessSize f_witnessOwner (dd + 1) (nI p) a_size a_list a_begin a_heightAfter a_actionsAfter a_entered a_built a_states (xk_p a_follow la fi x p) a_accepting a_need a_labelled a_opAtoms a_opFirst a_opLast a_nodeSet a_nodeParent a_nodeAtom a_nodeAction a_nodeDepth a_witness := by
  intro dd
  induction dd with
  | zero =>
    intro p hp
    have hp : p = 8 := hp
    subst hp
    rw [wX_link_50]
    exact br_t (by decide) (nm_r (nI_1 x) K)
  | succ dd ih =>
    intro p hp
    have := ih (p + 1) (by omega)
    rw [xk_s hx] at this
    rw [wX_link_50]
    dsimp only
    rw [xi4]
    refine br_f (nI_ge (b := 8) (by omega) (by decide)) (zk_br p (by omega) (fun h => nm_r (nI_1 p) ?_) (fun h => ⟨vp_in_nI (by omega) (by decide), vp_in_nI (by omega) (by decide), nm_r (e' := upd (xk_p a_follow la fi x p) (p * 4 + x) (xk_p a_follow la fi x p (p * 4 + x) ||| fi)) (by rw [nI_clamp (by omega)]) (nm_r (nI_1 p) ?_)⟩))
    · rw [if_neg (by rw [h]; decide)] at this; exact this
    · rw [if_pos h] at this; exact this
/-- the follow table behind a link -/
def xk_x (fo oF oL : Nat → Int32) (at_ : Int32) (f t x : Nat) : Nat → Int32 :=
  fun j => if j % 4 < x ∧ j / 4 < 8 ∧ bt at_ (j % 4) = true ∧ bt (oL (f * 4 + j % 4)) (j / 4) = true then fo j ||| oF (t * 4 + j % 4) else fo j
theorem xk_xs {fo oF oL : Nat → Int32} {at_ : Int32} {f t x : Nat} : xk_x fo oF oL at_ f t (x + 1) = if bt at_ x = true then xk_p (xk_x fo oF oL at_ f t x) (oL (f * 4 + x)) (oF (t * 4 + x)) x 8 else xk_x fo oF oL at_ f t x := by
  funext j
  show (if j % 4 < x + 1 ∧ j / 4 < 8 ∧ bt at_ (j % 4) = true ∧ bt (oL (f * 4 + j % 4)) (j / 4) = true then fo j ||| oF (t * 4 + j % 4) else fo j) = _
  by_cases h : bt at_ x = true
  · rw [if_pos h]
    show _ = (if j % 4 = x ∧ j / 4 < 8 ∧ bt (oL (f * 4 + x)) (j / 4) = true then xk_x fo oF oL at_ f t x j ||| oF (t * 4 + x) else xk_x fo oF oL at_ f t x j)
    by_cases e : j % 4 = x
    · have e0 : xk_x fo oF oL at_ f t x j = fo j := if_neg (by omega)
      rw [e0, e]
      by_cases z : j / 4 < 8 ∧ bt (oL (f * 4 + x)) (j / 4) = true
      · rw [if_pos ⟨by omega, z.1, h, z.2⟩, if_pos ⟨rfl, z.1, z.2⟩]
      · rw [if_neg (fun w => z ⟨w.2.1, w.2.2.2⟩), if_neg (fun w => z ⟨w.2.1, w.2.2⟩)]
    · refine Eq.trans ?_ (if_neg (fun w => e w.1)).symm
      show _ = (if j % 4 < x ∧ j / 4 < 8 ∧ bt at_ (j % 4) = true ∧ bt (oL (f * 4 + j % 4)) (j / 4) = true then fo j ||| oF (t * 4 + j % 4) else fo j)
      by_cases z : j % 4 < x ∧ j / 4 < 8 ∧ bt at_ (j % 4) = true ∧ bt (oL (f * 4 + j % 4)) (j / 4) = true
      · rw [if_pos z, if_pos ⟨by omega, z.2⟩]
      · rw [if_neg z, if_neg (fun w => z ⟨by omega, w.2⟩)]
  · rw [if_neg h]
    show _ = (if j % 4 < x ∧ j / 4 < 8 ∧ bt at_ (j % 4) = true ∧ bt (oL (f * 4 + j % 4)) (j / 4) = true then fo j ||| oF (t * 4 + j % 4) else fo j)
    by_cases z : j % 4 < x ∧ j / 4 < 8 ∧ bt at_ (j % 4) = true ∧ bt (oL (f * 4 + j % 4)) (j / 4) = true
    · rw [if_pos z, if_pos ⟨by omega, z.2⟩]
    · refine (if_neg (fun w => z ⟨?_, w.2⟩)).trans (if_neg z).symm
      apply Classical.byContradiction
      intro q
      have e4 : j % 4 = x := by omega
      rw [e4] at w
      exact h w.2.2.1
theorem x_link_3 {f t : Nat} {at_ : Int32} (hf : f < 32) (ht : t < 32) (hN : N ≤ 4) (hfN : f_atomCount = nI N) (K : post (f_testCount, f_actionCount, f_tokenLimit, f_occurrenceLimit, f_atomCount, f_allAtoms, f_enteredSize, f_nodeCount, f_hasResult, f_resultMode, f_resultVerdict, f_witnessSize, f_witnessOwner, a_size, a_list, a_begin, a_heightAfter, a_actionsAfter, a_entered, a_built, a_states, xk_x a_follow a_opFirst a_opLast at_ f t N, a_accepting, a_need, a_labelled, a_opAtoms, a_opFirst, a_opLast, a_nodeSet, a_nodeParent, a_nodeAtom, a_nodeAction, a_nodeDepth, a_witness)) :
    ∀ dd x, x + dd = N → wX_link_3 post (nI f) (nI t) at_ f_testCount f_actionCount f_tokenLimit f_occurrenceLimit f_atomCount f_allAtoms f_enteredSize f_nodeCount f_hasResult f_resultMode f_resultVerdict f_witnessSize f_witnessOwner (dd + 1) (nI x) a_size a_list a_begin a_heightAfter a_actionsAfter a_entered a_built a_states (xk_x a_follow a_opFirst a_opLast at_ f t x) a_accepting a_need a_labelled a_opAtoms a_opFirst a_opLast a_nodeSet a_nodeParent a_nodeAtom a_nodeAction a_nodeDepth a_witness := by
  subst hfN
  intro dd
  induction dd with
  | zero =>
    intro x hx
    have hx : x = N := hx
    subst hx
    rw [wX_link_3]
    exact br_t (nI_le (Nat.le_refl _) (by omega)) K
  | succ dd ih =>
    intro x hx
    have := ih (x + 1) (by omega)
    rw [xk_xs] at this
    rw [wX_link_3]
    dsimp only
    rw [xi4, xi4]
    refine br_f (nI_ge (by omega) (by omega)) (zk_br x (by omega) (fun h => nm_r (nI_1 x) ?_) (fun h => ⟨vp_in_nI (by omega) (by decide), nm_r (e' := a_opLast (f * 4 + x)) (by rw [nI_clamp (by omega)]) ⟨vp_in_nI (by omega) (by decide), nm_r (e' := a_opFirst (t * 4 + x)) (by rw [nI_clamp (by omega)]) ⟨9, ?_⟩⟩⟩))
    · rw [if_neg (by rw [h]; decide)] at this; exact this
    · rw [if_pos h] at this
      have L := x_link_50 (post := post) (J3 := wX_link_3 post (nI f) (nI t) at_ f_testCount f_actionCount f_tokenLimit f_occurrenceLimit (nI N) f_allAtoms f_enteredSize f_nodeCount f_hasResult f_resultMode f_resultVerdict f_witnessSize f_witnessOwner (dd + 1)) (x1 := nI f) (x2 := nI t) (x3 := at_) (la := a_opLast (f * 4 + x)) (fi := a_opFirst (t * 4 + x)) (f_testCount := f_testCount) (f_actionCount := f_actionCount) (f_tokenLimit := f_tokenLimit) (f_occurrenceLimit := f_occurrenceLimit) (f_atomCount := nI N) (f_allAtoms := f_allAtoms) (f_enteredSize := f_enteredSize) (f_nodeCount := f_nodeCount) (f_hasResult := f_hasResult) (f_resultMode := f_resultMode) (f_resultVerdict := f_resultVerdict) (f_witnessSize := f_witnessSize) (f_witnessOwner := f_witnessOwner) (a_follow := xk_x a_follow a_opFirst a_opLast at_ f t x) (show x < 4 by omega) this 8 0 rfl
      rw [show xk_p (xk_x a_follow a_opFirst a_opLast at_ f t x) (a_opLast (f * 4 + x)) (a_opFirst (t * 4 + x)) x 0 = xk_x a_follow a_opFirst a_opLast at_ f t x from funext fun j => if_neg (by omega)] at L
      exact L
theorem x_link {f t : Nat} {at_ : Int32} (hf : f < 32) (ht : t < 32) (hN : N ≤ 4) (hfN : f_atomCount = nI N) (K : post (f_testCount, f_actionCount, f_tokenLimit, f_occurrenceLimit, f_atomCount, f_allAtoms, f_enteredSize, f_nodeCount, f_hasResult, f_resultMode, f_resultVerdict, f_witnessSize, f_witnessOwner, a_size, a_list, a_begin, a_heightAfter, a_actionsAfter, a_entered, a_built, a_states, xk_x a_follow a_opFirst a_opLast at_ f t N, a_accepting, a_need, a_labelled, a_opAtoms, a_opFirst, a_opLast, a_nodeSet, a_nodeParent, a_nodeAtom, a_nodeAction, a_nodeDepth, a_witness)) :
    wpX_link post (f_testCount, f_actionCount, f_tokenLimit, f_occurrenceLimit, f_atomCount, f_allAtoms, f_enteredSize, f_nodeCount, f_hasResult, f_resultMode, f_resultVerdict, f_witnessSize, f_witnessOwner, a_size, a_list, a_begin, a_heightAfter, a_actionsAfter, a_entered, a_built, a_states, a_follow, a_accepting, a_need, a_labelled, a_opAtoms, a_opFirst, a_opLast, a_nodeSet, a_nodeParent, a_nodeAtom, a_nodeAction, a_nodeDepth, a_witness) (nI f) (nI t) at_ := by
  refine ⟨N + 1, ?_⟩
  have := x_link_3 hf ht hN hfN K N 0 (Nat.zero_add N)
  rw [show xk_x a_follow a_opFirst a_opLast at_ f t 0 = a_follow from funext fun j => if_neg (by omega)] at this
  exact this
end
end
section
section
variable {post : SX → Prop} {b N : Nat}
variable {f_testCount f_actionCount f_tokenLimit f_occurrenceLimit f_atomCount f_allAtoms f_enteredSize f_nodeCount f_hasResult f_resultMode f_resultVerdict f_witnessSize f_witnessOwner : Int32} {a_size a_list a_begin a_heightAfter a_actionsAfter a_entered a_built a_states a_follow a_accepting a_need a_labelled a_opAtoms a_opFirst a_opLast a_nodeSet a_nodeParent a_nodeAtom a_nodeAction a_nodeDepth a_witness : Nat → Int32}
theorem xi_4 (j : Nat) : nI j + 4 = nI (j + 4) := by show nI j + nI 4 = _; rw [nI_add]
theorem xi_8 (j : Nat) : nI j + 8 = nI (j + 8) := by show nI j + nI 8 = _; rw [nI_add]
theorem xi_2 (j : Nat) : nI j + 2 = nI (j + 2) := by show nI j + nI 2 = _; rw [nI_add]
/-! seq -/
def xq_F (e : Int32) (F : Nat → Int32) : Nat → Int32 := fun j => if bt e (j % 4) = true then F j ||| F (j + 4) else F j
def xq_L (f : Int32) (L : Nat → Int32) : Nat → Int32 := fun j => (if bt f (j % 4) = true then L j else 0) ||| L (j + 4)
theorem x_seq_80 {J31 : Int32 → (Nat → Int32) → (Nat → Int32) → (Nat → Int32) → (Nat → Int32) → (Nat → Int32) → (Nat → Int32) → (Nat → Int32) → (Nat → Int32) → (Nat → Int32) → (Nat → Int32) → (Nat → Int32) → (Nat → Int32) → (Nat → Int32) → (Nat → Int32) → (Nat → Int32) → (Nat → Int32) → (Nat → Int32) → (Nat → Int32) → (Nat → Int32) → (Nat → Int32) → (Nat → Int32) → Prop} {x : Nat} {e f : Int32} {x1 : Int32} (hb : b < 31) (hx : x < 4)
    (K : J31 (nI (x + 1)) a_size a_list a_begin a_heightAfter a_actionsAfter a_entered a_built a_states a_follow a_accepting a_need a_labelled a_opAtoms a_opFirst (xf_m b (x + 1) (xq_L f a_opLast) a_opLast) a_nodeSet a_nodeParent a_nodeAtom a_nodeAction a_nodeDepth a_witness) :
    wX_applySeq_80 post J31 x1 e f (nI x) (nI (b * 4 + x)) (nI (b * 4 + x + 4)) f_testCount f_actionCount f_tokenLimit f_occurrenceLimit f_atomCount f_allAtoms f_enteredSize f_nodeCount f_hasResult f_resultMode f_resultVerdict f_witnessSize f_witnessOwner a_size a_list a_begin a_heightAfter a_actionsAfter a_entered a_built a_states a_follow a_accepting a_need a_labelled a_opAtoms a_opFirst (xf_m b x (xq_L f a_opLast) a_opLast) a_nodeSet a_nodeParent a_nodeAtom a_nodeAction a_nodeDepth a_witness := by
  have em : (b * 4 + x) % 4 = x := by omega
  have F : ∀ z, z = (if bt f x = true then a_opLast (b * 4 + x) else 0) → wX_applySeq_100 post J31 x1 e f (nI x) (nI (b * 4 + x)) (nI (b * 4 + x + 4)) z f_testCount f_actionCount f_tokenLimit f_occurrenceLimit f_atomCount f_allAtoms f_enteredSize f_nodeCount f_hasResult f_resultMode f_resultVerdict f_witnessSize f_witnessOwner a_size a_list a_begin a_heightAfter a_actionsAfter a_entered a_built a_states a_follow a_accepting a_need a_labelled a_opAtoms a_opFirst (xf_m b x (xq_L f a_opLast) a_opLast) a_nodeSet a_nodeParent a_nodeAtom a_nodeAction a_nodeDepth a_witness := by
    intro z hz
    unfold wX_applySeq_100
    refine ⟨vp_in_nI (by omega) (by decide), vp_in_nI (by omega) (by decide), nm_r (e' := xf_m b (x + 1) (xq_L f a_opLast) a_opLast) ?_ (nm_r (nI_1 x) K)⟩
    rw [nI_clamp (by omega), nI_clamp (by omega)]
    apply xf_sv hx
    rw [hz, xf_out (show (b * 4 + x + 4) / 4 ≠ b by omega)]
    unfold xq_L
    rw [em]
  unfold wX_applySeq_80
  refine zk_br x (by omega) (fun h => F 0 ?_) (fun h => ⟨vp_in_nI (by omega) (by decide), F _ ?_⟩)
  · rw [if_neg (by rw [h]; decide)]
  · rw [if_pos h, nI_clamp (by omega), xf_at b x _ _ hx]
theorem x_seq_31 {e f : Int32} (hb : b < 31) (hN : N ≤ 4) (hfN : f_atomCount = nI N)
    (K : post (f_testCount, f_actionCount, f_tokenLimit, f_occurrenceLimit, f_atomCount, f_allAtoms, f_enteredSize, f_nodeCount, f_hasResult, f_resultMode, f_resultVerdict, f_witnessSize, f_witnessOwner, a_size, a_list, a_begin, a_heightAfter, a_actionsAfter, a_entered, a_built, a_states, a_follow, a_accepting, a_need, a_labelled, upd a_opAtoms b (e &&& f), xf_m b N (xq_F e a_opFirst) a_opFirst, xf_m b N (xq_L f a_opLast) a_opLast, a_nodeSet, a_nodeParent, a_nodeAtom, a_nodeAction, a_nodeDepth, a_witness)) :
    ∀ dd x, x + dd = N → wX_applySeq_31 post (nI b) e f f_testCount f_actionCount f_tokenLimit f_occurrenceLimit f_atomCount f_allAtoms f_enteredSize f_nodeCount f_hasResult f_resultMode f_resultVerdict f_witnessSize f_witnessOwner (dd + 1) (nI x) a_size a_list a_begin a_heightAfter a_actionsAfter a_entered a_built a_states a_follow a_accepting a_need a_labelled a_opAtoms (xf_m b x (xq_F e a_opFirst) a_opFirst) (xf_m b x (xq_L f a_opLast) a_opLast) a_nodeSet a_nodeParent a_nodeAtom a_nodeAction a_nodeDepth a_witness := by
  subst hfN
  intro dd
  induction dd with
  | zero =>
    intro x hx
    have hx : x = N := hx
    subst hx
    rw [wX_applySeq_31]
    exact br_t (nI_le (Nat.le_refl _) (by omega)) ⟨vp_in_nI (by omega) (by decide), nm_r (xuc (by omega) rfl) K⟩
  | succ dd ih =>
    intro x hx
    rw [wX_applySeq_31]
    have em : (b * 4 + x) % 4 = x := by omega
    refine br_f (nI_ge (by omega) (by omega)) (nm_r (xi4 b x) (nm_r (xi_4 _) (zk_br x (by omega) (fun h => ?_) (fun h => ⟨vp_in_nI (by omega) (by decide), vp_in_nI (by omega) (by decide), vp_in_nI (by omega) (by decide), nm_r (e' := xf_m b (x + 1) (xq_F e a_opFirst) a_opFirst) ?_ ?_⟩))))
    · refine x_seq_80 hb (by omega) ?_
      have := ih (x + 1) (by omega)
      rw [xf_k (sp := xq_F e a_opFirst) (F := a_opFirst) (b := b) (x := x) (by unfold xq_F; rw [em, if_neg (by rw [h]; decide)])] at this
      exact this
    · rw [nI_clamp (by omega), nI_clamp (by omega)]
      apply xf_sv (by omega)
      rw [xf_at b x _ _ (by omega), xf_out (show (b * 4 + x + 4) / 4 ≠ b by omega)]
      unfold xq_F
      rw [em, if_pos h]
    · exact x_seq_80 hb (by omega) (ih (x + 1) (by omega))
theorem x_seq (hb : b < 31) (hN : N ≤ 4) (hfN : f_atomCount = nI N)
    (K : post (f_testCount, f_actionCount, f_tokenLimit, f_occurrenceLimit, f_atomCount, f_allAtoms, f_enteredSize, f_nodeCount, f_hasResult, f_resultMode, f_resultVerdict, f_witnessSize, f_witnessOwner, a_size, a_list, a_begin, a_heightAfter, a_actionsAfter, a_entered, a_built, a_states, xk_x a_follow a_opFirst a_opLast f_allAtoms b (b + 1) N, a_accepting, a_need, a_labelled, upd a_opAtoms b (a_opAtoms b &&& a_opAtoms (b + 1)), xf_m b N (xq_F (a_opAtoms b) a_opFirst) a_opFirst, xf_m b N (xq_L (a_opAtoms (b + 1)) a_opLast) a_opLast, a_nodeSet, a_nodeParent, a_nodeAtom, a_nodeAction, a_nodeDepth, a_witness)) :
    wpX_applySeq post (f_testCount, f_actionCount, f_tokenLimit, f_occurrenceLimit, f_atomCount, f_allAtoms, f_enteredSize, f_nodeCount, f_hasResult, f_resultMode, f_resultVerdict, f_witnessSize, f_witnessOwner, a_size, a_list, a_begin, a_heightAfter, a_actionsAfter, a_entered, a_built, a_states, a_follow, a_accepting, a_need, a_labelled, a_opAtoms, a_opFirst, a_opLast, a_nodeSet, a_nodeParent, a_nodeAtom, a_nodeAction, a_nodeDepth, a_witness) (nI b) := by
  unfold wpX_applySeq
  dsimp only
  rw [nI_1]
  refine x_link (by omega) (by omega) hN hfN ⟨vp_in_nI (by omega) (by decide), nm_r (e' := a_opAtoms b) (by rw [nI_clamp (by omega)]) ⟨vp_in_nI (by omega) (by decide), nm_r (e' := a_opAtoms (b + 1)) (by rw [nI_clamp (by omega)]) ⟨N + 1, ?_⟩⟩⟩
  have := x_seq_31 (a_follow := xk_x a_follow a_opFirst a_opLast f_allAtoms b (b + 1) N) hb hN hfN K N 0 (Nat.zero_add N)
  rw [xf_0, xf_0] at this
  exact this
/-! plus -/
def xp_F (F : Nat → Int32) : Nat → Int32 := fun j => F j ||| F (j + 4)
theorem x_plus_2 (hb : b < 31) (hN : N ≤ 4) (hfN : f_atomCount = nI N)
    (K : post (f_testCount, f_actionCount, f_tokenLimit, f_occurrenceLimit, f_atomCount, f_allAtoms, f_enteredSize, f_nodeCount, f_hasResult, f_resultMode, f_resultVerdict, f_witnessSize, f_witnessOwner, a_size, a_list, a_begin, a_heightAfter, a_actionsAfter, a_entered, a_built, a_states, a_follow, a_accepting, a_need, a_labelled, upd a_opAtoms b (a_opAtoms b ||| a_opAtoms (b + 1)), xf_m b N (xp_F a_opFirst) a_opFirst, xf_m b N (xp_F a_opLast) a_opLast, a_nodeSet, a_nodeParent, a_nodeAtom, a_nodeAction, a_nodeDepth, a_witness)) :
    ∀ dd x, x + dd = N → wX_applyPlus_2 post (nI b) f_testCount f_actionCount f_tokenLimit f_occurrenceLimit f_atomCount f_allAtoms f_enteredSize f_nodeCount f_hasResult f_resultMode f_resultVerdict f_witnessSize f_witnessOwner (dd + 1) (nI x) a_size a_list a_begin a_heightAfter a_actionsAfter a_entered a_built a_states a_follow a_accepting a_need a_labelled a_opAtoms (xf_m b x (xp_F a_opFirst) a_opFirst) (xf_m b x (xp_F a_opLast) a_opLast) a_nodeSet a_nodeParent a_nodeAtom a_nodeAction a_nodeDepth a_witness := by
  subst hfN
  intro dd
  induction dd with
  | zero =>
    intro x hx
    have hx : x = N := hx
    subst hx
    rw [wX_applyPlus_2]
    dsimp only
    rw [nI_1]
    exact br_t (nI_le (Nat.le_refl _) (by omega)) ⟨vp_in_nI (by omega) (by decide), vp_in_nI (by omega) (by decide), vp_in_nI (by omega) (by decide), nm_r (e' := upd a_opAtoms b (a_opAtoms b ||| a_opAtoms (b + 1))) (by rw [nI_clamp (by omega), nI_clamp (by omega)]) K⟩
  | succ dd ih =>
    intro x hx
    rw [wX_applyPlus_2]
    refine br_f (nI_ge (by omega) (by omega)) (nm_r (xi4 b x) ?_)
    rw [xi_4]
    refine ⟨vp_in_nI (by omega) (by decide), vp_in_nI (by omega) (by decide), vp_in_nI (by omega) (by decide), nm_r (e' := xf_m b (x + 1) (xp_F a_opFirst) a_opFirst) ?_ ⟨vp_in_nI (by omega) (by decide), vp_in_nI (by omega) (by decide), vp_in_nI (by omega) (by decide), nm_r (e' := xf_m b (x + 1) (xp_F a_opLast) a_opLast) ?_ (nm_r (nI_1 x) (ih (x + 1) (by omega)))⟩⟩
    · rw [nI_clamp (by omega), nI_clamp (by omega)]
      apply xf_sv (by omega)
      rw [xf_at b x _ _ (by omega), xf_out (show (b * 4 + x + 4) / 4 ≠ b by omega)]; rfl
    · rw [nI_clamp (by omega), nI_clamp (by omega)]
      apply xf_sv (by omega)
      rw [xf_at b x _ _ (by omega), xf_out (show (b * 4 + x + 4) / 4 ≠ b by omega)]; rfl
theorem x_plus (hb : b < 31) (hN : N ≤ 4) (hfN : f_atomCount = nI N)
    (K : post (f_testCount, f_actionCount, f_tokenLimit, f_occurrenceLimit, f_atomCount, f_allAtoms, f_enteredSize, f_nodeCount, f_hasResult, f_resultMode, f_resultVerdict, f_witnessSize, f_witnessOwner, a_size, a_list, a_begin, a_heightAfter, a_actionsAfter, a_entered, a_built, a_states, a_follow, a_accepting, a_need, a_labelled, upd a_opAtoms b (a_opAtoms b ||| a_opAtoms (b + 1)), xf_m b N (xp_F a_opFirst) a_opFirst, xf_m b N (xp_F a_opLast) a_opLast, a_nodeSet, a_nodeParent, a_nodeAtom, a_nodeAction, a_nodeDepth, a_witness)) :
    wpX_applyPlus post (f_testCount, f_actionCount, f_tokenLimit, f_occurrenceLimit, f_atomCount, f_allAtoms, f_enteredSize, f_nodeCount, f_hasResult, f_resultMode, f_resultVerdict, f_witnessSize, f_witnessOwner, a_size, a_list, a_begin, a_heightAfter, a_actionsAfter, a_entered, a_built, a_states, a_follow, a_accepting, a_need, a_labelled, a_opAtoms, a_opFirst, a_opLast, a_nodeSet, a_nodeParent, a_nodeAtom, a_nodeAction, a_nodeDepth, a_witness) (nI b) := by
  refine ⟨N + 1, ?_⟩
  have := x_plus_2 hb hN hfN K N 0 (Nat.zero_add N)
  rw [xf_0, xf_0] at this
  exact this
/-! if -/
def xg_F (e : Int32) (F : Nat → Int32) : Nat → Int32 := fun j => if bt e (j % 4) = true then F (j + 4) else F (j + 8)
def xg_L (F : Nat → Int32) : Nat → Int32 := fun j => F (j + 4) ||| F (j + 8)
theorem x_if_60 {J9 : Int32 → (Nat → Int32) → (Nat → Int32) → (Nat → Int32) → (Nat → Int32) → (Nat → Int32) → (Nat → Int32) → (Nat → Int32) → (Nat → Int32) → (Nat → Int32) → (Nat → Int32) → (Nat → Int32) → (Nat → Int32) → (Nat → Int32) → (Nat → Int32) → (Nat → Int32) → (Nat → Int32) → (Nat → Int32) → (Nat → Int32) → (Nat → Int32) → (Nat → Int32) → (Nat → Int32) → Prop} {x : Nat} {e z : Int32} {x1 : Int32} (hb : b < 30) (hx : x < 4) (hz : z = xg_F e a_opFirst (b * 4 + x))
    (K : J9 (nI (x + 1)) a_size a_list a_begin a_heightAfter a_actionsAfter a_entered a_built a_states a_follow a_accepting a_need a_labelled a_opAtoms (xf_m b (x + 1) (xg_F e a_opFirst) a_opFirst) (xf_m b (x + 1) (xg_L a_opLast) a_opLast) a_nodeSet a_nodeParent a_nodeAtom a_nodeAction a_nodeDepth a_witness) :
    wX_applyIf_60 post J9 x1 e (nI x) (nI (b * 4 + x)) z (nI (b * 4 + x)) f_testCount f_actionCount f_tokenLimit f_occurrenceLimit f_atomCount f_allAtoms f_enteredSize f_nodeCount f_hasResult f_resultMode f_resultVerdict f_witnessSize f_witnessOwner a_size a_list a_begin a_heightAfter a_actionsAfter a_entered a_built a_states a_follow a_accepting a_need a_labelled a_opAtoms (xf_m b x (xg_F e a_opFirst) a_opFirst) (xf_m b x (xg_L a_opLast) a_opLast) a_nodeSet a_nodeParent a_nodeAtom a_nodeAction a_nodeDepth a_witness := by
  unfold wX_applyIf_60
  rw [xi_4, xi_8]
  refine ⟨vp_in_nI (by omega) (by decide), nm_r (e' := xf_m b (x + 1) (xg_F e a_opFirst) a_opFirst) ?_ ⟨vp_in_nI (by omega) (by decide), vp_in_nI (by omega) (by decide), vp_in_nI (by omega) (by decide), nm_r (e' := xf_m b (x + 1) (xg_L a_opLast) a_opLast) ?_ (nm_r (nI_1 x) K)⟩⟩
  · rw [nI_clamp (by omega)]; exact xf_sv hx hz
  · rw [nI_clamp (by omega), nI_clamp (by omega), nI_clamp (by omega)]
    apply xf_sv hx
    rw [xf_out (show (b * 4 + x + 4) / 4 ≠ b by omega), xf_out (show (b * 4 + x + 8) / 4 ≠ b by omega)]; rfl
theorem x_if_9 {e : Int32} (hb : b < 30) (hN : N ≤ 4) (hfN : f_atomCount = nI N)
    (K : post (f_testCount, f_actionCount, f_tokenLimit, f_occurrenceLimit, f_atomCount, f_allAtoms, f_enteredSize, f_nodeCount, f_hasResult, f_resultMode, f_resultVerdict, f_witnessSize, f_witnessOwner, a_size, a_list, a_begin, a_heightAfter, a_actionsAfter, a_entered, a_built, a_states, a_follow, a_accepting, a_need, a_labelled, upd a_opAtoms b ((e &&& a_opAtoms (b + 1)) ||| ((f_allAtoms &&& (e ^^^ (-1))) &&& a_opAtoms (b + 2))), xf_m b N (xg_F e a_opFirst) a_opFirst, xf_m b N (xg_L a_opLast) a_opLast, a_nodeSet, a_nodeParent, a_nodeAtom, a_nodeAction, a_nodeDepth, a_witness)) :
    ∀ dd x, x + dd = N → wX_applyIf_9 post (nI b) e f_testCount f_actionCount f_tokenLimit f_occurrenceLimit f_atomCount f_allAtoms f_enteredSize f_nodeCount f_hasResult f_resultMode f_resultVerdict f_witnessSize f_witnessOwner (dd + 1) (nI x) a_size a_list a_begin a_heightAfter a_actionsAfter a_entered a_built a_states a_follow a_accepting a_need a_labelled a_opAtoms (xf_m b x (xg_F e a_opFirst) a_opFirst) (xf_m b x (xg_L a_opLast) a_opLast) a_nodeSet a_nodeParent a_nodeAtom a_nodeAction a_nodeDepth a_witness := by
  subst hfN
  intro dd
  induction dd with
  | zero =>
    intro x hx
    have hx : x = N := hx
    subst hx
    rw [wX_applyIf_9]
    dsimp only
    rw [nI_1, xi_2]
    exact br_t (nI_le (Nat.le_refl _) (by omega)) ⟨vp_in_nI (by omega) (by decide), vp_in_nI (by omega) (by decide), vp_in_nI (by omega) (by decide), nm_r (e' := upd a_opAtoms b ((e &&& a_opAtoms (b + 1)) ||| ((f_allAtoms &&& (e ^^^ (-1))) &&& a_opAtoms (b + 2)))) (by rw [nI_clamp (by omega), nI_clamp (by omega), nI_clamp (by omega)]) K⟩
  | succ dd ih =>
    intro x hx
    rw [wX_applyIf_9]
    have em : (b * 4 + x) % 4 = x := by omega
    refine br_f (nI_ge (by omega) (by omega)) (nm_r (xi4 b x) ?_)
    rw [xi_4, xi_8]
    refine zk_br x (by omega) (fun h => ⟨vp_in_nI (by omega) (by decide), x_if_60 hb (by omega) ?_ (ih (x + 1) (by omega))⟩) (fun h => ⟨vp_in_nI (by omega) (by decide), x_if_60 hb (by omega) ?_ (ih (x + 1) (by omega))⟩)
    · rw [nI_clamp (by omega), xf_out (show (b * 4 + x + 8) / 4 ≠ b by omega)]
      unfold xg_F
      rw [em, if_neg (by rw [h]; decide)]
    · rw [nI_clamp (by omega), xf_out (show (b * 4 + x + 4) / 4 ≠ b by omega)]
      unfold xg_F
      rw [em, if_pos h]
theorem x_if (hb : b < 30) (hN : N ≤ 4) (hfN : f_atomCount = nI N)
    (K : post (f_testCount, f_actionCount, f_tokenLimit, f_occurrenceLimit, f_atomCount, f_allAtoms, f_enteredSize, f_nodeCount, f_hasResult, f_resultMode, f_resultVerdict, f_witnessSize, f_witnessOwner, a_size, a_list, a_begin, a_heightAfter, a_actionsAfter, a_entered, a_built, a_states, a_follow, a_accepting, a_need, a_labelled, upd a_opAtoms b ((a_opAtoms b &&& a_opAtoms (b + 1)) ||| ((f_allAtoms &&& (a_opAtoms b ^^^ (-1))) &&& a_opAtoms (b + 2))), xf_m b N (xg_F (a_opAtoms b) a_opFirst) a_opFirst, xf_m b N (xg_L a_opLast) a_opLast, a_nodeSet, a_nodeParent, a_nodeAtom, a_nodeAction, a_nodeDepth, a_witness)) :
    wpX_applyIf post (f_testCount, f_actionCount, f_tokenLimit, f_occurrenceLimit, f_atomCount, f_allAtoms, f_enteredSize, f_nodeCount, f_hasResult, f_resultMode, f_resultVerdict, f_witnessSize, f_witnessOwner, a_size, a_list, a_begin, a_heightAfter, a_actionsAfter, a_entered, a_built, a_states, a_follow, a_accepting, a_need, a_labelled, a_opAtoms, a_opFirst, a_opLast, a_nodeSet, a_nodeParent, a_nodeAtom, a_nodeAction, a_nodeDepth, a_witness) (nI b) := by
  refine ⟨vp_in_nI (by omega) (by decide), nm_r (e' := a_opAtoms b) (by rw [nI_clamp (by omega)]) ⟨N + 1, ?_⟩⟩
  have := x_if_9 hb hN hfN K N 0 (Nat.zero_add N)
  rw [xf_0, xf_0] at this
  exact this
/-! while -/
def xw_F (e : Int32) (F : Nat → Int32) : Nat → Int32 := fun j => if bt e (j % 4) = true then F (j + 4) else 0
def xw_L (e : Int32) (F : Nat → Int32) : Nat → Int32 := fun j => if bt e (j % 4) = true then 0 else F (j + 4)
theorem x_while_48 {J20 : Int32 → (Nat → Int32) → (Nat → Int32) → (Nat → Int32) → (Nat → Int32) → (Nat → Int32) → (Nat → Int32) → (Nat → Int32) → (Nat → Int32) → (Nat → Int32) → (Nat → Int32) → (Nat → Int32) → (Nat → Int32) → (Nat → Int32) → (Nat → Int32) → (Nat → Int32) → (Nat → Int32) → (Nat → Int32) → (Nat → Int32) → (Nat → Int32) → (Nat → Int32) → (Nat → Int32) → Prop} {x : Nat} {e z : Int32} {x1 : Int32} (hb : b < 31) (hx : x < 4) (hz : z = b01 (bt e x))
    (K : J20 (nI (x + 1)) a_size a_list a_begin a_heightAfter a_actionsAfter a_entered a_built a_states a_follow a_accepting a_need a_labelled a_opAtoms (xf_m b (x + 1) (xw_F e a_opFirst) a_opFirst) (xf_m b (x + 1) (xw_L e a_opLast) a_opLast) a_nodeSet a_nodeParent a_nodeAtom a_nodeAction a_nodeDepth a_witness) :
    wX_applyWhile_48 post J20 x1 e (nI x) (nI (b * 4 + x)) z f_testCount f_actionCount f_tokenLimit f_occurrenceLimit f_atomCount f_allAtoms f_enteredSize f_nodeCount f_hasResult f_resultMode f_resultVerdict f_witnessSize f_witnessOwner a_size a_list a_begin a_heightAfter a_actionsAfter a_entered a_built a_states a_follow a_accepting a_need a_labelled a_opAtoms (xf_m b x (xw_F e a_opFirst) a_opFirst) (xf_m b x (xw_L e a_opLast) a_opLast) a_nodeSet a_nodeParent a_nodeAtom a_nodeAction a_nodeDepth a_witness := by
  have em : (b * 4 + x) % 4 = x := by omega
  have F : ∀ w, w = xw_F e a_opFirst (b * 4 + x) → wX_applyWhile_74 post J20 x1 e (nI x) (nI (b * 4 + x)) z w (nI (b * 4 + x)) f_testCount f_actionCount f_tokenLimit f_occurrenceLimit f_atomCount f_allAtoms f_enteredSize f_nodeCount f_hasResult f_resultMode f_resultVerdict f_witnessSize f_witnessOwner a_size a_list a_begin a_heightAfter a_actionsAfter a_entered a_built a_states a_follow a_accepting a_need a_labelled a_opAtoms (xf_m b x (xw_F e a_opFirst) a_opFirst) (xf_m b x (xw_L e a_opLast) a_opLast) a_nodeSet a_nodeParent a_nodeAtom a_nodeAction a_nodeDepth a_witness := by
    intro w hw
    unfold wX_applyWhile_74
    rw [xi_4]
    refine ⟨vp_in_nI (by omega) (by decide), nm_r (e' := xf_m b (x + 1) (xw_F e a_opFirst) a_opFirst) (by rw [nI_clamp (by omega)]; exact xf_sv hx hw) ?_⟩
    refine zk_bb hz (fun h => ⟨vp_in_nI (by omega) (by decide), vp_in_nI (by omega) (by decide), nm_r (e' := xf_m b (x + 1) (xw_L e a_opLast) a_opLast) ?_ (nm_r (nI_1 x) K)⟩) (fun h => ⟨vp_in_nI (by omega) (by decide), nm_r (e' := xf_m b (x + 1) (xw_L e a_opLast) a_opLast) ?_ (nm_r (nI_1 x) K)⟩)
    · rw [nI_clamp (by omega), nI_clamp (by omega)]
      apply xf_sv hx
      rw [xf_out (show (b * 4 + x + 4) / 4 ≠ b by omega)]
      unfold xw_L
      rw [em, if_neg (by rw [h]; decide)]
    · rw [nI_clamp (by omega)]
      apply xf_sv hx
      unfold xw_L
      rw [em, if_pos h]
  unfold wX_applyWhile_48
  rw [xi_4]
  refine zk_bb hz (fun h => F 0 ?_) (fun h => ⟨vp_in_nI (by omega) (by decide), F _ ?_⟩)
  · unfold xw_F
    rw [em, if_neg (by rw [h]; decide)]
  · unfold xw_F
    rw [em, if_pos h, nI_clamp (by omega), xf_out (show (b * 4 + x + 4) / 4 ≠ b by omega)]
theorem x_while_20 {e : Int32} (hb : b < 31) (hN : N ≤ 4) (hfN : f_atomCount = nI N)
    (K : post (f_testCount, f_actionCount, f_tokenLimit, f_occurrenceLimit, f_atomCount, f_allAtoms, f_enteredSize, f_nodeCount, f_hasResult, f_resultMode, f_resultVerdict, f_witnessSize, f_witnessOwner, a_size, a_list, a_begin, a_heightAfter, a_actionsAfter, a_entered, a_built, a_states, a_follow, a_accepting, a_need, a_labelled, upd a_opAtoms b (f_allAtoms &&& (e ^^^ (-1))), xf_m b N (xw_F e a_opFirst) a_opFirst, xf_m b N (xw_L e a_opLast) a_opLast, a_nodeSet, a_nodeParent, a_nodeAtom, a_nodeAction, a_nodeDepth, a_witness)) :
    ∀ dd x, x + dd = N → wX_applyWhile_20 post (nI b) e f_testCount f_actionCount f_tokenLimit f_occurrenceLimit f_atomCount f_allAtoms f_enteredSize f_nodeCount f_hasResult f_resultMode f_resultVerdict f_witnessSize f_witnessOwner (dd + 1) (nI x) a_size a_list a_begin a_heightAfter a_actionsAfter a_entered a_built a_states a_follow a_accepting a_need a_labelled a_opAtoms (xf_m b x (xw_F e a_opFirst) a_opFirst) (xf_m b x (xw_L e a_opLast) a_opLast) a_nodeSet a_nodeParent a_nodeAtom a_nodeAction a_nodeDepth a_witness := by
  subst hfN
  intro dd
  induction dd with
  | zero =>
    intro x hx
    have hx : x = N := hx
    subst hx
    rw [wX_applyWhile_20]
    exact br_t (nI_le (Nat.le_refl _) (by omega)) ⟨vp_in_nI (by omega) (by decide), nm_r (xuc (by omega) rfl) K⟩
  | succ dd ih =>
    intro x hx
    rw [wX_applyWhile_20]
    refine br_f (nI_ge (by omega) (by omega)) (nm_r (xi4 b x) (zk_br x (by omega) (fun h => ?_) (fun h => ?_)))
    · exact x_while_48 hb (by omega) (by rw [h]; rfl) (ih (x + 1) (by omega))
    · exact x_while_48 hb (by omega) (by rw [h]; rfl) (ih (x + 1) (by omega))
theorem x_while (hb : b < 31) (hN : N ≤ 4) (hfN : f_atomCount = nI N)
    (K : post (f_testCount, f_actionCount, f_tokenLimit, f_occurrenceLimit, f_atomCount, f_allAtoms, f_enteredSize, f_nodeCount, f_hasResult, f_resultMode, f_resultVerdict, f_witnessSize, f_witnessOwner, a_size, a_list, a_begin, a_heightAfter, a_actionsAfter, a_entered, a_built, a_states, xk_x a_follow a_opFirst a_opLast (a_opAtoms b) (b + 1) (b + 1) N, a_accepting, a_need, a_labelled, upd a_opAtoms b (f_allAtoms &&& (a_opAtoms b ^^^ (-1))), xf_m b N (xw_F (a_opAtoms b) a_opFirst) a_opFirst, xf_m b N (xw_L (a_opAtoms b) a_opLast) a_opLast, a_nodeSet, a_nodeParent, a_nodeAtom, a_nodeAction, a_nodeDepth, a_witness)) :
    wpX_applyWhile post (f_testCount, f_actionCount, f_tokenLimit, f_occurrenceLimit, f_atomCount, f_allAtoms, f_enteredSize, f_nodeCount, f_hasResult, f_resultMode, f_resultVerdict, f_witnessSize, f_witnessOwner, a_size, a_list, a_begin, a_heightAfter, a_actionsAfter, a_entered, a_built, a_states, a_follow, a_accepting, a_need, a_labelled, a_opAtoms, a_opFirst, a_opLast, a_nodeSet, a_nodeParent, a_nodeAtom, a_nodeAction, a_nodeDepth, a_witness) (nI b) := by
  unfold wpX_applyWhile
  dsimp only
  rw [nI_1]
  refine ⟨vp_in_nI (by omega) (by decide), nm_r (e' := a_opAtoms b) (by rw [nI_clamp (by omega)]) (x_link (by omega) (by omega) hN hfN ⟨N + 1, ?_⟩)⟩
  have := x_while_20 (a_follow := xk_x a_follow a_opFirst a_opLast (a_opAtoms b) (b + 1) (b + 1) N) hb hN hfN K N 0 (Nat.zero_add N)
  rw [xf_0, xf_0] at this
  exact this
end
end
section
/-! ===== install, measure ===== -/
theorem ts_nt' {x : Bool} (h : ¬ x = true) : x = false := by cases x; rfl; exact absurd rfl h
def xn_p (ac : Nat → Int32) (la : Int32) (x p : Nat) : Nat → Int32 := fun b => if b < p ∧ bt la b = true then ac b ||| ((1 : Int32) <<< (nI x &&& 31)) else ac b
theorem xn_ps {ac : Nat → Int32} {la : Int32} {x p : Nat} : xn_p ac la x (p + 1) = if bt la p = true then upd (xn_p ac la x p) p (xn_p ac la x p p ||| ((1 : Int32) <<< (nI x &&& 31))) else xn_p ac la x p := by
  funext b
  have e0 : xn_p ac la x p p = ac p := if_neg (by omega)
  rw [e0]
  show (if b < p + 1 ∧ bt la b = true then ac b ||| ((1 : Int32) <<< (nI x &&& 31)) else ac b) = _
  by_cases h : bt la p = true
  · rw [if_pos h]
    show _ = (if b = p then ac p ||| ((1 : Int32) <<< (nI x &&& 31)) else (if b < p ∧ bt la b = true then ac b ||| ((1 : Int32) <<< (nI x &&& 31)) else ac b))
    by_cases e : b = p
    · rw [if_pos e, if_pos ⟨by omega, by rw [e]; exact h⟩, e]
    · rw [if_neg e]
      by_cases z : b < p ∧ bt la b = true
      · rw [if_pos z, if_pos ⟨by omega, z.2⟩]
      · rw [if_neg z, if_neg (fun w => z ⟨by omega, w.2⟩)]
  · rw [if_neg h]
    show _ = (if b < p ∧ bt la b = true then ac b ||| ((1 : Int32) <<< (nI x &&& 31)) else ac b)
    by_cases z : b < p ∧ bt la b = true
    · rw [if_pos z, if_pos ⟨by omega, z.2⟩]
    · refine (if_neg (fun w => z ⟨?_, w.2⟩)).trans (if_neg z).symm
      apply Classical.byContradiction
      intro q
      rw [show b = p by omega] at w
      exact h w.2
def xn_a (ac oL : Nat → Int32) (x : Nat) : Nat → Int32 := fun b => if b < 8 then ac b ||| zk_m (fun y => decide (y < x) && bt (oL y) b) else ac b
theorem xn_as {ac oL : Nat → Int32} {x : Nat} (hx : x < 32) : xn_p (xn_a ac oL x) (oL x) x 8 = xn_a ac oL (x + 1) := by
  funext b
  show (if b < 8 ∧ bt (oL x) b = true then (if b < 8 then ac b ||| zk_m (fun y => decide (y < x) && bt (oL y) b) else ac b) ||| ((1 : Int32) <<< (nI x &&& 31)) else (if b < 8 then ac b ||| zk_m (fun y => decide (y < x) && bt (oL y) b) else ac b)) = (if b < 8 then ac b ||| zk_m (fun y => decide (y < x + 1) && bt (oL y) b) else ac b)
  by_cases h : b < 8
  · rw [if_pos h, if_pos h]
    by_cases z : bt (oL x) b = true
    · rw [if_pos ⟨h, z⟩, Int32.or_assoc, zk_one hx, zk_or]
      congr 1
      apply zk_ext
      intro j _
      by_cases e : j = x
      · subst e
        rw [decide_eq_true (show j = j from rfl), decide_eq_true (show j < j + 1 by omega), z, Bool.or_true]; rfl
      · rw [decide_eq_false e, Bool.or_false]
        congr 1
        exact decide_eq_decide.mpr (by omega)
    · rw [if_neg (fun w => z w.2)]
      congr 1
      apply zk_ext
      intro j _
      by_cases e : j = x
      · subst e
        rw [ts_nt' z, Bool.and_false, Bool.and_false]
      · congr 1
        exact decide_eq_decide.mpr (by omega)
  · rw [if_neg (fun w => h w.1), if_neg h, if_neg h]
section
variable {post : SX → Prop} {b N s : Nat}
variable {f_testCount f_actionCount f_tokenLimit f_occurrenceLimit f_atomCount f_allAtoms f_enteredSize f_nodeCount f_hasResult f_resultMode f_resultVerdict f_witnessSize f_witnessOwner : Int32} {a_size a_list a_begin a_heightAfter a_actionsAfter a_entered a_built a_states a_follow a_accepting a_need a_labelled a_opAtoms a_opFirst a_opLast a_nodeSet a_nodeParent a_nodeAtom a_nodeAction a_nodeDepth a_witness : Nat → Int32}
theorem x_inst_54 {J19 : Int32 → (Nat → Int32) → (Nat → Int32) → (Nat → Int32) → (Nat → Int32) → (Nat → Int32) → (Nat → Int32) → (Nat → Int32) → (Nat → Int32) → (Nat → Int32) → (Nat → Int32) → (Nat → Int32) → (Nat → Int32) → (Nat → Int32) → (Nat → Int32) → (Nat → Int32) → (Nat → Int32) → (Nat → Int32) → (Nat → Int32) → (Nat → Int32) → (Nat → Int32) → (Nat → Int32) → Prop} {x : Nat} {la x2 : Int32} (hx : x < 4) (K : J19 (nI (x + 1)) a_size a_list a_begin a_heightAfter a_actionsAfter a_entered a_built a_states a_follow (xn_p a_accepting la x 8) a_need a_labelled a_opAtoms a_opFirst a_opLast a_nodeSet a_nodeParent a_nodeAtom a_nodeAction a_nodeDepth a_witness) :
    ∀ dd p, p + dd = 8 → wX_install_54 post J19 x2 (nI x) la f_testCount f_actionCount f_tokenLimit f_occurrenceLimit f_atomCount f_allAtoms f_enteredSize f_nodeCount f_hasResult f_resultMode f_resultVerdict f_witnessSize f_witnessOwner (dd + 1) (nI p) a_size a_list a_begin a_heightAfter a_actionsAfter a_entered a_built a_states a_follow (xn_p a_accepting la x p) a_need a_labelled a_opAtoms a_opFirst a_opLast a_nodeSet a_nodeParent a_nodeAtom a_nodeAction a_nodeDepth a_witness := by
  intro dd
  induction dd with
  | zero =>
    intro p hp
    have hp : p = 8 := hp
    subst hp
    rw [wX_install_54]
    exact br_t (by decide) (nm_r (nI_1 x) K)
  | succ dd ih =>
    intro p hp
    have := ih (p + 1) (by omega)
    rw [xn_ps] at this
    rw [wX_install_54]
    refine br_f (nI_ge (b := 8) (by omega) (by decide)) (zk_br p (by omega) (fun h => nm_r (nI_1 p) ?_) (fun h => ⟨vp_in_nI (by omega) (by decide), vp_in_nI (by omega) (by decide), nm_r (e' := upd (xn_p a_accepting la x p) p (xn_p a_accepting la x p p ||| ((1 : Int32) <<< (nI x &&& 31)))) (by rw [nI_clamp (by omega)]) (nm_r (nI_1 p) ?_)⟩))
    · rw [if_neg (by rw [h]; decide)] at this; exact this
    · rw [if_pos h] at this; exact this
theorem x_inst_19 {q : Nat} (hq : q < 10) (hN : N ≤ 4) (hfN : f_atomCount = nI N) (K : post (f_testCount, f_actionCount, f_tokenLimit, f_occurrenceLimit, f_atomCount, f_allAtoms, f_enteredSize, f_nodeCount, f_hasResult, f_resultMode, f_resultVerdict, f_witnessSize, f_witnessOwner, a_size, a_list, a_begin, a_heightAfter, a_actionsAfter, a_entered, a_built, a_states, xf_m q N (fun j => a_opFirst (j % 4)) a_follow, xn_a a_accepting a_opLast N, a_need, a_labelled, a_opAtoms, a_opFirst, a_opLast, a_nodeSet, a_nodeParent, a_nodeAtom, a_nodeAction, a_nodeDepth, a_witness)) :
    ∀ dd x, x + dd = N → wX_install_19 post (nI q) f_testCount f_actionCount f_tokenLimit f_occurrenceLimit f_atomCount f_allAtoms f_enteredSize f_nodeCount f_hasResult f_resultMode f_resultVerdict f_witnessSize f_witnessOwner (dd + 1) (nI x) a_size a_list a_begin a_heightAfter a_actionsAfter a_entered a_built a_states (xf_m q x (fun j => a_opFirst (j % 4)) a_follow) (xn_a a_accepting a_opLast x) a_need a_labelled a_opAtoms a_opFirst a_opLast a_nodeSet a_nodeParent a_nodeAtom a_nodeAction a_nodeDepth a_witness := by
  subst hfN
  intro dd
  induction dd with
  | zero =>
    intro x hx
    have hx : x = N := hx
    subst hx
    rw [wX_install_19]
    exact br_t (nI_le (Nat.le_refl _) (by omega)) K
  | succ dd ih =>
    intro x hx
    have := ih (x + 1) (by omega)
    rw [← xn_as (show x < 32 by omega)] at this
    rw [wX_install_19]
    dsimp only
    rw [xi4]
    refine br_f (nI_ge (by omega) (by omega)) ⟨vp_in_nI (by omega) (by decide), vp_in_nI (by omega) (by decide), nm_r (e' := xf_m q (x + 1) (fun j => a_opFirst (j % 4)) a_follow) ?_ ⟨vp_in_nI (by omega) (by decide), nm_r (e' := a_opLast x) (by rw [nI_clamp (by omega)]) ⟨9, ?_⟩⟩⟩
    · rw [nI_clamp (by omega), nI_clamp (by omega)]
      apply xf_sv (by omega)
      show a_opFirst x = a_opFirst ((q * 4 + x) % 4)
      rw [show (q * 4 + x) % 4 = x by omega]
    · have L := x_inst_54 (post := post) (J19 := wX_install_19 post (nI q) f_testCount f_actionCount f_tokenLimit f_occurrenceLimit (nI N) f_allAtoms f_enteredSize f_nodeCount f_hasResult f_resultMode f_resultVerdict f_witnessSize f_witnessOwner (dd + 1)) (x2 := nI q) (la := a_opLast x) (f_testCount := f_testCount) (f_actionCount := f_actionCount) (f_tokenLimit := f_tokenLimit) (f_occurrenceLimit := f_occurrenceLimit) (f_atomCount := nI N) (f_allAtoms := f_allAtoms) (f_enteredSize := f_enteredSize) (f_nodeCount := f_nodeCount) (f_hasResult := f_hasResult) (f_resultMode := f_resultMode) (f_resultVerdict := f_resultVerdict) (f_witnessSize := f_witnessSize) (f_witnessOwner := f_witnessOwner) (a_accepting := xn_a a_accepting a_opLast x) (show x < 4 by omega) this 8 0 rfl
      rw [show xn_p (xn_a a_accepting a_opLast x) (a_opLast x) x 0 = xn_a a_accepting a_opLast x from funext fun j => if_neg (by omega)] at L
      exact L
theorem x_install (hs : s < 2) (hN : N ≤ 4) (hfN : f_atomCount = nI N) (K : post (f_testCount, f_actionCount, f_tokenLimit, f_occurrenceLimit, f_atomCount, f_allAtoms, f_enteredSize, f_nodeCount, f_hasResult, f_resultMode, f_resultVerdict, f_witnessSize, f_witnessOwner, a_size, a_list, a_begin, a_heightAfter, a_actionsAfter, a_entered, a_built, a_states, xf_m (8 + s) N (fun j => a_opFirst (j % 4)) a_follow, xn_a (upd a_accepting (8 + s) (a_opAtoms 0)) a_opLast N, a_need, a_labelled, a_opAtoms, a_opFirst, a_opLast, a_nodeSet, a_nodeParent, a_nodeAtom, a_nodeAction, a_nodeDepth, a_witness)) :
    wpX_install post (f_testCount, f_actionCount, f_tokenLimit, f_occurrenceLimit, f_atomCount, f_allAtoms, f_enteredSize, f_nodeCount, f_hasResult, f_resultMode, f_resultVerdict, f_witnessSize, f_witnessOwner, a_size, a_list, a_begin, a_heightAfter, a_actionsAfter, a_entered, a_built, a_states, a_follow, a_accepting, a_need, a_labelled, a_opAtoms, a_opFirst, a_opLast, a_nodeSet, a_nodeParent, a_nodeAtom, a_nodeAction, a_nodeDepth, a_witness) (nI s) := by
  unfold wpX_install
  refine nm_r (e' := nI (8 + s)) (by show nI 8 + nI s = _; rw [nI_add]) ⟨vp_in_nI (by omega) (by decide), nm_r (xuc (by omega) rfl) ⟨N + 1, ?_⟩⟩
  have := x_inst_19 (a_accepting := upd a_accepting (8 + s) (a_opAtoms 0)) (q := 8 + s) (by omega) hN hfN K N 0 (Nat.zero_add N)
  rw [xf_0, show xn_a (upd a_accepting (8 + s) (a_opAtoms 0)) a_opLast 0 = upd a_accepting (8 + s) (a_opAtoms 0) from funext fun b => by
    unfold xn_a
    split
    · rw [zk_0 (fun j _ => by rw [decide_eq_false (Nat.not_lt_zero _)]; rfl), Int32.or_zero]
    · rfl] at this
  exact this
/-! measure -/
def xm_af (fo : Nat → Int32) (p N : Nat) : Int32 := zk_m (fun j => ex_b N (fun x => bt (fo (p * 4 + x)) j))
theorem xm_afs (fo : Nat → Int32) (p x : Nat) : xm_af fo p x ||| fo (p * 4 + x) = xm_af fo p (x + 1) := by
  unfold xm_af
  apply zk_of
  intro j hj
  rw [b_or, zk_bt _ hj]; rfl
theorem x_allF_lp {post : Int32 → Prop} {p : Nat} (hp : p < 10) (hN : N ≤ 4) (hfN : f_atomCount = nI N) (K : post (xm_af a_follow p N)) :
    ∀ dd x, x + dd = N → wX_allFollowers_4 post (nI p) f_testCount f_actionCount f_tokenLimit f_occurrenceLimit f_atomCount f_allAtoms f_enteredSize f_nodeCount f_hasResult f_resultMode f_resultVerdict f_witnessSize f_witnessOwner a_size a_list a_begin a_heightAfter a_actionsAfter a_entered a_built a_states a_follow a_accepting a_need a_labelled a_opAtoms a_opFirst a_opLast a_nodeSet a_nodeParent a_nodeAtom a_nodeAction a_nodeDepth a_witness (dd + 1) (xm_af a_follow p x) (nI x) := by
  subst hfN
  intro dd
  induction dd with
  | zero =>
    intro x hx
    have hx : x = N := hx
    subst hx
    rw [wX_allFollowers_4]
    exact br_t (nI_le (Nat.le_refl _) (by omega)) K
  | succ dd ih =>
    intro x hx
    rw [wX_allFollowers_4]
    dsimp only
    rw [xi4]
    exact br_f (nI_ge (by omega) (by omega)) ⟨vp_in_nI (by omega) (by decide), nm_r (e' := xm_af a_follow p (x + 1)) (by rw [nI_clamp (by omega), xm_afs]) (nm_r (nI_1 x) (ih (x + 1) (by omega)))⟩
theorem x_allF {post : Int32 → Prop} {p : Nat} (hp : p < 10) (hN : N ≤ 4) (hfN : f_atomCount = nI N) (K : post (xm_af a_follow p N)) : wpX_allFollowers post (f_testCount, f_actionCount, f_tokenLimit, f_occurrenceLimit, f_atomCount, f_allAtoms, f_enteredSize, f_nodeCount, f_hasResult, f_resultMode, f_resultVerdict, f_witnessSize, f_witnessOwner, a_size, a_list, a_begin, a_heightAfter, a_actionsAfter, a_entered, a_built, a_states, a_follow, a_accepting, a_need, a_labelled, a_opAtoms, a_opFirst, a_opLast, a_nodeSet, a_nodeParent, a_nodeAtom, a_nodeAction, a_nodeDepth, a_witness) (nI p) := by
  refine ⟨N + 1, ?_⟩
  have := x_allF_lp (f_testCount := f_testCount) (f_actionCount := f_actionCount) (f_tokenLimit := f_tokenLimit) (f_occurrenceLimit := f_occurrenceLimit) (f_atomCount := f_atomCount) (f_allAtoms := f_allAtoms) (f_enteredSize := f_enteredSize) (f_nodeCount := f_nodeCount) (f_hasResult := f_hasResult) (f_resultMode := f_resultMode) (f_resultVerdict := f_resultVerdict) (f_witnessSize := f_witnessSize) (f_witnessOwner := f_witnessOwner) (a_size := a_size) (a_list := a_list) (a_begin := a_begin) (a_heightAfter := a_heightAfter) (a_actionsAfter := a_actionsAfter) (a_entered := a_entered) (a_built := a_built) (a_states := a_states) (a_follow := a_follow) (a_accepting := a_accepting) (a_need := a_need) (a_labelled := a_labelled) (a_opAtoms := a_opAtoms) (a_opFirst := a_opFirst) (a_opLast := a_opLast) (a_nodeSet := a_nodeSet) (a_nodeParent := a_nodeParent) (a_nodeAtom := a_nodeAtom) (a_nodeAction := a_nodeAction) (a_nodeDepth := a_nodeDepth) (a_witness := a_witness) hp hN hfN K N 0 (Nat.zero_add N)
  rw [show xm_af a_follow p 0 = 0 from zk_0 fun _ _ => rfl] at this
  exact this
/-- whether p reaches a live one -/
def xm_rc (fo : Nat → Int32) (N : Nat) (lv : Int32) (p : Nat) : Bool := !decide ((xm_af fo p N &&& lv) = 0)
def xm_g (fo : Nat → Int32) (N : Nat) (own lv : Int32) (p : Nat) : Bool := (bt own p && !bt lv p) && xm_rc fo N lv p
def xm_G (fo : Nat → Int32) (N : Nat) (own lv : Int32) (m : Nat) : Int32 := zk_m (fun b => decide (b < m) && xm_g fo N own lv b)
def xm_N (fo : Nat → Int32) (N : Nat) (own lv : Int32) (v : Int32) (ne : Nat → Int32) (m : Nat) : Nat → Int32 := fun b => if b < m ∧ xm_g fo N own lv b = true then v else ne b
theorem xm_Gs (fo : Nat → Int32) (N : Nat) (own lv : Int32) {m : Nat} (hm : m < 32) : xm_G fo N own lv (m + 1) = if xm_g fo N own lv m = true then xm_G fo N own lv m ||| ((1 : Int32) <<< (nI m &&& 31)) else xm_G fo N own lv m := by
  split
  · rename_i h
    unfold xm_G
    rw [zk_one hm, zk_or]
    apply zk_ext
    intro j _
    by_cases e : j = m
    · subst e
      rw [h, decide_eq_true (show j < j + 1 by omega), decide_eq_true (show j = j from rfl), Bool.or_true]; rfl
    · rw [decide_eq_false e, Bool.or_false]
      congr 1
      exact decide_eq_decide.mpr (by omega)
  · rename_i h
    apply zk_ext
    intro j _
    by_cases e : j = m
    · subst e
      rw [ts_nt' h, Bool.and_false, Bool.and_false]
    · congr 1
      exact decide_eq_decide.mpr (by omega)
theorem xm_Ns (fo : Nat → Int32) (N : Nat) (own lv v : Int32) (ne : Nat → Int32) (m : Nat) : xm_N fo N own lv v ne (m + 1) = if xm_g fo N own lv m = true then upd (xm_N fo N own lv v ne m) m v else xm_N fo N own lv v ne m := by
  funext b
  show (if b < m + 1 ∧ xm_g fo N own lv b = true then v else ne b) = _
  by_cases h : xm_g fo N own lv m = true
  · rw [if_pos h]
    show _ = (if b = m then v else (if b < m ∧ xm_g fo N own lv b = true then v else ne b))
    by_cases e : b = m
    · rw [if_pos e, if_pos ⟨by omega, by rw [e]; exact h⟩]
    · rw [if_neg e]
      by_cases z : b < m ∧ xm_g fo N own lv b = true
      · rw [if_pos z, if_pos ⟨by omega, z.2⟩]
      · rw [if_neg z, if_neg (fun w => z ⟨by omega, w.2⟩)]
  · rw [if_neg h]
    show _ = (if b < m ∧ xm_g fo N own lv b = true then v else ne b)
    by_cases z : b < m ∧ xm_g fo N own lv b = true
    · rw [if_pos z, if_pos ⟨by omega, z.2⟩]
    · refine (if_neg (fun w => z ⟨?_, w.2⟩)).trans (if_neg z).symm
      apply Classical.byContradiction
      intro q
      rw [show b = m by omega] at w
      exact h w.2
theorem x_meas_83 {J70 : Int32 → Int32 → (Nat → Int32) → (Nat → Int32) → (Nat → Int32) → (Nat → Int32) → (Nat → Int32) → (Nat → Int32) → (Nat → Int32) → (Nat → Int32) → (Nat → Int32) → (Nat → Int32) → (Nat → Int32) → (Nat → Int32) → (Nat → Int32) → (Nat → Int32) → (Nat → Int32) → (Nat → Int32) → (Nat → Int32) → (Nat → Int32) → (Nat → Int32) → (Nat → Int32) → (Nat → Int32) → Prop} {own lv : Int32} {d : Nat} (hN : N ≤ 4) (hfN : f_atomCount = nI N)
    (K : J70 (lv ||| xm_G a_follow N own lv 10) (nI (d + 1)) a_size a_list a_begin a_heightAfter a_actionsAfter a_entered a_built a_states a_follow a_accepting (xm_N a_follow N own lv (nI d) a_need 10) a_labelled a_opAtoms a_opFirst a_opLast a_nodeSet a_nodeParent a_nodeAtom a_nodeAction a_nodeDepth a_witness) :
    ∀ dd p, p + dd = 10 → wX_measure_83 post J70 own lv (nI d) f_testCount f_actionCount f_tokenLimit f_occurrenceLimit f_atomCount f_allAtoms f_enteredSize f_nodeCount f_hasResult f_resultMode f_resultVerdict f_witnessSize f_witnessOwner (dd + 1) (xm_G a_follow N own lv p) (nI p) a_size a_list a_begin a_heightAfter a_actionsAfter a_entered a_built a_states a_follow a_accepting (xm_N a_follow N own lv (nI d) a_need p) a_labelled a_opAtoms a_opFirst a_opLast a_nodeSet a_nodeParent a_nodeAtom a_nodeAction a_nodeDepth a_witness := by
  intro dd
  induction dd with
  | zero =>
    intro p hp
    have hp : p = 10 := hp
    subst hp
    rw [wX_measure_83]
    exact br_t (by decide) (nm_e (nm_r (nI_1 d) K))
  | succ dd ih =>
    intro p hp
    have := ih (p + 1) (by omega)
    rw [xm_Gs a_follow N own lv (show p < 32 by omega), xm_Ns] at this
    rw [wX_measure_83]
    refine br_f (nI_ge (b := 10) (by omega) (by decide)) (zk_br p (by omega) (fun h => nm_r (nI_1 p) ?_) (fun h => ?_))
    · rw [b_and, zk_not lv (by omega)] at h
      have hg : ¬ xm_g a_follow N own lv p = true := by unfold xm_g; rw [h, Bool.false_and]; decide
      rw [if_neg hg, if_neg hg] at this
      exact this
    · rw [b_and, zk_not lv (by omega)] at h
      refine x_allF (by omega) hN hfN (br_c (fun z => nm_r (nI_1 p) ?_) (fun z => ⟨vp_in_nI (by omega) (by decide), nm_r (e' := upd (xm_N a_follow N own lv (nI d) a_need p) p (nI d)) (by rw [nI_clamp (by omega)]) (nm_e (nm_r (nI_1 p) ?_))⟩))
      · have hg : ¬ xm_g a_follow N own lv p = true := by unfold xm_g xm_rc; rw [decide_eq_true z, h]; decide
        rw [if_neg hg, if_neg hg] at this
        exact this
      · have hg : xm_g a_follow N own lv p = true := by unfold xm_g xm_rc; rw [decide_eq_false z, h]; rfl
        rw [if_pos hg, if_pos hg] at this
        exact this
/-- live after d rounds, and the distances -/
def xm_l (fo ac : Nat → Int32) (N : Nat) (own : Int32) : Nat → Int32
  | 0 => zk_m (fun b => decide (b < 10) && (bt own b && !decide (ac b = 0)))
  | d + 1 => xm_l fo ac N own d ||| xm_G fo N own (xm_l fo ac N own d) 10
def xm_n (fo ac ne : Nat → Int32) (N : Nat) (own : Int32) : Nat → Nat → Int32
  | 0 => fun b => if b < 10 ∧ bt own b = true then (if ac b = 0 then -1 else 0) else ne b
  | d + 1 => xm_N fo N own (xm_l fo ac N own d) (nI (d + 1)) (xm_n fo ac ne N own d) 10
def xm_c (fo : Nat → Int32) (N : Nat) (own lv : Int32) (m : Nat) : Nat → Int32 := fun j => if j / 4 < m ∧ bt own (j / 4) = true ∧ j % 4 < N then fo j &&& lv else fo j
theorem xm_cs {fo : Nat → Int32} {N : Nat} {own lv : Int32} {m : Nat} : xm_c fo N own lv (m + 1) = if bt own m = true then xf_m m N (fun j => fo j &&& lv) (xm_c fo N own lv m) else xm_c fo N own lv m := by
  funext j
  show (if j / 4 < m + 1 ∧ bt own (j / 4) = true ∧ j % 4 < N then fo j &&& lv else fo j) = _
  by_cases h : bt own m = true
  · rw [if_pos h]
    show _ = (if j / 4 = m ∧ j % 4 < N then fo j &&& lv else (if j / 4 < m ∧ bt own (j / 4) = true ∧ j % 4 < N then fo j &&& lv else fo j))
    by_cases z : j / 4 = m ∧ j % 4 < N
    · rw [if_pos z, if_pos ⟨by omega, by rw [z.1]; exact h, z.2⟩]
    · rw [if_neg z]
      by_cases w : j / 4 < m ∧ bt own (j / 4) = true ∧ j % 4 < N
      · rw [if_pos w, if_pos ⟨by omega, w.2⟩]
      · rw [if_neg w, if_neg (fun y => w ⟨by omega, y.2⟩)]
  · rw [if_neg h]
    show _ = (if j / 4 < m ∧ bt own (j / 4) = true ∧ j % 4 < N then fo j &&& lv else fo j)
    by_cases w : j / 4 < m ∧ bt own (j / 4) = true ∧ j % 4 < N
    · rw [if_pos w, if_pos ⟨by omega, w.2⟩]
    · refine (if_neg (fun y => w ⟨?_, y.2⟩)).trans (if_neg w).symm
      apply Classical.byContradiction
      intro q
      rw [show j / 4 = m by omega] at y
      exact h y.2.1
theorem x_meas_175 {J156 : Int32 → (Nat → Int32) → (Nat → Int32) → (Nat → Int32) → (Nat → Int32) → (Nat → Int32) → (Nat → Int32) → (Nat → Int32) → (Nat → Int32) → (Nat → Int32) → (Nat → Int32) → (Nat → Int32) → (Nat → Int32) → (Nat → Int32) → (Nat → Int32) → (Nat → Int32) → (Nat → Int32) → (Nat → Int32) → (Nat → Int32) → (Nat → Int32) → (Nat → Int32) → (Nat → Int32) → Prop} {own lv : Int32} {p : Nat} {F : Nat → Int32} (hp : p < 10) (hN : N ≤ 4) (hfN : f_atomCount = nI N) (hF : ∀ x, x < 4 → F (p * 4 + x) = a_follow (p * 4 + x))
    (K : J156 (nI (p + 1)) a_size a_list a_begin a_heightAfter a_actionsAfter a_entered a_built a_states (xf_m p N (fun j => a_follow j &&& lv) F) a_accepting a_need a_labelled a_opAtoms a_opFirst a_opLast a_nodeSet a_nodeParent a_nodeAtom a_nodeAction a_nodeDepth a_witness) :
    ∀ dd x, x + dd = N → wX_measure_175 post J156 own lv (nI p) f_testCount f_actionCount f_tokenLimit f_occurrenceLimit f_atomCount f_allAtoms f_enteredSize f_nodeCount f_hasResult f_resultMode f_resultVerdict f_witnessSize f_witnessOwner (dd + 1) (nI x) a_size a_list a_begin a_heightAfter a_actionsAfter a_entered a_built a_states (xf_m p x (fun j => a_follow j &&& lv) F) a_accepting a_need a_labelled a_opAtoms a_opFirst a_opLast a_nodeSet a_nodeParent a_nodeAtom a_nodeAction a_nodeDepth a_witness := by
  subst hfN
  intro dd
  induction dd with
  | zero =>
    intro x hx
    have hx : x = N := hx
    subst hx
    rw [wX_measure_175]
    exact br_t (nI_le (Nat.le_refl _) (by omega)) (nm_r (nI_1 p) K)
  | succ dd ih =>
    intro x hx
    rw [wX_measure_175]
    dsimp only
    rw [xi4]
    refine br_f (nI_ge (by omega) (by omega)) ⟨vp_in_nI (by omega) (by decide), vp_in_nI (by omega) (by decide), nm_r (e' := xf_m p (x + 1) (fun j => a_follow j &&& lv) F) ?_ (nm_r (nI_1 x) (ih (x + 1) (by omega)))⟩
    rw [nI_clamp (by omega)]
    apply xf_sv (by omega)
    rw [xf_at p x _ _ (by omega), hF x (by omega)]
theorem x_meas_156 {own lv : Int32} (hN : N ≤ 4) (hfN : f_atomCount = nI N) (K : post (f_testCount, f_actionCount, f_tokenLimit, f_occurrenceLimit, f_atomCount, f_allAtoms, f_enteredSize, f_nodeCount, f_hasResult, f_resultMode, f_resultVerdict, f_witnessSize, f_witnessOwner, a_size, a_list, a_begin, a_heightAfter, a_actionsAfter, a_entered, a_built, a_states, xm_c a_follow N own lv 10, a_accepting, a_need, a_labelled, a_opAtoms, a_opFirst, a_opLast, a_nodeSet, a_nodeParent, a_nodeAtom, a_nodeAction, a_nodeDepth, a_witness)) :
    ∀ dd p, p + dd = 10 → wX_measure_156 post own lv f_testCount f_actionCount f_tokenLimit f_occurrenceLimit f_atomCount f_allAtoms f_enteredSize f_nodeCount f_hasResult f_resultMode f_resultVerdict f_witnessSize f_witnessOwner (dd + 1) (nI p) a_size a_list a_begin a_heightAfter a_actionsAfter a_entered a_built a_states (xm_c a_follow N own lv p) a_accepting a_need a_labelled a_opAtoms a_opFirst a_opLast a_nodeSet a_nodeParent a_nodeAtom a_nodeAction a_nodeDepth a_witness := by
  intro dd
  induction dd with
  | zero =>
    intro p hp
    have hp : p = 10 := hp
    subst hp
    rw [wX_measure_156]
    exact br_t (by decide) K
  | succ dd ih =>
    intro p hp
    have := ih (p + 1) (by omega)
    rw [xm_cs] at this
    rw [wX_measure_156]
    refine br_f (nI_ge (b := 10) (by omega) (by decide)) (zk_br p (by omega) (fun h => nm_r (nI_1 p) ?_) (fun h => ⟨N + 1, ?_⟩))
    · rw [if_neg (by rw [h]; decide)] at this; exact this
    · rw [if_pos h] at this
      have L := x_meas_175 (post := post) (J156 := wX_measure_156 post own lv f_testCount f_actionCount f_tokenLimit f_occurrenceLimit f_atomCount f_allAtoms f_enteredSize f_nodeCount f_hasResult f_resultMode f_resultVerdict f_witnessSize f_witnessOwner (dd + 1)) (own := own) (lv := lv) (p := p) (F := xm_c a_follow N own lv p) (f_testCount := f_testCount) (f_actionCount := f_actionCount) (f_tokenLimit := f_tokenLimit) (f_occurrenceLimit := f_occurrenceLimit) (f_atomCount := f_atomCount) (f_allAtoms := f_allAtoms) (f_enteredSize := f_enteredSize) (f_nodeCount := f_nodeCount) (f_hasResult := f_hasResult) (f_resultMode := f_resultMode) (f_resultVerdict := f_resultVerdict) (f_witnessSize := f_witnessSize) (f_witnessOwner := f_witnessOwner) (by omega) hN hfN (fun x hx => if_neg (by omega)) this N 0 (Nat.zero_add N)
      rw [xf_0] at L
      exact L
theorem x_meas_70 {own : Int32} {ne : Nat → Int32} (hN : N ≤ 4) (hfN : f_atomCount = nI N)
    (K : post (f_testCount, f_actionCount, f_tokenLimit, f_occurrenceLimit, f_atomCount, f_allAtoms, f_enteredSize, f_nodeCount, f_hasResult, f_resultMode, f_resultVerdict, f_witnessSize, f_witnessOwner, a_size, a_list, a_begin, a_heightAfter, a_actionsAfter, a_entered, a_built, a_states, xm_c a_follow N own (xm_l a_follow a_accepting N own 9) 10, a_accepting, xm_n a_follow a_accepting ne N own 9, a_labelled, a_opAtoms, a_opFirst, a_opLast, a_nodeSet, a_nodeParent, a_nodeAtom, a_nodeAction, a_nodeDepth, a_witness)) :
    ∀ dd d, d + dd = 9 → wX_measure_70 post own f_testCount f_actionCount f_tokenLimit f_occurrenceLimit f_atomCount f_allAtoms f_enteredSize f_nodeCount f_hasResult f_resultMode f_resultVerdict f_witnessSize f_witnessOwner (dd + 1) (xm_l a_follow a_accepting N own d) (nI (d + 1)) a_size a_list a_begin a_heightAfter a_actionsAfter a_entered a_built a_states a_follow a_accepting (xm_n a_follow a_accepting ne N own d) a_labelled a_opAtoms a_opFirst a_opLast a_nodeSet a_nodeParent a_nodeAtom a_nodeAction a_nodeDepth a_witness := by
  intro dd
  induction dd with
  | zero =>
    intro d hd
    have hd : d = 9 := hd
    subst hd
    rw [wX_measure_70]
    refine br_t (by decide) ⟨11, ?_⟩
    have := x_meas_156 (own := own) (lv := xm_l a_follow a_accepting N own 9) (a_need := xm_n a_follow a_accepting ne N own 9) hN hfN K 10 0 rfl
    rw [show xm_c a_follow N own (xm_l a_follow a_accepting N own 9) 0 = a_follow from funext fun j => if_neg (by omega)] at this
    exact this
  | succ dd ih =>
    intro d hd
    rw [wX_measure_70]
    refine br_f (nI_ge (b := 10) (by omega) (by decide)) ⟨11, ?_⟩
    have L := x_meas_83 (post := post) (J70 := wX_measure_70 post own f_testCount f_actionCount f_tokenLimit f_occurrenceLimit f_atomCount f_allAtoms f_enteredSize f_nodeCount f_hasResult f_resultMode f_resultVerdict f_witnessSize f_witnessOwner (dd + 1)) (own := own) (lv := xm_l a_follow a_accepting N own d) (d := d + 1) (f_testCount := f_testCount) (f_actionCount := f_actionCount) (f_tokenLimit := f_tokenLimit) (f_occurrenceLimit := f_occurrenceLimit) (f_atomCount := f_atomCount) (f_allAtoms := f_allAtoms) (f_enteredSize := f_enteredSize) (f_nodeCount := f_nodeCount) (f_hasResult := f_hasResult) (f_resultMode := f_resultMode) (f_resultVerdict := f_resultVerdict) (f_witnessSize := f_witnessSize) (f_witnessOwner := f_witnessOwner) (a_need := xm_n a_follow a_accepting ne N own d) hN hfN (ih (d + 1) (by omega)) 10 0 rfl
    rw [show xm_G a_follow N own (xm_l a_follow a_accepting N own d) 0 = 0 from zk_0 fun j _ => by rw [decide_eq_false (Nat.not_lt_zero _)]; rfl, show xm_N a_follow N own (xm_l a_follow a_accepting N own d) (nI (d + 1)) (xm_n a_follow a_accepting ne N own d) 0 = xm_n a_follow a_accepting ne N own d from funext fun b => if_neg (by omega)] at L
    exact L
def xm_l0 (ac : Nat → Int32) (own : Int32) (p : Nat) : Int32 := zk_m (fun b => decide (b < p) && (bt own b && !decide (ac b = 0)))
def xm_n0 (ac ne : Nat → Int32) (own : Int32) (p : Nat) : Nat → Int32 := fun b => if b < p ∧ bt own b = true then (if ac b = 0 then -1 else 0) else ne b
theorem xm_l0s {ac : Nat → Int32} {own : Int32} {p : Nat} (hp : p < 32) : xm_l0 ac own (p + 1) = if bt own p = true ∧ ¬ ac p = 0 then xm_l0 ac own p ||| ((1 : Int32) <<< (nI p &&& 31)) else xm_l0 ac own p := by
  split
  · rename_i h
    unfold xm_l0
    rw [zk_one hp, zk_or]
    apply zk_ext
    intro j _
    by_cases e : j = p
    · subst e
      rw [h.1, decide_eq_false h.2, decide_eq_true (show j < j + 1 by omega), decide_eq_true (show j = j from rfl), Bool.or_true]; rfl
    · rw [decide_eq_false e, Bool.or_false]
      congr 1
      exact decide_eq_decide.mpr (by omega)
  · rename_i h
    apply zk_ext
    intro j _
    by_cases e : j = p
    · subst e
      have : (bt own j && !decide (ac j = 0)) = false := by
        cases z : bt own j
        · rfl
        · have z2 : ac j = 0 := Classical.byContradiction fun q => h ⟨z, q⟩
          rw [decide_eq_true z2]; rfl
      rw [this, Bool.and_false, Bool.and_false]
    · congr 1
      exact decide_eq_decide.mpr (by omega)
theorem xm_n0s {ac ne : Nat → Int32} {own : Int32} {p : Nat} : xm_n0 ac ne own (p + 1) = if bt own p = true then upd (xm_n0 ac ne own p) p (if ac p = 0 then -1 else 0) else xm_n0 ac ne own p := by
  funext b
  show (if b < p + 1 ∧ bt own b = true then (if ac b = 0 then -1 else 0) else ne b) = _
  by_cases h : bt own p = true
  · rw [if_pos h]
    show _ = (if b = p then (if ac p = 0 then -1 else 0) else (if b < p ∧ bt own b = true then (if ac b = 0 then -1 else 0) else ne b))
    by_cases e : b = p
    · rw [if_pos e, if_pos ⟨by omega, by rw [e]; exact h⟩, e]
    · rw [if_neg e]
      by_cases z : b < p ∧ bt own b = true
      · rw [if_pos z, if_pos ⟨by omega, z.2⟩]
      · rw [if_neg z, if_neg (fun w => z ⟨by omega, w.2⟩)]
  · rw [if_neg h]
    show _ = (if b < p ∧ bt own b = true then (if ac b = 0 then -1 else 0) else ne b)
    by_cases z : b < p ∧ bt own b = true
    · rw [if_pos z, if_pos ⟨by omega, z.2⟩]
    · refine (if_neg (fun w => z ⟨?_, w.2⟩)).trans (if_neg z).symm
      apply Classical.byContradiction
      intro q
      rw [show b = p by omega] at w
      exact h w.2
theorem xu_u (f : Nat → Int32) (k : Nat) (v w : Int32) : upd (upd f k v) k w = upd f k w := by
  funext j
  show (if j = k then w else (if j = k then v else f j)) = (if j = k then w else f j)
  by_cases e : j = k
  · rw [if_pos e, if_pos e]
  · rw [if_neg e, if_neg e, if_neg e]
theorem x_meas_12 {own : Int32} (hN : N ≤ 4) (hfN : f_atomCount = nI N)
    (K : post (f_testCount, f_actionCount, f_tokenLimit, f_occurrenceLimit, f_atomCount, f_allAtoms, f_enteredSize, f_nodeCount, f_hasResult, f_resultMode, f_resultVerdict, f_witnessSize, f_witnessOwner, a_size, a_list, a_begin, a_heightAfter, a_actionsAfter, a_entered, a_built, a_states, xm_c a_follow N own (xm_l a_follow a_accepting N own 9) 10, a_accepting, xm_n a_follow a_accepting a_need N own 9, a_labelled, a_opAtoms, a_opFirst, a_opLast, a_nodeSet, a_nodeParent, a_nodeAtom, a_nodeAction, a_nodeDepth, a_witness)) :
    ∀ dd p, p + dd = 10 → wX_measure_12 post own f_testCount f_actionCount f_tokenLimit f_occurrenceLimit f_atomCount f_allAtoms f_enteredSize f_nodeCount f_hasResult f_resultMode f_resultVerdict f_witnessSize f_witnessOwner (dd + 1) (xm_l0 a_accepting own p) (nI p) a_size a_list a_begin a_heightAfter a_actionsAfter a_entered a_built a_states a_follow a_accepting (xm_n0 a_accepting a_need own p) a_labelled a_opAtoms a_opFirst a_opLast a_nodeSet a_nodeParent a_nodeAtom a_nodeAction a_nodeDepth a_witness := by
  intro dd
  induction dd with
  | zero =>
    intro p hp
    have hp : p = 10 := hp
    subst hp
    rw [wX_measure_12]
    exact br_t (by decide) ⟨10, x_meas_70 (ne := a_need) hN hfN K 9 0 rfl⟩
  | succ dd ih =>
    intro p hp
    have := ih (p + 1) (by omega)
    rw [xm_l0s (show p < 32 by omega), xm_n0s] at this
    rw [wX_measure_12]
    refine br_f (nI_ge (b := 10) (by omega) (by decide)) (zk_br p (by omega) (fun h => nm_r (nI_1 p) ?_) (fun h => ⟨vp_in_nI (by omega) (by decide), nm_r (e' := upd (xm_n0 a_accepting a_need own p) p (-1)) (by rw [nI_clamp (by omega)]) ⟨vp_in_nI (by omega) (by decide), ?_⟩⟩))
    · have h' : ¬ bt own p = true := by rw [h]; decide
      rw [if_neg (fun w => h' w.1), if_neg h'] at this
      exact this
    · rw [nI_clamp (by omega)]
      rw [if_pos h] at this
      refine br_c (fun z => nm_r (nI_1 p) ?_) (fun z => ⟨vp_in_nI (by omega) (by decide), nm_r (e' := upd (xm_n0 a_accepting a_need own p) p 0) (xu_u _ _ _ _) (nm_e (nm_r (nI_1 p) ?_))⟩)
      · rw [if_neg (fun w => w.2 z), if_pos z] at this
        exact this
      · rw [if_pos ⟨h, z⟩, if_neg z] at this
        exact this
theorem x_measure (hs : s < 2) (hN : N ≤ 4) (hfN : f_atomCount = nI N)
    (K : post (f_testCount, f_actionCount, f_tokenLimit, f_occurrenceLimit, f_atomCount, f_allAtoms, f_enteredSize, f_nodeCount, f_hasResult, f_resultMode, f_resultVerdict, f_witnessSize, f_witnessOwner, a_size, a_list, a_begin, a_heightAfter, a_actionsAfter, a_entered, a_built, a_states, xm_c a_follow N (a_states s) (xm_l a_follow a_accepting N (a_states s) 9) 10, a_accepting, xm_n a_follow a_accepting a_need N (a_states s) 9, a_labelled, a_opAtoms, a_opFirst, a_opLast, a_nodeSet, a_nodeParent, a_nodeAtom, a_nodeAction, a_nodeDepth, a_witness)) :
    wpX_measure post (f_testCount, f_actionCount, f_tokenLimit, f_occurrenceLimit, f_atomCount, f_allAtoms, f_enteredSize, f_nodeCount, f_hasResult, f_resultMode, f_resultVerdict, f_witnessSize, f_witnessOwner, a_size, a_list, a_begin, a_heightAfter, a_actionsAfter, a_entered, a_built, a_states, a_follow, a_accepting, a_need, a_labelled, a_opAtoms, a_opFirst, a_opLast, a_nodeSet, a_nodeParent, a_nodeAtom, a_nodeAction, a_nodeDepth, a_witness) (nI s) := by
  refine ⟨vp_in_nI hs (by decide), nm_r (e' := a_states s) (by rw [nI_clamp (by omega)]) ⟨11, ?_⟩⟩
  have := x_meas_12 hN hfN K 10 0 rfl
  rw [show xm_l0 a_accepting (a_states s) 0 = 0 from zk_0 fun j _ => by rw [decide_eq_false (Nat.not_lt_zero _)]; rfl, show xm_n0 a_accepting a_need (a_states s) 0 = a_need from funext fun b => if_neg (by omega)] at this
  exact this
end
end
section
/-! ===== bits of the component's states ===== -/
def xi (s b : Nat) : Nat := if s = 0 then (if b ≤ 8 then b else 99) else (if b ≤ 7 then 7 - b else if b = 9 then 8 else 99)
def xb (s a : Nat) : Nat := if a = 8 then 8 + s else if s = 0 then a else 7 - a
theorem xb_8 (s : Nat) : xb s 8 = 8 + s := if_pos rfl
theorem xi_xb {s a : Nat} (hs : s < 2) (ha : a < 9) : xi s (xb s a) = a ∧ xb s a < 10 ∧ (a < 8 → xb s a < 8) := by
  unfold xb xi
  by_cases h8 : a = 8
  · rw [if_pos h8]
    by_cases h0 : s = 0
    · rw [if_pos h0, if_pos (by omega)]; omega
    · rw [if_neg h0, if_neg (by omega), if_pos (by omega)]; omega
  · rw [if_neg h8]
    by_cases h0 : s = 0
    · rw [if_pos h0, if_pos h0, if_pos (by omega)]; omega
    · rw [if_neg h0, if_neg h0, if_pos (by omega)]; omega
theorem xb_xi {s b : Nat} (hs : s < 2) (h : xi s b < 9) : xb s (xi s b) = b ∧ b < 10 := by
  unfold xi at h ⊢
  unfold xb
  by_cases h0 : s = 0
  · rw [if_pos h0] at h ⊢
    by_cases h1 : b ≤ 8
    · rw [if_pos h1] at h ⊢
      by_cases h8 : b = 8
      · rw [if_pos h8]; omega
      · rw [if_neg h8, if_pos h0]; omega
    · rw [if_neg h1] at h; omega
  · rw [if_neg h0] at h ⊢
    by_cases h1 : b ≤ 7
    · rw [if_pos h1, if_neg (by omega), if_neg h0]; omega
    · rw [if_neg h1] at h ⊢
      by_cases h9 : b = 9
      · rw [if_pos h9, if_pos rfl]; omega
      · rw [if_neg h9] at h; omega
theorem xb_inj {s a a' : Nat} (hs : s < 2) (ha : a < 9) (ha' : a' < 9) (e : xb s a = xb s a') : a = a' := by
  rw [← (xi_xb hs ha).1, e, (xi_xb hs ha').1]
/-- the mask of a set of states of a side -/
def xM (s : Nat) (f : Nat → Bool) : Int32 := zk_m (fun b => decide (xi s b < 9) && f (xi s b))
theorem xM_bt {s : Nat} {f : Nat → Bool} {j : Nat} (hj : j < 32) : bt (xM s f) j = (decide (xi s j < 9) && f (xi s j)) := zk_bt _ hj
theorem xM_at {s a : Nat} {f : Nat → Bool} (hs : s < 2) (ha : a < 9) : bt (xM s f) (xb s a) = f a := by
  have := xi_xb hs ha
  rw [xM_bt (by omega), this.1, decide_eq_true ha]; rfl
theorem xM_ext {s : Nat} {f g : Nat → Bool} (h : ∀ a, a < 9 → f a = g a) : xM s f = xM s g := by
  apply zk_ext
  intro j _
  by_cases z : xi s j < 9
  · rw [h _ z]
  · rw [decide_eq_false z]; rfl
theorem xM_or (s : Nat) (f g : Nat → Bool) : xM s f ||| xM s g = xM s (fun a => f a || g a) := by
  unfold xM
  rw [zk_or]
  apply zk_ext
  intro j _
  cases decide (xi s j < 9) <;> rfl
theorem xM_and (s : Nat) (f g : Nat → Bool) : xM s f &&& xM s g = xM s (fun a => f a && g a) := by
  unfold xM
  rw [zk_and]
  apply zk_ext
  intro j _
  cases decide (xi s j < 9) <;> rfl
theorem xM_0 {s : Nat} {f : Nat → Bool} (h : ∀ a, a < 9 → f a = false) : xM s f = 0 := by
  apply zk_0
  intro j _
  by_cases z : xi s j < 9
  · rw [h _ z, Bool.and_false]
  · rw [decide_eq_false z]; rfl
theorem xM_c (s : Nat) (c : Bool) (f : Nat → Bool) : xM s (fun q => c && f q) = if c = true then xM s f else 0 := by
  cases c
  · rw [if_neg (by decide)]; exact xM_0 fun _ _ => rfl
  · rw [if_pos rfl]; rfl
theorem xM_one {s a : Nat} (hs : s < 2) (ha : a < 9) : (1 : Int32) <<< (nI (xb s a) &&& 31) = xM s (fun q => decide (q = a)) := by
  have h := xi_xb hs ha
  rw [zk_one (by omega)]
  apply zk_ext
  intro j _
  apply bo_iff
  rw [Bool.and_eq_true, decide_eq_true_eq, decide_eq_true_eq, decide_eq_true_eq]
  constructor
  · rintro rfl
    exact ⟨by omega, h.1⟩
  · rintro ⟨h1, h2⟩
    have := (xb_xi hs h1).1
    rw [h2] at this
    exact this.symm
/-! ===== the tables of a side ===== -/
def at_nd (o : Od) (N d a : Nat) (v : Int32) : Prop := (au_lv o N d a = false ∧ v = -1) ∨ (∃ e, e ≤ d ∧ v = nI e ∧ au_lv o N e a = true ∧ ∀ j, j < e → au_lv o N j a = false)
def at_ok (N s : Nat) (o : Od) (lb : Nat → Nat) (c : Nat) (st fo ac ne la : Nat → Int32) : Prop :=
  st s = xM s (fun a => decide (a < c) || decide (a = 8)) ∧
  (∀ a, (a < c ∨ a = 8) → (∀ x, x < N → fo (xb s a * 4 + x) = xM s (fun q => au_nx o a x q && au_live o N q)) ∧ ac (xb s a) = zk_m (fun x => decide (x < N) && au_acc o a x) ∧ at_nd o N 9 a (ne (xb s a))) ∧
  (∀ k a, k < 3 → a < c → bt (la k) (xb s a) = decide (lb a = k))
def at_fr (s c : Nat) (st fo ac ne la st' fo' ac' ne' la' : Nat → Int32) : Prop :=
  (∀ j, j ≠ s → st' j = st j) ∧ ∀ b, b < 10 → ¬ (xi s b < c ∨ xi s b = 8) → (∀ x, x < 4 → fo' (b * 4 + x) = fo (b * 4 + x)) ∧ ac' b = ac b ∧ ne' b = ne b ∧ ∀ k, k < 3 → bt (la' k) b = bt (la k) b
theorem at_dis {s t a c c' : Nat} (hs : s < 2) (ht : t < 2) (hst : t ≠ s) (h8 : c + c' ≤ 8) (ha : a < c' ∨ a = 8) : ¬ (xi s (xb t a) < c ∨ xi s (xb t a) = 8) := by
  unfold xb xi
  by_cases z : a = 8
  · rw [if_pos z]
    by_cases h0 : s = 0
    · rw [if_pos h0, if_neg (by omega)]; omega
    · rw [if_neg h0, if_neg (by omega), if_neg (by omega)]; omega
  · rw [if_neg z]
    by_cases h0 : s = 0
    · rw [if_neg (show ¬ t = 0 by omega), if_pos h0, if_pos (by omega)]; omega
    · rw [if_pos (show t = 0 by omega), if_neg h0, if_pos (by omega)]; omega
theorem at_keep {N s t c c' : Nat} {o : Od} {lb : Nat → Nat} {st fo ac ne la st' fo' ac' ne' la' : Nat → Int32} (hs : s < 2) (ht : t < 2) (hst : t ≠ s) (h8 : c + c' ≤ 8) (hN : N ≤ 4)
    (F : at_fr s c st fo ac ne la st' fo' ac' ne' la') (H : at_ok N t o lb c' st fo ac ne la) : at_ok N t o lb c' st' fo' ac' ne' la' := by
  obtain ⟨h1, h2, h3⟩ := H
  refine ⟨by rw [F.1 t hst]; exact h1, fun a ha => ?_, fun k a hk ha => ?_⟩
  · have hb := xi_xb ht (show a < 9 by omega)
    obtain ⟨f1, f2, f3, _⟩ := F.2 (xb t a) hb.2.1 (at_dis hs ht hst h8 ha)
    obtain ⟨g1, g2, g3⟩ := h2 a ha
    exact ⟨fun x hx => by rw [f1 x (by omega)]; exact g1 x hx, by rw [f2]; exact g2, by rw [f3]; exact g3⟩
  · have hb := xi_xb ht (show a < 9 by omega)
    obtain ⟨_, _, _, f4⟩ := F.2 (xb t a) hb.2.1 (at_dis hs ht hst h8 (Or.inl ha))
    rw [f4 k hk]
    exact h3 k a hk ha
/-! ===== the build, between two tokens ===== -/
def xv_S (s N : Nat) (o : Od) (k : Nat) (oA oF oL : Nat → Int32) : Prop :=
  oA k = zk_m (fun x => decide (x < N) && od_on o x) ∧ ∀ x, x < N → oF (k * 4 + x) = xM s (od_fi o x) ∧ oL (k * 4 + x) = xM s (od_la o x)
def xv_I (N s : Nat) (tk : Nat → Nat) (c i : Nat) (st0 fo0 ac0 la0 st fo ac la oA oF oL : Nat → Int32) : Prop :=
  st s = xM s (fun a => decide (a < tk_ac tk i) || decide (a = 8)) ∧
  (∀ a x, a < tk_ac tk i → x < N → fo (xb s a * 4 + x) = xM s (fun q => ex_b (tk_hg tk i) (fun k => od_fo (tk_st tk i k) a x q))) ∧
  (∀ a, a < tk_ac tk i → ac (xb s a) = 0) ∧
  (∀ k a, k < 3 → a < tk_ac tk i → bt (la k) (xb s a) = decide (tk_lb tk i a = k)) ∧
  (∀ k, k < tk_hg tk i → xv_S s N (tk_st tk i k) k oA oF oL) ∧
  (∀ b, b < 10 → ¬ (xi s b < c ∨ xi s b = 8) → (∀ x, x < 4 → fo (b * 4 + x) = fo0 (b * 4 + x)) ∧ ac b = ac0 b ∧ ∀ k, k < 3 → bt (la k) b = bt (la0 k) b) ∧
  (∀ j, j ≠ s → st j = st0 j)
section
variable {N s : Nat} {tk : Nat → Nat} {c i : Nat} {st0 fo0 ac0 la0 st fo ac la oA oF oL fo' oA' oF' oL' : Nat → Int32}
/-- an operator's step: one slot is new, follow sets may grow -/
theorem xv_op (H : xv_I N s tk c i st0 fo0 ac0 la0 st fo ac la oA oF oL) (hn : ¬ 16 ≤ tk i)
    (hf : ∀ a x, a < tk_ac tk i → x < N → fo' (xb s a * 4 + x) = xM s (fun q => ex_b (tk_P tk i) (fun k => od_fo (tk_st tk i k) a x q) || od_fo (tk_st tk (i + 1) (tk_P tk i)) a x q))
    (hfr : ∀ b, b < 10 → ¬ (xi s b < c ∨ xi s b = 8) → ∀ x, x < 4 → fo' (b * 4 + x) = fo (b * 4 + x))
    (hk : ∀ k, k < tk_P tk i → oA' k = oA k ∧ ∀ x, x < N → oF' (k * 4 + x) = oF (k * 4 + x) ∧ oL' (k * 4 + x) = oL (k * 4 + x))
    (hP : xv_S s N (tk_st tk (i + 1) (tk_P tk i)) (tk_P tk i) oA' oF' oL') :
    xv_I N s tk c (i + 1) st0 fo0 ac0 la0 st fo' ac la oA' oF' oL' := by
  obtain ⟨h1, h2, h3, h4, h5, h6, h7⟩ := H
  have elb : tk_lb tk (i + 1) = tk_lb tk i := funext fun a => if_neg (fun w => hn w.1)
  unfold xv_I
  rw [tk_ac_n hn, elb, tk_hg_s]
  refine ⟨h1, fun a x ha hx => ?_, h3, h4, fun k hk' => ?_, fun b hb ho => ?_, h7⟩
  · rw [hf a x ha hx]
    apply xM_ext
    intro q _
    rw [ex_s]
    congr 1
    exact ex_c fun k hk' => by rw [tk_st_old (by omega)]
  · by_cases e : k = tk_P tk i
    · rw [e]; exact hP
    · obtain ⟨a1, a2⟩ := hk k (by omega)
      obtain ⟨b1, b2⟩ := h5 k (by unfold tk_P at *; omega)
      rw [tk_st_old e]
      exact ⟨by rw [a1]; exact b1, fun x hx => ⟨by rw [(a2 x hx).1]; exact (b2 x hx).1, by rw [(a2 x hx).2]; exact (b2 x hx).2⟩⟩
  · obtain ⟨g1, g2, g3⟩ := h6 b hb ho
    exact ⟨fun x hx => by rw [hfr b hb ho x hx]; exact g1 x hx, g2, g3⟩
/-- the table behind a link, at an own state -/
theorem xv_link {f t : Nat} {at_ : Int32} {p q : Od} (hs : s < 2) (h8 : tk_ac tk i ≤ 8) (hN : N ≤ 4) (H2 : ∀ a x, a < tk_ac tk i → x < N → fo (xb s a * 4 + x) = xM s (fun r => ex_b (tk_hg tk i) (fun k => od_fo (tk_st tk i k) a x r)))
    (hp : xv_S s N p f oA oF oL) (hq : xv_S s N q t oA oF oL) {a x : Nat} (ha : a < tk_ac tk i) (hx : x < N) :
    xk_x fo oF oL at_ f t N (xb s a * 4 + x) = xM s (fun r => ex_b (tk_hg tk i) (fun k => od_fo (tk_st tk i k) a x r) || ((bt at_ x && od_la p x a) && od_fi q x r)) := by
  have hb := xi_xb hs (show a < 9 by omega)
  have e1 : (xb s a * 4 + x) % 4 = x := by omega
  have e2 : (xb s a * 4 + x) / 4 = xb s a := by omega
  have hb8 := hb.2.2 (by omega)
  show (if (xb s a * 4 + x) % 4 < N ∧ (xb s a * 4 + x) / 4 < 8 ∧ bt at_ ((xb s a * 4 + x) % 4) = true ∧ bt (oL (f * 4 + (xb s a * 4 + x) % 4)) ((xb s a * 4 + x) / 4) = true then fo (xb s a * 4 + x) ||| oF (t * 4 + (xb s a * 4 + x) % 4) else fo (xb s a * 4 + x)) = _
  rw [e1, e2, (hp.2 x hx).2, xM_at hs (show a < 9 by omega), (hq.2 x hx).1, H2 a x ha hx, ← xM_or, xM_c]
  by_cases z : bt at_ x = true ∧ od_la p x a = true
  · rw [if_pos ⟨hx, hb8, z⟩, if_pos (by rw [z.1, z.2]; rfl)]
  · rw [if_neg (fun w => z w.2.2), if_neg (fun w => z (by rw [Bool.and_eq_true] at w; exact w)), Int32.or_zero]
theorem xv_linkfr {f t : Nat} {at_ : Int32} {p : Od} (hs : s < 2) (hc : tk_ac tk i ≤ c) (hB : od_B (tk_ac tk i) p) (hp : xv_S s N p f oA oF oL) {b : Nat} (hb : b < 10) (ho : ¬ (xi s b < c ∨ xi s b = 8)) {x : Nat} (hx : x < 4) :
    xk_x fo oF oL at_ f t N (b * 4 + x) = fo (b * 4 + x) := by
  have e1 : (b * 4 + x) % 4 = x := by omega
  have e2 : (b * 4 + x) / 4 = b := by omega
  apply if_neg
  rw [e1, e2]
  rintro ⟨h1, h2, h3, h4⟩
  rw [(hp.2 x h1).2, xM_bt (by omega), Bool.and_eq_true] at h4
  have := hB.2.1 x _ h4.2
  omega
end
end
section
/-! ===== slots of the component under the operators ===== -/
def zA (N : Nat) (f : Nat → Bool) : Int32 := zk_m (fun x => decide (x < N) && f x)
theorem zA_bt {N : Nat} {f : Nat → Bool} {x : Nat} (hx : x < 32) : bt (zA N f) x = (decide (x < N) && f x) := zk_bt _ hx
theorem zA_at {N : Nat} {f : Nat → Bool} {x : Nat} (hN : N ≤ 4) (hx : x < N) : bt (zA N f) x = f x := by
  rw [zA_bt (by omega), decide_eq_true hx]; rfl
theorem zA_and (N : Nat) (f g : Nat → Bool) : zA N f &&& zA N g = zA N (fun x => f x && g x) := by
  unfold zA
  rw [zk_and]
  apply zk_ext
  intro j _
  cases decide (j < N) <;> rfl
theorem zA_or (N : Nat) (f g : Nat → Bool) : zA N f ||| zA N g = zA N (fun x => f x || g x) := by
  unfold zA
  rw [zk_or]
  apply zk_ext
  intro j _
  cases decide (j < N) <;> rfl
theorem zA_not (N : Nat) (f : Nat → Bool) : zA N (fun _ => true) &&& (zA N f ^^^ (-1)) = zA N (fun x => !f x) := by
  apply zk_of
  intro j hj
  rw [b_and, zk_not _ hj, zA_bt hj, zA_bt hj]
  cases decide (j < N) <;> rfl
theorem zA_ext {N : Nat} {f g : Nat → Bool} (h : ∀ x, x < N → f x = g x) : zA N f = zA N g := by
  apply zk_ext
  intro j _
  by_cases z : j < N
  · rw [h j z]
  · rw [decide_eq_false z]; rfl
section
variable {N s P : Nat} {p q r : Od} {oA oF oL : Nat → Int32}
theorem xS_not (sp : xv_S s N p P oA oF oL) : xv_S s N (od_not p) P (upd oA P (zA N (fun _ => true) &&& (oA P ^^^ (-1)))) oF oL := by
  refine ⟨?_, sp.2⟩
  rw [yu_s, sp.1]
  exact zA_not N (od_on p)
theorem xS_star (sp : xv_S s N p P oA oF oL) : xv_S s N (od_star p) P (upd oA P (zA N (fun _ => true))) oF oL := by
  refine ⟨?_, sp.2⟩
  rw [yu_s]; rfl
theorem xS_seq (hN : N ≤ 4) (sp : xv_S s N p P oA oF oL) (sq : xv_S s N q (P + 1) oA oF oL) :
    xv_S s N (od_seq p q) P (upd oA P (oA P &&& oA (P + 1))) (xf_m P N (xq_F (oA P) oF) oF) (xf_m P N (xq_L (oA (P + 1)) oL) oL) := by
  refine ⟨?_, fun x hx => ?_⟩
  · rw [yu_s, sp.1, sq.1]
    exact zA_and N (od_on p) (od_on q)
  · rw [xf_in hx (by omega), xf_in hx (by omega)]
    unfold xq_F xq_L
    rw [show (P * 4 + x) % 4 = x by omega, show P * 4 + x + 4 = (P + 1) * 4 + x by omega, (sp.2 x hx).1, (sq.2 x hx).1, (sp.2 x hx).2, (sq.2 x hx).2, show bt (oA P) x = od_on p x by rw [sp.1]; exact zA_at hN hx, show bt (oA (P + 1)) x = od_on q x by rw [sq.1]; exact zA_at hN hx]
    constructor
    · show _ = xM s (fun b => od_fi p x b || (od_on p x && od_fi q x b))
      rw [← xM_or, xM_c]
      split
      · rfl
      · rw [Int32.or_zero]
    · show _ = xM s (fun a => od_la q x a || (od_la p x a && od_on q x))
      have e : (fun a => od_la q x a || (od_la p x a && od_on q x)) = (fun a => (od_on q x && od_la p x a) || od_la q x a) := by
        funext a
        rw [Bool.or_comm, Bool.and_comm]
      rw [e, ← xM_or, xM_c]
theorem xS_plus (sp : xv_S s N p P oA oF oL) (sq : xv_S s N q (P + 1) oA oF oL) (hN : N ≤ 4) :
    xv_S s N (od_plus p q) P (upd oA P (oA P ||| oA (P + 1))) (xf_m P N (xp_F oF) oF) (xf_m P N (xp_F oL) oL) := by
  refine ⟨?_, fun x hx => ?_⟩
  · rw [yu_s, sp.1, sq.1]
    exact zA_or N (od_on p) (od_on q)
  · rw [xf_in hx (by omega), xf_in hx (by omega)]
    unfold xp_F
    rw [show P * 4 + x + 4 = (P + 1) * 4 + x by omega, (sp.2 x hx).1, (sq.2 x hx).1, (sp.2 x hx).2, (sq.2 x hx).2, xM_or, xM_or]
    exact ⟨rfl, rfl⟩
theorem xS_if (sp : xv_S s N p P oA oF oL) (sq : xv_S s N q (P + 1) oA oF oL) (sr : xv_S s N r (P + 2) oA oF oL) (hN : N ≤ 4) :
    xv_S s N (od_if p q r) P (upd oA P ((oA P &&& oA (P + 1)) ||| ((zA N (fun _ => true) &&& (oA P ^^^ (-1))) &&& oA (P + 2)))) (xf_m P N (xg_F (oA P) oF) oF) (xf_m P N (xg_L oL) oL) := by
  refine ⟨?_, fun x hx => ?_⟩
  · rw [yu_s, sp.1, sq.1, sr.1]
    have e1 := zA_not N (od_on p)
    have e2 := zA_and N (od_on p) (od_on q)
    have e3 := zA_and N (fun x => !od_on p x) (od_on r)
    have e4 := zA_or N (fun x => od_on p x && od_on q x) (fun x => (!od_on p x) && od_on r x)
    unfold zA at e1 e2 e3 e4 ⊢
    rw [e1, e2, e3, e4]
    apply zk_ext
    intro j _
    show (decide (j < N) && ((od_on p j && od_on q j) || ((!od_on p j) && od_on r j))) = (decide (j < N) && (if od_on p j = true then od_on q j else od_on r j))
    cases od_on p j
    · rfl
    · cases od_on q j <;> rfl
  · rw [xf_in hx (by omega), xf_in hx (by omega)]
    unfold xg_F xg_L
    rw [show (P * 4 + x) % 4 = x by omega, show P * 4 + x + 4 = (P + 1) * 4 + x by omega, show P * 4 + x + 8 = (P + 2) * 4 + x by omega, (sq.2 x hx).1, (sr.2 x hx).1, (sq.2 x hx).2, (sr.2 x hx).2, show bt (oA P) x = od_on p x by rw [sp.1]; exact zA_at hN hx, xM_or]
    refine ⟨?_, rfl⟩
    show _ = xM s (fun b => if od_on p x = true then od_fi q x b else od_fi r x b)
    by_cases e : od_on p x = true
    · rw [if_pos e]; exact xM_ext fun b _ => (if_pos e).symm
    · rw [if_neg e]; exact xM_ext fun b _ => (if_neg e).symm
theorem xS_while (sp : xv_S s N p P oA oF oL) (sq : xv_S s N q (P + 1) oA oF oL) (hN : N ≤ 4) :
    xv_S s N (od_while p q) P (upd oA P (zA N (fun _ => true) &&& (oA P ^^^ (-1)))) (xf_m P N (xw_F (oA P) oF) oF) (xf_m P N (xw_L (oA P) oL) oL) := by
  refine ⟨?_, fun x hx => ?_⟩
  · rw [yu_s, sp.1]
    exact zA_not N (od_on p)
  · rw [xf_in hx (by omega), xf_in hx (by omega)]
    unfold xw_F xw_L
    rw [show (P * 4 + x) % 4 = x by omega, show P * 4 + x + 4 = (P + 1) * 4 + x by omega, (sq.2 x hx).1, (sq.2 x hx).2, show bt (oA P) x = od_on p x by rw [sp.1]; exact zA_at hN hx]
    constructor
    · show _ = xM s (fun b => od_on p x && od_fi q x b)
      rw [xM_c]
    · show _ = xM s (fun a => od_la q x a && !od_on p x)
      have e : (fun a => od_la q x a && !od_on p x) = (fun a => (!od_on p x) && od_la q x a) := by
        funext a
        rw [Bool.and_comm]
      rw [e, xM_c]
      cases od_on p x <;> rfl
theorem xS_leaf {c k : Nat} (hc : ¬ 16 ≤ c) (hN : N ≤ 4) : xv_S s N (od_leaf c k) P (upd oA P (zA N (od_on (od_leaf c k)))) (xf_m P 4 (fun _ => 0) oF) (xf_m P 4 (fun _ => 0) oL) := by
  refine ⟨yu_s _ _ _, fun x hx => ?_⟩
  rw [xf_in (by omega) (by omega), xf_in (by omega) (by omega)]
  constructor
  · refine (xM_0 fun b _ => ?_).symm
    show (decide (16 ≤ c) && decide (b = k)) = false
    rw [decide_eq_false hc]; rfl
  · refine (xM_0 fun b _ => ?_).symm
    show (decide (16 ≤ c) && decide (b = k)) = false
    rw [decide_eq_false hc]; rfl
theorem xS_act {c k : Nat} (hs : s < 2) (hc : 16 ≤ c) (hk : k < 8) (hN : N ≤ 4) : xv_S s N (od_leaf c k) P (upd oA P 0) (xf_m P N (fun _ => (1 : Int32) <<< (nI (xb s k) &&& 31)) oF) (xf_m P N (fun _ => (1 : Int32) <<< (nI (xb s k) &&& 31)) oL) := by
  refine ⟨?_, fun x hx => ?_⟩
  · rw [yu_s]
    refine (zk_0 fun j _ => ?_).symm
    show (decide (j < N) && (decide (c = 1) || (decide (8 ≤ c) && (decide (c < 16) && j.testBit (c - 8))))) = false
    rw [decide_eq_false (show ¬ c = 1 by omega), decide_eq_false (show ¬ c < 16 by omega), Bool.false_and, Bool.and_false, Bool.or_false, Bool.and_false]
  · rw [xf_in hx (by omega), xf_in hx (by omega), xM_one hs (by omega)]
    constructor
    · apply xM_ext
      intro b _
      show _ = (decide (16 ≤ c) && decide (b = k))
      rw [decide_eq_true hc]; rfl
    · apply xM_ext
      intro b _
      show _ = (decide (16 ≤ c) && decide (b = k))
      rw [decide_eq_true hc]; rfl
end
/-! small methods -/
section
variable {N s c : Nat}
variable {f_testCount f_actionCount f_tokenLimit f_occurrenceLimit f_atomCount f_allAtoms f_enteredSize f_nodeCount f_hasResult f_resultMode f_resultVerdict f_witnessSize f_witnessOwner : Int32} {a_size a_list a_begin a_heightAfter a_actionsAfter a_entered a_built a_states a_follow a_accepting a_need a_labelled a_opAtoms a_opFirst a_opLast a_nodeSet a_nodeParent a_nodeAtom a_nodeAction a_nodeDepth a_witness : Nat → Int32}
theorem x_arity {post : Int32 → Prop} (hc : c < 2 ^ 31) (h : post (nI (tk_ar c))) : wpX_arity post (f_testCount, f_actionCount, f_tokenLimit, f_occurrenceLimit, f_atomCount, f_allAtoms, f_enteredSize, f_nodeCount, f_hasResult, f_resultMode, f_resultVerdict, f_witnessSize, f_witnessOwner, a_size, a_list, a_begin, a_heightAfter, a_actionsAfter, a_entered, a_built, a_states, a_follow, a_accepting, a_need, a_labelled, a_opAtoms, a_opFirst, a_opLast, a_nodeSet, a_nodeParent, a_nodeAtom, a_nodeAction, a_nodeDepth, a_witness) (nI c) := by
  unfold wpX_arity
  dsimp only
  have h0 : (c < 2 ∨ 7 < c) → post 0 := by
    intro z
    have : tk_ar c = 0 := by
      unfold tk_ar
      rw [if_neg (by omega), if_neg (by omega), if_neg (by omega)]
    rw [this] at h
    exact h
  refine pk_lt c 2 (fun z => h0 (Or.inl z)) (fun z2 => pk_lt 7 c (fun z => h0 (Or.inr z)) (fun z7 => ?_))
  refine pk_eq c 2 (fun e => ?_) (fun e2 => ?_)
  · subst e; exact h
  refine pk_eq c 3 (fun e => ?_) (fun e3 => ?_)
  · subst e; exact h
  refine pk_eq c 4 (fun e => ?_) (fun e4 => ?_)
  · subst e; exact h
  refine pk_eq c 5 (fun e => ?_) (fun e5 => ?_)
  · subst e; exact h
  refine pk_eq c 6 (fun e => ?_) (fun e6 => ?_)
  · subst e; exact h
  refine pk_eq c 7 (fun e => ?_) (fun e7 => ?_)
  · subst e; exact h
  omega
theorem bt_nI {x j : Nat} (hj : j < 32) : bt (nI x) j = x.testBit j := by
  show (BitVec.ofNat 32 x).getLsbD j = _
  rw [BitVec.getLsbD_ofNat, decide_eq_true hj]; rfl
def xa_l (c x : Nat) : Int32 := zk_m (fun y => decide (y < x) && y.testBit (c - 8))
theorem xa_ls {c x : Nat} (hx : x < 32) : xa_l c (x + 1) = if x.testBit (c - 8) = true then xa_l c x ||| ((1 : Int32) <<< (nI x &&& 31)) else xa_l c x := by
  split
  · rename_i h
    unfold xa_l
    rw [zk_one hx, zk_or]
    apply zk_ext
    intro j _
    by_cases e : j = x
    · subst e
      rw [h, decide_eq_true (show j < j + 1 by omega), decide_eq_true (show j = j from rfl), Bool.or_true]; rfl
    · rw [decide_eq_false e, Bool.or_false]
      congr 1
      exact decide_eq_decide.mpr (by omega)
  · rename_i h
    apply zk_ext
    intro j _
    by_cases e : j = x
    · subst e
      rw [ts_nt' h, Bool.and_false, Bool.and_false]
    · congr 1
      exact decide_eq_decide.mpr (by omega)
theorem x_leaf_lp {post : Int32 → Prop} (h8 : 8 ≤ c) (h16 : c < 16) (hN : N ≤ 4) (hfN : f_atomCount = nI N) (K : post (xa_l c N)) :
    ∀ dd x, x + dd = N → wX_leafAtoms_20 post (nI c) f_testCount f_actionCount f_tokenLimit f_occurrenceLimit f_atomCount f_allAtoms f_enteredSize f_nodeCount f_hasResult f_resultMode f_resultVerdict f_witnessSize f_witnessOwner a_size a_list a_begin a_heightAfter a_actionsAfter a_entered a_built a_states a_follow a_accepting a_need a_labelled a_opAtoms a_opFirst a_opLast a_nodeSet a_nodeParent a_nodeAtom a_nodeAction a_nodeDepth a_witness (dd + 1) (xa_l c x) (nI x) := by
  subst hfN
  intro dd
  induction dd with
  | zero =>
    intro x hx
    have hx : x = N := hx
    subst hx
    rw [wX_leafAtoms_20]
    exact br_t (nI_le (Nat.le_refl _) (by omega)) K
  | succ dd ih =>
    intro x hx
    have := ih (x + 1) (by omega)
    rw [xa_ls (show x < 32 by omega)] at this
    rw [wX_leafAtoms_20]
    dsimp only
    rw [show nI c - 8 = nI (c - 8) from pk_sub (b := 8) h8]
    refine br_f (nI_ge (by omega) (by omega)) (zk_br (c - 8) (by omega) (fun h => nm_r (nI_1 x) ?_) (fun h => nm_e (nm_r (nI_1 x) ?_)))
    · rw [bt_nI (by omega)] at h
      rw [if_neg (by rw [h]; decide)] at this; exact this
    · rw [bt_nI (by omega)] at h
      rw [if_pos h] at this; exact this
theorem x_leaf {post : Int32 → Prop} {k : Nat} (hc : c < 2 ∨ (8 ≤ c ∧ c < 16)) (hN : N ≤ 4) (hfN : f_atomCount = nI N) (hall : f_allAtoms = zA N (fun _ => true)) (K : post (zA N (od_on (od_leaf c k)))) :
    wpX_leafAtoms post (f_testCount, f_actionCount, f_tokenLimit, f_occurrenceLimit, f_atomCount, f_allAtoms, f_enteredSize, f_nodeCount, f_hasResult, f_resultMode, f_resultVerdict, f_witnessSize, f_witnessOwner, a_size, a_list, a_begin, a_heightAfter, a_actionsAfter, a_entered, a_built, a_states, a_follow, a_accepting, a_need, a_labelled, a_opAtoms, a_opFirst, a_opLast, a_nodeSet, a_nodeParent, a_nodeAtom, a_nodeAction, a_nodeDepth, a_witness) (nI c) := by
  unfold wpX_leafAtoms
  dsimp only
  refine pk_eq c 0 (fun e => ?_) (fun e0 => pk_eq c 1 (fun e => ?_) (fun e1 => ⟨N + 1, ?_⟩))
  · subst e
    have : zA N (od_on (od_leaf 0 k)) = 0 := zk_0 fun j _ => by
      show (decide (j < N) && false) = false
      rw [Bool.and_false]
    rw [this] at K
    exact K
  · subst e
    rw [hall]
    have : zA N (od_on (od_leaf 1 k)) = zA N (fun _ => true) := rfl
    rw [this] at K
    exact K
  · have : zA N (od_on (od_leaf c k)) = xa_l c N := by
      apply zA_ext
      intro x _
      show (decide (c = 1) || (decide (8 ≤ c) && (decide (c < 16) && x.testBit (c - 8)))) = _
      rw [decide_eq_false e1, decide_eq_true (show 8 ≤ c by omega), decide_eq_true (show c < 16 by omega)]; rfl
    rw [this] at K
    have L := x_leaf_lp (f_testCount := f_testCount) (f_actionCount := f_actionCount) (f_tokenLimit := f_tokenLimit) (f_occurrenceLimit := f_occurrenceLimit) (f_atomCount := f_atomCount) (f_allAtoms := f_allAtoms) (f_enteredSize := f_enteredSize) (f_nodeCount := f_nodeCount) (f_hasResult := f_hasResult) (f_resultMode := f_resultMode) (f_resultVerdict := f_resultVerdict) (f_witnessSize := f_witnessSize) (f_witnessOwner := f_witnessOwner) (a_size := a_size) (a_list := a_list) (a_begin := a_begin) (a_heightAfter := a_heightAfter) (a_actionsAfter := a_actionsAfter) (a_entered := a_entered) (a_built := a_built) (a_states := a_states) (a_follow := a_follow) (a_accepting := a_accepting) (a_need := a_need) (a_labelled := a_labelled) (a_opAtoms := a_opAtoms) (a_opFirst := a_opFirst) (a_opLast := a_opLast) (a_nodeSet := a_nodeSet) (a_nodeParent := a_nodeParent) (a_nodeAtom := a_nodeAtom) (a_nodeAction := a_nodeAction) (a_nodeDepth := a_nodeDepth) (a_witness := a_witness) (c := c) (by omega) (by omega) hN hfN K N 0 (Nat.zero_add N)
    rw [show xa_l c 0 = 0 from zk_0 fun j _ => by rw [decide_eq_false (Nat.not_lt_zero _)]; rfl] at L
    exact L
end
end
section
section
variable {post : SX → Prop} {N s T A n : Nat} {tk : Nat → Nat} {st0 fo0 ac0 la0 : Nat → Int32}
variable {f_testCount f_actionCount f_tokenLimit f_occurrenceLimit f_atomCount f_allAtoms f_enteredSize f_nodeCount f_hasResult f_resultMode f_resultVerdict f_witnessSize f_witnessOwner : Int32} {a_size a_list a_begin a_heightAfter a_actionsAfter a_entered a_built a_states a_follow a_accepting a_need a_labelled a_opAtoms a_opFirst a_opLast a_nodeSet a_nodeParent a_nodeAtom a_nodeAction a_nodeDepth a_witness : Nat → Int32}
/-- a lawful side of the component -/
def xo_ok (T A s : Nat) (tk : Nat → Nat) (n : Nat) (a_list a_actionsAfter : Nat → Int32) : Prop :=
  s < 2 ∧ T ≤ 2 ∧ A ≤ 3 ∧ n ≤ 32 ∧ (∀ i, i < n → a_list (32 * s + i) = nI (tk i)) ∧ (∀ i, i < n → a_actionsAfter (32 * s + i) = nI (tk_ac tk (i + 1))) ∧ tk_ok T A tk n ∧ tk_ac tk n ≤ 8
theorem xi32 (s i : Nat) : nI s * 32 + nI i = nI (32 * s + i) := by
  show nI s * nI 32 + nI i = _
  rw [pk_mul, nI_add, Nat.mul_comm]
/-- the state of occurrence a -/
theorem xv_q {a : Nat} (hs : s < 2) (ha : a < 8) : xb s a = if s = 0 then a else 7 - a := by
  unfold xb
  rw [if_neg (by omega)]
theorem xv_act {i : Nat} (hs : s < 2) (h8 : tk_ac tk n ≤ 8) (hi : i < n) (h16 : 16 ≤ tk i) (h19 : tk i < 19) (hN : N ≤ 4) (hP : tk_P tk i = tk_hg tk i)
    (H : xv_I N s tk (tk_ac tk n) i st0 fo0 ac0 la0 a_states a_follow a_accepting a_labelled a_opAtoms a_opFirst a_opLast) :
    xv_I N s tk (tk_ac tk n) (i + 1) st0 fo0 ac0 la0 (upd a_states s (a_states s ||| ((1 : Int32) <<< (nI (xb s (tk_ac tk i)) &&& 31)))) (xf_m (xb s (tk_ac tk i)) 4 (fun _ => 0) a_follow) (upd a_accepting (xb s (tk_ac tk i)) 0)
      (upd (xl_w ((1 : Int32) <<< (nI (xb s (tk_ac tk i)) &&& 31)) 3 a_labelled) (tk i - 16) (xl_w ((1 : Int32) <<< (nI (xb s (tk_ac tk i)) &&& 31)) 3 a_labelled (tk i - 16) ||| ((1 : Int32) <<< (nI (xb s (tk_ac tk i)) &&& 31))))
      (upd a_opAtoms (tk_P tk i) 0) (xf_m (tk_P tk i) N (fun _ => (1 : Int32) <<< (nI (xb s (tk_ac tk i)) &&& 31)) a_opFirst) (xf_m (tk_P tk i) N (fun _ => (1 : Int32) <<< (nI (xb s (tk_ac tk i)) &&& 31)) a_opLast) := by
  have hlt : tk_ac tk i < tk_ac tk n := tk_ac_lt tk hi h16
  have hlf : od_new (tk i) (tk_ac tk i) (tk_st tk i (tk_P tk i)) (tk_st tk i (tk_P tk i + 1)) (tk_st tk i (tk_P tk i + 2)) = od_leaf (tk i) (tk_ac tk i) := od_new_leaf (by omega)
  obtain ⟨h1, h2, h3, h4, h5, h6, h7⟩ := H
  have hq := xi_xb hs (show tk_ac tk i < 9 by omega)
  have lb : ∀ k b, k < 3 → b < 10 → bt (upd (xl_w ((1 : Int32) <<< (nI (xb s (tk_ac tk i)) &&& 31)) 3 a_labelled) (tk i - 16) (xl_w ((1 : Int32) <<< (nI (xb s (tk_ac tk i)) &&& 31)) 3 a_labelled (tk i - 16) ||| ((1 : Int32) <<< (nI (xb s (tk_ac tk i)) &&& 31))) k) b = if b = xb s (tk_ac tk i) then decide (tk i - 16 = k) else bt (a_labelled k) b := by
    intro k b hk hb
    have w : ∀ k, k < 3 → bt (xl_w ((1 : Int32) <<< (nI (xb s (tk_ac tk i)) &&& 31)) 3 a_labelled k) b = (bt (a_labelled k) b && !decide (b = xb s (tk_ac tk i))) := by
      intro k hk
      rw [show xl_w ((1 : Int32) <<< (nI (xb s (tk_ac tk i)) &&& 31)) 3 a_labelled k = a_labelled k &&& (((1 : Int32) <<< (nI (xb s (tk_ac tk i)) &&& 31)) ^^^ (-1)) from if_pos hk, b_and, zk_not _ (by omega), zk_sh (by omega) (by omega)]
    by_cases e : k = tk i - 16
    · rw [e, yu_s, b_or, zk_sh (by omega) (by omega), w _ (by omega)]
      by_cases z : b = xb s (tk_ac tk i)
      · rw [if_pos z, decide_eq_true z, Bool.or_true, decide_eq_true rfl]
      · rw [if_neg z, decide_eq_false z, Bool.or_false]
        show (bt _ b && true) = _
        rw [Bool.and_true]
    · rw [yu_n _ _ e, w k hk]
      by_cases z : b = xb s (tk_ac tk i)
      · rw [if_pos z, decide_eq_true z, decide_eq_false (by omega)]
        show (bt _ b && false) = _
        rw [Bool.and_false]
      · rw [if_neg z, decide_eq_false z]
        show (bt _ b && true) = _
        rw [Bool.and_true]
  unfold xv_I
  rw [tk_ac_a h16, tk_hg_s]
  refine ⟨?_, fun a x ha hx => ?_, fun a ha => ?_, fun k a hk ha => ?_, fun k hk => ?_, fun b hb ho => ⟨fun x hx => ?_, ?_, fun k hk => ?_⟩, fun j hj => ?_⟩
  · rw [yu_s, h1, xM_one hs (by omega), xM_or]
    apply xM_ext
    intro a _
    apply bo_iff
    rw [Bool.or_eq_true, Bool.or_eq_true, Bool.or_eq_true, decide_eq_true_eq, decide_eq_true_eq, decide_eq_true_eq, decide_eq_true_eq]
    omega
  · by_cases e : a = tk_ac tk i
    · subst e
      rw [xf_in (by omega) (by omega)]
      refine (xM_0 fun q _ => ex_ff.mpr fun k hk => ?_).symm
      by_cases z : k = tk_P tk i
      · rw [z, tk_st_new, hlf]; rfl
      · rw [tk_st_old z]
        cases w : od_fo (tk_st tk i k) (tk_ac tk i) x q
        · rfl
        · have := ((tk_B tk i k).2.2 _ _ _ w).1; omega
    · have ha' : a < tk_ac tk i := by omega
      have hne : xb s a ≠ xb s (tk_ac tk i) := fun w => e (xb_inj hs (by omega) (by omega) w)
      rw [xf_out (by omega), h2 a x ha' hx]
      apply xM_ext
      intro q _
      rw [ex_s, tk_st_new, hlf, hP]
      show _ = (_ || false)
      rw [Bool.or_false]
      exact ex_c fun k hk => by rw [tk_st_old (by omega)]
  · by_cases e : a = tk_ac tk i
    · rw [e, yu_s]
    · have hne : xb s a ≠ xb s (tk_ac tk i) := fun w => e (xb_inj hs (by omega) (by omega) w)
      rw [yu_n _ _ hne]
      exact h3 a (by omega)
  · have hb := xi_xb hs (show a < 9 by omega)
    rw [lb k _ hk hb.2.1]
    show _ = decide ((if 16 ≤ tk i ∧ tk_ac tk i = a then tk i - 16 else tk_lb tk i a) = k)
    by_cases e : a = tk_ac tk i
    · rw [if_pos (by rw [e]), if_pos ⟨h16, e.symm⟩]
    · have hne : xb s a ≠ xb s (tk_ac tk i) := fun w => e (xb_inj hs (by omega) (by omega) w)
      rw [if_neg hne, if_neg (fun w => e w.2.symm)]
      exact h4 k a hk (by omega)
  · by_cases e : k = tk_P tk i
    · rw [e, tk_st_new, hlf]
      exact xS_act hs h16 (by omega) hN
    · rw [tk_st_old e]
      obtain ⟨g1, g2⟩ := h5 k (by omega)
      refine ⟨by rw [yu_n _ _ e]; exact g1, fun x hx => ?_⟩
      rw [xf_out (by omega), xf_out (by omega)]
      exact g2 x hx
  · have hne : b ≠ xb s (tk_ac tk i) := fun w => ho (by rw [w, hq.1]; exact Or.inl hlt)
    rw [xf_out (by omega)]
    exact (h6 b hb ho).1 x hx
  · have hne : b ≠ xb s (tk_ac tk i) := fun w => ho (by rw [w, hq.1]; exact Or.inl hlt)
    rw [yu_n _ _ hne]
    exact (h6 b hb ho).2.1
  · have hne : b ≠ xb s (tk_ac tk i) := fun w => ho (by rw [w, hq.1]; exact Or.inl hlt)
    rw [lb k b hk hb, if_neg hne]
    exact (h6 b hb ho).2.2 k hk
  · rw [yu_n _ _ hj]
    exact h7 j hj
theorem xv_step (ok : xo_ok T A s tk n a_list a_actionsAfter) (hN : N ≤ 4) (hfN : f_atomCount = nI N) (hall : f_allAtoms = zA N (fun _ => true)) {m i : Nat} (hi : i < n)
    (H : xv_I N s tk (tk_ac tk n) i st0 fo0 ac0 la0 a_states a_follow a_accepting a_labelled a_opAtoms a_opFirst a_opLast)
    (J : ∀ st fo ac la oA oF oL, xv_I N s tk (tk_ac tk n) (i + 1) st0 fo0 ac0 la0 st fo ac la oA oF oL → wX_build_42 post (nI s) (nI n) m (nI (tk_hg tk (i + 1))) (nI (i + 1)) f_testCount f_actionCount f_tokenLimit f_occurrenceLimit f_atomCount f_allAtoms f_enteredSize f_nodeCount f_hasResult f_resultMode f_resultVerdict f_witnessSize f_witnessOwner a_size a_list a_begin a_heightAfter a_actionsAfter a_entered a_built st fo ac a_need la oA oF oL a_nodeSet a_nodeParent a_nodeAtom a_nodeAction a_nodeDepth a_witness) :
    wX_build_42 post (nI s) (nI n) (m + 1) (nI (tk_hg tk i)) (nI i) f_testCount f_actionCount f_tokenLimit f_occurrenceLimit f_atomCount f_allAtoms f_enteredSize f_nodeCount f_hasResult f_resultMode f_resultVerdict f_witnessSize f_witnessOwner a_size a_list a_begin a_heightAfter a_actionsAfter a_entered a_built a_states a_follow a_accepting a_need a_labelled a_opAtoms a_opFirst a_opLast a_nodeSet a_nodeParent a_nodeAtom a_nodeAction a_nodeDepth a_witness := by
  obtain ⟨hs, hT, hA, hn, hlist, hact, okk, h8⟩ := ok
  obtain ⟨o1, o2, o3⟩ := okk i hi
  have hc : tk i < 19 := yr_code hT hA o2
  have hg : tk_hg tk i ≤ i := tk_hg_le tk i
  have hac : tk_ac tk i ≤ tk_ac tk n := tk_ac_mono tk (by omega)
  have hB := tk_B tk i
  have hPP : tk_P tk i = tk_hg tk i - tk_ar (tk i) := rfl
  rw [wX_build_42]
  refine br_f (nI_ge hi (by omega)) (nm_r (xi32 s i) ⟨vp_in_nI (by omega) (by decide), nm_r (e' := nI (tk i)) (by rw [nI_clamp (by omega)]; exact hlist i hi) ?_⟩)
  refine x_arity (by omega) (nm_r (e' := nI (tk_P tk i)) (by rw [pk_sub o1]; rfl) ?_)
  have H2 := H.2.1
  have H5 := H.2.2.2.2.1
  by_cases h16 : 16 ≤ tk i
  · have ha0 : tk_ar (tk i) = 0 := by
      unfold tk_ar
      rw [if_neg (by omega), if_neg (by omega), if_neg (by omega)]
    have hP0 : tk_P tk i = tk_hg tk i := by rw [hPP, ha0]; rfl
    have F := J _ _ _ _ _ _ _ (xv_act hs h8 hi h16 hc hN hP0 H)
    have hlt : tk_ac tk i < tk_ac tk n := tk_ac_lt tk hi h16
    have G : wX_build_113 post (wX_build_42 post (nI s) (nI n) m) (nI s) (nI n) (nI (tk_P tk i)) (nI i) (nI (tk i)) (nI (xb s (tk_ac tk i))) f_testCount f_actionCount f_tokenLimit f_occurrenceLimit f_atomCount f_allAtoms f_enteredSize f_nodeCount f_hasResult f_resultMode f_resultVerdict f_witnessSize f_witnessOwner a_size a_list a_begin a_heightAfter a_actionsAfter a_entered a_built a_states a_follow a_accepting a_need a_labelled a_opAtoms a_opFirst a_opLast a_nodeSet a_nodeParent a_nodeAtom a_nodeAction a_nodeDepth a_witness := by
      unfold wX_build_113
      refine ⟨vp_in_nI hs (by decide), vp_in_nI hs (by decide), nm_r (e' := upd a_states s (a_states s ||| ((1 : Int32) <<< (nI (xb s (tk_ac tk i)) &&& 31)))) (by rw [nI_clamp (by omega)]) ?_⟩
      rw [show nI (tk i) - 16 = nI (tk i - 16) from pk_sub (b := 16) h16]
      have hq := xi_xb hs (show tk_ac tk i < 9 by omega)
      refine x_pushAction (by omega) hq.2.1 (by omega) hN hfN ?_
      exact nm_r (nI_1 _) (nm_r (nI_1 i) F)
    refine br_f (nI_nlt (b := 16) h16 (by omega)) ⟨vp_in_nI (by omega) (by decide), nm_r (e' := nI (tk_ac tk i)) (by rw [nI_clamp (by omega), hact i hi, tk_ac_a h16]; exact nI_pred _) ?_⟩
    rw [xv_q hs (show tk_ac tk i < 8 by omega)] at G
    refine pk_eq s 0 (fun z => ?_) (fun z => ?_)
    · rw [if_pos z] at G; exact G
    · rw [if_neg z] at G
      rw [show (7 : Int32) - nI (tk_ac tk i) = nI (7 - tk_ac tk i) from pk_sub (a := 7) (by omega)]
      exact G
  · refine br_t (nI_lt (b := 16) (by omega) (by decide)) ?_
    have fin : ∀ fo' oA' oF' oL',
        (∀ a x, a < tk_ac tk i → x < N → fo' (xb s a * 4 + x) = xM s (fun q => ex_b (tk_P tk i) (fun k => od_fo (tk_st tk i k) a x q) || od_fo (tk_st tk (i + 1) (tk_P tk i)) a x q)) →
        (∀ b, b < 10 → ¬ (xi s b < tk_ac tk n ∨ xi s b = 8) → ∀ x, x < 4 → fo' (b * 4 + x) = a_follow (b * 4 + x)) →
        (∀ k, k < tk_P tk i → oA' k = a_opAtoms k ∧ ∀ x, x < N → oF' (k * 4 + x) = a_opFirst (k * 4 + x) ∧ oL' (k * 4 + x) = a_opLast (k * 4 + x)) →
        xv_S s N (tk_st tk (i + 1) (tk_P tk i)) (tk_P tk i) oA' oF' oL' →
        wX_build_42 post (nI s) (nI n) m (nI (tk_P tk i + 1)) (nI (i + 1)) f_testCount f_actionCount f_tokenLimit f_occurrenceLimit f_atomCount f_allAtoms f_enteredSize f_nodeCount f_hasResult f_resultMode f_resultVerdict f_witnessSize f_witnessOwner a_size a_list a_begin a_heightAfter a_actionsAfter a_entered a_built a_states fo' a_accepting a_need a_labelled oA' oF' oL' a_nodeSet a_nodeParent a_nodeAtom a_nodeAction a_nodeDepth a_witness :=
      fun fo' oA' oF' oL' q1 q2 q3 q4 => J _ _ _ _ _ _ _ (xv_op H h16 q1 q2 q3 q4)
    rw [tk_st_new] at fin
    generalize tk_P tk i = P at *
    have kA : ∀ v k, k < P → upd a_opAtoms P v k = a_opAtoms k := fun v k hk => yu_lt _ _ hk
    have kF : ∀ (y : Nat) (sp F : Nat → Int32) (k : Nat), k < P → ∀ x, x < N → xf_m P y sp F (k * 4 + x) = F (k * 4 + x) := fun y sp F k hk x hx => xf_out (by omega)
    rcases tk_ar_cases (tk i) with ⟨c, a⟩ | ⟨c, a⟩ | ⟨c, a⟩ | ⟨c, a⟩ | ⟨c, a⟩ | ⟨c, a⟩ | ⟨c, a⟩
    all_goals rw [a] at o1 hPP ⊢
    -- not
    · rw [c] at fin ⊢
      have sp := H5 P (by omega)
      refine br_f (by decide) ?_
      unfold wpX_apply
      refine br_f (by decide) (br_f (by decide) (br_t (by decide) ⟨vp_in_nI (by omega) (by decide), vp_in_nI (by omega) (by decide), nm_r (e' := upd a_opAtoms P (zA N (fun _ => true) &&& (a_opAtoms P ^^^ (-1)))) (by rw [nI_clamp (by omega), hall]) (nm_r (nI_1 _) (nm_r (nI_1 i) ?_))⟩))
      refine fin _ _ _ _ (fun a x ha hx => ?_) (fun _ _ _ _ _ => rfl) (fun k hk => ⟨kA _ k hk, fun x hx => ⟨rfl, rfl⟩⟩) (xS_not sp)
      rw [H2 a x ha hx]
      apply xM_ext
      intro q _
      rw [show tk_hg tk i = P + 1 by omega, ex_s]; rfl
    -- star
    · rw [c] at fin ⊢
      have sp := H5 P (by omega)
      refine br_f (by decide) ?_
      unfold wpX_apply
      refine br_f (by decide) (br_f (by decide) (br_f (by decide) (br_t (by decide) (x_link (by omega) (by omega) hN hfN ⟨vp_in_nI (by omega) (by decide), nm_r (e' := upd a_opAtoms P (zA N (fun _ => true))) (by rw [nI_clamp (by omega), hall]) (nm_r (nI_1 _) (nm_r (nI_1 i) ?_))⟩))))
      refine fin _ _ _ _ (fun a x ha hx => ?_) (fun b hb ho x hx => xv_linkfr hs hac (hB P) sp hb ho hx) (fun k hk => ⟨kA _ k hk, fun x hx => ⟨rfl, rfl⟩⟩) (xS_star sp)
      rw [xv_link hs (by omega) hN H2 sp sp ha hx, hall, zA_at hN hx]
      apply xM_ext
      intro q _
      rw [show tk_hg tk i = P + 1 by omega, ex_s, Bool.or_assoc]; rfl
    -- seq
    · rw [c] at fin ⊢
      have sp := H5 P (by omega)
      have sq := H5 (P + 1) (by omega)
      refine br_f (by decide) ?_
      unfold wpX_apply
      refine br_f (by decide) (br_f (by decide) (br_f (by decide) (br_f (by decide) (br_t (by decide) (x_seq (by omega) hN hfN (nm_r (nI_1 _) (nm_r (nI_1 i) ?_)))))))
      refine fin _ _ _ _ (fun a x ha hx => ?_) (fun b hb ho x hx => xv_linkfr hs hac (hB P) sp hb ho hx) (fun k hk => ⟨kA _ k hk, fun x hx => ⟨kF _ _ _ k hk x hx, kF _ _ _ k hk x hx⟩⟩) (xS_seq hN sp sq)
      rw [xv_link hs (by omega) hN H2 sp sq ha hx, hall, zA_at hN hx]
      apply xM_ext
      intro q _
      rw [show tk_hg tk i = P + 1 + 1 by omega, ex_s, ex_s, Bool.or_assoc, Bool.or_assoc]
      show _ = (_ || ((_ || _) || _))
      rw [Bool.or_assoc]; rfl
    -- plus
    · rw [c] at fin ⊢
      have sp := H5 P (by omega)
      have sq := H5 (P + 1) (by omega)
      refine br_f (by decide) ?_
      unfold wpX_apply
      refine br_f (by decide) (br_f (by decide) (br_f (by decide) (br_f (by decide) (br_f (by decide) (br_t (by decide) (x_plus (by omega) hN hfN (nm_r (nI_1 _) (nm_r (nI_1 i) ?_))))))))
      refine fin _ _ _ _ (fun a x ha hx => ?_) (fun _ _ _ _ _ => rfl) (fun k hk => ⟨kA _ k hk, fun x hx => ⟨kF _ _ _ k hk x hx, kF _ _ _ k hk x hx⟩⟩) (xS_plus sp sq hN)
      rw [H2 a x ha hx]
      apply xM_ext
      intro q _
      rw [show tk_hg tk i = P + 1 + 1 by omega, ex_s, ex_s, Bool.or_assoc]; rfl
    -- if
    · rw [c] at fin ⊢
      have sp := H5 P (by omega)
      have sq := H5 (P + 1) (by omega)
      have sr := H5 (P + 2) (by omega)
      have z := (tk_Z tk i P (o3 (by omega))).2.2
      refine br_f (by decide) ?_
      unfold wpX_apply
      refine br_f (by decide) (br_f (by decide) (br_f (by decide) (br_f (by decide) (br_f (by decide) (br_f (by decide) (br_t (by decide) (x_if (by omega) hN hfN (nm_r (nI_1 _) (nm_r (nI_1 i) ?_)))))))))
      have SS := xS_if sp sq sr hN
      rw [← hall] at SS
      refine fin _ _ _ _ (fun a x ha hx => ?_) (fun _ _ _ _ _ => rfl) (fun k hk => ⟨kA _ k hk, fun x hx => ⟨kF _ _ _ k hk x hx, kF _ _ _ k hk x hx⟩⟩) SS
      rw [H2 a x ha hx]
      apply xM_ext
      intro q _
      rw [show tk_hg tk i = P + 1 + 1 + 1 by omega, ex_s, ex_s, ex_s, z a x q, Bool.or_false, Bool.or_assoc]; rfl
    -- while
    · rw [c] at fin ⊢
      have sp := H5 P (by omega)
      have sq := H5 (P + 1) (by omega)
      have z := (tk_Z tk i P (o3 (by omega))).2.2
      refine br_f (by decide) ?_
      unfold wpX_apply
      refine br_f (by decide) (br_t (by decide) (x_while (by omega) hN hfN (nm_r (nI_1 _) (nm_r (nI_1 i) ?_))))
      have SS := xS_while sp sq hN
      rw [← hall] at SS
      refine fin _ _ _ _ (fun a x ha hx => ?_) (fun b hb ho x hx => xv_linkfr hs hac (hB (P + 1)) sq hb ho hx) (fun k hk => ⟨kA _ k hk, fun x hx => ⟨kF _ _ _ k hk x hx, kF _ _ _ k hk x hx⟩⟩) SS
      rw [xv_link hs (by omega) hN H2 sq sq ha hx, show bt (a_opAtoms P) x = od_on (tk_st tk i P) x by rw [sp.1]; exact zA_at hN hx]
      apply xM_ext
      intro q _
      rw [show tk_hg tk i = P + 1 + 1 by omega, ex_s, ex_s, z a x q, Bool.or_false, Bool.or_assoc]
      show _ = (_ || (_ || (od_la _ x a && (od_on _ x && od_fi _ x q))))
      rw [Bool.and_comm (od_on _ x) (od_la _ x a), Bool.and_assoc]
    -- leaf
    · refine br_t (by decide) ?_
      rw [od_new_leaf c] at fin
      refine x_leaf (k := tk_ac tk i) (by omega) hN hfN hall (x_pushAtoms (by omega) (nm_r (nI_1 _) (nm_r (nI_1 i) ?_)))
      refine fin _ _ _ _ (fun a x ha hx => ?_) (fun _ _ _ _ _ => rfl) (fun k hk => ⟨kA _ k hk, fun x hx => ⟨kF _ _ _ k hk x hx, kF _ _ _ k hk x hx⟩⟩) (xS_leaf h16 hN)
      rw [H2 a x ha hx]
      apply xM_ext
      intro q _
      rw [show tk_hg tk i = P by omega]
      show _ = (_ || false)
      rw [Bool.or_false]
end
end
section
/-! ===== the tables behind a build ===== -/
section
variable {N s c n : Nat} {tk : Nat → Nat} {o : Od} {fo ac ne oA oF oL : Nat → Int32}
def xw_o (c a : Nat) : Bool := decide (a < c) || decide (a = 8)
theorem xw_oi {c a : Nat} : xw_o c a = true ↔ (a < c ∨ a = 8) := by
  unfold xw_o
  rw [Bool.or_eq_true, decide_eq_true_eq, decide_eq_true_eq]
theorem xz_af {b j : Nat} (hj : j < 32) : bt (xm_af fo b N) j = ex_b N (fun x => bt (fo (b * 4 + x)) j) := zk_bt _ hj
theorem xz_rc {lv : Int32} {b : Nat} : xm_rc fo N lv b = true ↔ ∃ j x, j < 32 ∧ x < N ∧ bt (fo (b * 4 + x)) j = true ∧ bt lv j = true := by
  unfold xm_rc
  constructor
  · intro h
    have h : ¬ (xm_af fo b N &&& lv) = 0 := fun w => by rw [decide_eq_true w] at h; cases h
    obtain ⟨j, hj, e⟩ := zk_nz h
    rw [b_and, Bool.and_eq_true, xz_af hj] at e
    obtain ⟨x, hx, e1⟩ := ex_iff.mp e.1
    exact ⟨j, x, hj, hx, e1, e.2⟩
  · rintro ⟨j, x, hj, hx, e1, e2⟩
    have h : ¬ (xm_af fo b N &&& lv) = 0 := by
      intro w
      have : bt (xm_af fo b N &&& lv) j = true := by
        rw [b_and, xz_af hj, e2, ex_iff.mpr ⟨x, hx, e1⟩]; rfl
      rw [w, b_0] at this
      cases this
    rw [decide_eq_false h]; rfl
theorem xz_l0 (hs : s < 2) (hc : c ≤ 8) (hA : ∀ a, (a < c ∨ a = 8) → ac (xb s a) = zA N (au_acc o a)) (hN : N ≤ 4) :
    zk_m (fun b => decide (b < 10) && (bt (xM s (xw_o c)) b && !decide (ac b = 0))) = xM s (fun a => xw_o c a && au_lv o N 0 a) := by
  apply zk_ext
  intro j hj
  rw [xM_bt hj]
  show (decide (j < 10) && ((decide (xi s j < 9) && xw_o c (xi s j)) && !decide (ac j = 0))) = (decide (xi s j < 9) && (xw_o c (xi s j) && ex_b N (fun x => au_acc o (xi s j) x)))
  by_cases h : xi s j < 9 ∧ xw_o c (xi s j) = true
  · have hb := xb_xi hs h.1
    have ha := hA (xi s j) (xw_oi.mp h.2)
    rw [hb.1] at ha
    rw [decide_eq_true h.1, decide_eq_true hb.2, h.2, ha]
    simp only [Bool.true_and]
    by_cases z : zA N (au_acc o (xi s j)) = 0
    · rw [decide_eq_true z]
      refine (ex_ff.mpr fun x hx => ?_).symm
      have : bt (zA N (au_acc o (xi s j))) x = false := by rw [z, b_0]
      rw [zA_at hN hx] at this
      exact this
    · rw [decide_eq_false z]
      obtain ⟨x, hx, e⟩ := zk_nz z
      rw [zA_bt hx, Bool.and_eq_true, decide_eq_true_eq] at e
      exact (ex_iff.mpr ⟨x, e.1, e.2⟩).symm
  · have h1 : (decide (xi s j < 9) && xw_o c (xi s j)) = false := by
      by_cases z : xi s j < 9
      · rw [ts_nt' (fun w => h ⟨z, w⟩), Bool.and_false]
      · rw [decide_eq_false z]; rfl
    rw [h1, Bool.false_and, Bool.and_false, ← Bool.and_assoc, h1]; rfl
theorem xz_l (hs : s < 2) (hc : c ≤ 8) (hB : od_B c o) (hF : ∀ a x, (a < c ∨ a = 8) → x < N → fo (xb s a * 4 + x) = xM s (fun q => au_nx o a x q))
    (hA : ∀ a, (a < c ∨ a = 8) → ac (xb s a) = zA N (au_acc o a)) (hN : N ≤ 4) : ∀ d, xm_l fo ac N (xM s (xw_o c)) d = xM s (fun a => xw_o c a && au_lv o N d a) := by
  intro d
  induction d with
  | zero => exact xz_l0 hs hc hA hN
  | succ d ih =>
    show xm_l fo ac N (xM s (xw_o c)) d ||| xm_G fo N (xM s (xw_o c)) (xm_l fo ac N (xM s (xw_o c)) d) 10 = _
    rw [ih]
    apply zk_of
    intro j hj
    rw [b_or, xM_bt hj]
    unfold xm_G
    rw [zk_bt _ hj]
    unfold xm_g
    rw [xM_bt hj, xM_bt hj]
    show ((decide (xi s j < 9) && (xw_o c (xi s j) && au_lv o N d (xi s j))) || (decide (j < 10) && (((decide (xi s j < 9) && xw_o c (xi s j)) && !(decide (xi s j < 9) && (xw_o c (xi s j) && au_lv o N d (xi s j)))) && xm_rc fo N (xM s (fun a => xw_o c a && au_lv o N d a)) j))) = (decide (xi s j < 9) && (xw_o c (xi s j) && au_lv o N (d + 1) (xi s j)))
    by_cases h : xi s j < 9 ∧ xw_o c (xi s j) = true
    · have hb := xb_xi hs h.1
      rw [decide_eq_true h.1, decide_eq_true hb.2, h.2]
      simp only [Bool.true_and]
      cases z : au_lv o N d (xi s j)
      · show (false || (true && xm_rc fo N _ j)) = au_lv o N (d + 1) (xi s j)
        rw [Bool.false_or, Bool.true_and]
        apply bo_iff
        rw [xz_rc, au_lv_s_iff]
        constructor
        · rintro ⟨k, x, hk, hx, e1, e2⟩
          have := hF (xi s j) x (xw_oi.mp h.2) hx
          rw [hb.1] at this
          rw [this, xM_bt hk, Bool.and_eq_true] at e1
          rw [xM_bt hk, Bool.and_eq_true, Bool.and_eq_true] at e2
          have := au_nx_b hB e1.2
          exact Or.inr ⟨xi s k, x, by omega, hx, e1.2, e2.2.2⟩
        · rintro (w | ⟨q, x, hq, hx, e1, e2⟩)
          · have := au_lv_le w (Nat.zero_le d)
            rw [z] at this; cases this
          · have hqb := xi_xb hs (show q < 9 by omega)
            have := hF (xi s j) x (xw_oi.mp h.2) hx
            rw [hb.1] at this
            refine ⟨xb s q, x, by omega, hx, ?_, ?_⟩
            · rw [this, xM_at hs (by omega)]; exact e1
            · rw [xM_at hs (by omega), e2, xw_oi.mpr (Or.inl (au_nx_b hB e1))]; rfl
      · rw [au_lv_mono d _ z]; rfl
    · have h1 : (decide (xi s j < 9) && xw_o c (xi s j)) = false := by
        by_cases z : xi s j < 9
        · rw [ts_nt' (fun w => h ⟨z, w⟩), Bool.and_false]
        · rw [decide_eq_false z]; rfl
      revert h1
      generalize decide (xi s j < 9) = D
      generalize xw_o c (xi s j) = W
      intro h1
      cases D <;> cases W <;> simp_all
theorem xz_n (hs : s < 2) (hc : c ≤ 8) (hB : od_B c o) (hF : ∀ a x, (a < c ∨ a = 8) → x < N → fo (xb s a * 4 + x) = xM s (fun q => au_nx o a x q))
    (hA : ∀ a, (a < c ∨ a = 8) → ac (xb s a) = zA N (au_acc o a)) (hN : N ≤ 4) {a : Nat} (ha : a < c ∨ a = 8) : ∀ d, at_nd o N d a (xm_n fo ac ne N (xM s (xw_o c)) d (xb s a)) := by
  have hb := xi_xb hs (show a < 9 by omega)
  have ho : bt (xM s (xw_o c)) (xb s a) = true := by rw [xM_at hs (by omega)]; exact xw_oi.mpr ha
  intro d
  induction d with
  | zero =>
    show at_nd o N 0 a (if xb s a < 10 ∧ bt (xM s (xw_o c)) (xb s a) = true then (if ac (xb s a) = 0 then -1 else 0) else ne (xb s a))
    rw [if_pos ⟨hb.2.1, ho⟩, hA a ha]
    by_cases z : zA N (au_acc o a) = 0
    · rw [if_pos z]
      refine Or.inl ⟨ex_ff.mpr fun x hx => ?_, rfl⟩
      have : bt (zA N (au_acc o a)) x = false := by rw [z, b_0]
      rw [zA_at hN hx] at this
      exact this
    · rw [if_neg z]
      obtain ⟨x, hx, e⟩ := zk_nz z
      rw [zA_bt hx, Bool.and_eq_true, decide_eq_true_eq] at e
      exact Or.inr ⟨0, Nat.le_refl _, rfl, ex_iff.mpr ⟨x, e.1, e.2⟩, fun j hj => absurd hj (Nat.not_lt_zero _)⟩
  | succ d ih =>
    show at_nd o N (d + 1) a (if xb s a < 10 ∧ xm_g fo N (xM s (xw_o c)) (xm_l fo ac N (xM s (xw_o c)) d) (xb s a) = true then nI (d + 1) else xm_n fo ac ne N (xM s (xw_o c)) d (xb s a))
    have L := xz_l hs hc hB hF hA hN d
    have L1 : bt (xm_l fo ac N (xM s (xw_o c)) (d + 1)) (xb s a) = au_lv o N (d + 1) a := by
      rw [xz_l hs hc hB hF hA hN (d + 1), xM_at hs (by omega), xw_oi.mpr ha]; rfl
    have L0 : bt (xm_l fo ac N (xM s (xw_o c)) d) (xb s a) = au_lv o N d a := by
      rw [L, xM_at hs (by omega), xw_oi.mpr ha]; rfl
    have L2 : au_lv o N (d + 1) a = (au_lv o N d a || xm_g fo N (xM s (xw_o c)) (xm_l fo ac N (xM s (xw_o c)) d) (xb s a)) := by
      rw [← L1]
      show bt (xm_l fo ac N (xM s (xw_o c)) d ||| xm_G fo N (xM s (xw_o c)) (xm_l fo ac N (xM s (xw_o c)) d) 10) (xb s a) = _
      rw [b_or, L0]
      unfold xm_G
      rw [zk_bt _ (by omega), decide_eq_true hb.2.1, Bool.true_and]
    by_cases g : xm_g fo N (xM s (xw_o c)) (xm_l fo ac N (xM s (xw_o c)) d) (xb s a) = true
    · rw [if_pos ⟨hb.2.1, g⟩]
      have nl : au_lv o N d a = false := by
        unfold xm_g at g
        rw [Bool.and_eq_true, Bool.and_eq_true, L0] at g
        cases z : au_lv o N d a
        · rfl
        · rw [z] at g; exact absurd g.1.2 (by decide)
      refine Or.inr ⟨d + 1, Nat.le_refl _, rfl, by rw [L2, g, Bool.or_true], fun j hj => ?_⟩
      cases z : au_lv o N j a
      · rfl
      · rw [au_lv_le z (show j ≤ d by omega)] at nl; cases nl
    · rw [if_neg (fun w => g w.2)]
      rw [ts_nt' g, Bool.or_false] at L2
      rcases ih with ⟨w, v⟩ | ⟨e, h1, h2, h3, h4⟩
      · exact Or.inl ⟨by rw [L2]; exact w, v⟩
      · exact Or.inr ⟨e, by omega, h2, h3, h4⟩
theorem xz_ne {b : Nat} {own : Int32} (h : bt own b = false) : ∀ d, xm_n fo ac ne N own d b = ne b := by
  intro d
  induction d with
  | zero => exact if_neg (fun w => by rw [h] at w; exact absurd w.2 (by decide))
  | succ d ih =>
    refine (if_neg (fun w => ?_)).trans ih
    have := w.2
    unfold xm_g at this
    rw [h] at this
    cases this
end
theorem xz_fin {N s n : Nat} {tk : Nat → Nat} {st0 fo0 ac0 la0 st fo ac la oA oF oL ne : Nat → Int32} (hs : s < 2) (hN : N ≤ 4) (h8 : tk_ac tk n ≤ 8) (h1 : tk_hg tk n = 1)
    (H : xv_I N s tk (tk_ac tk n) n st0 fo0 ac0 la0 st fo ac la oA oF oL) :
    at_ok N s (tk_st tk n 0) (tk_lb tk n) (tk_ac tk n) st
      (xm_c (xf_m (8 + s) N (fun j => oF (j % 4)) fo) N (st s) (xm_l (xf_m (8 + s) N (fun j => oF (j % 4)) fo) (xn_a (upd ac (8 + s) (oA 0)) oL N) N (st s) 9) 10)
      (xn_a (upd ac (8 + s) (oA 0)) oL N)
      (xm_n (xf_m (8 + s) N (fun j => oF (j % 4)) fo) (xn_a (upd ac (8 + s) (oA 0)) oL N) ne N (st s) 9) la ∧
    at_fr s (tk_ac tk n) st0 fo0 ac0 ne la0 st
      (xm_c (xf_m (8 + s) N (fun j => oF (j % 4)) fo) N (st s) (xm_l (xf_m (8 + s) N (fun j => oF (j % 4)) fo) (xn_a (upd ac (8 + s) (oA 0)) oL N) N (st s) 9) 10)
      (xn_a (upd ac (8 + s) (oA 0)) oL N)
      (xm_n (xf_m (8 + s) N (fun j => oF (j % 4)) fo) (xn_a (upd ac (8 + s) (oA 0)) oL N) ne N (st s) 9) la := by
  obtain ⟨g1, g2, g3, g4, g5, g6, g7⟩ := H
  have hB := tk_B tk n 0
  have sl := g5 0 (by omega)
  have gst : st s = xM s (xw_o (tk_ac tk n)) := g1
  have hF : ∀ a x, (a < tk_ac tk n ∨ a = 8) → x < N → xf_m (8 + s) N (fun j => oF (j % 4)) fo (xb s a * 4 + x) = xM s (fun q => au_nx (tk_st tk n 0) a x q) := by
    intro a x ha hx
    have hb := xi_xb hs (show a < 9 by omega)
    by_cases e : a = 8
    · subst e
      rw [xb_8, xf_in hx (by omega)]
      show oF (((8 + s) * 4 + x) % 4) = _
      rw [show ((8 + s) * 4 + x) % 4 = 0 * 4 + x by omega, (sl.2 x hx).1]
      exact xM_ext fun q _ => (au_nx8 _ x q).symm
    · have := hb.2.2 (by omega)
      rw [xf_out (by omega), g2 a x (by omega) hx, h1]
      apply xM_ext
      intro q _
      rw [ex_s, au_nxn _ x q (by omega)]; rfl
  have hA : ∀ a, (a < tk_ac tk n ∨ a = 8) → xn_a (upd ac (8 + s) (oA 0)) oL N (xb s a) = zA N (au_acc (tk_st tk n 0) a) := by
    intro a ha
    have hb := xi_xb hs (show a < 9 by omega)
    by_cases e : a = 8
    · subst e
      rw [xb_8]
      show (if 8 + s < 8 then _ else upd ac (8 + s) (oA 0) (8 + s)) = _
      rw [if_neg (by omega), yu_s, sl.1]
      exact zA_ext fun x _ => (au_acc8 _ x).symm
    · have hb8 := hb.2.2 (by omega)
      show (if xb s a < 8 then upd ac (8 + s) (oA 0) (xb s a) ||| zk_m (fun y => decide (y < N) && bt (oL y) (xb s a)) else _) = _
      rw [if_pos hb8, yu_n _ _ (by omega), g3 a (by omega), Int32.zero_or]
      apply zk_ext
      intro y _
      by_cases z : y < N
      · rw [decide_eq_true z, au_accn _ y (by omega)]
        have := (sl.2 y z).2
        rw [show 0 * 4 + y = y by omega] at this
        rw [this, xM_at hs (by omega)]
      · rw [decide_eq_false z]; rfl
  refine ⟨⟨g1, fun a ha => ⟨fun x hx => ?_, hA a ha, ?_⟩, g4⟩, g7, fun b hb ho => ⟨fun x hx => ?_, ?_, ?_, ?_⟩⟩
  · have hb := xi_xb hs (show a < 9 by omega)
    rw [gst, xz_l hs h8 hB hF hA hN 9]
    show (if (xb s a * 4 + x) / 4 < 10 ∧ bt (xM s (xw_o (tk_ac tk n))) ((xb s a * 4 + x) / 4) = true ∧ (xb s a * 4 + x) % 4 < N then xf_m (8 + s) N (fun j => oF (j % 4)) fo (xb s a * 4 + x) &&& xM s (fun a => xw_o (tk_ac tk n) a && au_lv (tk_st tk n 0) N 9 a) else _) = _
    rw [if_pos ⟨by omega, by rw [show (xb s a * 4 + x) / 4 = xb s a by omega, xM_at hs (by omega)]; exact xw_oi.mpr ha, by omega⟩, hF a x ha hx, xM_and]
    apply xM_ext
    intro q _
    cases z : au_nx (tk_st tk n 0) a x q
    · rfl
    · rw [xw_oi.mpr (Or.inl (au_nx_b hB z))]; rfl
  · rw [gst]
    exact xz_n hs h8 hB hF hA hN ha 9
  · have ob : bt (st s) b = false := by
      rw [gst, xM_bt (by omega)]
      cases z : xw_o (tk_ac tk n) (xi s b)
      · rw [Bool.and_false]
      · exact absurd (xw_oi.mp z) ho
    have h8s : b ≠ 8 + s := fun w => ho (by
      have := xi_xb hs (show 8 < 9 by omega)
      rw [xb_8] at this
      rw [w, this.1]; exact Or.inr rfl)
    refine (if_neg (fun w => ?_)).trans ?_
    · have := w.2.1
      rw [show (b * 4 + x) / 4 = b by omega, ob] at this
      cases this
    · rw [xf_out (by omega)]
      exact (g6 b hb ho).1 x hx
  · have h8s : b ≠ 8 + s := fun w => ho (by
      have := xi_xb hs (show 8 < 9 by omega)
      rw [xb_8] at this
      rw [w, this.1]; exact Or.inr rfl)
    show (if b < 8 then upd ac (8 + s) (oA 0) b ||| zk_m (fun y => decide (y < N) && bt (oL y) b) else upd ac (8 + s) (oA 0) b) = _
    rw [yu_n _ _ h8s, (g6 b hb ho).2.1]
    split
    · rw [zk_0 (fun y _ => ?_), Int32.or_zero]
      by_cases z : y < N
      · have := (sl.2 y z).2
        rw [show 0 * 4 + y = y by omega] at this
        rw [this, xM_bt (by omega)]
        cases w : od_la (tk_st tk n 0) y (xi s b)
        · rw [Bool.and_false, Bool.and_false]
        · exact absurd (Or.inl (hB.2.1 y _ w)) ho
      · rw [decide_eq_false z]; rfl
    · rfl
  · have ob : bt (st s) b = false := by
      rw [gst, xM_bt (by omega)]
      cases z : xw_o (tk_ac tk n) (xi s b)
      · rw [Bool.and_false]
      · exact absurd (xw_oi.mp z) ho
    exact xz_ne ob 9
  · exact (g6 b hb ho).2.2
end
section
section
variable {post : SX → Prop} {N s T A n : Nat} {tk : Nat → Nat} {st0 fo0 ac0 la0 : Nat → Int32}
variable {f_testCount f_actionCount f_tokenLimit f_occurrenceLimit f_atomCount f_allAtoms f_enteredSize f_nodeCount f_hasResult f_resultMode f_resultVerdict f_witnessSize f_witnessOwner : Int32} {a_size a_list a_begin a_heightAfter a_actionsAfter a_entered a_built a_states a_follow a_accepting a_need a_labelled a_opAtoms a_opFirst a_opLast a_nodeSet a_nodeParent a_nodeAtom a_nodeAction a_nodeDepth a_witness : Nat → Int32}
theorem xv_loop (ok : xo_ok T A s tk n a_list a_actionsAfter) (hN : N ≤ 4) (hfN : f_atomCount = nI N) (hall : f_allAtoms = zA N (fun _ => true))
    (K : ∀ st fo ac la oA oF oL, xv_I N s tk (tk_ac tk n) n st0 fo0 ac0 la0 st fo ac la oA oF oL → wX_build_42 post (nI s) (nI n) 1 (nI (tk_hg tk n)) (nI n) f_testCount f_actionCount f_tokenLimit f_occurrenceLimit f_atomCount f_allAtoms f_enteredSize f_nodeCount f_hasResult f_resultMode f_resultVerdict f_witnessSize f_witnessOwner a_size a_list a_begin a_heightAfter a_actionsAfter a_entered a_built st fo ac a_need la oA oF oL a_nodeSet a_nodeParent a_nodeAtom a_nodeAction a_nodeDepth a_witness) :
    ∀ dd i, i + dd = n → ∀ st fo ac la oA oF oL, xv_I N s tk (tk_ac tk n) i st0 fo0 ac0 la0 st fo ac la oA oF oL → wX_build_42 post (nI s) (nI n) (dd + 1) (nI (tk_hg tk i)) (nI i) f_testCount f_actionCount f_tokenLimit f_occurrenceLimit f_atomCount f_allAtoms f_enteredSize f_nodeCount f_hasResult f_resultMode f_resultVerdict f_witnessSize f_witnessOwner a_size a_list a_begin a_heightAfter a_actionsAfter a_entered a_built st fo ac a_need la oA oF oL a_nodeSet a_nodeParent a_nodeAtom a_nodeAction a_nodeDepth a_witness := by
  intro dd
  induction dd with
  | zero =>
    intro i hi st fo ac la oA oF oL H
    have hi : i = n := hi
    subst hi
    exact K _ _ _ _ _ _ _ H
  | succ dd ih =>
    intro i hi st fo ac la oA oF oL H
    exact xv_step ok hN hfN hall (by omega) H (fun st fo ac la oA oF oL H => ih (i + 1) (by omega) st fo ac la oA oF oL H)
theorem xv_0 (hs : s < 2) : xv_I N s tk (tk_ac tk n) 0 a_states a_follow a_accepting a_labelled (upd a_states s ((1 : Int32) <<< (nI (8 + s) &&& 31))) (xf_m (8 + s) 4 (fun _ => 0) a_follow) (upd a_accepting (8 + s) 0) a_labelled a_opAtoms a_opFirst a_opLast := by
  have h8 := xi_xb hs (show 8 < 9 by omega)
  rw [xb_8] at h8
  refine ⟨?_, fun a x ha => absurd ha (Nat.not_lt_zero _), fun a ha => absurd ha (Nat.not_lt_zero _), fun k a _ ha => absurd ha (Nat.not_lt_zero _), fun k hk => absurd hk (Nat.not_lt_zero _), fun b hb ho => ?_, fun j hj => yu_n _ _ hj⟩
  · rw [yu_s, ← xb_8, xM_one hs (by omega)]
    apply xM_ext
    intro a _
    show _ = (decide (a < 0) || decide (a = 8))
    rw [decide_eq_false (Nat.not_lt_zero _)]; rfl
  · have hne : b ≠ 8 + s := fun w => ho (by rw [w, h8.1]; exact Or.inr rfl)
    exact ⟨fun x hx => xf_out (by omega), yu_n _ _ hne, fun k _ => rfl⟩
theorem at_frr (s c : Nat) (st fo ac ne la : Nat → Int32) : at_fr s c st fo ac ne la st fo ac ne la :=
  ⟨fun _ _ => rfl, fun _ _ _ => ⟨fun _ _ => rfl, rfl, rfl, fun _ _ => rfl⟩⟩
theorem x_build {bl : Bool} (ok : xo_ok T A s tk n a_list a_actionsAfter) (hsz : a_size s = nI n) (h1 : tk_hg tk n = 1) (hN : N ≤ 4) (hfN : f_atomCount = nI N) (hall : f_allAtoms = zA N (fun _ => true)) (hbl : a_built s = b01 bl)
    (hat : bl = true → at_ok N s (tk_st tk n 0) (tk_lb tk n) (tk_ac tk n) a_states a_follow a_accepting a_need a_labelled)
    (K : ∀ bu st fo ac ne la oA oF oL, bu s = b01 true → (∀ j, j ≠ s → bu j = a_built j) → at_ok N s (tk_st tk n 0) (tk_lb tk n) (tk_ac tk n) st fo ac ne la → at_fr s (tk_ac tk n) a_states a_follow a_accepting a_need a_labelled st fo ac ne la →
      post (f_testCount, f_actionCount, f_tokenLimit, f_occurrenceLimit, f_atomCount, f_allAtoms, f_enteredSize, f_nodeCount, f_hasResult, f_resultMode, f_resultVerdict, f_witnessSize, f_witnessOwner, a_size, a_list, a_begin, a_heightAfter, a_actionsAfter, a_entered, bu, st, fo, ac, ne, la, oA, oF, oL, a_nodeSet, a_nodeParent, a_nodeAtom, a_nodeAction, a_nodeDepth, a_witness)) :
    wpX_build post (f_testCount, f_actionCount, f_tokenLimit, f_occurrenceLimit, f_atomCount, f_allAtoms, f_enteredSize, f_nodeCount, f_hasResult, f_resultMode, f_resultVerdict, f_witnessSize, f_witnessOwner, a_size, a_list, a_begin, a_heightAfter, a_actionsAfter, a_entered, a_built, a_states, a_follow, a_accepting, a_need, a_labelled, a_opAtoms, a_opFirst, a_opLast, a_nodeSet, a_nodeParent, a_nodeAtom, a_nodeAction, a_nodeDepth, a_witness) (nI s) := by
  have hs := ok.1
  have hn := ok.2.2.2.1
  unfold wpX_build
  refine ⟨vp_in_nI hs (by decide), ?_⟩
  refine zk_bb (b := bl) (by rw [nI_clamp (by omega)]; exact hbl) (fun z => ?_) (fun z => ?_)
  · refine nm_r (e' := nI (8 + s)) (by show nI 8 + nI s = _; rw [nI_add]) ⟨vp_in_nI hs (by decide), nm_r (e' := upd a_states s ((1 : Int32) <<< (nI (8 + s) &&& 31))) (by rw [nI_clamp (by omega)]) (x_clear (by omega) ⟨vp_in_nI hs (by decide), nm_r (e' := nI n) (by rw [nI_clamp (by omega)]; exact hsz) ⟨n + 1, ?_⟩⟩)⟩
    refine xv_loop (st0 := a_states) (fo0 := a_follow) (ac0 := a_accepting) (la0 := a_labelled) ok hN hfN hall (fun st fo ac la oA oF oL H => ?_) n 0 (Nat.zero_add n) _ _ _ _ _ _ _ (xv_0 hs)
    rw [wX_build_42]
    refine br_t (nI_le (Nat.le_refl _) (by omega)) (x_install hs hN hfN (x_measure hs hN hfN ⟨vp_in_nI hs (by decide), nm_r (e' := upd a_built s (b01 true)) (by rw [nI_clamp (by omega)]; rfl) ?_⟩))
    have F := xz_fin (ne := a_need) hs hN ok.2.2.2.2.2.2.2 h1 H
    exact K _ _ _ _ _ _ _ _ _ (yu_s _ _ _) (fun j hj => yu_n _ _ hj) F.1 F.2
  · exact K a_built _ _ _ _ _ _ _ _ (by rw [hbl, z]) (fun _ _ => rfl) (hat z) (at_frr _ _ _ _ _ _ _)
end
end
section
/-! ===== running the component's automaton ===== -/
def xs_sc (fo : Nat → Int32) (M : Int32) (x m : Nat) : Int32 := zk_m (fun j => ex_b m (fun p => bt M p && bt (fo (p * 4 + x)) j))
def xs_ac (ac : Nat → Int32) (M : Int32) (m : Nat) : Int32 := zk_m (fun j => ex_b m (fun p => bt M p && bt (ac p) j))
theorem xs_scs (fo : Nat → Int32) (M : Int32) (x m : Nat) : xs_sc fo M x (m + 1) = if bt M m = true then xs_sc fo M x m ||| fo (m * 4 + x) else xs_sc fo M x m := by
  split
  · rename_i h
    refine (zk_of fun j hj => ?_).symm
    rw [b_or]
    unfold xs_sc
    rw [zk_bt _ hj, ex_s, h, Bool.true_and]
  · rename_i h
    apply zk_ext
    intro j _
    rw [ex_s, ts_nt' h, Bool.false_and, Bool.or_false]
theorem xs_acs (ac : Nat → Int32) (M : Int32) (m : Nat) : xs_ac ac M (m + 1) = if bt M m = true then xs_ac ac M m ||| ac m else xs_ac ac M m := by
  split
  · rename_i h
    refine (zk_of fun j hj => ?_).symm
    rw [b_or]
    unfold xs_ac
    rw [zk_bt _ hj, ex_s, h, Bool.true_and]
  · rename_i h
    apply zk_ext
    intro j _
    rw [ex_s, ts_nt' h, Bool.false_and, Bool.or_false]
def x_st (fo la : Nat → Int32) (A : Nat) (M : Int32) (l : Nat) : Int32 := xs_sc fo M (l / A) 10 &&& la (l % A)
section
variable {post : Int32 → Prop} {N s A cnt : Nat} {M : Int32} {e : Nat → Nat}
variable {f_testCount f_actionCount f_tokenLimit f_occurrenceLimit f_atomCount f_allAtoms f_enteredSize f_nodeCount f_hasResult f_resultMode f_resultVerdict f_witnessSize f_witnessOwner : Int32} {a_size a_list a_begin a_heightAfter a_actionsAfter a_entered a_built a_states a_follow a_accepting a_need a_labelled a_opAtoms a_opFirst a_opLast a_nodeSet a_nodeParent a_nodeAtom a_nodeAction a_nodeDepth a_witness : Nat → Int32}
theorem x_succ_lp {x : Nat} (hx : x < 4) (K : post (xs_sc a_follow M x 10)) :
    ∀ dd p, p + dd = 10 → wX_successors_5 post M (nI x) f_testCount f_actionCount f_tokenLimit f_occurrenceLimit f_atomCount f_allAtoms f_enteredSize f_nodeCount f_hasResult f_resultMode f_resultVerdict f_witnessSize f_witnessOwner a_size a_list a_begin a_heightAfter a_actionsAfter a_entered a_built a_states a_follow a_accepting a_need a_labelled a_opAtoms a_opFirst a_opLast a_nodeSet a_nodeParent a_nodeAtom a_nodeAction a_nodeDepth a_witness (dd + 1) (xs_sc a_follow M x p) (nI p) := by
  intro dd
  induction dd with
  | zero =>
    intro p hp
    have hp : p = 10 := hp
    subst hp
    rw [wX_successors_5]
    exact br_t (by decide) K
  | succ dd ih =>
    intro p hp
    have := ih (p + 1) (by omega)
    rw [xs_scs] at this
    rw [wX_successors_5]
    dsimp only
    rw [xi4]
    refine br_f (nI_ge (b := 10) (by omega) (by decide)) (zk_br p (by omega) (fun h => nm_r (nI_1 p) ?_) (fun h => ⟨vp_in_nI (by omega) (by decide), nm_r (e' := xs_sc a_follow M x p ||| a_follow (p * 4 + x)) (by rw [nI_clamp (by omega)]) (nm_r (nI_1 p) ?_)⟩))
    · rw [if_neg (by rw [h]; decide)] at this; exact this
    · rw [if_pos h] at this; exact this
theorem x_succ {x : Nat} (hx : x < 4) (K : post (xs_sc a_follow M x 10)) : wpX_successors post (f_testCount, f_actionCount, f_tokenLimit, f_occurrenceLimit, f_atomCount, f_allAtoms, f_enteredSize, f_nodeCount, f_hasResult, f_resultMode, f_resultVerdict, f_witnessSize, f_witnessOwner, a_size, a_list, a_begin, a_heightAfter, a_actionsAfter, a_entered, a_built, a_states, a_follow, a_accepting, a_need, a_labelled, a_opAtoms, a_opFirst, a_opLast, a_nodeSet, a_nodeParent, a_nodeAtom, a_nodeAction, a_nodeDepth, a_witness) M (nI x) := by
  refine ⟨11, ?_⟩
  have := x_succ_lp (f_testCount := f_testCount) (f_actionCount := f_actionCount) (f_tokenLimit := f_tokenLimit) (f_occurrenceLimit := f_occurrenceLimit) (f_atomCount := f_atomCount) (f_allAtoms := f_allAtoms) (f_enteredSize := f_enteredSize) (f_nodeCount := f_nodeCount) (f_hasResult := f_hasResult) (f_resultMode := f_resultMode) (f_resultVerdict := f_resultVerdict) (f_witnessSize := f_witnessSize) (f_witnessOwner := f_witnessOwner) (a_size := a_size) (a_list := a_list) (a_begin := a_begin) (a_heightAfter := a_heightAfter) (a_actionsAfter := a_actionsAfter) (a_entered := a_entered) (a_built := a_built) (a_states := a_states) (a_follow := a_follow) (a_accepting := a_accepting) (a_need := a_need) (a_labelled := a_labelled) (a_opAtoms := a_opAtoms) (a_opFirst := a_opFirst) (a_opLast := a_opLast) (a_nodeSet := a_nodeSet) (a_nodeParent := a_nodeParent) (a_nodeAtom := a_nodeAtom) (a_nodeAction := a_nodeAction) (a_nodeDepth := a_nodeDepth) (a_witness := a_witness) hx K 10 0 rfl
  rw [show xs_sc a_follow M x 0 = 0 from zk_0 fun _ _ => rfl] at this
  exact this
theorem x_accA_lp (K : post (xs_ac a_accepting M 10)) :
    ∀ dd p, p + dd = 10 → wX_acceptedAtoms_4 post M f_testCount f_actionCount f_tokenLimit f_occurrenceLimit f_atomCount f_allAtoms f_enteredSize f_nodeCount f_hasResult f_resultMode f_resultVerdict f_witnessSize f_witnessOwner a_size a_list a_begin a_heightAfter a_actionsAfter a_entered a_built a_states a_follow a_accepting a_need a_labelled a_opAtoms a_opFirst a_opLast a_nodeSet a_nodeParent a_nodeAtom a_nodeAction a_nodeDepth a_witness (dd + 1) (xs_ac a_accepting M p) (nI p) := by
  intro dd
  induction dd with
  | zero =>
    intro p hp
    have hp : p = 10 := hp
    subst hp
    rw [wX_acceptedAtoms_4]
    exact br_t (by decide) K
  | succ dd ih =>
    intro p hp
    have := ih (p + 1) (by omega)
    rw [xs_acs] at this
    rw [wX_acceptedAtoms_4]
    refine br_f (nI_ge (b := 10) (by omega) (by decide)) (zk_br p (by omega) (fun h => nm_r (nI_1 p) ?_) (fun h => ⟨vp_in_nI (by omega) (by decide), nm_r (e' := xs_ac a_accepting M p ||| a_accepting p) (by rw [nI_clamp (by omega)]) (nm_r (nI_1 p) ?_)⟩))
    · rw [if_neg (by rw [h]; decide)] at this; exact this
    · rw [if_pos h] at this; exact this
theorem x_accA (K : post (xs_ac a_accepting M 10)) : wpX_acceptedAtoms post (f_testCount, f_actionCount, f_tokenLimit, f_occurrenceLimit, f_atomCount, f_allAtoms, f_enteredSize, f_nodeCount, f_hasResult, f_resultMode, f_resultVerdict, f_witnessSize, f_witnessOwner, a_size, a_list, a_begin, a_heightAfter, a_actionsAfter, a_entered, a_built, a_states, a_follow, a_accepting, a_need, a_labelled, a_opAtoms, a_opFirst, a_opLast, a_nodeSet, a_nodeParent, a_nodeAtom, a_nodeAction, a_nodeDepth, a_witness) M := by
  refine ⟨11, ?_⟩
  have := x_accA_lp (f_testCount := f_testCount) (f_actionCount := f_actionCount) (f_tokenLimit := f_tokenLimit) (f_occurrenceLimit := f_occurrenceLimit) (f_atomCount := f_atomCount) (f_allAtoms := f_allAtoms) (f_enteredSize := f_enteredSize) (f_nodeCount := f_nodeCount) (f_hasResult := f_hasResult) (f_resultMode := f_resultMode) (f_resultVerdict := f_resultVerdict) (f_witnessSize := f_witnessSize) (f_witnessOwner := f_witnessOwner) (a_size := a_size) (a_list := a_list) (a_begin := a_begin) (a_heightAfter := a_heightAfter) (a_actionsAfter := a_actionsAfter) (a_entered := a_entered) (a_built := a_built) (a_states := a_states) (a_follow := a_follow) (a_accepting := a_accepting) (a_need := a_need) (a_labelled := a_labelled) (a_opAtoms := a_opAtoms) (a_opFirst := a_opFirst) (a_opLast := a_opLast) (a_nodeSet := a_nodeSet) (a_nodeParent := a_nodeParent) (a_nodeAtom := a_nodeAtom) (a_nodeAction := a_nodeAction) (a_nodeDepth := a_nodeDepth) (a_witness := a_witness) K 10 0 rfl
  rw [show xs_ac a_accepting M 0 = 0 from zk_0 fun _ _ => rfl] at this
  exact this
theorem x_step {x c : Nat} (hx : x < 4) (hc : c < 3) (K : post (xs_sc a_follow M x 10 &&& a_labelled c)) : wpX_step post (f_testCount, f_actionCount, f_tokenLimit, f_occurrenceLimit, f_atomCount, f_allAtoms, f_enteredSize, f_nodeCount, f_hasResult, f_resultMode, f_resultVerdict, f_witnessSize, f_witnessOwner, a_size, a_list, a_begin, a_heightAfter, a_actionsAfter, a_entered, a_built, a_states, a_follow, a_accepting, a_need, a_labelled, a_opAtoms, a_opFirst, a_opLast, a_nodeSet, a_nodeParent, a_nodeAtom, a_nodeAction, a_nodeDepth, a_witness) M (nI x) (nI c) := by
  unfold wpX_step
  refine x_succ hx ⟨vp_in_nI hc (by decide), ?_⟩
  rw [nI_clamp (by omega)]
  exact K
/-! the least distance -/
def xn_R (M : Int32) (ne : Nat → Int32) (m : Nat) (r : Int32) : Prop :=
  (r = -11 ∧ ∀ p, p < m → bt M p = true → ne p = -1) ∨
  (∃ p k, p < m ∧ k ≤ 9 ∧ bt M p = true ∧ ne p = nI k ∧ r = nI k ∧ ∀ q, q < m → bt M q = true → ne q = -1 ∨ ∃ k', k' ≤ 9 ∧ ne q = nI k' ∧ k ≤ k')
theorem xn_s1 {ne : Nat → Int32} {m : Nat} {r : Int32} (H : xn_R M ne m r) (h : bt M m = true → ne m = -1) : xn_R M ne (m + 1) r := by
  rcases H with ⟨h1, h2⟩ | ⟨p, k, h1, h2, h3, h4, h5, h6⟩
  · refine Or.inl ⟨h1, fun p hp hb => ?_⟩
    by_cases z : p = m
    · rw [z] at hb ⊢; exact h hb
    · exact h2 p (by omega) hb
  · refine Or.inr ⟨p, k, by omega, h2, h3, h4, h5, fun q hq hb => ?_⟩
    by_cases z : q = m
    · rw [z] at hb ⊢; exact Or.inl (h hb)
    · exact h6 q (by omega) hb
theorem x_least_lp (hne : ∀ p, p < 10 → bt M p = true → a_need p = -1 ∨ ∃ k, k ≤ 9 ∧ a_need p = nI k) (K : ∀ r, xn_R M a_need 10 r → post r) :
    ∀ dd p, p + dd = 10 → ∀ r, xn_R M a_need p r → wX_leastNeed_5 post M f_testCount f_actionCount f_tokenLimit f_occurrenceLimit f_atomCount f_allAtoms f_enteredSize f_nodeCount f_hasResult f_resultMode f_resultVerdict f_witnessSize f_witnessOwner a_size a_list a_begin a_heightAfter a_actionsAfter a_entered a_built a_states a_follow a_accepting a_need a_labelled a_opAtoms a_opFirst a_opLast a_nodeSet a_nodeParent a_nodeAtom a_nodeAction a_nodeDepth a_witness (dd + 1) r (nI p) := by
  intro dd
  induction dd with
  | zero =>
    intro p hp r H
    have hp : p = 10 := hp
    subst hp
    rw [wX_leastNeed_5]
    exact br_t (by decide) (K r H)
  | succ dd ih =>
    intro p hp r H
    rw [wX_leastNeed_5]
    refine br_f (nI_ge (b := 10) (by omega) (by decide)) (zk_br p (by omega) (fun h => nm_r (nI_1 p) ?_) (fun h => ⟨vp_in_nI (by omega) (by decide), ?_⟩))
    · exact ih (p + 1) (by omega) r (xn_s1 H (fun w => by rw [h] at w; cases w))
    · rw [nI_clamp (by omega)]
      rcases hne p (by omega) h with z | ⟨k, hk, z⟩
      · rw [z]
        exact br_t (by decide) (nm_r (nI_1 p) (ih (p + 1) (by omega) r (xn_s1 H (fun _ => z))))
      · rw [z]
        refine br_f (nI_pos (by omega)) ?_
        rcases H with ⟨h1, h2⟩ | ⟨q, j, g1, g2, g3, g4, g5, g6⟩
        · refine br_t h1 ⟨vp_in_nI (by omega) (by decide), nm_e (nm_r (nI_1 p) (ih (p + 1) (by omega) _ (Or.inr ⟨p, k, by omega, hk, h, z, rfl, fun q hq hb => ?_⟩)))⟩
          by_cases w : q = p
          · rw [w]; exact Or.inr ⟨k, hk, z, Nat.le_refl _⟩
          · exact Or.inl (h2 q (by omega) hb)
        · subst g5
          refine br_f (by
            intro w
            have : (0 : Int32) ≤ nI j := nI_pos' (by omega)
            rw [w] at this
            exact absurd this (by decide)) ⟨vp_in_nI (by omega) (by decide), pk_le j k (fun w => nm_r (nI_1 p) (ih (p + 1) (by omega) _ (Or.inr ⟨q, j, by omega, g2, g3, g4, rfl, fun q' hq hb => ?_⟩))) (fun w => ⟨vp_in_nI (by omega) (by decide), nm_e (nm_r (nI_1 p) (ih (p + 1) (by omega) _ (Or.inr ⟨p, k, by omega, hk, h, z, rfl, fun q' hq hb => ?_⟩)))⟩)⟩
          · by_cases y : q' = p
            · rw [y]; exact Or.inr ⟨k, hk, z, w⟩
            · exact g6 q' (by omega) hb
          · by_cases y : q' = p
            · rw [y]; exact Or.inr ⟨k, hk, z, Nat.le_refl _⟩
            · rcases g6 q' (by omega) hb with y2 | ⟨k', y1, y2, y3⟩
              · exact Or.inl y2
              · exact Or.inr ⟨k', y1, y2, by omega⟩
theorem x_least (hne : ∀ p, p < 10 → bt M p = true → a_need p = -1 ∨ ∃ k, k ≤ 9 ∧ a_need p = nI k) (K : ∀ r, xn_R M a_need 10 r → post r) : wpX_leastNeed post (f_testCount, f_actionCount, f_tokenLimit, f_occurrenceLimit, f_atomCount, f_allAtoms, f_enteredSize, f_nodeCount, f_hasResult, f_resultMode, f_resultVerdict, f_witnessSize, f_witnessOwner, a_size, a_list, a_begin, a_heightAfter, a_actionsAfter, a_entered, a_built, a_states, a_follow, a_accepting, a_need, a_labelled, a_opAtoms, a_opFirst, a_opLast, a_nodeSet, a_nodeParent, a_nodeAtom, a_nodeAction, a_nodeDepth, a_witness) M :=
  ⟨11, x_least_lp (f_testCount := f_testCount) (f_actionCount := f_actionCount) (f_tokenLimit := f_tokenLimit) (f_occurrenceLimit := f_occurrenceLimit) (f_atomCount := f_atomCount) (f_allAtoms := f_allAtoms) (f_enteredSize := f_enteredSize) (f_nodeCount := f_nodeCount) (f_hasResult := f_hasResult) (f_resultMode := f_resultMode) (f_resultVerdict := f_resultVerdict) (f_witnessSize := f_witnessSize) (f_witnessOwner := f_witnessOwner) (a_size := a_size) (a_list := a_list) (a_begin := a_begin) (a_heightAfter := a_heightAfter) (a_actionsAfter := a_actionsAfter) (a_entered := a_entered) (a_built := a_built) (a_states := a_states) (a_follow := a_follow) (a_accepting := a_accepting) (a_need := a_need) (a_labelled := a_labelled) (a_opAtoms := a_opAtoms) (a_opFirst := a_opFirst) (a_opLast := a_opLast) (a_nodeSet := a_nodeSet) (a_nodeParent := a_nodeParent) (a_nodeAtom := a_nodeAtom) (a_nodeAction := a_nodeAction) (a_nodeDepth := a_nodeDepth) (a_witness := a_witness) hne K 10 0 rfl (-11) (Or.inl ⟨rfl, fun p hp => absurd hp (Nat.not_lt_zero _)⟩)⟩
theorem x_after_lp (hN : N ≤ 4) (hA : A ≤ 3) (hE : en_ok N A cnt e a_entered) {k : Nat} (hk : 2 * k ≤ cnt) (K : post (wd_r (x_st a_follow a_labelled A) M (ew A e k))) :
    ∀ dd i, i + dd = k → wX_afterEntered_17 post (nI k) f_testCount f_actionCount f_tokenLimit f_occurrenceLimit f_atomCount f_allAtoms f_enteredSize f_nodeCount f_hasResult f_resultMode f_resultVerdict f_witnessSize f_witnessOwner a_size a_list a_begin a_heightAfter a_actionsAfter a_entered a_built a_states a_follow a_accepting a_need a_labelled a_opAtoms a_opFirst a_opLast a_nodeSet a_nodeParent a_nodeAtom a_nodeAction a_nodeDepth a_witness (dd + 1) (wd_r (x_st a_follow a_labelled A) M (ew A e i)) (nI i) := by
  have hcnt := hE.1
  intro dd
  induction dd with
  | zero =>
    intro i hi
    have hi : i = k := hi
    subst hi
    rw [wX_afterEntered_17]
    exact br_t (nI_le (Nat.le_refl _) (by omega)) K
  | succ dd ih =>
    intro i hi
    rw [wX_afterEntered_17]
    have e2 : (2 : Int32) * nI i = nI (2 * i) := by show nI 2 * nI i = _; rw [pk_mul]
    have E1 := en_at hE (k := i) (by omega)
    have E2 := en_ac hE (k := i) (by omega)
    dsimp only
    rw [e2, nI_1 (2 * i)]
    refine br_f (nI_ge (by omega) (by omega)) ⟨vp_in_nI (by omega) (by decide), vp_in_nI (by omega) (by decide), ?_⟩
    rw [nI_clamp (by omega), nI_clamp (by omega), E1.1, E2.1]
    refine x_step (by omega) (by omega) (nm_r (nI_1 i) ?_)
    have := ih (i + 1) (by omega)
    have ex : wd_r (x_st a_follow a_labelled A) M (ew A e (i + 1)) = xs_sc a_follow (wd_r (x_st a_follow a_labelled A) M (ew A e i)) (e (2 * i)) 10 &&& a_labelled (e (2 * i + 1)) := by
      show xs_sc a_follow _ ((e (2 * i) * A + e (2 * i + 1)) / A) 10 &&& a_labelled ((e (2 * i) * A + e (2 * i + 1)) % A) = _
      rw [ew_div E2.2, ew_mod E2.2]
    rw [ex] at this
    exact this
theorem x_after (hs : s < 2) (hN : N ≤ 4) (hA : A ≤ 3) (hE : en_ok N A cnt e a_entered) (hc : f_enteredSize = nI cnt) (K : post (wd_r (x_st a_follow a_labelled A) (xM s au_s0) (ew A e (cnt / 2)))) :
    wpX_afterEntered post (f_testCount, f_actionCount, f_tokenLimit, f_occurrenceLimit, f_atomCount, f_allAtoms, f_enteredSize, f_nodeCount, f_hasResult, f_resultMode, f_resultVerdict, f_witnessSize, f_witnessOwner, a_size, a_list, a_begin, a_heightAfter, a_actionsAfter, a_entered, a_built, a_states, a_follow, a_accepting, a_need, a_labelled, a_opAtoms, a_opFirst, a_opLast, a_nodeSet, a_nodeParent, a_nodeAtom, a_nodeAction, a_nodeDepth, a_witness) (nI s) := by
  have hcnt := hE.1
  subst hc
  unfold wpX_afterEntered
  refine nm_r (e' := xM s au_s0) ?_ (nm_r (e' := nI (cnt / 2)) ?_ ⟨cnt / 2 + 1, x_after_lp (f_testCount := f_testCount) (f_actionCount := f_actionCount) (f_tokenLimit := f_tokenLimit) (f_occurrenceLimit := f_occurrenceLimit) (f_atomCount := f_atomCount) (f_allAtoms := f_allAtoms) (f_enteredSize := nI cnt) (f_nodeCount := f_nodeCount) (f_hasResult := f_hasResult) (f_resultMode := f_resultMode) (f_resultVerdict := f_resultVerdict) (f_witnessSize := f_witnessSize) (f_witnessOwner := f_witnessOwner) (a_size := a_size) (a_list := a_list) (a_begin := a_begin) (a_heightAfter := a_heightAfter) (a_actionsAfter := a_actionsAfter) (a_entered := a_entered) (a_built := a_built) (a_states := a_states) (a_follow := a_follow) (a_accepting := a_accepting) (a_need := a_need) (a_labelled := a_labelled) (a_opAtoms := a_opAtoms) (a_opFirst := a_opFirst) (a_opLast := a_opLast) (a_nodeSet := a_nodeSet) (a_nodeParent := a_nodeParent) (a_nodeAtom := a_nodeAtom) (a_nodeAction := a_nodeAction) (a_nodeDepth := a_nodeDepth) (a_witness := a_witness) hN hA hE (by omega) K (cnt / 2) 0 (Nat.zero_add _)⟩)
  · rw [show (8 : Int32) + nI s = nI (xb s 8) by rw [xb_8]; show nI 8 + nI s = _; rw [nI_add], xM_one hs (by omega)]; rfl
  · exact pk_shrN (by omega) _ 1 (by decide)
end
/-! the masks are those of the abstract sets -/
section
variable {N s c A : Nat} {o : Od} {lb : Nat → Nat} {st fo ac ne la : Nat → Int32}
theorem xr_sc (H : at_ok N s o lb c st fo ac ne la) (hs : s < 2) (hc : c ≤ 8) {S : Nat → Bool} (hS : ∀ a, S a = true → a < c ∨ a = 8) {x : Nat} (hx : x < N) :
    xs_sc fo (xM s S) x 10 = xM s (fun q => au_go o S x q && au_live o N q) := by
  apply zk_ext
  intro j hj
  apply bo_iff
  rw [ex_iff]
  constructor
  · rintro ⟨p, hp, h⟩
    rw [Bool.and_eq_true, xM_bt (by omega), Bool.and_eq_true, decide_eq_true_eq] at h
    obtain ⟨⟨h1, h2⟩, h3⟩ := h
    have hb := xb_xi hs h1
    have := (H.2.1 (xi s p) (hS _ h2)).1 x hx
    rw [hb.1] at this
    rw [this, xM_bt hj, Bool.and_eq_true, Bool.and_eq_true] at h3
    show (decide (xi s j < 9) && (au_go o S x (xi s j) && au_live o N (xi s j))) = true
    rw [h3.1, h3.2.2, au_go_iff.mpr ⟨xi s p, h1, h2, h3.2.1⟩]; rfl
  · intro h
    rw [Bool.and_eq_true, Bool.and_eq_true] at h
    obtain ⟨h1, h2, h3⟩ := h
    obtain ⟨a, ha, e1, e2⟩ := au_go_iff.mp h2
    have hb := xi_xb hs ha
    refine ⟨xb s a, hb.2.1, ?_⟩
    rw [xM_at hs ha, e1, (H.2.1 a (hS a e1)).1 x hx, xM_bt hj, h1, e2, h3]; rfl
theorem xr_la (H : at_ok N s o lb c st fo ac ne la) (hs : s < 2) (hc : c ≤ 8) {f : Nat → Bool} (hf : ∀ q, f q = true → q < c) {k : Nat} (hk : k < 3) :
    xM s f &&& la k = xM s (fun q => f q && decide (lb q = k)) := by
  apply zk_of
  intro j hj
  rw [b_and, xM_bt hj]
  show _ = (decide (xi s j < 9) && (f (xi s j) && decide (lb (xi s j) = k)))
  by_cases h : xi s j < 9 ∧ f (xi s j) = true
  · have hb := xb_xi hs h.1
    have := H.2.2 k (xi s j) hk (hf _ h.2)
    rw [hb.1] at this
    rw [this, h.2, decide_eq_true h.1]; rfl
  · by_cases z : xi s j < 9
    · rw [ts_nt' (fun w => h ⟨z, w⟩), Bool.false_and, Bool.and_false, Bool.false_and]
    · rw [decide_eq_false z]; rfl
theorem xr_st (H : at_ok N s o lb c st fo ac ne la) (hs : s < 2) (hc : c ≤ 8) (hB : od_B c o) (hA : 0 < A) (hA3 : A ≤ 3) {S : Nat → Bool} (hS : ∀ a, S a = true → a < c ∨ a = 8) {l : Nat} (hl : l < N * A) :
    x_st fo la A (xM s S) l = xM s (au_T o lb N A S l) := by
  have hx : l / A < N := Nat.div_lt_of_lt_mul (by rw [Nat.mul_comm]; exact hl)
  have hk : l % A < A := Nat.mod_lt _ hA
  unfold x_st
  rw [xr_sc H hs hc hS hx, xr_la H hs hc (fun q hq => ?_) (by omega)]
  · rfl
  · rw [Bool.and_eq_true] at hq
    obtain ⟨a, _, _, h⟩ := au_go_iff.mp hq.1
    exact au_nx_b hB h
theorem xr_own (hB : od_B c o) (w : List Nat) : ∀ a, wd_r (au_T o lb N A) au_s0 w a = true → a < c ∨ a = 8 := by
  intro a h
  rcases au_T_b8 hB w h with z | z
  · exact Or.inl z
  · exact Or.inr z.2
theorem xr_run (H : at_ok N s o lb c st fo ac ne la) (hs : s < 2) (hc : c ≤ 8) (hB : od_B c o) (hA : 0 < A) (hA3 : A ≤ 3) : ∀ w, (∀ l, l ∈ w → l < N * A) → wd_r (x_st fo la A) (xM s au_s0) w = xM s (wd_r (au_T o lb N A) au_s0 w) := by
  intro w
  induction w with
  | nil => intro _; rfl
  | cons l w ih =>
    intro hw
    show x_st fo la A (wd_r (x_st fo la A) (xM s au_s0) w) l = _
    rw [ih (fun a ha => hw a (List.mem_cons_of_mem _ ha)), xr_st H hs hc hB hA hA3 (xr_own hB w) (hw l (List.mem_cons_self ..))]; rfl
theorem xr_ac (H : at_ok N s o lb c st fo ac ne la) (hs : s < 2) {S : Nat → Bool} (hS : ∀ a, S a = true → a < c ∨ a = 8) :
    xs_ac ac (xM s S) 10 = zA N (au_end o S) := by
  apply zk_ext
  intro j hj
  apply bo_iff
  rw [ex_iff]
  constructor
  · rintro ⟨p, hp, h⟩
    rw [Bool.and_eq_true, xM_bt (by omega), Bool.and_eq_true, decide_eq_true_eq] at h
    obtain ⟨⟨h1, h2⟩, h3⟩ := h
    have hb := xb_xi hs h1
    have := (H.2.1 (xi s p) (hS _ h2)).2.1
    rw [hb.1] at this
    rw [this, zk_bt _ hj, Bool.and_eq_true] at h3
    rw [h3.1, au_end_iff.mpr ⟨xi s p, h1, h2, h3.2⟩]; rfl
  · intro h
    rw [Bool.and_eq_true] at h
    obtain ⟨a, ha, e1, e2⟩ := au_end_iff.mp h.2
    have hb := xi_xb hs ha
    refine ⟨xb s a, hb.2.1, ?_⟩
    rw [xM_at hs ha, e1, (H.2.1 a (hS a e1)).2.1, zk_bt _ hj, h.1, e2]; rfl
theorem xr_ne (H : at_ok N s o lb c st fo ac ne la) (hs : s < 2) {S : Nat → Bool} (hS : ∀ a, S a = true → a < c ∨ a = 8) : ∀ p, p < 10 → bt (xM s S) p = true → ne p = -1 ∨ ∃ k, k ≤ 9 ∧ ne p = nI k := by
  intro p hp h
  rw [xM_bt (by omega), Bool.and_eq_true, decide_eq_true_eq] at h
  have hb := xb_xi hs h.1
  have := (H.2.1 (xi s p) (hS _ h.2)).2.2
  rw [hb.1] at this
  rcases this with z | ⟨e, h1, h2, _⟩
  · exact Or.inl z.2
  · exact Or.inr ⟨e, h1, h2⟩
theorem nI_m1 {k : Nat} (hk : k ≤ 9) : nI k ≠ -1 := by
  intro w
  have : (0 : Int32) ≤ nI k := nI_pos' (by omega)
  rw [w] at this
  exact absurd this (by decide)
theorem xr_ls (H : at_ok N s o lb c st fo ac ne la) (hs : s < 2) (hc : c ≤ 8) (hB : od_B c o) {S : Nat → Bool} (hS : ∀ a, S a = true → a < c ∨ a = 8) {r : Int32} (R : xn_R (xM s S) ne 10 r) :
    (r = -11 ∧ ∀ j, au_in o N S j = false) ∨ (∃ j, j ≤ 9 ∧ r = nI j ∧ au_in o N S j = true ∧ ∀ i, i < j → au_in o N S i = false) := by
  rcases R with ⟨h1, h2⟩ | ⟨p, k, h1, h2, h3, h4, h5, h6⟩
  · refine Or.inl ⟨h1, fun j => ?_⟩
    cases z : au_in o N S j
    · rfl
    · obtain ⟨a, ha, e1, e2⟩ := au_in_iff.mp z
      have hb := xi_xb hs ha
      have hm := h2 (xb s a) hb.2.1 (by rw [xM_at hs ha]; exact e1)
      rcases (H.2.1 a (hS a e1)).2.2 with w | ⟨e, g1, g2, _⟩
      · have := au_live_of hB hc e2
        unfold au_live at this
        rw [w.1] at this; cases this
      · rw [g2] at hm
        exact absurd hm (nI_m1 g1)
  · rw [xM_bt (by omega), Bool.and_eq_true, decide_eq_true_eq] at h3
    have hb := xb_xi hs h3.1
    refine Or.inr ⟨k, h2, h5, ?_, fun i hi => ?_⟩
    · rcases (H.2.1 (xi s p) (hS _ h3.2)).2.2 with w | ⟨e, g1, g2, g3, _⟩
      · rw [hb.1, h4] at w
        exact absurd w.2 (nI_m1 h2)
      · rw [hb.1, h4, nI_eq (by omega) (by omega)] at g2
        subst g2
        exact au_in_iff.mpr ⟨xi s p, h3.1, h3.2, g3⟩
    · cases z : au_in o N S i
      · rfl
      · obtain ⟨a, ha, e1, e2⟩ := au_in_iff.mp z
        have hba := xi_xb hs ha
        rcases (H.2.1 a (hS a e1)).2.2 with w | ⟨e, g1, g2, g3, g4⟩
        · have := au_live_of hB hc e2
          unfold au_live at this
          rw [w.1] at this; cases this
        · have hei : e ≤ i := by
            apply Classical.byContradiction
            intro w
            rw [g4 i (by omega)] at e2; cases e2
          rcases h6 (xb s a) hba.2.1 (by rw [xM_at hs ha]; exact e1) with w | ⟨k', w1, w2, w3⟩
          · rw [g2] at w
            exact absurd w (nI_m1 g1)
          · rw [g2, nI_eq (by omega) (by omega)] at w2
            omega
end
end
section
/-! ===== difference, closure, follows ===== -/
def bd (mode : Nat) (l r : Bool) : Bool := if mode = 1 then l && !r else if mode = 2 then r && !l else l ^^ r
def xd (ac : Nat → Int32) (L R : Int32) (mode : Nat) (M : Int32) : Int32 :=
  if mode = 1 then xs_ac ac (M &&& L) 10 &&& (xs_ac ac (M &&& R) 10 ^^^ (-1)) else if mode = 2 then xs_ac ac (M &&& R) 10 &&& (xs_ac ac (M &&& L) 10 ^^^ (-1)) else xs_ac ac (M &&& L) 10 ^^^ xs_ac ac (M &&& R) 10
theorem xd_bt {ac : Nat → Int32} {L R M : Int32} {mode j : Nat} (hj : j < 32) : bt (xd ac L R mode M) j = bd mode (bt (xs_ac ac (M &&& L) 10) j) (bt (xs_ac ac (M &&& R) 10) j) := by
  unfold xd bd
  split
  · rw [b_and, zk_not _ hj]
  split
  · rw [b_and, zk_not _ hj]
  rw [b_xor]
def sb (x y : Int32) : Prop := ∀ b, b < 32 → bt x b = true → bt y b = true
theorem sb_iff {x y : Int32} : (x &&& (y ^^^ (-1))) = 0 ↔ sb x y := zk_sub
theorem sb_tr {x y z : Int32} (h : sb x y) (g : sb y z) : sb x z := fun b hb e => g b hb (h b hb e)
theorem sb_rf (x : Int32) : sb x x := fun _ _ e => e
theorem sb_or {x y z : Int32} (h : sb x z) (g : sb y z) : sb (x ||| y) z := by
  intro b hb e
  rw [b_or, Bool.or_eq_true] at e
  rcases e with e | e
  · exact h b hb e
  · exact g b hb e
theorem sb_l (x y : Int32) : sb x (x ||| y) := fun b _ e => by rw [b_or, e]; rfl
theorem sb_r (x y : Int32) : sb y (x ||| y) := fun b _ e => by rw [b_or, e, Bool.or_true]
theorem sb_al (x y : Int32) : sb (x &&& y) x := fun b _ e => by rw [b_and, Bool.and_eq_true] at e; exact e.1
/-- a node's claim lets C grow by it -/
def ap_l (mode : Nat) (L R Nj C : Int32) : Prop := (mode ≠ 1 ∧ sb (Nj &&& L) C) ∨ (mode ≠ 2 ∧ sb (Nj &&& R) C)
theorem ap_m {mode : Nat} {L R Nj C D : Int32} (h : ap_l mode L R Nj C) (g : sb C D) : ap_l mode L R Nj D := by
  rcases h with ⟨a, b⟩ | ⟨a, b⟩
  · exact Or.inl ⟨a, sb_tr b g⟩
  · exact Or.inr ⟨a, sb_tr b g⟩
def cl_good (mode : Nat) (L R : Int32) (ns : Nat → Int32) (cnt : Nat) (Z : Int32) : Prop := ∀ j, j < cnt → ap_l mode L R (ns j) Z → sb (ns j) Z
def cl_I (mode : Nat) (L R : Int32) (ns : Nat → Int32) (cnt : Nat) (S : Int32) (i : Nat) (C : Int32) : Prop :=
  sb S C ∧ (∀ Z, cl_good mode L R ns cnt Z → sb S Z → sb C Z) ∧ (∀ j, j < i → ap_l mode L R (ns j) S → sb (ns j) C)
theorem cl_grow {mode : Nat} {L R : Int32} {ns : Nat → Int32} {cnt : Nat} {S C : Int32} {i : Nat} (H : cl_I mode L R ns cnt S i C) (hi : i < cnt) (h : ap_l mode L R (ns i) C) : cl_I mode L R ns cnt S (i + 1) (C ||| ns i) := by
  obtain ⟨h1, h2, h3⟩ := H
  refine ⟨sb_tr h1 (sb_l _ _), fun Z g s => sb_or (h2 Z g s) (g i hi (ap_m h (h2 Z g s))), fun j hj a => ?_⟩
  by_cases e : j = i
  · rw [e]; exact sb_r _ _
  · exact sb_tr (h3 j (by omega) a) (sb_l _ _)
theorem cl_stay {mode : Nat} {L R : Int32} {ns : Nat → Int32} {cnt : Nat} {S C : Int32} {i : Nat} (H : cl_I mode L R ns cnt S i C) (h : ¬ ap_l mode L R (ns i) C) : cl_I mode L R ns cnt S (i + 1) C := by
  obtain ⟨h1, h2, h3⟩ := H
  refine ⟨h1, h2, fun j hj a => ?_⟩
  by_cases e : j = i
  · rw [e] at a; exact absurd (ap_m a h1) h
  · exact h3 j (by omega) a
section
variable {post : Int32 → Prop} {mode cnt : Nat} {M S : Int32}
variable {f_testCount f_actionCount f_tokenLimit f_occurrenceLimit f_atomCount f_allAtoms f_enteredSize f_nodeCount f_hasResult f_resultMode f_resultVerdict f_witnessSize f_witnessOwner : Int32} {a_size a_list a_begin a_heightAfter a_actionsAfter a_entered a_built a_states a_follow a_accepting a_need a_labelled a_opAtoms a_opFirst a_opLast a_nodeSet a_nodeParent a_nodeAtom a_nodeAction a_nodeDepth a_witness : Nat → Int32}
theorem x_diff (hm : mode ≤ 2) (K : post (xd a_accepting (a_states 0) (a_states 1) mode M)) : wpX_difference post (f_testCount, f_actionCount, f_tokenLimit, f_occurrenceLimit, f_atomCount, f_allAtoms, f_enteredSize, f_nodeCount, f_hasResult, f_resultMode, f_resultVerdict, f_witnessSize, f_witnessOwner, a_size, a_list, a_begin, a_heightAfter, a_actionsAfter, a_entered, a_built, a_states, a_follow, a_accepting, a_need, a_labelled, a_opAtoms, a_opFirst, a_opLast, a_nodeSet, a_nodeParent, a_nodeAtom, a_nodeAction, a_nodeDepth, a_witness) M (nI mode) := by
  unfold wpX_difference
  refine x_accA (x_accA ?_)
  unfold xd at K
  refine pk_eq mode 1 (fun e => ?_) (fun e1 => pk_eq mode 2 (fun e => ?_) (fun e2 => ?_))
  · rw [if_pos e] at K; exact K
  · rw [if_neg e1, if_pos e] at K; exact K
  · rw [if_neg e1, if_neg e2] at K; exact K
theorem x_clos_18 {J5 : Int32 → Int32 → Prop} {ps : Nat} (hm : mode ≤ 2) (hc : cnt ≤ 257) (hfc : f_nodeCount = nI cnt)
    (K : ∀ C, cl_I mode (a_states 0) (a_states 1) a_nodeSet cnt S cnt C → (C = S → post C) ∧ (¬ C = S → J5 C (nI (ps + 1)))) :
    ∀ dd i, i + dd = cnt → ∀ C, cl_I mode (a_states 0) (a_states 1) a_nodeSet cnt S i C → wX_closure_18 post J5 (nI mode) (nI ps) S f_testCount f_actionCount f_tokenLimit f_occurrenceLimit f_atomCount f_allAtoms f_enteredSize f_nodeCount f_hasResult f_resultMode f_resultVerdict f_witnessSize f_witnessOwner a_size a_list a_begin a_heightAfter a_actionsAfter a_entered a_built a_states a_follow a_accepting a_need a_labelled a_opAtoms a_opFirst a_opLast a_nodeSet a_nodeParent a_nodeAtom a_nodeAction a_nodeDepth a_witness (dd + 1) C (nI i) := by
  subst hfc
  intro dd
  induction dd with
  | zero =>
    intro i hi C H
    have hi : i = cnt := hi
    subst hi
    rw [wX_closure_18]
    have := K C H
    exact br_t (nI_le (Nat.le_refl _) (by omega)) (br_c this.1 (fun h => nm_r (nI_1 ps) (this.2 h)))
  | succ dd ih =>
    intro i hi C H
    have go : ap_l mode (a_states 0) (a_states 1) (a_nodeSet i) C → wX_closure_111 post J5 (wX_closure_18 post J5 (nI mode) (nI ps) S f_testCount f_actionCount f_tokenLimit f_occurrenceLimit f_atomCount f_allAtoms f_enteredSize (nI cnt) f_hasResult f_resultMode f_resultVerdict f_witnessSize f_witnessOwner a_size a_list a_begin a_heightAfter a_actionsAfter a_entered a_built a_states a_follow a_accepting a_need a_labelled a_opAtoms a_opFirst a_opLast a_nodeSet a_nodeParent a_nodeAtom a_nodeAction a_nodeDepth a_witness (dd + 1)) (nI mode) C (nI ps) S (nI i) f_testCount f_actionCount f_tokenLimit f_occurrenceLimit f_atomCount f_allAtoms f_enteredSize (nI cnt) f_hasResult f_resultMode f_resultVerdict f_witnessSize f_witnessOwner a_size a_list a_begin a_heightAfter a_actionsAfter a_entered a_built a_states a_follow a_accepting a_need a_labelled a_opAtoms a_opFirst a_opLast a_nodeSet a_nodeParent a_nodeAtom a_nodeAction a_nodeDepth a_witness := by
      intro h
      unfold wX_closure_111
      refine ⟨vp_in_nI (by omega) (by decide), nm_r (e' := C ||| a_nodeSet i) (by rw [nI_clamp (by omega)]) (nm_r (nI_1 i) ?_)⟩
      exact ih (i + 1) (by omega) _ (cl_grow H (by omega) h)
    have no : ¬ ap_l mode (a_states 0) (a_states 1) (a_nodeSet i) C → wX_closure_18 post J5 (nI mode) (nI ps) S f_testCount f_actionCount f_tokenLimit f_occurrenceLimit f_atomCount f_allAtoms f_enteredSize (nI cnt) f_hasResult f_resultMode f_resultVerdict f_witnessSize f_witnessOwner a_size a_list a_begin a_heightAfter a_actionsAfter a_entered a_built a_states a_follow a_accepting a_need a_labelled a_opAtoms a_opFirst a_opLast a_nodeSet a_nodeParent a_nodeAtom a_nodeAction a_nodeDepth a_witness (dd + 1) C (nI (i + 1)) :=
      fun h => ih (i + 1) (by omega) _ (cl_stay H h)
    rw [wX_closure_18]
    refine br_f (nI_ge (by omega) (by omega)) ⟨vp_in_nI (by omega) (by decide), nm_r (e' := a_nodeSet i &&& a_states 0) (by rw [nI_clamp (by omega)]) ⟨vp_in_nI (by omega) (by decide), nm_r (e' := a_nodeSet i &&& a_states 1) (by rw [nI_clamp (by omega)]) ?_⟩⟩
    -- the right part, with what the left one told
    have rt : ∀ b : Bool, (b = true ↔ (mode ≠ 1 ∧ sb (a_nodeSet i &&& a_states 0) C)) → wX_closure_78 post J5 (wX_closure_18 post J5 (nI mode) (nI ps) S f_testCount f_actionCount f_tokenLimit f_occurrenceLimit f_atomCount f_allAtoms f_enteredSize (nI cnt) f_hasResult f_resultMode f_resultVerdict f_witnessSize f_witnessOwner a_size a_list a_begin a_heightAfter a_actionsAfter a_entered a_built a_states a_follow a_accepting a_need a_labelled a_opAtoms a_opFirst a_opLast a_nodeSet a_nodeParent a_nodeAtom a_nodeAction a_nodeDepth a_witness (dd + 1)) (nI mode) C (nI ps) S (nI i) (a_nodeSet i &&& a_states 1) (b01 b) f_testCount f_actionCount f_tokenLimit f_occurrenceLimit f_atomCount f_allAtoms f_enteredSize (nI cnt) f_hasResult f_resultMode f_resultVerdict f_witnessSize f_witnessOwner a_size a_list a_begin a_heightAfter a_actionsAfter a_entered a_built a_states a_follow a_accepting a_need a_labelled a_opAtoms a_opFirst a_opLast a_nodeSet a_nodeParent a_nodeAtom a_nodeAction a_nodeDepth a_witness := by
      intro b hb
      have j99 : ∀ r : Bool, (r = true ↔ (mode ≠ 2 ∧ sb (a_nodeSet i &&& a_states 1) C)) → wX_closure_99 post J5 (wX_closure_18 post J5 (nI mode) (nI ps) S f_testCount f_actionCount f_tokenLimit f_occurrenceLimit f_atomCount f_allAtoms f_enteredSize (nI cnt) f_hasResult f_resultMode f_resultVerdict f_witnessSize f_witnessOwner a_size a_list a_begin a_heightAfter a_actionsAfter a_entered a_built a_states a_follow a_accepting a_need a_labelled a_opAtoms a_opFirst a_opLast a_nodeSet a_nodeParent a_nodeAtom a_nodeAction a_nodeDepth a_witness (dd + 1)) (nI mode) C (nI ps) S (nI i) (b01 b) (b01 r) f_testCount f_actionCount f_tokenLimit f_occurrenceLimit f_atomCount f_allAtoms f_enteredSize (nI cnt) f_hasResult f_resultMode f_resultVerdict f_witnessSize f_witnessOwner a_size a_list a_begin a_heightAfter a_actionsAfter a_entered a_built a_states a_follow a_accepting a_need a_labelled a_opAtoms a_opFirst a_opLast a_nodeSet a_nodeParent a_nodeAtom a_nodeAction a_nodeDepth a_witness := by
        intro r hr
        unfold wX_closure_99
        refine zk_bb rfl (fun zb => zk_bb rfl (fun zr => nm_r (nI_1 i) (no ?_)) (fun zr => go (Or.inr (hr.mp zr)))) (fun zb => go (Or.inl (hb.mp zb)))
        rintro (w | w)
        · rw [hb.mpr w] at zb; cases zb
        · rw [hr.mpr w] at zr; cases zr
      unfold wX_closure_78
      refine pk_eq mode 2 (fun e => ?_) (fun e => ?_)
      · unfold wX_closure_98
        exact j99 false ⟨fun w => (nomatch w), fun w => absurd e w.1⟩
      · refine br_c (fun z => ?_) (fun z => ?_)
        · exact j99 true ⟨fun _ => ⟨e, sb_iff.mp z⟩, fun _ => rfl⟩
        · unfold wX_closure_98
          exact j99 false ⟨fun w => (nomatch w), fun w => absurd (sb_iff.mpr w.2) z⟩
    refine pk_eq mode 1 (fun e => ?_) (fun e => ?_)
    · unfold wX_closure_77
      exact rt false ⟨fun w => (nomatch w), fun w => absurd e w.1⟩
    · refine br_c (fun z => ?_) (fun z => ?_)
      · exact rt true ⟨fun _ => ⟨e, sb_iff.mp z⟩, fun _ => rfl⟩
      · unfold wX_closure_77
        exact rt false ⟨fun w => (nomatch w), fun w => absurd (sb_iff.mpr w.2) z⟩
theorem cl_comp {L R : Int32} {ns : Nat → Int32} {C D : Int32} {i : Nat} (H : cl_I mode L R ns cnt S i C) (G : cl_I mode L R ns cnt C cnt D) : cl_I mode L R ns cnt S cnt D := by
  obtain ⟨h1, h2, h3⟩ := H
  obtain ⟨g1, g2, g3⟩ := G
  exact ⟨sb_tr h1 g1, fun Z q s => g2 Z q (h2 Z q s), fun j hj a => g3 j hj (ap_m a h1)⟩
theorem x_clos_5 (hm : mode ≤ 2) (hc : cnt ≤ 257) (hfc : f_nodeCount = nI cnt) (K : ∀ C, cl_I mode (a_states 0) (a_states 1) a_nodeSet cnt S cnt C → post C) :
    ∀ dd ps, ps + dd = 10 → ∀ C i, (0 < ps → i = cnt) → cl_I mode (a_states 0) (a_states 1) a_nodeSet cnt S i C → wX_closure_5 post (nI mode) f_testCount f_actionCount f_tokenLimit f_occurrenceLimit f_atomCount f_allAtoms f_enteredSize f_nodeCount f_hasResult f_resultMode f_resultVerdict f_witnessSize f_witnessOwner a_size a_list a_begin a_heightAfter a_actionsAfter a_entered a_built a_states a_follow a_accepting a_need a_labelled a_opAtoms a_opFirst a_opLast a_nodeSet a_nodeParent a_nodeAtom a_nodeAction a_nodeDepth a_witness (dd + 1) C (nI ps) := by
  intro dd
  induction dd with
  | zero =>
    intro ps hp C i hi H
    have hp : ps = 10 := hp
    subst hp
    rw [wX_closure_5]
    rw [hi (by omega)] at H
    exact br_t (by decide) (K C H)
  | succ dd ih =>
    intro ps hp C i hi H
    rw [wX_closure_5]
    refine br_f (nI_ge (b := 10) (by omega) (by decide)) ⟨cnt + 1, x_clos_18 (f_testCount := f_testCount) (f_actionCount := f_actionCount) (f_tokenLimit := f_tokenLimit) (f_occurrenceLimit := f_occurrenceLimit) (f_atomCount := f_atomCount) (f_allAtoms := f_allAtoms) (f_enteredSize := f_enteredSize) (f_nodeCount := f_nodeCount) (f_hasResult := f_hasResult) (f_resultMode := f_resultMode) (f_resultVerdict := f_resultVerdict) (f_witnessSize := f_witnessSize) (f_witnessOwner := f_witnessOwner) (a_size := a_size) (a_list := a_list) (a_begin := a_begin) (a_heightAfter := a_heightAfter) (a_actionsAfter := a_actionsAfter) (a_entered := a_entered) (a_built := a_built) (a_states := a_states) (a_follow := a_follow) (a_accepting := a_accepting) (a_need := a_need) (a_labelled := a_labelled) (a_opAtoms := a_opAtoms) (a_opFirst := a_opFirst) (a_opLast := a_opLast) (a_nodeSet := a_nodeSet) (a_nodeParent := a_nodeParent) (a_nodeAtom := a_nodeAtom) (a_nodeAction := a_nodeAction) (a_nodeDepth := a_nodeDepth) (a_witness := a_witness) hm hc hfc (fun D G => ?_) cnt 0 (Nat.zero_add cnt) C ⟨sb_rf C, fun Z _ s => s, fun j hj => absurd hj (Nat.not_lt_zero _)⟩⟩
    have G' := cl_comp H G
    exact ⟨fun _ => K D G', fun _ => ih (ps + 1) (by omega) D cnt (fun _ => rfl) G'⟩
theorem x_clos (hm : mode ≤ 2) (hc : cnt ≤ 257) (hfc : f_nodeCount = nI cnt) (K : ∀ C, cl_I mode (a_states 0) (a_states 1) a_nodeSet cnt S cnt C → post C) : wpX_closure post (f_testCount, f_actionCount, f_tokenLimit, f_occurrenceLimit, f_atomCount, f_allAtoms, f_enteredSize, f_nodeCount, f_hasResult, f_resultMode, f_resultVerdict, f_witnessSize, f_witnessOwner, a_size, a_list, a_begin, a_heightAfter, a_actionsAfter, a_entered, a_built, a_states, a_follow, a_accepting, a_need, a_labelled, a_opAtoms, a_opFirst, a_opLast, a_nodeSet, a_nodeParent, a_nodeAtom, a_nodeAction, a_nodeDepth, a_witness) S (nI mode) :=
  ⟨11, x_clos_5 (f_testCount := f_testCount) (f_actionCount := f_actionCount) (f_tokenLimit := f_tokenLimit) (f_occurrenceLimit := f_occurrenceLimit) (f_atomCount := f_atomCount) (f_allAtoms := f_allAtoms) (f_enteredSize := f_enteredSize) (f_nodeCount := f_nodeCount) (f_hasResult := f_hasResult) (f_resultMode := f_resultMode) (f_resultVerdict := f_resultVerdict) (f_witnessSize := f_witnessSize) (f_witnessOwner := f_witnessOwner) (a_size := a_size) (a_list := a_list) (a_begin := a_begin) (a_heightAfter := a_heightAfter) (a_actionsAfter := a_actionsAfter) (a_entered := a_entered) (a_built := a_built) (a_states := a_states) (a_follow := a_follow) (a_accepting := a_accepting) (a_need := a_need) (a_labelled := a_labelled) (a_opAtoms := a_opAtoms) (a_opFirst := a_opFirst) (a_opLast := a_opLast) (a_nodeSet := a_nodeSet) (a_nodeParent := a_nodeParent) (a_nodeAtom := a_nodeAtom) (a_nodeAction := a_nodeAction) (a_nodeDepth := a_nodeDepth) (a_witness := a_witness) hm hc hfc K 10 0 rfl S 0 (fun h => absurd h (Nat.lt_irrefl _)) ⟨sb_rf S, fun Z _ s => s, fun j hj => absurd hj (Nat.not_lt_zero _)⟩⟩
/-- what 'follows' tells -/
def fw_s (mode : Nat) (L R : Int32) (ns : Nat → Int32) (cnt : Nat) (M : Int32) : Prop :=
  (mode ≠ 2 → ∀ Z, cl_good mode L R ns cnt Z → sb (M &&& R) Z → sb (M &&& L) Z) ∧ (mode ≠ 1 → ∀ Z, cl_good mode L R ns cnt Z → sb (M &&& L) Z → sb (M &&& R) Z)
theorem x_follows (hm : mode ≤ 2) (hc : cnt ≤ 257) (hfc : f_nodeCount = nI cnt) (K1 : fw_s mode (a_states 0) (a_states 1) a_nodeSet cnt M → post 1) (K0 : (∀ j, j < cnt → a_nodeSet j ≠ M) → post 0) :
    wpX_follows post (f_testCount, f_actionCount, f_tokenLimit, f_occurrenceLimit, f_atomCount, f_allAtoms, f_enteredSize, f_nodeCount, f_hasResult, f_resultMode, f_resultVerdict, f_witnessSize, f_witnessOwner, a_size, a_list, a_begin, a_heightAfter, a_actionsAfter, a_entered, a_built, a_states, a_follow, a_accepting, a_need, a_labelled, a_opAtoms, a_opFirst, a_opLast, a_nodeSet, a_nodeParent, a_nodeAtom, a_nodeAction, a_nodeDepth, a_witness) M (nI mode) := by
  unfold wpX_follows
  refine nm_e (nm_e ?_)
  have r44 : (mode ≠ 2 → ∀ Z, cl_good mode (a_states 0) (a_states 1) a_nodeSet cnt Z → sb (M &&& a_states 1) Z → sb (M &&& a_states 0) Z) → wX_follows_44 post (nI mode) (M &&& a_states 0) (M &&& a_states 1) f_testCount f_actionCount f_tokenLimit f_occurrenceLimit f_atomCount f_allAtoms f_enteredSize f_nodeCount f_hasResult f_resultMode f_resultVerdict f_witnessSize f_witnessOwner a_size a_list a_begin a_heightAfter a_actionsAfter a_entered a_built a_states a_follow a_accepting a_need a_labelled a_opAtoms a_opFirst a_opLast a_nodeSet a_nodeParent a_nodeAtom a_nodeAction a_nodeDepth a_witness := by
    intro h
    unfold wX_follows_44
    refine pk_eq mode 1 (fun e => K1 ⟨h, fun w => absurd e w⟩) (fun e => x_clos hm hc hfc (fun C H => ?_))
    refine br_c (fun z => K1 ⟨h, fun _ Z g s => ?_⟩) (fun z => K0 fun j hj w => z ?_)
    · exact sb_tr (sb_iff.mp z) (H.2.1 Z g s)
    · refine sb_iff.mpr (sb_tr (sb_al _ _) ?_)
      rw [← w]
      exact H.2.2 j hj (Or.inl ⟨e, by rw [w]; exact sb_rf _⟩)
  refine pk_eq mode 2 (fun e => r44 (fun w => absurd e w)) (fun e => x_clos hm hc hfc (fun C H => ?_))
  refine br_c (fun z => r44 (fun _ Z g s => sb_tr (sb_iff.mp z) (H.2.1 Z g s))) (fun z => K0 fun j hj w => z ?_)
  refine sb_iff.mpr (sb_tr (sb_al _ _) ?_)
  rw [← w]
  exact H.2.2 j hj (Or.inr ⟨e, by rw [w]; exact sb_rf _⟩)
end
end
section
/-! ===== a covered set fails only where a node fails ===== -/
def sg (p : Nat) : Int32 := zk_m (fun j => decide (j = p))
theorem xc_stb {fo la : Nat → Int32} {A : Nat} {M : Int32} {l q : Nat} (hq : q < 32) : bt (x_st fo la A M l) q = (ex_b 10 (fun p => bt M p && bt (fo (p * 4 + l / A)) q) && bt (la (l % A)) q) := by
  unfold x_st xs_sc
  rw [b_and, zk_bt _ hq]
theorem sg_bt {p j : Nat} (hj : j < 32) : bt (sg p) j = decide (j = p) := zk_bt _ hj
theorem xc_sg {fo la : Nat → Int32} {A : Nat} {p l q : Nat} (hp : p < 10) (hq : q < 32) : bt (x_st fo la A (sg p) l) q = (bt (fo (p * 4 + l / A)) q && bt (la (l % A)) q) := by
  rw [xc_stb hq]
  congr 1
  apply bo_iff
  rw [ex_iff]
  constructor
  · rintro ⟨r, hr, h⟩
    rw [Bool.and_eq_true, sg_bt (by omega), decide_eq_true_eq] at h
    rw [← h.1]; exact h.2
  · intro h
    exact ⟨p, hp, by rw [sg_bt (by omega), h, decide_eq_true rfl]; rfl⟩
/-- tables whose sides keep apart -/
def tb_ok (fo : Nat → Int32) (L R : Int32) (N : Nat) : Prop :=
  (∀ b, bt L b = true → b < 10 ∧ bt R b = false) ∧ (∀ b, bt R b = true → b < 10 ∧ bt L b = false) ∧
  (∀ p x q, x < N → bt L p = true → bt (fo (p * 4 + x)) q = true → bt L q = true ∧ q < 8) ∧
  (∀ p x q, x < N → bt R p = true → bt (fo (p * 4 + x)) q = true → bt R q = true ∧ q < 8)
def in_lr (L R M : Int32) : Prop := ∀ b, bt M b = true → bt L b = true ∨ bt R b = true
section
variable {fo la ac : Nat → Int32} {L R M : Int32} {N A mode cnt : Nat} {ns : Nat → Int32}
theorem b_lt {x : Int32} {b : Nat} (h : bt x b = true) : b < 32 := by
  apply Classical.byContradiction
  intro w
  rw [b_big (by omega)] at h; cases h
theorem xc_in (H : tb_ok fo L R N) (hM : in_lr L R M) {l : Nat} (hA : 0 < A) (hl : l < N * A) : in_lr L R (x_st fo la A M l) ∧ ∀ b, 8 ≤ b → bt (x_st fo la A M l) b = false := by
  have hx : l / A < N := Nat.div_lt_of_lt_mul (by rw [Nat.mul_comm]; exact hl)
  have key : ∀ b, bt (x_st fo la A M l) b = true → (bt L b = true ∨ bt R b = true) ∧ b < 8 := by
    intro b hb
    rw [xc_stb (b_lt hb), Bool.and_eq_true] at hb
    obtain ⟨p, hp, h⟩ := ex_iff.mp hb.1
    rw [Bool.and_eq_true] at h
    rcases hM p h.1 with w | w
    · have := H.2.2.1 p _ b hx w h.2; exact ⟨Or.inl this.1, this.2⟩
    · have := H.2.2.2 p _ b hx w h.2; exact ⟨Or.inr this.1, this.2⟩
  refine ⟨fun b hb => (key b hb).1, fun b hb => ?_⟩
  cases z : bt (x_st fo la A M l) b
  · rfl
  · have := (key b z).2; omega
theorem xc_add (H : tb_ok fo L R N) (hM : in_lr L R M) (hA : 0 < A) : ∀ v, (∀ l, l ∈ v → l < N * A) → ∀ q, bt (wd_r (x_st fo la A) M v) q = true ↔ ∃ p, p < 10 ∧ bt M p = true ∧ bt (wd_r (x_st fo la A) (sg p) v) q = true := by
  intro v
  induction v with
  | nil =>
    intro _ q
    constructor
    · intro h
      refine ⟨q, ?_, h, ?_⟩
      · rcases hM q h with w | w
        · exact (H.1 q w).1
        · exact (H.2.1 q w).1
      · show bt (sg q) q = true
        rw [sg_bt (b_lt h)]; exact decide_eq_true rfl
    · rintro ⟨p, hp, h1, h2⟩
      have h2 : bt (sg p) q = true := h2
      rw [sg_bt (b_lt h2), decide_eq_true_eq] at h2
      rw [h2]; exact h1
  | cons l v ih =>
    intro hv q
    have IH := ih (fun a ha => hv a (List.mem_cons_of_mem _ ha))
    show bt (x_st fo la A (wd_r (x_st fo la A) M v) l) q = true ↔ ∃ p, p < 10 ∧ bt M p = true ∧ bt (x_st fo la A (wd_r (x_st fo la A) (sg p) v) l) q = true
    constructor
    · intro h
      have hq := b_lt h
      rw [xc_stb hq, Bool.and_eq_true] at h
      obtain ⟨r, hr, e⟩ := ex_iff.mp h.1
      rw [Bool.and_eq_true] at e
      obtain ⟨p, hp, e1, e2⟩ := (IH r).mp e.1
      refine ⟨p, hp, e1, ?_⟩
      rw [xc_stb hq, h.2, ex_iff.mpr ⟨r, hr, by rw [e2, e.2]; rfl⟩]; rfl
    · rintro ⟨p, hp, h1, h⟩
      have hq := b_lt h
      rw [xc_stb hq, Bool.and_eq_true] at h
      obtain ⟨r, hr, e⟩ := ex_iff.mp h.1
      rw [Bool.and_eq_true] at e
      rw [xc_stb hq, h.2, ex_iff.mpr ⟨r, hr, by rw [(IH r).mpr ⟨p, hp, h1, e.1⟩, e.2]; rfl⟩]; rfl
theorem xc_side (H : tb_ok fo L R N) (hA : 0 < A) {p : Nat} (hp : p < 10) : ∀ v, (∀ l, l ∈ v → l < N * A) → ∀ q, bt (wd_r (x_st fo la A) (sg p) v) q = true → (bt L p = true → bt L q = true) ∧ (bt R p = true → bt R q = true) := by
  intro v
  induction v with
  | nil =>
    intro _ q h
    have h : bt (sg p) q = true := h
    rw [sg_bt (b_lt h), decide_eq_true_eq] at h
    rw [h]; exact ⟨fun w => w, fun w => w⟩
  | cons l v ih =>
    intro hv q h
    have hl := hv l (List.mem_cons_self ..)
    have hx : l / A < N := Nat.div_lt_of_lt_mul (by rw [Nat.mul_comm]; exact hl)
    have h : bt (x_st fo la A (wd_r (x_st fo la A) (sg p) v) l) q = true := h
    rw [xc_stb (b_lt h), Bool.and_eq_true] at h
    obtain ⟨r, hr, e⟩ := ex_iff.mp h.1
    rw [Bool.and_eq_true] at e
    have IH := ih (fun a ha => hv a (List.mem_cons_of_mem _ ha)) r e.1
    exact ⟨fun w => (H.2.2.1 r _ q hx (IH.1 w) e.2).1, fun w => (H.2.2.2 r _ q hx (IH.2 w) e.2).1⟩
/-- from p the string v leads to an end with atom x -/
def xc_a (fo la ac : Nat → Int32) (A : Nat) (v : List Nat) (x p : Nat) : Bool := bt (xs_ac ac (wd_r (x_st fo la A) (sg p) v) 10) x
theorem xs_ac_bt {ac : Nat → Int32} {M : Int32} {x : Nat} (hx : x < 32) : bt (xs_ac ac M 10) x = true ↔ ∃ p, p < 10 ∧ bt M p = true ∧ bt (ac p) x = true := by
  unfold xs_ac
  rw [zk_bt _ hx, ex_iff]
  constructor
  · rintro ⟨p, hp, h⟩
    rw [Bool.and_eq_true] at h
    exact ⟨p, hp, h⟩
  · rintro ⟨p, hp, h⟩
    exact ⟨p, hp, by rw [Bool.and_eq_true]; exact h⟩
theorem xc_L (H : tb_ok fo L R N) (hM : in_lr L R M) (hA : 0 < A) {v : List Nat} (hv : ∀ l, l ∈ v → l < N * A) {x : Nat} (hx : x < 32) :
    bt (xs_ac ac (wd_r (x_st fo la A) M v &&& L) 10) x = true ↔ ∃ p, p < 10 ∧ bt (M &&& L) p = true ∧ xc_a fo la ac A v x p = true := by
  unfold xc_a
  rw [xs_ac_bt hx]
  constructor
  · rintro ⟨q, hq, h1, h2⟩
    rw [b_and, Bool.and_eq_true] at h1
    obtain ⟨p, hp, e1, e2⟩ := (xc_add H hM hA v hv q).mp h1.1
    refine ⟨p, hp, ?_, (xs_ac_bt hx).mpr ⟨q, hq, e2, h2⟩⟩
    have sd := xc_side H hA hp v hv q e2
    rcases hM p e1 with w | w
    · rw [b_and, e1, w]; rfl
    · have := (H.1 q h1.2).2
      rw [sd.2 w] at this; cases this
  · rintro ⟨p, hp, h1, h2⟩
    rw [b_and, Bool.and_eq_true] at h1
    obtain ⟨q, hq, e1, e2⟩ := (xs_ac_bt hx).mp h2
    have sd := xc_side H hA hp v hv q e1
    exact ⟨q, hq, by rw [b_and, (xc_add H hM hA v hv q).mpr ⟨p, hp, h1.1, e1⟩, sd.1 h1.2]; rfl, e2⟩
theorem xc_R (H : tb_ok fo L R N) (hM : in_lr L R M) (hA : 0 < A) {v : List Nat} (hv : ∀ l, l ∈ v → l < N * A) {x : Nat} (hx : x < 32) :
    bt (xs_ac ac (wd_r (x_st fo la A) M v &&& R) 10) x = true ↔ ∃ p, p < 10 ∧ bt (M &&& R) p = true ∧ xc_a fo la ac A v x p = true := by
  unfold xc_a
  rw [xs_ac_bt hx]
  constructor
  · rintro ⟨q, hq, h1, h2⟩
    rw [b_and, Bool.and_eq_true] at h1
    obtain ⟨p, hp, e1, e2⟩ := (xc_add H hM hA v hv q).mp h1.1
    refine ⟨p, hp, ?_, (xs_ac_bt hx).mpr ⟨q, hq, e2, h2⟩⟩
    have sd := xc_side H hA hp v hv q e2
    rcases hM p e1 with w | w
    · have := (H.2.1 q h1.2).2
      rw [sd.1 w] at this; cases this
    · rw [b_and, e1, w]; rfl
  · rintro ⟨p, hp, h1, h2⟩
    rw [b_and, Bool.and_eq_true] at h1
    obtain ⟨q, hq, e1, e2⟩ := (xs_ac_bt hx).mp h2
    have sd := xc_side H hA hp v hv q e1
    exact ⟨q, hq, by rw [b_and, (xc_add H hM hA v hv q).mpr ⟨p, hp, h1.1, e1⟩, sd.2 h1.2]; rfl, e2⟩
/-- sets that do not accept v, x -/
def xc_Z (fo la ac : Nat → Int32) (A : Nat) (v : List Nat) (x : Nat) : Int32 := zk_m (fun p => !xc_a fo la ac A v x p)
theorem xc_Zs {D : Int32} (hD : ∀ b, bt D b = true → b < 10) {v : List Nat} {x : Nat} : sb D (xc_Z fo la ac A v x) ↔ ¬ ∃ p, p < 10 ∧ bt D p = true ∧ xc_a fo la ac A v x p = true := by
  constructor
  · rintro h ⟨p, hp, h1, h2⟩
    have := h p (by omega) h1
    unfold xc_Z at this
    rw [zk_bt _ (by omega), h2] at this
    cases this
  · intro h b hb e
    unfold xc_Z
    rw [zk_bt _ hb]
    cases z : xc_a fo la ac A v x b
    · rfl
    · exact absurd ⟨b, hD b e, e, z⟩ h
theorem in_lt (H : tb_ok fo L R N) (hM : in_lr L R M) : ∀ b, bt M b = true → b < 10 := by
  intro b h
  rcases hM b h with w | w
  · exact (H.1 b w).1
  · exact (H.2.1 b w).1
theorem in_and {D : Int32} (H : tb_ok fo L R N) (hM : in_lr L R M) : ∀ b, bt (M &&& D) b = true → b < 10 := by
  intro b h
  rw [b_and, Bool.and_eq_true] at h
  exact in_lt H hM b h.1
/-- the failing of a set -/
def flx (ac : Nat → Int32) (L R : Int32) (mode : Nat) (M : Int32) : Prop := ¬ xd ac L R mode M = 0
theorem flx_iff {M : Int32} : flx ac L R mode M ↔ ∃ x, x < 32 ∧ bd mode (bt (xs_ac ac (M &&& L) 10) x) (bt (xs_ac ac (M &&& R) 10) x) = true := by
  unfold flx
  constructor
  · intro h
    obtain ⟨x, hx, e⟩ := zk_nz h
    rw [xd_bt hx] at e
    exact ⟨x, hx, e⟩
  · rintro ⟨x, hx, e⟩ w
    rw [← xd_bt hx, w, b_0] at e
    cases e
theorem xc_cov (H : tb_ok fo L R N) (hA : 0 < A) (hm : mode ≤ 2) (hM : in_lr L R M) (hns : ∀ j, j < cnt → in_lr L R (ns j)) (F : fw_s mode L R ns cnt M) {v : List Nat} (hv : ∀ l, l ∈ v → l < N * A)
    (hf : flx ac L R mode (wd_r (x_st fo la A) M v)) : ∃ j, j < cnt ∧ flx ac L R mode (wd_r (x_st fo la A) (ns j) v) := by
  obtain ⟨x, hx, e⟩ := flx_iff.mp hf
  apply Classical.byContradiction
  intro hno
  have nf : ∀ j, j < cnt → bd mode (bt (xs_ac ac (wd_r (x_st fo la A) (ns j) v &&& L) 10) x) (bt (xs_ac ac (wd_r (x_st fo la A) (ns j) v &&& R) 10) x) = false := by
    intro j hj
    cases z : bd mode (bt (xs_ac ac (wd_r (x_st fo la A) (ns j) v &&& L) 10) x) (bt (xs_ac ac (wd_r (x_st fo la A) (ns j) v &&& R) 10) x)
    · rfl
    · exact absurd ⟨j, hj, flx_iff.mpr ⟨x, hx, z⟩⟩ hno
  -- the two directions of a claim that doesn't fail
  have L2 : ∀ (D : Int32), in_lr L R D → (sb (D &&& L) (xc_Z fo la ac A v x) ↔ bt (xs_ac ac (wd_r (x_st fo la A) D v &&& L) 10) x = false) := by
    intro D hD
    rw [xc_Zs (in_and H hD), ← xc_L H hD hA hv hx]
    cases bt (xs_ac ac (wd_r (x_st fo la A) D v &&& L) 10) x <;> simp
  have R2 : ∀ (D : Int32), in_lr L R D → (sb (D &&& R) (xc_Z fo la ac A v x) ↔ bt (xs_ac ac (wd_r (x_st fo la A) D v &&& R) 10) x = false) := by
    intro D hD
    rw [xc_Zs (in_and H hD), ← xc_R H hD hA hv hx]
    cases bt (xs_ac ac (wd_r (x_st fo la A) D v &&& R) 10) x <;> simp
  have good : cl_good mode L R ns cnt (xc_Z fo la ac A v x) := by
    intro j hj ap
    have hD := hns j hj
    have n := nf j hj
    have both : sb (ns j &&& L) (xc_Z fo la ac A v x) → sb (ns j &&& R) (xc_Z fo la ac A v x) → sb (ns j) (xc_Z fo la ac A v x) := by
      intro h1 h2 b hb e
      rcases hD b e with w | w
      · exact h1 b hb (by rw [b_and, e, w]; rfl)
      · exact h2 b hb (by rw [b_and, e, w]; rfl)
    rcases ap with ⟨m1, h⟩ | ⟨m2, h⟩
    · refine both h ((R2 _ hD).mpr ?_)
      have hl := (L2 _ hD).mp h
      rw [hl] at n
      unfold bd at n
      rw [if_neg m1] at n
      revert n
      cases bt (xs_ac ac (wd_r (x_st fo la A) (ns j) v &&& R) 10) x
      · intro _; rfl
      · split <;> intro n <;> exact absurd n (by decide)
    · refine both ((L2 _ hD).mpr ?_) h
      have hr := (R2 _ hD).mp h
      rw [hr] at n
      unfold bd at n
      revert n
      cases bt (xs_ac ac (wd_r (x_st fo la A) (ns j) v &&& L) 10) x
      · intro _; rfl
      · split
        · intro n; exact absurd n (by decide)
        · intro n; exact absurd n (by decide)
  cases hl : bt (xs_ac ac (wd_r (x_st fo la A) M v &&& L) 10) x
  · have h1 := (L2 M hM).mpr hl
    by_cases m1 : mode = 1
    · unfold bd at e
      rw [hl, if_pos m1] at e
      cases e
    · have h2 := (R2 M hM).mp (F.2 m1 _ good h1)
      rw [hl, h2] at e
      unfold bd at e
      rw [if_neg m1] at e
      split at e <;> exact absurd e (by decide)
  · cases hr : bt (xs_ac ac (wd_r (x_st fo la A) M v &&& R) 10) x
    · have h1 := (R2 M hM).mpr hr
      by_cases m2 : mode = 2
      · unfold bd at e
        rw [hl, hr, m2] at e
        exact absurd e (by decide)
      · have h2 := (L2 M hM).mp (F.1 m2 _ good h1)
        rw [hl] at h2; cases h2
    · rw [hl, hr] at e
      unfold bd at e
      split at e
      · exact absurd e (by decide)
      · split at e <;> exact absurd e (by decide)
theorem xc_0 (H : tb_ok fo L R N) (hA : 0 < A) {v : List Nat} (hv : ∀ l, l ∈ v → l < N * A) : ¬ flx ac L R mode (wd_r (x_st fo la A) 0 v) := by
  intro hf
  obtain ⟨x, hx, e⟩ := flx_iff.mp hf
  have h0 : in_lr L R 0 := fun b h => by rw [b_0] at h; cases h
  have l0 : bt (xs_ac ac (wd_r (x_st fo la A) 0 v &&& L) 10) x = false := by
    cases z : bt (xs_ac ac (wd_r (x_st fo la A) 0 v &&& L) 10) x
    · rfl
    · obtain ⟨p, _, h1, _⟩ := (xc_L H h0 hA hv hx).mp z
      rw [b_and, b_0] at h1; cases h1
  have r0 : bt (xs_ac ac (wd_r (x_st fo la A) 0 v &&& R) 10) x = false := by
    cases z : bt (xs_ac ac (wd_r (x_st fo la A) 0 v &&& R) 10) x
    · rfl
    · obtain ⟨p, _, h1, _⟩ := (xc_R H h0 hA hv hx).mp z
      rw [b_and, b_0] at h1; cases h1
  rw [l0, r0] at e
  unfold bd at e
  split at e
  · cases e
  · split at e <;> cases e
end
end
section
/-! ===== the component's search ===== -/
theorem bf_len {σ : Type} {step : σ → Nat → σ} {fl : σ → Prop} {s0 : σ} {K cnt i c : Nat} {wd : Nat → List Nat} {pa lt : Nat → Nat} (I : bf_I step fl s0 K cnt i c wd pa lt) : ∀ j, j < cnt → (wd j).length ≤ j := by
  obtain ⟨h1, h2, h3, _⟩ := I
  intro j
  induction j using Nat.strongRecOn with
  | ind j ih =>
    intro hj
    rcases Nat.eq_zero_or_pos j with z | z
    · rw [z, h2]; exact Nat.le_refl _
    · obtain ⟨a, b, e, _⟩ := h3 j z hj
      rw [e]
      have := ih (pa j) a (by omega)
      show (wd (pa j)).length + 1 ≤ j
      omega
theorem by_lt {x : Int32} (h : ∀ b, 8 ≤ b → bt x b = false) : x.toBitVec.toNat < 256 := by
  have e : x = x &&& 255 := by
    apply b_ext
    intro i hi
    rw [b_and, b_255]
    by_cases z : i < 8
    · rw [decide_eq_true z, Bool.and_true]
    · rw [h i (by omega)]; rfl
  have e2 := pk_and x (m := 255) 8 (by decide)
  rw [← e] at e2
  rw [e2, pk_tn (by have := Nat.mod_lt x.toBitVec.toNat (show 0 < 2 ^ 8 by decide); omega)]
  exact Nat.mod_lt _ (by decide)
/-- the arrays of the nodes tell the words -/
def xs_I (fo la : Nat → Int32) (A : Nat) (M0 : Int32) (cnt : Nat) (wd : Nat → List Nat) (pa lt : Nat → Nat) (ns np nt nc nd : Nat → Int32) : Prop :=
  (∀ j, j < cnt → ns j = wd_r (x_st fo la A) M0 (wd j) ∧ nd j = nI (wd j).length) ∧
  (∀ j, 0 < j → j < cnt → np j = nI (pa j) ∧ nt j = nI (lt j / A) ∧ nc j = nI (lt j % A)) ∧
  (∀ j, 0 < j → j < cnt → ∀ b, 8 ≤ b → bt (ns j) b = false) ∧
  (∀ i j, 0 < i → i < j → j < cnt → ns i ≠ ns j)
theorem xs_cnt {fo la : Nat → Int32} {A : Nat} {M0 M : Int32} {cnt : Nat} {wd : Nat → List Nat} {pa lt : Nat → Nat} {ns np nt nc nd : Nat → Int32} (H : xs_I fo la A M0 cnt wd pa lt ns np nt nc nd) (h0 : 0 < cnt)
    (hM : ∀ b, 8 ≤ b → bt M b = false) (hn : ∀ j, j < cnt → ns j ≠ M) : cnt ≤ 256 := by
  obtain ⟨_, _, h3, h4⟩ := H
  refine ph_le 256 cnt (fun j => if j = 0 then M.toBitVec.toNat else (ns j).toBitVec.toNat) (fun j hj => ?_) (fun i j hi hj e => ?_)
  · show (if j = 0 then M.toBitVec.toNat else (ns j).toBitVec.toNat) < 256
    by_cases z : j = 0
    · rw [if_pos z]; exact by_lt hM
    · rw [if_neg z]; exact by_lt (h3 j (by omega) hj)
  · have e : (if i = 0 then M.toBitVec.toNat else (ns i).toBitVec.toNat) = (if j = 0 then M.toBitVec.toNat else (ns j).toBitVec.toNat) := e
    have inj : ∀ {x y : Int32}, x.toBitVec.toNat = y.toBitVec.toNat → x = y := fun h => Int32.toBitVec_inj.mp (BitVec.eq_of_toNat_eq h)
    by_cases zi : i = 0
    · by_cases zj : j = 0
      · omega
      · rw [if_pos zi, if_neg zj] at e
        exact absurd (inj e).symm (hn j hj)
    · by_cases zj : j = 0
      · rw [if_neg zi, if_pos zj] at e
        exact absurd (inj e) (hn i hi)
      · rw [if_neg zi, if_neg zj] at e
        rcases Nat.lt_trichotomy i j with w | w | w
        · exact absurd (inj e) (h4 i j (by omega) w hj)
        · exact w
        · exact absurd (inj e).symm (h4 j i (by omega) w hi)
section
variable {N A mode cnt : Nat} {M0 : Int32} {wd : Nat → List Nat} {pa lt : Nat → Nat}
variable {f_testCount f_actionCount f_tokenLimit f_occurrenceLimit f_atomCount f_allAtoms f_enteredSize f_nodeCount f_hasResult f_resultMode f_resultVerdict f_witnessSize f_witnessOwner : Int32} {a_size a_list a_begin a_heightAfter a_actionsAfter a_entered a_built a_states a_follow a_accepting a_need a_labelled a_opAtoms a_opFirst a_opLast a_nodeSet a_nodeParent a_nodeAtom a_nodeAction a_nodeDepth a_witness : Nat → Int32}
/-- a new node -/
theorem x_addNode {post : SX → Prop} {M x3 x4 : Int32} {p d : Nat} (hc : cnt ≤ 256) (hp : p < 257) (hd : a_nodeDepth p = nI d) (hfc : f_nodeCount = nI cnt)
    (K : post (f_testCount, f_actionCount, f_tokenLimit, f_occurrenceLimit, f_atomCount, f_allAtoms, f_enteredSize, nI (cnt + 1), f_hasResult, f_resultMode, f_resultVerdict, f_witnessSize, f_witnessOwner, a_size, a_list, a_begin, a_heightAfter, a_actionsAfter, a_entered, a_built, a_states, a_follow, a_accepting, a_need, a_labelled, a_opAtoms, a_opFirst, a_opLast, upd a_nodeSet cnt M, upd a_nodeParent cnt (nI p), upd a_nodeAtom cnt x3, upd a_nodeAction cnt x4, upd a_nodeDepth cnt (nI (d + 1)), a_witness)) :
    wpX_addNode post (f_testCount, f_actionCount, f_tokenLimit, f_occurrenceLimit, f_atomCount, f_allAtoms, f_enteredSize, f_nodeCount, f_hasResult, f_resultMode, f_resultVerdict, f_witnessSize, f_witnessOwner, a_size, a_list, a_begin, a_heightAfter, a_actionsAfter, a_entered, a_built, a_states, a_follow, a_accepting, a_need, a_labelled, a_opAtoms, a_opFirst, a_opLast, a_nodeSet, a_nodeParent, a_nodeAtom, a_nodeAction, a_nodeDepth, a_witness) M (nI p) x3 x4 := by
  subst hfc
  unfold wpX_addNode
  refine br_t (nI_lt (b := 257) (by omega) (by decide)) ⟨vp_in_nI (by omega) (by decide), nm_r (xuc (by omega) rfl) ⟨vp_in_nI (by omega) (by decide), nm_r (xuc (by omega) rfl) ⟨vp_in_nI (by omega) (by decide), nm_r (xuc (by omega) rfl) ⟨vp_in_nI (by omega) (by decide), nm_r (xuc (by omega) rfl) (br_t (nI_pos' (by omega)) ⟨vp_in_nI hp (by decide), ?_⟩)⟩⟩⟩⟩
  unfold wX_addNode_76
  exact ⟨vp_in_nI (by omega) (by decide), nm_r (e' := upd a_nodeDepth cnt (nI (d + 1))) (by rw [nI_clamp (by omega), nI_clamp (by omega), hd, nI_1]) (nm_r (nI_1 cnt) K)⟩
def x_fl (ac st : Nat → Int32) (mode : Nat) : Int32 → Prop := flx ac (st 0) (st 1) mode
theorem xs_in {fo la st : Nat → Int32} (T : tb_ok fo (st 0) (st 1) N) (hA : 0 < A) (h0 : in_lr (st 0) (st 1) M0) : ∀ w, (∀ l, l ∈ w → l < N * A) → in_lr (st 0) (st 1) (wd_r (x_st fo la A) M0 w) := by
  intro w
  induction w with
  | nil => intro _; exact h0
  | cons l w ih => intro hw; exact (xc_in T (ih (fun a ha => hw a (List.mem_cons_of_mem _ ha))) hA (hw l (List.mem_cons_self ..))).1
theorem x_exp_13 {post : SX → Prop} {J2 : Int32 → Int32 → Int32 → Int32 → Int32 → Int32 → Int32 → Int32 → Int32 → Int32 → Int32 → Int32 → Int32 → Int32 → (Nat → Int32) → (Nat → Int32) → (Nat → Int32) → (Nat → Int32) → (Nat → Int32) → (Nat → Int32) → (Nat → Int32) → (Nat → Int32) → (Nat → Int32) → (Nat → Int32) → (Nat → Int32) → (Nat → Int32) → (Nat → Int32) → (Nat → Int32) → (Nat → Int32) → (Nat → Int32) → (Nat → Int32) → (Nat → Int32) → (Nat → Int32) → (Nat → Int32) → (Nat → Int32) → Prop} {i x : Nat} (hm : mode ≤ 2) (T : tb_ok a_follow (a_states 0) (a_states 1) N) (h0 : in_lr (a_states 0) (a_states 1) M0) (hN : N ≤ 4) (hA : 0 < A) (hA3 : A ≤ 3) (hfA : f_actionCount = nI A) (hx : x < N) (hi : i < 257)
    (K : ∀ cnt wd pa lt ns np nt nc nd, i < cnt → cnt ≤ 257 → bf_I (x_st a_follow a_labelled A) (x_fl a_accepting a_states mode) M0 (N * A) cnt i (x * A + A) wd pa lt → ¬ x_fl a_accepting a_states mode (wd_r (x_st a_follow a_labelled A) M0 (wd i)) → xs_I a_follow a_labelled A M0 cnt wd pa lt ns np nt nc nd →
      J2 (nI (x + 1)) f_testCount f_actionCount f_tokenLimit f_occurrenceLimit f_atomCount f_allAtoms f_enteredSize (nI cnt) f_hasResult f_resultMode f_resultVerdict f_witnessSize f_witnessOwner a_size a_list a_begin a_heightAfter a_actionsAfter a_entered a_built a_states a_follow a_accepting a_need a_labelled a_opAtoms a_opFirst a_opLast ns np nt nc nd a_witness) :
    ∀ dd a, a + dd = A → ∀ cnt wd pa lt ns np nt nc nd, i < cnt → cnt ≤ 257 → bf_I (x_st a_follow a_labelled A) (x_fl a_accepting a_states mode) M0 (N * A) cnt i (x * A + a) wd pa lt → ¬ x_fl a_accepting a_states mode (wd_r (x_st a_follow a_labelled A) M0 (wd i)) → xs_I a_follow a_labelled A M0 cnt wd pa lt ns np nt nc nd →
      wX_expand_13 post J2 (nI i) (nI mode) (nI x) (dd + 1) (nI a) f_testCount f_actionCount f_tokenLimit f_occurrenceLimit f_atomCount f_allAtoms f_enteredSize (nI cnt) f_hasResult f_resultMode f_resultVerdict f_witnessSize f_witnessOwner a_size a_list a_begin a_heightAfter a_actionsAfter a_entered a_built a_states a_follow a_accepting a_need a_labelled a_opAtoms a_opFirst a_opLast ns np nt nc nd a_witness := by
  subst hfA
  have hK : 0 < N * A := Nat.mul_pos (by omega) hA
  intro dd
  induction dd with
  | zero =>
    intro a ha cnt wd pa lt ns np nt nc nd hic hc I nf X
    have ha : a = A := ha
    subst ha
    rw [wX_expand_13]
    exact br_t (nI_le (Nat.le_refl _) (by omega)) (nm_r (nI_1 x) (K _ _ _ _ _ _ _ _ _ hic hc I nf X))
  | succ dd ih =>
    intro a ha cnt wd pa lt ns np nt nc nd hic hc I nf X
    have hl : x * A + a < N * A := ew_b hx (by omega)
    have ed : (x * A + a) / A = x := ew_div (by omega)
    have em : (x * A + a) % A = a := ew_mod (by omega)
    have LT := bf_let I
    have hI := xs_in T hA h0 (la := a_labelled) (wd i) (LT i hic)
    have est : xs_sc a_follow (ns i) x 10 &&& a_labelled a = x_st a_follow a_labelled A (wd_r (x_st a_follow a_labelled A) M0 (wd i)) (x * A + a) := by
      unfold x_st
      rw [ed, em, (X.1 i hic).1]; rfl
    have hin := xc_in (la := a_labelled) T hI hA hl
    have hns : ∀ j, j < cnt → in_lr (a_states 0) (a_states 1) (ns j) := fun j hj => by
      rw [(X.1 j hj).1]; exact xs_in T hA h0 (la := a_labelled) (wd j) (LT j hj)
    rw [wX_expand_13]
    refine br_f (nI_ge (by omega) (by omega)) ⟨vp_in_nI (by omega) (by decide), ?_⟩
    rw [nI_clamp (by omega)]
    refine x_step (by omega) (by omega) ?_
    rw [est]
    have skip : (∀ v, (∀ l, l ∈ v → l < N * A) → x_fl a_accepting a_states mode (wd_r (x_st a_follow a_labelled A) (x_st a_follow a_labelled A (wd_r (x_st a_follow a_labelled A) M0 (wd i)) (x * A + a)) v) → ∃ j, j < cnt ∧ x_fl a_accepting a_states mode (wd_r (x_st a_follow a_labelled A) (wd_r (x_st a_follow a_labelled A) M0 (wd j)) v)) →
        wX_expand_13 post J2 (nI i) (nI mode) (nI x) (dd + 1) (nI (a + 1)) f_testCount (nI A) f_tokenLimit f_occurrenceLimit f_atomCount f_allAtoms f_enteredSize (nI cnt) f_hasResult f_resultMode f_resultVerdict f_witnessSize f_witnessOwner a_size a_list a_begin a_heightAfter a_actionsAfter a_entered a_built a_states a_follow a_accepting a_need a_labelled a_opAtoms a_opFirst a_opLast ns np nt nc nd a_witness :=
      fun h => ih (a + 1) (by omega) _ _ _ _ _ _ _ _ _ hic hc (bf_skip I hK hic h) nf X
    refine br_c (fun z => nm_r (nI_1 a) (skip fun v hv f => ?_)) (fun z => ?_)
    · rw [z] at f
      exact absurd f (xc_0 T hA hv)
    · refine x_follows hm hc rfl (fun F => br_f (by decide) (nm_r (nI_1 a) (skip fun v hv f => ?_))) (fun F => br_t rfl ?_)
      · obtain ⟨j, hj, g⟩ := xc_cov T hA hm hin.1 hns F hv f
        exact ⟨j, hj, by rw [← (X.1 j hj).1]; exact g⟩
      · have hc' := xs_cnt X (by omega) hin.2 F
        refine x_addNode hc' (by omega) (X.1 i hic).2 rfl (nm_r (nI_1 a) ?_)
        refine ih (a + 1) (by omega) (cnt + 1) (fun j => if j = cnt then (x * A + a) :: wd i else wd j) (fun j => if j = cnt then i else pa j) (fun j => if j = cnt then x * A + a else lt j) _ _ _ _ _ (by omega) (by omega) (bf_add I hK hic hl) (by show ¬ x_fl a_accepting a_states mode (wd_r (x_st a_follow a_labelled A) M0 (if i = cnt then (x * A + a) :: wd i else wd i)); rw [if_neg (by omega)]; exact nf) ?_
        obtain ⟨X1, X2, X3, X4⟩ := X
        refine ⟨fun j hj => ?_, fun j h0 hj => ?_, fun j h0 hj b hb => ?_, fun i' j h0 hij hj => ?_⟩
        · show upd ns cnt _ j = wd_r _ M0 (if j = cnt then (x * A + a) :: wd i else wd j) ∧ upd nd cnt _ j = nI (if j = cnt then (x * A + a) :: wd i else wd j).length
          by_cases e : j = cnt
          · rw [if_pos e, e, yu_s, yu_s]; exact ⟨rfl, rfl⟩
          · rw [if_neg e, yu_n _ _ e, yu_n _ _ e]; exact X1 j (by omega)
        · show upd np cnt _ j = nI (if j = cnt then i else pa j) ∧ upd nt cnt _ j = nI ((if j = cnt then x * A + a else lt j) / A) ∧ upd nc cnt _ j = nI ((if j = cnt then x * A + a else lt j) % A)
          by_cases e : j = cnt
          · rw [if_pos e, if_pos e, e, yu_s, yu_s, yu_s, ed, em]; exact ⟨rfl, rfl, rfl⟩
          · rw [if_neg e, if_neg e, yu_n _ _ e, yu_n _ _ e, yu_n _ _ e]; exact X2 j h0 (by omega)
        · by_cases e : j = cnt
          · rw [e, yu_s]; exact hin.2 b hb
          · rw [yu_n _ _ e]; exact X3 j h0 (by omega) b hb
        · rw [yu_n _ _ (show i' ≠ cnt by omega)]
          by_cases e : j = cnt
          · rw [e, yu_s]; exact F i' (by omega)
          · rw [yu_n _ _ e]; exact X4 i' j h0 hij (by omega)
theorem x_exp_2 {post : SX → Prop} {i : Nat} (hm : mode ≤ 2) (T : tb_ok a_follow (a_states 0) (a_states 1) N) (h0 : in_lr (a_states 0) (a_states 1) M0) (hN : N ≤ 4) (hA : 0 < A) (hA3 : A ≤ 3) (hfA : f_actionCount = nI A) (hfN : f_atomCount = nI N) (hi : i < 257)
    (K : ∀ cnt wd pa lt ns np nt nc nd, i < cnt → cnt ≤ 257 → bf_I (x_st a_follow a_labelled A) (x_fl a_accepting a_states mode) M0 (N * A) cnt i (N * A) wd pa lt → ¬ x_fl a_accepting a_states mode (wd_r (x_st a_follow a_labelled A) M0 (wd i)) → xs_I a_follow a_labelled A M0 cnt wd pa lt ns np nt nc nd →
      post (f_testCount, f_actionCount, f_tokenLimit, f_occurrenceLimit, f_atomCount, f_allAtoms, f_enteredSize, nI cnt, f_hasResult, f_resultMode, f_resultVerdict, f_witnessSize, f_witnessOwner, a_size, a_list, a_begin, a_heightAfter, a_actionsAfter, a_entered, a_built, a_states, a_follow, a_accepting, a_need, a_labelled, a_opAtoms, a_opFirst, a_opLast, ns, np, nt, nc, nd, a_witness)) :
    ∀ dd x, x + dd = N → ∀ cnt wd pa lt ns np nt nc nd, i < cnt → cnt ≤ 257 → bf_I (x_st a_follow a_labelled A) (x_fl a_accepting a_states mode) M0 (N * A) cnt i (x * A) wd pa lt → ¬ x_fl a_accepting a_states mode (wd_r (x_st a_follow a_labelled A) M0 (wd i)) → xs_I a_follow a_labelled A M0 cnt wd pa lt ns np nt nc nd →
      wX_expand_2 post (nI i) (nI mode) (dd + 1) (nI x) f_testCount f_actionCount f_tokenLimit f_occurrenceLimit f_atomCount f_allAtoms f_enteredSize (nI cnt) f_hasResult f_resultMode f_resultVerdict f_witnessSize f_witnessOwner a_size a_list a_begin a_heightAfter a_actionsAfter a_entered a_built a_states a_follow a_accepting a_need a_labelled a_opAtoms a_opFirst a_opLast ns np nt nc nd a_witness := by
  intro dd
  induction dd with
  | zero =>
    intro x hx cnt wd pa lt ns np nt nc nd hic hc I nf X
    have hx : x = N := hx
    subst hx
    subst hfN
    rw [wX_expand_2]
    exact br_t (nI_le (Nat.le_refl _) (by omega)) (K _ _ _ _ _ _ _ _ _ hic hc I nf X)
  | succ dd ih =>
    intro x hx cnt wd pa lt ns np nt nc nd hic hc I nf X
    rw [wX_expand_2]
    refine br_f (by rw [hfN]; exact nI_ge (by omega) (by omega)) ⟨A + 1, ?_⟩
    refine x_exp_13 (M0 := M0) hm T h0 hN hA hA3 hfA (by omega) hi (fun cnt wd pa lt ns np nt nc nd hic hc I nf X => ?_) A 0 (Nat.zero_add A) cnt wd pa lt ns np nt nc nd hic hc I nf X
    refine ih (x + 1) (by omega) cnt wd pa lt ns np nt nc nd hic hc ?_ nf X
    rw [Nat.add_mul, Nat.one_mul]
    exact I
theorem x_sea_17 {post : Int32 → SX → Prop} (hm : mode ≤ 2) (T : tb_ok a_follow (a_states 0) (a_states 1) N) (h0 : in_lr (a_states 0) (a_states 1) M0) (hN0 : 0 < N) (hN : N ≤ 4) (hA : 0 < A) (hA3 : A ≤ 3) (hfA : f_actionCount = nI A) (hfN : f_atomCount = nI N)
    (K0 : ∀ fc ns np nt nc nd, (∀ w, (∀ l, l ∈ w → l < N * A) → ¬ x_fl a_accepting a_states mode (wd_r (x_st a_follow a_labelled A) M0 w)) → post (-1) (f_testCount, f_actionCount, f_tokenLimit, f_occurrenceLimit, f_atomCount, f_allAtoms, f_enteredSize, fc, f_hasResult, f_resultMode, f_resultVerdict, f_witnessSize, f_witnessOwner, a_size, a_list, a_begin, a_heightAfter, a_actionsAfter, a_entered, a_built, a_states, a_follow, a_accepting, a_need, a_labelled, a_opAtoms, a_opFirst, a_opLast, ns, np, nt, nc, nd, a_witness))
    (K1 : ∀ i c cnt wd pa lt ns np nt nc nd, i < cnt → cnt ≤ 257 → bf_I (x_st a_follow a_labelled A) (x_fl a_accepting a_states mode) M0 (N * A) cnt i c wd pa lt → xs_I a_follow a_labelled A M0 cnt wd pa lt ns np nt nc nd → x_fl a_accepting a_states mode (wd_r (x_st a_follow a_labelled A) M0 (wd i)) →
      post (nI i) (f_testCount, f_actionCount, f_tokenLimit, f_occurrenceLimit, f_atomCount, f_allAtoms, f_enteredSize, nI cnt, f_hasResult, f_resultMode, f_resultVerdict, f_witnessSize, f_witnessOwner, a_size, a_list, a_begin, a_heightAfter, a_actionsAfter, a_entered, a_built, a_states, a_follow, a_accepting, a_need, a_labelled, a_opAtoms, a_opFirst, a_opLast, ns, np, nt, nc, nd, a_witness)) :
    ∀ dd i, i + dd = 257 → ∀ cnt wd pa lt ns np nt nc nd, i ≤ cnt → cnt ≤ 257 → bf_I (x_st a_follow a_labelled A) (x_fl a_accepting a_states mode) M0 (N * A) cnt i 0 wd pa lt → xs_I a_follow a_labelled A M0 cnt wd pa lt ns np nt nc nd →
      wX_search_17 post (nI mode) (dd + 1) (nI i) f_testCount f_actionCount f_tokenLimit f_occurrenceLimit f_atomCount f_allAtoms f_enteredSize (nI cnt) f_hasResult f_resultMode f_resultVerdict f_witnessSize f_witnessOwner a_size a_list a_begin a_heightAfter a_actionsAfter a_entered a_built a_states a_follow a_accepting a_need a_labelled a_opAtoms a_opFirst a_opLast ns np nt nc nd a_witness := by
  have hK : 0 < N * A := Nat.mul_pos hN0 hA
  intro dd
  induction dd with
  | zero =>
    intro i hi cnt wd pa lt ns np nt nc nd hic hc I X
    rw [wX_search_17]
    have hi : i = 257 := hi
    subst hi
    exact br_t (by decide) (K0 _ _ _ _ _ _ (bf_done I hK (by omega)))
  | succ dd ih =>
    intro i hi cnt wd pa lt ns np nt nc nd hic hc I X
    rw [wX_search_17]
    refine br_f (nI_ge (b := 257) (by omega) (by decide)) (pk_lt i cnt (fun h => ⟨vp_in_nI (by omega) (by decide), ?_⟩) (fun h => K0 _ _ _ _ _ _ (bf_done I hK h)))
    rw [nI_clamp (by omega)]
    have e := (X.1 i h).1
    refine x_diff hm (br_c (fun z => ⟨N + 1, ?_⟩) (fun z => K1 i 0 cnt wd pa lt ns np nt nc nd h hc I X (by rw [← e]; exact z)))
    refine x_exp_2 (M0 := M0) hm T h0 hN hA hA3 hfA hfN (by omega) (fun cnt wd pa lt ns np nt nc nd hic hc I nf X => nm_r (nI_1 i) (ih (i + 1) (by omega) cnt wd pa lt ns np nt nc nd hic hc (bf_next I nf) X)) N 0 (Nat.zero_add N) cnt wd pa lt ns np nt nc nd h hc (by rw [Nat.zero_mul]; exact I) (fun w => w (by rw [← e]; exact z)) X
/-- the search: the least failing word, or none -/
theorem x_search {post : Int32 → SX → Prop} (hm : mode ≤ 2) (T : tb_ok a_follow (a_states 0) (a_states 1) N) (h0 : in_lr (a_states 0) (a_states 1) 768) (hN0 : 0 < N) (hN : N ≤ 4) (hA : 0 < A) (hA3 : A ≤ 3) (hfA : f_actionCount = nI A) (hfN : f_atomCount = nI N)
    (K0 : ∀ fc ns np nt nc nd, (∀ w, (∀ l, l ∈ w → l < N * A) → ¬ x_fl a_accepting a_states mode (wd_r (x_st a_follow a_labelled A) 768 w)) → post (-1) (f_testCount, f_actionCount, f_tokenLimit, f_occurrenceLimit, f_atomCount, f_allAtoms, f_enteredSize, fc, f_hasResult, f_resultMode, f_resultVerdict, f_witnessSize, f_witnessOwner, a_size, a_list, a_begin, a_heightAfter, a_actionsAfter, a_entered, a_built, a_states, a_follow, a_accepting, a_need, a_labelled, a_opAtoms, a_opFirst, a_opLast, ns, np, nt, nc, nd, a_witness))
    (K1 : ∀ i c cnt wd pa lt ns np nt nc nd, i < cnt → cnt ≤ 257 → bf_I (x_st a_follow a_labelled A) (x_fl a_accepting a_states mode) 768 (N * A) cnt i c wd pa lt → xs_I a_follow a_labelled A 768 cnt wd pa lt ns np nt nc nd → x_fl a_accepting a_states mode (wd_r (x_st a_follow a_labelled A) 768 (wd i)) →
      post (nI i) (f_testCount, f_actionCount, f_tokenLimit, f_occurrenceLimit, f_atomCount, f_allAtoms, f_enteredSize, nI cnt, f_hasResult, f_resultMode, f_resultVerdict, f_witnessSize, f_witnessOwner, a_size, a_list, a_begin, a_heightAfter, a_actionsAfter, a_entered, a_built, a_states, a_follow, a_accepting, a_need, a_labelled, a_opAtoms, a_opFirst, a_opLast, ns, np, nt, nc, nd, a_witness)) :
    wpX_search post (f_testCount, f_actionCount, f_tokenLimit, f_occurrenceLimit, f_atomCount, f_allAtoms, f_enteredSize, f_nodeCount, f_hasResult, f_resultMode, f_resultVerdict, f_witnessSize, f_witnessOwner, a_size, a_list, a_begin, a_heightAfter, a_actionsAfter, a_entered, a_built, a_states, a_follow, a_accepting, a_need, a_labelled, a_opAtoms, a_opFirst, a_opLast, a_nodeSet, a_nodeParent, a_nodeAtom, a_nodeAction, a_nodeDepth, a_witness) (nI mode) := by
  unfold wpX_search wpX_addNode
  dsimp only
  refine br_t (by decide) ⟨vp_in_iff.mpr (by decide), nm_r (xuc (j := 0) (by omega) rfl) ⟨vp_in_iff.mpr (by decide), nm_r (xuc (j := 0) (by omega) rfl) ⟨vp_in_iff.mpr (by decide), nm_r (xuc (j := 0) (by omega) rfl) ⟨vp_in_iff.mpr (by decide), nm_r (xuc (j := 0) (by omega) rfl) (br_f (by decide) ?_)⟩⟩⟩⟩
  unfold wX_addNode_76
  refine ⟨vp_in_iff.mpr (by decide), nm_r (xuc (j := 0) (by omega) rfl) (nm_r (e' := nI 1) rfl ⟨258, ?_⟩)⟩
  refine x_sea_17 (M0 := 768) hm T h0 hN0 hN hA hA3 hfA hfN K0 K1 257 0 rfl 1 (fun _ => []) (fun _ => 0) (fun _ => 0) (upd a_nodeSet 0 768) (upd a_nodeParent 0 (-1)) (upd a_nodeAtom 0 0) (upd a_nodeAction 0 0) (upd a_nodeDepth 0 0) (by omega) (by omega) bf_0 ⟨fun j hj => ?_, fun j h1 h2 => by omega, fun j h1 h2 => by omega, fun i j h1 h2 h3 => by omega⟩
  rw [show j = 0 by omega, yu_s, yu_s]
  exact ⟨rfl, rfl⟩
end
end
section
/-! ===== the witness ===== -/
def ws_ok (A : Nat) : List Nat → (Nat → Int32) → Prop
  | [], _ => True
  | l :: w, a => a (2 * w.length) = nI (l / A) ∧ a (2 * w.length + 1) = nI (l % A) ∧ ws_ok A w a
theorem ws_eq {A : Nat} {a b : Nat → Int32} : ∀ w, ws_ok A w a → ws_ok A w b → ∀ i, i < 2 * w.length → a i = b i := by
  intro w
  induction w with
  | nil => intro _ _ i hi; exact absurd hi (Nat.not_lt_zero _)
  | cons l w ih =>
    intro h g i hi
    have hi : i < 2 * (w.length + 1) := hi
    obtain ⟨h1, h2, h3⟩ := h
    obtain ⟨g1, g2, g3⟩ := g
    by_cases e : i = 2 * w.length
    · rw [e, h1, g1]
    · by_cases e2 : i = 2 * w.length + 1
      · rw [e2, h2, g2]
      · exact ih h3 g3 i (by omega)
theorem ws_cong {A : Nat} {a b : Nat → Int32} : ∀ w, (∀ i, i < 2 * w.length → b i = a i) → ws_ok A w a → ws_ok A w b := by
  intro w
  induction w with
  | nil => intro _ _; trivial
  | cons l w ih =>
    intro e h
    have e : ∀ i, i < 2 * (w.length + 1) → b i = a i := e
    obtain ⟨h1, h2, h3⟩ := h
    exact ⟨by rw [e _ (by omega)]; exact h1, by rw [e _ (by omega)]; exact h2, ih (fun i hi => e i (by omega)) h3⟩
/-- the letters of a witness -/
def ws_v (A : Nat) : List Nat → Nat → Nat
  | [] => fun _ => 0
  | l :: w => fun i => if i = 2 * w.length then l / A else if i = 2 * w.length + 1 then l % A else ws_v A w i
theorem ws_val {N A : Nat} (hA : 0 < A) {a : Nat → Int32} : ∀ w, (∀ l, l ∈ w → l < N * A) → ws_ok A w a → ∀ i, i < 2 * w.length → a i = nI (ws_v A w i) ∧ ws_v A w i < (if i % 2 = 0 then N else A) := by
  intro w
  induction w with
  | nil => intro _ _ i hi; exact absurd hi (Nat.not_lt_zero _)
  | cons l w ih =>
    intro hw h i hi
    have hi : i < 2 * (w.length + 1) := hi
    obtain ⟨h1, h2, h3⟩ := h
    have hl := hw l (List.mem_cons_self ..)
    show a i = nI (if i = 2 * w.length then l / A else if i = 2 * w.length + 1 then l % A else ws_v A w i) ∧ (if i = 2 * w.length then l / A else if i = 2 * w.length + 1 then l % A else ws_v A w i) < _
    by_cases e : i = 2 * w.length
    · rw [if_pos e, if_pos (by omega), e]
      exact ⟨h1, Nat.div_lt_of_lt_mul (by rw [Nat.mul_comm]; exact hl)⟩
    · by_cases e2 : i = 2 * w.length + 1
      · rw [if_neg e, if_pos e2, if_neg (by omega), e2]
        exact ⟨h2, Nat.mod_lt _ hA⟩
      · rw [if_neg e, if_neg e2]
        exact ih (fun b hb => hw b (List.mem_cons_of_mem _ hb)) h3 i (by omega)
section
variable {N A mode cnt : Nat} {M0 : Int32} {wd : Nat → List Nat} {pa lt : Nat → Nat} {post : SX → Prop}
variable {f_testCount f_actionCount f_tokenLimit f_occurrenceLimit f_atomCount f_allAtoms f_enteredSize f_nodeCount f_hasResult f_resultMode f_resultVerdict f_witnessSize f_witnessOwner : Int32} {a_size a_list a_begin a_heightAfter a_actionsAfter a_entered a_built a_states a_follow a_accepting a_need a_labelled a_opAtoms a_opFirst a_opLast a_nodeSet a_nodeParent a_nodeAtom a_nodeAction a_nodeDepth a_witness : Nat → Int32}
theorem x_rec_123 {K i c : Nat} {step : Int32 → Nat → Int32} {fl : Int32 → Prop} (hc : cnt ≤ 257) (I : bf_I step fl M0 K cnt i c wd pa lt) (X : xs_I a_follow a_labelled A M0 cnt wd pa lt a_nodeSet a_nodeParent a_nodeAtom a_nodeAction a_nodeDepth) :
    ∀ w j wit z, j < cnt → wd j = w → z = nI (2 * w.length) - 1 → (∀ wit', ws_ok A w wit' → (∀ k, 2 * w.length ≤ k → wit' k = wit k) → post (f_testCount, f_actionCount, f_tokenLimit, f_occurrenceLimit, f_atomCount, f_allAtoms, f_enteredSize, f_nodeCount, f_hasResult, f_resultMode, f_resultVerdict, f_witnessSize, f_witnessOwner, a_size, a_list, a_begin, a_heightAfter, a_actionsAfter, a_entered, a_built, a_states, a_follow, a_accepting, a_need, a_labelled, a_opAtoms, a_opFirst, a_opLast, a_nodeSet, a_nodeParent, a_nodeAtom, a_nodeAction, a_nodeDepth, wit')) →
      wX_recordWitness_123 post f_testCount f_actionCount f_tokenLimit f_occurrenceLimit f_atomCount f_allAtoms f_enteredSize f_nodeCount f_hasResult f_resultMode f_resultVerdict f_witnessSize f_witnessOwner (w.length + 1) (nI j) z a_size a_list a_begin a_heightAfter a_actionsAfter a_entered a_built a_states a_follow a_accepting a_need a_labelled a_opAtoms a_opFirst a_opLast a_nodeSet a_nodeParent a_nodeAtom a_nodeAction a_nodeDepth wit := by
  intro w
  induction w with
  | nil =>
    intro j wit z hj ej hz P
    rw [hz]
    show wX_recordWitness_123 post f_testCount f_actionCount f_tokenLimit f_occurrenceLimit f_atomCount f_allAtoms f_enteredSize f_nodeCount f_hasResult f_resultMode f_resultVerdict f_witnessSize f_witnessOwner 1 (nI j) (nI 0 - 1) a_size a_list a_begin a_heightAfter a_actionsAfter a_entered a_built a_states a_follow a_accepting a_need a_labelled a_opAtoms a_opFirst a_opLast a_nodeSet a_nodeParent a_nodeAtom a_nodeAction a_nodeDepth wit
    rw [wX_recordWitness_123]
    exact br_t (by decide) (P wit trivial (fun _ _ => rfl))
  | cons l w ih =>
    intro j wit z hj ej hz P
    have hlen := bf_len I j hj
    rw [ej] at hlen
    have hlen : w.length + 1 ≤ j := hlen
    obtain ⟨h1, h2, h3, _⟩ := I
    have hj0 : 0 < j := by omega
    obtain ⟨a1, a2, a3, a4⟩ := h3 j hj0 hj
    rw [ej] at a3
    obtain ⟨rfl, rfl⟩ := List.cons.inj a3
    obtain ⟨b1, b2, b3⟩ := X.2.1 j hj0 hj
    have hz' : z = nI (2 * (wd (pa j)).length + 1) := by
      rw [hz]
      show nI (2 * ((wd (pa j)).length + 1)) - 1 = _
      exact pk_sub (b := 1) (by omega)
    show wX_recordWitness_123 post f_testCount f_actionCount f_tokenLimit f_occurrenceLimit f_atomCount f_allAtoms f_enteredSize f_nodeCount f_hasResult f_resultMode f_resultVerdict f_witnessSize f_witnessOwner ((wd (pa j)).length + 1 + 1) (nI j) z a_size a_list a_begin a_heightAfter a_actionsAfter a_entered a_built a_states a_follow a_accepting a_need a_labelled a_opAtoms a_opFirst a_opLast a_nodeSet a_nodeParent a_nodeAtom a_nodeAction a_nodeDepth wit
    rw [hz', wX_recordWitness_123]
    have em : nI (2 * (wd (pa j)).length + 1) - 1 = nI (2 * (wd (pa j)).length) := nI_pred _
    dsimp only
    rw [em]
    refine br_f (nI_nlt (b := 1) (by omega) (by omega)) (br_t (nI_pos' (by omega)) ⟨vp_in_nI (by omega) (by decide), vp_in_nI (by omega) (by decide), nm_r (e' := upd wit (2 * (wd (pa j)).length + 1) (nI (lt j % A))) (by rw [nI_clamp (by omega), nI_clamp (by omega), b3]) ⟨vp_in_nI (by omega) (by decide), vp_in_nI (by omega) (by decide), nm_r (e' := upd (upd wit (2 * (wd (pa j)).length + 1) (nI (lt j % A))) (2 * (wd (pa j)).length) (nI (lt j / A))) (by rw [nI_clamp (by omega), nI_clamp (by omega), b2]) ⟨vp_in_nI (by omega) (by decide), nm_r (e' := nI (pa j)) (by rw [nI_clamp (by omega), b1]) (nm_r (e' := nI (2 * (wd (pa j)).length) - 1) ?_ (ih (pa j) _ _ (by omega) rfl rfl (fun wit' g1 g2 => P wit' ⟨?_, ?_, g1⟩ (fun k hk => ?_))))⟩⟩⟩)
    · rw [← em, show (-2 : Int32) = (-1) + (-1) from rfl, ← Int32.add_assoc, pk_m1]
      exact (Int32.sub_eq_add_neg ..).symm ▸ (by rw [em])
    · rw [g2 _ (Nat.le_refl _), yu_s]
    · rw [g2 _ (by omega), yu_n _ _ (by omega), yu_s]
    · have hk : 2 * ((wd (pa j)).length + 1) ≤ k := hk
      rw [g2 k (by omega), yu_n _ _ (by omega), yu_n _ _ (by omega)]
end
end
section
section
variable {N A mode cnt : Nat} {M0 : Int32} {wd : Nat → List Nat} {pa lt : Nat → Nat} {post : SX → Prop}
variable {f_testCount f_actionCount f_tokenLimit f_occurrenceLimit f_atomCount f_allAtoms f_enteredSize f_nodeCount f_hasResult f_resultMode f_resultVerdict f_witnessSize f_witnessOwner : Int32} {a_size a_list a_begin a_heightAfter a_actionsAfter a_entered a_built a_states a_follow a_accepting a_need a_labelled a_opAtoms a_opFirst a_opLast a_nodeSet a_nodeParent a_nodeAtom a_nodeAction a_nodeDepth a_witness : Nat → Int32}
/-- the least failing atom -/
def le_at (N : Nat) (bad : Int32) (k at_ : Nat) : Prop := at_ < 4 ∧ ((∃ x, k ≤ x ∧ x < N ∧ bt bad x = true) → (at_ < N ∧ bt bad at_ = true ∧ ∀ x, k ≤ x → x < at_ → bt bad x = false))
theorem x_rec_82 {K i c at_ : Nat} {step : Int32 → Nat → Int32} {fl : Int32 → Prop} {z0 : Int32} (hc : cnt ≤ 257) (hi : i < cnt) (I : bf_I step fl M0 K cnt i c wd pa lt) (X : xs_I a_follow a_labelled A M0 cnt wd pa lt a_nodeSet a_nodeParent a_nodeAtom a_nodeAction a_nodeDepth)
    (P : ∀ wit, ws_ok A (wd i) wit → wit (2 * (wd i).length) = nI at_ → post (f_testCount, f_actionCount, f_tokenLimit, f_occurrenceLimit, f_atomCount, f_allAtoms, f_enteredSize, f_nodeCount, f_hasResult, f_resultMode, f_resultVerdict, nI (2 * (wd i).length + 1), z0, a_size, a_list, a_begin, a_heightAfter, a_actionsAfter, a_entered, a_built, a_states, a_follow, a_accepting, a_need, a_labelled, a_opAtoms, a_opFirst, a_opLast, a_nodeSet, a_nodeParent, a_nodeAtom, a_nodeAction, a_nodeDepth, wit)) :
    wX_recordWitness_82 post (nI i) (nI at_) z0 f_testCount f_actionCount f_tokenLimit f_occurrenceLimit f_atomCount f_allAtoms f_enteredSize f_nodeCount f_hasResult f_resultMode f_resultVerdict f_witnessSize f_witnessOwner a_size a_list a_begin a_heightAfter a_actionsAfter a_entered a_built a_states a_follow a_accepting a_need a_labelled a_opAtoms a_opFirst a_opLast a_nodeSet a_nodeParent a_nodeAtom a_nodeAction a_nodeDepth a_witness := by
  have hlen := bf_len I i hi
  unfold wX_recordWitness_82
  have e1 : (2 : Int32) * a_nodeDepth (nI i).toNatClampNeg + 1 = nI (2 * (wd i).length + 1) := by
    rw [nI_clamp (by omega), (X.1 i hi).2]
    show nI 2 * nI (wd i).length + 1 = _
    rw [pk_mul, nI_1]
  have e2 : nI (2 * (wd i).length + 1) - 1 = nI (2 * (wd i).length) := nI_pred _
  have e3 : nI (2 * (wd i).length + 1) - 2 = nI (2 * (wd i).length) - 1 := by
    rw [← e2, show (2 : Int32) = 1 + 1 from rfl]
    grind
  refine ⟨vp_in_nI (by omega) (by decide), nm_r e1 ⟨?_, nm_r (e' := upd a_witness (2 * (wd i).length) (nI at_)) (by rw [e2, nI_clamp (by omega)]) (nm_r e3 ⟨(wd i).length + 1, ?_⟩)⟩⟩
  · rw [e2]; exact vp_in_nI (by omega) (by decide)
  · refine x_rec_123 hc I X (wd i) i _ _ hi rfl rfl (fun wit' g1 g2 => P wit' g1 ?_)
    rw [g2 _ (Nat.le_refl _), yu_s]
theorem x_rec_23 {K i c : Nat} {step : Int32 → Nat → Int32} {fl : Int32 → Prop} {bad : Int32} (hN : N ≤ 4) (hc : cnt ≤ 257) (hi : i < cnt) (I : bf_I step fl M0 K cnt i c wd pa lt) (X : xs_I a_follow a_labelled A M0 cnt wd pa lt a_nodeSet a_nodeParent a_nodeAtom a_nodeAction a_nodeDepth)
    (P : ∀ at_ wit, le_at N bad 0 at_ → ws_ok A (wd i) wit → wit (2 * (wd i).length) = nI at_ → post (f_testCount, f_actionCount, f_tokenLimit, f_occurrenceLimit, f_atomCount, f_allAtoms, f_enteredSize, f_nodeCount, f_hasResult, f_resultMode, f_resultVerdict, nI (2 * (wd i).length + 1), b01 (!bt (xs_ac a_accepting (a_nodeSet i &&& a_states 0) 10) at_), a_size, a_list, a_begin, a_heightAfter, a_actionsAfter, a_entered, a_built, a_states, a_follow, a_accepting, a_need, a_labelled, a_opAtoms, a_opFirst, a_opLast, a_nodeSet, a_nodeParent, a_nodeAtom, a_nodeAction, a_nodeDepth, wit)) :
    ∀ k at_ z, k ≤ N → z = nI k - 1 → le_at N bad k at_ → wX_recordWitness_23 post (nI i) bad f_testCount f_actionCount f_tokenLimit f_occurrenceLimit f_atomCount f_allAtoms f_enteredSize f_nodeCount f_hasResult f_resultMode f_resultVerdict f_witnessSize f_witnessOwner a_size a_list a_begin a_heightAfter a_actionsAfter a_entered a_built a_states a_follow a_accepting a_need a_labelled a_opAtoms a_opFirst a_opLast a_nodeSet a_nodeParent a_nodeAtom a_nodeAction a_nodeDepth a_witness (k + 1) (nI at_) z := by
  intro k
  induction k with
  | zero =>
    intro at_ z hk hz H
    rw [hz, wX_recordWitness_23]
    refine br_t (by decide) ⟨vp_in_nI (by omega) (by decide), ?_⟩
    rw [nI_clamp (by omega)]
    have h4 := H.1
    refine x_accA (zk_br at_ (by omega) (fun h => ?_) (fun h => ?_))
    · refine x_rec_82 hc hi I X (fun wit g1 g2 => ?_)
      have := P at_ wit H g1 g2
      rw [h] at this
      exact this
    · refine x_rec_82 hc hi I X (fun wit g1 g2 => ?_)
      have := P at_ wit H g1 g2
      rw [h] at this
      exact this
  | succ k ih =>
    intro at_ z hk hz H
    rw [hz, nI_pred k, wX_recordWitness_23]
    have e : nI k + (-1) = nI k - 1 := (Int32.sub_eq_add_neg ..).symm
    refine br_f (nI_pos (by omega)) (zk_br k (by omega) (fun h => nm_r e (ih at_ _ (by omega) rfl ⟨H.1, ?_⟩)) (fun h => nm_r e (ih k _ (by omega) rfl ⟨by omega, fun _ => ⟨by omega, h, fun x h1 h2 => by omega⟩⟩)))
    rintro ⟨x, h1, h2, h3⟩
    have hx : x ≠ k := fun w => by rw [w, h] at h3; cases h3
    obtain ⟨g1, g2, g3⟩ := H.2 ⟨x, by omega, h2, h3⟩
    refine ⟨g1, g2, fun y y1 y2 => ?_⟩
    by_cases w : y = k
    · rw [w]; exact h
    · exact g3 y (by omega) y2
theorem x_record {K i c : Nat} {step : Int32 → Nat → Int32} {fl : Int32 → Prop} (hm : mode ≤ 2) (hN0 : 0 < N) (hN : N ≤ 4) (hfN : f_atomCount = nI N) (hc : cnt ≤ 257) (hi : i < cnt) (I : bf_I step fl M0 K cnt i c wd pa lt) (X : xs_I a_follow a_labelled A M0 cnt wd pa lt a_nodeSet a_nodeParent a_nodeAtom a_nodeAction a_nodeDepth)
    (P : ∀ at_ wit, le_at N (xd a_accepting (a_states 0) (a_states 1) mode (a_nodeSet i)) 0 at_ → ws_ok A (wd i) wit → wit (2 * (wd i).length) = nI at_ → post (f_testCount, f_actionCount, f_tokenLimit, f_occurrenceLimit, f_atomCount, f_allAtoms, f_enteredSize, f_nodeCount, f_hasResult, f_resultMode, f_resultVerdict, nI (2 * (wd i).length + 1), b01 (!bt (xs_ac a_accepting (a_nodeSet i &&& a_states 0) 10) at_), a_size, a_list, a_begin, a_heightAfter, a_actionsAfter, a_entered, a_built, a_states, a_follow, a_accepting, a_need, a_labelled, a_opAtoms, a_opFirst, a_opLast, a_nodeSet, a_nodeParent, a_nodeAtom, a_nodeAction, a_nodeDepth, wit)) :
    wpX_recordWitness post (f_testCount, f_actionCount, f_tokenLimit, f_occurrenceLimit, f_atomCount, f_allAtoms, f_enteredSize, f_nodeCount, f_hasResult, f_resultMode, f_resultVerdict, f_witnessSize, f_witnessOwner, a_size, a_list, a_begin, a_heightAfter, a_actionsAfter, a_entered, a_built, a_states, a_follow, a_accepting, a_need, a_labelled, a_opAtoms, a_opFirst, a_opLast, a_nodeSet, a_nodeParent, a_nodeAtom, a_nodeAction, a_nodeDepth, a_witness) (nI i) (nI mode) := by
  unfold wpX_recordWitness
  refine ⟨vp_in_nI (by omega) (by decide), ?_⟩
  rw [nI_clamp (by omega)]
  refine x_diff hm (nm_r (e' := nI N - 1) (by rw [hfN]) ⟨N + 1, ?_⟩)
  exact x_rec_23 hN hc hi I X P N 0 _ (Nat.le_refl _) rfl ⟨by omega, fun ⟨x, h1, h2, _⟩ => by omega⟩
end
/-! ===== both sides' tables together ===== -/
section
variable {N A mode cL cR : Nat} {oL oR : Od} {lbL lbR : Nat → Nat} {st fo ac ne la : Nat → Int32}
/-- the abstract failing of a word at an atom -/
def fa (mode A : Nat) (oL oR : Od) (lbL lbR : Nat → Nat) (w : List Nat) (x : Nat) : Bool := bd mode (au_end oL (wd_r (au_F oL lbL A) au_s0 w) x) (au_end oR (wd_r (au_F oR lbR A) au_s0 w) x)
theorem tb_of (HL : at_ok N 0 oL lbL cL st fo ac ne la) (HR : at_ok N 1 oR lbR cR st fo ac ne la) (h8 : cL + cR ≤ 8) (bL : od_B cL oL) (bR : od_B cR oR) : tb_ok fo (st 0) (st 1) N := by
  have own : ∀ (s : Nat) (c : Nat) (o : Od) (lb : Nat → Nat), s < 2 → c ≤ 8 → at_ok N s o lb c st fo ac ne la → ∀ b, bt (st s) b = true → xi s b < 9 ∧ (xi s b < c ∨ xi s b = 8) := by
    intro s c o lb hs hc H b h
    rw [H.1, xM_bt (b_lt h), Bool.and_eq_true, decide_eq_true_eq, Bool.or_eq_true, decide_eq_true_eq, decide_eq_true_eq] at h
    exact h
  have dis : ∀ b, bt (st 0) b = true → bt (st 1) b = true → False := by
    intro b h g
    obtain ⟨h1, h2⟩ := own 0 cL oL lbL (by omega) (by omega) HL b h
    obtain ⟨g1, g2⟩ := own 1 cR oR lbR (by omega) (by omega) HR b g
    have e := (xb_xi (s := 1) (by omega) g1).1
    have := at_dis (s := 0) (t := 1) (c := cL) (c' := cR) (by omega) (by omega) (by omega) h8 g2
    rw [e] at this
    exact this h2
  have nxt : ∀ (s : Nat) (c : Nat) (o : Od) (lb : Nat → Nat), s < 2 → c ≤ 8 → od_B c o → at_ok N s o lb c st fo ac ne la → ∀ p x q, x < N → bt (st s) p = true → bt (fo (p * 4 + x)) q = true → bt (st s) q = true ∧ q < 8 := by
    intro s c o lb hs hc hB H p x q hx h g
    obtain ⟨h1, h2⟩ := own s c o lb hs hc H p h
    have e := (xb_xi hs h1).1
    have f := (H.2.1 _ h2).1 x hx
    rw [e] at f
    rw [f, xM_bt (b_lt g), Bool.and_eq_true, Bool.and_eq_true, decide_eq_true_eq] at g
    have hq := au_nx_b hB g.2.1
    have eq := xb_xi hs g.1
    have := (xi_xb hs g.1).2.2 (by omega)
    rw [eq.1] at this
    refine ⟨?_, this⟩
    rw [H.1, xM_bt (by omega), decide_eq_true g.1, decide_eq_true hq]; rfl
  refine ⟨fun b h => ?_, fun b h => ?_, nxt 0 cL oL lbL (by omega) (by omega) bL HL, nxt 1 cR oR lbR (by omega) (by omega) bR HR⟩
  · have := own 0 cL oL lbL (by omega) (by omega) HL b h
    refine ⟨(xb_xi (s := 0) (by omega) this.1).2, ?_⟩
    cases z : bt (st 1) b
    · rfl
    · exact (dis b h z).elim
  · have := own 1 cR oR lbR (by omega) (by omega) HR b h
    refine ⟨(xb_xi (s := 1) (by omega) this.1).2, ?_⟩
    cases z : bt (st 0) b
    · rfl
    · exact (dis b z h).elim
theorem x768 : (768 : Int32) = xM 0 au_s0 ||| xM 1 au_s0 := by decide +kernel
theorem lr_of (HL : at_ok N 0 oL lbL cL st fo ac ne la) (HR : at_ok N 1 oR lbR cR st fo ac ne la) : in_lr (st 0) (st 1) 768 := by
  intro b h
  rw [x768, b_or, Bool.or_eq_true] at h
  rcases h with h | h
  · have hb := b_lt h
    rw [xM_bt hb, Bool.and_eq_true] at h
    refine Or.inl ?_
    rw [HL.1, xM_bt hb, h.1, decide_eq_true (of_decide_eq_true h.2), Bool.or_true]; rfl
  · have hb := b_lt h
    rw [xM_bt hb, Bool.and_eq_true] at h
    refine Or.inr ?_
    rw [HR.1, xM_bt hb, h.1, decide_eq_true (of_decide_eq_true h.2), Bool.or_true]; rfl
theorem xst_or (M M' : Int32) (l : Nat) : x_st fo la A (M ||| M') l = x_st fo la A M l ||| x_st fo la A M' l := by
  apply b_ext
  intro q hq
  rw [b_or, xc_stb hq, xc_stb hq, xc_stb hq]
  have : ex_b 10 (fun p => bt (M ||| M') p && bt (fo (p * 4 + l / A)) q) = (ex_b 10 (fun p => bt M p && bt (fo (p * 4 + l / A)) q) || ex_b 10 (fun p => bt M' p && bt (fo (p * 4 + l / A)) q)) := by
    rw [← ex_or]
    apply ex_c
    intro p _
    rw [b_or]
    cases bt M p <;> cases bt M' p <;> cases bt (fo (p * 4 + l / A)) q <;> rfl
  rw [this]
  cases ex_b 10 (fun p => bt M p && bt (fo (p * 4 + l / A)) q) <;> cases ex_b 10 (fun p => bt M' p && bt (fo (p * 4 + l / A)) q) <;> cases bt (la (l % A)) q <;> rfl
theorem xrn_or (M M' : Int32) : ∀ w, wd_r (x_st fo la A) (M ||| M') w = wd_r (x_st fo la A) M w ||| wd_r (x_st fo la A) M' w := by
  intro w
  induction w with
  | nil => rfl
  | cons l w ih =>
    show x_st fo la A (wd_r (x_st fo la A) (M ||| M') w) l = _
    rw [ih, xst_or]; rfl
theorem xM_split {s t c c' : Nat} (hs : s < 2) (ht : t < 2) (hst : t ≠ s) (h8 : c + c' ≤ 8) {f g : Nat → Bool} (hf : ∀ a, f a = true → a < c ∨ a = 8) (hg : ∀ a, g a = true → a < c' ∨ a = 8) :
    (xM s f ||| xM t g) &&& xM s (fun a => decide (a < c) || decide (a = 8)) = xM s f := by
  apply b_ext
  intro j hj
  rw [b_and, b_or, xM_bt hj, xM_bt hj, xM_bt hj]
  cases z : (decide (xi s j < 9) && f (xi s j))
  · cases y : (decide (xi t j < 9) && g (xi t j))
    · rfl
    · rw [Bool.and_eq_true, decide_eq_true_eq] at y
      have e := (xb_xi ht y.1).1
      have := at_dis (s := s) (t := t) (c := c) (c' := c') hs ht hst h8 (hg _ y.2)
      rw [e] at this
      rw [decide_eq_false (fun w => this (Or.inl w)), decide_eq_false (fun w => this (Or.inr w)), Bool.false_or, Bool.true_and, Bool.or_self, Bool.and_false]
  · rw [Bool.and_eq_true, decide_eq_true_eq] at z
    have : (decide (xi s j < c) || decide (xi s j = 8)) = true := by
      rw [Bool.or_eq_true, decide_eq_true_eq, decide_eq_true_eq]; exact hf _ z.2
    rw [this, decide_eq_true z.1]; rfl
theorem xa_both (HL : at_ok N 0 oL lbL cL st fo ac ne la) (HR : at_ok N 1 oR lbR cR st fo ac ne la) (h8 : cL + cR ≤ 8) (bL : od_B cL oL) (bR : od_B cR oR) (hA : 0 < A) (hA3 : A ≤ 3) (w : List Nat) (hw : ∀ l, l ∈ w → l < N * A) :
    xs_ac ac (wd_r (x_st fo la A) 768 w &&& st 0) 10 = zA N (au_end oL (wd_r (au_F oL lbL A) au_s0 w)) ∧ xs_ac ac (wd_r (x_st fo la A) 768 w &&& st 1) 10 = zA N (au_end oR (wd_r (au_F oR lbR A) au_s0 w)) := by
  have e : wd_r (x_st fo la A) 768 w = xM 0 (wd_r (au_T oL lbL N A) au_s0 w) ||| xM 1 (wd_r (au_T oR lbR N A) au_s0 w) := by
    rw [x768, xrn_or, xr_run HL (by omega) (by omega) bL hA hA3 w hw, xr_run HR (by omega) (by omega) bR hA hA3 w hw]
  have oL' := xr_own (lb := lbL) (N := N) (A := A) bL w
  have oR' := xr_own (lb := lbR) (N := N) (A := A) bR w
  constructor
  · rw [e, HL.1, xM_split (t := 1) (c' := cR) (by omega) (by omega) (by omega) h8 oL' oR', xr_ac HL (by omega) oL']
    exact zA_ext fun x hx => au_trim_end bL (by omega) hA w hw hx
  · rw [e, HR.1, Int32.or_comm, xM_split (t := 0) (c' := cL) (by omega) (by omega) (by omega) (by omega) oR' oL', xr_ac HR (by omega) oR']
    exact zA_ext fun x hx => au_trim_end bR (by omega) hA w hw hx
theorem bd_ff (mode : Nat) : bd mode false false = false := by
  unfold bd
  split
  · rfl
  · split <;> rfl
theorem xd_fa (HL : at_ok N 0 oL lbL cL st fo ac ne la) (HR : at_ok N 1 oR lbR cR st fo ac ne la) (h8 : cL + cR ≤ 8) (bL : od_B cL oL) (bR : od_B cR oR) (hA : 0 < A) (hA3 : A ≤ 3) (hN : N ≤ 4) (w : List Nat) (hw : ∀ l, l ∈ w → l < N * A) {x : Nat} (hx : x < 32) :
    bt (xd ac (st 0) (st 1) mode (wd_r (x_st fo la A) 768 w)) x = (decide (x < N) && fa mode A oL oR lbL lbR w x) := by
  obtain ⟨h1, h2⟩ := xa_both HL HR h8 bL bR hA hA3 w hw
  rw [xd_bt hx, h1, h2, zA_bt hx, zA_bt hx]
  by_cases z : x < N
  · rw [decide_eq_true z]; rfl
  · rw [decide_eq_false z]; exact bd_ff mode
theorem fl_fa (HL : at_ok N 0 oL lbL cL st fo ac ne la) (HR : at_ok N 1 oR lbR cR st fo ac ne la) (h8 : cL + cR ≤ 8) (bL : od_B cL oL) (bR : od_B cR oR) (hA : 0 < A) (hA3 : A ≤ 3) (hN : N ≤ 4) (w : List Nat) (hw : ∀ l, l ∈ w → l < N * A) :
    x_fl ac st mode (wd_r (x_st fo la A) 768 w) ↔ ∃ x, x < N ∧ fa mode A oL oR lbL lbR w x = true := by
  constructor
  · intro h
    obtain ⟨x, hx, e⟩ := zk_nz h
    rw [xd_fa HL HR h8 bL bR hA hA3 hN w hw hx, Bool.and_eq_true, decide_eq_true_eq] at e
    exact ⟨x, e⟩
  · rintro ⟨x, hx, e⟩ z
    have := xd_fa (mode := mode) HL HR h8 bL bR hA hA3 hN w hw (show x < 32 by omega)
    rw [z, b_0, decide_eq_true hx, e] at this
    cases this
end
end
section
/-! ===== the reference's compare ===== -/
def sF (A : Nat) (tk : Nat → Nat) (n : Nat) (w : List Nat) : Nat → Bool := wd_r (au_F (tk_st tk n 0) (tk_lb tk n) A) au_s0 w
def yP (A : Nat) (tk : Nat → Nat → Nat) (n : Nat → Nat) (σ : (Nat → Bool) × (Nat → Bool)) (l : Nat) : (Nat → Bool) × (Nat → Bool) :=
  (au_F (tk_st (tk 0) (n 0) 0) (tk_lb (tk 0) (n 0)) A σ.1 l, au_F (tk_st (tk 1) (n 1) 0) (tk_lb (tk 1) (n 1)) A σ.2 l)
def yfl (N mode : Nat) (tk : Nat → Nat → Nat) (n : Nat → Nat) (σ : (Nat → Bool) × (Nat → Bool)) : Prop :=
  ∃ x, x < N ∧ bd mode (au_end (tk_st (tk 0) (n 0) 0) σ.1 x) (au_end (tk_st (tk 1) (n 1) 0) σ.2 x) = true
def y0 : (Nat → Bool) × (Nat → Bool) := (au_s0, au_s0)
theorem yP_run (A : Nat) (tk : Nat → Nat → Nat) (n : Nat → Nat) : ∀ w, wd_r (yP A tk n) y0 w = (sF A (tk 0) (n 0) w, sF A (tk 1) (n 1) w) := by
  intro w
  induction w with
  | nil => rfl
  | cons l w ih =>
    show yP A tk n (wd_r (yP A tk n) y0 w) l = _
    rw [ih]; rfl
/-- failing of a word at an atom -/
def fw (mode A : Nat) (tk : Nat → Nat → Nat) (n : Nat → Nat) (w : List Nat) (x : Nat) : Bool :=
  bd mode (au_end (tk_st (tk 0) (n 0) 0) (sF A (tk 0) (n 0) w) x) (au_end (tk_st (tk 1) (n 1) 0) (sF A (tk 1) (n 1) w) x)
theorem yfl_iff {N mode A : Nat} {tk : Nat → Nat → Nat} {n : Nat → Nat} {w : List Nat} : yfl N mode tk n (wd_r (yP A tk n) y0 w) ↔ ∃ x, x < N ∧ fw mode A tk n w x = true := by
  rw [yP_run]; exact Iff.rfl
theorem sF_b {A : Nat} {tk : Nat → Nat} {n : Nat} {w : List Nat} (hw : w ≠ []) {a : Nat} (h : sF A tk n w a = true) : a < tk_ac tk n := by
  rcases au_F_b8 (tk_B tk n 0) w h with z | z
  · exact z
  · exact absurd z.1 hw
theorem yM_inj {tk : Nat → Nat} {n : Nat} (hn : n ≤ 32) {f g : Nat → Bool} (hf : ∀ a, f a = true → a < tk_ac tk n) (hg : ∀ a, g a = true → a < tk_ac tk n) (h : yM tk n f = yM tk n g) : f = g := by
  funext a
  by_cases z : a < tk_ac tk n
  · obtain ⟨i, h1, h2, h3⟩ := tk_ac_pl tk n a z
    have := zk_inj h (show i < 32 by omega)
    rw [decide_eq_true h1, decide_eq_true h2, h3] at this
    exact this
  · cases x : f a
    · cases y : g a
      · rfl
      · exact absurd (hg a y) z
    · exact absurd (hf a x) z
theorem yM_ac {tk : Nat → Nat} {n : Nat} {f g : Nat → Bool} (h : ∀ a, a < tk_ac tk n → f a = g a) : yM tk n f = yM tk n g := by
  apply zk_ext
  intro j _
  by_cases a : j < n
  · by_cases b : 16 ≤ tk j
    · rw [h _ (tk_ac_lt tk a b)]
    · rw [decide_eq_false b, Bool.and_false]; rfl
  · rw [decide_eq_false a]; rfl
/-- the arrays tell the words -/
def yq_I (A : Nat) (tk : Nat → Nat → Nat) (n : Nat → Nat) (cnt : Nat) (wd : Nat → List Nat) (pa lt : Nat → Nat) (ls rs fr bA bC dp : Nat → Int32) : Prop :=
  (∀ j, j < cnt → ls j = yM (tk 0) (n 0) (sF A (tk 0) (n 0) (wd j)) ∧ rs j = yM (tk 1) (n 1) (sF A (tk 1) (n 1) (wd j)) ∧ dp j = nI (wd j).length) ∧
  (∀ j, 0 < j → j < cnt → fr j = nI (pa j) ∧ bA j = nI (lt j / A) ∧ bC j = nI (lt j % A)) ∧
  (∀ i j, 0 < i → i < j → j < cnt → ¬ (ls i = ls j ∧ rs i = rs j))
/-- eight bits for a pair of sets -/
def yq_c (σ : (Nat → Bool) × (Nat → Bool)) : Int32 := xM 0 σ.1 ||| xM 1 σ.2
theorem xM_b8 {s : Nat} (hs : s < 2) {f : Nat → Bool} (hf : ∀ a, f a = true → a < 8) : ∀ b, 8 ≤ b → bt (xM s f) b = false := by
  intro b hb
  cases z : bt (xM s f) b
  · rfl
  · have hl := b_lt z
    rw [xM_bt hl, Bool.and_eq_true, decide_eq_true_eq] at z
    have := (xi_xb hs z.1).2.2 (hf _ z.2)
    rw [(xb_xi hs z.1).1] at this
    omega
theorem yq_inj {tk : Nat → Nat → Nat} {n : Nat → Nat} (h8 : tk_ac (tk 0) (n 0) + tk_ac (tk 1) (n 1) ≤ 8) {f f' g g' : Nat → Bool} (hf : ∀ a, f a = true → a < tk_ac (tk 0) (n 0)) (hf' : ∀ a, f' a = true → a < tk_ac (tk 0) (n 0)) (hg : ∀ a, g a = true → a < tk_ac (tk 1) (n 1)) (hg' : ∀ a, g' a = true → a < tk_ac (tk 1) (n 1))
    (e : yq_c (f, g) = yq_c (f', g')) : yM (tk 0) (n 0) f = yM (tk 0) (n 0) f' ∧ yM (tk 1) (n 1) g = yM (tk 1) (n 1) g' := by
  have e : xM 0 f ||| xM 1 g = xM 0 f' ||| xM 1 g' := e
  constructor
  · have a := xM_split (s := 0) (t := 1) (by omega) (by omega) (by omega) h8 (fun a h => Or.inl (hf a h)) (fun a h => Or.inl (hg a h))
    have b := xM_split (s := 0) (t := 1) (by omega) (by omega) (by omega) h8 (fun a h => Or.inl (hf' a h)) (fun a h => Or.inl (hg' a h))
    rw [e] at a
    have c := a.symm.trans b
    apply yM_ac
    intro k hk
    rw [← xM_at (s := 0) (f := f) (by omega) (show k < 9 by omega), c, xM_at (by omega) (by omega)]
  · rw [Int32.or_comm, Int32.or_comm (xM 0 f')] at e
    have a := xM_split (s := 1) (t := 0) (c := tk_ac (tk 1) (n 1)) (c' := tk_ac (tk 0) (n 0)) (by omega) (by omega) (by omega) (by omega) (fun a h => Or.inl (hg a h)) (fun a h => Or.inl (hf a h))
    have b := xM_split (s := 1) (t := 0) (c := tk_ac (tk 1) (n 1)) (c' := tk_ac (tk 0) (n 0)) (by omega) (by omega) (by omega) (by omega) (fun a h => Or.inl (hg' a h)) (fun a h => Or.inl (hf' a h))
    rw [e] at a
    have c := a.symm.trans b
    apply yM_ac
    intro k hk
    rw [← xM_at (s := 1) (f := g) (by omega) (show k < 9 by omega), c, xM_at (by omega) (by omega)]
theorem yq_cnt {A : Nat} {tk : Nat → Nat → Nat} {n : Nat → Nat} {cnt : Nat} {wd : Nat → List Nat} {pa lt : Nat → Nat} {ls rs fr bA bC dp : Nat → Int32} (h8 : tk_ac (tk 0) (n 0) + tk_ac (tk 1) (n 1) ≤ 8) (hwd : ∀ j, 0 < j → j < cnt → wd j ≠ [])
    (Q : yq_I A tk n cnt wd pa lt ls rs fr bA bC dp) (h0 : 0 < cnt) {w : List Nat} (hw : w ≠ []) (hn : ∀ j, 0 < j → j < cnt → ¬ (ls j = yM (tk 0) (n 0) (sF A (tk 0) (n 0) w) ∧ rs j = yM (tk 1) (n 1) (sF A (tk 1) (n 1) w))) : cnt ≤ 256 := by
  obtain ⟨q1, _, q3⟩ := Q
  have lt8 : ∀ w, w ≠ [] → (yq_c (sF A (tk 0) (n 0) w, sF A (tk 1) (n 1) w)).toBitVec.toNat < 256 := by
    intro w hw
    apply by_lt
    intro b hb
    show bt (xM 0 _ ||| xM 1 _) b = false
    rw [b_or, xM_b8 (by omega) (fun a h => ?_) b hb, xM_b8 (by omega) (fun a h => ?_) b hb]; rfl
    · have := sF_b hw h; omega
    · have := sF_b hw h; omega
  have inj : ∀ {x y : Int32}, x.toBitVec.toNat = y.toBitVec.toNat → x = y := fun h => Int32.toBitVec_inj.mp (BitVec.eq_of_toNat_eq h)
  have key : ∀ w w', w ≠ [] → w' ≠ [] → (yq_c (sF A (tk 0) (n 0) w, sF A (tk 1) (n 1) w)).toBitVec.toNat = (yq_c (sF A (tk 0) (n 0) w', sF A (tk 1) (n 1) w')).toBitVec.toNat →
      yM (tk 0) (n 0) (sF A (tk 0) (n 0) w) = yM (tk 0) (n 0) (sF A (tk 0) (n 0) w') ∧ yM (tk 1) (n 1) (sF A (tk 1) (n 1) w) = yM (tk 1) (n 1) (sF A (tk 1) (n 1) w') :=
    fun w w' hw hw' e => yq_inj h8 (fun a h => sF_b hw h) (fun a h => sF_b hw' h) (fun a h => sF_b hw h) (fun a h => sF_b hw' h) (inj e)
  refine ph_le 256 cnt (fun j => if j = 0 then (yq_c (sF A (tk 0) (n 0) w, sF A (tk 1) (n 1) w)).toBitVec.toNat else (yq_c (sF A (tk 0) (n 0) (wd j), sF A (tk 1) (n 1) (wd j))).toBitVec.toNat) (fun j hj => ?_) (fun i j hi hj e => ?_)
  · show (if j = 0 then _ else _) < 256
    by_cases z : j = 0
    · rw [if_pos z]; exact lt8 w hw
    · rw [if_neg z]; exact lt8 _ (hwd j (by omega) hj)
  · have e : (if i = 0 then (yq_c (sF A (tk 0) (n 0) w, sF A (tk 1) (n 1) w)).toBitVec.toNat else (yq_c (sF A (tk 0) (n 0) (wd i), sF A (tk 1) (n 1) (wd i))).toBitVec.toNat) = (if j = 0 then (yq_c (sF A (tk 0) (n 0) w, sF A (tk 1) (n 1) w)).toBitVec.toNat else (yq_c (sF A (tk 0) (n 0) (wd j), sF A (tk 1) (n 1) (wd j))).toBitVec.toNat) := e
    by_cases zi : i = 0
    · by_cases zj : j = 0
      · omega
      · rw [if_pos zi, if_neg zj] at e
        have := key _ _ hw (hwd j (by omega) hj) e
        exact absurd ⟨(q1 j hj).1.trans this.1.symm, (q1 j hj).2.1.trans this.2.symm⟩ (hn j (by omega) hj)
    · by_cases zj : j = 0
      · rw [if_neg zi, if_pos zj] at e
        have := key _ _ (hwd i (by omega) hi) hw e
        exact absurd ⟨(q1 i hi).1.trans this.1, (q1 i hi).2.1.trans this.2⟩ (hn i (by omega) hi)
      · rw [if_neg zi, if_neg zj] at e
        have := key _ _ (hwd i (by omega) hi) (hwd j (by omega) hj) e
        have e2 : ls i = ls j ∧ rs i = rs j := ⟨by rw [(q1 i hi).1, (q1 j hj).1]; exact this.1, by rw [(q1 i hi).2.1, (q1 j hj).2.1]; exact this.2⟩
        rcases Nat.lt_trichotomy i j with y | y | y
        · exact absurd e2 (q3 i j (by omega) y hj)
        · exact y
        · exact absurd ⟨e2.1.symm, e2.2.symm⟩ (q3 j i (by omega) y hi)
theorem bf_ne {σ : Type} {step : σ → Nat → σ} {fl : σ → Prop} {s0 : σ} {K cnt i c : Nat} {wd : Nat → List Nat} {pa lt : Nat → Nat} (I : bf_I step fl s0 K cnt i c wd pa lt) : ∀ j, 0 < j → j < cnt → wd j ≠ [] := by
  intro j h0 hj e
  obtain ⟨_, _, h3, _⟩ := I.2.2.1 j h0 hj
  rw [h3] at e; cases e
end
section
section
variable {post : Int32 → SY → Prop} {N A mode : Nat} {tk : Nat → Nat → Nat} {n : Nat → Nat} {T : Nat}
variable {f_t f_a f_l f_m f_n f_count f_known f_mode f_wlen f_wside f_top : Int32} {a_tok a_len a_str a_wit a_has a_one a_first a_done a_next a_ls a_rs a_from a_byAtom a_byAction a_depth : Nat → Int32}
/-- the list is searched for a pair -/
theorem yq_377 {J72 J87 : Int32 → Int32 → Int32 → Int32 → Int32 → Int32 → Int32 → Int32 → Int32 → Int32 → Int32 → Int32 → Int32 → (Nat → Int32) → (Nat → Int32) → (Nat → Int32) → (Nat → Int32) → (Nat → Int32) → (Nat → Int32) → (Nat → Int32) → (Nat → Int32) → (Nat → Int32) → (Nat → Int32) → (Nat → Int32) → (Nat → Int32) → (Nat → Int32) → (Nat → Int32) → (Nat → Int32) → Prop} {J343 : Int32 → Int32 → (Nat → Int32) → (Nat → Int32) → (Nat → Int32) → (Nat → Int32) → (Nat → Int32) → (Nat → Int32) → (Nat → Int32) → (Nat → Int32) → (Nat → Int32) → (Nat → Int32) → (Nat → Int32) → (Nat → Int32) → (Nat → Int32) → (Nat → Int32) → (Nat → Int32) → Prop} {x1 x6 x8 nl nr : Int32} {cnt i x a dpt : Nat} (hc : cnt ≤ 257) (hi : i < cnt) (hd : a_depth i = nI dpt)
    (K1 : ∀ j, 0 < j → j < cnt → a_ls j = nl → a_rs j = nr → J343 (nI cnt) (nI (a + 1)) a_tok a_len a_str a_wit a_has a_one a_first a_done a_next a_ls a_rs a_from a_byAtom a_byAction a_depth)
    (K2 : (∀ j, 0 < j → j < cnt → ¬ (a_ls j = nl ∧ a_rs j = nr)) → J343 (nI (cnt + 1)) (nI (a + 1)) a_tok a_len a_str a_wit a_has a_one a_first a_done a_next (upd a_ls cnt nl) (upd a_rs cnt nr) (upd a_from cnt (nI i)) (upd a_byAtom cnt (nI x)) (upd a_byAction cnt (nI a)) (upd a_depth cnt (nI (dpt + 1)))) :
    ∀ dd j, j + dd = cnt → 0 < j → (∀ k, 0 < k → k < j → ¬ (a_ls k = nl ∧ a_rs k = nr)) → wY_compare_377 post J72 J87 J343 x1 (nI cnt) (nI i) (nI x) x6 x8 (nI a) nl nr f_t f_a f_l f_m f_n f_count f_known f_mode f_wlen f_wside f_top a_tok a_len a_str a_wit a_has a_one a_first a_done a_next a_ls a_rs a_from a_byAtom a_byAction a_depth (dd + 1) (nI j) := by
  intro dd
  induction dd with
  | zero =>
    intro j hj h0 H
    have hj : j = cnt := hj
    subst hj
    rw [wY_compare_377]
    refine br_t (nI_le (Nat.le_refl _) (by omega)) ?_
    unfold wY_compare_413
    refine br_t rfl (br_f (nI_ge (b := 300) (by omega) (by decide)) ⟨vp_in_nI (by omega) (by decide), nm_r (xuc (by omega) rfl) ⟨vp_in_nI (by omega) (by decide), nm_r (xuc (by omega) rfl) ⟨vp_in_nI (by omega) (by decide), nm_r (xuc (by omega) rfl) ⟨vp_in_nI (by omega) (by decide), nm_r (xuc (by omega) rfl) ⟨vp_in_nI (by omega) (by decide), nm_r (xuc (by omega) rfl) ⟨vp_in_nI (by omega) (by decide), vp_in_nI (by omega) (by decide), nm_r (e' := upd a_depth j (nI (dpt + 1))) (by rw [nI_clamp (by omega), nI_clamp (by omega), hd, nI_1]) (nm_r (nI_1 j) (nm_r (nI_1 a) (K2 (fun k h1 h2 => H k h1 h2))))⟩⟩⟩⟩⟩⟩)
  | succ dd ih =>
    intro j hj h0 H
    rw [wY_compare_377]
    have nx : ¬ (a_ls j = nl ∧ a_rs j = nr) → wY_compare_377 post J72 J87 J343 x1 (nI cnt) (nI i) (nI x) x6 x8 (nI a) nl nr f_t f_a f_l f_m f_n f_count f_known f_mode f_wlen f_wside f_top a_tok a_len a_str a_wit a_has a_one a_first a_done a_next a_ls a_rs a_from a_byAtom a_byAction a_depth (dd + 1) (nI (j + 1)) := fun w => ih (j + 1) (by omega) (by omega) (fun k h1 h2 => by
      by_cases e : k = j
      · rw [e]; exact w
      · exact H k h1 (by omega))
    refine br_f (nI_ge (by omega) (by omega)) ⟨vp_in_nI (by omega) (by decide), ?_⟩
    rw [nI_clamp (by omega)]
    refine br_c (fun z => ⟨vp_in_nI (by omega) (by decide), br_c (fun y => ?_) (fun y => nm_r (nI_1 j) (nx fun w => y w.2))⟩) (fun z => nm_r (nI_1 j) (nx fun w => z w.1))
    unfold wY_compare_413
    exact pk_eq j cnt (fun w => by omega) (fun _ => nm_r (nI_1 a) (K1 j h0 (by omega) z y))
/-- both sides are lawful and ready -/
def yq_ok (T A : Nat) (tk : Nat → Nat → Nat) (n : Nat → Nat) (a_tok a_len : Nat → Int32) : Prop :=
  yr_ok T A 0 (tk 0) (n 0) a_tok a_len ∧ yr_ok T A 1 (tk 1) (n 1) a_tok a_len ∧ tk_hg (tk 0) (n 0) = 1 ∧ tk_hg (tk 1) (n 1) = 1 ∧ tk_ac (tk 0) (n 0) + tk_ac (tk 1) (n 1) ≤ 8
theorem yq_343 {J72 J87 : Int32 → Int32 → Int32 → Int32 → Int32 → Int32 → Int32 → Int32 → Int32 → Int32 → Int32 → Int32 → Int32 → (Nat → Int32) → (Nat → Int32) → (Nat → Int32) → (Nat → Int32) → (Nat → Int32) → (Nat → Int32) → (Nat → Int32) → (Nat → Int32) → (Nat → Int32) → (Nat → Int32) → (Nat → Int32) → (Nat → Int32) → (Nat → Int32) → (Nat → Int32) → (Nat → Int32) → Prop} {x1 : Int32} {i x : Nat} (ok : yq_ok T A tk n a_tok a_len) (hA : 0 < A) (hN : N ≤ 4) (hx : x < N) (hfA : f_a = nI A)
    (K : ∀ cnt wd pa lt ls rs fr bA bC dp, i < cnt → cnt ≤ 257 → bf_I (yP A tk n) (yfl N mode tk n) y0 (N * A) cnt i (x * A + A) wd pa lt → (∀ y, y < x + 1 → fw mode A tk n (wd i) y = false) → yq_I A tk n cnt wd pa lt ls rs fr bA bC dp →
      J87 (nI cnt) (nI (x + 1)) f_t f_a f_l f_m f_n f_count f_known f_mode f_wlen f_wside f_top a_tok a_len a_str a_wit a_has a_one a_first a_done a_next ls rs fr bA bC dp) :
    ∀ dd a, a + dd = A → ∀ cnt wd pa lt ls rs fr bA bC dp, i < cnt → cnt ≤ 257 → bf_I (yP A tk n) (yfl N mode tk n) y0 (N * A) cnt i (x * A + a) wd pa lt → (∀ y, y < x + 1 → fw mode A tk n (wd i) y = false) → yq_I A tk n cnt wd pa lt ls rs fr bA bC dp →
      ∀ x6 x8, x6 = yM (tk 0) (n 0) (au_go (tk_st (tk 0) (n 0) 0) (sF A (tk 0) (n 0) (wd i)) x) → x8 = yM (tk 1) (n 1) (au_go (tk_st (tk 1) (n 1) 0) (sF A (tk 1) (n 1) (wd i)) x) →
      wY_compare_343 post J72 J87 x1 (nI i) (nI x) x6 x8 f_t f_a f_l f_m f_n f_count f_known f_mode f_wlen f_wside f_top (dd + 1) (nI cnt) (nI a) a_tok a_len a_str a_wit a_has a_one a_first a_done a_next ls rs fr bA bC dp := by
  have hA3 : A ≤ 3 := ok.1.2.2.1
  have hK : 0 < N * A := Nat.mul_pos (by omega) hA
  have h8 := ok.2.2.2.2
  subst hfA
  intro dd
  induction dd with
  | zero =>
    intro a ha cnt wd pa lt ls rs fr bA bC dp hic hc I nf Q x6 x8 e6 e8
    have ha : a = A := ha
    subst ha
    rw [wY_compare_343]
    exact br_t (nI_le (Nat.le_refl _) (by omega)) (nm_r (nI_1 x) (K _ _ _ _ _ _ _ _ _ _ hic hc I nf Q))
  | succ dd ih =>
    intro a ha cnt wd pa lt ls rs fr bA bC dp hic hc I nf Q x6 x8 e6 e8
    have hl : x * A + a < N * A := ew_b hx (by omega)
    have ed : (x * A + a) / A = x := ew_div (by omega)
    have em : (x * A + a) % A = a := ew_mod (by omega)
    have eF : ∀ s, (fun q => au_go (tk_st (tk s) (n s) 0) (sF A (tk s) (n s) (wd i)) x q && decide (tk_lb (tk s) (n s) q = a)) = sF A (tk s) (n s) ((x * A + a) :: wd i) := by
      intro s
      funext q
      show _ = (au_go (tk_st (tk s) (n s) 0) (sF A (tk s) (n s) (wd i)) ((x * A + a) / A) q && decide (tk_lb (tk s) (n s) q = (x * A + a) % A))
      rw [ed, em]
    rw [wY_compare_343]
    refine br_f (nI_ge (by omega) (by omega)) ?_
    rw [e6, e8]
    refine y_only (s := 0) (by omega) ok.1 (y_only (s := 1) (by omega) ok.2.1 ⟨cnt, ?_⟩)
    rw [eF 0, eF 1]
    have hcnt1 : 0 < cnt := by omega
    have := yq_377 (post := post) (J72 := J72) (J87 := J87) (J343 := wY_compare_343 post J72 J87 x1 (nI i) (nI x) (yM (tk 0) (n 0) (au_go (tk_st (tk 0) (n 0) 0) (sF A (tk 0) (n 0) (wd i)) x)) (yM (tk 1) (n 1) (au_go (tk_st (tk 1) (n 1) 0) (sF A (tk 1) (n 1) (wd i)) x)) f_t (nI A) f_l f_m f_n f_count f_known f_mode f_wlen f_wside f_top (dd + 1)) (x1 := x1)
      (x6 := yM (tk 0) (n 0) (au_go (tk_st (tk 0) (n 0) 0) (sF A (tk 0) (n 0) (wd i)) x)) (x8 := yM (tk 1) (n 1) (au_go (tk_st (tk 1) (n 1) 0) (sF A (tk 1) (n 1) (wd i)) x))
      (nl := yM (tk 0) (n 0) (sF A (tk 0) (n 0) ((x * A + a) :: wd i))) (nr := yM (tk 1) (n 1) (sF A (tk 1) (n 1) ((x * A + a) :: wd i))) (cnt := cnt) (i := i) (x := x) (a := a) (dpt := (wd i).length) (f_t := f_t) (f_a := nI A) (f_l := f_l) (f_m := f_m) (f_n := f_n) (f_count := f_count) (f_known := f_known) (f_mode := f_mode) (f_wlen := f_wlen) (f_wside := f_wside) (f_top := f_top) (a_tok := a_tok) (a_len := a_len) (a_str := a_str) (a_wit := a_wit) (a_has := a_has) (a_one := a_one) (a_first := a_first) (a_done := a_done) (a_next := a_next) (a_ls := ls) (a_rs := rs) (a_from := fr) (a_byAtom := bA) (a_byAction := bC) (a_depth := dp) hc hic (Q.1 i hic).2.2
      (fun j h0 hj e1 e2 => ih (a + 1) (by omega) _ _ _ _ _ _ _ _ _ _ hic hc (bf_skip I hK hic (fun v hv f => ⟨j, hj, by
          have n1 := bf_ne I j h0 hj
          have q := Q.1 j hj
          have s1 : sF A (tk 0) (n 0) (wd j) = sF A (tk 0) (n 0) ((x * A + a) :: wd i) := yM_inj ok.1.2.2.2.1 (fun _ h => sF_b n1 h) (fun _ h => sF_b (List.cons_ne_nil _ _) h) (q.1.symm.trans e1)
          have s2 : sF A (tk 1) (n 1) (wd j) = sF A (tk 1) (n 1) ((x * A + a) :: wd i) := yM_inj ok.2.1.2.2.2.1 (fun _ h => sF_b n1 h) (fun _ h => sF_b (List.cons_ne_nil _ _) h) (q.2.1.symm.trans e2)
          have e3 : yP A tk n (wd_r (yP A tk n) y0 (wd i)) (x * A + a) = wd_r (yP A tk n) y0 (wd j) := by
            show wd_r (yP A tk n) y0 ((x * A + a) :: wd i) = _
            rw [yP_run, yP_run, s1, s2]
          rw [← e3]; exact f⟩)) nf Q _ _ rfl rfl)
      (fun hn => by
        have hc' := yq_cnt h8 (bf_ne I) Q hcnt1 (List.cons_ne_nil (x * A + a) (wd i)) hn
        refine ih (a + 1) (by omega) (cnt + 1) (fun j => if j = cnt then (x * A + a) :: wd i else wd j) (fun j => if j = cnt then i else pa j) (fun j => if j = cnt then x * A + a else lt j) _ _ _ _ _ _ (by omega) (by omega) (bf_add I hK hic hl) ?_ ?_ _ _ ?_ ?_
        · intro y hy
          show fw mode A tk n (if i = cnt then (x * A + a) :: wd i else wd i) y = false
          rw [if_neg (by omega)]
          exact nf y hy
        · obtain ⟨q1, q2, q3⟩ := Q
          refine ⟨fun j hj => ?_, fun j h0 hj => ?_, fun i' j h0 hij hj => ?_⟩
          · show upd ls cnt _ j = yM (tk 0) (n 0) (sF A (tk 0) (n 0) (if j = cnt then (x * A + a) :: wd i else wd j)) ∧ upd rs cnt _ j = yM (tk 1) (n 1) (sF A (tk 1) (n 1) (if j = cnt then (x * A + a) :: wd i else wd j)) ∧ upd dp cnt _ j = nI (if j = cnt then (x * A + a) :: wd i else wd j).length
            by_cases e : j = cnt
            · rw [if_pos e, e, yu_s, yu_s, yu_s]; exact ⟨rfl, rfl, rfl⟩
            · rw [if_neg e, yu_n _ _ e, yu_n _ _ e, yu_n _ _ e]; exact q1 j (by omega)
          · show upd fr cnt _ j = nI (if j = cnt then i else pa j) ∧ upd bA cnt _ j = nI ((if j = cnt then x * A + a else lt j) / A) ∧ upd bC cnt _ j = nI ((if j = cnt then x * A + a else lt j) % A)
            by_cases e : j = cnt
            · rw [if_pos e, if_pos e, e, yu_s, yu_s, yu_s, ed, em]; exact ⟨rfl, rfl, rfl⟩
            · rw [if_neg e, if_neg e, yu_n _ _ e, yu_n _ _ e, yu_n _ _ e]; exact q2 j h0 (by omega)
          · rw [yu_n _ _ (show i' ≠ cnt by omega), yu_n _ _ (show i' ≠ cnt by omega)]
            by_cases e : j = cnt
            · rw [e, yu_s, yu_s]; exact hn i' h0 (by omega)
            · rw [yu_n _ _ e, yu_n _ _ e]; exact q3 i' j h0 hij (by omega)
        · show _ = yM (tk 0) (n 0) (au_go (tk_st (tk 0) (n 0) 0) (sF A (tk 0) (n 0) (if i = cnt then (x * A + a) :: wd i else wd i)) x)
          rw [if_neg (by omega)]
        · show _ = yM (tk 1) (n 1) (au_go (tk_st (tk 1) (n 1) 0) (sF A (tk 1) (n 1) (if i = cnt then (x * A + a) :: wd i else wd i)) x)
          rw [if_neg (by omega)])
      (cnt - 1) 1 (by omega) Nat.one_pos (fun k h1 h2 => by omega)
    rw [show cnt - 1 + 1 = cnt by omega] at this
    exact this
end
end
section
section
variable {post : Int32 → SY → Prop} {N A mode : Nat} {tk : Nat → Nat → Nat} {n : Nat → Nat} {T : Nat} {cnt i c : Nat} {wd : Nat → List Nat} {pa lt : Nat → Nat}
variable {f_t f_a f_l f_m f_n f_count f_known f_mode f_wlen f_wside f_top : Int32} {a_tok a_len a_str a_wit a_has a_one a_first a_done a_next a_ls a_rs a_from a_byAtom a_byAction a_depth : Nat → Int32}
theorem yq_288 (hc : cnt ≤ 257) (I : bf_I (yP A tk n) (yfl N mode tk n) y0 (N * A) cnt i c wd pa lt) (Q : yq_I A tk n cnt wd pa lt a_ls a_rs a_from a_byAtom a_byAction a_depth) :
    ∀ w j wit z, j < cnt → wd j = w → z = nI (2 * w.length) - 1 → (∀ wit', ws_ok A w wit' → (∀ k, 2 * w.length ≤ k → wit' k = wit k) → post 0 (f_t, f_a, f_l, f_m, f_n, f_count, f_known, f_mode, f_wlen, f_wside, f_top, a_tok, a_len, a_str, wit', a_has, a_one, a_first, a_done, a_next, a_ls, a_rs, a_from, a_byAtom, a_byAction, a_depth)) →
      wY_compare_288 post f_t f_a f_l f_m f_n f_count f_known f_mode f_wlen f_wside f_top (w.length + 1) (nI j) z a_tok a_len a_str wit a_has a_one a_first a_done a_next a_ls a_rs a_from a_byAtom a_byAction a_depth := by
  intro w
  induction w with
  | nil =>
    intro j wit z hj ej hz P
    rw [hz]
    show wY_compare_288 post f_t f_a f_l f_m f_n f_count f_known f_mode f_wlen f_wside f_top 1 (nI j) (nI 0 - 1) a_tok a_len a_str wit a_has a_one a_first a_done a_next a_ls a_rs a_from a_byAtom a_byAction a_depth
    rw [wY_compare_288]
    exact br_t (by decide) (P wit trivial (fun _ _ => rfl))
  | cons l w ih =>
    intro j wit z hj ej hz P
    have hlen := bf_len I j hj
    rw [ej] at hlen
    have hlen : w.length + 1 ≤ j := hlen
    obtain ⟨h1, h2, h3, _⟩ := I
    have hj0 : 0 < j := by omega
    obtain ⟨a1, a2, a3, a4⟩ := h3 j hj0 hj
    rw [ej] at a3
    obtain ⟨rfl, rfl⟩ := List.cons.inj a3
    obtain ⟨b1, b2, b3⟩ := Q.2.1 j hj0 hj
    have hz' : z = nI (2 * (wd (pa j)).length + 1) := by
      rw [hz]
      show nI (2 * ((wd (pa j)).length + 1)) - 1 = _
      exact pk_sub (b := 1) (by omega)
    show wY_compare_288 post f_t f_a f_l f_m f_n f_count f_known f_mode f_wlen f_wside f_top ((wd (pa j)).length + 1 + 1) (nI j) z a_tok a_len a_str wit a_has a_one a_first a_done a_next a_ls a_rs a_from a_byAtom a_byAction a_depth
    rw [hz', wY_compare_288]
    have em : nI (2 * (wd (pa j)).length + 1) - 1 = nI (2 * (wd (pa j)).length) := nI_pred _
    dsimp only
    rw [em]
    refine br_f (nI_nle (by omega) (by omega)) ⟨vp_in_nI (by omega) (by decide), vp_in_nI (by omega) (by decide), nm_r (e' := upd wit (2 * (wd (pa j)).length + 1) (nI (lt j % A))) (by rw [nI_clamp (by omega), nI_clamp (by omega), b3]) ⟨vp_in_nI (by omega) (by decide), vp_in_nI (by omega) (by decide), nm_r (e' := upd (upd wit (2 * (wd (pa j)).length + 1) (nI (lt j % A))) (2 * (wd (pa j)).length) (nI (lt j / A))) (by rw [nI_clamp (by omega), nI_clamp (by omega), b2]) ⟨vp_in_nI (by omega) (by decide), nm_r (e' := nI (pa j)) (by rw [nI_clamp (by omega), b1]) (nm_r (e' := nI (2 * (wd (pa j)).length) - 1) ?_ (ih (pa j) _ _ (by omega) rfl rfl (fun wit' g1 g2 => P wit' ⟨?_, ?_, g1⟩ (fun k hk => ?_))))⟩⟩⟩
    · rw [← em, show (-2 : Int32) = (-1) + (-1) from rfl, ← Int32.add_assoc, pk_m1]
      exact (Int32.sub_eq_add_neg ..).symm ▸ (by rw [em])
    · rw [g2 _ (Nat.le_refl _), yu_s]
    · rw [g2 _ (by omega), yu_n _ _ (by omega), yu_s]
    · have hk : 2 * ((wd (pa j)).length + 1) ≤ k := hk
      rw [g2 k (by omega), yu_n _ _ (by omega), yu_n _ _ (by omega)]
theorem yq_236 {x : Nat} {l : Bool} (hc : cnt ≤ 257) (hi : i < cnt) (I : bf_I (yP A tk n) (yfl N mode tk n) y0 (N * A) cnt i c wd pa lt) (Q : yq_I A tk n cnt wd pa lt a_ls a_rs a_from a_byAtom a_byAction a_depth)
    (P : ∀ wit, ws_ok A (wd i) wit → wit (2 * (wd i).length) = nI x → post 0 (f_t, f_a, f_l, f_m, f_n, f_count, f_known, f_mode, nI (2 * (wd i).length + 1), b01 (!l), f_top, a_tok, a_len, a_str, wit, a_has, a_one, a_first, a_done, a_next, a_ls, a_rs, a_from, a_byAtom, a_byAction, a_depth)) :
    wY_compare_236 post (nI i) (nI x) (b01 l) f_t f_a f_l f_m f_n f_count f_known f_mode f_wlen f_wside f_top a_tok a_len a_str a_wit a_has a_one a_first a_done a_next a_ls a_rs a_from a_byAtom a_byAction a_depth := by
  have hlen := bf_len I i hi
  have F : ∀ z0, z0 = b01 (!l) → wY_compare_247 post (nI i) (nI x) z0 f_t f_a f_l f_m f_n f_count f_known f_mode f_wlen f_wside f_top a_tok a_len a_str a_wit a_has a_one a_first a_done a_next a_ls a_rs a_from a_byAtom a_byAction a_depth := by
    intro z0 hz
    unfold wY_compare_247
    have e1 : (2 : Int32) * a_depth (nI i).toNatClampNeg + 1 = nI (2 * (wd i).length + 1) := by
      rw [nI_clamp (by omega), (Q.1 i hi).2.2]
      show nI 2 * nI (wd i).length + 1 = _
      rw [pk_mul, nI_1]
    have e2 : nI (2 * (wd i).length + 1) - 1 = nI (2 * (wd i).length) := nI_pred _
    have e3 : nI (2 * (wd i).length + 1) - 2 = nI (2 * (wd i).length) - 1 := by
      rw [← e2, show (2 : Int32) = 1 + 1 from rfl]
      grind
    refine ⟨vp_in_nI (by omega) (by decide), nm_r e1 ⟨?_, nm_r (e' := upd a_wit (2 * (wd i).length) (nI x)) (by rw [e2, nI_clamp (by omega)]) (nm_r e3 ⟨(wd i).length + 1, ?_⟩)⟩⟩
    · rw [e2]; exact vp_in_nI (by omega) (by decide)
    · refine yq_288 hc I Q (wd i) i _ _ hi rfl rfl (fun wit' g1 g2 => ?_)
      rw [hz]
      exact P wit' g1 (by rw [g2 _ (Nat.le_refl _), yu_s])
  unfold wY_compare_236
  exact zk_bb rfl (fun z => F 1 (by rw [z]; rfl)) (fun z => F 0 (by rw [z]; rfl))
theorem yq_204 {J72 J87 : Int32 → Int32 → Int32 → Int32 → Int32 → Int32 → Int32 → Int32 → Int32 → Int32 → Int32 → Int32 → Int32 → (Nat → Int32) → (Nat → Int32) → (Nat → Int32) → (Nat → Int32) → (Nat → Int32) → (Nat → Int32) → (Nat → Int32) → (Nat → Int32) → (Nat → Int32) → (Nat → Int32) → (Nat → Int32) → (Nat → Int32) → (Nat → Int32) → (Nat → Int32) → (Nat → Int32) → Prop} {x2 x3 x4 x6 x8 : Int32} {l r : Bool} (hm : mode ≤ 2)
    (KF : bd mode l r = true → wY_compare_236 post x3 x4 (b01 l) f_t f_a f_l f_m f_n f_count f_known f_mode f_wlen f_wside f_top a_tok a_len a_str a_wit a_has a_one a_first a_done a_next a_ls a_rs a_from a_byAtom a_byAction a_depth) (KN : bd mode l r = false → ∃ m, wY_compare_343 post J72 J87 (nI mode) x3 x4 x6 x8 f_t f_a f_l f_m f_n f_count f_known f_mode f_wlen f_wside f_top m x2 0 a_tok a_len a_str a_wit a_has a_one a_first a_done a_next a_ls a_rs a_from a_byAtom a_byAction a_depth) :
    wY_compare_204 post J72 J87 (nI mode) x2 x3 x4 (b01 l) x6 (b01 r) x8 f_t f_a f_l f_m f_n f_count f_known f_mode f_wlen f_wside f_top a_tok a_len a_str a_wit a_has a_one a_first a_done a_next a_ls a_rs a_from a_byAtom a_byAction a_depth := by
  have j221 : (l = true → r = false → mode = 2) → wY_compare_221 post J72 J87 (nI mode) x2 x3 x4 (b01 l) x6 (b01 r) x8 f_t f_a f_l f_m f_n f_count f_known f_mode f_wlen f_wside f_top a_tok a_len a_str a_wit a_has a_one a_first a_done a_next a_ls a_rs a_from a_byAtom a_byAction a_depth := by
    intro h
    unfold wY_compare_221
    refine zk_bb rfl (fun zr => KN ?_) (fun zr => zk_bb rfl (fun zl => pk_eq mode 1 (fun m1 => KN ?_) (fun m1 => KF ?_)) (fun zl => KN ?_))
    · rw [zr]
      cases hl : l
      · exact bd_ff mode
      · rw [h hl zr]; rfl
    · rw [zr, zl, m1]; rfl
    · rw [zr, zl]
      unfold bd
      rw [if_neg m1]
      split <;> rfl
    · rw [zr, zl]
      unfold bd
      split
      · rfl
      · split <;> rfl
  unfold wY_compare_204
  refine zk_bb rfl (fun zl => j221 (fun w => by rw [zl] at w; cases w)) (fun zl => zk_bb rfl (fun zr => pk_eq mode 2 (fun m2 => j221 (fun _ _ => m2)) (fun m2 => KF ?_)) (fun zr => j221 (fun _ w => by rw [zr] at w; cases w)))
  rw [zl, zr]
  unfold bd
  split
  · rfl
  · rfl
theorem yq_87 {J72 : Int32 → Int32 → Int32 → Int32 → Int32 → Int32 → Int32 → Int32 → Int32 → Int32 → Int32 → Int32 → Int32 → (Nat → Int32) → (Nat → Int32) → (Nat → Int32) → (Nat → Int32) → (Nat → Int32) → (Nat → Int32) → (Nat → Int32) → (Nat → Int32) → (Nat → Int32) → (Nat → Int32) → (Nat → Int32) → (Nat → Int32) → (Nat → Int32) → (Nat → Int32) → (Nat → Int32) → Prop} {i : Nat} (ok : yq_ok T A tk n a_tok a_len) (hm : mode ≤ 2) (hA : 0 < A) (hN : N ≤ 4) (hfA : f_a = nI A) (hfN : f_n = nI N)
    (KF : ∀ x c cnt wd pa lt ls rs fr bA bC dp wit tp h o f d t, x < N → i < cnt → bf_I (yP A tk n) (yfl N mode tk n) y0 (N * A) cnt i c wd pa lt → fw mode A tk n (wd i) x = true → (∀ y, y < x → fw mode A tk n (wd i) y = false) → ws_ok A (wd i) wit → wit (2 * (wd i).length) = nI x →
      post 0 (f_t, f_a, f_l, f_m, f_n, f_count, f_known, f_mode, nI (2 * (wd i).length + 1), b01 (!au_end (tk_st (tk 0) (n 0) 0) (sF A (tk 0) (n 0) (wd i)) x), tp, a_tok, a_len, a_str, wit, h, o, f, d, t, ls, rs, fr, bA, bC, dp))
    (K : ∀ cnt wd pa lt ls rs fr bA bC dp tp h o f d t, i < cnt → cnt ≤ 257 → bf_I (yP A tk n) (yfl N mode tk n) y0 (N * A) cnt i (N * A) wd pa lt → (∀ y, y < N → fw mode A tk n (wd i) y = false) → yq_I A tk n cnt wd pa lt ls rs fr bA bC dp →
      J72 (nI cnt) (nI (i + 1)) f_t f_a f_l f_m f_n f_count f_known f_mode f_wlen f_wside tp a_tok a_len a_str a_wit h o f d t ls rs fr bA bC dp) :
    ∀ dd x, x + dd = N → ∀ cnt wd pa lt ls rs fr bA bC dp tp h o f d t, i < cnt → cnt ≤ 257 → bf_I (yP A tk n) (yfl N mode tk n) y0 (N * A) cnt i (x * A) wd pa lt → (∀ y, y < x → fw mode A tk n (wd i) y = false) → yq_I A tk n cnt wd pa lt ls rs fr bA bC dp →
      wY_compare_87 post J72 (nI mode) (nI i) (dd + 1) (nI cnt) (nI x) f_t f_a f_l f_m f_n f_count f_known f_mode f_wlen f_wside tp a_tok a_len a_str a_wit h o f d t ls rs fr bA bC dp := by
  intro dd
  induction dd with
  | zero =>
    intro x hx cnt wd pa lt ls rs fr bA bC dp tp h o f d t hic hc I nf Q
    have hx : x = N := hx
    subst hx
    subst hfN
    rw [wY_compare_87]
    exact br_t (nI_le (Nat.le_refl _) (by omega)) (nm_r (nI_1 i) (K _ _ _ _ _ _ _ _ _ _ _ _ _ _ _ _ hic hc I nf Q))
  | succ dd ih =>
    intro x hx cnt wd pa lt ls rs fr bA bC dp tp h o f d t hic hc I nf Q
    obtain ⟨okL, okR, rL, rR, h8⟩ := ok
    rw [wY_compare_87]
    have q := Q.1 i hic
    have hst : ∀ s, tk_ac (tk s) (n s) ≤ 8 → au_stt (decide (i = 0)) (sF A (tk s) (n s) (wd i)) := by
      intro s hs
      have := au_stt_w (tk_B (tk s) (n s) 0) hs (lb := tk_lb (tk s) (n s)) (A := A) (wd i)
      by_cases z : i = 0
      · rw [decide_eq_true z, z, I.2.1]
        exact Or.inl ⟨rfl, rfl⟩
      · rw [decide_eq_false z]
        cases w : wd i with
        | nil => exact absurd w (bf_ne I i (by omega) hic)
        | cons l w' => rw [w] at this; exact this
    refine br_f (by rw [hfN]; exact nI_ge (by omega) (by omega)) ⟨vp_in_nI (by omega) (by decide), ?_⟩
    rw [nI_clamp (by omega), q.1]
    refine y_read (s := 0) okL (by omega) (yM_hM okL.2.2.2.1) (fun h o f d t D => ?_)
    have G := yr_goS (hst 0 (by omega)) (D 0 (by omega))
    have j149 : ∀ z0, z0 = yM (tk 0) (n 0) (au_go (tk_st (tk 0) (n 0) 0) (sF A (tk 0) (n 0) (wd i)) x) → ∀ tp, wY_compare_149 post J72 (wY_compare_87 post J72 (nI mode) (nI i) (dd + 1)) (nI mode) (nI cnt) (nI i) (nI x) (b01 (au_end (tk_st (tk 0) (n 0) 0) (sF A (tk 0) (n 0) (wd i)) x)) z0 f_t f_a f_l f_m f_n f_count f_known f_mode f_wlen f_wside tp a_tok a_len a_str a_wit h o f d t ls rs fr bA bC dp := by
      intro z0 hz0 tp
      unfold wY_compare_149
      refine ⟨vp_in_nI (by omega) (by decide), ?_⟩
      rw [nI_clamp (by omega), q.2.1]
      refine y_read (s := 1) okR (by omega) (yM_hM okR.2.2.2.1) (fun h o f d t D => ?_)
      have GR := yr_goS (hst 1 (by omega)) (D 0 (by omega))
      have j204 : ∀ z1, z1 = yM (tk 1) (n 1) (au_go (tk_st (tk 1) (n 1) 0) (sF A (tk 1) (n 1) (wd i)) x) → ∀ tp, wY_compare_204 post J72 (wY_compare_87 post J72 (nI mode) (nI i) (dd + 1)) (nI mode) (nI cnt) (nI i) (nI x) (b01 (au_end (tk_st (tk 0) (n 0) 0) (sF A (tk 0) (n 0) (wd i)) x)) z0 (b01 (au_end (tk_st (tk 1) (n 1) 0) (sF A (tk 1) (n 1) (wd i)) x)) z1 f_t f_a f_l f_m f_n f_count f_known f_mode f_wlen f_wside tp a_tok a_len a_str a_wit h o f d t ls rs fr bA bC dp := by
        intro z1 hz1 tp
        refine yq_204 hm (fun bad => yq_236 hc hic I Q (fun wit g1 g2 => KF x (x * A) cnt wd pa lt ls rs fr bA bC dp wit _ _ _ _ _ _ (by omega) hic I bad nf g1 g2)) (fun good => ⟨A + 1, ?_⟩)
        refine yq_343 (mode := mode) ⟨okL, okR, rL, rR, h8⟩ hA hN (by omega) hfA (fun cnt wd pa lt ls rs fr bA bC dp hic hc I nf Q => ?_) A 0 (Nat.zero_add A) cnt wd pa lt ls rs fr bA bC dp hic hc I (fun y hy => ?_) Q z0 z1 hz0 hz1
        · refine ih (x + 1) (by omega) cnt wd pa lt ls rs fr bA bC dp _ _ _ _ _ _ hic hc ?_ nf Q
          rw [Nat.add_mul, Nat.one_mul]
          exact I
        · by_cases e : y = x
          · rw [e]; exact good
          · exact nf y (by omega)
      have j183 : ∀ z1, z1 = b01 (au_end (tk_st (tk 1) (n 1) 0) (sF A (tk 1) (n 1) (wd i)) x) → wY_compare_183 post J72 (wY_compare_87 post J72 (nI mode) (nI i) (dd + 1)) (nI mode) (nI cnt) (nI i) (nI x) (b01 (au_end (tk_st (tk 0) (n 0) 0) (sF A (tk 0) (n 0) (wd i)) x)) z0 z1 f_t f_a f_l f_m f_n f_count f_known f_mode f_wlen f_wside (nI (tk_hg (tk 1) (n 1))) a_tok a_len a_str a_wit h o f d t ls rs fr bA bC dp := by
        intro z1 hz1
        rw [hz1]
        unfold wY_compare_183
        refine pk_eq i 0 (fun z => j204 _ ?_ _) (fun z => j204 _ ?_ _)
        · exact (GR.1 (decide_eq_true z)).1
        · exact (GR.2 (decide_eq_false z)).1
      refine pk_eq i 0 (fun z => j183 _ ?_) (fun z => j183 _ ?_)
      · exact (GR.1 (decide_eq_true z)).2
      · exact (GR.2 (decide_eq_false z)).2
    have j128 : ∀ z0, z0 = b01 (au_end (tk_st (tk 0) (n 0) 0) (sF A (tk 0) (n 0) (wd i)) x) → wY_compare_128 post J72 (wY_compare_87 post J72 (nI mode) (nI i) (dd + 1)) (nI mode) (nI cnt) (nI i) (nI x) z0 f_t f_a f_l f_m f_n f_count f_known f_mode f_wlen f_wside (nI (tk_hg (tk 0) (n 0))) a_tok a_len a_str a_wit h o f d t ls rs fr bA bC dp := by
      intro z0 hz0
      rw [hz0]
      unfold wY_compare_128
      refine pk_eq i 0 (fun z => j149 _ ?_ _) (fun z => j149 _ ?_ _)
      · exact (G.1 (decide_eq_true z)).1
      · exact (G.2 (decide_eq_false z)).1
    refine pk_eq i 0 (fun z => j128 _ ?_) (fun z => j128 _ ?_)
    · exact (G.1 (decide_eq_true z)).2
    · exact (G.2 (decide_eq_false z)).2
theorem yq_72 (ok : yq_ok T A tk n a_tok a_len) (hm : mode ≤ 2) (hA : 0 < A) (hN0 : 0 < N) (hN : N ≤ 4) (hfA : f_a = nI A) (hfN : f_n = nI N)
    (KF : ∀ i x c cnt wd pa lt ls rs fr bA bC dp wit tp h o f d t, x < N → i < cnt → bf_I (yP A tk n) (yfl N mode tk n) y0 (N * A) cnt i c wd pa lt → fw mode A tk n (wd i) x = true → (∀ y, y < x → fw mode A tk n (wd i) y = false) → ws_ok A (wd i) wit → wit (2 * (wd i).length) = nI x →
      post 0 (f_t, f_a, f_l, f_m, f_n, f_count, f_known, f_mode, nI (2 * (wd i).length + 1), b01 (!au_end (tk_st (tk 0) (n 0) 0) (sF A (tk 0) (n 0) (wd i)) x), tp, a_tok, a_len, a_str, wit, h, o, f, d, t, ls, rs, fr, bA, bC, dp))
    (K0 : ∀ ls rs fr bA bC dp tp h o f d t, (∀ w, (∀ l, l ∈ w → l < N * A) → ∀ x, x < N → fw mode A tk n w x = false) → post 1 (f_t, f_a, f_l, f_m, f_n, f_count, f_known, f_mode, f_wlen, f_wside, tp, a_tok, a_len, a_str, a_wit, h, o, f, d, t, ls, rs, fr, bA, bC, dp)) :
    ∀ dd i, i + dd = 257 → ∀ cnt wd pa lt ls rs fr bA bC dp tp h o f d t, i ≤ cnt → cnt ≤ 257 → bf_I (yP A tk n) (yfl N mode tk n) y0 (N * A) cnt i 0 wd pa lt → yq_I A tk n cnt wd pa lt ls rs fr bA bC dp →
      wY_compare_72 post (nI mode) (dd + 1) (nI cnt) (nI i) f_t f_a f_l f_m f_n f_count f_known f_mode f_wlen f_wside tp a_tok a_len a_str a_wit h o f d t ls rs fr bA bC dp := by
  have hK : 0 < N * A := Nat.mul_pos hN0 hA
  have none : ∀ {cnt i c : Nat} {wd : Nat → List Nat} {pa lt : Nat → Nat}, bf_I (yP A tk n) (yfl N mode tk n) y0 (N * A) cnt i c wd pa lt → cnt ≤ i → ∀ w, (∀ l, l ∈ w → l < N * A) → ∀ x, x < N → fw mode A tk n w x = false := by
    intro cnt i c wd pa lt I h w hw x hx
    cases z : fw mode A tk n w x
    · rfl
    · exact absurd (yfl_iff.mpr ⟨x, hx, z⟩) (bf_done I hK h w hw)
  intro dd
  induction dd with
  | zero =>
    intro i hi cnt wd pa lt ls rs fr bA bC dp tp h o f d t hic hc I Q
    have hi : i = 257 := hi
    subst hi
    rw [wY_compare_72]
    exact br_t (nI_le (by omega) (by omega)) (K0 _ _ _ _ _ _ _ _ _ _ _ _ (none I hc))
  | succ dd ih =>
    intro i hi cnt wd pa lt ls rs fr bA bC dp tp h o f d t hic hc I Q
    rw [wY_compare_72]
    refine pk_le cnt i (fun z => K0 _ _ _ _ _ _ _ _ _ _ _ _ (none I z)) (fun z => br_f (nI_ge (b := 300) (by omega) (by decide)) ⟨N + 1, ?_⟩)
    refine yq_87 (mode := mode) ok hm hA hN hfA hfN (KF i) (fun cnt wd pa lt ls rs fr bA bC dp tp h o f d t hic hc I nf Q => ?_) N 0 (Nat.zero_add N) cnt wd pa lt ls rs fr bA bC dp tp h o f d t z hc (by rw [Nat.zero_mul]; exact I) (fun y hy => absurd hy (Nat.not_lt_zero _)) Q
    refine ih (i + 1) (by omega) cnt wd pa lt ls rs fr bA bC dp tp h o f d t hic hc (bf_next I (fun w => ?_)) Q
    obtain ⟨x, hx, e⟩ := yfl_iff.mp w
    rw [nf x hx] at e; cases e
/-- compare, both sides ready -/
theorem y_compare (ok : yq_ok T A tk n a_tok a_len) (hm : mode ≤ 2) (hA : 0 < A) (hN0 : 0 < N) (hN : N ≤ 4) (hfA : f_a = nI A) (hfN : f_n = nI N)
    (KF : ∀ i x c cnt wd pa lt ls rs fr bA bC dp wit tp h o f d t, x < N → i < cnt → bf_I (yP A tk n) (yfl N mode tk n) y0 (N * A) cnt i c wd pa lt → fw mode A tk n (wd i) x = true → (∀ y, y < x → fw mode A tk n (wd i) y = false) → ws_ok A (wd i) wit → wit (2 * (wd i).length) = nI x →
      post 0 (f_t, f_a, f_l, f_m, f_n, f_count, 1, nI mode, nI (2 * (wd i).length + 1), b01 (!au_end (tk_st (tk 0) (n 0) 0) (sF A (tk 0) (n 0) (wd i)) x), tp, a_tok, a_len, a_str, wit, h, o, f, d, t, ls, rs, fr, bA, bC, dp))
    (K0 : ∀ ls rs fr bA bC dp tp h o f d t, (∀ w, (∀ l, l ∈ w → l < N * A) → ∀ x, x < N → fw mode A tk n w x = false) → post 1 (f_t, f_a, f_l, f_m, f_n, f_count, 1, nI mode, 0, f_wside, tp, a_tok, a_len, a_str, a_wit, h, o, f, d, t, ls, rs, fr, bA, bC, dp)) :
    wpY_compare post (f_t, f_a, f_l, f_m, f_n, f_count, f_known, f_mode, f_wlen, f_wside, f_top, a_tok, a_len, a_str, a_wit, a_has, a_one, a_first, a_done, a_next, a_ls, a_rs, a_from, a_byAtom, a_byAction, a_depth) (nI mode) := by
  unfold wpY_compare
  dsimp only
  refine br_f (nI_pos (by omega)) (br_t (nI_le (b := 2) hm (by decide)) ?_)
  refine y_height (s := 0) ok.1 (fun h o f d t _ => br_t (by rw [ok.2.2.1]; rfl) (y_height (s := 1) ok.2.1 (fun h o f d t _ => br_t (by rw [ok.2.2.2.1]; rfl) ?_)))
  unfold wpY_drop
  dsimp only
  refine nm_e (nm_e (nm_e ⟨258, ?_⟩))
  refine yq_72 (mode := mode) ok hm hA hN0 hN hfA hfN KF K0 257 0 rfl 1 (fun _ => []) (fun _ => 0) (fun _ => 0) (upd a_ls 0 0) (upd a_rs 0 0) a_from a_byAtom a_byAction (upd a_depth 0 0) _ _ _ _ _ _ (by omega) (by omega) bf_0 ⟨fun j hj => ?_, fun j h1 h2 => by omega, fun i j h1 h2 h3 => by omega⟩
  rw [show j = 0 by omega, yu_s, yu_s, yu_s]
  refine ⟨?_, ?_, rfl⟩
  · exact (yM_s0 (by have := ok.2.2.2.2; omega)).symm
  · exact (yM_s0 (by have := ok.2.2.2.2; omega)).symm
end
end
section
/-! ===== the relation ===== -/
def rl_lim (T A Lm m N : Nat) (f_testCount f_actionCount f_tokenLimit f_occurrenceLimit f_atomCount f_allAtoms f_t f_a f_l f_m f_n : Int32) : Prop :=
  T ≤ 2 ∧ 0 < A ∧ A ≤ 3 ∧ Lm ≤ 32 ∧ m ≤ 8 ∧ 0 < N ∧ N ≤ 4 ∧ f_testCount = nI T ∧ f_actionCount = nI A ∧ f_tokenLimit = nI Lm ∧ f_occurrenceLimit = nI m ∧ f_atomCount = nI N ∧ f_allAtoms = zA N (fun _ => true) ∧ f_t = nI T ∧ f_a = nI A ∧ f_l = nI Lm ∧ f_m = nI m ∧ f_n = nI N
def rl_sd (T A Lm s : Nat) (tk : Nat → Nat) (n : Nat) (a_size a_list a_begin a_heightAfter a_actionsAfter a_tok a_len : Nat → Int32) : Prop :=
  n ≤ Lm ∧ a_size s = nI n ∧ a_len s = nI n ∧ tk_ok T A tk n ∧
  ∀ i, i < n → a_list (32 * s + i) = nI (tk i) ∧ a_tok (32 * s + i) = nI (tk i) ∧ a_begin (32 * s + i) = nI (tk_sp tk i (tk_P tk i)) ∧ a_heightAfter (32 * s + i) = nI (tk_hg tk (i + 1)) ∧ a_actionsAfter (32 * s + i) = nI (tk_ac tk (i + 1))
def rl_tok (T A Lm m : Nat) (tk : Nat → Nat → Nat) (n : Nat → Nat) (a_size a_list a_begin a_heightAfter a_actionsAfter a_tok a_len : Nat → Int32) : Prop :=
  (∀ s, s < 2 → rl_sd T A Lm s (tk s) (n s) a_size a_list a_begin a_heightAfter a_actionsAfter a_tok a_len) ∧ tk_ac (tk 0) (n 0) + tk_ac (tk 1) (n 1) ≤ m
def rl_blt (N : Nat) (tk : Nat → Nat → Nat) (n : Nat → Nat) (a_built a_states a_follow a_accepting a_need a_labelled : Nat → Int32) : Prop :=
  ∀ s, s < 2 → ∃ bl, a_built s = b01 bl ∧ (bl = true → at_ok N s (tk_st (tk s) (n s) 0) (tk_lb (tk s) (n s)) (tk_ac (tk s) (n s)) a_states a_follow a_accepting a_need a_labelled)
def rl_ent (N A cnt : Nat) (e : Nat → Nat) (f_enteredSize f_count : Int32) (a_entered a_str : Nat → Int32) : Prop :=
  f_enteredSize = nI cnt ∧ f_count = nI cnt ∧ en_ok N A cnt e a_entered ∧ en_ok N A cnt e a_str
def rl_res (N A : Nat) (f_hasResult f_resultMode f_resultVerdict f_witnessSize f_witnessOwner f_known f_mode f_wlen f_wside : Int32) (a_witness a_wit : Nat → Int32) : Prop :=
  (f_hasResult = 0 ∧ f_known = 0 ∧ f_wlen = 0) ∨
  (f_hasResult = 1 ∧ f_known = 1 ∧ f_resultMode = f_mode ∧ ((f_resultVerdict = 1 ∧ f_wlen = 0) ∨
    (f_resultVerdict = 0 ∧ f_witnessOwner = f_wside ∧ ∃ (d : Nat) (v : Nat → Nat), d ≤ 256 ∧ f_witnessSize = nI (2 * d + 1) ∧ f_wlen = nI (2 * d + 1) ∧ ∀ i, i < 2 * d + 1 → a_witness i = nI (v i) ∧ a_wit i = nI (v i) ∧ v i < (if i % 2 = 0 then N else A))))
def rl_all (f_testCount f_actionCount f_tokenLimit f_occurrenceLimit f_atomCount f_allAtoms f_enteredSize f_nodeCount f_hasResult f_resultMode f_resultVerdict f_witnessSize f_witnessOwner : Int32) (a_size a_list a_begin a_heightAfter a_actionsAfter a_entered a_built a_states a_follow a_accepting a_need a_labelled a_opAtoms a_opFirst a_opLast a_nodeSet a_nodeParent a_nodeAtom a_nodeAction a_nodeDepth a_witness : Nat → Int32) (f_t f_a f_l f_m f_n f_count f_known f_mode f_wlen f_wside f_top : Int32) (a_tok a_len a_str a_wit a_has a_one a_first a_done a_next a_ls a_rs a_from a_byAtom a_byAction a_depth : Nat → Int32) : Prop :=
  ∃ (T A Lm m N cnt : Nat) (tk : Nat → Nat → Nat) (n e : Nat → Nat),
    rl_lim T A Lm m N f_testCount f_actionCount f_tokenLimit f_occurrenceLimit f_atomCount f_allAtoms f_t f_a f_l f_m f_n ∧
    rl_tok T A Lm m tk n a_size a_list a_begin a_heightAfter a_actionsAfter a_tok a_len ∧
    rl_blt N tk n a_built a_states a_follow a_accepting a_need a_labelled ∧
    rl_ent N A cnt e f_enteredSize f_count a_entered a_str ∧
    rl_res N A f_hasResult f_resultMode f_resultVerdict f_witnessSize f_witnessOwner f_known f_mode f_wlen f_wside a_witness a_wit
def i_Rel (_ : Nat) (u : SX) (v : SY) : Prop := match u with
  | (f_testCount, f_actionCount, f_tokenLimit, f_occurrenceLimit, f_atomCount, f_allAtoms, f_enteredSize, f_nodeCount, f_hasResult, f_resultMode, f_resultVerdict, f_witnessSize, f_witnessOwner, a_size, a_list, a_begin, a_heightAfter, a_actionsAfter, a_entered, a_built, a_states, a_follow, a_accepting, a_need, a_labelled, a_opAtoms, a_opFirst, a_opLast, a_nodeSet, a_nodeParent, a_nodeAtom, a_nodeAction, a_nodeDepth, a_witness) => match v with
    | (f_t, f_a, f_l, f_m, f_n, f_count, f_known, f_mode, f_wlen, f_wside, f_top, a_tok, a_len, a_str, a_wit, a_has, a_one, a_first, a_done, a_next, a_ls, a_rs, a_from, a_byAtom, a_byAction, a_depth) => rl_all f_testCount f_actionCount f_tokenLimit f_occurrenceLimit f_atomCount f_allAtoms f_enteredSize f_nodeCount f_hasResult f_resultMode f_resultVerdict f_witnessSize f_witnessOwner a_size a_list a_begin a_heightAfter a_actionsAfter a_entered a_built a_states a_follow a_accepting a_need a_labelled a_opAtoms a_opFirst a_opLast a_nodeSet a_nodeParent a_nodeAtom a_nodeAction a_nodeDepth a_witness f_t f_a f_l f_m f_n f_count f_known f_mode f_wlen f_wside f_top a_tok a_len a_str a_wit a_has a_one a_first a_done a_next a_ls a_rs a_from a_byAtom a_byAction a_depth
theorem i_up {k : Nat} {u : SX} {v : SY} (h : i_Rel k u v) : i_Rel (k + 3) u v := h
theorem zz_el {k : Nat} {P : SX → SY → Prop} {u : SX} {v : SY} (h : ∀ (f_testCount f_actionCount f_tokenLimit f_occurrenceLimit f_atomCount f_allAtoms f_enteredSize f_nodeCount f_hasResult f_resultMode f_resultVerdict f_witnessSize f_witnessOwner : Int32) (a_size a_list a_begin a_heightAfter a_actionsAfter a_entered a_built a_states a_follow a_accepting a_need a_labelled a_opAtoms a_opFirst a_opLast a_nodeSet a_nodeParent a_nodeAtom a_nodeAction a_nodeDepth a_witness : Nat → Int32) (f_t f_a f_l f_m f_n f_count f_known f_mode f_wlen f_wside f_top : Int32) (a_tok a_len a_str a_wit a_has a_one a_first a_done a_next a_ls a_rs a_from a_byAtom a_byAction a_depth : Nat → Int32), rl_all f_testCount f_actionCount f_tokenLimit f_occurrenceLimit f_atomCount f_allAtoms f_enteredSize f_nodeCount f_hasResult f_resultMode f_resultVerdict f_witnessSize f_witnessOwner a_size a_list a_begin a_heightAfter a_actionsAfter a_entered a_built a_states a_follow a_accepting a_need a_labelled a_opAtoms a_opFirst a_opLast a_nodeSet a_nodeParent a_nodeAtom a_nodeAction a_nodeDepth a_witness f_t f_a f_l f_m f_n f_count f_known f_mode f_wlen f_wside f_top a_tok a_len a_str a_wit a_has a_one a_first a_done a_next a_ls a_rs a_from a_byAtom a_byAction a_depth → P (f_testCount, f_actionCount, f_tokenLimit, f_occurrenceLimit, f_atomCount, f_allAtoms, f_enteredSize, f_nodeCount, f_hasResult, f_resultMode, f_resultVerdict, f_witnessSize, f_witnessOwner, a_size, a_list, a_begin, a_heightAfter, a_actionsAfter, a_entered, a_built, a_states, a_follow, a_accepting, a_need, a_labelled, a_opAtoms, a_opFirst, a_opLast, a_nodeSet, a_nodeParent, a_nodeAtom, a_nodeAction, a_nodeDepth, a_witness) (f_t, f_a, f_l, f_m, f_n, f_count, f_known, f_mode, f_wlen, f_wside, f_top, a_tok, a_len, a_str, a_wit, a_has, a_one, a_first, a_done, a_next, a_ls, a_rs, a_from, a_byAtom, a_byAction, a_depth)) (I : i_Rel k u v) : P u v :=
  match u, v, I with
  | (f_testCount, f_actionCount, f_tokenLimit, f_occurrenceLimit, f_atomCount, f_allAtoms, f_enteredSize, f_nodeCount, f_hasResult, f_resultMode, f_resultVerdict, f_witnessSize, f_witnessOwner, a_size, a_list, a_begin, a_heightAfter, a_actionsAfter, a_entered, a_built, a_states, a_follow, a_accepting, a_need, a_labelled, a_opAtoms, a_opFirst, a_opLast, a_nodeSet, a_nodeParent, a_nodeAtom, a_nodeAction, a_nodeDepth, a_witness), (f_t, f_a, f_l, f_m, f_n, f_count, f_known, f_mode, f_wlen, f_wside, f_top, a_tok, a_len, a_str, a_wit, a_has, a_one, a_first, a_done, a_next, a_ls, a_rs, a_from, a_byAtom, a_byAction, a_depth), I => h f_testCount f_actionCount f_tokenLimit f_occurrenceLimit f_atomCount f_allAtoms f_enteredSize f_nodeCount f_hasResult f_resultMode f_resultVerdict f_witnessSize f_witnessOwner a_size a_list a_begin a_heightAfter a_actionsAfter a_entered a_built a_states a_follow a_accepting a_need a_labelled a_opAtoms a_opFirst a_opLast a_nodeSet a_nodeParent a_nodeAtom a_nodeAction a_nodeDepth a_witness f_t f_a f_l f_m f_n f_count f_known f_mode f_wlen f_wside f_top a_tok a_len a_str a_wit a_has a_one a_first a_done a_next a_ls a_rs a_from a_byAtom a_byAction a_depth I
/-- the sides -/
theorem sd_c (v : Int32) : (∃ s, s < 2 ∧ v = nI s) ∨ (¬ v = 0 ∧ ¬ v = 1) := by
  by_cases h0 : v = 0
  · exact Or.inl ⟨0, by omega, h0⟩
  · by_cases h1 : v = 1
    · exact Or.inl ⟨1, by omega, h1⟩
    · exact Or.inr ⟨h0, h1⟩
theorem zA_all : ∀ T, T ≤ 2 → ((1 : Int32) <<< (((1 : Int32) <<< (nI T &&& 31)) &&& 31)) - 1 = zA (2 ^ T) (fun _ => true) ∧ (1 : Int32) <<< (nI T &&& 31) = nI (2 ^ T) := by
  intro T hT
  have : T = 0 ∨ T = 1 ∨ T = 2 := by omega
  rcases this with rfl | rfl | rfl
  · exact ⟨by decide +kernel, by decide +kernel⟩
  · exact ⟨by decide +kernel, by decide +kernel⟩
  · exact ⟨by decide +kernel, by decide +kernel⟩
/-- clamp: both constructors alike -/
theorem cl_c (v : Int32) (lo hi : Nat) (h : lo ≤ hi) (hh : hi < 2 ^ 31) : ∃ r, lo ≤ r ∧ r ≤ hi ∧ (∀ (post : Int32 → Prop) (u : SX), post (nI r) → wpX_clamp post u v (nI lo) (nI hi)) ∧ (∀ post : Int32 → Prop, post (nI r) → wpY_clamp post v (nI lo) (nI hi)) := by
  by_cases h1 : nI lo ≤ v
  · have hv : ¬ v < 0 := by
      intro w
      have h2 := nI_pos' (n := lo) (by omega)
      rw [Int32.lt_iff_toInt_lt] at w
      rw [Int32.le_iff_toInt_le] at h1 h2
      omega
    obtain ⟨j, hj, rfl⟩ := nI_of hv
    rw [nI_leI (by omega) hj] at h1
    by_cases h2 : j ≤ hi
    · exact ⟨j, h1, h2, fun post u P => br_t (nI_le h1 hj) (br_t (nI_le h2 hh) P), fun post P => br_t (nI_le h1 hj) (br_t (nI_le h2 hh) P)⟩
    · exact ⟨hi, h, Nat.le_refl _, fun post u P => br_t (nI_le h1 hj) (br_f (nI_ge (by omega) hj) P), fun post P => br_t (nI_le h1 hj) (br_f (nI_ge (by omega) hj) P)⟩
  · exact ⟨lo, Nat.le_refl _, h, fun post u P => br_f h1 P, fun post P => br_f h1 P⟩
theorem i_vc0 (k0 : Int32) (k1 : Int32) (k2 : Int32) (k3 : Int32) : wpX_init (fun u => wpY_init (fun v => i_Rel 4 u v) k0 k1 k2 k3) k0 k1 k2 k3 := by
  obtain ⟨T, t1, t2, tX, tY⟩ := cl_c k0 0 2 (by omega) (by omega)
  obtain ⟨A, a1, a2, aX, aY⟩ := cl_c k1 1 3 (by omega) (by omega)
  obtain ⟨Lm, l1, l2, lX, lY⟩ := cl_c k2 4 32 (by omega) (by omega)
  obtain ⟨m, m1, m2, mX, mY⟩ := cl_c k3 2 8 (by omega) (by omega)
  obtain ⟨z1, z2⟩ := zA_all T t2
  refine tX _ _ (aX _ _ (lX _ _ (mX _ _ (nm_r z2 (nm_r (e' := zA (2 ^ T) (fun _ => true)) (by rw [← z2]; exact z1) (tY _ (aY _ (lY _ (mY _ (nm_r z2 ?_)))))))) ))
  have hN : 0 < 2 ^ T ∧ 2 ^ T ≤ 4 := by
    have : T = 0 ∨ T = 1 ∨ T = 2 := by omega
    rcases this with rfl | rfl | rfl <;> decide
  refine ⟨T, A, Lm, m, 2 ^ T, 0, fun _ _ => 0, fun _ => 0, fun _ => 0, ⟨t2, by omega, a2, l2, m2, hN.1, hN.2, rfl, rfl, rfl, rfl, rfl, rfl, rfl, rfl, rfl, rfl, rfl⟩, ⟨fun s hs => ⟨Nat.zero_le _, rfl, rfl, fun i hi => absurd hi (Nat.not_lt_zero _), fun i hi => absurd hi (Nat.not_lt_zero _)⟩, Nat.zero_le _⟩, fun s hs => ⟨false, rfl, fun h => nomatch h⟩, ⟨rfl, rfl, ⟨by omega, fun i hi => absurd hi (Nat.not_lt_zero _)⟩, ⟨by omega, fun i hi => absurd hi (Nat.not_lt_zero _)⟩⟩, Or.inl ⟨rfl, rfl, rfl⟩⟩
theorem i_vc_limit {k : Nat} {u : SX} {v : SY} (I : i_Rel k u v) (hk : k + 3 ≤ 1540) (v1 : Int32) : wpX_limit (fun r => wpY_limit (fun r' => r' = r ∧ i_Rel (k + 3) u v) v v1) u v1 := by
  refine zz_el (P := fun u v => wpX_limit (fun r => wpY_limit (fun r' => r' = r ∧ i_Rel (k + 3) u v) v v1) u v1) ?_ I
  intro f_testCount f_actionCount f_tokenLimit f_occurrenceLimit f_atomCount f_allAtoms f_enteredSize f_nodeCount f_hasResult f_resultMode f_resultVerdict f_witnessSize f_witnessOwner a_size a_list a_begin a_heightAfter a_actionsAfter a_entered a_built a_states a_follow a_accepting a_need a_labelled a_opAtoms a_opFirst a_opLast a_nodeSet a_nodeParent a_nodeAtom a_nodeAction a_nodeDepth a_witness f_t f_a f_l f_m f_n f_count f_known f_mode f_wlen f_wside f_top a_tok a_len a_str a_wit a_has a_one a_first a_done a_next a_ls a_rs a_from a_byAtom a_byAction a_depth R
  have lim : f_t = f_testCount ∧ f_a = f_actionCount ∧ f_l = f_tokenLimit ∧ f_m = f_occurrenceLimit := by
    obtain ⟨T, A, Lm, m, N, cnt, tk, n, e, lim, _⟩ := R
    obtain ⟨_, _, _, _, _, _, _, g1, g2, g3, g4, _, _, g5, g6, g7, g8, _⟩ := lim
    exact ⟨g5.trans g1.symm, g6.trans g2.symm, g7.trans g3.symm, g8.trans g4.symm⟩
  have R' : i_Rel (k + 3) (f_testCount, f_actionCount, f_tokenLimit, f_occurrenceLimit, f_atomCount, f_allAtoms, f_enteredSize, f_nodeCount, f_hasResult, f_resultMode, f_resultVerdict, f_witnessSize, f_witnessOwner, a_size, a_list, a_begin, a_heightAfter, a_actionsAfter, a_entered, a_built, a_states, a_follow, a_accepting, a_need, a_labelled, a_opAtoms, a_opFirst, a_opLast, a_nodeSet, a_nodeParent, a_nodeAtom, a_nodeAction, a_nodeDepth, a_witness) (f_t, f_a, f_l, f_m, f_n, f_count, f_known, f_mode, f_wlen, f_wside, f_top, a_tok, a_len, a_str, a_wit, a_has, a_one, a_first, a_done, a_next, a_ls, a_rs, a_from, a_byAtom, a_byAction, a_depth) := R
  have no : ¬ v1 = 0 → ¬ v1 = 1 → ¬ v1 = 2 → ¬ v1 = 3 → wpY_limit (fun r' => r' = -2 ∧ i_Rel (k + 3) (f_testCount, f_actionCount, f_tokenLimit, f_occurrenceLimit, f_atomCount, f_allAtoms, f_enteredSize, f_nodeCount, f_hasResult, f_resultMode, f_resultVerdict, f_witnessSize, f_witnessOwner, a_size, a_list, a_begin, a_heightAfter, a_actionsAfter, a_entered, a_built, a_states, a_follow, a_accepting, a_need, a_labelled, a_opAtoms, a_opFirst, a_opLast, a_nodeSet, a_nodeParent, a_nodeAtom, a_nodeAction, a_nodeDepth, a_witness) (f_t, f_a, f_l, f_m, f_n, f_count, f_known, f_mode, f_wlen, f_wside, f_top, a_tok, a_len, a_str, a_wit, a_has, a_one, a_first, a_done, a_next, a_ls, a_rs, a_from, a_byAtom, a_byAction, a_depth)) (f_t, f_a, f_l, f_m, f_n, f_count, f_known, f_mode, f_wlen, f_wside, f_top, a_tok, a_len, a_str, a_wit, a_has, a_one, a_first, a_done, a_next, a_ls, a_rs, a_from, a_byAtom, a_byAction, a_depth) v1 := fun h0 h1 h2 h3 => br_f h0 (br_f h1 (br_f h2 (br_f h3 ⟨rfl, R'⟩)))
  refine br_c (fun h => no ?_ ?_ ?_ ?_) (fun h => br_c (fun g => no ?_ ?_ ?_ ?_) (fun g => br_c (fun e => ?_) (fun e0 => br_c (fun e => ?_) (fun e1 => br_c (fun e => ?_) (fun e2 => br_c (fun e => ?_) (fun e3 => trivial))))))
  · rintro rfl; exact absurd h (by decide)
  · rintro rfl; exact absurd h (by decide)
  · rintro rfl; exact absurd h (by decide)
  · rintro rfl; exact absurd h (by decide)
  · rintro rfl; exact absurd g (by decide)
  · rintro rfl; exact absurd g (by decide)
  · rintro rfl; exact absurd g (by decide)
  · rintro rfl; exact absurd g (by decide)
  · exact br_t e ⟨lim.1, R'⟩
  · exact br_f e0 (br_t e ⟨lim.2.1, R'⟩)
  · exact br_f e0 (br_f e1 (br_t e ⟨lim.2.2.1, R'⟩))
  · exact br_f e0 (br_f e1 (br_f e2 (br_t e ⟨lim.2.2.2, R'⟩)))
end
section
section
variable {T A Lm m N s : Nat} {tk : Nat → Nat → Nat} {n : Nat → Nat} {cnt : Nat} {e : Nat → Nat}
variable {f_testCount f_actionCount f_tokenLimit f_occurrenceLimit f_atomCount f_allAtoms f_enteredSize f_nodeCount f_hasResult f_resultMode f_resultVerdict f_witnessSize f_witnessOwner : Int32} {a_size a_list a_begin a_heightAfter a_actionsAfter a_entered a_built a_states a_follow a_accepting a_need a_labelled a_opAtoms a_opFirst a_opLast a_nodeSet a_nodeParent a_nodeAtom a_nodeAction a_nodeDepth a_witness : Nat → Int32}
variable {f_t f_a f_l f_m f_n f_count f_known f_mode f_wlen f_wside f_top : Int32} {a_tok a_len a_str a_wit a_has a_one a_first a_done a_next a_ls a_rs a_from a_byAtom a_byAction a_depth : Nat → Int32}
theorem x_side {post : Int32 → Prop} {u : SX} (hs : s < 2) (h : post 1) : wpX_isSide post u (nI s) := by
  unfold wpX_isSide
  dsimp only
  refine pk_eq s 0 (fun _ => h) (fun h0 => pk_eq s 1 (fun _ => h) (fun h1 => ?_))
  omega
theorem x_noside {post : Int32 → Prop} {u : SX} {v : Int32} (h0 : ¬ v = 0) (h1 : ¬ v = 1) (h : post 0) : wpX_isSide post u v := br_f h0 (br_f h1 h)
theorem s_2 {P : Nat → Prop} (h0 : P 0) (h1 : P 1) : ∀ s, s < 2 → P s := by
  intro s hs
  have : s = 0 ∨ s = 1 := by omega
  rcases this with rfl | rfl
  · exact h0
  · exact h1
theorem rt_ac (H : rl_tok T A Lm m tk n a_size a_list a_begin a_heightAfter a_actionsAfter a_tok a_len) (hm : m ≤ 8) (hs : s < 2) : tk_ac (tk s) (n s) ≤ 8 := by
  have := H.2
  revert hs
  revert s
  intro s hs
  exact s_2 (P := fun s => tk_ac (tk s) (n s) ≤ 8) (by omega) (by omega) s hs
theorem rt_yr (lim : rl_lim T A Lm m N f_testCount f_actionCount f_tokenLimit f_occurrenceLimit f_atomCount f_allAtoms f_t f_a f_l f_m f_n) (H : rl_tok T A Lm m tk n a_size a_list a_begin a_heightAfter a_actionsAfter a_tok a_len) (hs : s < 2) : yr_ok T A s (tk s) (n s) a_tok a_len := by
  obtain ⟨l1, l2, l3, l4, l5, l6, l7, _⟩ := lim
  obtain ⟨h1, h2, h3, h4, h5⟩ := H.1 s hs
  exact ⟨hs, l1, l3, by omega, h3, fun i hi => (h5 i hi).2.1, h4, rt_ac H l5 hs⟩
theorem rt_xo (lim : rl_lim T A Lm m N f_testCount f_actionCount f_tokenLimit f_occurrenceLimit f_atomCount f_allAtoms f_t f_a f_l f_m f_n) (H : rl_tok T A Lm m tk n a_size a_list a_begin a_heightAfter a_actionsAfter a_tok a_len) (hs : s < 2) : xo_ok T A s (tk s) (n s) a_list a_actionsAfter := by
  obtain ⟨l1, l2, l3, l4, l5, l6, l7, _⟩ := lim
  obtain ⟨h1, h2, h3, h4, h5⟩ := H.1 s hs
  exact ⟨hs, l1, l3, by omega, fun i hi => (h5 i hi).1, fun i hi => (h5 i hi).2.2.2.2, h4, rt_ac H l5 hs⟩
theorem x_heightOf {post : Int32 → Prop} (hL : Lm ≤ 32) (hs : s < 2) (H : rl_sd T A Lm s (tk s) (n s) a_size a_list a_begin a_heightAfter a_actionsAfter a_tok a_len) (P : post (nI (tk_hg (tk s) (n s)))) : wpX_heightOf post (f_testCount, f_actionCount, f_tokenLimit, f_occurrenceLimit, f_atomCount, f_allAtoms, f_enteredSize, f_nodeCount, f_hasResult, f_resultMode, f_resultVerdict, f_witnessSize, f_witnessOwner, a_size, a_list, a_begin, a_heightAfter, a_actionsAfter, a_entered, a_built, a_states, a_follow, a_accepting, a_need, a_labelled, a_opAtoms, a_opFirst, a_opLast, a_nodeSet, a_nodeParent, a_nodeAtom, a_nodeAction, a_nodeDepth, a_witness) (nI s) := by
  obtain ⟨h1, h2, h3, h4, h5⟩ := H
  refine ⟨vp_in_nI hs (by decide), nm_r (e' := nI (n s)) (by rw [nI_clamp (by omega)]; exact h2) ?_⟩
  refine pk_eq (n s) 0 (fun z => ?_) (fun z => ?_)
  · rw [z] at P; exact P
  · obtain ⟨q, hq⟩ : ∃ q, n s = q + 1 := ⟨n s - 1, by omega⟩
    have e2 : nI s * 32 + nI (n s) - 1 = nI (32 * s + q) := by
      rw [xi32, hq, show 32 * s + (q + 1) = 32 * s + q + 1 by omega]; exact nI_pred _
    rw [e2]
    refine ⟨vp_in_nI (by omega) (by decide), ?_⟩
    rw [nI_clamp (by omega), (h5 q (by omega)).2.2.2.1, ← hq]
    exact P
theorem x_actionsOf {post : Int32 → Prop} (hL : Lm ≤ 32) (hs : s < 2) (H : rl_sd T A Lm s (tk s) (n s) a_size a_list a_begin a_heightAfter a_actionsAfter a_tok a_len) (P : post (nI (tk_ac (tk s) (n s)))) : wpX_actionsOf post (f_testCount, f_actionCount, f_tokenLimit, f_occurrenceLimit, f_atomCount, f_allAtoms, f_enteredSize, f_nodeCount, f_hasResult, f_resultMode, f_resultVerdict, f_witnessSize, f_witnessOwner, a_size, a_list, a_begin, a_heightAfter, a_actionsAfter, a_entered, a_built, a_states, a_follow, a_accepting, a_need, a_labelled, a_opAtoms, a_opFirst, a_opLast, a_nodeSet, a_nodeParent, a_nodeAtom, a_nodeAction, a_nodeDepth, a_witness) (nI s) := by
  obtain ⟨h1, h2, h3, h4, h5⟩ := H
  refine ⟨vp_in_nI hs (by decide), nm_r (e' := nI (n s)) (by rw [nI_clamp (by omega)]; exact h2) ?_⟩
  refine pk_eq (n s) 0 (fun z => ?_) (fun z => ?_)
  · rw [z] at P; exact P
  · obtain ⟨q, hq⟩ : ∃ q, n s = q + 1 := ⟨n s - 1, by omega⟩
    have e2 : nI s * 32 + nI (n s) - 1 = nI (32 * s + q) := by
      rw [xi32, hq, show 32 * s + (q + 1) = 32 * s + q + 1 by omega]; exact nI_pred _
    rw [e2]
    refine ⟨vp_in_nI (by omega) (by decide), ?_⟩
    rw [nI_clamp (by omega), (h5 q (by omega)).2.2.2.2, ← hq]
    exact P
theorem x_edited {post : SX → Prop} (hs : s < 2) (P : post (f_testCount, f_actionCount, f_tokenLimit, f_occurrenceLimit, f_atomCount, f_allAtoms, f_enteredSize, f_nodeCount, 0, f_resultMode, f_resultVerdict, f_witnessSize, f_witnessOwner, a_size, a_list, a_begin, a_heightAfter, a_actionsAfter, a_entered, upd a_built s (b01 false), a_states, a_follow, a_accepting, a_need, a_labelled, a_opAtoms, a_opFirst, a_opLast, a_nodeSet, a_nodeParent, a_nodeAtom, a_nodeAction, a_nodeDepth, a_witness)) : wpX_edited post (f_testCount, f_actionCount, f_tokenLimit, f_occurrenceLimit, f_atomCount, f_allAtoms, f_enteredSize, f_nodeCount, f_hasResult, f_resultMode, f_resultVerdict, f_witnessSize, f_witnessOwner, a_size, a_list, a_begin, a_heightAfter, a_actionsAfter, a_entered, a_built, a_states, a_follow, a_accepting, a_need, a_labelled, a_opAtoms, a_opFirst, a_opLast, a_nodeSet, a_nodeParent, a_nodeAtom, a_nodeAction, a_nodeDepth, a_witness) (nI s) :=
  ⟨vp_in_nI hs (by decide), nm_r (e' := upd a_built s (b01 false)) (by rw [nI_clamp (by omega)]; rfl) P⟩
/-- a list is cut -/
theorem rt_cut {k : Nat} (H : rl_tok T A Lm m tk n a_size a_list a_begin a_heightAfter a_actionsAfter a_tok a_len) (hs : s < 2) (hk : k ≤ n s) :
    rl_tok T A Lm m tk (fun t => if t = s then k else n t) (upd a_size s (nI k)) a_list a_begin a_heightAfter a_actionsAfter a_tok (upd a_len s (nI k)) := by
  have mono : ∀ t, tk_ac (tk t) (if t = s then k else n t) ≤ tk_ac (tk t) (n t) := by
    intro t
    by_cases z : t = s
    · rw [if_pos z]; exact tk_ac_mono _ (by rw [z]; exact hk)
    · rw [if_neg z]; exact Nat.le_refl _
  refine ⟨fun t ht => ?_, ?_⟩
  · obtain ⟨h1, h2, h3, h4, h5⟩ := H.1 t ht
    show rl_sd T A Lm t (tk t) (if t = s then k else n t) _ a_list a_begin a_heightAfter a_actionsAfter a_tok _
    by_cases z : t = s
    · rw [if_pos z]
      subst z
      exact ⟨by omega, yu_s _ _ _, yu_s _ _ _, tk_ok_le h4 hk, fun i hi => h5 i (by omega)⟩
    · rw [if_neg z]
      exact ⟨h1, by rw [yu_n _ _ z]; exact h2, by rw [yu_n _ _ z]; exact h3, h4, h5⟩
  · have := mono 0
    have := mono 1
    have := H.2
    show tk_ac (tk 0) (if 0 = s then k else n 0) + tk_ac (tk 1) (if 1 = s then k else n 1) ≤ m
    omega
theorem rb_cut {tk' : Nat → Nat → Nat} {n' : Nat → Nat} (H : rl_blt N tk n a_built a_states a_follow a_accepting a_need a_labelled) (h : ∀ t, t ≠ s → tk' t = tk t ∧ n' t = n t) :
    rl_blt N tk' n' (upd a_built s (b01 false)) a_states a_follow a_accepting a_need a_labelled := by
  intro t ht
  by_cases z : t = s
  · exact ⟨false, by rw [z, yu_s], fun w => nomatch w⟩
  · obtain ⟨bl, b1, b2⟩ := H t ht
    obtain ⟨e1, e2⟩ := h t z
    exact ⟨bl, by rw [yu_n _ _ z]; exact b1, by rw [e1, e2]; exact b2⟩
end
theorem i_vc_back {k : Nat} {u : SX} {v : SY} (I : i_Rel k u v) (hk : k + 3 ≤ 1540) (v1 : Int32) : wpX_back (fun r u' => wpY_back (fun r' v' => r' = r ∧ i_Rel (k + 3) u' v') v v1) u v1 := by
  refine zz_el (P := fun u v => wpX_back (fun r u' => wpY_back (fun r' v' => r' = r ∧ i_Rel (k + 3) u' v') v v1) u v1) ?_ I
  intro f_testCount f_actionCount f_tokenLimit f_occurrenceLimit f_atomCount f_allAtoms f_enteredSize f_nodeCount f_hasResult f_resultMode f_resultVerdict f_witnessSize f_witnessOwner a_size a_list a_begin a_heightAfter a_actionsAfter a_entered a_built a_states a_follow a_accepting a_need a_labelled a_opAtoms a_opFirst a_opLast a_nodeSet a_nodeParent a_nodeAtom a_nodeAction a_nodeDepth a_witness f_t f_a f_l f_m f_n f_count f_known f_mode f_wlen f_wside f_top a_tok a_len a_str a_wit a_has a_one a_first a_done a_next a_ls a_rs a_from a_byAtom a_byAction a_depth R
  unfold wpX_back wpY_back
  dsimp only
  rcases sd_c v1 with ⟨s, hs, rfl⟩ | ⟨h0, h1⟩
  · have R0 := R
    obtain ⟨T, A, Lm, m, N, cnt, tk, n, e, lim, tok, blt, ent, res⟩ := R
    have sd := tok.1 s hs
    have hL := lim.2.2.2.1
    refine x_side hs (br_f (by decide) ⟨vp_in_nI hs (by decide), ?_⟩)
    rw [nI_clamp (by omega), sd.2.1]
    have yl : a_len s = nI (n s) := sd.2.2.1
    refine pk_eq (n s) 0 (fun z => y_side hs (br_t rfl ⟨vp_in_nI hs (by decide), br_t (by rw [yl, z]; rfl) ⟨rfl, R0⟩⟩)) (fun z => ?_) (hb := by omega) (ha := by have := sd.1; omega)
    have e1 : nI (n s) - 1 = nI (n s - 1) := pk_sub (b := 1) (by omega)
    refine ⟨vp_in_nI hs (by decide), vp_in_nI hs (by decide), nm_r (e' := upd a_size s (nI (n s - 1))) (by rw [e1]) (x_edited hs ?_)⟩
    refine y_side hs (br_t rfl ⟨vp_in_nI hs (by decide), br_f (by rw [yl]; exact nI_ne0 (by omega) (by have := sd.1; omega)) ⟨vp_in_nI hs (by decide), vp_in_nI hs (by decide), nm_r (e' := upd a_len s (nI (n s - 1))) (by rw [yl, e1]) ?_⟩⟩)
    exact ⟨rfl, T, A, Lm, m, N, cnt, tk, _, e, lim, rt_cut tok hs (by omega), rb_cut blt (fun t ht => ⟨rfl, if_neg ht⟩), ent, Or.inl ⟨rfl, rfl, rfl⟩⟩
  · exact x_noside h0 h1 (br_t rfl (y_noside h0 h1 (br_f (by decide) ⟨rfl, R⟩)))
theorem i_vc_clear {k : Nat} {u : SX} {v : SY} (I : i_Rel k u v) (hk : k + 3 ≤ 1540) (v1 : Int32) : wpX_clear (fun r u' => wpY_clear (fun r' v' => r' = r ∧ i_Rel (k + 3) u' v') v v1) u v1 := by
  refine zz_el (P := fun u v => wpX_clear (fun r u' => wpY_clear (fun r' v' => r' = r ∧ i_Rel (k + 3) u' v') v v1) u v1) ?_ I
  intro f_testCount f_actionCount f_tokenLimit f_occurrenceLimit f_atomCount f_allAtoms f_enteredSize f_nodeCount f_hasResult f_resultMode f_resultVerdict f_witnessSize f_witnessOwner a_size a_list a_begin a_heightAfter a_actionsAfter a_entered a_built a_states a_follow a_accepting a_need a_labelled a_opAtoms a_opFirst a_opLast a_nodeSet a_nodeParent a_nodeAtom a_nodeAction a_nodeDepth a_witness f_t f_a f_l f_m f_n f_count f_known f_mode f_wlen f_wside f_top a_tok a_len a_str a_wit a_has a_one a_first a_done a_next a_ls a_rs a_from a_byAtom a_byAction a_depth R
  unfold wpX_clear wpY_clear
  dsimp only
  rcases sd_c v1 with ⟨s, hs, rfl⟩ | ⟨h0, h1⟩
  · obtain ⟨T, A, Lm, m, N, cnt, tk, n, e, lim, tok, blt, ent, res⟩ := R
    refine x_side hs (br_f (by decide) ⟨vp_in_nI hs (by decide), nm_r (e' := upd a_size s (nI 0)) (by rw [nI_clamp (by omega)]; rfl) (x_edited hs ?_)⟩)
    refine y_side hs (br_t rfl ⟨vp_in_nI hs (by decide), nm_r (e' := upd a_len s (nI 0)) (by rw [nI_clamp (by omega)]; rfl) ?_⟩)
    exact ⟨rfl, T, A, Lm, m, N, cnt, tk, _, e, lim, rt_cut tok hs (Nat.zero_le _), rb_cut blt (fun t ht => ⟨rfl, if_neg ht⟩), ent, Or.inl ⟨rfl, rfl, rfl⟩⟩
  · exact x_noside h0 h1 (br_t rfl (y_noside h0 h1 (br_f (by decide) ⟨rfl, R⟩)))
theorem i_vc_length {k : Nat} {u : SX} {v : SY} (I : i_Rel k u v) (hk : k + 3 ≤ 1540) (v1 : Int32) : wpX_length (fun r => wpY_length (fun r' => r' = r ∧ i_Rel (k + 3) u v) v v1) u v1 := by
  refine zz_el (P := fun u v => wpX_length (fun r => wpY_length (fun r' => r' = r ∧ i_Rel (k + 3) u v) v v1) u v1) ?_ I
  intro f_testCount f_actionCount f_tokenLimit f_occurrenceLimit f_atomCount f_allAtoms f_enteredSize f_nodeCount f_hasResult f_resultMode f_resultVerdict f_witnessSize f_witnessOwner a_size a_list a_begin a_heightAfter a_actionsAfter a_entered a_built a_states a_follow a_accepting a_need a_labelled a_opAtoms a_opFirst a_opLast a_nodeSet a_nodeParent a_nodeAtom a_nodeAction a_nodeDepth a_witness f_t f_a f_l f_m f_n f_count f_known f_mode f_wlen f_wside f_top a_tok a_len a_str a_wit a_has a_one a_first a_done a_next a_ls a_rs a_from a_byAtom a_byAction a_depth R
  unfold wpX_length wpY_length
  dsimp only
  rcases sd_c v1 with ⟨s, hs, rfl⟩ | ⟨h0, h1⟩
  · have R0 := R
    obtain ⟨T, A, Lm, m, N, cnt, tk, n, e, lim, tok, blt, ent, res⟩ := R
    have sd := tok.1 s hs
    refine x_side hs (br_f (by decide) ⟨vp_in_nI hs (by decide), y_side hs (br_t rfl ⟨vp_in_nI hs (by decide), ?_, R0⟩)⟩)
    rw [nI_clamp (by omega), sd.2.1, sd.2.2.1]
  · exact x_noside h0 h1 (br_t rfl (y_noside h0 h1 (br_f (by decide) ⟨rfl, R⟩)))
theorem i_vc_token {k : Nat} {u : SX} {v : SY} (I : i_Rel k u v) (hk : k + 3 ≤ 1540) (v1 : Int32) (v2 : Int32) : wpX_token (fun r => wpY_token (fun r' => r' = r ∧ i_Rel (k + 3) u v) v v1 v2) u v1 v2 := by
  refine zz_el (P := fun u v => wpX_token (fun r => wpY_token (fun r' => r' = r ∧ i_Rel (k + 3) u v) v v1 v2) u v1 v2) ?_ I
  intro f_testCount f_actionCount f_tokenLimit f_occurrenceLimit f_atomCount f_allAtoms f_enteredSize f_nodeCount f_hasResult f_resultMode f_resultVerdict f_witnessSize f_witnessOwner a_size a_list a_begin a_heightAfter a_actionsAfter a_entered a_built a_states a_follow a_accepting a_need a_labelled a_opAtoms a_opFirst a_opLast a_nodeSet a_nodeParent a_nodeAtom a_nodeAction a_nodeDepth a_witness f_t f_a f_l f_m f_n f_count f_known f_mode f_wlen f_wside f_top a_tok a_len a_str a_wit a_has a_one a_first a_done a_next a_ls a_rs a_from a_byAtom a_byAction a_depth R
  unfold wpX_token wpY_token
  dsimp only
  rcases sd_c v1 with ⟨s, hs, rfl⟩ | ⟨h0, h1⟩
  · have R0 := R
    obtain ⟨T, A, Lm, m, N, cnt, tk, n, e, lim, tok, blt, ent, res⟩ := R
    have sd := tok.1 s hs
    have hn : n s ≤ 32 := Nat.le_trans sd.1 lim.2.2.2.1
    have xl : a_size (nI s).toNatClampNeg = nI (n s) := by rw [nI_clamp (by omega)]; exact sd.2.1
    have yl : a_len (nI s).toNatClampNeg = nI (n s) := by rw [nI_clamp (by omega)]; exact sd.2.2.1
    refine x_side hs (br_f (by decide) (br_c (fun h => y_side hs (br_t rfl (br_t h ⟨rfl, R0⟩))) (fun h => ⟨vp_in_nI hs (by decide), ?_⟩)))
    obtain ⟨j, hj, rfl⟩ := nI_of h
    rw [xl]
    refine pk_lt j (n s) (fun w => ?_) (fun w => y_side hs (br_t rfl (br_f h ⟨vp_in_nI hs (by decide), ?_⟩)))
    · rw [xi32]
      refine ⟨vp_in_nI (by omega) (by decide), y_side hs (br_t rfl (br_f h ⟨vp_in_nI hs (by decide), ?_⟩))⟩
      rw [yl]
      refine br_t (nI_lt w (by omega)) ?_
      have e2 : (32 : Int32) * nI s + nI j = nI (32 * s + j) := by
        show nI 32 * nI s + nI j = _
        rw [pk_mul, nI_add]
      rw [e2]
      refine ⟨vp_in_nI (by omega) (by decide), ?_, R0⟩
      rw [nI_clamp (by omega), (sd.2.2.2.2 j w).1, (sd.2.2.2.2 j w).2.1]
    · rw [yl]
      exact br_f (nI_nlt w hj) ⟨rfl, R0⟩
  · exact x_noside h0 h1 (br_t rfl (y_noside h0 h1 (br_f (by decide) ⟨rfl, R⟩)))
theorem i_vc_height {k : Nat} {u : SX} {v : SY} (I : i_Rel k u v) (hk : k + 3 ≤ 1540) (v1 : Int32) : wpX_height (fun r => wpY_height (fun r' v' => r' = r ∧ i_Rel (k + 3) u v') v v1) u v1 := by
  refine zz_el (P := fun u v => wpX_height (fun r => wpY_height (fun r' v' => r' = r ∧ i_Rel (k + 3) u v') v v1) u v1) ?_ I
  intro f_testCount f_actionCount f_tokenLimit f_occurrenceLimit f_atomCount f_allAtoms f_enteredSize f_nodeCount f_hasResult f_resultMode f_resultVerdict f_witnessSize f_witnessOwner a_size a_list a_begin a_heightAfter a_actionsAfter a_entered a_built a_states a_follow a_accepting a_need a_labelled a_opAtoms a_opFirst a_opLast a_nodeSet a_nodeParent a_nodeAtom a_nodeAction a_nodeDepth a_witness f_t f_a f_l f_m f_n f_count f_known f_mode f_wlen f_wside f_top a_tok a_len a_str a_wit a_has a_one a_first a_done a_next a_ls a_rs a_from a_byAtom a_byAction a_depth R
  unfold wpX_height
  dsimp only
  rcases sd_c v1 with ⟨s, hs, rfl⟩ | ⟨h0, h1⟩
  · obtain ⟨T, A, Lm, m, N, cnt, tk, n, e, lim, tok, blt, ent, res⟩ := R
    refine x_side hs (br_f (by decide) (x_heightOf lim.2.2.2.1 hs (tok.1 s hs) (y_height (rt_yr lim tok hs) (fun h o f d t _ => ⟨rfl, T, A, Lm, m, N, cnt, tk, n, e, lim, tok, blt, ent, res⟩))))
  · unfold wpY_height
    exact x_noside h0 h1 (br_t rfl (y_noside h0 h1 (br_f (by decide) ⟨rfl, R⟩)))
theorem i_vc_occurrences {k : Nat} {u : SX} {v : SY} (I : i_Rel k u v) (hk : k + 3 ≤ 1540) (v1 : Int32) : wpX_occurrences (fun r => wpY_occurrences (fun r' => r' = r ∧ i_Rel (k + 3) u v) v v1) u v1 := by
  refine zz_el (P := fun u v => wpX_occurrences (fun r => wpY_occurrences (fun r' => r' = r ∧ i_Rel (k + 3) u v) v v1) u v1) ?_ I
  intro f_testCount f_actionCount f_tokenLimit f_occurrenceLimit f_atomCount f_allAtoms f_enteredSize f_nodeCount f_hasResult f_resultMode f_resultVerdict f_witnessSize f_witnessOwner a_size a_list a_begin a_heightAfter a_actionsAfter a_entered a_built a_states a_follow a_accepting a_need a_labelled a_opAtoms a_opFirst a_opLast a_nodeSet a_nodeParent a_nodeAtom a_nodeAction a_nodeDepth a_witness f_t f_a f_l f_m f_n f_count f_known f_mode f_wlen f_wside f_top a_tok a_len a_str a_wit a_has a_one a_first a_done a_next a_ls a_rs a_from a_byAtom a_byAction a_depth R
  unfold wpX_occurrences wpY_occurrences
  dsimp only
  rcases sd_c v1 with ⟨s, hs, rfl⟩ | ⟨h0, h1⟩
  · have R0 := R
    obtain ⟨T, A, Lm, m, N, cnt, tk, n, e, lim, tok, blt, ent, res⟩ := R
    exact x_side hs (br_f (by decide) (x_actionsOf lim.2.2.2.1 hs (tok.1 s hs) (y_occ (rt_yr lim tok hs) ⟨rfl, R0⟩)))
  · exact x_noside h0 h1 (br_t rfl (y_noside h0 h1 (br_f (by decide) ⟨rfl, R⟩)))
end
section
theorem en_le {N A cnt k : Nat} {e : Nat → Nat} {a : Nat → Int32} (h : en_ok N A cnt e a) (hk : k ≤ cnt) : en_ok N A k e a := ⟨by have := h.1; omega, fun i hi => h.2 i (by omega)⟩
theorem en_add {N A cnt j : Nat} {e : Nat → Nat} {a : Nat → Int32} (h : en_ok N A cnt e a) (hc : cnt < 17) (hj : j < (if cnt % 2 = 0 then N else A)) : en_ok N A (cnt + 1) (fun i => if i = cnt then j else e i) (upd a cnt (nI j)) := by
  refine ⟨by omega, fun i hi => ?_⟩
  show upd a cnt (nI j) i = nI (if i = cnt then j else e i) ∧ (if i = cnt then j else e i) < _
  by_cases z : i = cnt
  · rw [if_pos z, z, yu_s]; exact ⟨rfl, hj⟩
  · rw [if_neg z, yu_n _ _ z]; exact h.2 i (by omega)
theorem i_vc_feed {k : Nat} {u : SX} {v : SY} (I : i_Rel k u v) (hk : k + 3 ≤ 1540) (v1 : Int32) : wpX_feed (fun r u' => wpY_feed (fun r' v' => r' = r ∧ i_Rel (k + 3) u' v') v v1) u v1 := by
  refine zz_el (P := fun u v => wpX_feed (fun r u' => wpY_feed (fun r' v' => r' = r ∧ i_Rel (k + 3) u' v') v v1) u v1) ?_ I
  intro f_testCount f_actionCount f_tokenLimit f_occurrenceLimit f_atomCount f_allAtoms f_enteredSize f_nodeCount f_hasResult f_resultMode f_resultVerdict f_witnessSize f_witnessOwner a_size a_list a_begin a_heightAfter a_actionsAfter a_entered a_built a_states a_follow a_accepting a_need a_labelled a_opAtoms a_opFirst a_opLast a_nodeSet a_nodeParent a_nodeAtom a_nodeAction a_nodeDepth a_witness f_t f_a f_l f_m f_n f_count f_known f_mode f_wlen f_wside f_top a_tok a_len a_str a_wit a_has a_one a_first a_done a_next a_ls a_rs a_from a_byAtom a_byAction a_depth R
  have R0 := R
  obtain ⟨T, A, Lm, m, N, cnt, tk, n, e, lim, tok, blt, ⟨rfl, rfl, en1, en2⟩, res⟩ := R
  unfold wpX_feed wpY_feed
  dsimp only
  have hcnt := en1.1
  have er : nI cnt - nI cnt / 2 * 2 = nI (cnt % 2) := pk_rem (d := 2) (by omega) (by omega) (by omega)
  have ea : nI cnt &&& 1 = nI (cnt % 2) := pk_andN (by omega) 1 (by decide)
  rw [er, ea]
  obtain ⟨l1, l2, l3, l4, l5, l6, l7, g1, g2, g3, g4, g5, g6, g7, g8, g9, g10, g11⟩ := lim
  refine pk_lt cnt 17 (fun h17 => ?_) (fun h17 => br_f (nI_nlt (b := 17) h17 (by omega)) ⟨rfl, R0⟩)
  have fin : ∀ B zX zY, B = (if cnt % 2 = 0 then N else A) → zX = nI B → zY = nI B → wX_feed_32 (fun r u' => (nI cnt < 17 → ¬ (2 : Int32) = 0 ∧ (nI (cnt % 2) = 0 → wY_feed_32 (fun r' v' => r' = r ∧ i_Rel (k + 3) u' v') v1 f_n f_t f_a f_l f_m f_n (nI cnt) f_known f_mode f_wlen f_wside f_top a_tok a_len a_str a_wit a_has a_one a_first a_done a_next a_ls a_rs a_from a_byAtom a_byAction a_depth) ∧ (¬ nI (cnt % 2) = 0 → wY_feed_32 (fun r' v' => r' = r ∧ i_Rel (k + 3) u' v') v1 f_a f_t f_a f_l f_m f_n (nI cnt) f_known f_mode f_wlen f_wside f_top a_tok a_len a_str a_wit a_has a_one a_first a_done a_next a_ls a_rs a_from a_byAtom a_byAction a_depth)) ∧ (¬ nI cnt < 17 → (-3 = r ∧ i_Rel (k + 3) u' (f_t, f_a, f_l, f_m, f_n, nI cnt, f_known, f_mode, f_wlen, f_wside, f_top, a_tok, a_len, a_str, a_wit, a_has, a_one, a_first, a_done, a_next, a_ls, a_rs, a_from, a_byAtom, a_byAction, a_depth)))) v1 zX f_testCount f_actionCount f_tokenLimit f_occurrenceLimit f_atomCount f_allAtoms (nI cnt) f_nodeCount f_hasResult f_resultMode f_resultVerdict f_witnessSize f_witnessOwner a_size a_list a_begin a_heightAfter a_actionsAfter a_entered a_built a_states a_follow a_accepting a_need a_labelled a_opAtoms a_opFirst a_opLast a_nodeSet a_nodeParent a_nodeAtom a_nodeAction a_nodeDepth a_witness := by
    intro B zX zY hB hX hY
    have hB4 : B ≤ 4 := by rw [hB]; split <;> omega
    have y32 : ∀ {r : Int32} {u' : SX}, wY_feed_32 (fun r' v' => r' = r ∧ i_Rel (k + 3) u' v') v1 (nI B) f_t f_a f_l f_m f_n (nI cnt) f_known f_mode f_wlen f_wside f_top a_tok a_len a_str a_wit a_has a_one a_first a_done a_next a_ls a_rs a_from a_byAtom a_byAction a_depth → (nI cnt < 17 → ¬ (2 : Int32) = 0 ∧ (nI (cnt % 2) = 0 → wY_feed_32 (fun r' v' => r' = r ∧ i_Rel (k + 3) u' v') v1 f_n f_t f_a f_l f_m f_n (nI cnt) f_known f_mode f_wlen f_wside f_top a_tok a_len a_str a_wit a_has a_one a_first a_done a_next a_ls a_rs a_from a_byAtom a_byAction a_depth) ∧ (¬ nI (cnt % 2) = 0 → wY_feed_32 (fun r' v' => r' = r ∧ i_Rel (k + 3) u' v') v1 f_a f_t f_a f_l f_m f_n (nI cnt) f_known f_mode f_wlen f_wside f_top a_tok a_len a_str a_wit a_has a_one a_first a_done a_next a_ls a_rs a_from a_byAtom a_byAction a_depth)) ∧ (¬ nI cnt < 17 → (-3 = r ∧ i_Rel (k + 3) u' (f_t, f_a, f_l, f_m, f_n, nI cnt, f_known, f_mode, f_wlen, f_wside, f_top, a_tok, a_len, a_str, a_wit, a_has, a_one, a_first, a_done, a_next, a_ls, a_rs, a_from, a_byAtom, a_byAction, a_depth))) := by
      intro r u' h
      refine br_t (nI_lt (b := 17) h17 (by decide)) ⟨by decide, ?_⟩
      refine pk_eq (cnt % 2) 0 (fun z => ?_) (fun z => ?_)
      · rw [hB, if_pos z, ← g11] at h; exact h
      · rw [hB, if_neg z, ← g8] at h; exact h
    rw [hX]
    unfold wX_feed_32
    refine br_c (fun h => y32 (br_t h ⟨rfl, R0⟩)) (fun h => ?_)
    obtain ⟨j, hj, rfl⟩ := nI_of h
    refine pk_lt j B (fun w => ⟨vp_in_nI (by omega) (by decide), nm_r (e' := upd a_entered cnt (nI j)) (by rw [nI_clamp (by omega)]) (nm_r (nI_1 cnt) (y32 ?_))⟩) (fun w => y32 ?_)
    · unfold wY_feed_32
      refine br_f h (br_t (nI_lt w (by omega)) ⟨vp_in_nI (by omega) (by decide), nm_r (e' := upd a_str cnt (nI j)) (by rw [nI_clamp (by omega)]) (nm_r (nI_1 cnt) ⟨rfl, ?_⟩)⟩)
      exact ⟨T, A, Lm, m, N, cnt + 1, tk, n, _, ⟨l1, l2, l3, l4, l5, l6, l7, g1, g2, g3, g4, g5, g6, g7, g8, g9, g10, g11⟩, tok, blt, ⟨rfl, rfl, en_add en1 h17 (by rw [← hB]; exact w), en_add en2 h17 (by rw [← hB]; exact w)⟩, res⟩
    · unfold wY_feed_32
      exact br_f h (br_f (nI_nlt w hj) ⟨rfl, R0⟩)
  refine pk_eq (cnt % 2) 0 (fun z => ?_) (fun z => ?_)
  · exact fin N _ _ (by rw [if_pos z]) g5 rfl
  · exact fin A _ _ (by rw [if_neg z]) g2 rfl
theorem i_vc_unfeed {k : Nat} {u : SX} {v : SY} (I : i_Rel k u v) (hk : k + 3 ≤ 1540) : wpX_unfeed (fun r u' => wpY_unfeed (fun r' v' => r' = r ∧ i_Rel (k + 3) u' v') v) u := by
  refine zz_el (P := fun u v => wpX_unfeed (fun r u' => wpY_unfeed (fun r' v' => r' = r ∧ i_Rel (k + 3) u' v') v) u) ?_ I
  intro f_testCount f_actionCount f_tokenLimit f_occurrenceLimit f_atomCount f_allAtoms f_enteredSize f_nodeCount f_hasResult f_resultMode f_resultVerdict f_witnessSize f_witnessOwner a_size a_list a_begin a_heightAfter a_actionsAfter a_entered a_built a_states a_follow a_accepting a_need a_labelled a_opAtoms a_opFirst a_opLast a_nodeSet a_nodeParent a_nodeAtom a_nodeAction a_nodeDepth a_witness f_t f_a f_l f_m f_n f_count f_known f_mode f_wlen f_wside f_top a_tok a_len a_str a_wit a_has a_one a_first a_done a_next a_ls a_rs a_from a_byAtom a_byAction a_depth R
  have R0 := R
  obtain ⟨T, A, Lm, m, N, cnt, tk, n, e, lim, tok, blt, ⟨rfl, rfl, en1, en2⟩, res⟩ := R
  unfold wpX_unfeed wpY_unfeed
  dsimp only
  have hcnt := en1.1
  refine pk_eq cnt 0 (fun z => br_t (by rw [z]; rfl) ⟨rfl, R0⟩) (fun z => ?_)
  have em : nI cnt - 1 = nI (cnt - 1) := pk_sub (b := 1) (by omega)
  refine nm_r em (br_f (nI_ne0 (by omega) (by omega)) (nm_r em ⟨rfl, ?_⟩))
  exact ⟨T, A, Lm, m, N, cnt - 1, tk, n, e, lim, tok, blt, ⟨rfl, rfl, en_le en1 (by omega), en_le en2 (by omega)⟩, res⟩
theorem i_vc_clearString {k : Nat} {u : SX} {v : SY} (I : i_Rel k u v) (hk : k + 3 ≤ 1540) : wpX_clearString (fun u' => wpY_clearString (fun v' => i_Rel (k + 3) u' v') v) u := by
  refine zz_el (P := fun u v => wpX_clearString (fun u' => wpY_clearString (fun v' => i_Rel (k + 3) u' v') v) u) ?_ I
  intro f_testCount f_actionCount f_tokenLimit f_occurrenceLimit f_atomCount f_allAtoms f_enteredSize f_nodeCount f_hasResult f_resultMode f_resultVerdict f_witnessSize f_witnessOwner a_size a_list a_begin a_heightAfter a_actionsAfter a_entered a_built a_states a_follow a_accepting a_need a_labelled a_opAtoms a_opFirst a_opLast a_nodeSet a_nodeParent a_nodeAtom a_nodeAction a_nodeDepth a_witness f_t f_a f_l f_m f_n f_count f_known f_mode f_wlen f_wside f_top a_tok a_len a_str a_wit a_has a_one a_first a_done a_next a_ls a_rs a_from a_byAtom a_byAction a_depth R
  obtain ⟨T, A, Lm, m, N, cnt, tk, n, e, lim, tok, blt, ⟨h1, h2, en1, en2⟩, res⟩ := R
  exact ⟨T, A, Lm, m, N, 0, tk, n, e, lim, tok, blt, ⟨rfl, rfl, en_le en1 (Nat.zero_le _), en_le en2 (Nat.zero_le _)⟩, res⟩
theorem i_vc_letters {k : Nat} {u : SX} {v : SY} (I : i_Rel k u v) (hk : k + 3 ≤ 1540) : wpX_letters (fun r => wpY_letters (fun r' => r' = r ∧ i_Rel (k + 3) u v) v) u := by
  refine zz_el (P := fun u v => wpX_letters (fun r => wpY_letters (fun r' => r' = r ∧ i_Rel (k + 3) u v) v) u) ?_ I
  intro f_testCount f_actionCount f_tokenLimit f_occurrenceLimit f_atomCount f_allAtoms f_enteredSize f_nodeCount f_hasResult f_resultMode f_resultVerdict f_witnessSize f_witnessOwner a_size a_list a_begin a_heightAfter a_actionsAfter a_entered a_built a_states a_follow a_accepting a_need a_labelled a_opAtoms a_opFirst a_opLast a_nodeSet a_nodeParent a_nodeAtom a_nodeAction a_nodeDepth a_witness f_t f_a f_l f_m f_n f_count f_known f_mode f_wlen f_wside f_top a_tok a_len a_str a_wit a_has a_one a_first a_done a_next a_ls a_rs a_from a_byAtom a_byAction a_depth R
  have R0 := R
  obtain ⟨T, A, Lm, m, N, cnt, tk, n, e, lim, tok, blt, ⟨h1, h2, en1, en2⟩, res⟩ := R
  exact ⟨h2.trans h1.symm, R0⟩
theorem i_vc_letter {k : Nat} {u : SX} {v : SY} (I : i_Rel k u v) (hk : k + 3 ≤ 1540) (v1 : Int32) : wpX_letter (fun r => wpY_letter (fun r' => r' = r ∧ i_Rel (k + 3) u v) v v1) u v1 := by
  refine zz_el (P := fun u v => wpX_letter (fun r => wpY_letter (fun r' => r' = r ∧ i_Rel (k + 3) u v) v v1) u v1) ?_ I
  intro f_testCount f_actionCount f_tokenLimit f_occurrenceLimit f_atomCount f_allAtoms f_enteredSize f_nodeCount f_hasResult f_resultMode f_resultVerdict f_witnessSize f_witnessOwner a_size a_list a_begin a_heightAfter a_actionsAfter a_entered a_built a_states a_follow a_accepting a_need a_labelled a_opAtoms a_opFirst a_opLast a_nodeSet a_nodeParent a_nodeAtom a_nodeAction a_nodeDepth a_witness f_t f_a f_l f_m f_n f_count f_known f_mode f_wlen f_wside f_top a_tok a_len a_str a_wit a_has a_one a_first a_done a_next a_ls a_rs a_from a_byAtom a_byAction a_depth R
  have R0 := R
  obtain ⟨T, A, Lm, m, N, cnt, tk, n, e, lim, tok, blt, ⟨rfl, rfl, en1, en2⟩, res⟩ := R
  unfold wpX_letter wpY_letter
  dsimp only
  have hcnt := en1.1
  refine br_c (fun h => br_t h ⟨rfl, R0⟩) (fun h => ?_)
  obtain ⟨j, hj, rfl⟩ := nI_of h
  refine pk_lt j cnt (fun w => ⟨vp_in_nI (by omega) (by decide), br_f h (br_t (nI_lt w (by omega)) ⟨vp_in_nI (by omega) (by decide), ?_, R0⟩)⟩) (fun w => br_f h (br_f (nI_nlt w hj) ⟨rfl, R0⟩))
  rw [nI_clamp hj, (en1.2 j w).1, (en2.2 j w).1]
theorem i_vc_verdict {k : Nat} {u : SX} {v : SY} (I : i_Rel k u v) (hk : k + 3 ≤ 1540) : wpX_verdict (fun r => wpY_verdict (fun r' => r' = r ∧ i_Rel (k + 3) u v) v) u := by
  refine zz_el (P := fun u v => wpX_verdict (fun r => wpY_verdict (fun r' => r' = r ∧ i_Rel (k + 3) u v) v) u) ?_ I
  intro f_testCount f_actionCount f_tokenLimit f_occurrenceLimit f_atomCount f_allAtoms f_enteredSize f_nodeCount f_hasResult f_resultMode f_resultVerdict f_witnessSize f_witnessOwner a_size a_list a_begin a_heightAfter a_actionsAfter a_entered a_built a_states a_follow a_accepting a_need a_labelled a_opAtoms a_opFirst a_opLast a_nodeSet a_nodeParent a_nodeAtom a_nodeAction a_nodeDepth a_witness f_t f_a f_l f_m f_n f_count f_known f_mode f_wlen f_wside f_top a_tok a_len a_str a_wit a_has a_one a_first a_done a_next a_ls a_rs a_from a_byAtom a_byAction a_depth R
  have R0 := R
  obtain ⟨T, A, Lm, m, N, cnt, tk, n, e, lim, tok, blt, ent, res⟩ := R
  unfold wpX_verdict wpY_verdict
  dsimp only
  rcases res with ⟨rfl, rfl, rfl⟩ | ⟨rfl, rfl, h3, ⟨rfl, rfl⟩ | ⟨rfl, h4, d, w, hd, h5, rfl, h7⟩⟩
  · exact br_t rfl (br_t rfl ⟨rfl, R0⟩)
  · exact br_f (by decide) (br_f (by decide) (br_t (by decide) ⟨rfl, R0⟩))
  · exact br_f (by decide) (br_f (by decide) (br_f (nI_nle (by omega) (by omega)) ⟨rfl, R0⟩))
theorem i_vc_comparedBy {k : Nat} {u : SX} {v : SY} (I : i_Rel k u v) (hk : k + 3 ≤ 1540) : wpX_comparedBy (fun r => wpY_comparedBy (fun r' => r' = r ∧ i_Rel (k + 3) u v) v) u := by
  refine zz_el (P := fun u v => wpX_comparedBy (fun r => wpY_comparedBy (fun r' => r' = r ∧ i_Rel (k + 3) u v) v) u) ?_ I
  intro f_testCount f_actionCount f_tokenLimit f_occurrenceLimit f_atomCount f_allAtoms f_enteredSize f_nodeCount f_hasResult f_resultMode f_resultVerdict f_witnessSize f_witnessOwner a_size a_list a_begin a_heightAfter a_actionsAfter a_entered a_built a_states a_follow a_accepting a_need a_labelled a_opAtoms a_opFirst a_opLast a_nodeSet a_nodeParent a_nodeAtom a_nodeAction a_nodeDepth a_witness f_t f_a f_l f_m f_n f_count f_known f_mode f_wlen f_wside f_top a_tok a_len a_str a_wit a_has a_one a_first a_done a_next a_ls a_rs a_from a_byAtom a_byAction a_depth R
  have R0 := R
  obtain ⟨T, A, Lm, m, N, cnt, tk, n, e, lim, tok, blt, ent, res⟩ := R
  unfold wpX_comparedBy wpY_comparedBy
  dsimp only
  rcases res with ⟨rfl, rfl, rfl⟩ | ⟨rfl, rfl, h3, _⟩
  · exact br_t rfl (br_t rfl ⟨rfl, R0⟩)
  · exact br_f (by decide) (br_f (by decide) ⟨h3.symm, R0⟩)
theorem i_vc_witnessLetters {k : Nat} {u : SX} {v : SY} (I : i_Rel k u v) (hk : k + 3 ≤ 1540) : wpX_witnessLetters (fun r => wpY_witnessLetters (fun r' => r' = r ∧ i_Rel (k + 3) u v) v) u := by
  refine zz_el (P := fun u v => wpX_witnessLetters (fun r => wpY_witnessLetters (fun r' => r' = r ∧ i_Rel (k + 3) u v) v) u) ?_ I
  intro f_testCount f_actionCount f_tokenLimit f_occurrenceLimit f_atomCount f_allAtoms f_enteredSize f_nodeCount f_hasResult f_resultMode f_resultVerdict f_witnessSize f_witnessOwner a_size a_list a_begin a_heightAfter a_actionsAfter a_entered a_built a_states a_follow a_accepting a_need a_labelled a_opAtoms a_opFirst a_opLast a_nodeSet a_nodeParent a_nodeAtom a_nodeAction a_nodeDepth a_witness f_t f_a f_l f_m f_n f_count f_known f_mode f_wlen f_wside f_top a_tok a_len a_str a_wit a_has a_one a_first a_done a_next a_ls a_rs a_from a_byAtom a_byAction a_depth R
  have R0 := R
  obtain ⟨T, A, Lm, m, N, cnt, tk, n, e, lim, tok, blt, ent, res⟩ := R
  unfold wpX_witnessLetters wpY_witnessLetters wpX_hasWitness
  dsimp only
  rcases res with ⟨rfl, rfl, rfl⟩ | ⟨rfl, rfl, h3, ⟨rfl, rfl⟩ | ⟨rfl, h4, d, w, hd, h5, h6, h7⟩⟩
  · exact br_t rfl (br_t rfl ⟨rfl, R0⟩)
  · exact br_f (by decide) (br_f (by decide) (br_t rfl ⟨rfl, R0⟩))
  · exact br_f (by decide) (br_t rfl (br_f (by decide) ⟨h6.trans h5.symm, R0⟩))
theorem i_vc_witnessLetter {k : Nat} {u : SX} {v : SY} (I : i_Rel k u v) (hk : k + 3 ≤ 1540) (v1 : Int32) : wpX_witnessLetter (fun r => wpY_witnessLetter (fun r' => r' = r ∧ i_Rel (k + 3) u v) v v1) u v1 := by
  refine zz_el (P := fun u v => wpX_witnessLetter (fun r => wpY_witnessLetter (fun r' => r' = r ∧ i_Rel (k + 3) u v) v v1) u v1) ?_ I
  intro f_testCount f_actionCount f_tokenLimit f_occurrenceLimit f_atomCount f_allAtoms f_enteredSize f_nodeCount f_hasResult f_resultMode f_resultVerdict f_witnessSize f_witnessOwner a_size a_list a_begin a_heightAfter a_actionsAfter a_entered a_built a_states a_follow a_accepting a_need a_labelled a_opAtoms a_opFirst a_opLast a_nodeSet a_nodeParent a_nodeAtom a_nodeAction a_nodeDepth a_witness f_t f_a f_l f_m f_n f_count f_known f_mode f_wlen f_wside f_top a_tok a_len a_str a_wit a_has a_one a_first a_done a_next a_ls a_rs a_from a_byAtom a_byAction a_depth R
  have R0 := R
  obtain ⟨T, A, Lm, m, N, cnt, tk, n, e, lim, tok, blt, ent, res⟩ := R
  unfold wpX_witnessLetter wpY_witnessLetter wpX_hasWitness
  dsimp only
  have no : f_wlen = 0 → (v1 < 0 → -12 = (-12 : Int32) ∧ i_Rel (k + 3) (f_testCount, f_actionCount, f_tokenLimit, f_occurrenceLimit, f_atomCount, f_allAtoms, f_enteredSize, f_nodeCount, f_hasResult, f_resultMode, f_resultVerdict, f_witnessSize, f_witnessOwner, a_size, a_list, a_begin, a_heightAfter, a_actionsAfter, a_entered, a_built, a_states, a_follow, a_accepting, a_need, a_labelled, a_opAtoms, a_opFirst, a_opLast, a_nodeSet, a_nodeParent, a_nodeAtom, a_nodeAction, a_nodeDepth, a_witness) (f_t, f_a, f_l, f_m, f_n, f_count, f_known, f_mode, f_wlen, f_wside, f_top, a_tok, a_len, a_str, a_wit, a_has, a_one, a_first, a_done, a_next, a_ls, a_rs, a_from, a_byAtom, a_byAction, a_depth)) ∧ (¬ v1 < 0 → (v1 < f_wlen → vp_in v1 601 ∧ a_wit v1.toNatClampNeg = -12 ∧ i_Rel (k + 3) (f_testCount, f_actionCount, f_tokenLimit, f_occurrenceLimit, f_atomCount, f_allAtoms, f_enteredSize, f_nodeCount, f_hasResult, f_resultMode, f_resultVerdict, f_witnessSize, f_witnessOwner, a_size, a_list, a_begin, a_heightAfter, a_actionsAfter, a_entered, a_built, a_states, a_follow, a_accepting, a_need, a_labelled, a_opAtoms, a_opFirst, a_opLast, a_nodeSet, a_nodeParent, a_nodeAtom, a_nodeAction, a_nodeDepth, a_witness) (f_t, f_a, f_l, f_m, f_n, f_count, f_known, f_mode, f_wlen, f_wside, f_top, a_tok, a_len, a_str, a_wit, a_has, a_one, a_first, a_done, a_next, a_ls, a_rs, a_from, a_byAtom, a_byAction, a_depth)) ∧ (¬ v1 < f_wlen → -12 = (-12 : Int32) ∧ i_Rel (k + 3) (f_testCount, f_actionCount, f_tokenLimit, f_occurrenceLimit, f_atomCount, f_allAtoms, f_enteredSize, f_nodeCount, f_hasResult, f_resultMode, f_resultVerdict, f_witnessSize, f_witnessOwner, a_size, a_list, a_begin, a_heightAfter, a_actionsAfter, a_entered, a_built, a_states, a_follow, a_accepting, a_need, a_labelled, a_opAtoms, a_opFirst, a_opLast, a_nodeSet, a_nodeParent, a_nodeAtom, a_nodeAction, a_nodeDepth, a_witness) (f_t, f_a, f_l, f_m, f_n, f_count, f_known, f_mode, f_wlen, f_wside, f_top, a_tok, a_len, a_str, a_wit, a_has, a_one, a_first, a_done, a_next, a_ls, a_rs, a_from, a_byAtom, a_byAction, a_depth))) := by
    intro z
    refine br_c (fun _ => ⟨rfl, R0⟩) (fun h => br_f (by rw [z]; exact h) ⟨rfl, R0⟩)
  rcases res with ⟨rfl, rfl, rfl⟩ | ⟨rfl, rfl, h3, ⟨rfl, rfl⟩ | ⟨rfl, h4, d, w, hd, rfl, rfl, h7⟩⟩
  · exact br_t rfl (br_t rfl (no rfl))
  · exact br_f (by decide) (br_f (by decide) (br_t rfl (no rfl)))
  · refine br_f (by decide) (br_t rfl (br_f (by decide) (br_c (fun h => br_t h ⟨rfl, R0⟩) (fun h => ?_))))
    obtain ⟨j, hj, rfl⟩ := nI_of h
    refine pk_lt j (2 * d + 1) (fun z => ⟨vp_in_nI (by omega) (by decide), br_f h (br_t (nI_lt z (by omega)) ⟨vp_in_nI (by omega) (by decide), ?_, R0⟩)⟩) (fun z => br_f h (br_f (nI_nlt z hj) ⟨rfl, R0⟩))
    rw [nI_clamp hj, (h7 j z).1, (h7 j z).2.1]
theorem i_vc_witnessSide {k : Nat} {u : SX} {v : SY} (I : i_Rel k u v) (hk : k + 3 ≤ 1540) : wpX_witnessSide (fun r => wpY_witnessSide (fun r' => r' = r ∧ i_Rel (k + 3) u v) v) u := by
  refine zz_el (P := fun u v => wpX_witnessSide (fun r => wpY_witnessSide (fun r' => r' = r ∧ i_Rel (k + 3) u v) v) u) ?_ I
  intro f_testCount f_actionCount f_tokenLimit f_occurrenceLimit f_atomCount f_allAtoms f_enteredSize f_nodeCount f_hasResult f_resultMode f_resultVerdict f_witnessSize f_witnessOwner a_size a_list a_begin a_heightAfter a_actionsAfter a_entered a_built a_states a_follow a_accepting a_need a_labelled a_opAtoms a_opFirst a_opLast a_nodeSet a_nodeParent a_nodeAtom a_nodeAction a_nodeDepth a_witness f_t f_a f_l f_m f_n f_count f_known f_mode f_wlen f_wside f_top a_tok a_len a_str a_wit a_has a_one a_first a_done a_next a_ls a_rs a_from a_byAtom a_byAction a_depth R
  have R0 := R
  obtain ⟨T, A, Lm, m, N, cnt, tk, n, e, lim, tok, blt, ent, res⟩ := R
  unfold wpX_witnessSide wpY_witnessSide wpX_hasWitness
  dsimp only
  rcases res with ⟨rfl, rfl, rfl⟩ | ⟨rfl, rfl, h3, ⟨rfl, rfl⟩ | ⟨rfl, h4, d, w, hd, h5, rfl, h7⟩⟩
  · exact br_t rfl (br_t rfl (br_t (by decide) ⟨rfl, R0⟩))
  · exact br_f (by decide) (br_f (by decide) (br_t rfl (br_t (by decide) ⟨rfl, R0⟩)))
  · exact br_f (by decide) (br_t rfl (br_f (by decide) (br_f (nI_nle (by omega) (by omega)) ⟨h4.symm, R0⟩)))
section
variable {d : Nat} {w : Nat → Nat}
variable {f_testCount f_actionCount f_tokenLimit f_occurrenceLimit f_atomCount f_allAtoms f_enteredSize f_nodeCount f_hasResult f_resultMode f_resultVerdict f_witnessSize f_witnessOwner : Int32} {a_size a_list a_begin a_heightAfter a_actionsAfter a_entered a_built a_states a_follow a_accepting a_need a_labelled a_opAtoms a_opFirst a_opLast a_nodeSet a_nodeParent a_nodeAtom a_nodeAction a_nodeDepth a_witness : Nat → Int32}
variable {f_t f_a f_l f_m f_n f_count f_known f_mode f_wlen f_wside f_top : Int32} {a_tok a_len a_str a_wit a_has a_one a_first a_done a_next a_ls a_rs a_from a_byAtom a_byAction a_depth : Nat → Int32}
theorem x_load {post : Int32 → SX → Prop} (hd : 2 * d + 1 ≤ 17) (hz : f_witnessSize = nI (2 * d + 1)) (h7 : ∀ i, i < 2 * d + 1 → a_witness i = nI (w i)) (P : ∀ a, (∀ i, i < 2 * d + 1 → a i = nI (w i)) → post 0 (f_testCount, f_actionCount, f_tokenLimit, f_occurrenceLimit, f_atomCount, f_allAtoms, f_witnessSize, f_nodeCount, f_hasResult, f_resultMode, f_resultVerdict, f_witnessSize, f_witnessOwner, a_size, a_list, a_begin, a_heightAfter, a_actionsAfter, a, a_built, a_states, a_follow, a_accepting, a_need, a_labelled, a_opAtoms, a_opFirst, a_opLast, a_nodeSet, a_nodeParent, a_nodeAtom, a_nodeAction, a_nodeDepth, a_witness)) :
    ∀ dd i, i + dd = 2 * d + 1 → ∀ a, (∀ j, j < i → a j = nI (w j)) → wX_loadWitness_24 post f_testCount f_actionCount f_tokenLimit f_occurrenceLimit f_atomCount f_allAtoms f_enteredSize f_nodeCount f_hasResult f_resultMode f_resultVerdict f_witnessSize f_witnessOwner (dd + 1) (nI i) a_size a_list a_begin a_heightAfter a_actionsAfter a a_built a_states a_follow a_accepting a_need a_labelled a_opAtoms a_opFirst a_opLast a_nodeSet a_nodeParent a_nodeAtom a_nodeAction a_nodeDepth a_witness := by
  subst hz
  intro dd
  induction dd with
  | zero =>
    intro i hi a H
    rw [wX_loadWitness_24]
    have hi : i = 2 * d + 1 := hi
    subst hi
    exact br_t (nI_le (Nat.le_refl _) (by omega)) (P a H)
  | succ dd ih =>
    intro i hi a H
    rw [wX_loadWitness_24]
    refine br_f (nI_ge (by omega) (by omega)) ⟨vp_in_nI (by omega) (by decide), vp_in_nI (by omega) (by decide), nm_r (e' := upd a i (nI (w i))) (by rw [nI_clamp (by omega), h7 i (by omega)]) (nm_r (nI_1 i) (ih (i + 1) (by omega) _ (fun j hj => ?_)))⟩
    by_cases z : j = i
    · rw [z, yu_s]
    · rw [yu_n _ _ z]; exact H j (by omega)
theorem y_load {post : Int32 → SY → Prop} (hd : 2 * d + 1 ≤ 17) (hz : f_wlen = nI (2 * d + 1)) (h7 : ∀ i, i < 2 * d + 1 → a_wit i = nI (w i)) (P : ∀ a, (∀ i, i < 2 * d + 1 → a i = nI (w i)) → post 0 (f_t, f_a, f_l, f_m, f_n, f_wlen, f_known, f_mode, f_wlen, f_wside, f_top, a_tok, a_len, a, a_wit, a_has, a_one, a_first, a_done, a_next, a_ls, a_rs, a_from, a_byAtom, a_byAction, a_depth)) :
    ∀ dd i, i + dd = 2 * d + 1 → ∀ a, (∀ j, j < i → a j = nI (w j)) → wY_loadWitness_24 post f_t f_a f_l f_m f_n f_count f_known f_mode f_wlen f_wside f_top (dd + 1) (nI i) a_tok a_len a a_wit a_has a_one a_first a_done a_next a_ls a_rs a_from a_byAtom a_byAction a_depth := by
  subst hz
  intro dd
  induction dd with
  | zero =>
    intro i hi a H
    rw [wY_loadWitness_24]
    have hi : i = 2 * d + 1 := hi
    subst hi
    exact br_t (nI_le (Nat.le_refl _) (by omega)) (P a H)
  | succ dd ih =>
    intro i hi a H
    rw [wY_loadWitness_24]
    refine br_f (nI_ge (by omega) (by omega)) ⟨vp_in_nI (by omega) (by decide), vp_in_nI (by omega) (by decide), nm_r (e' := upd a i (nI (w i))) (by rw [nI_clamp (by omega), h7 i (by omega)]) (nm_r (nI_1 i) (ih (i + 1) (by omega) _ (fun j hj => ?_)))⟩
    by_cases z : j = i
    · rw [z, yu_s]
    · rw [yu_n _ _ z]; exact H j (by omega)
end
theorem i_vc_loadWitness {k : Nat} {u : SX} {v : SY} (I : i_Rel k u v) (hk : k + 3 ≤ 1540) : wpX_loadWitness (fun r u' => wpY_loadWitness (fun r' v' => r' = r ∧ i_Rel (k + 3) u' v') v) u := by
  refine zz_el (P := fun u v => wpX_loadWitness (fun r u' => wpY_loadWitness (fun r' v' => r' = r ∧ i_Rel (k + 3) u' v') v) u) ?_ I
  intro f_testCount f_actionCount f_tokenLimit f_occurrenceLimit f_atomCount f_allAtoms f_enteredSize f_nodeCount f_hasResult f_resultMode f_resultVerdict f_witnessSize f_witnessOwner a_size a_list a_begin a_heightAfter a_actionsAfter a_entered a_built a_states a_follow a_accepting a_need a_labelled a_opAtoms a_opFirst a_opLast a_nodeSet a_nodeParent a_nodeAtom a_nodeAction a_nodeDepth a_witness f_t f_a f_l f_m f_n f_count f_known f_mode f_wlen f_wside f_top a_tok a_len a_str a_wit a_has a_one a_first a_done a_next a_ls a_rs a_from a_byAtom a_byAction a_depth R
  have R0 := R
  obtain ⟨T, A, Lm, m, N, cnt, tk, n, e, lim, tok, blt, ent, res⟩ := R
  have res0 := res
  unfold wpX_loadWitness wpY_loadWitness wpX_hasWitness
  dsimp only
  rcases res with ⟨rfl, rfl, rfl⟩ | ⟨rfl, rfl, h3, ⟨rfl, rfl⟩ | ⟨rfl, h4, d, w, hd, rfl, rfl, h7⟩⟩
  · exact br_t rfl (br_t rfl (br_t rfl ⟨rfl, R0⟩))
  · exact br_f (by decide) (br_f (by decide) (br_t rfl (br_t rfl ⟨rfl, R0⟩)))
  · refine br_f (by decide) (br_t rfl (br_f (by decide) (pk_le (2 * d + 1) 17 (fun z => ⟨2 * d + 1 + 1, ?_⟩) (fun z => br_f (nI_ne0 (by omega) (by omega)) (br_f (nI_ge (a := 17) z (by omega)) ⟨rfl, R0⟩)))))
    refine x_load z rfl (fun i hi => (h7 i hi).1) (fun a ha => br_f (nI_ne0 (by omega) (by omega)) (br_t (nI_le (b := 17) z (by decide)) ⟨2 * d + 1 + 1, ?_⟩)) (2 * d + 1) 0 (Nat.zero_add _) a_entered (fun j hj => absurd hj (Nat.not_lt_zero _))
    refine y_load z rfl (fun i hi => (h7 i hi).2.1) (fun b hb => ⟨rfl, ?_⟩) (2 * d + 1) 0 (Nat.zero_add _) a_str (fun j hj => absurd hj (Nat.not_lt_zero _))
    exact ⟨T, A, Lm, m, N, 2 * d + 1, tk, n, w, lim, tok, blt, ⟨rfl, rfl, ⟨z, fun i hi => ⟨ha i hi, (h7 i hi).2.2⟩⟩, ⟨z, fun i hi => ⟨hb i hi, (h7 i hi).2.2⟩⟩⟩, res0⟩
end
section
/-! ===== put ===== -/
theorem tk_sp_ge {tk : Nat → Nat} {i : Nat} : ∀ k, k ≤ tk_hg tk i → k ≤ tk_sp tk i k := by
  intro k
  induction k with
  | zero => intro _; exact Nat.zero_le _
  | succ k ih =>
    intro h
    have h1 := ih (by omega)
    have h2 := (tk_sp_bg (tk := tk) i k (by omega)).1
    omega
section
variable {T A Lm m N s c : Nat} {tk : Nat → Nat → Nat} {n : Nat → Nat}
variable {f_testCount f_actionCount f_tokenLimit f_occurrenceLimit f_atomCount f_allAtoms f_enteredSize f_nodeCount f_hasResult f_resultMode f_resultVerdict f_witnessSize f_witnessOwner : Int32} {a_size a_list a_begin a_heightAfter a_actionsAfter a_entered a_built a_states a_follow a_accepting a_need a_labelled a_opAtoms a_opFirst a_opLast a_nodeSet a_nodeParent a_nodeAtom a_nodeAction a_nodeDepth a_witness : Nat → Int32}
variable {f_t f_a f_l f_m f_n f_count f_known f_mode f_wlen f_wside f_top : Int32} {a_tok a_len a_str a_wit a_has a_one a_first a_done a_next a_ls a_rs a_from a_byAtom a_byAction a_depth : Nat → Int32}
theorem x_isCode {post : Int32 → Prop} (hT : T ≤ 2) (hA : A ≤ 3) (hfT : f_testCount = nI T) (hfA : f_actionCount = nI A) (hc : c < 2 ^ 31) (P1 : tk_code T A c → post 1) (P0 : ¬ tk_code T A c → post 0) : wpX_isCode post (f_testCount, f_actionCount, f_tokenLimit, f_occurrenceLimit, f_atomCount, f_allAtoms, f_enteredSize, f_nodeCount, f_hasResult, f_resultMode, f_resultVerdict, f_witnessSize, f_witnessOwner, a_size, a_list, a_begin, a_heightAfter, a_actionsAfter, a_entered, a_built, a_states, a_follow, a_accepting, a_need, a_labelled, a_opAtoms, a_opFirst, a_opLast, a_nodeSet, a_nodeParent, a_nodeAtom, a_nodeAction, a_nodeDepth, a_witness) (nI c) := by
  subst hfT hfA
  unfold wpX_isCode
  dsimp only
  have e1 : (16 : Int32) + nI A = nI (16 + A) := by show nI 16 + nI A = _; rw [nI_add]
  have e2 : (8 : Int32) + nI T = nI (8 + T) := by show nI 8 + nI T = _; rw [nI_add]
  rw [e1, e2]
  unfold tk_code at P1 P0
  refine br_t (nI_pos' hc) (pk_lt 7 c (fun h7 => pk_le 16 c (fun h16 => pk_le (16 + A) c (fun h => P0 (by omega)) (fun h => P1 (by omega))) (fun h16 => pk_le (8 + T) c (fun h => P0 (by omega)) (fun h => P1 (by omega)))) (fun h7 => P1 (by omega)))
theorem y_putc {post : Int32 → SY → Prop} (hs : s < 2) (hT : T ≤ 2) (hA : A ≤ 3) (hfT : f_t = nI T) (hfA : f_a = nI A) (hc : c < 2 ^ 31) (P1 : tk_code T A c → wY_put_91 post (nI s) (nI c) (b01 (decide (16 ≤ c))) f_t f_a f_l f_m f_n f_count f_known f_mode f_wlen f_wside f_top a_tok a_len a_str a_wit a_has a_one a_first a_done a_next a_ls a_rs a_from a_byAtom a_byAction a_depth) (P0 : ¬ tk_code T A c → post (-2) (f_t, f_a, f_l, f_m, f_n, f_count, f_known, f_mode, f_wlen, f_wside, f_top, a_tok, a_len, a_str, a_wit, a_has, a_one, a_first, a_done, a_next, a_ls, a_rs, a_from, a_byAtom, a_byAction, a_depth)) : wpY_put post (f_t, f_a, f_l, f_m, f_n, f_count, f_known, f_mode, f_wlen, f_wside, f_top, a_tok, a_len, a_str, a_wit, a_has, a_one, a_first, a_done, a_next, a_ls, a_rs, a_from, a_byAtom, a_byAction, a_depth) (nI s) (nI c) := by
  have e1 : (16 : Int32) + f_a = nI (16 + A) := by rw [hfA]; show nI 16 + nI A = _; rw [nI_add]
  have e2 : (8 : Int32) + f_t = nI (8 + T) := by rw [hfT]; show nI 8 + nI T = _; rw [nI_add]
  have j72 : ∀ p t a : Bool, (p = true ↔ c ≤ 7) → (t = true ↔ (8 ≤ c ∧ c < 8 + T)) → (a = true ↔ (16 ≤ c ∧ c < 16 + A)) → wY_put_72 post (nI s) (nI c) (b01 p) (b01 t) (b01 a) f_t f_a f_l f_m f_n f_count f_known f_mode f_wlen f_wside f_top a_tok a_len a_str a_wit a_has a_one a_first a_done a_next a_ls a_rs a_from a_byAtom a_byAction a_depth := by
    intro p t a hp ht ha
    have go : (p = true ∨ t = true ∨ a = true) → wY_put_91 post (nI s) (nI c) (b01 a) f_t f_a f_l f_m f_n f_count f_known f_mode f_wlen f_wside f_top a_tok a_len a_str a_wit a_has a_one a_first a_done a_next a_ls a_rs a_from a_byAtom a_byAction a_depth := by
      intro w
      have cd : tk_code T A c := by
        rcases w with w | w | w
        · exact Or.inl (hp.mp w)
        · exact Or.inr (Or.inl (ht.mp w))
        · exact Or.inr (Or.inr (ha.mp w))
      have e : a = decide (16 ≤ c) := by
        apply bo_iff
        rw [ha, decide_eq_true_eq]
        unfold tk_code at cd
        omega
      rw [e]
      exact P1 cd
    unfold wY_put_72
    refine zk_bb rfl (fun zp => zk_bb rfl (fun zt => zk_bb rfl (fun za => P0 ?_) (fun za => go (Or.inr (Or.inr za)))) (fun zt => go (Or.inr (Or.inl zt)))) (fun zp => go (Or.inl zp))
    rintro (w | w | w)
    · rw [hp.mpr w] at zp; cases zp
    · rw [ht.mpr w] at zt; cases zt
    · rw [ha.mpr w] at za; cases za
  have j48 : ∀ p t : Bool, (p = true ↔ c ≤ 7) → (t = true ↔ (8 ≤ c ∧ c < 8 + T)) → wY_put_48 post (nI s) (nI c) (b01 p) (b01 t) f_t f_a f_l f_m f_n f_count f_known f_mode f_wlen f_wside f_top a_tok a_len a_str a_wit a_has a_one a_first a_done a_next a_ls a_rs a_from a_byAtom a_byAction a_depth := by
    intro p t hp ht
    unfold wY_put_48
    rw [e1]
    refine pk_lt c 16 (fun w => ?_) (fun w => pk_le (16 + A) c (fun y => ?_) (fun y => ?_))
    · unfold wY_put_71
      exact j72 p t false hp ht ⟨fun z => (nomatch z), fun z => by omega⟩
    · unfold wY_put_71
      exact j72 p t false hp ht ⟨fun z => (nomatch z), fun z => by omega⟩
    · exact j72 p t true hp ht ⟨fun _ => by omega, fun _ => rfl⟩
  have j25 : ∀ p : Bool, (p = true ↔ c ≤ 7) → wY_put_25 post (nI s) (nI c) (b01 p) f_t f_a f_l f_m f_n f_count f_known f_mode f_wlen f_wside f_top a_tok a_len a_str a_wit a_has a_one a_first a_done a_next a_ls a_rs a_from a_byAtom a_byAction a_depth := by
    intro p hp
    unfold wY_put_25
    rw [e2]
    refine pk_lt c 8 (fun w => ?_) (fun w => pk_le (8 + T) c (fun y => ?_) (fun y => ?_))
    · unfold wY_put_47
      exact j48 p false hp ⟨fun z => (nomatch z), fun z => by omega⟩
    · unfold wY_put_47
      exact j48 p false hp ⟨fun z => (nomatch z), fun z => by omega⟩
    · exact j48 p true hp ⟨fun _ => by omega, fun _ => rfl⟩
  unfold wpY_put
  dsimp only
  refine y_side hs (br_t rfl (br_f (nI_pos hc) (pk_lt 7 c (fun w => ?_) (fun w => ?_))))
  · unfold wY_put_24
    exact j25 false ⟨fun z => (nomatch z), fun z => by omega⟩
  · exact j25 true ⟨fun _ => by omega, fun _ => rfl⟩
theorem x_opEnd {post : Int32 → Prop} {d : Nat} (hL : Lm ≤ 32) (hs : s < 2) (H : rl_sd T A Lm s (tk s) (n s) a_size a_list a_begin a_heightAfter a_actionsAfter a_tok a_len) (hd : d < tk_hg (tk s) (n s)) (P : post (nI (tk_sp (tk s) (n s) (tk_hg (tk s) (n s) - d) - 1))) : wpX_operandEnd post (f_testCount, f_actionCount, f_tokenLimit, f_occurrenceLimit, f_atomCount, f_allAtoms, f_enteredSize, f_nodeCount, f_hasResult, f_resultMode, f_resultVerdict, f_witnessSize, f_witnessOwner, a_size, a_list, a_begin, a_heightAfter, a_actionsAfter, a_entered, a_built, a_states, a_follow, a_accepting, a_need, a_labelled, a_opAtoms, a_opFirst, a_opLast, a_nodeSet, a_nodeParent, a_nodeAtom, a_nodeAction, a_nodeDepth, a_witness) (nI s) (nI d) := by
  obtain ⟨h1, h2, h3, h4, h5⟩ := H
  have hle := tk_hg_le (tk s) (n s)
  have lp : ∀ dd j, j + dd = d → wX_operandEnd_12 post (nI s) (nI d) f_testCount f_actionCount f_tokenLimit f_occurrenceLimit f_atomCount f_allAtoms f_enteredSize f_nodeCount f_hasResult f_resultMode f_resultVerdict f_witnessSize f_witnessOwner a_size a_list a_begin a_heightAfter a_actionsAfter a_entered a_built a_states a_follow a_accepting a_need a_labelled a_opAtoms a_opFirst a_opLast a_nodeSet a_nodeParent a_nodeAtom a_nodeAction a_nodeDepth a_witness (dd + 1) (nI (tk_sp (tk s) (n s) (tk_hg (tk s) (n s) - j) - 1)) (nI j) := by
    intro dd
    induction dd with
    | zero =>
      intro j hj
      have hj : j = d := hj
      subst hj
      rw [wX_operandEnd_12]
      exact br_t (nI_le (Nat.le_refl _) (by omega)) P
    | succ dd ih =>
      intro j hj
      rw [wX_operandEnd_12]
      obtain ⟨k, hk⟩ : ∃ k, tk_hg (tk s) (n s) - j = k + 1 := ⟨tk_hg (tk s) (n s) - j - 1, by omega⟩
      have bg := tk_sp_bg (tk := tk s) (n s) k (by omega)
      have bb := tk_sp_b (tk := tk s) (n s) (k + 1)
      have gk := tk_sp_ge (tk := tk s) (i := n s) k (by omega)
      have := ih (j + 1) (by omega)
      rw [show tk_hg (tk s) (n s) - (j + 1) = k by omega] at this
      rw [hk]
      rw [xi32]
      refine br_f (nI_ge (by omega) (by omega)) (br_t (nI_pos' (by omega)) ⟨vp_in_nI (by omega) (by decide), nm_r (e' := nI (tk_sp (tk s) (n s) k - 1)) ?_ (nm_r (nI_1 j) this)⟩)
      rw [nI_clamp (by omega), (h5 (tk_sp (tk s) (n s) (k + 1) - 1) (by omega)).2.2.1, bg.2]
      exact pk_sub (b := 1) (by omega)
  refine ⟨vp_in_nI hs (by decide), nm_r (e' := nI (tk_sp (tk s) (n s) (tk_hg (tk s) (n s) - 0) - 1)) ?_ ⟨d + 1, lp d 0 (Nat.zero_add d)⟩⟩
  rw [nI_clamp (by omega), h2, Nat.sub_zero, tk_sp_at]
  exact pk_sub (b := 1) (by omega)
theorem x_cont {post : Int32 → Prop} {P : Nat} (hL : Lm ≤ 32) (hs : s < 2) (H : rl_sd T A Lm s (tk s) (n s) a_size a_list a_begin a_heightAfter a_actionsAfter a_tok a_len) (hP : P < tk_hg (tk s) (n s)) (K : post (b01 (od_h (tk_st (tk s) (n s) P)))) : wpX_containsAction post (f_testCount, f_actionCount, f_tokenLimit, f_occurrenceLimit, f_atomCount, f_allAtoms, f_enteredSize, f_nodeCount, f_hasResult, f_resultMode, f_resultVerdict, f_witnessSize, f_witnessOwner, a_size, a_list, a_begin, a_heightAfter, a_actionsAfter, a_entered, a_built, a_states, a_follow, a_accepting, a_need, a_labelled, a_opAtoms, a_opFirst, a_opLast, a_nodeSet, a_nodeParent, a_nodeAtom, a_nodeAction, a_nodeDepth, a_witness) (nI s) (nI (tk_sp (tk s) (n s) (P + 1) - 1)) := by
  obtain ⟨h1, h2, h3, h4, h5⟩ := H
  have bg := tk_sp_bg (tk := tk s) (n s) P hP
  have bb := tk_sp_b (tk := tk s) (n s) (P + 1)
  have hh := tk_has (n s) h4 P hP
  have a5 := h5 (tk_sp (tk s) (n s) (P + 1) - 1) (by omega)
  have fin : ∀ z, z = nI (tk_ac (tk s) (tk_sp (tk s) (n s) P)) → wX_containsAction_39 post (nI s) (nI (tk_sp (tk s) (n s) (P + 1) - 1)) z f_testCount f_actionCount f_tokenLimit f_occurrenceLimit f_atomCount f_allAtoms f_enteredSize f_nodeCount f_hasResult f_resultMode f_resultVerdict f_witnessSize f_witnessOwner a_size a_list a_begin a_heightAfter a_actionsAfter a_entered a_built a_states a_follow a_accepting a_need a_labelled a_opAtoms a_opFirst a_opLast a_nodeSet a_nodeParent a_nodeAtom a_nodeAction a_nodeDepth a_witness := by
    intro z hz
    unfold wX_containsAction_39
    rw [xi32, hz]
    refine ⟨vp_in_nI (by omega) (by decide), ?_⟩
    rw [nI_clamp (by omega), a5.2.2.2.2, show tk_sp (tk s) (n s) (P + 1) - 1 + 1 = tk_sp (tk s) (n s) (P + 1) by omega]
    have q1 := tk_ac_le (tk s) (tk_sp (tk s) (n s) (P + 1))
    have q2 := tk_ac_le (tk s) (tk_sp (tk s) (n s) P)
    rw [hh] at K
    refine pk_le (tk_ac (tk s) (tk_sp (tk s) (n s) (P + 1))) (tk_ac (tk s) (tk_sp (tk s) (n s) P)) (fun w => ?_) (fun w => ?_)
    · rw [decide_eq_false (by omega)] at K; exact K
    · rw [decide_eq_true w] at K; exact K
  unfold wpX_containsAction
  dsimp only
  rw [xi32]
  refine br_t (nI_pos' (by omega)) ⟨vp_in_nI (by omega) (by decide), nm_r (e' := nI (tk_sp (tk s) (n s) P)) (by rw [nI_clamp (by omega), a5.2.2.1, bg.2]) ?_⟩
  refine pk_le (tk_sp (tk s) (n s) P) 0 (fun w => fin 0 ?_) (fun w => ?_)
  · rw [show tk_sp (tk s) (n s) P = 0 by omega]; rfl
  · have e2 : nI s * 32 + nI (tk_sp (tk s) (n s) P) - 1 = nI (32 * s + (tk_sp (tk s) (n s) P - 1)) := by
      rw [xi32, show 32 * s + tk_sp (tk s) (n s) P = 32 * s + (tk_sp (tk s) (n s) P - 1) + 1 by omega]; exact nI_pred _
    rw [e2]
    refine ⟨vp_in_nI (by omega) (by decide), fin _ ?_⟩
    rw [nI_clamp (by omega), (h5 (tk_sp (tk s) (n s) P - 1) (by omega)).2.2.2.2, show tk_sp (tk s) (n s) P - 1 + 1 = tk_sp (tk s) (n s) P by omega]
/-- the tokens with a new one -/
def tk_p (tk : Nat → Nat → Nat) (n : Nat → Nat) (s c : Nat) : Nat → Nat → Nat := fun t => if t = s then (fun i => if i = n s then c else tk s i) else tk t
theorem rt_put (H : rl_tok T A Lm m tk n a_size a_list a_begin a_heightAfter a_actionsAfter a_tok a_len) (hL : Lm ≤ 32) (hs : s < 2) (hn : n s < Lm) (ha : tk_ar c ≤ tk_hg (tk s) (n s)) (hc : tk_code T A c) (ht : (c = 2 ∨ c = 6 ∨ c = 7) → od_h (tk_st (tk s) (n s) (tk_hg (tk s) (n s) - tk_ar c)) = false)
    (hm : 16 ≤ c → tk_ac (tk 0) (n 0) + tk_ac (tk 1) (n 1) < m) :
    rl_tok T A Lm m (tk_p tk n s c) (fun t => if t = s then n s + 1 else n t) (upd a_size s (nI (n s + 1))) (upd a_list (32 * s + n s) (nI c)) (upd a_begin (32 * s + n s) (nI (tk_sp (tk s) (n s) (tk_hg (tk s) (n s) - tk_ar c))))
      (upd a_heightAfter (32 * s + n s) (nI (tk_hg (tk s) (n s) - tk_ar c + 1))) (upd a_actionsAfter (32 * s + n s) (nI (tk_ac (tk s) (n s) + (if 16 ≤ c then 1 else 0)))) (upd a_tok (32 * s + n s) (nI c)) (upd a_len s (nI (n s + 1))) := by
  have cg : ∀ i, i ≤ n s → tk_hg (fun i => if i = n s then c else tk s i) i = tk_hg (tk s) i ∧ tk_ac (fun i => if i = n s then c else tk s i) i = tk_ac (tk s) i ∧ tk_sp (fun i => if i = n s then c else tk s i) i = tk_sp (tk s) i ∧ tk_st (fun i => if i = n s then c else tk s i) i = tk_st (tk s) i := by
    intro i hi
    obtain ⟨e1, e2, e3, e4, _⟩ := tk_cong (tk := fun i => if i = n s then c else tk s i) (tk' := tk s) i (fun j hj => if_neg (by omega))
    exact ⟨e1, e2, e3, e4⟩
  have eP : ∀ i, i < n s → tk_P (fun i => if i = n s then c else tk s i) i = tk_P (tk s) i := by
    intro i hi
    show tk_hg (fun i => if i = n s then c else tk s i) i - tk_ar (if i = n s then c else tk s i) = _
    rw [(cg i (by omega)).1, if_neg (by omega)]; rfl
  have ePn : tk_P (fun i => if i = n s then c else tk s i) (n s) = tk_hg (tk s) (n s) - tk_ar c := by
    show tk_hg (fun i => if i = n s then c else tk s i) (n s) - tk_ar (if n s = n s then c else tk s (n s)) = _
    rw [(cg _ (Nat.le_refl _)).1, if_pos rfl]
  have eac : tk_ac (fun i => if i = n s then c else tk s i) (n s + 1) = tk_ac (tk s) (n s) + (if 16 ≤ c then 1 else 0) := by
    show tk_ac (fun i => if i = n s then c else tk s i) (n s) + (if 16 ≤ (if n s = n s then c else tk s (n s)) then 1 else 0) = _
    rw [(cg _ (Nat.le_refl _)).2.1, if_pos rfl]
  have sac : ∀ t, tk_ac (tk_p tk n s c t) (if t = s then n s + 1 else n t) = tk_ac (tk t) (n t) + (if t = s then (if 16 ≤ c then 1 else 0) else 0) := by
    intro t
    by_cases z : t = s
    · subst z
      rw [if_pos rfl, if_pos rfl]
      show tk_ac (if t = t then _ else _) _ = _
      rw [if_pos rfl]
      exact eac
    · rw [if_neg z, if_neg z]
      show tk_ac (if t = s then _ else _) _ = _
      rw [if_neg z]; rfl
  refine ⟨fun t ht' => ?_, ?_⟩
  · obtain ⟨h1, h2, h3, h4, h5⟩ := H.1 t ht'
    show rl_sd T A Lm t (if t = s then _ else tk t) (if t = s then n s + 1 else n t) _ _ _ _ _ _ _
    by_cases z : t = s
    · subst z
      rw [if_pos rfl, if_pos rfl]
      refine ⟨by omega, yu_s _ _ _, yu_s _ _ _, ?_, fun i hi => ?_⟩
      · have ok' := tk_ok_cong (tk' := fun i => if i = n t then c else tk t i) (fun j hj => (if_neg (by omega)).symm) h4
        intro i hi
        by_cases w : i = n t
        · subst w
          unfold tk_ok1
          rw [ePn, (cg _ (Nat.le_refl _)).1, (cg _ (Nat.le_refl _)).2.2.2]
          show tk_ar (if n t = n t then c else _) ≤ _ ∧ tk_code T A (if n t = n t then c else _) ∧ (((if n t = n t then c else _) = 2 ∨ (if n t = n t then c else _) = 6 ∨ (if n t = n t then c else _) = 7) → _)
          rw [if_pos rfl]
          exact ⟨ha, hc, ht⟩
        · exact ok' i (by omega)
      · by_cases w : i = n t
        · subst w
          rw [yu_s, yu_s, yu_s, yu_s, yu_s, ePn, (cg _ (Nat.le_refl _)).2.2.1, tk_hg_s, ePn, eac]
          exact ⟨congrArg nI (if_pos rfl).symm, congrArg nI (if_pos rfl).symm, rfl, rfl, rfl⟩
        · have hi' : i < n t := by omega
          have h := h5 i hi'
          have hne : 32 * t + i ≠ 32 * t + n t := by omega
          rw [yu_n _ _ hne, yu_n _ _ hne, yu_n _ _ hne, yu_n _ _ hne, yu_n _ _ hne, eP i hi', (cg i (by omega)).2.2.1, (cg (i + 1) (by omega)).1, (cg (i + 1) (by omega)).2.1]
          exact ⟨h.1.trans (congrArg nI (if_neg w).symm), h.2.1.trans (congrArg nI (if_neg w).symm), h.2.2⟩
    · rw [if_neg z, if_neg z]
      refine ⟨h1, by rw [yu_n _ _ z]; exact h2, by rw [yu_n _ _ z]; exact h3, h4, fun i hi => ?_⟩
      have hne : 32 * t + i ≠ 32 * s + n s := by omega
      rw [yu_n _ _ hne, yu_n _ _ hne, yu_n _ _ hne, yu_n _ _ hne, yu_n _ _ hne]
      exact h5 i hi
  · have := H.2
    show tk_ac (tk_p tk n s c 0) (if 0 = s then n s + 1 else n 0) + tk_ac (tk_p tk n s c 1) (if 1 = s then n s + 1 else n 1) ≤ m
    rw [sac 0, sac 1]
    by_cases h16 : 16 ≤ c
    · have := hm h16
      rw [if_pos h16]
      by_cases z : s = 0
      · rw [if_pos z.symm, if_neg (by omega)]; omega
      · rw [if_neg (by omega), if_pos (by omega)]; omega
    · rw [if_neg h16]
      split <;> split <;> omega
end
end
section
section
variable {T A Lm m N s c : Nat} {tk : Nat → Nat → Nat} {n : Nat → Nat}
variable {f_testCount f_actionCount f_tokenLimit f_occurrenceLimit f_atomCount f_allAtoms f_enteredSize f_nodeCount f_hasResult f_resultMode f_resultVerdict f_witnessSize f_witnessOwner : Int32} {a_size a_list a_begin a_heightAfter a_actionsAfter a_entered a_built a_states a_follow a_accepting a_need a_labelled a_opAtoms a_opFirst a_opLast a_nodeSet a_nodeParent a_nodeAtom a_nodeAction a_nodeDepth a_witness : Nat → Int32}
variable {f_t f_a f_l f_m f_n f_count f_known f_mode f_wlen f_wside f_top : Int32} {a_tok a_len a_str a_wit a_has a_one a_first a_done a_next a_ls a_rs a_from a_byAtom a_byAction a_depth : Nat → Int32}
/-- the new token needs a test that has an action -/
def pt_bad (tk : Nat → Nat → Nat) (n : Nat → Nat) (s c : Nat) : Prop := (c = 2 ∨ c = 6 ∨ c = 7) ∧ od_h (tk_st (tk s) (n s) (tk_hg (tk s) (n s) - tk_ar c)) = true
def pt_full (tk : Nat → Nat → Nat) (n : Nat → Nat) (m c : Nat) : Prop := 16 ≤ c ∧ m ≤ tk_ac (tk 0) (n 0) + tk_ac (tk 1) (n 1)
theorem x_put {post : Int32 → SX → Prop} (hT : T ≤ 2) (hA : A ≤ 3) (hL : Lm ≤ 32) (hm : m ≤ 8) (hs : s < 2) (hfT : f_testCount = nI T) (hfA : f_actionCount = nI A) (hfL : f_tokenLimit = nI Lm) (hfm : f_occurrenceLimit = nI m) (tok : rl_tok T A Lm m tk n a_size a_list a_begin a_heightAfter a_actionsAfter a_tok a_len) (hc : tk_code T A c)
    (PF : ¬ n s < Lm → post (-3) (f_testCount, f_actionCount, f_tokenLimit, f_occurrenceLimit, f_atomCount, f_allAtoms, f_enteredSize, f_nodeCount, f_hasResult, f_resultMode, f_resultVerdict, f_witnessSize, f_witnessOwner, a_size, a_list, a_begin, a_heightAfter, a_actionsAfter, a_entered, a_built, a_states, a_follow, a_accepting, a_need, a_labelled, a_opAtoms, a_opFirst, a_opLast, a_nodeSet, a_nodeParent, a_nodeAtom, a_nodeAction, a_nodeDepth, a_witness)) (PS : n s < Lm → ¬ tk_ar c ≤ tk_hg (tk s) (n s) → post (-4) (f_testCount, f_actionCount, f_tokenLimit, f_occurrenceLimit, f_atomCount, f_allAtoms, f_enteredSize, f_nodeCount, f_hasResult, f_resultMode, f_resultVerdict, f_witnessSize, f_witnessOwner, a_size, a_list, a_begin, a_heightAfter, a_actionsAfter, a_entered, a_built, a_states, a_follow, a_accepting, a_need, a_labelled, a_opAtoms, a_opFirst, a_opLast, a_nodeSet, a_nodeParent, a_nodeAtom, a_nodeAction, a_nodeDepth, a_witness)) (PN : n s < Lm → tk_ar c ≤ tk_hg (tk s) (n s) → pt_bad tk n s c → post (-5) (f_testCount, f_actionCount, f_tokenLimit, f_occurrenceLimit, f_atomCount, f_allAtoms, f_enteredSize, f_nodeCount, f_hasResult, f_resultMode, f_resultVerdict, f_witnessSize, f_witnessOwner, a_size, a_list, a_begin, a_heightAfter, a_actionsAfter, a_entered, a_built, a_states, a_follow, a_accepting, a_need, a_labelled, a_opAtoms, a_opFirst, a_opLast, a_nodeSet, a_nodeParent, a_nodeAtom, a_nodeAction, a_nodeDepth, a_witness)) (PC : n s < Lm → tk_ar c ≤ tk_hg (tk s) (n s) → ¬ pt_bad tk n s c → pt_full tk n m c → post (-6) (f_testCount, f_actionCount, f_tokenLimit, f_occurrenceLimit, f_atomCount, f_allAtoms, f_enteredSize, f_nodeCount, f_hasResult, f_resultMode, f_resultVerdict, f_witnessSize, f_witnessOwner, a_size, a_list, a_begin, a_heightAfter, a_actionsAfter, a_entered, a_built, a_states, a_follow, a_accepting, a_need, a_labelled, a_opAtoms, a_opFirst, a_opLast, a_nodeSet, a_nodeParent, a_nodeAtom, a_nodeAction, a_nodeDepth, a_witness))
    (PO : n s < Lm → tk_ar c ≤ tk_hg (tk s) (n s) → ¬ pt_bad tk n s c → ¬ pt_full tk n m c → post 0 (f_testCount, f_actionCount, f_tokenLimit, f_occurrenceLimit, f_atomCount, f_allAtoms, f_enteredSize, f_nodeCount, 0, f_resultMode, f_resultVerdict, f_witnessSize, f_witnessOwner, upd a_size s (nI (n s + 1)), upd a_list (32 * s + n s) (nI c), upd a_begin (32 * s + n s) (nI (tk_sp (tk s) (n s) (tk_hg (tk s) (n s) - tk_ar c))), upd a_heightAfter (32 * s + n s) (nI (tk_hg (tk s) (n s) - tk_ar c + 1)), upd a_actionsAfter (32 * s + n s) (nI (tk_ac (tk s) (n s) + (if 16 ≤ c then 1 else 0))), a_entered, upd a_built s (b01 false), a_states, a_follow, a_accepting, a_need, a_labelled, a_opAtoms, a_opFirst, a_opLast, a_nodeSet, a_nodeParent, a_nodeAtom, a_nodeAction, a_nodeDepth, a_witness)) :
    wpX_put post (f_testCount, f_actionCount, f_tokenLimit, f_occurrenceLimit, f_atomCount, f_allAtoms, f_enteredSize, f_nodeCount, f_hasResult, f_resultMode, f_resultVerdict, f_witnessSize, f_witnessOwner, a_size, a_list, a_begin, a_heightAfter, a_actionsAfter, a_entered, a_built, a_states, a_follow, a_accepting, a_need, a_labelled, a_opAtoms, a_opFirst, a_opLast, a_nodeSet, a_nodeParent, a_nodeAtom, a_nodeAction, a_nodeDepth, a_witness) (nI s) (nI c) := by
  have hc19 : c < 19 := yr_code hT hA hc
  have sd := tok.1 s hs
  have hns := sd.1
  have hhg := tk_hg_le (tk s) (n s)
  have hac := tk_ac_le (tk s) (n s)
  -- the end of it
  have p172 : n s < Lm → tk_ar c ≤ tk_hg (tk s) (n s) → ¬ pt_bad tk n s c → ¬ pt_full tk n m c → wX_put_172 post (nI s) (nI c) (nI (n s)) (nI (tk_hg (tk s) (n s))) (nI (tk_ar c)) (nI (tk_ac (tk s) (n s))) (nI (tk_sp (tk s) (n s) (tk_hg (tk s) (n s) - tk_ar c))) f_testCount f_actionCount f_tokenLimit f_occurrenceLimit f_atomCount f_allAtoms f_enteredSize f_nodeCount f_hasResult f_resultMode f_resultVerdict f_witnessSize f_witnessOwner a_size a_list a_begin a_heightAfter a_actionsAfter a_entered a_built a_states a_follow a_accepting a_need a_labelled a_opAtoms a_opFirst a_opLast a_nodeSet a_nodeParent a_nodeAtom a_nodeAction a_nodeDepth a_witness := by
    intro h1 h2 h3 h4
    have Q := PO h1 h2 h3 h4
    unfold wX_put_172
    refine nm_r (xi32 s (n s)) ⟨vp_in_nI (by omega) (by decide), nm_r (xuc (by omega) rfl) ⟨vp_in_nI (by omega) (by decide), nm_r (xuc (by omega) rfl) ⟨vp_in_nI (by omega) (by decide), nm_r (e' := upd a_heightAfter (32 * s + n s) (nI (tk_hg (tk s) (n s) - tk_ar c + 1))) (by rw [nI_clamp (by omega), pk_sub h2, nI_1]) ?_⟩⟩⟩
    refine pk_lt c 16 (fun w => ?_) (fun w => ?_)
    · rw [if_neg (by omega)] at Q
      unfold wX_put_232
      exact ⟨vp_in_nI (by omega) (by decide), nm_r (xuc (by omega) rfl) ⟨vp_in_nI hs (by decide), nm_r (e' := upd a_size s (nI (n s + 1))) (by rw [nI_clamp (by omega), nI_1]) (x_edited hs Q)⟩⟩
    · rw [if_pos w] at Q
      unfold wX_put_232
      exact ⟨vp_in_nI (by omega) (by decide), nm_r (e' := upd a_actionsAfter (32 * s + n s) (nI (tk_ac (tk s) (n s) + 1))) (by rw [nI_clamp (by omega), nI_1]) ⟨vp_in_nI hs (by decide), nm_r (e' := upd a_size s (nI (n s + 1))) (by rw [nI_clamp (by omega), nI_1]) (x_edited hs Q)⟩⟩
  have p134 : n s < Lm → tk_ar c ≤ tk_hg (tk s) (n s) → ¬ pt_bad tk n s c → ¬ pt_full tk n m c → wX_put_134 post (nI s) (nI c) (nI (n s)) (nI (tk_hg (tk s) (n s))) (nI (tk_ar c)) (nI (tk_ac (tk s) (n s))) f_testCount f_actionCount f_tokenLimit f_occurrenceLimit f_atomCount f_allAtoms f_enteredSize f_nodeCount f_hasResult f_resultMode f_resultVerdict f_witnessSize f_witnessOwner a_size a_list a_begin a_heightAfter a_actionsAfter a_entered a_built a_states a_follow a_accepting a_need a_labelled a_opAtoms a_opFirst a_opLast a_nodeSet a_nodeParent a_nodeAtom a_nodeAction a_nodeDepth a_witness := by
    intro h1 h2 h3 h4
    have Q := p172 h1 h2 h3 h4
    unfold wX_put_134
    refine pk_le (tk_ar c) 0 (fun w => ?_) (fun w => ?_)
    · rw [show tk_hg (tk s) (n s) - tk_ar c = tk_hg (tk s) (n s) by omega, tk_sp_at] at Q
      exact Q
    · rw [show nI (tk_ar c) - 1 = nI (tk_ar c - 1) from pk_sub (b := 1) w]
      refine x_opEnd hL hs sd (by omega) ?_
      have e : tk_hg (tk s) (n s) - (tk_ar c - 1) = tk_hg (tk s) (n s) - tk_ar c + 1 := by omega
      rw [e]
      have bg := tk_sp_bg (tk := tk s) (n s) (tk_hg (tk s) (n s) - tk_ar c) (by omega)
      have bb := tk_sp_b (tk := tk s) (n s) (tk_hg (tk s) (n s) - tk_ar c + 1)
      rw [xi32]
      refine br_f (nI_pos (by omega)) ⟨vp_in_nI (by omega) (by decide), nm_r ?_ Q⟩
      rw [nI_clamp (by omega), (sd.2.2.2.2 _ (by omega)).2.2.1, bg.2]
  have p97 : n s < Lm → tk_ar c ≤ tk_hg (tk s) (n s) → ¬ pt_bad tk n s c → wX_put_97 post (nI s) (nI c) (nI (n s)) (nI (tk_hg (tk s) (n s))) (nI (tk_ar c)) f_testCount f_actionCount f_tokenLimit f_occurrenceLimit f_atomCount f_allAtoms f_enteredSize f_nodeCount f_hasResult f_resultMode f_resultVerdict f_witnessSize f_witnessOwner a_size a_list a_begin a_heightAfter a_actionsAfter a_entered a_built a_states a_follow a_accepting a_need a_labelled a_opAtoms a_opFirst a_opLast a_nodeSet a_nodeParent a_nodeAtom a_nodeAction a_nodeDepth a_witness := by
    intro h1 h2 h3
    unfold wX_put_97
    refine x_actionsOf hL hs sd ?_
    have e1 : (1 : Int32) - nI s = nI (1 - s) := pk_sub (a := 1) (by omega)
    rw [e1]
    have ac2 := tk_ac_le (tk (1 - s)) (n (1 - s))
    have hn2 := (tok.1 (1 - s) (by omega)).1
    refine x_actionsOf hL (by omega) (tok.1 (1 - s) (by omega)) ?_
    have sum : tk_ac (tk s) (n s) + tk_ac (tk (1 - s)) (n (1 - s)) = tk_ac (tk 0) (n 0) + tk_ac (tk 1) (n 1) := by
      have : s = 0 ∨ s = 1 := by omega
      rcases this with rfl | rfl
      · rfl
      · exact Nat.add_comm _ _
    refine pk_lt c 16 (fun w => p134 h1 h2 h3 (fun z => by have := z.1; omega)) (fun w => ?_)
    rw [nI_add, sum]
    exact pk_lt (tk_ac (tk 0) (n 0) + tk_ac (tk 1) (n 1)) m (fun y => p134 h1 h2 h3 (fun z => by have := z.2; omega)) (fun y => PC h1 h2 h3 ⟨w, y⟩) (hy := hfm)
  unfold wpX_put
  dsimp only
  refine x_side hs (br_f (by decide) (x_isCode hT hA hfT hfA (by omega) (fun _ => br_f (by decide) ⟨vp_in_nI hs (by decide), nm_r (e' := nI (n s)) (by rw [nI_clamp (by omega)]; exact sd.2.1) ?_⟩) (fun w => absurd hc w)))
  rw [hfL]
  refine pk_lt (n s) Lm (fun h1 => ?_) (fun h1 => by rw [← hfL]; exact PF (by omega))
  rw [← hfL]
  refine x_heightOf hL hs sd (x_arity (by omega) ?_)
  have har : tk_ar c ≤ 3 := by
    rcases tk_ar_cases c with ⟨_, a⟩ | ⟨_, a⟩ | ⟨_, a⟩ | ⟨_, a⟩ | ⟨_, a⟩ | ⟨_, a⟩ | ⟨_, a⟩ <;> omega
  refine pk_le (tk_ar c) (tk_hg (tk s) (n s)) (fun h2 => ?_) (fun h2 => PS h1 (by omega))
  unfold wpX_testOperandDepth
  dsimp only
  have tst : (c = 2 ∨ c = 6 ∨ c = 7) → ∀ d, tk_ar c = d + 1 → wpX_operandEnd (fun r_341 => wpX_containsAction (fun r_376 => (r_376 = 0 → wX_put_97 post (nI s) (nI c) (nI (n s)) (nI (tk_hg (tk s) (n s))) (nI (tk_ar c)) f_testCount f_actionCount f_tokenLimit f_occurrenceLimit f_atomCount f_allAtoms f_enteredSize f_nodeCount f_hasResult f_resultMode f_resultVerdict f_witnessSize f_witnessOwner a_size a_list a_begin a_heightAfter a_actionsAfter a_entered a_built a_states a_follow a_accepting a_need a_labelled a_opAtoms a_opFirst a_opLast a_nodeSet a_nodeParent a_nodeAtom a_nodeAction a_nodeDepth a_witness) ∧ (¬ r_376 = 0 → post (-5) (f_testCount, f_actionCount, f_tokenLimit, f_occurrenceLimit, f_atomCount, f_allAtoms, f_enteredSize, f_nodeCount, f_hasResult, f_resultMode, f_resultVerdict, f_witnessSize, f_witnessOwner, a_size, a_list, a_begin, a_heightAfter, a_actionsAfter, a_entered, a_built, a_states, a_follow, a_accepting, a_need, a_labelled, a_opAtoms, a_opFirst, a_opLast, a_nodeSet, a_nodeParent, a_nodeAtom, a_nodeAction, a_nodeDepth, a_witness))) (f_testCount, f_actionCount, f_tokenLimit, f_occurrenceLimit, f_atomCount, f_allAtoms, f_enteredSize, f_nodeCount, f_hasResult, f_resultMode, f_resultVerdict, f_witnessSize, f_witnessOwner, a_size, a_list, a_begin, a_heightAfter, a_actionsAfter, a_entered, a_built, a_states, a_follow, a_accepting, a_need, a_labelled, a_opAtoms, a_opFirst, a_opLast, a_nodeSet, a_nodeParent, a_nodeAtom, a_nodeAction, a_nodeDepth, a_witness) (nI s) r_341) (f_testCount, f_actionCount, f_tokenLimit, f_occurrenceLimit, f_atomCount, f_allAtoms, f_enteredSize, f_nodeCount, f_hasResult, f_resultMode, f_resultVerdict, f_witnessSize, f_witnessOwner, a_size, a_list, a_begin, a_heightAfter, a_actionsAfter, a_entered, a_built, a_states, a_follow, a_accepting, a_need, a_labelled, a_opAtoms, a_opFirst, a_opLast, a_nodeSet, a_nodeParent, a_nodeAtom, a_nodeAction, a_nodeDepth, a_witness) (nI s) (nI d) := by
    intro ht d hd
    refine x_opEnd hL hs sd (by omega) ?_
    rw [show tk_hg (tk s) (n s) - d = tk_hg (tk s) (n s) - tk_ar c + 1 by omega]
    refine x_cont hL hs sd (by omega) (zk_bb rfl (fun z => p97 h1 h2 (fun w => by rw [w.2] at z; cases z)) (fun z => PN h1 h2 ⟨ht, z⟩))
  refine pk_eq c 2 (fun e => br_f (by decide) (tst (by omega) 0 (by rw [e]; rfl))) (fun e2 => pk_eq c 6 (fun e => br_f (by decide) (tst (by omega) 2 (by rw [e]; rfl))) (fun e6 => pk_eq c 7 (fun e => br_f (by decide) (tst (by omega) 1 (by rw [e]; rfl))) (fun e7 => br_t (by decide) (p97 h1 h2 (fun w => by have := w.1; omega)))))
theorem y_put {post : Int32 → SY → Prop} (hm : m ≤ 8) (hs : s < 2) (hc19 : c < 19) (hL : Lm ≤ 32) (hfL : f_l = nI Lm) (hfm : f_m = nI m) (ok0 : yr_ok T A 0 (tk 0) (n 0) a_tok a_len) (ok1 : yr_ok T A 1 (tk 1) (n 1) a_tok a_len) (ok : yr_ok T A s (tk s) (n s) a_tok a_len) (hns : n s ≤ Lm)
    (PF : ¬ n s < Lm → post (-3) (f_t, f_a, f_l, f_m, f_n, f_count, f_known, f_mode, f_wlen, f_wside, f_top, a_tok, a_len, a_str, a_wit, a_has, a_one, a_first, a_done, a_next, a_ls, a_rs, a_from, a_byAtom, a_byAction, a_depth)) (PS : n s < Lm → ¬ tk_ar c ≤ tk_hg (tk s) (n s) → ∀ tp h o f d t, post (-4) (f_t, f_a, f_l, f_m, f_n, f_count, f_known, f_mode, f_wlen, f_wside, tp, a_tok, a_len, a_str, a_wit, h, o, f, d, t, a_ls, a_rs, a_from, a_byAtom, a_byAction, a_depth)) (PN : n s < Lm → tk_ar c ≤ tk_hg (tk s) (n s) → pt_bad tk n s c → ∀ tp h o f d t, post (-5) (f_t, f_a, f_l, f_m, f_n, f_count, f_known, f_mode, f_wlen, f_wside, tp, a_tok, a_len, a_str, a_wit, h, o, f, d, t, a_ls, a_rs, a_from, a_byAtom, a_byAction, a_depth)) (PC : n s < Lm → tk_ar c ≤ tk_hg (tk s) (n s) → ¬ pt_bad tk n s c → pt_full tk n m c → ∀ tp h o f d t, post (-6) (f_t, f_a, f_l, f_m, f_n, f_count, f_known, f_mode, f_wlen, f_wside, tp, a_tok, a_len, a_str, a_wit, h, o, f, d, t, a_ls, a_rs, a_from, a_byAtom, a_byAction, a_depth))
    (PO : n s < Lm → tk_ar c ≤ tk_hg (tk s) (n s) → ¬ pt_bad tk n s c → ¬ pt_full tk n m c → ∀ tp h o f d t, post 0 (f_t, f_a, f_l, f_m, f_n, f_count, 0, f_mode, 0, f_wside, tp, upd a_tok (32 * s + n s) (nI c), upd a_len s (nI (n s + 1)), a_str, a_wit, h, o, f, d, t, a_ls, a_rs, a_from, a_byAtom, a_byAction, a_depth)) :
    wY_put_91 post (nI s) (nI c) (b01 (decide (16 ≤ c))) f_t f_a f_l f_m f_n f_count f_known f_mode f_wlen f_wside f_top a_tok a_len a_str a_wit a_has a_one a_first a_done a_next a_ls a_rs a_from a_byAtom a_byAction a_depth := by
  have hlen := ok.2.2.2.2.1
  have hhg := tk_hg_le (tk s) (n s)
  have a0 := tk_ac_le (tk 0) (n 0)
  have a1 := tk_ac_le (tk 1) (n 1)
  have n0 := ok0.2.2.2.1
  have n1 := ok1.2.2.2.1
  unfold wY_put_91
  refine ⟨vp_in_nI hs (by decide), ?_⟩
  rw [nI_clamp (by omega), hlen, hfL]
  refine pk_lt (n s) Lm (fun h1 => ?_) (fun h1 => by rw [← hfL]; exact PF (by omega))
  rw [← hfL]
  refine y_read (s := s) (x := 0) (S := fun _ => false) (M := 0) ok (by omega) (fun i _ _ => b_0 i) (fun h o f d t D => ?_)
  have p190 : tk_ar c ≤ tk_hg (tk s) (n s) → ¬ pt_bad tk n s c → ¬ pt_full tk n m c → wY_put_190 post (nI s) (nI c) f_t f_a f_l f_m f_n f_count f_known f_mode f_wlen f_wside (nI (tk_hg (tk s) (n s))) a_tok a_len a_str a_wit h o f d t a_ls a_rs a_from a_byAtom a_byAction a_depth := by
    intro h2 h3 h4
    have Q := PO h1 h2 h3 h4 (nI (tk_hg (tk s) (n s))) h o f d t
    unfold wY_put_190
    have e2 : (32 : Int32) * nI s + nI (n s) = nI (32 * s + n s) := by
      show nI 32 * nI s + nI (n s) = _
      rw [pk_mul, nI_add]
    rw [nI_clamp (by omega), hlen, e2, nI_1, nI_clamp (by omega)]
    exact ⟨vp_in_nI hs (by decide), vp_in_nI (by omega) (by decide), nm_e ⟨vp_in_nI hs (by decide), vp_in_nI hs (by decide), nm_e Q⟩⟩
  have p164 : tk_ar c ≤ tk_hg (tk s) (n s) → ¬ pt_bad tk n s c → wY_put_164 post (nI s) (nI c) (b01 (decide (16 ≤ c))) f_t f_a f_l f_m f_n f_count f_known f_mode f_wlen f_wside (nI (tk_hg (tk s) (n s))) a_tok a_len a_str a_wit h o f d t a_ls a_rs a_from a_byAtom a_byAction a_depth := by
    intro h2 h3
    unfold wY_put_164
    refine zk_bb rfl (fun z => p190 h2 h3 (fun w => of_decide_eq_false z w.1)) (fun z => ?_)
    refine y_occ (s := 0) ok0 (y_occ (s := 1) ok1 ?_)
    rw [nI_add, hfm]
    refine pk_lt (tk_ac (tk 0) (n 0) + tk_ac (tk 1) (n 1)) m (fun y => ?_) (fun y => ?_)
    · rw [← hfm]; exact p190 h2 h3 (fun w => by have := w.2; omega)
    · rw [← hfm]; exact PC h1 h2 h3 ⟨of_decide_eq_true z, y⟩ _ _ _ _ _ _
  refine y_takes (by omega) ?_
  by_cases h2 : tk_ar c ≤ tk_hg (tk s) (n s)
  · refine nm_r (pk_sub h2) (br_t (nI_pos' (by omega)) ?_)
    have p151 : (c = 2 ∨ c = 6 ∨ c = 7) → wY_put_151 post (nI s) (nI c) (b01 (decide (16 ≤ c))) (nI (tk_hg (tk s) (n s) - tk_ar c)) f_t f_a f_l f_m f_n f_count f_known f_mode f_wlen f_wside (nI (tk_hg (tk s) (n s))) a_tok a_len a_str a_wit h o f d t a_ls a_rs a_from a_byAtom a_byAction a_depth := by
      intro ht
      have har : 0 < tk_ar c := by
        rcases ht with rfl | rfl | rfl <;> decide
      unfold wY_put_151
      refine ⟨vp_in_nI (by omega) (by decide), zk_bb (b := od_h (tk_st (tk s) (n s) (tk_hg (tk s) (n s) - tk_ar c))) (by rw [nI_clamp (by omega)]; exact (D _ (by omega)).1) (fun z => p164 h2 (fun w => by rw [w.2] at z; cases z)) (fun z => PN h1 h2 ⟨ht, z⟩ _ _ _ _ _ _)⟩
    refine pk_eq c 2 (fun e => p151 (by omega)) (fun e2 => pk_eq c 7 (fun e => p151 (by omega)) (fun e7 => pk_eq c 6 (fun e => p151 (by omega)) (fun e6 => p164 h2 (fun w => by have := w.1; omega))))
  · have har : tk_ar c ≤ 3 := by
      rcases tk_ar_cases c with ⟨_, a⟩ | ⟨_, a⟩ | ⟨_, a⟩ | ⟨_, a⟩ | ⟨_, a⟩ | ⟨_, a⟩ | ⟨_, a⟩ <;> omega
    have ng : nI (tk_hg (tk s) (n s)) - nI (tk_ar c) < 0 := pk_sneg (by omega) (by omega)
    refine nm_e (br_f (fun w => ?_) (PS h1 h2 _ _ _ _ _ _))
    rw [Int32.le_iff_toInt_le] at w
    rw [Int32.lt_iff_toInt_lt] at ng
    omega
end
theorem i_vc_put {k : Nat} {u : SX} {v : SY} (I : i_Rel k u v) (hk : k + 3 ≤ 1540) (v1 : Int32) (v2 : Int32) : wpX_put (fun r u' => wpY_put (fun r' v' => r' = r ∧ i_Rel (k + 3) u' v') v v1 v2) u v1 v2 := by
  refine zz_el (P := fun u v => wpX_put (fun r u' => wpY_put (fun r' v' => r' = r ∧ i_Rel (k + 3) u' v') v v1 v2) u v1 v2) ?_ I
  intro f_testCount f_actionCount f_tokenLimit f_occurrenceLimit f_atomCount f_allAtoms f_enteredSize f_nodeCount f_hasResult f_resultMode f_resultVerdict f_witnessSize f_witnessOwner a_size a_list a_begin a_heightAfter a_actionsAfter a_entered a_built a_states a_follow a_accepting a_need a_labelled a_opAtoms a_opFirst a_opLast a_nodeSet a_nodeParent a_nodeAtom a_nodeAction a_nodeDepth a_witness f_t f_a f_l f_m f_n f_count f_known f_mode f_wlen f_wside f_top a_tok a_len a_str a_wit a_has a_one a_first a_done a_next a_ls a_rs a_from a_byAtom a_byAction a_depth R
  rcases sd_c v1 with ⟨s, hs, rfl⟩ | ⟨h0, h1⟩
  · have R0 := R
    obtain ⟨T, A, Lm, m, N, cnt, tk, n, e, lim, tok, blt, ent, res⟩ := R
    have ok0 := rt_yr lim tok (show 0 < 2 by omega)
    have ok1 := rt_yr lim tok (show 1 < 2 by omega)
    have ok := rt_yr lim tok hs
    have lim0 := lim
    obtain ⟨l1, l2, l3, l4, l5, l6, l7, g1, g2, g3, g4, g5, g6, g7, g8, g9, g10, g11⟩ := lim
    by_cases hneg : v2 < 0
    · unfold wpX_put wpY_put
      dsimp only
      refine x_side hs (br_f (by decide) (br_f ?_ (br_t rfl (y_side hs (br_t rfl (br_t hneg ?_))))))
      · intro w
        rw [Int32.le_iff_toInt_le] at w
        rw [Int32.lt_iff_toInt_lt] at hneg
        omega
      · have e7 : v2 < 8 := by
          rw [Int32.lt_iff_toInt_lt] at hneg ⊢
          have h0' : (0 : Int32).toInt = 0 := by decide
          have h8' : (8 : Int32).toInt = 8 := by decide
          omega
        have e16 : v2 < 16 := by
          rw [Int32.lt_iff_toInt_lt] at hneg ⊢
          have h0' : (0 : Int32).toInt = 0 := by decide
          have h8' : (16 : Int32).toInt = 16 := by decide
          omega
        unfold wY_put_24 wY_put_25 wY_put_47 wY_put_48 wY_put_71 wY_put_72
        exact br_t e7 (br_t e16 (br_t rfl (br_t rfl (br_t rfl ⟨rfl, R0⟩))))
    · obtain ⟨c, hc31, rfl⟩ := nI_of hneg
      by_cases hc : tk_code T A c
      · have hc19 := yr_code l1 l3 hc
        have yp : ∀ {r : Int32} {u' : SX}, _ := fun {r : Int32} {u' : SX} => y_putc (post := fun r' v' => r' = r ∧ i_Rel (k + 3) u' v') (s := s) (c := c) (f_t := f_t) (f_a := f_a) (f_l := f_l) (f_m := f_m) (f_n := f_n) (f_count := f_count) (f_known := f_known) (f_mode := f_mode) (f_wlen := f_wlen) (f_wside := f_wside) (f_top := f_top) (a_tok := a_tok) (a_len := a_len) (a_str := a_str) (a_wit := a_wit) (a_has := a_has) (a_one := a_one) (a_first := a_first) (a_done := a_done) (a_next := a_next) (a_ls := a_ls) (a_rs := a_rs) (a_from := a_from) (a_byAtom := a_byAtom) (a_byAction := a_byAction) (a_depth := a_depth) hs l1 l3 g7 g8 hc31
        have R1 : ∀ tp h o f d t, i_Rel (k + 3) (f_testCount, f_actionCount, f_tokenLimit, f_occurrenceLimit, f_atomCount, f_allAtoms, f_enteredSize, f_nodeCount, f_hasResult, f_resultMode, f_resultVerdict, f_witnessSize, f_witnessOwner, a_size, a_list, a_begin, a_heightAfter, a_actionsAfter, a_entered, a_built, a_states, a_follow, a_accepting, a_need, a_labelled, a_opAtoms, a_opFirst, a_opLast, a_nodeSet, a_nodeParent, a_nodeAtom, a_nodeAction, a_nodeDepth, a_witness) (f_t, f_a, f_l, f_m, f_n, f_count, f_known, f_mode, f_wlen, f_wside, tp, a_tok, a_len, a_str, a_wit, h, o, f, d, t, a_ls, a_rs, a_from, a_byAtom, a_byAction, a_depth) := fun tp h o f d t => ⟨T, A, Lm, m, N, cnt, tk, n, e, lim0, tok, blt, ent, res⟩
        refine x_put l1 l3 l4 l5 hs g1 g2 g3 g4 tok hc (fun a1 => ?_) (fun a1 a2 => ?_) (fun a1 a2 a3 => ?_) (fun a1 a2 a3 a4 => ?_) (fun a1 a2 a3 a4 => ?_)
        · refine yp (fun _ => ?_) (fun w => absurd hc w)
          exact y_put l5 hs hc19 l4 g9 g10 ok0 ok1 ok (tok.1 s hs).1 (fun _ => ⟨rfl, R0⟩) (fun b1 => absurd b1 a1) (fun b1 => absurd b1 a1) (fun b1 => absurd b1 a1) (fun b1 => absurd b1 a1)
        · refine yp (fun _ => ?_) (fun w => absurd hc w)
          exact y_put l5 hs hc19 l4 g9 g10 ok0 ok1 ok (tok.1 s hs).1 (fun b1 => absurd a1 b1) (fun _ _ tp h o f d t => ⟨rfl, R1 tp h o f d t⟩) (fun _ b2 => absurd b2 a2) (fun _ b2 => absurd b2 a2) (fun _ b2 => absurd b2 a2)
        · refine yp (fun _ => ?_) (fun w => absurd hc w)
          exact y_put l5 hs hc19 l4 g9 g10 ok0 ok1 ok (tok.1 s hs).1 (fun b1 => absurd a1 b1) (fun _ b2 => absurd a2 b2) (fun _ _ _ tp h o f d t => ⟨rfl, R1 tp h o f d t⟩) (fun _ _ b3 => absurd a3 b3) (fun _ _ b3 => absurd a3 b3)
        · refine yp (fun _ => ?_) (fun w => absurd hc w)
          exact y_put l5 hs hc19 l4 g9 g10 ok0 ok1 ok (tok.1 s hs).1 (fun b1 => absurd a1 b1) (fun _ b2 => absurd a2 b2) (fun _ _ b3 => absurd b3 a3) (fun _ _ _ _ tp h o f d t => ⟨rfl, R1 tp h o f d t⟩) (fun _ _ _ b4 => absurd a4 b4)
        · refine yp (fun _ => ?_) (fun w => absurd hc w)
          refine y_put l5 hs hc19 l4 g9 g10 ok0 ok1 ok (tok.1 s hs).1 (fun b1 => absurd a1 b1) (fun _ b2 => absurd a2 b2) (fun _ _ b3 => absurd b3 a3) (fun _ _ _ b4 => absurd b4 a4) (fun _ _ _ _ tp h o f d t => ⟨rfl, ?_⟩)
          have ht : (c = 2 ∨ c = 6 ∨ c = 7) → od_h (tk_st (tk s) (n s) (tk_hg (tk s) (n s) - tk_ar c)) = false := fun w => by
            cases z : od_h (tk_st (tk s) (n s) (tk_hg (tk s) (n s) - tk_ar c))
            · rfl
            · exact absurd ⟨w, z⟩ a3
          have hm : 16 ≤ c → tk_ac (tk 0) (n 0) + tk_ac (tk 1) (n 1) < m := fun w => by
            apply Classical.byContradiction
            intro z
            exact a4 ⟨w, by omega⟩
          exact ⟨T, A, Lm, m, N, cnt, tk_p tk n s c, _, e, lim0, rt_put tok l4 hs a1 a2 hc ht hm, rb_cut blt (fun t ht => ⟨if_neg ht, if_neg ht⟩), ent, Or.inl ⟨rfl, rfl, rfl⟩⟩
      · have yp := fun {r : Int32} {u' : SX} => y_putc (post := fun r' v' => r' = r ∧ i_Rel (k + 3) u' v') (s := s) (c := c) (f_t := f_t) (f_a := f_a) (f_l := f_l) (f_m := f_m) (f_n := f_n) (f_count := f_count) (f_known := f_known) (f_mode := f_mode) (f_wlen := f_wlen) (f_wside := f_wside) (f_top := f_top) (a_tok := a_tok) (a_len := a_len) (a_str := a_str) (a_wit := a_wit) (a_has := a_has) (a_one := a_one) (a_first := a_first) (a_done := a_done) (a_next := a_next) (a_ls := a_ls) (a_rs := a_rs) (a_from := a_from) (a_byAtom := a_byAtom) (a_byAction := a_byAction) (a_depth := a_depth) hs l1 l3 g7 g8 hc31
        unfold wpX_put
        dsimp only
        exact x_side hs (br_f (by decide) (x_isCode l1 l3 g1 g2 hc31 (fun w => absurd w hc) (fun _ => br_t rfl (yp (fun w => absurd w hc) (fun _ => ⟨rfl, R0⟩)))))
  · unfold wpX_put wpY_put
    dsimp only
    exact x_noside h0 h1 (br_t rfl (y_noside h0 h1 (br_f (by decide) ⟨rfl, R⟩)))
end
section
/-! ===== accepts, distance ===== -/
theorem au_in_trim {o : Od} {N c A : Nat} {lb : Nat → Nat} (hB : od_B c o) (hc : c ≤ 8) (hA : 0 < A) (w : List Nat) (hw : ∀ l, l ∈ w → l < N * A) (j : Nat) :
    au_in o N (wd_r (au_T o lb N A) au_s0 w) j = au_in o N (wd_r (au_F o lb A) au_s0 w) j := by
  apply bo_iff
  rw [au_in_iff, au_in_iff]
  constructor
  · rintro ⟨a, ha, h1, h2⟩
    rw [au_trim hB hc hA w hw, Bool.and_eq_true] at h1
    exact ⟨a, ha, h1.1, h2⟩
  · rintro ⟨a, ha, h1, h2⟩
    refine ⟨a, ha, ?_, h2⟩
    rw [au_trim hB hc hA w hw, h1, au_live_of hB hc h2]; rfl
theorem au_in_go {o : Od} {N c A : Nat} {lb : Nat → Nat} (hB : od_B c o) (hc : c ≤ 8) (hA : 0 < A) (w : List Nat) (hw : ∀ l, l ∈ w → l < N * A) {x : Nat} (hx : x < N) (j : Nat) :
    au_in o N (fun q => au_go o (wd_r (au_T o lb N A) au_s0 w) x q && au_live o N q) j = au_in o N (au_go o (wd_r (au_F o lb A) au_s0 w) x) j := by
  apply bo_iff
  rw [au_in_iff, au_in_iff]
  constructor
  · rintro ⟨q, hq, h1, h2⟩
    rw [Bool.and_eq_true] at h1
    obtain ⟨a, ha, e1, e2⟩ := au_go_iff.mp h1.1
    rw [au_trim hB hc hA w hw, Bool.and_eq_true] at e1
    exact ⟨q, hq, au_go_iff.mpr ⟨a, ha, e1.1, e2⟩, h2⟩
  · rintro ⟨q, hq, h1, h2⟩
    obtain ⟨a, ha, e1, e2⟩ := au_go_iff.mp h1
    have lq := au_live_of hB hc h2
    refine ⟨q, hq, ?_, h2⟩
    rw [lq, au_go_iff.mpr ⟨a, ha, by rw [au_trim hB hc hA w hw, e1, au_live_nx hB hc hx e2 lq]; rfl, e2⟩]; rfl
/-- a least distance is within the count -/
theorem au_in_c {o : Od} {N c : Nat} (hB : od_B c o) (hc : c ≤ 8) {S : Nat → Bool} {j : Nat} (h : au_in o N S j = true) : au_in o N S c = true := by
  obtain ⟨a, ha, e1, e2⟩ := au_in_iff.mp h
  exact au_in_iff.mpr ⟨a, ha, e1, au_stab8 hB hc e2⟩
theorem au_in_c1 {o : Od} {N c : Nat} (hB : od_B c o) (hc : c ≤ 8) {S : Nat → Bool} (hS : ∀ a, S a = true → a < c) {j : Nat} (h : au_in o N S j = true) : au_in o N S (c - 1) = true ∧ 0 < c := by
  obtain ⟨a, ha, e1, e2⟩ := au_in_iff.mp h
  have := hS a e1
  exact ⟨au_in_iff.mpr ⟨a, ha, e1, au_stab hB hc j a this e2⟩, by omega⟩
section
variable {T A Lm m N s : Nat} {tk : Nat → Nat → Nat} {n : Nat → Nat} {cnt : Nat} {e : Nat → Nat}
variable {f_testCount f_actionCount f_tokenLimit f_occurrenceLimit f_atomCount f_allAtoms f_enteredSize f_nodeCount f_hasResult f_resultMode f_resultVerdict f_witnessSize f_witnessOwner : Int32} {a_size a_list a_begin a_heightAfter a_actionsAfter a_entered a_built a_states a_follow a_accepting a_need a_labelled a_opAtoms a_opFirst a_opLast a_nodeSet a_nodeParent a_nodeAtom a_nodeAction a_nodeDepth a_witness : Nat → Int32}
theorem x_isReady {post : Int32 → Prop} {a_tok a_len : Nat → Int32} (hL : Lm ≤ 32) (hs : s < 2) (H : rl_sd T A Lm s (tk s) (n s) a_size a_list a_begin a_heightAfter a_actionsAfter a_tok a_len) (P1 : tk_hg (tk s) (n s) = 1 → post 1) (P0 : ¬ tk_hg (tk s) (n s) = 1 → post 0) : wpX_isReady post (f_testCount, f_actionCount, f_tokenLimit, f_occurrenceLimit, f_atomCount, f_allAtoms, f_enteredSize, f_nodeCount, f_hasResult, f_resultMode, f_resultVerdict, f_witnessSize, f_witnessOwner, a_size, a_list, a_begin, a_heightAfter, a_actionsAfter, a_entered, a_built, a_states, a_follow, a_accepting, a_need, a_labelled, a_opAtoms, a_opFirst, a_opLast, a_nodeSet, a_nodeParent, a_nodeAtom, a_nodeAction, a_nodeDepth, a_witness) (nI s) := by
  unfold wpX_isReady
  dsimp only
  have := tk_hg_le (tk s) (n s)
  have := H.1
  exact x_heightOf hL hs H (pk_eq (tk_hg (tk s) (n s)) 1 P1 P0)
theorem rb_build {bu st fo ac ne la : Nat → Int32} (hN : N ≤ 4) (hs : s < 2) (h8 : tk_ac (tk 0) (n 0) + tk_ac (tk 1) (n 1) ≤ 8) (H : rl_blt N tk n a_built a_states a_follow a_accepting a_need a_labelled) (b1 : bu s = b01 true) (b2 : ∀ j, j ≠ s → bu j = a_built j)
    (h : at_ok N s (tk_st (tk s) (n s) 0) (tk_lb (tk s) (n s)) (tk_ac (tk s) (n s)) st fo ac ne la) (F : at_fr s (tk_ac (tk s) (n s)) a_states a_follow a_accepting a_need a_labelled st fo ac ne la) : rl_blt N tk n bu st fo ac ne la := by
  intro t ht
  by_cases z : t = s
  · subst z; exact ⟨true, b1, fun _ => h⟩
  · obtain ⟨bl, c1, c2⟩ := H t ht
    refine ⟨bl, by rw [b2 t z]; exact c1, fun w => at_keep hs ht z ?_ hN F (c2 w)⟩
    have : (s = 0 ∧ t = 1) ∨ (s = 1 ∧ t = 0) := by omega
    rcases this with ⟨rfl, rfl⟩ | ⟨rfl, rfl⟩ <;> omega
end
theorem i_vc_accepts {k : Nat} {u : SX} {v : SY} (I : i_Rel k u v) (hk : k + 3 ≤ 1540) (v1 : Int32) : wpX_accepts (fun r u' => wpY_accepts (fun r' v' => r' = r ∧ i_Rel (k + 3) u' v') v v1) u v1 := by
  refine zz_el (P := fun u v => wpX_accepts (fun r u' => wpY_accepts (fun r' v' => r' = r ∧ i_Rel (k + 3) u' v') v v1) u v1) ?_ I
  intro f_testCount f_actionCount f_tokenLimit f_occurrenceLimit f_atomCount f_allAtoms f_enteredSize f_nodeCount f_hasResult f_resultMode f_resultVerdict f_witnessSize f_witnessOwner a_size a_list a_begin a_heightAfter a_actionsAfter a_entered a_built a_states a_follow a_accepting a_need a_labelled a_opAtoms a_opFirst a_opLast a_nodeSet a_nodeParent a_nodeAtom a_nodeAction a_nodeDepth a_witness f_t f_a f_l f_m f_n f_count f_known f_mode f_wlen f_wside f_top a_tok a_len a_str a_wit a_has a_one a_first a_done a_next a_ls a_rs a_from a_byAtom a_byAction a_depth R
  rcases sd_c v1 with ⟨s, hs, rfl⟩ | ⟨h0, h1⟩
  · have R0 := R
    obtain ⟨T, A, Lm, m, N, cnt, tk, n, e, lim, tok, blt, ⟨rfl, rfl, en1, en2⟩, res⟩ := R
    have ok := rt_yr lim tok hs
    have xo := rt_xo lim tok hs
    have lim0 := lim
    obtain ⟨l1, l2, l3, l4, l5, l6, l7, g1, g2, g3, g4, g5, g6, g7, g8, g9, g10, g11⟩ := lim
    have sd := tok.1 s hs
    have hcnt := en1.1
    have h8 := rt_ac tok l5 hs
    have hB := tk_B (tk s) (n s) 0
    have R1 : ∀ tp h o f d t, i_Rel (k + 3) (f_testCount, f_actionCount, f_tokenLimit, f_occurrenceLimit, f_atomCount, f_allAtoms, nI cnt, f_nodeCount, f_hasResult, f_resultMode, f_resultVerdict, f_witnessSize, f_witnessOwner, a_size, a_list, a_begin, a_heightAfter, a_actionsAfter, a_entered, a_built, a_states, a_follow, a_accepting, a_need, a_labelled, a_opAtoms, a_opFirst, a_opLast, a_nodeSet, a_nodeParent, a_nodeAtom, a_nodeAction, a_nodeDepth, a_witness) (f_t, f_a, f_l, f_m, f_n, nI cnt, f_known, f_mode, f_wlen, f_wside, tp, a_tok, a_len, a_str, a_wit, h, o, f, d, t, a_ls, a_rs, a_from, a_byAtom, a_byAction, a_depth) := fun tp h o f d t => ⟨T, A, Lm, m, N, cnt, tk, n, e, lim0, tok, blt, ⟨rfl, rfl, en1, en2⟩, res⟩
    unfold wpX_accepts
    dsimp only
    have ea : nI cnt &&& 1 = nI (cnt % 2) := pk_andN (by omega) 1 (by decide)
    have er : nI cnt - nI cnt / 2 * 2 = nI (cnt % 2) := pk_rem (d := 2) (by omega) (by omega) (by omega)
    have em : nI cnt - 1 = nI (cnt - 1) ∨ cnt = 0 := by
      by_cases z : cnt = 0
      · exact Or.inr z
      · exact Or.inl (pk_sub (b := 1) (by omega))
    rw [ea]
    refine x_side hs (br_f (by decide) (x_isReady l4 hs sd (fun rd => br_f (by decide) (pk_eq (cnt % 2) 0 (fun ev => ?_) (fun od => ?_))) (fun nr => br_t rfl ?_)))
    · unfold wpY_accepts
      dsimp only
      refine y_side hs (br_t rfl (y_height ok (fun h o f d t _ => ?_)))
      rw [rd]
      refine br_t rfl ⟨by decide, ?_⟩
      rw [er, ev]
      exact br_t rfl ⟨rfl, R1 _ _ _ _ _ _⟩
    · obtain ⟨bl, b1, b2⟩ := blt s hs
      refine x_build (post := _) (N := N) xo sd.2.1 rd l7 g5 g6 b1 b2 (fun bu st fo ac ne la oA oF oL c1 c2 AT FR => ?_)
      have hw := ew_lt en1 (cnt / 2) (by omega)
      refine x_after hs l7 l3 en1 rfl ?_
      rw [xr_run AT hs h8 hB l2 l3 _ hw]
      have own := xr_own (lb := tk_lb (tk s) (n s)) (N := N) (A := A) hB (ew A e (cnt / 2))
      refine x_accA ?_
      rw [xr_ac AT hs own]
      have em' : nI cnt - 1 = nI (cnt - 1) := pk_sub (b := 1) (by omega)
      have E1 := en_at en1 (k := cnt / 2) (by omega)
      rw [show 2 * (cnt / 2) = cnt - 1 by omega] at E1
      rw [em']
      refine ⟨vp_in_nI (by omega) (by decide), nm_r (e' := nI (e (cnt - 1))) (by rw [nI_clamp (by omega)]; exact E1.1) ?_⟩
      have bq : bt (zA N (au_end (tk_st (tk s) (n s) 0) (wd_r (au_T (tk_st (tk s) (n s) 0) (tk_lb (tk s) (n s)) N A) au_s0 (ew A e (cnt / 2))))) (e (cnt - 1)) = au_end (tk_st (tk s) (n s) 0) (wd_r (au_F (tk_st (tk s) (n s) 0) (tk_lb (tk s) (n s)) A) au_s0 (ew A e (cnt / 2))) (e (cnt - 1)) := by
        rw [zA_at l7 E1.2, au_trim_end hB h8 l2 _ hw E1.2]
      have RR : ∀ tp h o f d t, i_Rel (k + 3) (f_testCount, f_actionCount, f_tokenLimit, f_occurrenceLimit, f_atomCount, f_allAtoms, nI cnt, f_nodeCount, f_hasResult, f_resultMode, f_resultVerdict, f_witnessSize, f_witnessOwner, a_size, a_list, a_begin, a_heightAfter, a_actionsAfter, a_entered, bu, st, fo, ac, ne, la, oA, oF, oL, a_nodeSet, a_nodeParent, a_nodeAtom, a_nodeAction, a_nodeDepth, a_witness) (f_t, f_a, f_l, f_m, f_n, nI cnt, f_known, f_mode, f_wlen, f_wside, tp, a_tok, a_len, a_str, a_wit, h, o, f, d, t, a_ls, a_rs, a_from, a_byAtom, a_byAction, a_depth) :=
        fun tp h o f d t => ⟨T, A, Lm, m, N, cnt, tk, n, e, lim0, tok, rb_build l7 hs (by have := tok.2; omega) blt c1 c2 AT FR, ⟨rfl, rfl, en1, en2⟩, res⟩
      refine zk_br (e (cnt - 1)) (by omega) (fun z => ?_) (fun z => ?_)
      · rw [bq] at z
        refine y_accepts ok rd l7 en2 rfl (by omega) (fun tp h o f d t => ⟨?_, RR tp h o f d t⟩)
        rw [z]; rfl
      · rw [bq] at z
        refine y_accepts ok rd l7 en2 rfl (by omega) (fun tp h o f d t => ⟨?_, RR tp h o f d t⟩)
        rw [z]; rfl
    · unfold wpY_accepts
      dsimp only
      have := tk_hg_le (tk s) (n s)
      have := sd.1
      refine y_side hs (br_t rfl (y_height ok (fun h o f d t _ => br_f (fun w => nr ((nI_eq (by omega) (by omega)).mp w)) ⟨rfl, R1 _ _ _ _ _ _⟩)))
  · unfold wpX_accepts wpY_accepts
    dsimp only
    exact x_noside h0 h1 (br_t rfl (y_noside h0 h1 (br_f (by decide) ⟨rfl, R⟩)))
end
section
theorem i_vc_distance {k : Nat} {u : SX} {v : SY} (I : i_Rel k u v) (hk : k + 3 ≤ 1540) (v1 : Int32) : wpX_distance (fun r u' => wpY_distance (fun r' v' => r' = r ∧ i_Rel (k + 3) u' v') v v1) u v1 := by
  refine zz_el (P := fun u v => wpX_distance (fun r u' => wpY_distance (fun r' v' => r' = r ∧ i_Rel (k + 3) u' v') v v1) u v1) ?_ I
  intro f_testCount f_actionCount f_tokenLimit f_occurrenceLimit f_atomCount f_allAtoms f_enteredSize f_nodeCount f_hasResult f_resultMode f_resultVerdict f_witnessSize f_witnessOwner a_size a_list a_begin a_heightAfter a_actionsAfter a_entered a_built a_states a_follow a_accepting a_need a_labelled a_opAtoms a_opFirst a_opLast a_nodeSet a_nodeParent a_nodeAtom a_nodeAction a_nodeDepth a_witness f_t f_a f_l f_m f_n f_count f_known f_mode f_wlen f_wside f_top a_tok a_len a_str a_wit a_has a_one a_first a_done a_next a_ls a_rs a_from a_byAtom a_byAction a_depth R
  rcases sd_c v1 with ⟨s, hs, rfl⟩ | ⟨h0, h1⟩
  · obtain ⟨T, A, Lm, m, N, cnt, tk, n, e, lim, tok, blt, ⟨rfl, rfl, en1, en2⟩, res⟩ := R
    have ok := rt_yr lim tok hs
    have xo := rt_xo lim tok hs
    have lim0 := lim
    obtain ⟨l1, l2, l3, l4, l5, l6, l7, g1, g2, g3, g4, g5, g6, g7, g8, g9, g10, g11⟩ := lim
    have sd := tok.1 s hs
    have hcnt := en1.1
    have h8 := rt_ac tok l5 hs
    have hcm : tk_ac (tk s) (n s) ≤ m := by
      have := tok.2
      have : s = 0 ∨ s = 1 := by omega
      rcases this with rfl | rfl <;> omega
    have hB := tk_B (tk s) (n s) 0
    unfold wpX_distance
    dsimp only
    have ea : nI cnt &&& 1 = nI (cnt % 2) := pk_andN (by omega) 1 (by decide)
    refine x_side hs (br_f (by decide) (x_isReady l4 hs sd (fun rd => br_f (by decide) ?_) (fun nr => br_t rfl ?_)))
    · obtain ⟨bl, b1, b2⟩ := blt s hs
      refine x_build (post := _) (N := N) xo sd.2.1 rd l7 g5 g6 b1 b2 (fun bu st fo ac ne la oA oF oL c1 c2 AT FR => ?_)
      have RR : ∀ tp h o f d t, i_Rel (k + 3) (f_testCount, f_actionCount, f_tokenLimit, f_occurrenceLimit, f_atomCount, f_allAtoms, nI cnt, f_nodeCount, f_hasResult, f_resultMode, f_resultVerdict, f_witnessSize, f_witnessOwner, a_size, a_list, a_begin, a_heightAfter, a_actionsAfter, a_entered, bu, st, fo, ac, ne, la, oA, oF, oL, a_nodeSet, a_nodeParent, a_nodeAtom, a_nodeAction, a_nodeDepth, a_witness) (f_t, f_a, f_l, f_m, f_n, nI cnt, f_known, f_mode, f_wlen, f_wside, tp, a_tok, a_len, a_str, a_wit, h, o, f, d, t, a_ls, a_rs, a_from, a_byAtom, a_byAction, a_depth) :=
        fun tp h o f d t => ⟨T, A, Lm, m, N, cnt, tk, n, e, lim0, tok, rb_build l7 hs (by have := tok.2; omega) blt c1 c2 AT FR, ⟨rfl, rfl, en1, en2⟩, res⟩
      have hw := ew_lt en1 (cnt / 2) (by omega)
      refine x_after hs l7 l3 en1 rfl ?_
      rw [xr_run AT hs h8 hB l2 l3 _ hw]
      have own := xr_own (lb := tk_lb (tk s) (n s)) (N := N) (A := A) hB (ew A e (cnt / 2))
      have trim := au_in_trim (lb := tk_lb (tk s) (n s)) (N := N) hB h8 l2 (ew A e (cnt / 2)) hw
      rw [ea]
      refine pk_eq (cnt % 2) 0 (fun ev => ?_) (fun od => ?_)
      · refine x_least (xr_ne AT hs own) (fun r Rr => ?_)
        rcases xr_ls AT hs h8 hB own Rr with ⟨q1, q2⟩ | ⟨j, q1, q2, q3, q4⟩
        · refine y_distance ok rd l7 (by omega) g11 g10 rfl en2 (fun _ i hi w _ => ?_) (fun _ _ tp h o f d t => ⟨q1.symm, RR tp h o f d t⟩) (fun w => by omega) (fun w => by omega) (fun w => by omega)
          rw [← trim i, q2 i] at w; cases w
        · rw [trim j] at q3
          have jm : j ≤ tk_ac (tk s) (n s) := by
            apply Classical.byContradiction
            intro w
            have := q4 (tk_ac (tk s) (n s)) (by omega)
            rw [trim, au_in_c hB h8 q3] at this; cases this
          refine y_distance ok rd l7 (by omega) g11 g10 rfl en2 (fun _ i hi w w2 tp h o f d t => ⟨?_, RR tp h o f d t⟩) (fun _ w => ?_) (fun w => by omega) (fun w => by omega) (fun w => by omega)
          · rw [q2]
            congr 1
            rcases Nat.lt_trichotomy i j with y | y | y
            · have := q4 i y
              rw [trim i, w] at this; cases this
            · exact y
            · have := w2 j y
              rw [q3] at this; cases this
          · rw [w j (by omega)] at q3; cases q3
      · have em' : nI cnt - 1 = nI (cnt - 1) := pk_sub (b := 1) (by omega)
        have E1 := en_at en1 (k := cnt / 2) (by omega)
        rw [show 2 * (cnt / 2) = cnt - 1 by omega] at E1
        rw [em']
        refine ⟨vp_in_nI (by omega) (by decide), nm_r (e' := nI (e (cnt - 1))) (by rw [nI_clamp (by omega)]; exact E1.1) (x_accA ?_)⟩
        rw [xr_ac AT hs own]
        have bq : bt (zA N (au_end (tk_st (tk s) (n s) 0) (wd_r (au_T (tk_st (tk s) (n s) 0) (tk_lb (tk s) (n s)) N A) au_s0 (ew A e (cnt / 2))))) (e (cnt - 1)) = au_end (tk_st (tk s) (n s) 0) (wd_r (au_F (tk_st (tk s) (n s) 0) (tk_lb (tk s) (n s)) A) au_s0 (ew A e (cnt / 2))) (e (cnt - 1)) := by
          rw [zA_at l7 E1.2, au_trim_end hB h8 l2 _ hw E1.2]
        refine zk_br (e (cnt - 1)) (by omega) (fun z => ?_) (fun z => ?_)
        · rw [bq] at z
          refine x_succ (by omega) ?_
          rw [xr_sc AT hs h8 own E1.2]
          have own2 : ∀ q, (au_go (tk_st (tk s) (n s) 0) (wd_r (au_T (tk_st (tk s) (n s) 0) (tk_lb (tk s) (n s)) N A) au_s0 (ew A e (cnt / 2))) (e (cnt - 1)) q && au_live (tk_st (tk s) (n s) 0) N q) = true → q < tk_ac (tk s) (n s) ∨ q = 8 := by
            intro q hq
            rw [Bool.and_eq_true] at hq
            obtain ⟨a, _, _, h⟩ := au_go_iff.mp hq.1
            exact Or.inl (au_nx_b hB h)
          have gob : ∀ q, au_go (tk_st (tk s) (n s) 0) (wd_r (au_F (tk_st (tk s) (n s) 0) (tk_lb (tk s) (n s)) A) au_s0 (ew A e (cnt / 2))) (e (cnt - 1)) q = true → q < tk_ac (tk s) (n s) := by
            intro q hq
            obtain ⟨a, _, _, h⟩ := au_go_iff.mp hq
            exact au_nx_b hB h
          have trim2 := au_in_go (lb := tk_lb (tk s) (n s)) hB h8 l2 (ew A e (cnt / 2)) hw E1.2
          refine x_least (xr_ne AT hs own2) (fun r Rr => ?_)
          rcases xr_ls AT hs h8 hB own2 Rr with ⟨q1, q2⟩ | ⟨j, q1, q2, q3, q4⟩
          · refine br_t q1 ?_
            refine y_distance ok rd l7 (by omega) g11 g10 rfl en2 (fun w => absurd w od) (fun w => absurd w od) (fun _ w => ?_) (fun _ _ i hi w _ => ?_) (fun _ _ _ tp h o f d t => ⟨rfl, RR tp h o f d t⟩)
            · rw [z] at w; cases w
            · rw [← trim2 i, q2 i] at w; cases w
          · rw [trim2 j] at q3
            have c1' := au_in_c1 hB h8 gob q3
            have jm : j ≤ tk_ac (tk s) (n s) - 1 := by
              apply Classical.byContradiction
              intro w
              have := q4 (tk_ac (tk s) (n s) - 1) (by omega)
              rw [trim2, c1'.1] at this; cases this
            have ne11 : ¬ r = -11 := by
              rw [q2]
              intro w
              have : (0 : Int32) ≤ nI j := nI_pos' (by omega)
              rw [w] at this
              exact absurd this (by decide)
            refine br_f ne11 ?_
            refine y_distance ok rd l7 (by omega) g11 g10 rfl en2 (fun w => absurd w od) (fun w => absurd w od) (fun _ w => ?_) (fun _ _ i hi w w2 tp h o f d t => ⟨?_, RR tp h o f d t⟩) (fun _ _ w => ?_)
            · rw [z] at w; cases w
            · have ij : i = j := by
                rcases Nat.lt_trichotomy i j with y | y | y
                · have := q4 i y
                  rw [trim2 i, w] at this; cases this
                · exact y
                · have := w2 j y
                  rw [q3] at this; cases this
              rw [q2, nI_1, ij, Nat.add_comm]
            · rw [w j (by omega)] at q3; cases q3
        · rw [bq] at z
          refine y_distance ok rd l7 (by omega) g11 g10 rfl en2 (fun w => absurd w od) (fun w => absurd w od) (fun _ _ tp h o f d t => ⟨rfl, RR tp h o f d t⟩) (fun _ w => ?_) (fun _ w => ?_)
          · rw [z] at w; cases w
          · rw [z] at w; cases w
    · unfold wpY_distance
      dsimp only
      have := tk_hg_le (tk s) (n s)
      have := sd.1
      refine y_side hs (br_t rfl (y_height ok (fun h o f d t _ => br_f (fun w => nr ((nI_eq (by omega) (by omega)).mp w)) ⟨rfl, ?_⟩)))
      exact ⟨T, A, Lm, m, N, cnt, tk, n, e, lim0, tok, blt, ⟨rfl, rfl, en1, en2⟩, res⟩
  · unfold wpX_distance wpY_distance
    dsimp only
    exact x_noside h0 h1 (br_t rfl (y_noside h0 h1 (br_f (by decide) ⟨rfl, R⟩)))
end
section
/-! ===== compare ===== -/
theorem i_vc_compare {k : Nat} {u : SX} {v : SY} (I : i_Rel k u v) (hk : k + 3 ≤ 1540) (v1 : Int32) : wpX_compare (fun r u' => wpY_compare (fun r' v' => r' = r ∧ i_Rel (k + 3) u' v') v v1) u v1 := by
  refine zz_el (P := fun u v => wpX_compare (fun r u' => wpY_compare (fun r' v' => r' = r ∧ i_Rel (k + 3) u' v') v v1) u v1) ?_ I
  intro f_testCount f_actionCount f_tokenLimit f_occurrenceLimit f_atomCount f_allAtoms f_enteredSize f_nodeCount f_hasResult f_resultMode f_resultVerdict f_witnessSize f_witnessOwner a_size a_list a_begin a_heightAfter a_actionsAfter a_entered a_built a_states a_follow a_accepting a_need a_labelled a_opAtoms a_opFirst a_opLast a_nodeSet a_nodeParent a_nodeAtom a_nodeAction a_nodeDepth a_witness f_t f_a f_l f_m f_n f_count f_known f_mode f_wlen f_wside f_top a_tok a_len a_str a_wit a_has a_one a_first a_done a_next a_ls a_rs a_from a_byAtom a_byAction a_depth R
  have R0 := R
  unfold wpX_compare
  dsimp only
  refine br_c (fun hneg => ?_) (fun hneg => ?_)
  · unfold wpY_compare
    dsimp only
    exact br_t hneg ⟨rfl, R0⟩
  obtain ⟨mode, hm31, rfl⟩ := nI_of hneg
  refine pk_le mode 2 (fun hm => ?_) (fun hm => ?_)
  rotate_left
  · unfold wpY_compare
    dsimp only
    exact br_f hneg (br_f (nI_ge (a := 2) hm hm31) ⟨rfl, R0⟩)
  obtain ⟨T, A, Lm, m, N, cnt, tk, n, e, lim, tok, blt, ent, res⟩ := R
  have ok0 := rt_yr lim tok (show 0 < 2 by omega)
  have ok1 := rt_yr lim tok (show 1 < 2 by omega)
  have xo0 := rt_xo lim tok (show 0 < 2 by omega)
  have xo1 := rt_xo lim tok (show 1 < 2 by omega)
  have lim0 := lim
  obtain ⟨l1, l2, l3, l4, l5, l6, l7, g1, g2, g3, g4, g5, g6, g7, g8, g9, g10, g11⟩ := lim
  have s0 := tok.1 0 (by omega)
  have s1 := tok.1 1 (by omega)
  have h8 : tk_ac (tk 0) (n 0) + tk_ac (tk 1) (n 1) ≤ 8 := by have := tok.2; omega
  have R1 : ∀ tp h o f d t, i_Rel (k + 3) (f_testCount, f_actionCount, f_tokenLimit, f_occurrenceLimit, f_atomCount, f_allAtoms, f_enteredSize, f_nodeCount, f_hasResult, f_resultMode, f_resultVerdict, f_witnessSize, f_witnessOwner, a_size, a_list, a_begin, a_heightAfter, a_actionsAfter, a_entered, a_built, a_states, a_follow, a_accepting, a_need, a_labelled, a_opAtoms, a_opFirst, a_opLast, a_nodeSet, a_nodeParent, a_nodeAtom, a_nodeAction, a_nodeDepth, a_witness) (f_t, f_a, f_l, f_m, f_n, f_count, f_known, f_mode, f_wlen, f_wside, tp, a_tok, a_len, a_str, a_wit, h, o, f, d, t, a_ls, a_rs, a_from, a_byAtom, a_byAction, a_depth) := fun tp h o f d t => ⟨T, A, Lm, m, N, cnt, tk, n, e, lim0, tok, blt, ent, res⟩
  have hg0 := tk_hg_le (tk 0) (n 0)
  have hg1 := tk_hg_le (tk 1) (n 1)
  have n0 := s0.1
  have n1 := s1.1
  refine x_isReady (s := 0) l4 (by omega) s0 (fun rd0 => br_f (by decide) (x_isReady (s := 1) l4 (by omega) s1 (fun rd1 => br_f (by decide) ?_) (fun nr => br_t rfl ?_))) (fun nr => br_t rfl ?_)
  · obtain ⟨bl0, b1, b2⟩ := blt 0 (by omega)
    refine x_build (s := 0) (N := N) xo0 s0.2.1 rd0 l7 g5 g6 b1 b2 (fun bu st fo ac ne la oA oF oL c1 c2 AT FR => ?_)
    dsimp only
    have blt1 := rb_build l7 (show 0 < 2 by omega) h8 blt c1 c2 AT FR
    obtain ⟨bl1, b3, b4⟩ := blt1 1 (by omega)
    refine x_build (s := 1) (N := N) xo1 s1.2.1 rd1 l7 g5 g6 b3 b4 (fun bu st fo ac ne la oA oF oL c1 c2 HR FR => ?_)
    dsimp only
    have blt2 := rb_build l7 (show 1 < 2 by omega) h8 blt1 c1 c2 HR FR
    have HL := at_keep (s := 1) (t := 0) (by omega) (by omega) (by omega) (by omega) l7 FR AT
    have bL := tk_B (tk 0) (n 0) 0
    have bR := tk_B (tk 1) (n 1) 0
    have TB := tb_of HL HR h8 bL bR
    have LR := lr_of HL HR
    have hK : 0 < N * A := Nat.mul_pos l6 l2
    have fl := fun w hw => fl_fa (mode := mode) HL HR h8 bL bR l2 l3 l7 w hw
    have yok : yq_ok T A tk n a_tok a_len := ⟨ok0, ok1, rd0, rd1, h8⟩
    refine x_search hm TB LR l6 l7 l2 l3 g2 g5 (fun fc ns np nt nc nd none => ?_) (fun i c cn wd pa lt ns np nt nc nd hic hc BI XS fails => ?_)
    · dsimp only
      refine br_f (by decide) ?_
      refine y_compare yok hm l2 l6 l7 g8 g11 (fun i x c cn wd pa lt ls rs fr bA bC dp wit tp h o f d t hx hi BI hf _ _ _ => ?_) (fun ls rs fr bA bC dp tp h o f d t _ => ⟨rfl, ?_⟩)
      · have hw := bf_let BI i hi
        exact absurd ((fl (wd i) hw).mpr ⟨x, hx, hf⟩) (none (wd i) hw)
      · exact ⟨T, A, Lm, m, N, cnt, tk, n, e, lim0, tok, blt2, ent, Or.inr ⟨rfl, rfl, rfl, Or.inl ⟨rfl, rfl⟩⟩⟩
    · dsimp only
      refine br_t (nI_pos' (by omega)) ?_
      have hw := bf_let BI i hic
      have hlen := bf_len BI i hic
      refine x_record hm l6 l7 g5 hc hic BI XS (fun at_ wit LA W1 W2 => ?_)
      dsimp only
      have en : ns i = wd_r (x_st fo la A) 768 (wd i) := (XS.1 i hic).1
      rw [en] at LA
      obtain ⟨x0, hx0, f0⟩ := (fl (wd i) hw).mp fails
      have bits : ∀ x, x < N → bt (xd ac (st 0) (st 1) mode (wd_r (x_st fo la A) 768 (wd i))) x = fw mode A tk n (wd i) x := by
        intro x hx
        rw [xd_fa HL HR h8 bL bR l2 l3 l7 (wd i) hw (by omega), decide_eq_true hx]; rfl
      obtain ⟨a1, a2, a3⟩ := LA.2 ⟨x0, Nat.zero_le _, hx0, by rw [bits x0 hx0]; exact f0⟩
      rw [bits at_ a1] at a2
      refine y_compare yok hm l2 l6 l7 g8 g11 (fun i' x c' cn' wd' pa' lt' ls rs fr bA bC dp wit' tp h o f d t hx hi' BI' hf hlt V1 V2 => ?_) (fun ls rs fr bA bC dp tp h o f d t none => ?_)
      · have hw' := bf_let BI' i' hi'
        have q1 := bf_fail BI hK hic (wd' i') hw' ((fl (wd' i') hw').mpr ⟨x, hx, hf⟩)
        have q2 := bf_fail BI' hK hi' (wd i) hw (yfl_iff.mpr ⟨at_, a1, a2⟩)
        have ew := wd_c_inj (wd i) (wd' i') hw hw' (by omega)
        rw [← ew] at hf hlt V1 V2 ⊢
        have ex : at_ = x := by
          rcases Nat.lt_trichotomy at_ x with y | y | y
          · rw [hlt at_ y] at a2; cases a2
          · exact y
          · have := a3 x (Nat.zero_le _) y
            rw [bits x hx, hf] at this; cases this
        subst ex
        refine ⟨rfl, T, A, Lm, m, N, cnt, tk, n, e, lim0, tok, blt2, ent, Or.inr ⟨rfl, rfl, rfl, Or.inr ⟨rfl, ?_, (wd i).length, fun j => if j = 2 * (wd i).length then at_ else ws_v A (wd i) j, by omega, rfl, rfl, fun j hj => ?_⟩⟩⟩
        · rw [en, (xa_both HL HR h8 bL bR l2 l3 (wd i) hw).1, zA_at l7 a1]; rfl
        · show wit j = nI (if j = 2 * (wd i).length then at_ else ws_v A (wd i) j) ∧ wit' j = nI (if j = 2 * (wd i).length then at_ else ws_v A (wd i) j) ∧ (if j = 2 * (wd i).length then at_ else ws_v A (wd i) j) < _
          by_cases z : j = 2 * (wd i).length
          · rw [if_pos z, if_pos (by omega), z]
            exact ⟨W2, V2, a1⟩
          · rw [if_neg z]
            have v1 := ws_val l2 (wd i) hw W1 j (by omega)
            have v2 := ws_val l2 (wd i) hw V1 j (by omega)
            exact ⟨v1.1, v2.1, v1.2⟩
      · rw [none (wd i) hw at_ a1] at a2; cases a2
  · unfold wpY_compare
    dsimp only
    refine br_f hneg (br_t (nI_le (b := 2) hm (by decide)) (y_height (s := 0) ok0 (fun h o f d t _ => br_t (by rw [rd0]; rfl) (y_height (s := 1) ok1 (fun h o f d t _ => br_f (fun w => nr ((nI_eq (b := 1) (by omega) (by omega)).mp w)) ⟨rfl, R1 _ _ _ _ _ _⟩)))))
  · unfold wpY_compare
    dsimp only
    refine br_f hneg (br_t (nI_le (b := 2) hm (by decide)) (y_height (s := 0) ok0 (fun h o f d t _ => br_f (fun w => nr ((nI_eq (b := 1) (by omega) (by omega)).mp w)) ⟨rfl, R1 _ _ _ _ _ _⟩)))
end
