section
/-! pure rows to paste: stores, nI and lN arithmetic, masks, shifts, narrowing, branches by naturals (pk_le, pk_lt, pk_eq), loops (lp1 .. lp16: the measure of the state; rp1 ..: recursion), negatives. Take what you need -/
theorem pk_us {f : Nat → Int32} {k : Nat} {x : Int32} : upd f k x k = x := if_pos rfl
theorem pk_un {f : Nat → Int32} {k j : Nat} {x : Int32} (h : j ≠ k) : upd f k x j = f j := if_neg h
theorem pk_uLs {f : Nat → Int64} {k : Nat} {x : Int64} : vp_updL f k x k = x := if_pos rfl
theorem pk_uLn {f : Nat → Int64} {k j : Nat} {x : Int64} (h : j ≠ k) : vp_updL f k x j = f j := if_neg h
theorem pk_sub {a b : Nat} (h : b ≤ a) : nI a - nI b = nI (a - b) := by
  obtain ⟨c, rfl⟩ : ∃ c, a = c + b := ⟨a - b, by omega⟩
  rw [← nI_add, Int32.add_sub_cancel, Nat.add_sub_cancel]
theorem pk_m1 (n : Nat) : nI (n + 1) + (-1) = nI n := by
  rw [← nI_1, Int32.add_assoc, show (1 : Int32) + (-1) = 0 from rfl, Int32.add_zero]
theorem pk_mul (a b : Nat) : nI a * nI b = nI (a * b) := (Int32.ofNat_mul a b).symm
theorem pk_div {a d : Nat} (ha : a < 2 ^ 31) (h0 : 0 < d) (hd : d < 2 ^ 31) : nI a / nI d = nI (a / d) := by
  apply Int32.toInt_inj.mp
  rw [lg_idiv_nonneg (by rw [nI_toInt ha]; omega) (by rw [nI_toInt hd]; omega), nI_toInt ha, nI_toInt hd, nI_toInt (Nat.lt_of_le_of_lt (Nat.div_le_self a d) ha)]
  first | rfl | exact (Int.natCast_ediv _ _).symm
theorem pk_rem {a d : Nat} (ha : a < 2 ^ 31) (h0 : 0 < d) (hd : d < 2 ^ 31) : nI a - nI a / nI d * nI d = nI (a % d) := by
  rw [pk_div ha h0 hd, pk_mul, pk_sub (Nat.div_mul_le_self a d)]
  exact congrArg nI (by have := Nat.div_add_mod' a d; omega)
theorem pk_sub_toInt {a b : Nat} (ha : a < 2 ^ 30) (hb : b < 2 ^ 30) : (nI a - nI b).toInt = (a : Int) - b := by
  rw [Int32.toInt_sub, nI_toInt (by omega), nI_toInt (by omega)]
  exact Int.bmod_eq_of_le (by omega) (by omega)
theorem pk_sneg {a b : Nat} (hb : b < 2 ^ 30) (h : a < b) : nI a - nI b < 0 := by
  rw [Int32.lt_iff_toInt_lt, pk_sub_toInt (by omega) hb, show (0 : Int32).toInt = 0 from by decide]
  omega
theorem pk_ix (x : Int32) {n : Nat} (hn : n < 2 ^ 31) : x < 0 ∨ nI n ≤ x ∨ ∃ j : Nat, j < n ∧ x = nI j := by
  by_cases h : x < 0
  · exact Or.inl h
  · obtain ⟨j, hj, rfl⟩ := nI_of h
    by_cases h2 : j < n
    · exact Or.inr (Or.inr ⟨j, h2, rfl⟩)
    · exact Or.inr (Or.inl (nI_le (by omega) hj))
theorem pk_le {x y : Int32} {A B : Prop} (a b : Nat) (f : a ≤ b → A) (g : b < a → B) (hx : x = nI a := by rfl) (hy : y = nI b := by rfl) (ha : a < 2 ^ 31 := by omega) (hb : b < 2 ^ 31 := by omega) : (x ≤ y → A) ∧ (¬ x ≤ y → B) := by
  subst hx hy
  rw [nI_leI ha hb]
  exact ⟨f, fun z => g (by omega)⟩
theorem pk_lt {x y : Int32} {A B : Prop} (a b : Nat) (f : a < b → A) (g : b ≤ a → B) (hx : x = nI a := by rfl) (hy : y = nI b := by rfl) (ha : a < 2 ^ 31 := by omega) (hb : b < 2 ^ 31 := by omega) : (x < y → A) ∧ (¬ x < y → B) := by
  subst hx hy
  rw [nI_ltI ha hb]
  exact ⟨f, fun z => g (by omega)⟩
theorem pk_eq {x y : Int32} {A B : Prop} (a b : Nat) (f : a = b → A) (g : a ≠ b → B) (hx : x = nI a := by rfl) (hy : y = nI b := by rfl) (ha : a < 2 ^ 31 := by omega) (hb : b < 2 ^ 31 := by omega) : (x = y → A) ∧ (¬ x = y → B) := by
  subst hx hy
  rw [nI_eq ha hb]
  exact ⟨f, g⟩
theorem pk_in {x : Int32} (n N : Nat) (h : n < N) (hx : x = nI n := by rfl) (hN : N < 2 ^ 31 := by omega) : vp_in x N := by
  subst hx
  exact vp_in_nI h hN
theorem pk_cl {x : Int32} (n : Nat) (hx : x = nI n := by rfl) (h : n < 2 ^ 31 := by omega) : x.toNatClampNeg = n := by
  subst hx
  exact nI_clamp h
theorem pk_tn {n : Nat} (h : n < 2 ^ 32) : (nI n).toBitVec.toNat = n := Nat.mod_eq_of_lt h
theorem pk_and (x : Int32) {m : Int32} (k : Nat) (hm : m.toBitVec.toNat = 2 ^ k - 1) : x &&& m = nI (x.toBitVec.toNat % 2 ^ k) := by
  apply Int32.toBitVec_inj.mp
  apply BitVec.eq_of_toNat_eq
  rw [Int32.toBitVec_and, BitVec.toNat_and, hm, Nat.and_two_pow_sub_one_eq_mod]
  show _ = (BitVec.ofNat 32 _).toNat
  rw [BitVec.toNat_ofNat]
  exact (Nat.mod_eq_of_lt (Nat.lt_of_le_of_lt (Nat.mod_le _ _) x.toBitVec.isLt)).symm
theorem pk_andN {n : Nat} (h : n < 2 ^ 32) {m : Int32} (k : Nat) (hm : m.toBitVec.toNat = 2 ^ k - 1) : nI n &&& m = nI (n % 2 ^ k) := by
  rw [pk_and _ k hm, pk_tn h]
theorem pk_andE (x : Int32) {m : Int32} (k : Nat) (hm : m.toBitVec.toNat = 2 ^ k - 1) : ∃ j : Nat, j < 2 ^ k ∧ x &&& m = nI j := ⟨_, Nat.mod_lt _ (Nat.two_pow_pos k), pk_and x k hm⟩
theorem pk_andIn (x : Int32) {m : Int32} (k : Nat) (hm : m.toBitVec.toNat = 2 ^ k - 1) (hk : k ≤ 30) : vp_in (x &&& m) (2 ^ k) := by
  obtain ⟨j, hj, e⟩ := pk_andE x k hm
  rw [e]
  exact vp_in_nI hj (Nat.lt_of_le_of_lt (Nat.pow_le_pow_right (by decide) hk) (by decide))
theorem pk_shl (a s : Int32) (k : Nat) (hs : (s.toBitVec.smod 32).toNat = k) : (a <<< s).toBitVec.toNat = a.toBitVec.toNat * 2 ^ k % 2 ^ 32 := by
  show (a.toBitVec <<< (s.toBitVec.smod 32).toNat).toNat = _
  rw [hs, BitVec.toNat_shiftLeft, Nat.shiftLeft_eq]
theorem pk_shlN {n : Nat} (s : Int32) (k : Nat) (hs : (s.toBitVec.smod 32).toNat = k) (h : n * 2 ^ k < 2 ^ 32) : nI n <<< s = nI (n * 2 ^ k) := by
  apply Int32.toBitVec_inj.mp
  apply BitVec.eq_of_toNat_eq
  have hn : n < 2 ^ 32 := Nat.lt_of_le_of_lt (Nat.le_mul_of_pos_right n (Nat.two_pow_pos k)) h
  rw [pk_shl _ _ k hs, pk_tn hn, pk_tn h, Nat.mod_eq_of_lt h]
theorem pk_shr (a s : Int32) (k : Nat) (hs : (s.toBitVec.smod 32).toNat = k) : (a >>> s).toInt = a.toInt >>> k := by
  show (a.toBitVec.sshiftRight (s.toBitVec.smod 32).toNat).toInt = _
  rw [hs, BitVec.toInt_sshiftRight]
  rfl
theorem pk_shrN {n : Nat} (h : n < 2 ^ 31) (s : Int32) (k : Nat) (hs : (s.toBitVec.smod 32).toNat = k) : nI n >>> s = nI (n / 2 ^ k) := by
  apply Int32.toInt_inj.mp
  have h2 : n / 2 ^ k ≤ n := Nat.div_le_self _ _
  rw [pk_shr _ _ k hs, nI_toInt h, nI_toInt (by omega), Int.shiftRight_eq_div_pow]
  rfl
theorem pk_ushr (x s : Int32) (k : Nat) (hs : ((s.toUInt32 &&& Int32.toUInt32 31).toBitVec % 32).toNat = k) : (x.toUInt32 >>> (s.toUInt32 &&& Int32.toUInt32 31)).toInt32.toBitVec.toNat = x.toBitVec.toNat / 2 ^ k := by
  have e : (x.toUInt32 >>> (s.toUInt32 &&& Int32.toUInt32 31)).toInt32.toBitVec = x.toBitVec >>> k := by
    rw [← hs]
    exact UInt32.toBitVec_shiftRight _ _
  rw [e, BitVec.toNat_ushiftRight, Nat.shiftRight_eq_div_pow]
theorem pk_ushrN {n : Nat} (hn : n < 2 ^ 32) (s : Int32) (k : Nat) (hs : ((s.toUInt32 &&& Int32.toUInt32 31).toBitVec % 32).toNat = k) : ((nI n).toUInt32 >>> (s.toUInt32 &&& Int32.toUInt32 31)).toInt32 = nI (n / 2 ^ k) := by
  apply Int32.toBitVec_inj.mp
  apply BitVec.eq_of_toNat_eq
  rw [pk_ushr _ s k hs, pk_tn hn, pk_tn (Nat.lt_of_le_of_lt (Nat.div_le_self _ _) hn)]
theorem pk_nb (z : Int32) : narrow .byte (.int z.toInt8.toInt32) = .int z.toInt8.toInt32 := congrArg Value.int (by simp)
theorem pk_ns (z : Int32) : narrow .short (.int z.toInt16.toInt32) = .int z.toInt16.toInt32 := congrArg Value.int (by simp)
theorem pk_fb (r : Int32) : fits .byte (.int r.toInt8.toInt32) = true := by
  have ⟨a, b⟩ := lg_i2b_range r
  have h1 : (-128 : Int32).toInt = -128 := by decide
  have h2 : (127 : Int32).toInt = 127 := by decide
  simp only [fits, Bool.and_eq_true, decide_eq_true_eq, Int32.le_iff_toInt_le, h1, h2]
  omega
theorem pk_fs (r : Int32) : fits .short (.int r.toInt16.toInt32) = true := by
  have ⟨a, b⟩ := lg_i2s_range r
  have h1 : (-32768 : Int32).toInt = -32768 := by decide
  have h2 : (32767 : Int32).toInt = 32767 := by decide
  simp only [fits, Bool.and_eq_true, decide_eq_true_eq, Int32.le_iff_toInt_le, h1, h2]
  omega
theorem pk_charN {q : Nat} (hq : q < 65536) : narrow .char (.int (nI q)) = .int (nI q) ∧ fits .char (.int (nI q)) = true := by
  constructor
  · have e : (nI q).toUInt32.toUInt16.toUInt32.toInt32 = nI q := by
      apply Int32.toBitVec_inj.mp
      apply BitVec.eq_of_toNat_eq
      show (nI q).toUInt32.toUInt16.toUInt32.toNat = q % 2 ^ 32
      rw [UInt16.toNat_toUInt32, UInt32.toNat_toUInt16, show (nI q).toUInt32.toNat = q % 2 ^ 32 from rfl]
      omega
    exact congrArg Value.int e
  · have a : (0 : Int32) ≤ nI q := nI_pos' (by omega)
    have b : nI q ≤ 65535 := nI_le (b := 65535) (by omega) (by decide)
    show (decide ((0 : Int32) ≤ nI q) && decide (nI q ≤ 65535)) = true
    rw [decide_eq_true a, decide_eq_true b]
    rfl
theorem pk_char (x : Int32) : (x.toUInt32 % 65536).toInt32 = nI (x.toBitVec.toNat % 65536) := by
  apply Int32.toBitVec_inj.mp
  apply BitVec.eq_of_toNat_eq
  rw [pk_tn (by omega)]
  show (x.toUInt32 % 65536).toNat = _
  rw [UInt32.toNat_mod]
  rfl
theorem pk_nc (x : Int32) : narrow .char (.int (x.toUInt32 % 65536).toInt32) = .int (x.toUInt32 % 65536).toInt32 := by
  rw [pk_char]
  exact (pk_charN (Nat.mod_lt _ (by decide))).1
theorem pk_fc (x : Int32) : fits .char (.int (x.toUInt32 % 65536).toInt32) = true := by
  rw [pk_char]
  exact (pk_charN (Nat.mod_lt _ (by decide))).2
theorem pk_vb (z : Int32) : vp_nar .byte z.toInt8.toInt32 = z.toInt8.toInt32 := by rw [vp_nar_byte]; simp
theorem pk_vs (z : Int32) : vp_nar .short z.toInt16.toInt32 = z.toInt16.toInt32 := by rw [vp_nar_short]; simp
theorem pk_vc (z : Int32) : vp_nar .char (z.toUInt32 % 65536).toInt32 = (z.toUInt32 % 65536).toInt32 := Value.int.inj (pk_nc z)
/-! rows on bits, shifts and unsigned numbers, to paste: each family out of a closed proof of our own, whole with what it rests on; each by itself clean at Lean in its own claim (generation 39, form 5). Take a family whole -/
/-! ===== Int32 by its bits: bt x i ===== -/
def bt (x : Int32) (i : Nat) : Bool := x.toBitVec.getLsbD i
theorem b_ext {x y : Int32} (h : ∀ i, i < 32 → bt x i = bt y i) : x = y := Int32.toBitVec_inj.mp (BitVec.eq_of_getLsbD_eq (fun i hi => h i hi))
theorem b_or (x y : Int32) (i : Nat) : bt (x ||| y) i = (bt x i || bt y i) := by unfold bt; rw [Int32.toBitVec_or, BitVec.getLsbD_or]
theorem b_and (x y : Int32) (i : Nat) : bt (x &&& y) i = (bt x i && bt y i) := by unfold bt; rw [Int32.toBitVec_and, BitVec.getLsbD_and]
theorem b_xor (x y : Int32) (i : Nat) : bt (x ^^^ y) i = (bt x i ^^ bt y i) := by unfold bt; rw [Int32.toBitVec_xor, BitVec.getLsbD_xor]
theorem b_big {x : Int32} {i : Nat} (h : 32 ≤ i) : bt x i = false := BitVec.getLsbD_of_ge _ _ h
theorem b_255 (i : Nat) : bt 255 i = decide (i < 8) := by
  rcases Nat.lt_or_ge i 32 with h | h
  · exact (by decide +kernel : ∀ i, i < 32 → bt 255 i = decide (i < 8)) i h
  · rw [b_big h, decide_eq_false (by omega)]
theorem b_65535 (i : Nat) : bt 65535 i = decide (i < 16) := by
  rcases Nat.lt_or_ge i 32 with h | h
  · exact (by decide +kernel : ∀ i, i < 32 → bt 65535 i = decide (i < 16)) i h
  · rw [b_big h, decide_eq_false (by omega)]
theorem b_m1 : ∀ i, i < 32 → bt (-1) i = true := by decide +kernel
theorem b_0 (i : Nat) : bt 0 i = false := BitVec.getLsbD_zero
theorem s_l : ∀ n, n < 32 → ((nI n &&& 31).toBitVec.smod 32).toNat = n := by decide +kernel
theorem s_u : ∀ n, n < 32 → (((nI n).toUInt32 &&& Int32.toUInt32 31).toBitVec % 32).toNat = n := by decide +kernel
theorem b_shl (n : Nat) (hn : n < 32) (x : Int32) {i : Nat} (hi : i < 32) : bt (x <<< (nI n &&& 31)) i = (decide (n ≤ i) && bt x (i - n)) := by
  unfold bt
  rw [Int32.toBitVec_shiftLeft]
  show (x.toBitVec <<< ((nI n &&& 31).toBitVec.smod 32).toNat).getLsbD i = _
  rw [s_l n hn, BitVec.getLsbD_shiftLeft]
  rcases Nat.lt_or_ge i n with h | h
  · simp [h, Nat.not_le.mpr h]
  · simp [hi, h, Nat.not_lt.mpr h]
theorem b_ushr (n : Nat) (hn : n < 32) (x : Int32) (i : Nat) : bt ((x.toUInt32 >>> ((nI n).toUInt32 &&& Int32.toUInt32 31)).toInt32) i = bt x (n + i) := by
  show (x.toUInt32 >>> ((nI n).toUInt32 &&& Int32.toUInt32 31)).toBitVec.getLsbD i = x.toUInt32.toBitVec.getLsbD (n + i)
  rw [UInt32.toBitVec_shiftRight]
  show (x.toUInt32.toBitVec >>> (((nI n).toUInt32 &&& Int32.toUInt32 31).toBitVec % 32).toNat).getLsbD i = _
  rw [s_u n hn, BitVec.getLsbD_ushiftRight]
theorem b_sshr (n : Nat) (hn : n < 32) (x : Int32) {i : Nat} (hi : i < 32) : bt (x >>> (nI n &&& 31)) i = if n + i < 32 then bt x (n + i) else bt x 31 := by
  unfold bt
  rw [Int32.toBitVec_shiftRight]
  show (x.toBitVec.sshiftRight ((nI n &&& 31).toBitVec.smod 32).toNat).getLsbD i = _
  rw [s_l n hn, BitVec.getLsbD_sshiftRight, BitVec.msb_eq_getLsbD_last]
  simp [hi]
theorem b_shl8 (x : Int32) {i : Nat} (hi : i < 32) : bt (x <<< ((8 : Int32) &&& 31)) i = (decide (8 ≤ i) && bt x (i - 8)) := b_shl 8 (by omega) x hi
theorem b_shl16 (x : Int32) {i : Nat} (hi : i < 32) : bt (x <<< ((16 : Int32) &&& 31)) i = (decide (16 ≤ i) && bt x (i - 16)) := b_shl 16 (by omega) x hi
theorem b_shl24 (x : Int32) {i : Nat} (hi : i < 32) : bt (x <<< ((24 : Int32) &&& 31)) i = (decide (24 ≤ i) && bt x (i - 24)) := b_shl 24 (by omega) x hi
theorem b_sshr8 (x : Int32) {i : Nat} (hi : i < 32) : bt (x >>> ((8 : Int32) &&& 31)) i = if 8 + i < 32 then bt x (8 + i) else bt x 31 := b_sshr 8 (by omega) x hi
end
section
/-! updates, encodings, narrow stores, bits, sums -/
def mr_up {α : Type} (f : Nat → α) (k : Nat) (v : α) : Nat → α := fun j => if j = k then v else f j
theorem mr_us {α : Type} {f : Nat → α} {k : Nat} {v : α} : mr_up f k v k = v := if_pos rfl
theorem mr_un {α : Type} {f : Nat → α} {k j : Nat} {v : α} (h : j ≠ k) : mr_up f k v j = f j := if_neg h
theorem mr_uu {α : Type} {f : Nat → α} {k : Nat} : mr_up f k (f k) = f := by
  funext j
  unfold mr_up
  split
  · rename_i h; rw [h]
  · rfl
def mr_en (f : Nat → Nat) : Nat → Int32 := fun i => nI (f i)
def mr_o (n : Nat) : Int32 := nI n - 1
def mr_eo (f : Nat → Nat) : Nat → Int32 := fun i => mr_o (f i)
def mr_tw {α : Type} (f g : Nat → α) : Nat → α := fun i => if i % 2 = 0 then f (i / 2) else g (i / 2)
theorem mr_tw0 {α : Type} {f g : Nat → α} (b : Nat) : mr_tw f g (2 * b) = f b := by
  unfold mr_tw
  rw [if_pos (by omega), show 2 * b / 2 = b by omega]
theorem mr_tw1 {α : Type} {f g : Nat → α} (b : Nat) : mr_tw f g (2 * b + 1) = g b := by
  unfold mr_tw
  rw [if_neg (by omega), show (2 * b + 1) / 2 = b by omega]
theorem mr_utw0 {α : Type} {f g : Nat → α} {b : Nat} {v : α} : mr_up (mr_tw f g) (2 * b) v = mr_tw (mr_up f b v) g := by
  funext j
  unfold mr_up mr_tw
  dsimp only
  by_cases h : j = 2 * b
  · rw [if_pos h, if_pos (by omega), if_pos (by omega)]
  · rw [if_neg h]
    by_cases h2 : j % 2 = 0
    · rw [if_pos h2, if_pos h2, if_neg (by omega)]
    · rw [if_neg h2, if_neg h2]
theorem mr_utw1 {α : Type} {f g : Nat → α} {b : Nat} {v : α} : mr_up (mr_tw f g) (2 * b + 1) v = mr_tw f (mr_up g b v) := by
  funext j
  unfold mr_up mr_tw
  dsimp only
  by_cases h : j = 2 * b + 1
  · rw [if_pos h, if_neg (by omega), if_pos (by omega)]
  · rw [if_neg h]
    by_cases h2 : j % 2 = 0
    · rw [if_pos h2, if_pos h2]
    · rw [if_neg h2, if_neg h2, if_neg (by omega)]
theorem mr_updE {f : Nat → Nat} {k v : Nat} : upd (mr_en f) k (nI v) = mr_en (mr_up f k v) := by
  funext j
  unfold upd mr_en mr_up
  split <;> rfl
theorem mr_updO {f : Nat → Nat} {k v : Nat} : upd (mr_eo f) k (mr_o v) = mr_eo (mr_up f k v) := by
  funext j
  unfold upd mr_eo mr_up
  split <;> rfl
theorem mr_updU {f : Nat → Int32} {k : Nat} {v : Int32} : upd f k v = mr_up f k v := rfl
theorem mr_o0 : mr_o 0 = -1 := by decide +kernel
theorem mr_os (n : Nat) : mr_o (n + 1) = nI n := nI_pred n
theorem mr_olt {n : Nat} (h : n < 2 ^ 31) : mr_o n < 0 ↔ n = 0 := by
  cases n with
  | zero => rw [mr_o0]; exact ⟨fun _ => rfl, fun _ => by decide⟩
  | succ n => rw [mr_os]; exact ⟨fun z => absurd z (nI_pos (by omega)), fun z => by omega⟩
theorem mr_ole {n : Nat} (h : n < 2 ^ 31) : 0 ≤ mr_o n ↔ n ≠ 0 := by
  rw [← Int32.not_lt, mr_olt h]
theorem mr_i8 : ∀ n, n < 128 → (nI n).toInt8.toInt32 = nI n := by decide +kernel
theorem mr_n8 {n : Nat} (h : n < 128) : vp_nar .byte (nI n) = nI n := by rw [vp_nar_byte]; exact mr_i8 n h
theorem mr_n8' {n : Nat} (h : n < 128) : vp_nar .byte ((nI n).toInt8.toInt32) = nI n := by rw [mr_i8 n h, mr_n8 h]
theorem mr_i8m : (-1 : Int32).toInt8.toInt32 = -1 := by decide +kernel
theorem mr_n8m : vp_nar .byte (-1) = -1 := by rw [vp_nar_byte]; exact mr_i8m
theorem mr_n8o {n : Nat} (h : n ≤ 100) : vp_nar .byte ((mr_o n).toInt8.toInt32) = mr_o n := by
  cases n with
  | zero => rw [mr_o0, mr_i8m, mr_n8m]
  | succ n => rw [mr_os]; exact mr_n8' (by omega)
theorem mr_i16 : ∀ n, n < 256 → (nI n).toInt16.toInt32 = nI n := by decide +kernel
theorem mr_i16m : (-1 : Int32).toInt16.toInt32 = -1 := by decide +kernel
theorem mr_n16m : vp_nar .short (-1) = -1 := by rw [vp_nar_short]; exact mr_i16m
theorem mr_n16' {n : Nat} (h : n < 256) : vp_nar .short ((nI n).toInt16.toInt32) = nI n := by rw [mr_i16 n h, vp_nar_short, mr_i16 n h]
theorem mr_nbo0 : vp_nar .boolean 0 = 0 := rfl
theorem mr_nbo1 : vp_nar .boolean 1 = 1 := rfl
theorem mr_b1 : ∀ i, i < 32 → bt 1 i = decide (i = 0) := by decide +kernel
theorem mr_bit (x : Int32) {m : Nat} (h : m < 32) : (x >>> (nI m &&& 31)) &&& 1 = if bt x m = true then 1 else 0 := by
  apply b_ext
  intro i hi
  rw [b_and, b_sshr m h x hi, mr_b1 i hi]
  by_cases hz : i = 0
  · subst hz
    rw [if_pos (by omega), Nat.add_zero]
    by_cases hb : bt x m = true
    · rw [if_pos hb, hb]; decide +kernel
    · rw [if_neg hb, b_0]; simp [hb]
  · rw [decide_eq_false hz, Bool.and_false]
    by_cases hb : bt x m = true
    · rw [if_pos hb, mr_b1 i hi, decide_eq_false hz]
    · rw [if_neg hb, b_0]
theorem mr_bit0 (x : Int32) {m : Nat} (h : m < 32) : (x >>> (nI m &&& 31)) &&& 1 = 0 ↔ bt x m = false := by
  rw [mr_bit x h]
  by_cases hb : bt x m = true
  · rw [if_pos hb, hb]; exact ⟨fun z => absurd z (by decide), fun z => nomatch z⟩
  · rw [if_neg hb]; exact ⟨fun _ => by simpa using hb, fun _ => rfl⟩
theorem mr_one {m : Nat} (h : m < 32) {i : Nat} (hi : i < 32) : bt ((1 : Int32) <<< (nI m &&& 31)) i = decide (i = m) := by
  rw [b_shl m h 1 hi, mr_b1 _ (by omega)]
  by_cases e : i = m
  · subst e; simp
  · by_cases l : m ≤ i
    · rw [decide_eq_false e, decide_eq_false (show ¬ i - m = 0 by omega), Bool.and_false]
    · rw [decide_eq_false e, decide_eq_false l, Bool.false_and]
theorem mr_set (x : Int32) {m : Nat} (h : m < 32) {i : Nat} (hi : i < 32) : bt (x ||| ((1 : Int32) <<< (nI m &&& 31))) i = (bt x i || decide (i = m)) := by
  rw [b_or, mr_one h hi]
theorem mr_clr (x : Int32) {m : Nat} (h : m < 32) {i : Nat} (hi : i < 32) : bt (x &&& (((1 : Int32) <<< (nI m &&& 31)) ^^^ (-1))) i = (bt x i && !decide (i = m)) := by
  rw [b_and, b_xor, mr_one h hi, b_m1 i hi]
  simp
def mr_sm (f : Nat → Nat) : Nat → Nat
  | 0 => 0
  | n + 1 => mr_sm f n + f n
theorem mr_smc {f g : Nat → Nat} {n : Nat} (h : ∀ i, i < n → f i = g i) : mr_sm f n = mr_sm g n := by
  induction n with
  | zero => rfl
  | succ n ih =>
    show mr_sm f n + f n = mr_sm g n + g n
    rw [ih (fun i hi => h i (by omega)), h n (by omega)]
theorem mr_smu {f g : Nat → Nat} {n k : Nat} (hk : k < n) (h : ∀ i, i < n → i ≠ k → f i = g i) : mr_sm g n + f k = mr_sm f n + g k := by
  induction n with
  | zero => omega
  | succ n ih =>
    show mr_sm g n + g n + f k = mr_sm f n + f n + g k
    by_cases e : k = n
    · subst e
      rw [mr_smc (f := f) (g := g) (fun i hi => h i (by omega) (by omega))]
      omega
    · have := ih (by omega) (fun i hi => h i (by omega))
      have := h n (by omega) (by omega)
      omega
theorem mr_sml {f : Nat → Nat} {n c : Nat} (h : ∀ i, i < n → f i ≤ c) : mr_sm f n ≤ n * c := by
  induction n with
  | zero => exact Nat.zero_le _
  | succ n ih =>
    show mr_sm f n + f n ≤ _
    have := ih (fun i hi => h i (by omega))
    have := h n (by omega)
    rw [Nat.succ_mul]
    omega
theorem mr_smz {f : Nat → Nat} {n : Nat} (h : ∀ i, i < n → f i = 0) : mr_sm f n = 0 := by
  have := mr_sml (f := f) (n := n) (c := 0) (fun i hi => by rw [h i hi]; exact Nat.le_refl 0)
  omega
def mr_s2 (F : Nat → Nat → Nat) : Nat := mr_sm (fun m => mr_sm (F m) 6) 20
theorem mr_s2u {F G : Nat → Nat → Nat} {m k : Nat} (hm : m < 20) (hk : k < 6) (h : ∀ i j, i < 20 → j < 6 → ¬ (i = m ∧ j = k) → F i j = G i j) : mr_s2 G + F m k = mr_s2 F + G m k := by
  have h1 := mr_smu (f := F m) (g := G m) hk (fun j hj e => h m j hm hj (fun z => e z.2))
  have h2 := mr_smu (f := fun i => mr_sm (F i) 6) (g := fun i => mr_sm (G i) 6) hm (fun i hi e => mr_smc (fun j hj => h i j hi hj (fun z => e z.1)))
  unfold mr_s2
  omega
def mr_si (f : Nat → Int32) : Nat → Int32
  | 0 => 0
  | n + 1 => mr_si f n + f n
theorem mr_sic {f g : Nat → Int32} {n : Nat} (h : ∀ i, i < n → f i = g i) : mr_si f n = mr_si g n := by
  induction n with
  | zero => rfl
  | succ n ih =>
    show mr_si f n + f n = mr_si g n + g n
    rw [ih (fun i hi => h i (by omega)), h n (by omega)]
theorem mr_siu {f g : Nat → Int32} {n k : Nat} (hk : k < n) (h : ∀ i, i < n → i ≠ k → f i = g i) (h0 : g k = 0) : mr_si f n = mr_si g n + f k := by
  induction n with
  | zero => omega
  | succ n ih =>
    show mr_si f n + f n = mr_si g n + g n + f k
    by_cases e : k = n
    · subst e
      rw [mr_sic (f := f) (g := g) (fun i hi => h i (by omega) (by omega)), h0]
      grind
    · rw [ih (by omega) (fun i hi => h i (by omega)), h n (by omega) (by omega)]
      grind
theorem mr_siz {f : Nat → Int32} {n : Nat} (h : ∀ i, i < n → f i = 0) : mr_si f n = 0 := by
  induction n with
  | zero => rfl
  | succ n ih =>
    show mr_si f n + f n = 0
    rw [ih (fun i hi => h i (by omega)), h n (by omega)]
    rfl
theorem mr_sin {f : Nat → Nat} {n : Nat} : mr_si (fun i => nI (f i)) n = nI (mr_sm f n) := by
  induction n with
  | zero => rfl
  | succ n ih =>
    show mr_si (fun i => nI (f i)) n + nI (f n) = nI (mr_sm f n + f n)
    rw [ih, nI_add]
/-- a sum over the slots is the sum along the list that names the slots that count -/
theorem mr_bij {n : Nat} (σ : Nat → Nat) : ∀ (c : Nat) (f : Nat → Int32), (∀ j, j < c → σ j < n) → (∀ i j, i < c → j < c → σ i = σ j → i = j) → (∀ m, m < n → (∀ j, j < c → σ j ≠ m) → f m = 0) → mr_si f n = mr_si (fun j => f (σ j)) c := by
  intro c
  induction c with
  | zero => intro f _ _ h; exact mr_siz (fun i hi => h i hi (fun j hj => by omega))
  | succ c ih =>
    intro f hl hi hz
    have e := ih (mr_up f (σ c) 0) (fun j hj => hl j (by omega)) (fun i j a b => hi i j (by omega) (by omega)) (fun m hm hj => by
      by_cases z : m = σ c
      · rw [z]; exact mr_us
      · rw [mr_un z]
        exact hz m hm (fun j hj' => by
          by_cases y : j = c
          · subst y; exact fun w => z w.symm
          · exact hj j (by omega)))
    rw [mr_siu (f := f) (g := mr_up f (σ c) 0) (hl c (by omega)) (fun i _ z => (mr_un z).symm) mr_us, e]
    show _ = mr_si (fun j => f (σ j)) c + f (σ c)
    rw [mr_sic (f := fun j => mr_up f (σ c) 0 (σ j)) (g := fun j => f (σ j)) (fun j hj => mr_un (fun z => by have := hi j c (by omega) (by omega) z; omega))]
theorem mr_bijN {n : Nat} (σ : Nat → Nat) : ∀ (c : Nat) (f : Nat → Nat), (∀ j, j < c → σ j < n) → (∀ i j, i < c → j < c → σ i = σ j → i = j) → (∀ m, m < n → (∀ j, j < c → σ j ≠ m) → f m = 0) → mr_sm f n = mr_sm (fun j => f (σ j)) c := by
  intro c
  induction c with
  | zero => intro f _ _ h; exact mr_smz (fun i hi => h i hi (fun j hj => by omega))
  | succ c ih =>
    intro f hl hi hz
    have e := ih (mr_up f (σ c) 0) (fun j hj => hl j (by omega)) (fun i j a b => hi i j (by omega) (by omega)) (fun m hm hj => by
      by_cases z : m = σ c
      · rw [z]; exact mr_us
      · rw [mr_un z]
        exact hz m hm (fun j hj' => by
          by_cases y : j = c
          · subst y; exact fun w => z w.symm
          · exact hj j (by omega)))
    have e2 := mr_smu (f := f) (g := mr_up f (σ c) 0) (hl c (by omega)) (fun i _ z => (mr_un z).symm)
    rw [mr_us] at e2
    show _ = mr_sm (fun j => f (σ j)) c + f (σ c)
    rw [← mr_smc (f := fun j => mr_up f (σ c) 0 (σ j)) (g := fun j => f (σ j)) (fun j hj => mr_un (fun z => by have := hi j c (by omega) (by omega) z; omega)), ← e]
    omega
end
section
/-! the square: lines, buffers, ways, ranks -/
def mr_nb (r p : Nat) : Nat := if p = 0 then r - 4 else if p = 1 then r + 1 else if p = 2 then r + 4 else r - 1
def mr_vl (r p : Nat) : Bool := if p = 0 then decide (4 ≤ r) else if p = 1 then decide (r % 4 < 3) else if p = 2 then decide (r < 12) else decide (0 < r % 4)
def mr_op (p : Nat) : Nat := (p + 2) % 4
def mr_bf (r p l : Nat) : Nat := (r * 5 + p) * 2 + l
def mr_bh (r p l : Nat) : Nat := mr_bf (mr_nb r p) (mr_op p) l
def mr_ln (h : Nat) : Nat := if h = 1 then 1 else 0
def mr_di (a b : Nat) : Nat := (a % 4 - b % 4) + (b % 4 - a % 4) + ((a / 4 - b / 4) + (b / 4 - a / 4))
/-- port p is a way on from router r to goal g on lane l -/
def mr_wo (g l r p : Nat) : Bool :=
  (decide (p = 4) && decide (g = r)) ||
  (decide (p = 1) && decide (r % 4 < g % 4) && (decide (l = 0) || decide (g / 4 = r / 4))) ||
  (decide (p = 3) && decide (g % 4 < r % 4) && (decide (l = 0) || decide (g / 4 = r / 4))) ||
  (decide (p = 2) && decide (r / 4 < g / 4) && (decide (l = 1) || decide (r % 4 ≤ g % 4))) ||
  (decide (p = 0) && decide (g / 4 < r / 4) && (decide (l = 1) || decide (r % 4 ≤ g % 4)))
/-- a piece to goal g on lane l may stand in buffer b -/
def mr_rg (g l b : Nat) : Bool :=
  decide (b % 2 = l) &&
  (decide (b / 2 % 5 = 4) ||
   (decide (b / 2 % 5 = 1) && decide (g % 4 ≤ b / 10 % 4) && (decide (l = 0) || decide (g / 4 = b / 10 / 4))) ||
   (decide (b / 2 % 5 = 3) && decide (b / 10 % 4 ≤ g % 4) && (decide (l = 0) || decide (g / 4 = b / 10 / 4))) ||
   (decide (b / 2 % 5 = 2) && decide (g / 4 ≤ b / 10 / 4) && (decide (l = 1) || decide (b / 10 % 4 ≤ g % 4))) ||
   (decide (b / 2 % 5 = 0) && decide (b / 10 / 4 ≤ g / 4) && (decide (l = 1) || decide (b / 10 % 4 ≤ g % 4))))
def mr_rk (b : Nat) : Nat :=
  if b / 2 % 5 = 4 then 0
  else if b % 2 = 0 then
    (if b / 2 % 5 = 1 then 1 + (3 - b / 10 % 4) else if b / 2 % 5 = 3 then 10 + 10 * (b / 10 % 4)
     else if b / 2 % 5 = 2 then 11 + 10 * (b / 10 % 4) + (3 - b / 10 / 4) else 11 + 10 * (b / 10 % 4) + b / 10 / 4)
  else
    (if b / 2 % 5 = 2 then 1 + (3 - b / 10 / 4) else if b / 2 % 5 = 0 then 1 + b / 10 / 4
     else if b / 2 % 5 = 3 then 10 + b / 10 % 4 else 10 + (3 - b / 10 % 4))
def mr_chk (b g p : Nat) : Bool :=
  !(mr_rg g (b % 2) b && mr_wo g (b % 2) (b / 10) p) ||
  (mr_vl (b / 10) p && decide (mr_bh (b / 10) p (b % 2) < 160) && mr_rg g (b % 2) (mr_bh (b / 10) p (b % 2)) &&
   decide (mr_di (mr_bh (b / 10) p (b % 2) / 10) g + 1 = mr_di (b / 10) g) && decide (mr_rk b < mr_rk (mr_bh (b / 10) p (b % 2))))
theorem mr_chkA : (List.range 160).all (fun b => (List.range 16).all fun g => (List.range 4).all fun p => mr_chk b g p) = true := by decide +kernel
theorem mr_geo {b g l p : Nat} (hb : b < 160) (hg : g < 16) (hp : p < 4) (h1 : mr_rg g l b = true) (h2 : mr_wo g l (b / 10) p = true) :
    mr_vl (b / 10) p = true ∧ mr_bh (b / 10) p (b % 2) < 160 ∧ mr_rg g l (mr_bh (b / 10) p (b % 2)) = true ∧
    mr_di (mr_bh (b / 10) p (b % 2) / 10) g + 1 = mr_di (b / 10) g ∧ mr_rk b < mr_rk (mr_bh (b / 10) p (b % 2)) := by
  have hl : b % 2 = l := by
    unfold mr_rg at h1
    rw [Bool.and_eq_true] at h1
    exact of_decide_eq_true h1.1
  subst hl
  have h := mr_chkA
  rw [List.all_eq_true] at h
  have h := h b (List.mem_range.mpr hb)
  rw [List.all_eq_true] at h
  have h := h g (List.mem_range.mpr hg)
  rw [List.all_eq_true] at h
  have h := h p (List.mem_range.mpr hp)
  unfold mr_chk at h
  rw [h1, h2] at h
  simp only [Bool.and_self, Bool.not_true, Bool.false_or, Bool.and_eq_true, decide_eq_true_eq] at h
  exact ⟨h.1.1.1.1, h.1.1.1.2, h.1.1.2, h.1.2, h.2⟩
theorem mr_rgl {g l b : Nat} (h : mr_rg g l b = true) : b % 2 = l := by
  unfold mr_rg at h
  rw [Bool.and_eq_true] at h
  exact of_decide_eq_true h.1
def mr_ck2 (r p l : Nat) : Bool :=
  !(mr_vl r p) ||
  (decide (mr_bh r p l < 160) && decide (mr_bh r p l / 10 = mr_nb r p) && decide (mr_bh r p l / 2 % 5 = mr_op p) && decide (mr_bh r p l % 2 = l) &&
   decide (mr_nb r p < 16) && decide (mr_op p < 4) && decide (mr_bh (mr_nb r p) (mr_op p) l = mr_bf r p l) && decide (mr_nb r p ≠ r))
theorem mr_ck2A : (List.range 16).all (fun r => (List.range 4).all fun p => (List.range 2).all fun l => mr_ck2 r p l) = true := by decide +kernel
theorem mr_bhf {r p l : Nat} (hr : r < 16) (hp : p < 4) (hl : l < 2) (hv : mr_vl r p = true) :
    mr_bh r p l < 160 ∧ mr_bh r p l / 10 = mr_nb r p ∧ mr_bh r p l / 2 % 5 = mr_op p ∧ mr_bh r p l % 2 = l ∧ mr_nb r p < 16 ∧ mr_op p < 4 ∧
    mr_bh (mr_nb r p) (mr_op p) l = mr_bf r p l ∧ mr_nb r p ≠ r := by
  have h := mr_ck2A
  rw [List.all_eq_true] at h
  have h := h r (List.mem_range.mpr hr)
  rw [List.all_eq_true] at h
  have h := h p (List.mem_range.mpr hp)
  rw [List.all_eq_true] at h
  have h := h l (List.mem_range.mpr hl)
  unfold mr_ck2 at h
  rw [hv] at h
  simp only [Bool.not_true, Bool.false_or, Bool.and_eq_true, decide_eq_true_eq] at h
  exact ⟨h.1.1.1.1.1.1.1, h.1.1.1.1.1.1.2, h.1.1.1.1.1.2, h.1.1.1.1.2, h.1.1.1.2, h.1.1.2, h.1.2, h.2⟩
theorem mr_bff {r p l : Nat} (hp : p < 5) (hl : l < 2) : mr_bf r p l / 10 = r ∧ mr_bf r p l / 2 % 5 = p ∧ mr_bf r p l % 2 = l := by
  unfold mr_bf
  omega
theorem mr_bfl {r p l : Nat} (hr : r < 16) (hp : p < 5) (hl : l < 2) : mr_bf r p l < 160 := by
  unfold mr_bf
  omega
/-- two lines into one buffer are one line -/
theorem mr_bhi {r p l r' p' l' : Nat} (hr : r < 16) (hp : p < 4) (hl : l < 2) (hv : mr_vl r p = true) (hr' : r' < 16) (hp' : p' < 4) (hl' : l' < 2) (hv' : mr_vl r' p' = true)
    (e : mr_bh r p l = mr_bh r' p' l') : mr_bf r p l = mr_bf r' p' l' := by
  obtain ⟨_, a2, a3, a4, _, _, a7, _⟩ := mr_bhf hr hp hl hv
  obtain ⟨_, b2, b3, b4, _, _, b7, _⟩ := mr_bhf hr' hp' hl' hv'
  rw [e] at a2 a3 a4
  rw [← a7, ← b7, a2.symm.trans b2, a3.symm.trans b3, a4.symm.trans b4]
theorem mr_dile : (List.range 16).all (fun a => (List.range 16).all fun b => decide (mr_di a b ≤ 6) && (decide (mr_di a b ≠ 0) || decide (a = b)) && decide (mr_di a a = 0)) = true := by decide +kernel
theorem mr_di6 {a b : Nat} (ha : a < 16) (hb : b < 16) : mr_di a b ≤ 6 ∧ (mr_di a b = 0 → a = b) ∧ mr_di a a = 0 := by
  have h := mr_dile
  rw [List.all_eq_true] at h
  have h := h a (List.mem_range.mpr ha)
  rw [List.all_eq_true] at h
  have h := h b (List.mem_range.mpr hb)
  simp only [Bool.and_eq_true, Bool.or_eq_true, decide_eq_true_eq] at h
  exact ⟨h.1.1, fun z => h.1.2.elim (fun y => absurd z y) id, h.2⟩
theorem mr_wo4 {g l r : Nat} (h : mr_wo g l r 4 = true) : g = r := by
  unfold mr_wo at h
  simp at h
  exact h
theorem mr_wo5 {g l r p : Nat} (h : mr_wo g l r p = true) : p < 5 := by
  unfold mr_wo at h
  simp only [Bool.or_eq_true, Bool.and_eq_true, decide_eq_true_eq] at h
  omega
theorem mr_ln2 (h : Nat) : mr_ln h < 2 := by unfold mr_ln; split <;> decide
end
section
/-! the invariant of the network, clause by clause -/
def mr_nx (SZ : Nat → Nat) (m k m' k' : Nat) : Prop := (k < SZ m ∧ m' = m ∧ k' = k + 1) ∨ (k = SZ m ∧ k' = 0)
/-- one buffer: s pieces, way lv, first piece (m0, k0), second (m1, k1), next to come (im, ik), next to leave (gm, gk) -/
def mr_qb (SZ : Nat → Nat) (s lv m0 k0 m1 k1 im ik gm gk : Nat) : Prop :=
  (s = 0 ∧ ((lv = 0 ∧ ik = 0) ∨ (lv ≠ 0 ∧ gm = im ∧ gk = ik ∧ ik ≠ 0))) ∨
  (s = 1 ∧ ((lv = 0 ∧ k0 = 0) ∨ (lv ≠ 0 ∧ gm = m0 ∧ gk = k0)) ∧ mr_nx SZ m0 k0 im ik) ∨
  (s = 2 ∧ ((lv = 0 ∧ k0 = 0) ∨ (lv ≠ 0 ∧ gm = m0 ∧ gk = k0)) ∧ mr_nx SZ m0 k0 m1 k1 ∧ mr_nx SZ m1 k1 im ik)
theorem mr_nxs {SZ : Nat → Nat} {m k : Nat} (h : k ≤ SZ m) : mr_nx SZ m k m (if k = SZ m then 0 else k + 1) := by
  unfold mr_nx
  by_cases e : k = SZ m
  · rw [if_pos e]; exact Or.inr ⟨e, rfl⟩
  · rw [if_neg e]; exact Or.inl ⟨by omega, rfl, rfl⟩
theorem mr_qb2 {SZ : Nat → Nat} {s lv m0 k0 m1 k1 im ik gm gk : Nat} (h : mr_qb SZ s lv m0 k0 m1 k1 im ik gm gk) : s ≤ 2 := by
  unfold mr_qb at h
  omega
theorem mr_qbf {SZ : Nat → Nat} {s lv m0 k0 m1 k1 im ik gm gk : Nat} (h : mr_qb SZ s lv m0 k0 m1 k1 im ik gm gk) (hs : 1 ≤ s) (hl : lv ≠ 0) : gm = m0 ∧ gk = k0 := by
  unfold mr_qb at h
  rcases h with h | h | h <;> omega
theorem mr_qbh {SZ : Nat → Nat} {s lv m0 k0 m1 k1 im ik gm gk : Nat} (h : mr_qb SZ s lv m0 k0 m1 k1 im ik gm gk) (hs : 1 ≤ s) (hl : lv = 0) : k0 = 0 := by
  unfold mr_qb at h
  rcases h with h | h | h <;> omega
theorem mr_qbe {SZ : Nat → Nat} {s lv m0 k0 m1 k1 im ik gm gk : Nat} (h : mr_qb SZ s lv m0 k0 m1 k1 im ik gm gk) (hs : s = 0) (hl : lv ≠ 0) : ik ≠ 0 := by
  unfold mr_qb at h
  rcases h with h | h | h <;> omega
theorem mr_qbd {SZ : Nat → Nat} {s lv m0 k0 m1 k1 im ik gm gk : Nat} (h : mr_qb SZ s lv m0 k0 m1 k1 im ik gm gk) (hs : s = 2) (h1 : 1 ≤ SZ m0) : ¬ (m1 = m0 ∧ k1 = k0) := by
  unfold mr_qb mr_nx at h
  rcases h with h | h | h <;> omega
theorem mr_qb_drop {SZ : Nat → Nat} {s lv m0 k0 m1 k1 im ik gm gk s' m0' k0' m1' k1' : Nat} (h : mr_qb SZ s lv m0 k0 m1 k1 im ik gm gk) (hs : 1 ≤ s) (hl : lv ≠ 0)
    (es : s' + 1 = s) (h2 : s = 2 → m0' = m1 ∧ k0' = k1) : mr_qb SZ s' (if k0 = SZ m0 then 0 else lv) m0' k0' m1' k1' im ik gm (k0 + 1) := by
  unfold mr_qb at h ⊢
  rcases h with h | ⟨e, h, hn⟩ | ⟨e, h, hn, hi⟩
  · omega
  · refine Or.inl ⟨by omega, ?_⟩
    unfold mr_nx at hn
    by_cases z : k0 = SZ m0
    · rw [if_pos z]; exact Or.inl ⟨rfl, by omega⟩
    · rw [if_neg z]; exact Or.inr ⟨hl, by omega, by omega, by omega⟩
  · obtain ⟨rfl, rfl⟩ := h2 e
    refine Or.inr (Or.inl ⟨by omega, ?_, hi⟩)
    unfold mr_nx at hn
    by_cases z : k0 = SZ m0
    · rw [if_pos z]; exact Or.inl ⟨rfl, by omega⟩
    · rw [if_neg z]; exact Or.inr ⟨hl, by omega, by omega⟩
theorem mr_qb_put {SZ : Nat → Nat} {s lv m0 k0 m1 k1 im ik gm gk s' m0' k0' m1' k1' m k : Nat} (h : mr_qb SZ s lv m0 k0 m1 k1 im ik gm gk) (hs : s ≤ 1) (hk : k ≤ SZ m)
    (hi : ik = k) (hm : k ≠ 0 → im = m) (es : s' = s + 1) (h0 : s = 0 → m0' = m ∧ k0' = k) (h1 : s = 1 → m0' = m0 ∧ k0' = k0 ∧ m1' = m ∧ k1' = k) :
    mr_qb SZ s' lv m0' k0' m1' k1' m (if k = SZ m then 0 else k + 1) gm gk := by
  unfold mr_qb at h ⊢
  rcases h with ⟨e, h⟩ | ⟨e, h, hn⟩ | ⟨e, h⟩
  · obtain ⟨rfl, rfl⟩ := h0 e
    refine Or.inr (Or.inl ⟨by omega, ?_, mr_nxs hk⟩)
    rcases h with ⟨a, b⟩ | ⟨a, b, c, d⟩
    · exact Or.inl ⟨a, by omega⟩
    · have := hm (by omega)
      exact Or.inr ⟨a, by omega, by omega⟩
  · obtain ⟨rfl, rfl, rfl, rfl⟩ := h1 e
    refine Or.inr (Or.inr ⟨by omega, h, ?_, mr_nxs hk⟩)
    unfold mr_nx at hn ⊢
    rcases hn with ⟨a, b, c⟩ | ⟨a, b⟩
    · have := hm (by omega)
      exact Or.inl ⟨a, by omega, by omega⟩
    · exact Or.inr ⟨a, by omega⟩
  · omega
def mr_u2 (f : Nat → Nat → Nat) (m k v : Nat) : Nat → Nat → Nat := fun i j => if i = m ∧ j = k then v else f i j
theorem mr_u2s {f : Nat → Nat → Nat} {m k v : Nat} : mr_u2 f m k v m k = v := if_pos ⟨rfl, rfl⟩
theorem mr_u2n {f : Nat → Nat → Nat} {m k v i j : Nat} (h : ¬ (i = m ∧ j = k)) : mr_u2 f m k v i j = f i j := if_neg h
/-- the buffer behind the way of b, and that way's number -/
def mr_xb (LV : Nat → Nat) (b : Nat) : Nat := mr_bh (b / 10) (LV b - 1) (b % 2)
def mr_ob (LV : Nat → Nat) (b : Nat) : Nat := mr_bf (b / 10) (LV b - 1) (b % 2)
def mr_own (HO : Nat → Nat) (p m : Nat) : Nat := mr_bf p 4 (mr_ln (HO m))
def mr_Fx (pr : Int32) (SR GO HO SZ : Nat → Nat) : Prop :=
  (∀ m, m < 20 → bt pr m = true → 1 ≤ SZ m ∧ SR m < 16 ∧ GO m < 16 ∧ HO m ≤ 2) ∧ (∀ m, m < 20 → SZ m ≤ 5) ∧ (∀ m, m < 32 → bt pr m = true → m < 20)
def mr_IQ (SZ BS LV M0 K0 M1 K1 im ik gm gk : Nat → Nat) : Prop :=
  ∀ b, b < 160 → mr_qb SZ (BS b) (LV b) (M0 b) (K0 b) (M1 b) (K1 b) (im b) (ik b) (gm b) (gk b)
def mr_so (pr : Int32) (GO HO SZ : Nat → Nat) (sw : Nat → Int32) (loc : Nat → Nat → Nat) (b m k : Nat) (w : Int32) : Prop :=
  m < 20 ∧ bt pr m = true ∧ mr_rg (GO m) (mr_ln (HO m)) b = true ∧ k ≤ SZ m ∧ (1 ≤ k → w = sw (m * 5 + k - 1)) ∧ loc m k = b
def mr_IS (pr : Int32) (GO HO SZ : Nat → Nat) (sw : Nat → Int32) (BS M0 K0 : Nat → Nat) (W0 : Nat → Int32) (M1 K1 : Nat → Nat) (W1 : Nat → Int32) (loc : Nat → Nat → Nat) : Prop :=
  ∀ b, b < 160 → (1 ≤ BS b → mr_so pr GO HO SZ sw loc b (M0 b) (K0 b) (W0 b)) ∧ (BS b = 2 → mr_so pr GO HO SZ sw loc b (M1 b) (K1 b) (W1 b))
def mr_IG (pr : Int32) (GO HO SZ LV OW CM im ik gm gk : Nat → Nat) : Prop :=
  ∀ b, b < 160 → LV b ≠ 0 → LV b ≤ 5 ∧ gm b < 20 ∧ bt pr (gm b) = true ∧ mr_rg (GO (gm b)) (mr_ln (HO (gm b))) b = true ∧ gk b ≤ SZ (gm b) ∧
    mr_wo (GO (gm b)) (mr_ln (HO (gm b))) (b / 10) (LV b - 1) = true ∧ OW (mr_ob LV b) = b + 1 ∧
    (LV b ≠ 5 → ik (mr_xb LV b) = gk b ∧ (gk b ≠ 0 → im (mr_xb LV b) = gm b)) ∧ (LV b = 5 → CM (gm b) = gk b)
def mr_IO (LV OW : Nat → Nat) : Prop :=
  ∀ o, o < 160 → OW o ≠ 0 → OW o ≤ 160 ∧ LV (OW o - 1) = o / 2 % 5 + 1 ∧ (OW o - 1) / 10 = o / 10 ∧ (OW o - 1) % 2 = o % 2
def mr_II (HO LV EN EP im ik gm gk : Nat → Nat) : Prop :=
  ∀ d, d < 160 → ik d ≠ 0 → (EN (d / 10) = im d + 1 ∧ EP (d / 10) = ik d ∧ d = mr_own HO (d / 10) (im d)) ∨
    (∃ b, b < 160 ∧ LV b ≠ 0 ∧ LV b ≠ 5 ∧ mr_xb LV b = d ∧ gm b = im d ∧ gk b = ik d)
def mr_IE (pr : Int32) (SR HO SZ : Nat → Nat) (st : Int32) (EN EP im ik : Nat → Nat) (loc : Nat → Nat → Nat) : Prop :=
  ∀ p, p < 16 → EN p ≠ 0 → EN p ≤ 20 ∧ bt pr (EN p - 1) = true ∧ bt st (EN p - 1) = true ∧ SR (EN p - 1) = p ∧ EP p ≤ SZ (EN p - 1) ∧
    (∀ k, k ≤ SZ (EN p - 1) → (loc (EN p - 1) k = 161 ↔ EP p ≤ k)) ∧ ik (mr_own HO p (EN p - 1)) = EP p ∧ (EP p ≠ 0 → im (mr_own HO p (EN p - 1)) = EN p - 1)
def mr_J1 (pr : Int32) (SZ : Nat → Nat) (th : Int32) (CM : Nat → Nat) (loc : Nat → Nat → Nat) : Prop :=
  ∀ m, m < 20 → bt pr m = true → CM m ≤ SZ m + 1 ∧ (bt th m = true ↔ CM m = SZ m + 1) ∧ ∀ k, k ≤ SZ m → (loc m k = 160 ↔ k < CM m) ∧ loc m k ≤ 161
def mr_J2 (pr : Int32) (SR SZ : Nat → Nat) (th st : Int32) (EN : Nat → Nat) (loc : Nat → Nat → Nat) : Prop :=
  ∀ m, m < 20 → bt pr m = true → (bt st m = false → bt th m = false → ∀ k, k ≤ SZ m → loc m k = 161) ∧ (bt st m = true → EN (SR m) ≠ m + 1 → ∀ k, k ≤ SZ m → loc m k ≠ 161)
def mr_J3 (pr : Int32) (SZ : Nat → Nat) (sw cw : Nat → Int32) (loc : Nat → Nat → Nat) : Prop :=
  ∀ m k, m < 20 → bt pr m = true → 1 ≤ k → k ≤ SZ m → loc m k = 160 → cw (m * 5 + k - 1) = sw (m * 5 + k - 1)
def mr_J4 (pr : Int32) (SZ BS M0 K0 M1 K1 : Nat → Nat) (loc : Nat → Nat → Nat) : Prop :=
  ∀ m k, m < 20 → bt pr m = true → k ≤ SZ m → loc m k < 160 →
    (1 ≤ BS (loc m k) ∧ M0 (loc m k) = m ∧ K0 (loc m k) = k) ∨ (BS (loc m k) = 2 ∧ M1 (loc m k) = m ∧ K1 (loc m k) = k)
def mr_IT (pr th st : Int32) : Prop := (∀ m, m < 32 → bt th m = true → bt pr m = true) ∧ (∀ m, m < 32 → bt st m = true → bt pr m = true)
def mr_IX (pr : Int32) (SZ : Nat → Nat) (loc : Nat → Nat → Nat) : Prop := ∀ m k, m < 20 → k < 6 → (bt pr m = false ∨ SZ m < k) → loc m k = 160
def mr_Inv (pr : Int32) (SR GO HO SZ : Nat → Nat) (sw : Nat → Int32) (th st : Int32) (cw : Nat → Int32) (CM EN EP BS M0 M1 K0 K1 : Nat → Nat) (W0 W1 : Nat → Int32) (LV OW : Nat → Nat) (loc : Nat → Nat → Nat) (im ik gm gk : Nat → Nat) : Prop :=
  (mr_Fx pr SR GO HO SZ) ∧ (mr_IQ SZ BS LV M0 K0 M1 K1 im ik gm gk) ∧ (mr_IS pr GO HO SZ sw BS M0 K0 W0 M1 K1 W1 loc) ∧ (mr_IG pr GO HO SZ LV OW CM im ik gm gk) ∧ (mr_IO LV OW) ∧ (mr_II HO LV EN EP im ik gm gk) ∧ (mr_IE pr SR HO SZ st EN EP im ik loc) ∧ (mr_J1 pr SZ th CM loc) ∧ (mr_J2 pr SR SZ th st EN loc) ∧ (mr_J3 pr SZ sw cw loc) ∧ (mr_J4 pr SZ BS M0 K0 M1 K1 loc) ∧ (mr_IT pr th st) ∧ (mr_IX pr SZ loc)
/-- what is left to do for a piece at l, and how many lines it has yet to cross -/
def mr_cx (SR GO : Nat → Nat) (m l : Nat) : Nat := if l = 160 then 0 else if l = 161 then mr_di (SR m) (GO m) else mr_di (l / 10) (GO m)
def mr_wx (SR GO : Nat → Nat) (m l : Nat) : Nat := mr_cx SR GO m l + (if l = 160 then 0 else if l = 161 then 2 else 1)
def mr_Ph (SR GO : Nat → Nat) (loc : Nat → Nat → Nat) : Nat := mr_s2 (fun m k => mr_wx SR GO m (loc m k))
def mr_Ch (SR GO : Nat → Nat) (loc : Nat → Nat → Nat) : Nat := mr_s2 (fun m k => mr_cx SR GO m (loc m k))
theorem mr_ph_u {SR GO : Nat → Nat} {loc : Nat → Nat → Nat} {m k l : Nat} (hm : m < 20) (hk : k < 6) :
    mr_Ph SR GO (mr_u2 loc m k l) + mr_wx SR GO m (loc m k) = mr_Ph SR GO loc + mr_wx SR GO m l := by
  have h := mr_s2u (F := fun m k => mr_wx SR GO m (loc m k)) (G := fun i j => mr_wx SR GO i (mr_u2 loc m k l i j)) hm hk (fun i j _ _ z => by
    rw [mr_u2n z])
  rw [mr_u2s] at h
  exact h
theorem mr_ch_u {SR GO : Nat → Nat} {loc : Nat → Nat → Nat} {m k l : Nat} (hm : m < 20) (hk : k < 6) :
    mr_Ch SR GO (mr_u2 loc m k l) + mr_cx SR GO m (loc m k) = mr_Ch SR GO loc + mr_cx SR GO m l := by
  have h := mr_s2u (F := fun m k => mr_cx SR GO m (loc m k)) (G := fun i j => mr_cx SR GO i (mr_u2 loc m k l i j)) hm hk (fun i j _ _ z => by
    rw [mr_u2n z])
  rw [mr_u2s] at h
  exact h
/-- facts on the way of b -/
theorem mr_way {pr : Int32} {SR GO HO SZ LV OW CM im ik gm gk : Nat → Nat} (F : (mr_Fx pr SR GO HO SZ)) (G : (mr_IG pr GO HO SZ LV OW CM im ik gm gk)) {b : Nat} (hb : b < 160) (hl : LV b ≠ 0) (h5 : LV b ≠ 5) :
    LV b - 1 < 4 ∧ mr_vl (b / 10) (LV b - 1) = true ∧ mr_xb LV b < 160 ∧ mr_rg (GO (gm b)) (mr_ln (HO (gm b))) (mr_xb LV b) = true ∧
    mr_di (mr_xb LV b / 10) (GO (gm b)) + 1 = mr_di (b / 10) (GO (gm b)) ∧ mr_rk b < mr_rk (mr_xb LV b) ∧ mr_xb LV b / 2 % 5 < 4 ∧ mr_xb LV b ≠ b ∧ mr_xb LV b / 10 ≠ b / 10 := by
  obtain ⟨g1, g2, g3, g4, g5, g6, g7, g8, g9⟩ := G b hb hl
  have h4 : LV b - 1 < 4 := by omega
  obtain ⟨a1, a2, a3, a4, a5⟩ := mr_geo hb (F.1 _ g2 g3).2.2.1 h4 g4 g6
  obtain ⟨b1, b2, b3, b4, b5, b6, b7, b8⟩ := mr_bhf (r := b / 10) (p := LV b - 1) (l := b % 2) (by omega) h4 (by omega) a1
  have e : mr_xb LV b / 10 ≠ b / 10 := by unfold mr_xb; rw [b2]; exact b8
  exact ⟨h4, a1, a2, a3, a4, a5, by unfold mr_xb; rw [b3]; exact b6, fun z => e (by rw [z]), e⟩
/-- two buffers with one way are one buffer -/
theorem mr_way1 {pr : Int32} {GO HO SZ LV OW CM im ik gm gk : Nat → Nat} (G : (mr_IG pr GO HO SZ LV OW CM im ik gm gk)) {b c : Nat} (hb : b < 160) (hc : c < 160) (lb : LV b ≠ 0) (lc : LV c ≠ 0) (e : mr_ob LV b = mr_ob LV c) : b = c := by
  have h1 := (G b hb lb).2.2.2.2.2.2.1
  have h2 := (G c hc lc).2.2.2.2.2.2.1
  rw [e, h2] at h1
  omega
theorem mr_way2 {pr : Int32} {SR GO HO SZ LV OW CM im ik gm gk : Nat → Nat} (F : (mr_Fx pr SR GO HO SZ)) (G : (mr_IG pr GO HO SZ LV OW CM im ik gm gk)) {b c : Nat} (hb : b < 160) (hc : c < 160) (lb : LV b ≠ 0) (lc : LV c ≠ 0) (b5 : LV b ≠ 5) (c5 : LV c ≠ 5) (e : mr_xb LV b = mr_xb LV c) : b = c := by
  obtain ⟨b1, b2, _⟩ := mr_way F G hb lb b5
  obtain ⟨c1, c2, _⟩ := mr_way F G hc lc c5
  exact mr_way1 G hb hc lb lc (mr_bhi (by omega) b1 (by omega) b2 (by omega) c1 (by omega) c2 e)
theorem mr_obf {LV : Nat → Nat} {b : Nat} (hb : b < 160) (h : LV b ≤ 5) (h0 : LV b ≠ 0) : mr_ob LV b / 10 = b / 10 ∧ mr_ob LV b / 2 % 5 = LV b - 1 ∧ mr_ob LV b % 2 = b % 2 ∧ mr_ob LV b < 160 := by
  obtain ⟨a, b', c⟩ := mr_bff (r := b / 10) (p := LV b - 1) (l := b % 2) (by omega) (by omega)
  exact ⟨a, b', c, mr_bfl (by omega) (by omega) (by omega)⟩
theorem mr_owf {HO : Nat → Nat} {p m : Nat} (hp : p < 16) : mr_own HO p m / 10 = p ∧ mr_own HO p m / 2 % 5 = 4 ∧ mr_own HO p m % 2 = mr_ln (HO m) ∧ mr_own HO p m < 160 := by
  obtain ⟨a, b', c⟩ := mr_bff (r := p) (p := 4) (l := mr_ln (HO m)) (by omega) (mr_ln2 _)
  exact ⟨a, b', c, mr_bfl hp (by omega) (mr_ln2 _)⟩
end
section
/-! the five steps keep the invariant -/
def mr_dr (BS BS' M0 M0' M1 K0 K0' K1 : Nat → Nat) (W0 W0' W1 : Nat → Int32) (b : Nat) : Prop :=
  BS' b + 1 = BS b ∧ (BS b = 2 → M0' b = M1 b ∧ K0' b = K1 b ∧ W0' b = W1 b)
def mr_pu (BS BS' M0 M0' M1' K0 K0' K1' : Nat → Nat) (W0 W0' W1' : Nat → Int32) (d m k : Nat) (w : Int32) : Prop :=
  BS' d = BS d + 1 ∧ (BS d = 0 → M0' d = m ∧ K0' d = k ∧ W0' d = w) ∧ (BS d = 1 → M0' d = M0 d ∧ K0' d = K0 d ∧ W0' d = W0 d ∧ M1' d = m ∧ K1' d = k ∧ W1' d = w)
def mr_sa (BS BS' M0 M0' M1 M1' K0 K0' K1 K1' : Nat → Nat) (W0 W0' W1 W1' : Nat → Int32) (c : Nat) : Prop :=
  BS' c = BS c ∧ M0' c = M0 c ∧ M1' c = M1 c ∧ K0' c = K0 c ∧ K1' c = K1 c ∧ W0' c = W0 c ∧ W1' c = W1 c
theorem mr_obn {LV : Nat → Nat} {b c v : Nat} (h : c ≠ b) : mr_ob (mr_up LV b v) c = mr_ob LV c := by unfold mr_ob; rw [mr_un h]
theorem mr_xbn {LV : Nat → Nat} {b c v : Nat} (h : c ≠ b) : mr_xb (mr_up LV b v) c = mr_xb LV c := by unfold mr_xb; rw [mr_un h]
theorem mr_dropO {LV OW : Nat → Nat} {b x y : Nat} (hb : b < 160) (l1 : LV b ≠ 0) (O : (mr_IO LV OW)) (g7 : OW (mr_ob LV b) = b + 1) :
    (mr_IO (mr_up LV b (if x = y then 0 else LV b)) (mr_up OW (mr_ob LV b) (if x = y then 0 else b + 1))) := by
  by_cases t : x = y
  · rw [if_pos t, if_pos t]
    intro o ho no
    by_cases eo : o = mr_ob LV b
    · rw [eo, mr_us] at no; exact absurd rfl no
    · rw [mr_un eo] at no ⊢
      obtain ⟨o1, o2, o3, o4⟩ := O o ho no
      have nb : OW o - 1 ≠ b := fun e => by
        rw [e] at o2 o3 o4
        apply eo
        unfold mr_ob mr_bf
        omega
      rw [mr_un nb]
      exact ⟨o1, o2, o3, o4⟩
  · rw [if_neg t, if_neg t, mr_uu, ← g7, mr_uu]
    exact O
/-- a drop at b, seen by the other clauses: what b held second it holds first -/
theorem mr_stepH {pr : Int32} {SR GO HO SZ : Nat → Nat} {sw : Nat → Int32} {th st : Int32} {cw : Nat → Int32} {CM EN EP BS M0 M1 K0 K1 : Nat → Nat} {W0 W1 : Nat → Int32} {LV OW : Nat → Nat} {loc : Nat → Nat → Nat} {im ik gm gk : Nat → Nat} {BS' M0' M1' K0' K1' : Nat → Nat} {W0' W1' : Nat → Int32} {b d : Nat} (I : (mr_Inv pr SR GO HO SZ sw th st cw CM EN EP BS M0 M1 K0 K1 W0 W1 LV OW loc im ik gm gk)) (hb : b < 160) (s1 : 1 ≤ BS b) (l1 : LV b ≠ 0) (l5 : LV b ≠ 5) (ed : d = mr_xb LV b) (d1 : BS d ≤ 1)
    (D : (mr_dr BS BS' M0 M0' M1 K0 K0' K1 W0 W0' W1) b) (P : (mr_pu BS BS' M0 M0' M1' K0 K0' K1' W0 W0' W1') d (M0 b) (K0 b) (W0 b)) (A : ∀ c, c ≠ b → c ≠ d → (mr_sa BS BS' M0 M0' M1 M1' K0 K0' K1 K1' W0 W0' W1 W1') c) :
    (mr_Inv pr SR GO HO SZ sw th st cw CM EN EP BS' M0' M1' K0' K1' W0' W1' (mr_up LV b (if K0 b = SZ (M0 b) then 0 else LV b)) (mr_up OW (mr_ob LV b) (if K0 b = SZ (M0 b) then 0 else b + 1)) (mr_u2 loc (M0 b) (K0 b) d) (mr_up im d (M0 b)) (mr_up ik d (if K0 b = SZ (M0 b) then 0 else K0 b + 1)) gm (mr_up gk b (K0 b + 1))) ∧
    (mr_Ph SR GO (mr_u2 loc (M0 b) (K0 b) d)) + 1 = (mr_Ph SR GO loc) ∧ (mr_Ch SR GO (mr_u2 loc (M0 b) (K0 b) d)) + 1 = (mr_Ch SR GO loc) := by
  obtain ⟨F, Q, S, G, O, II, E, J1, J2, J3, J4, T, X⟩ := I
  obtain ⟨gmb, gkb⟩ := mr_qbf (Q b hb) s1 l1
  obtain ⟨g1, g2, g3, g4, g5, g6, g7, g8, _⟩ := G b hb l1
  obtain ⟨w1, w2, w3, w4, w5, w6, w7, w8, w9⟩ := mr_way F G hb l1 l5
  obtain ⟨g8a, g8b⟩ := g8 l5
  rw [← ed] at w3 w4 w5 w6 w7 w8 w9 g8a g8b
  obtain ⟨m20, pm, rgb, kS, wd, lb⟩ := (S b hb).1 s1
  obtain ⟨z1, sr, go, ho⟩ := F.1 _ m20 pm
  have z5 := F.2.1 _ m20
  have nob : ∀ c, c < 160 → LV c ≠ 0 → c ≠ b → mr_ob LV c ≠ mr_ob LV b := fun c hc lc n e => n (mr_way1 G hc hb lc l1 e)
  have nxd : ∀ c, c < 160 → LV c ≠ 0 → LV c ≠ 5 → c ≠ b → mr_xb LV c ≠ d := fun c hc lc c5 n e => n (mr_way2 F G hc hb lc l1 c5 l5 (e.trans ed))
  have nsl : BS b = 2 → ¬ (M1 b = M0 b ∧ K1 b = K0 b) := fun e => mr_qbd (Q b hb) e z1
  rw [gmb] at w4 w5 g8b
  rw [gkb] at g8a g8b
  refine ⟨⟨F, ?_, ?_, ?_, mr_dropO hb l1 O g7, ?_, ?_, ?_, ?_, ?_, ?_, T, ?_⟩, ?_, ?_⟩
  · intro c hc
    by_cases cb : c = b
    · subst cb
      rw [mr_us, mr_us, mr_un (Ne.symm w8), mr_un (Ne.symm w8)]
      exact mr_qb_drop (Q c hc) s1 l1 D.1 (fun e => ⟨(D.2 e).1, (D.2 e).2.1⟩)
    · rw [mr_un cb, mr_un cb]
      by_cases cd : c = d
      · subst cd
        rw [mr_us, mr_us]
        exact mr_qb_put (Q c hc) d1 kS g8a g8b P.1 (fun e => ⟨(P.2.1 e).1, (P.2.1 e).2.1⟩)
          (fun e => ⟨(P.2.2 e).1, (P.2.2 e).2.1, (P.2.2 e).2.2.2.1, (P.2.2 e).2.2.2.2.1⟩)
      · obtain ⟨a1, a2, a3, a4, a5, a6, a7⟩ := A c cb cd
        rw [mr_un cd, mr_un cd, a1, a2, a3, a4, a5]
        exact Q c hc
  · intro c hc
    by_cases cb : c = b
    · subst cb
      refine ⟨fun h => ?_, fun h => ?_⟩
      · have e : BS c = 2 := by have := D.1; have := mr_qb2 (Q c hc); omega
        obtain ⟨x1, x2, x3⟩ := D.2 e
        obtain ⟨y1, y2, y3, y4, y5, y6⟩ := (S c hc).2 e
        rw [x1, x2, x3]
        exact ⟨y1, y2, y3, y4, y5, (mr_u2n (nsl e)).trans y6⟩
      · have := D.1; have := mr_qb2 (Q c hc); omega
    · by_cases cd : c = d
      · subst cd
        rcases Nat.lt_or_ge (BS c) 1 with h0 | h0
        · have e : BS c = 0 := by omega
          obtain ⟨x1, x2, x3⟩ := P.2.1 e
          refine ⟨fun _ => ?_, fun h => ?_⟩
          · rw [x1, x2, x3]
            exact ⟨m20, pm, w4, kS, wd, mr_u2s⟩
          · have := P.1; omega
        · have e : BS c = 1 := by omega
          obtain ⟨x1, x2, x3, x4, x5, x6⟩ := P.2.2 e
          refine ⟨fun _ => ?_, fun h => ?_⟩
          · obtain ⟨y1, y2, y3, y4, y5, y6⟩ := (S c hc).1 h0
            rw [x1, x2, x3]
            exact ⟨y1, y2, y3, y4, y5, (mr_u2n (fun z => cb (by rw [z.1, z.2, lb] at y6; exact y6.symm))).trans y6⟩
          · rw [x4, x5, x6]
            exact ⟨m20, pm, w4, kS, wd, mr_u2s⟩
      · obtain ⟨a1, a2, a3, a4, a5, a6, a7⟩ := A c cb cd
        rw [a1, a2, a3, a4, a5, a6, a7]
        refine ⟨fun h => ?_, fun h => ?_⟩
        · obtain ⟨y1, y2, y3, y4, y5, y6⟩ := (S c hc).1 h
          exact ⟨y1, y2, y3, y4, y5, (mr_u2n (fun z => cb (by rw [z.1, z.2, lb] at y6; exact y6.symm))).trans y6⟩
        · obtain ⟨y1, y2, y3, y4, y5, y6⟩ := (S c hc).2 h
          exact ⟨y1, y2, y3, y4, y5, (mr_u2n (fun z => cb (by rw [z.1, z.2, lb] at y6; exact y6.symm))).trans y6⟩
  · by_cases t : K0 b = SZ (M0 b)
    · rw [if_pos t, if_pos t, if_pos t]
      intro c hc lc
      have cb : c ≠ b := fun e => by rw [e, mr_us] at lc; exact lc rfl
      rw [mr_un cb] at lc
      rw [mr_un cb, mr_obn cb, mr_xbn cb, mr_un cb, mr_un (nob c hc lc cb)]
      obtain ⟨c1, c2, c3, c4, c5, c6, c7, c8, c9⟩ := G c hc lc
      exact ⟨c1, c2, c3, c4, c5, c6, c7, fun e => by rw [mr_un (nxd c hc lc e cb), mr_un (nxd c hc lc e cb)]; exact c8 e, c9⟩
    · rw [if_neg t, if_neg t, if_neg t, mr_uu, ← g7, mr_uu]
      intro c hc lc
      obtain ⟨c1, c2, c3, c4, c5, c6, c7, c8, c9⟩ := G c hc lc
      by_cases cb : c = b
      · subst cb
        rw [mr_us]
        refine ⟨c1, c2, c3, c4, ?_, c6, c7, fun e => ?_, fun e => absurd e l5⟩
        · rw [gmb]; omega
        · rw [← ed, mr_us, mr_us]; exact ⟨rfl, fun _ => gmb.symm⟩
      · rw [mr_un cb]
        exact ⟨c1, c2, c3, c4, c5, c6, c7, fun e => by rw [mr_un (nxd c hc lc e cb), mr_un (nxd c hc lc e cb)]; exact c8 e, c9⟩
  · intro c hc nc
    by_cases cd : c = d
    · subst cd
      rw [mr_us] at nc
      have t : ¬ K0 b = SZ (M0 b) := fun z => nc (if_pos z)
      refine Or.inr ⟨b, hb, ?_⟩
      rw [mr_us, mr_us, mr_us, if_neg t, if_neg t, mr_uu]
      exact ⟨l1, l5, ed.symm, gmb, mr_us.symm⟩
    · rw [mr_un cd] at nc
      rw [mr_un cd, mr_un cd]
      rcases II c hc nc with h | ⟨e, he, e1, e2, e3, e4, e5⟩
      · exact Or.inl h
      · have eb : e ≠ b := fun z => cd (by rw [← e3, z, ed])
        refine Or.inr ⟨e, he, ?_⟩
        rw [mr_un eb, mr_un eb, mr_xbn eb]
        exact ⟨e1, e2, e3, e4, e5⟩
  · intro p hp np
    obtain ⟨e1, e2, e3, e4, e5, e6, e7, e8⟩ := E p hp np
    have nd : mr_own HO p (EN p - 1) ≠ d := fun z => by
      have := (mr_owf (HO := HO) (m := EN p - 1) hp).2.1
      rw [z] at this
      omega
    rw [mr_un nd, mr_un nd]
    refine ⟨e1, e2, e3, e4, e5, fun k hk => ?_, e7, e8⟩
    by_cases z : EN p - 1 = M0 b ∧ k = K0 b
    · have h6 := e6 k hk
      rw [z.1, z.2] at h6 ⊢
      rw [mr_u2s, ← h6, lb]
      omega
    · rw [mr_u2n z]; exact e6 k hk
  · intro m hm pm'
    obtain ⟨a1, a2, a3⟩ := J1 m hm pm'
    refine ⟨a1, a2, fun k hk => ?_⟩
    by_cases z : m = M0 b ∧ k = K0 b
    · have h := a3 k hk
      rw [z.1, z.2] at h ⊢
      rw [mr_u2s]
      rw [lb] at h
      exact ⟨by rw [← h.1]; omega, by omega⟩
    · rw [mr_u2n z]; exact a3 k hk
  · intro m hm pm'
    obtain ⟨a1, a2⟩ := J2 m hm pm'
    refine ⟨fun x1 x2 k hk => ?_, fun x1 x2 k hk => ?_⟩
    · by_cases z : m = M0 b ∧ k = K0 b
      · have h := a1 x1 x2 k hk
        rw [z.1, z.2, lb] at h
        omega
      · rw [mr_u2n z]; exact a1 x1 x2 k hk
    · by_cases z : m = M0 b ∧ k = K0 b
      · rw [z.1, z.2, mr_u2s]
        omega
      · rw [mr_u2n z]; exact a2 x1 x2 k hk
  · intro m k hm pm' k1 kz lk
    by_cases z : m = M0 b ∧ k = K0 b
    · rw [z.1, z.2, mr_u2s] at lk; omega
    · rw [mr_u2n z] at lk; exact J3 m k hm pm' k1 kz lk
  · intro m k hm pm' kz lk
    by_cases z : m = M0 b ∧ k = K0 b
    · obtain ⟨zm, zk⟩ := z
      subst zm zk
      rw [mr_u2s]
      rcases Nat.lt_or_ge (BS d) 1 with h0 | h0
      · have e : BS d = 0 := by omega
        have := P.1
        exact Or.inl ⟨by omega, (P.2.1 e).1, (P.2.1 e).2.1⟩
      · have e : BS d = 1 := by omega
        have := P.1
        exact Or.inr ⟨by omega, (P.2.2 e).2.2.2.1, (P.2.2 e).2.2.2.2.1⟩
    · rw [mr_u2n z] at lk ⊢
      have h := J4 m k hm pm' kz lk
      generalize loc m k = c at h lk
      by_cases cb : c = b
      · subst cb
        rcases h with ⟨h1, h2, h3⟩ | ⟨h1, h2, h3⟩
        · exact absurd ⟨h2.symm, h3.symm⟩ z
        · obtain ⟨x1, x2, x3⟩ := D.2 h1
          have := D.1
          exact Or.inl ⟨by omega, x1.trans h2, x2.trans h3⟩
      · by_cases cd : c = d
        · subst cd
          have := P.1
          rcases h with ⟨h1, h2, h3⟩ | ⟨h1, h2, h3⟩
          · have e : BS c = 1 := by omega
            exact Or.inl ⟨by omega, (P.2.2 e).1.trans h2, (P.2.2 e).2.1.trans h3⟩
          · omega
        · obtain ⟨x1, x2, x3, x4, x5, x6, x7⟩ := A c cb cd
          rw [x1, x2, x3, x4, x5]
          exact h
  · intro m k hm hk h
    have z : ¬ (m = M0 b ∧ k = K0 b) := fun z => by
      rw [z.1, z.2, pm] at h
      rcases h with h | h
      · exact nomatch h
      · omega
    rw [mr_u2n z]
    exact X m k hm hk h
  · have h := mr_ph_u (SR := SR) (GO := GO) (loc := loc) (m := M0 b) (k := K0 b) (l := d) m20 (by omega)
    rw [lb] at h
    unfold mr_wx mr_cx at h
    rw [if_neg (by omega), if_neg (by omega), if_neg (by omega), if_neg (by omega), if_neg (by omega), if_neg (by omega), if_neg (by omega), if_neg (by omega)] at h
    omega
  · have h := mr_ch_u (SR := SR) (GO := GO) (loc := loc) (m := M0 b) (k := K0 b) (l := d) m20 (by omega)
    rw [lb] at h
    unfold mr_cx at h
    rw [if_neg (by omega), if_neg (by omega), if_neg (by omega), if_neg (by omega)] at h
    omega
end
section
/-! a piece is received -/
theorem mr_stepR {pr : Int32} {SR GO HO SZ : Nat → Nat} {sw : Nat → Int32} {th st : Int32} {cw : Nat → Int32} {CM EN EP BS M0 M1 K0 K1 : Nat → Nat} {W0 W1 : Nat → Int32} {LV OW : Nat → Nat} {loc : Nat → Nat → Nat} {im ik gm gk : Nat → Nat} {BS' M0' M1' K0' K1' : Nat → Nat} {W0' W1' : Nat → Int32} {th' : Int32} {cw' : Nat → Int32} {b : Nat} (I : (mr_Inv pr SR GO HO SZ sw th st cw CM EN EP BS M0 M1 K0 K1 W0 W1 LV OW loc im ik gm gk)) (hb : b < 160) (s1 : 1 ≤ BS b) (l5 : LV b = 5)
    (D : (mr_dr BS BS' M0 M0' M1 K0 K0' K1 W0 W0' W1) b) (A : ∀ c, c ≠ b → (mr_sa BS BS' M0 M0' M1 M1' K0 K0' K1 K1' W0 W0' W1 W1') c)
    (ht : ∀ i, i < 32 → bt th' i = (bt th i || (decide (i = M0 b) && decide (K0 b = SZ (M0 b)))))
    (hw1 : 1 ≤ K0 b → cw' (M0 b * 5 + K0 b - 1) = W0 b) (hw2 : ∀ i, (1 ≤ K0 b → i ≠ M0 b * 5 + K0 b - 1) → cw' i = cw i) :
    (mr_Inv pr SR GO HO SZ sw th' st cw' (mr_up CM (M0 b) (K0 b + 1)) EN EP BS' M0' M1' K0' K1' W0' W1' (mr_up LV b (if K0 b = SZ (M0 b) then 0 else LV b)) (mr_up OW (mr_ob LV b) (if K0 b = SZ (M0 b) then 0 else b + 1)) (mr_u2 loc (M0 b) (K0 b) 160) im ik gm (mr_up gk b (K0 b + 1))) ∧
    (mr_Ph SR GO (mr_u2 loc (M0 b) (K0 b) 160)) + 1 = (mr_Ph SR GO loc) ∧ (mr_Ch SR GO (mr_u2 loc (M0 b) (K0 b) 160)) = (mr_Ch SR GO loc) ∧ CM (M0 b) = K0 b := by
  obtain ⟨F, Q, S, G, O, II, E, J1, J2, J3, J4, T, X⟩ := I
  have l1 : LV b ≠ 0 := by omega
  obtain ⟨gmb, gkb⟩ := mr_qbf (Q b hb) s1 l1
  obtain ⟨g1, g2, g3, g4, g5, g6, g7, _, g9⟩ := G b hb l1
  have cm := g9 l5
  obtain ⟨m20, pm, rgb, kS, wd, lb⟩ := (S b hb).1 s1
  obtain ⟨z1, sr, go, ho⟩ := F.1 _ m20 pm
  have z5 := F.2.1 _ m20
  have nob : ∀ c, c < 160 → LV c ≠ 0 → c ≠ b → mr_ob LV c ≠ mr_ob LV b := fun c hc lc n e => n (mr_way1 G hc hb lc l1 e)
  have nsl : BS b = 2 → ¬ (M1 b = M0 b ∧ K1 b = K0 b) := fun e => mr_qbd (Q b hb) e z1
  rw [gmb, gkb] at cm
  have gb : GO (M0 b) = b / 10 := by
    rw [gmb, l5] at g6
    exact mr_wo4 g6
  have ngm : ∀ c, c < 160 → LV c = 5 → c ≠ b → gm c ≠ M0 b := fun c hc lc cb e => by
    obtain ⟨c1, c2, c3, c4, c5, c6, c7, _, c9⟩ := G c hc (by omega)
    rw [e, lc] at c6
    have h1 := mr_wo4 c6
    rw [e] at c4
    have h2 := mr_rgl c4
    have h3 := mr_rgl rgb
    apply nob c hc (by omega) cb
    unfold mr_ob
    rw [lc, l5, ← h1, gb, h2, h3]
  have thm : bt th (M0 b) = false := by
    have h := (J1 _ m20 pm).2.1
    rw [cm] at h
    cases e : bt th (M0 b)
    · rfl
    · have := h.mp e; omega
  refine ⟨⟨F, ?_, ?_, ?_, mr_dropO hb l1 O g7, ?_, ?_, ?_, ?_, ?_, ?_, ?_, ?_⟩, ?_, ?_, cm⟩
  · intro c hc
    by_cases cb : c = b
    · subst cb
      rw [mr_us, mr_us]
      exact mr_qb_drop (Q c hc) s1 l1 D.1 (fun e => ⟨(D.2 e).1, (D.2 e).2.1⟩)
    · obtain ⟨a1, a2, a3, a4, a5, a6, a7⟩ := A c cb
      rw [mr_un cb, mr_un cb, a1, a2, a3, a4, a5]
      exact Q c hc
  · intro c hc
    by_cases cb : c = b
    · subst cb
      refine ⟨fun h => ?_, fun h => ?_⟩
      · have e : BS c = 2 := by have := D.1; have := mr_qb2 (Q c hc); omega
        obtain ⟨x1, x2, x3⟩ := D.2 e
        obtain ⟨y1, y2, y3, y4, y5, y6⟩ := (S c hc).2 e
        rw [x1, x2, x3]
        exact ⟨y1, y2, y3, y4, y5, (mr_u2n (nsl e)).trans y6⟩
      · have := D.1; have := mr_qb2 (Q c hc); omega
    · obtain ⟨a1, a2, a3, a4, a5, a6, a7⟩ := A c cb
      rw [a1, a2, a3, a4, a5, a6, a7]
      refine ⟨fun h => ?_, fun h => ?_⟩
      · obtain ⟨y1, y2, y3, y4, y5, y6⟩ := (S c hc).1 h
        exact ⟨y1, y2, y3, y4, y5, (mr_u2n (fun z => cb (by rw [z.1, z.2, lb] at y6; exact y6.symm))).trans y6⟩
      · obtain ⟨y1, y2, y3, y4, y5, y6⟩ := (S c hc).2 h
        exact ⟨y1, y2, y3, y4, y5, (mr_u2n (fun z => cb (by rw [z.1, z.2, lb] at y6; exact y6.symm))).trans y6⟩
  · by_cases t : K0 b = SZ (M0 b)
    · rw [if_pos t, if_pos t]
      intro c hc lc
      have cb : c ≠ b := fun e => by rw [e, mr_us] at lc; exact lc rfl
      rw [mr_un cb] at lc
      rw [mr_un cb, mr_obn cb, mr_xbn cb, mr_un cb, mr_un (nob c hc lc cb)]
      obtain ⟨c1, c2, c3, c4, c5, c6, c7, c8, c9⟩ := G c hc lc
      exact ⟨c1, c2, c3, c4, c5, c6, c7, c8, fun e => by rw [mr_un (ngm c hc e cb)]; exact c9 e⟩
    · rw [if_neg t, if_neg t, mr_uu, ← g7, mr_uu]
      intro c hc lc
      obtain ⟨c1, c2, c3, c4, c5, c6, c7, c8, c9⟩ := G c hc lc
      by_cases cb : c = b
      · subst cb
        rw [mr_us]
        refine ⟨c1, c2, c3, c4, ?_, c6, c7, fun e => absurd l5 e, fun _ => ?_⟩
        · rw [gmb]; omega
        · rw [gmb, mr_us]
      · rw [mr_un cb]
        exact ⟨c1, c2, c3, c4, c5, c6, c7, c8, fun e => by rw [mr_un (ngm c hc e cb)]; exact c9 e⟩
  · intro c hc nc
    rcases II c hc nc with h | ⟨e, he, e1, e2, e3, e4, e5⟩
    · exact Or.inl h
    · have eb : e ≠ b := fun z => e2 (by rw [z]; exact l5)
      refine Or.inr ⟨e, he, ?_⟩
      rw [mr_un eb, mr_un eb, mr_xbn eb]
      exact ⟨e1, e2, e3, e4, e5⟩
  · intro p hp np
    obtain ⟨e1, e2, e3, e4, e5, e6, e7, e8⟩ := E p hp np
    refine ⟨e1, e2, e3, e4, e5, fun k hk => ?_, e7, e8⟩
    by_cases z : EN p - 1 = M0 b ∧ k = K0 b
    · have h6 := e6 k hk
      rw [z.1, z.2] at h6 ⊢
      rw [mr_u2s, ← h6, lb]
      omega
    · rw [mr_u2n z]; exact e6 k hk
  · intro m hm pm'
    obtain ⟨a1, a2, a3⟩ := J1 m hm pm'
    rw [ht m (by omega)]
    by_cases zm : m = M0 b
    · rw [zm] at a1 a2 a3 ⊢
      rw [mr_us, thm]
      rw [cm] at a3
      refine ⟨by omega, ?_, fun k hk => ?_⟩
      · simp only [Bool.false_or, decide_true, Bool.true_and, decide_eq_true_eq]
        omega
      · by_cases zk : k = K0 b
        · rw [zk, mr_u2s]; omega
        · rw [mr_u2n (fun z => zk z.2)]
          have := a3 k hk
          omega
    · rw [mr_un zm, decide_eq_false zm, Bool.false_and, Bool.or_false]
      refine ⟨a1, a2, fun k hk => ?_⟩
      rw [mr_u2n (fun z => zm z.1)]
      exact a3 k hk
  · intro m hm pm'
    obtain ⟨a1, a2⟩ := J2 m hm pm'
    rw [ht m (by omega)]
    by_cases zm : m = M0 b
    · rw [zm] at a1 a2 ⊢
      refine ⟨fun x1 x2 k hk => ?_, fun x1 x2 k hk => ?_⟩
      · have := a1 x1 thm (K0 b) kS
        omega
      · by_cases zk : k = K0 b
        · rw [zk, mr_u2s]; omega
        · rw [mr_u2n (fun z => zk z.2)]; exact a2 x1 x2 k hk
    · rw [decide_eq_false zm, Bool.false_and, Bool.or_false]
      refine ⟨fun x1 x2 k hk => ?_, fun x1 x2 k hk => ?_⟩
      · rw [mr_u2n (fun z => zm z.1)]; exact a1 x1 x2 k hk
      · rw [mr_u2n (fun z => zm z.1)]; exact a2 x1 x2 k hk
  · intro m k hm pm' k1 kz lk
    by_cases z : m = M0 b ∧ k = K0 b
    · rw [z.1, z.2]
      rw [z.2] at k1
      rw [hw1 k1]
      exact wd k1
    · rw [mr_u2n z] at lk
      have z5' := F.2.1 m hm
      rw [hw2 _ (fun h1 => by omega)]
      exact J3 m k hm pm' k1 kz lk
  · intro m k hm pm' kz lk
    by_cases z : m = M0 b ∧ k = K0 b
    · rw [z.1, z.2, mr_u2s] at lk; omega
    · rw [mr_u2n z] at lk ⊢
      have h := J4 m k hm pm' kz lk
      generalize loc m k = c at h lk
      by_cases cb : c = b
      · subst cb
        rcases h with ⟨h1, h2, h3⟩ | ⟨h1, h2, h3⟩
        · exact absurd ⟨h2.symm, h3.symm⟩ z
        · obtain ⟨x1, x2, x3⟩ := D.2 h1
          have := D.1
          exact Or.inl ⟨by omega, x1.trans h2, x2.trans h3⟩
      · obtain ⟨x1, x2, x3, x4, x5, x6, x7⟩ := A c cb
        rw [x1, x2, x3, x4, x5]
        exact h
  · refine ⟨fun m hm h => ?_, T.2⟩
    rw [ht m hm] at h
    by_cases zm : m = M0 b
    · rw [zm]; exact pm
    · rw [decide_eq_false zm, Bool.false_and, Bool.or_false] at h
      exact T.1 m hm h
  · intro m k hm hk h
    have z : ¬ (m = M0 b ∧ k = K0 b) := fun z => by
      rw [z.1, z.2, pm] at h
      rcases h with h | h
      · exact nomatch h
      · omega
    rw [mr_u2n z]
    exact X m k hm hk h
  · have h := mr_ph_u (SR := SR) (GO := GO) (loc := loc) (m := M0 b) (k := K0 b) (l := 160) m20 (by omega)
    have e0 := (mr_di6 (a := b / 10) (b := b / 10) (by omega) (by omega)).2.2
    rw [lb] at h
    unfold mr_wx mr_cx at h
    rw [if_neg (by omega), if_neg (by omega), if_neg (by omega), if_neg (by omega), if_pos rfl, if_pos rfl, gb, e0] at h
    omega
  · have h := mr_ch_u (SR := SR) (GO := GO) (loc := loc) (m := M0 b) (k := K0 b) (l := 160) m20 (by omega)
    have e0 := (mr_di6 (a := b / 10) (b := b / 10) (by omega) (by omega)).2.2
    rw [lb] at h
    unfold mr_cx at h
    rw [if_neg (by omega), if_neg (by omega), if_pos rfl, gb, e0] at h
    omega
/-! a piece enters -/
theorem mr_stepP {pr : Int32} {SR GO HO SZ : Nat → Nat} {sw : Nat → Int32} {th st : Int32} {cw : Nat → Int32} {CM EN EP BS M0 M1 K0 K1 : Nat → Nat} {W0 W1 : Nat → Int32} {LV OW : Nat → Nat} {loc : Nat → Nat → Nat} {im ik gm gk : Nat → Nat} {BS' M0' M1' K0' K1' : Nat → Nat} {W0' W1' : Nat → Int32} {p d m : Nat} {w : Int32} (I : (mr_Inv pr SR GO HO SZ sw th st cw CM EN EP BS M0 M1 K0 K1 W0 W1 LV OW loc im ik gm gk)) (hp : p < 16) (en : EN p = m + 1) (ed : d = mr_own HO p m) (d1 : BS d ≤ 1)
    (hw : 1 ≤ EP p → w = sw (m * 5 + EP p - 1)) (P : (mr_pu BS BS' M0 M0' M1' K0 K0' K1' W0 W0' W1') d m (EP p) w) (A : ∀ c, c ≠ d → (mr_sa BS BS' M0 M0' M1 M1' K0 K0' K1 K1' W0 W0' W1 W1') c) :
    (mr_Inv pr SR GO HO SZ sw th st cw CM (mr_up EN p (if EP p = SZ m then 0 else m + 1)) (mr_up EP p (EP p + 1)) BS' M0' M1' K0' K1' W0' W1' LV OW (mr_u2 loc m (EP p) d) (mr_up im d m) (mr_up ik d (if EP p = SZ m then 0 else EP p + 1)) gm gk) ∧
    (mr_Ph SR GO (mr_u2 loc m (EP p) d)) + 1 = (mr_Ph SR GO loc) ∧ (mr_Ch SR GO (mr_u2 loc m (EP p) d)) = (mr_Ch SR GO loc) := by
  obtain ⟨F, Q, S, G, O, II, E, J1, J2, J3, J4, T, X⟩ := I
  obtain ⟨e1, e2, e3, e4, e5, e6, e7, e8⟩ := E p hp (by omega)
  rw [en, Nat.add_sub_cancel] at e2 e3 e4 e5 e6 e7 e8
  rw [← ed] at e7 e8
  have m20 : m < 20 := by omega
  obtain ⟨f1, f2, f3, f4⟩ := mr_owf (HO := HO) (m := m) hp
  rw [← ed] at f1 f2 f3 f4
  obtain ⟨z1, sr, go, ho⟩ := F.1 _ m20 e2
  have z5 := F.2.1 _ m20
  have lm : loc m (EP p) = 161 := (e6 _ e5).mpr (Nat.le_refl _)
  have rd : mr_rg (GO m) (mr_ln (HO m)) d = true := by
    unfold mr_rg
    rw [f2, f3]
    simp
  refine ⟨⟨F, ?_, ?_, ?_, O, ?_, ?_, ?_, ?_, ?_, ?_, T, ?_⟩, ?_, ?_⟩
  · intro c hc
    by_cases cd : c = d
    · rw [cd, mr_us, mr_us]
      exact mr_qb_put (Q d f4) d1 e5 e7 e8 P.1 (fun e => ⟨(P.2.1 e).1, (P.2.1 e).2.1⟩)
        (fun e => ⟨(P.2.2 e).1, (P.2.2 e).2.1, (P.2.2 e).2.2.2.1, (P.2.2 e).2.2.2.2.1⟩)
    · obtain ⟨a1, a2, a3, a4, a5, a6, a7⟩ := A c cd
      rw [mr_un cd, mr_un cd, a1, a2, a3, a4, a5]
      exact Q c hc
  · intro c hc
    have nl : ∀ i j, loc i j = c → mr_u2 loc m (EP p) d i j = c := fun i j h => (mr_u2n (fun z => by rw [z.1, z.2, lm] at h; omega)).trans h
    by_cases cd : c = d
    · rcases Nat.lt_or_ge (BS d) 1 with h0 | h0
      · have e : BS d = 0 := by omega
        obtain ⟨x1, x2, x3⟩ := P.2.1 e
        rw [cd]
        refine ⟨fun _ => ?_, fun h => ?_⟩
        · rw [x1, x2, x3]
          exact ⟨m20, e2, rd, e5, hw, mr_u2s⟩
        · have := P.1; omega
      · have e : BS d = 1 := by omega
        obtain ⟨x1, x2, x3, x4, x5, x6⟩ := P.2.2 e
        rw [cd] at nl ⊢
        refine ⟨fun _ => ?_, fun h => ?_⟩
        · obtain ⟨y1, y2, y3, y4, y5, y6⟩ := (S d f4).1 h0
          rw [x1, x2, x3]
          exact ⟨y1, y2, y3, y4, y5, nl _ _ y6⟩
        · rw [x4, x5, x6]
          exact ⟨m20, e2, rd, e5, hw, mr_u2s⟩
    · obtain ⟨a1, a2, a3, a4, a5, a6, a7⟩ := A c cd
      rw [a1, a2, a3, a4, a5, a6, a7]
      refine ⟨fun h => ?_, fun h => ?_⟩
      · obtain ⟨y1, y2, y3, y4, y5, y6⟩ := (S c hc).1 h
        exact ⟨y1, y2, y3, y4, y5, nl _ _ y6⟩
      · obtain ⟨y1, y2, y3, y4, y5, y6⟩ := (S c hc).2 h
        exact ⟨y1, y2, y3, y4, y5, nl _ _ y6⟩
  · intro c hc lc
    obtain ⟨c1, c2, c3, c4, c5, c6, c7, c8, c9⟩ := G c hc lc
    refine ⟨c1, c2, c3, c4, c5, c6, c7, fun e => ?_, c9⟩
    have nd : mr_xb LV c ≠ d := fun z => by
      have := (mr_way F G hc lc e).2.2.2.2.2.2.1
      rw [z] at this
      omega
    rw [mr_un nd, mr_un nd]
    exact c8 e
  · intro c hc nc
    by_cases cd : c = d
    · rw [cd, mr_us] at nc
      have t : ¬ EP p = SZ m := fun z => nc (if_pos z)
      refine Or.inl ?_
      rw [cd, f1, mr_us, mr_us, mr_us, mr_us, if_neg t, if_neg t]
      exact ⟨rfl, rfl, ed⟩
    · rw [mr_un cd] at nc
      rw [mr_un cd, mr_un cd]
      rcases II c hc nc with ⟨h1, h2, h3⟩ | h
      · have np : c / 10 ≠ p := fun z => by
          rw [z] at h1 h3
          have : im c = m := by omega
          rw [this] at h3
          exact cd (h3.trans ed.symm)
        rw [mr_un np, mr_un np]
        exact Or.inl ⟨h1, h2, h3⟩
      · exact Or.inr h
  · intro q hq nq
    by_cases qp : q = p
    · rw [qp, mr_us] at nq
      have t : ¬ EP p = SZ m := fun z => nq (if_pos z)
      rw [qp, mr_us, mr_us, if_neg t, if_neg t, Nat.add_sub_cancel, ← ed, mr_us, mr_us]
      refine ⟨by omega, e2, e3, e4, by omega, fun k hk => ?_, rfl, fun _ => rfl⟩
      by_cases zk : k = EP p
      · rw [zk, mr_u2s]; omega
      · rw [mr_u2n (fun z => zk z.2), e6 k hk]; omega
    · rw [mr_un qp] at nq
      rw [mr_un qp, mr_un qp]
      obtain ⟨h1, h2, h3, h4, h5, h6, h7, h8⟩ := E q hq nq
      have nd : mr_own HO q (EN q - 1) ≠ d := fun z => by
        have := (mr_owf (HO := HO) (m := EN q - 1) hq).1
        rw [z] at this
        omega
      rw [mr_un nd, mr_un nd]
      refine ⟨h1, h2, h3, h4, h5, fun k hk => ?_, h7, h8⟩
      rw [mr_u2n (fun z => by rw [z.1] at h4; omega)]
      exact h6 k hk
  · intro i hi pi
    obtain ⟨a1, a2, a3⟩ := J1 i hi pi
    refine ⟨a1, a2, fun k hk => ?_⟩
    by_cases z : i = m ∧ k = EP p
    · have h := a3 k hk
      rw [z.1, z.2] at h ⊢
      rw [mr_u2s]
      rw [lm] at h
      exact ⟨by rw [← h.1]; omega, by omega⟩
    · rw [mr_u2n z]; exact a3 k hk
  · intro i hi pi
    obtain ⟨a1, a2⟩ := J2 i hi pi
    by_cases zi : i = m
    · rw [zi] at a1 a2 ⊢
      refine ⟨(fun x1 => by rw [e3] at x1; exact absurd x1 (by decide)), fun _ x2 k hk => ?_⟩
      rw [e4, mr_us] at x2
      have t : EP p = SZ m := by
        by_cases z : EP p = SZ m
        · exact z
        · exact absurd (if_neg z) x2
      by_cases zk : k = EP p
      · rw [zk, mr_u2s]; omega
      · rw [mr_u2n (fun z => zk z.2)]
        intro h
        have := (e6 k hk).mp h
        omega
    · refine ⟨fun x1 x2 k hk => ?_, fun x1 x2 k hk => ?_⟩
      · rw [mr_u2n (fun z => zi z.1)]; exact a1 x1 x2 k hk
      · rw [mr_u2n (fun z => zi z.1)]
        refine a2 x1 (fun h => ?_) k hk
        by_cases y : SR i = p
        · rw [y] at h; omega
        · rw [mr_un y] at x2; exact x2 h
  · intro i k hi pi k1 kz lk
    by_cases z : i = m ∧ k = EP p
    · rw [z.1, z.2, mr_u2s] at lk; omega
    · rw [mr_u2n z] at lk; exact J3 i k hi pi k1 kz lk
  · intro i k hi pi kz lk
    by_cases z : i = m ∧ k = EP p
    · rw [z.1, z.2, mr_u2s]
      rcases Nat.lt_or_ge (BS d) 1 with h0 | h0
      · have e : BS d = 0 := by omega
        have := P.1
        exact Or.inl ⟨by omega, (P.2.1 e).1, (P.2.1 e).2.1⟩
      · have e : BS d = 1 := by omega
        have := P.1
        exact Or.inr ⟨by omega, (P.2.2 e).2.2.2.1, (P.2.2 e).2.2.2.2.1⟩
    · rw [mr_u2n z] at lk ⊢
      have h := J4 i k hi pi kz lk
      generalize loc i k = c at h lk
      by_cases cd : c = d
      · rw [cd] at h ⊢
        have := P.1
        rcases h with ⟨h1, h2, h3⟩ | ⟨h1, h2, h3⟩
        · have e : BS d = 1 := by omega
          exact Or.inl ⟨by omega, (P.2.2 e).1.trans h2, (P.2.2 e).2.1.trans h3⟩
        · omega
      · obtain ⟨x1, x2, x3, x4, x5, x6, x7⟩ := A c cd
        rw [x1, x2, x3, x4, x5]
        exact h
  · intro i k hi hk h
    have z : ¬ (i = m ∧ k = EP p) := fun z => by
      rw [z.1, z.2, e2] at h
      rcases h with h | h
      · exact nomatch h
      · omega
    rw [mr_u2n z]
    exact X i k hi hk h
  · have h := mr_ph_u (SR := SR) (GO := GO) (loc := loc) (m := m) (k := EP p) (l := d) m20 (by omega)
    rw [lm] at h
    unfold mr_wx mr_cx at h
    rw [if_neg (by omega), if_pos rfl, if_neg (by omega), if_pos rfl, if_neg (by omega), if_neg (by omega), if_neg (by omega), if_neg (by omega), f1, e4] at h
    omega
  · have h := mr_ch_u (SR := SR) (GO := GO) (loc := loc) (m := m) (k := EP p) (l := d) m20 (by omega)
    rw [lm] at h
    unfold mr_cx at h
    rw [if_neg (by omega), if_pos rfl, if_neg (by omega), if_neg (by omega), f1, e4] at h
    omega
/-! a message begins to enter; or none does -/
theorem mr_stepN {pr : Int32} {SR GO HO SZ : Nat → Nat} {sw : Nat → Int32} {th st : Int32} {cw : Nat → Int32} {CM EN EP BS M0 M1 K0 K1 : Nat → Nat} {W0 W1 : Nat → Int32} {LV OW : Nat → Nat} {loc : Nat → Nat → Nat} {im ik gm gk : Nat → Nat} {st' : Int32} {p m : Nat} (I : (mr_Inv pr SR GO HO SZ sw th st cw CM EN EP BS M0 M1 K0 K1 W0 W1 LV OW loc im ik gm gk)) (hp : p < 16) (en : EN p = 0) (m20 : m < 20) (pm : bt pr m = true) (tm : bt th m = false) (sm : bt st m = false) (sp : SR m = p)
    (hs : ∀ i, i < 32 → bt st' i = (bt st i || decide (i = m))) : (mr_Inv pr SR GO HO SZ sw th st' cw CM (mr_up EN p (m + 1)) (mr_up EP p 0) BS M0 M1 K0 K1 W0 W1 LV OW loc im ik gm gk) := by
  obtain ⟨F, Q, S, G, O, II, E, J1, J2, J3, J4, T, X⟩ := I
  obtain ⟨f1, f2, f3, f4⟩ := mr_owf (HO := HO) (m := m) hp
  have T' : (mr_IT pr th st') := ⟨T.1, fun i hi h => by
    rw [hs i hi] at h
    by_cases zi : i = m
    · rw [zi]; exact pm
    · rw [decide_eq_false zi, Bool.or_false] at h
      exact T.2 i hi h⟩
  refine ⟨F, Q, S, G, O, ?_, ?_, J1, ?_, J3, J4, T', X⟩
  · intro c hc nc
    rcases II c hc nc with ⟨h1, h2, h3⟩ | h
    · have np : c / 10 ≠ p := fun z => by rw [z] at h1; omega
      rw [mr_un np, mr_un np]
      exact Or.inl ⟨h1, h2, h3⟩
    · exact Or.inr h
  · intro q hq nq
    by_cases qp : q = p
    · have l := (J2 m m20 pm).1 sm tm
      rw [qp, mr_us, mr_us, Nat.add_sub_cancel, hs m (by omega)]
      refine ⟨by omega, pm, by simp, sp, Nat.zero_le _, fun k hk => ⟨fun _ => Nat.zero_le _, fun _ => l k hk⟩, ?_, fun z => absurd rfl z⟩
      by_cases z : ik (mr_own HO p m) = 0
      · exact z
      · rcases II _ f4 z with ⟨h1, _⟩ | ⟨e, he, e1, e2, e3, _⟩
        · rw [f1] at h1; omega
        · have := (mr_way F G he e1 e2).2.2.2.2.2.2.1
          rw [e3] at this
          omega
    · rw [mr_un qp] at nq
      rw [mr_un qp, mr_un qp]
      obtain ⟨h1, h2, h3, h4, h5, h6, h7, h8⟩ := E q hq nq
      exact ⟨h1, h2, by rw [hs _ (by omega), h3]; rfl, h4, h5, h6, h7, h8⟩
  · intro i hi pi
    obtain ⟨a1, a2⟩ := J2 i hi pi
    rw [hs i (by omega)]
    by_cases zi : i = m
    · rw [zi]
      refine ⟨fun x1 => by simp at x1, fun _ x2 => ?_⟩
      rw [sp, mr_us] at x2
      exact absurd rfl x2
    · rw [decide_eq_false zi, Bool.or_false]
      refine ⟨a1, fun x1 x2 => a2 x1 (fun h => ?_)⟩
      by_cases y : SR i = p
      · rw [y] at h; omega
      · rw [mr_un y] at x2; exact x2 h
theorem mr_stepZ {pr : Int32} {SR GO HO SZ : Nat → Nat} {sw : Nat → Int32} {th st : Int32} {cw : Nat → Int32} {CM EN EP BS M0 M1 K0 K1 : Nat → Nat} {W0 W1 : Nat → Int32} {LV OW : Nat → Nat} {loc : Nat → Nat → Nat} {im ik gm gk : Nat → Nat} {p : Nat} (I : (mr_Inv pr SR GO HO SZ sw th st cw CM EN EP BS M0 M1 K0 K1 W0 W1 LV OW loc im ik gm gk)) (hp : p < 16) (en : EN p = 0) : (mr_Inv pr SR GO HO SZ sw th st cw CM EN (mr_up EP p 0) BS M0 M1 K0 K1 W0 W1 LV OW loc im ik gm gk) := by
  obtain ⟨F, Q, S, G, O, II, E, J1, J2, J3, J4, T, X⟩ := I
  refine ⟨F, Q, S, G, O, ?_, ?_, J1, J2, J3, J4, T, X⟩
  · intro c hc nc
    rcases II c hc nc with ⟨h1, h2, h3⟩ | h
    · have np : c / 10 ≠ p := fun z => by rw [z] at h1; omega
      rw [mr_un np]
      exact Or.inl ⟨h1, h2, h3⟩
    · exact Or.inr h
  · intro q hq nq
    have qp : q ≠ p := fun z => nq (by rw [z]; exact en)
    rw [mr_un qp]
    exact E q hq nq
/-! a first piece gets its way -/
theorem mr_stepA {pr : Int32} {SR GO HO SZ : Nat → Nat} {sw : Nat → Int32} {th st : Int32} {cw : Nat → Int32} {CM EN EP BS M0 M1 K0 K1 : Nat → Nat} {W0 W1 : Nat → Int32} {LV OW : Nat → Nat} {loc : Nat → Nat → Nat} {im ik gm gk : Nat → Nat} {b q : Nat} (I : (mr_Inv pr SR GO HO SZ sw th st cw CM EN EP BS M0 M1 K0 K1 W0 W1 LV OW loc im ik gm gk)) (hb : b < 160) (s1 : 1 ≤ BS b) (l0 : LV b = 0) (wo : mr_wo (GO (M0 b)) (mr_ln (HO (M0 b))) (b / 10) q = true) (ow : OW (mr_bf (b / 10) q (b % 2)) = 0) :
    (mr_Inv pr SR GO HO SZ sw th st cw CM EN EP BS M0 M1 K0 K1 W0 W1 (mr_up LV b (q + 1)) (mr_up OW (mr_bf (b / 10) q (b % 2)) (b + 1)) loc im ik (mr_up gm b (M0 b)) (mr_up gk b 0)) := by
  obtain ⟨F, Q, S, G, O, II, E, J1, J2, J3, J4, T, X⟩ := I
  have k0 := mr_qbh (Q b hb) s1 l0
  obtain ⟨m20, pm, rgb, kS, wd, lb⟩ := (S b hb).1 s1
  rw [k0] at lb kS
  have q5 := mr_wo5 wo
  obtain ⟨f1, f2, f3⟩ := mr_bff (r := b / 10) (p := q) (l := b % 2) q5 (by omega)
  have fl : mr_bf (b / 10) q (b % 2) < 160 := mr_bfl (by omega) q5 (by omega)
  have go := (F.1 _ m20 pm).2.2.1
  have obb : mr_ob (mr_up LV b (q + 1)) b = mr_bf (b / 10) q (b % 2) := by unfold mr_ob; rw [mr_us, Nat.add_sub_cancel]
  have xbb : mr_xb (mr_up LV b (q + 1)) b = mr_bh (b / 10) q (b % 2) := by unfold mr_xb; rw [mr_us, Nat.add_sub_cancel]
  have nob : ∀ c, c < 160 → LV c ≠ 0 → mr_ob LV c ≠ mr_bf (b / 10) q (b % 2) := fun c hc lc e => by
    have := (G c hc lc).2.2.2.2.2.2.1
    rw [e] at this
    omega
  refine ⟨F, ?_, S, ?_, ?_, ?_, E, J1, J2, J3, J4, T, X⟩
  · intro c hc
    by_cases cb : c = b
    · rw [cb, mr_us, mr_us, mr_us]
      have h := Q b hb
      unfold mr_qb at h ⊢
      rcases h with h | ⟨h1, h2, h3⟩ | ⟨h1, h2, h3⟩
      · omega
      · exact Or.inr (Or.inl ⟨h1, Or.inr ⟨by omega, rfl, k0.symm⟩, h3⟩)
      · exact Or.inr (Or.inr ⟨h1, Or.inr ⟨by omega, rfl, k0.symm⟩, h3⟩)
    · rw [mr_un cb, mr_un cb, mr_un cb]
      exact Q c hc
  · intro c hc lc
    by_cases cb : c = b
    · rw [cb, obb, xbb, mr_us, mr_us, mr_us, mr_us, Nat.add_sub_cancel]
      refine ⟨by omega, m20, pm, rgb, Nat.zero_le _, wo, rfl, fun e => ⟨?_, fun z => absurd rfl z⟩, fun e => ?_⟩
      · have q4 : q < 4 := by omega
        obtain ⟨a1, a2, a3, a4, a5⟩ := mr_geo hb go q4 rgb wo
        by_cases z : ik (mr_bh (b / 10) q (b % 2)) = 0
        · exact z
        · obtain ⟨b1, b2, b3, b4, b5, b6, b7, b8⟩ := mr_bhf (r := b / 10) (p := q) (l := b % 2) (by omega) q4 (by omega) a1
          rcases II _ a2 z with ⟨_, _, h3⟩ | ⟨e, he, e1, e2, e3, _⟩
          · have h4 := (mr_owf (HO := HO) (p := mr_bh (b / 10) q (b % 2) / 10) (m := im (mr_bh (b / 10) q (b % 2))) (by omega)).2.1
            rw [← h3, b3] at h4
            omega
          · obtain ⟨c1, c2, _⟩ := mr_way F G he e1 e2
            exact absurd (mr_bhi (by omega) c1 (by omega) c2 (by omega) q4 (by omega) a1 e3) (nob e he e1)
      · have h := ((J1 _ m20 pm).2.2 0 (Nat.zero_le _)).1
        rw [lb] at h
        omega
    · rw [mr_un cb] at lc
      rw [mr_un cb, mr_un cb, mr_un cb, mr_obn cb, mr_xbn cb, mr_un (nob c hc lc)]
      exact G c hc lc
  · intro o ho no
    by_cases eo : o = mr_bf (b / 10) q (b % 2)
    · rw [eo, mr_us, Nat.add_sub_cancel, mr_us, f1, f2, f3]
      exact ⟨by omega, rfl, rfl, rfl⟩
    · rw [mr_un eo] at no ⊢
      obtain ⟨o1, o2, o3, o4⟩ := O o ho no
      have nb : OW o - 1 ≠ b := fun e => by rw [e, l0] at o2; omega
      rw [mr_un nb]
      exact ⟨o1, o2, o3, o4⟩
  · intro c hc nc
    rcases II c hc nc with h | ⟨e, he, e1, e2, e3, e4, e5⟩
    · exact Or.inl h
    · have eb : e ≠ b := fun z => e1 (by rw [z]; exact l0)
      refine Or.inr ⟨e, he, ?_⟩
      rw [mr_un eb, mr_un eb, mr_un eb, mr_xbn eb]
      exact ⟨e1, e2, e3, e4, e5⟩
end
section
/-! nothing is stuck; how a settling begins and ends -/
theorem mr_upst {pr : Int32} {SR GO HO SZ : Nat → Nat} {sw : Nat → Int32} {th st : Int32} {cw : Nat → Int32} {CM EN EP BS M0 M1 K0 K1 : Nat → Nat} {W0 W1 : Nat → Int32} {LV OW : Nat → Nat} {loc : Nat → Nat → Nat} {im ik gm gk : Nat → Nat} (I : (mr_Inv pr SR GO HO SZ sw th st cw CM EN EP BS M0 M1 K0 K1 W0 W1 LV OW loc im ik gm gk)) : ∀ n d, mr_rk d < n → d < 160 → BS d = 0 → ik d ≠ 0 →
    (∃ b, b < 160 ∧ BS b ≠ 0 ∧ LV b ≠ 0 ∧ LV b ≠ 5 ∧ BS (mr_xb LV b) = 0) ∨ (∃ p, p < 16 ∧ EN p ≠ 0 ∧ BS (mr_own HO p (EN p - 1)) = 0) := by
  obtain ⟨F, Q, S, G, O, II, _⟩ := I
  intro n
  induction n with
  | zero => intro d h; omega
  | succ n ih =>
    intro d hr hd hs hk
    rcases II d hd hk with ⟨h1, h2, h3⟩ | ⟨e, he, e1, e2, e3, e4, e5⟩
    · refine Or.inr ⟨d / 10, by omega, by omega, ?_⟩
      rw [h1, Nat.add_sub_cancel, ← h3]
      exact hs
    · by_cases z : BS e = 0
      · have w := (mr_way F G he e1 e2).2.2.2.2.2.1
        rw [e3] at w
        exact ih e (by omega) he z (mr_qbe (Q e he) z e1)
      · exact Or.inl ⟨e, he, z, e1, e2, by rw [e3]; exact hs⟩
theorem mr_rk50 (b : Nat) (hb : b < 160) : mr_rk b < 50 := by
  unfold mr_rk
  repeat' split
  all_goals omega
/-- every first piece without a way wants one that is taken -/
def mr_FW (GO HO BS M0 LV OW : Nat → Nat) : Prop := ∀ b, b < 160 → 1 ≤ BS b → LV b = 0 → ∃ q, mr_wo (GO (M0 b)) (mr_ln (HO (M0 b))) (b / 10) q = true ∧ OW (mr_bf (b / 10) q (b % 2)) ≠ 0
/-- no owner can go -/
def mr_NC (BS LV : Nat → Nat) : Prop := ∀ b, b < 160 → LV b ≠ 0 → BS b ≠ 0 → LV b ≠ 5 ∧ 2 ≤ BS (mr_xb LV b)
theorem mr_stuck {pr : Int32} {SR GO HO SZ : Nat → Nat} {sw : Nat → Int32} {th st : Int32} {cw : Nat → Int32} {CM EN EP BS M0 M1 K0 K1 : Nat → Nat} {W0 W1 : Nat → Int32} {LV OW : Nat → Nat} {loc : Nat → Nat → Nat} {im ik gm gk : Nat → Nat} (I : (mr_Inv pr SR GO HO SZ sw th st cw CM EN EP BS M0 M1 K0 K1 W0 W1 LV OW loc im ik gm gk)) (W : (mr_FW GO HO BS M0 LV OW)) (N : (mr_NC BS LV)) (NE : ∀ p, p < 16 → EN p ≠ 0 → 2 ≤ BS (mr_own HO p (EN p - 1))) : ∀ n b, 50 - mr_rk b < n → b < 160 → BS b = 0 := by
  have I' := I
  obtain ⟨F, Q, S, G, O, II, _⟩ := I
  intro n
  induction n with
  | zero => intro b h; omega
  | succ n ih =>
    intro b hr hb
    by_cases z : BS b = 0
    · exact z
    · exfalso
      have r50 := mr_rk50 b hb
      by_cases l : LV b = 0
      · obtain ⟨m20, pm, rgb, kS, wd, lb⟩ := (S b hb).1 (by omega)
        obtain ⟨q, wo, ow⟩ := W b hb (by omega) l
        have q5 := mr_wo5 wo
        obtain ⟨f1, f2, f3⟩ := mr_bff (r := b / 10) (p := q) (l := b % 2) q5 (by omega)
        obtain ⟨o1, o2, o3, o4⟩ := O _ (mr_bfl (by omega) q5 (by omega)) ow
        rw [f2] at o2
        rw [f1] at o3
        rw [f3] at o4
        generalize OW (mr_bf (b / 10) q (b % 2)) - 1 = c at o2 o3 o4
        have hc : c < 160 := by omega
        have lc : LV c ≠ 0 := by omega
        by_cases s : BS c = 0
        · rcases mr_upst I' (mr_rk c + 1) c (by omega) hc s (mr_qbe (Q c hc) s lc) with ⟨e, he, e1, e2, e3, e4⟩ | ⟨p, hp, p1, p2⟩
          · have := (N e he e2 e1).2
            omega
          · have := NE p hp p1
            omega
        · obtain ⟨n1, n2⟩ := N c hc lc s
          have ex : mr_xb LV c = mr_bh (b / 10) q (b % 2) := by unfold mr_xb; rw [o2, o3, o4, Nat.add_sub_cancel]
          obtain ⟨a1, a2, a3, a4, a5⟩ := mr_geo hb (F.1 _ m20 pm).2.2.1 (show q < 4 by omega) rgb wo
          rw [ex] at n2
          have := ih (mr_bh (b / 10) q (b % 2)) (by omega) a2
          omega
      · obtain ⟨n1, n2⟩ := N b hb l z
        obtain ⟨w1, w2, w3, w4, w5, w6, _⟩ := mr_way F G hb l n1
        have := ih (mr_xb LV b) (by omega) w3
        omega
/-- place p can let a piece in -/
def mr_rdy (pr : Int32) (SR HO : Nat → Nat) (th st : Int32) (EN BS : Nat → Nat) (p : Nat) : Prop :=
  (EN p ≠ 0 ∧ BS (mr_own HO p (EN p - 1)) ≤ 1) ∨
  (EN p = 0 ∧ (∀ l, l < 2 → BS (mr_bf p 4 l) ≤ 1) ∧ ∃ m, m < 20 ∧ bt pr m = true ∧ SR m = p ∧ bt th m = false ∧ bt st m = false)
theorem mr_prog {pr : Int32} {SR GO HO SZ : Nat → Nat} {sw : Nat → Int32} {th st : Int32} {cw : Nat → Int32} {CM EN EP BS M0 M1 K0 K1 : Nat → Nat} {W0 W1 : Nat → Int32} {LV OW : Nat → Nat} {loc : Nat → Nat → Nat} {im ik gm gk : Nat → Nat} (I : (mr_Inv pr SR GO HO SZ sw th st cw CM EN EP BS M0 M1 K0 K1 W0 W1 LV OW loc im ik gm gk)) (W : (mr_FW GO HO BS M0 LV OW)) (N : (mr_NC BS LV)) (m : Nat) (m20 : m < 20) (pm : bt pr m = true) (tm : bt th m = false) : ∃ p, p < 16 ∧ (mr_rdy pr SR HO th st EN BS) p := by
  by_cases c : ∃ p, p < 16 ∧ (mr_rdy pr SR HO th st EN BS) p
  · exact c
  · exfalso
    have n1 : ∀ p, p < 16 → EN p ≠ 0 → 2 ≤ BS (mr_own HO p (EN p - 1)) := fun p hp e => by
      by_cases z : 2 ≤ BS (mr_own HO p (EN p - 1))
      · exact z
      · exact absurd ⟨p, hp, Or.inl ⟨e, by omega⟩⟩ c
    have all := fun b => mr_stuck I W N n1 (50 - mr_rk b + 1) b (by omega)
    obtain ⟨F, Q, S, G, O, II, E, J1, J2, J3, J4, T, X⟩ := I
    obtain ⟨z1, sr, go, ho⟩ := F.1 _ m20 pm
    have e0 : EN (SR m) = 0 := by
      by_cases z : EN (SR m) = 0
      · exact z
      · have h1 := n1 _ sr z
        have h2 := all _ (mr_owf (HO := HO) (m := EN (SR m) - 1) sr).2.2.2
        omega
    have sm : bt st m = true := by
      cases z : bt st m
      · exfalso
        exact c ⟨SR m, sr, Or.inr ⟨e0, fun l hl => by rw [all _ (mr_bfl sr (by omega) hl)]; exact Nat.zero_le _, m, m20, pm, rfl, tm, z⟩⟩
      · rfl
    have h1 := (J2 m m20 pm).2 sm (by omega) (SZ m) (Nat.le_refl _)
    obtain ⟨a1, a2, a3⟩ := J1 m m20 pm
    have h2 := a3 (SZ m) (Nat.le_refl _)
    have h3 : CM m ≠ SZ m + 1 := fun z => by rw [a2.mpr z] at tm; exact nomatch tm
    have h4 : loc m (SZ m) < 160 := by omega
    have h5 := J4 m (SZ m) m20 pm (Nat.le_refl _) h4
    have h6 := all _ h4
    omega
theorem mr_fin {pr : Int32} {SR GO HO SZ : Nat → Nat} {sw : Nat → Int32} {th st : Int32} {cw : Nat → Int32} {CM EN EP BS M0 M1 K0 K1 : Nat → Nat} {W0 W1 : Nat → Int32} {LV OW : Nat → Nat} {loc : Nat → Nat → Nat} {im ik gm gk : Nat → Nat} (I : (mr_Inv pr SR GO HO SZ sw th st cw CM EN EP BS M0 M1 K0 K1 W0 W1 LV OW loc im ik gm gk)) (h : ∀ m, m < 20 → bt pr m = true → bt th m = true) :
    (∀ b, b < 160 → BS b = 0 ∧ LV b = 0 ∧ OW b = 0) ∧ (∀ p, p < 16 → EN p = 0) ∧ (∀ m, m < 20 → bt pr m = true → CM m = SZ m + 1) ∧
    (∀ m k, m < 20 → bt pr m = true → k < SZ m → cw (m * 5 + k) = sw (m * 5 + k)) ∧ (mr_Ch SR GO loc) = 0 := by
  have I' := I
  obtain ⟨F, Q, S, G, O, II, E, J1, J2, J3, J4, T, X⟩ := I
  have cm : ∀ m, m < 20 → bt pr m = true → CM m = SZ m + 1 := fun m hm pm => (J1 m hm pm).2.1.mp (h m hm pm)
  have lo : ∀ m k, m < 20 → bt pr m = true → k ≤ SZ m → loc m k = 160 := fun m k hm pm hk => (((J1 m hm pm).2.2 k hk).1).mpr (by rw [cm m hm pm]; omega)
  have bs : ∀ b, b < 160 → BS b = 0 := fun b hb => by
    by_cases z : BS b = 0
    · exact z
    · obtain ⟨m20, pm, rgb, kS, wd, lb⟩ := (S b hb).1 (by omega)
      have := lo _ _ m20 pm kS
      omega
  have en : ∀ p, p < 16 → EN p = 0 := fun p hp => by
    by_cases z : EN p = 0
    · exact z
    · obtain ⟨e1, e2, e3, e4, e5, e6, _⟩ := E p hp z
      have h1 := (e6 _ e5).mpr (Nat.le_refl _)
      have h2 := lo _ _ (by omega) e2 e5
      omega
  have ik0 : ∀ d, d < 160 → ik d = 0 := fun d hd => by
    by_cases z : ik d = 0
    · exact z
    · rcases mr_upst I' (mr_rk d + 1) d (by omega) hd (bs d hd) z with ⟨b, hb, b1, _⟩ | ⟨p, hp, p1, _⟩
      · exact absurd (bs b hb) b1
      · exact absurd (en p hp) p1
  have lv : ∀ b, b < 160 → LV b = 0 := fun b hb => by
    by_cases z : LV b = 0
    · exact z
    · exact absurd (ik0 b hb) (mr_qbe (Q b hb) (bs b hb) z)
  refine ⟨fun b hb => ⟨bs b hb, lv b hb, ?_⟩, en, cm, fun m k hm pm hk => ?_, ?_⟩
  · by_cases z : OW b = 0
    · exact z
    · obtain ⟨o1, o2, _⟩ := O b hb z
      rw [lv _ (by omega)] at o2
      omega
  · have := J3 m (k + 1) hm pm (by omega) (by omega) (lo m _ hm pm (by omega))
    exact this
  · unfold mr_Ch mr_s2
    refine mr_smz (fun m hm => mr_smz (fun k hk => ?_))
    have : loc m k = 160 := by
      cases z : bt pr m
      · exact X m k hm hk (Or.inl z)
      · by_cases y : k ≤ SZ m
        · exact lo m k hm z y
        · exact X m k hm hk (Or.inr (by omega))
    show mr_cx SR GO m (loc m k) = 0
    rw [this]
    exact if_pos rfl
def mr_l0 (pr : Int32) (SZ : Nat → Nat) (th : Int32) : Nat → Nat → Nat := fun m k => if bt pr m = true ∧ bt th m = false ∧ k ≤ SZ m then 161 else 160
theorem mr_l0p {pr th : Int32} {SZ : Nat → Nat} {m k : Nat} (h : bt pr m = true ∧ bt th m = false ∧ k ≤ SZ m) : mr_l0 pr SZ th m k = 161 := if_pos h
theorem mr_l0n {pr th : Int32} {SZ : Nat → Nat} {m k : Nat} (h : ¬ (bt pr m = true ∧ bt th m = false ∧ k ≤ SZ m)) : mr_l0 pr SZ th m k = 160 := if_neg h
theorem mr_tf {c : Bool} (h : c = true) (h' : c = false) : False := by rw [h] at h'; exact nomatch h'
theorem mr_start {pr : Int32} {SR GO HO SZ : Nat → Nat} {sw : Nat → Int32} {th st : Int32} {cw : Nat → Int32} {CM EN EP BS M0 M1 K0 K1 : Nat → Nat} {W0 W1 : Nat → Int32} {LV OW : Nat → Nat} (F : (mr_Fx pr SR GO HO SZ)) (T : (mr_IT pr th st)) (hz : ∀ b, b < 160 → BS b = 0 ∧ LV b = 0 ∧ OW b = 0) (he : ∀ p, p < 16 → EN p = 0)
    (hc : ∀ m, m < 20 → bt pr m = true → CM m = if bt th m = true then SZ m + 1 else 0) (hs : ∀ m, m < 20 → bt st m = true → bt th m = true)
    (hw : ∀ m k, m < 20 → bt pr m = true → bt th m = true → k < SZ m → cw (m * 5 + k) = sw (m * 5 + k)) :
    (mr_Inv pr SR GO HO SZ sw th st cw CM EN EP BS M0 M1 K0 K1 W0 W1 LV OW (mr_l0 pr SZ th) (fun _ => 0) (fun _ => 0) (fun _ => 0) (fun _ => 0)) := by
  refine ⟨F, ?_, ?_, ?_, ?_, ?_, ?_, ?_, ?_, ?_, ?_, T, ?_⟩
  · intro b hb
    obtain ⟨h1, h2, h3⟩ := hz b hb
    exact Or.inl ⟨h1, Or.inl ⟨h2, rfl⟩⟩
  · intro b hb
    obtain ⟨h1, h2, h3⟩ := hz b hb
    exact ⟨fun z => by omega, fun z => by omega⟩
  · intro b hb l
    exact absurd (hz b hb).2.1 l
  · intro b hb l
    exact absurd (hz b hb).2.2 l
  · intro d hd z
    exact absurd rfl z
  · intro p hp z
    exact absurd (he p hp) z
  · intro m hm pm
    have h := hc m hm pm
    by_cases z : bt th m = true
    · rw [if_pos z] at h
      refine ⟨by omega, ⟨fun _ => h, fun _ => z⟩, fun k hk => ?_⟩
      rw [mr_l0n (fun y => mr_tf z y.2.1)]
      omega
    · rw [if_neg z] at h
      refine ⟨by omega, ⟨fun y => absurd y z, fun y => by omega⟩, fun k hk => ?_⟩
      rw [mr_l0p ⟨pm, by simpa using z, hk⟩]
      omega
  · intro m hm pm
    refine ⟨fun x1 x2 k hk => if_pos ⟨pm, x2, hk⟩, fun x1 x2 k hk => ?_⟩
    have := hs m hm x1
    rw [mr_l0n (fun y => mr_tf this y.2.1)]
    omega
  · intro m k hm pm k1 kz lk
    have t : bt th m = true := by
      cases z : bt th m
      · unfold mr_l0 at lk
        rw [if_pos ⟨pm, z, kz⟩] at lk
        omega
      · rfl
    have := hw m (k - 1) hm pm t (by omega)
    rw [show m * 5 + (k - 1) = m * 5 + k - 1 by omega] at this
    exact this
  · intro m k hm pm kz lk
    exfalso
    unfold mr_l0 at lk
    split at lk <;> omega
  · intro m k hm hk h
    exact if_neg (fun y => by
      rcases h with h | h
      · rw [h] at y; exact nomatch y.1
      · omega)
theorem mr_ph0 {pr th : Int32} {SR GO HO SZ : Nat → Nat} (F : (mr_Fx pr SR GO HO SZ)) : (mr_Ph SR GO (mr_l0 pr SZ th)) ≤ 960 := by
  unfold mr_Ph mr_s2
  refine mr_sml (n := 20) (c := 48) (fun m hm => mr_sml (n := 6) (c := 8) (fun k hk => ?_))
  show mr_wx SR GO m (mr_l0 pr SZ th m k) ≤ 8
  by_cases z : bt pr m = true ∧ bt th m = false ∧ k ≤ SZ m
  · rw [mr_l0p z]
    obtain ⟨z1, sr, go, ho⟩ := F.1 _ hm z.1
    have := (mr_di6 sr go).1
    unfold mr_wx mr_cx
    rw [if_neg (by decide), if_pos rfl, if_neg (by decide), if_pos rfl]
    omega
  · rw [mr_l0n z]
    unfold mr_wx mr_cx
    rw [if_pos rfl, if_pos rfl]
    omega
theorem mr_s6 (c s : Nat) (h : s ≤ 5) : mr_sm (fun k => if k ≤ s then c else 0) 6 = c * (s + 1) := by
  have h : s = 0 ∨ s = 1 ∨ s = 2 ∨ s = 3 ∨ s = 4 ∨ s = 5 := by omega
  rcases h with h | h | h | h | h | h <;> subst h <;> simp [mr_sm] <;> omega
theorem mr_ch0 {pr th : Int32} {SR GO HO SZ : Nat → Nat} (F : (mr_Fx pr SR GO HO SZ)) : (mr_Ch SR GO (mr_l0 pr SZ th)) = mr_sm (fun m => if bt pr m = true ∧ bt th m = false then mr_di (SR m) (GO m) * (SZ m + 1) else 0) 20 := by
  unfold mr_Ch mr_s2
  refine mr_smc (fun m hm => ?_)
  have z5 := F.2.1 m hm
  by_cases z : bt pr m = true ∧ bt th m = false
  · rw [if_pos z, ← mr_s6 _ _ z5]
    refine mr_smc (fun k hk => ?_)
    show mr_cx SR GO m (mr_l0 pr SZ th m k) = _
    by_cases y : k ≤ SZ m
    · rw [mr_l0p ⟨z.1, z.2, y⟩, if_pos y]
      unfold mr_cx
      rw [if_neg (by decide), if_pos rfl]
    · rw [if_neg y, mr_l0n (fun x => y x.2.2)]
      exact if_pos rfl
  · rw [if_neg z]
    refine mr_smz (fun k hk => ?_)
    show mr_cx SR GO m (mr_l0 pr SZ th m k) = _
    rw [mr_l0n (fun x => z ⟨x.1, x.2.1⟩)]
    exact if_pos rfl
end
section
/-! walks of the small methods -/
def mr_b (c : Bool) : Int32 := if c = true then 1 else 0
theorem mr_b0 {c : Bool} : mr_b c = 0 ↔ c = false := by cases c <;> decide
theorem mr_d0 {a b : Nat} (ha : a < 2 ^ 30) (hb : b < 2 ^ 30) : nI a - nI b = 0 ↔ a = b := by
  rw [← Int32.toInt_inj, pk_sub_toInt ha hb, show (0 : Int32).toInt = 0 from by decide]
  omega
theorem mr_dle {a b : Nat} (ha : a < 2 ^ 30) (hb : b < 2 ^ 30) : nI a - nI b ≤ 0 ↔ a ≤ b := by
  rw [Int32.le_iff_toInt_le, pk_sub_toInt ha hb, show (0 : Int32).toInt = 0 from by decide]
  omega
theorem mr_dge {a b : Nat} (ha : a < 2 ^ 30) (hb : b < 2 ^ 30) : 0 ≤ nI a - nI b ↔ b ≤ a := by
  rw [Int32.le_iff_toInt_le, pk_sub_toInt ha hb, show (0 : Int32).toInt = 0 from by decide]
  omega
theorem mr_c {x : Nat → Int32} {n : Nat} (h : n < 2 ^ 31) : x (nI n).toNatClampNeg = x n := by rw [nI_clamp h]
theorem mr_w_place {post : Int32 → Prop} {x : Int32} (h1 : ∀ j, j < 16 → x = nI j → post 1) (h0 : (¬ ∃ j, j < 16 ∧ x = nI j) → post 0) : wpX_isPlace post x := by
  unfold wpX_isPlace
  by_cases a : x < 0
  · exact br_t a (h0 (fun ⟨j, hj, e⟩ => nI_pos (n := j) (by omega) (by rw [← e]; exact a)))
  · refine br_f a ?_
    obtain ⟨j, hj, rfl⟩ := nI_of a
    refine pk_le 16 j (fun l => h0 (fun ⟨i, hi, e⟩ => ?_)) (fun l => h1 j l rfl)
    rw [nI_eq hj (by omega)] at e
    omega
theorem mr_w_nb {post : Int32 → Prop} {r p : Nat} (hr : r < 16) (hp : p < 4) (h : post (if mr_vl r p = true then nI (mr_nb r p) else -1)) : wpX_neighbour post (nI r) (nI p) := by
  unfold wpX_neighbour
  refine ⟨by decide, nm_r (e' := nI (r % 4)) (pk_rem (d := 4) (by omega) (by omega) (by omega)) ⟨by decide, nm_r (e' := nI (r / 4)) (pk_div (d := 4) (by omega) (by omega) (by omega)) ?_⟩⟩
  refine pk_eq p 0 (fun e => ?_) (fun n0 => pk_eq p 1 (fun e => ?_) (fun n1 => pk_eq p 2 (fun e => ?_) (fun n2 => ?_)))
  · subst e
    refine pk_le (r / 4) 0 (fun z => ?_) (fun z => ?_)
    · rw [show mr_vl r 0 = false from decide_eq_false (by omega)] at h; exact h
    · rw [show mr_vl r 0 = true from decide_eq_true (by omega), if_pos rfl] at h
      rw [show nI r - 4 = nI (r - 4) from pk_sub (b := 4) (by omega)]
      exact h
  · subst e
    refine pk_le 3 (r % 4) (fun z => ?_) (fun z => ?_)
    · rw [show mr_vl r 1 = false from decide_eq_false (by omega)] at h; exact h
    · rw [show mr_vl r 1 = true from decide_eq_true (by omega), if_pos rfl] at h
      rw [nI_1]
      exact h
  · subst e
    refine pk_le 3 (r / 4) (fun z => ?_) (fun z => ?_)
    · rw [show mr_vl r 2 = false from decide_eq_false (by omega)] at h; exact h
    · rw [show mr_vl r 2 = true from decide_eq_true (by omega), if_pos rfl] at h
      rw [show nI r + 4 = nI (r + 4) from nI_add r 4]
      exact h
  · have e : p = 3 := by omega
    subst e
    refine pk_le (r % 4) 0 (fun z => ?_) (fun z => ?_)
    · rw [show mr_vl r 3 = false from decide_eq_false (by omega)] at h; exact h
    · rw [show mr_vl r 3 = true from decide_eq_true (by omega), if_pos rfl] at h
      rw [show nI r - 1 = nI (r - 1) from pk_sub (b := 1) (by omega)]
      exact h
theorem mr_w_bf {post : Int32 → Prop} {r p l : Nat} (h : post (nI (mr_bf r p l))) : wpX_buffer post (nI r) (nI p) (nI l) := by
  unfold wpX_buffer
  have e : ((nI r * 5 + nI p) * 2 + nI l) = nI (mr_bf r p l) := by
    show ((nI r * nI 5 + nI p) * nI 2 + nI l) = _
    rw [pk_mul, nI_add, pk_mul, nI_add]
    rfl
  rw [e]
  exact h
section
variable {fd pr th st fs cr : Int32} {dw se sw cw hu tu gv co pg W0 W1 : Nat → Int32} {SR GO HO SZ CM EN EP BS M0 M1 K0 K1 LV OW : Nat → Nat}
theorem mr_w_has {post : Int32 → Prop} {m : Nat} (hm : m < 32) (h : post (mr_b (bt pr m))) : wpX_has post (fd, pr, th, st, fs, cr, dw, se, (mr_en SR), (mr_en GO), (mr_en HO), (mr_en SZ), sw, cw, (mr_en CM), (mr_eo EN), (mr_en EP), (mr_en BS), (mr_en (mr_tw M0 M1)), (mr_en (mr_tw K0 K1)), (mr_tw W0 W1), (mr_eo LV), (mr_eo OW), hu, tu, gv, co, pg) (nI m) := by
  unfold wpX_has
  cases e : bt pr m
  · rw [e] at h; exact br_t ((mr_bit0 _ hm).mpr e) h
  · rw [e] at h; exact br_f (fun z => by rw [(mr_bit0 _ hm).mp z] at e; exact nomatch e) h
theorem mr_w_isThere {post : Int32 → Prop} {m : Nat} (hm : m < 32) (h : post (mr_b (bt th m))) : wpX_isThere post (fd, pr, th, st, fs, cr, dw, se, (mr_en SR), (mr_en GO), (mr_en HO), (mr_en SZ), sw, cw, (mr_en CM), (mr_eo EN), (mr_en EP), (mr_en BS), (mr_en (mr_tw M0 M1)), (mr_en (mr_tw K0 K1)), (mr_tw W0 W1), (mr_eo LV), (mr_eo OW), hu, tu, gv, co, pg) (nI m) := by
  unfold wpX_isThere
  cases e : bt th m
  · rw [e] at h; exact br_t ((mr_bit0 _ hm).mpr e) h
  · rw [e] at h; exact br_f (fun z => by rw [(mr_bit0 _ hm).mp z] at e; exact nomatch e) h
theorem mr_w_started {post : Int32 → Prop} {m : Nat} (hm : m < 32) (h : post (mr_b (bt st m))) : wpX_started post (fd, pr, th, st, fs, cr, dw, se, (mr_en SR), (mr_en GO), (mr_en HO), (mr_en SZ), sw, cw, (mr_en CM), (mr_eo EN), (mr_en EP), (mr_en BS), (mr_en (mr_tw M0 M1)), (mr_en (mr_tw K0 K1)), (mr_tw W0 W1), (mr_eo LV), (mr_eo OW), hu, tu, gv, co, pg) (nI m) := by
  unfold wpX_started
  show post ((st >>> (nI m &&& 31)) &&& 1)
  rw [mr_bit _ hm]
  exact h
theorem mr_w_lane {post : Int32 → Prop} {m : Nat} (hm : m < 20) (hh : HO m ≤ 2) (h : post (nI (mr_ln (HO m)))) : wpX_laneOf post (fd, pr, th, st, fs, cr, dw, se, (mr_en SR), (mr_en GO), (mr_en HO), (mr_en SZ), sw, cw, (mr_en CM), (mr_eo EN), (mr_en EP), (mr_en BS), (mr_en (mr_tw M0 M1)), (mr_en (mr_tw K0 K1)), (mr_tw W0 W1), (mr_eo LV), (mr_eo OW), hu, tu, gv, co, pg) (nI m) := by
  unfold wpX_laneOf
  refine ⟨vp_in_nI hm (by omega), ?_⟩
  rw [nI_clamp (n := m) (by omega)]
  refine pk_eq (HO m) 1 (fun e => ?_) (fun e => ?_)
  · rw [e] at h; exact h
  · unfold mr_ln at h; rw [if_neg e] at h; exact h
theorem mr_w_bh {post : Int32 → Prop} {r p l : Nat} (hr : r < 16) (hp : p < 4) (hv : mr_vl r p = true) (h : post (nI (mr_bh r p l))) : wpX_bufferBehind post (fd, pr, th, st, fs, cr, dw, se, (mr_en SR), (mr_en GO), (mr_en HO), (mr_en SZ), sw, cw, (mr_en CM), (mr_eo EN), (mr_en EP), (mr_en BS), (mr_en (mr_tw M0 M1)), (mr_en (mr_tw K0 K1)), (mr_tw W0 W1), (mr_eo LV), (mr_eo OW), hu, tu, gv, co, pg) (nI r) (nI p) (nI l) := by
  unfold wpX_bufferBehind
  refine mr_w_nb hr hp ?_
  rw [if_pos hv]
  unfold wpX_opposite
  refine ⟨by decide, ?_⟩
  have e : (nI p + 2) - (nI p + 2) / 4 * 4 = nI (mr_op p) := by
    show (nI p + nI 2) - (nI p + nI 2) / nI 4 * nI 4 = _
    rw [nI_add, pk_rem (by omega) (by omega) (by omega)]
    rfl
  rw [e]
  exact mr_w_bf h
theorem mr_w_emp {post : Int32 → Prop} {r p q : Nat} (hr : r < 16) (hp : p < 4) (hv : mr_vl r p = true) (hq : q < 4) (hw : mr_vl r q = true) (h1 : post (nI p)) (h2 : post (nI q)) : wpX_emptier post (fd, pr, th, st, fs, cr, dw, se, (mr_en SR), (mr_en GO), (mr_en HO), (mr_en SZ), sw, cw, (mr_en CM), (mr_eo EN), (mr_en EP), (mr_en BS), (mr_en (mr_tw M0 M1)), (mr_en (mr_tw K0 K1)), (mr_tw W0 W1), (mr_eo LV), (mr_eo OW), hu, tu, gv, co, pg) (nI r) (nI p) (nI q) := by
  have A : ∀ z0 z1 x, wX_emptier_73 post (nI p) (nI q) x z0 z1 fd pr th st fs cr dw se (mr_en SR) (mr_en GO) (mr_en HO) (mr_en SZ) sw cw (mr_en CM) (mr_eo EN) (mr_en EP) (mr_en BS) (mr_en (mr_tw M0 M1)) (mr_en (mr_tw K0 K1)) (mr_tw W0 W1) (mr_eo LV) (mr_eo OW) hu tu gv co pg := fun z0 z1 x => by
    unfold wX_emptier_73
    exact nm_e (br_c (fun _ => h2) (fun _ => h1))
  have B : ∀ z0 z1, wX_emptier_44 post (nI r) (nI p) (nI q) (nI (mr_bh r q 0)) z0 z1 fd pr th st fs cr dw se (mr_en SR) (mr_en GO) (mr_en HO) (mr_en SZ) sw cw (mr_en CM) (mr_eo EN) (mr_en EP) (mr_en BS) (mr_en (mr_tw M0 M1)) (mr_en (mr_tw K0 K1)) (mr_tw W0 W1) (mr_eo LV) (mr_eo OW) hu tu gv co pg := fun z0 z1 => by
    unfold wX_emptier_44
    refine nm_e ⟨vp_in_nI (mr_bhf hr hq (by omega) hw).1 (by omega), ?_⟩
    refine mr_w_bf (l := 0) ⟨vp_in_nI (mr_bfl hr (by omega) (by omega)) (by omega), ?_⟩
    exact br_c (fun _ => A _ _ _) (fun _ => A _ _ _)
  unfold wpX_emptier
  refine mr_w_bh (l := 0) hr hp hv (mr_w_bh (l := 0) hr hq hw ?_)
  refine ⟨vp_in_nI (mr_bhf hr hp (by omega) hv).1 (by omega), ?_⟩
  refine mr_w_bf (l := 0) ⟨vp_in_nI (mr_bfl hr (by omega) (by omega)) (by omega), ?_⟩
  exact br_c (fun _ => B _ _) (fun _ => B _ _)
theorem mr_w_way {post : Int32 → Prop} {r m : Nat} (hr : r < 16) (hm : m < 20) (hg : GO m < 16) (hh : HO m ≤ 2) (h : ∀ q, mr_wo (GO m) (mr_ln (HO m)) r q = true → post (nI q)) : wpX_wayOn post (fd, pr, th, st, fs, cr, dw, se, (mr_en SR), (mr_en GO), (mr_en HO), (mr_en SZ), sw, cw, (mr_en CM), (mr_eo EN), (mr_en EP), (mr_en BS), (mr_en (mr_tw M0 M1)), (mr_en (mr_tw K0 K1)), (mr_tw W0 W1), (mr_eo LV), (mr_eo OW), hu, tu, gv, co, pg) (nI r) (nI m) := by
  have h104 : ∀ s u, (mr_ln (HO m) = 1 → post (nI u)) → (mr_ln (HO m) = 0 → wpX_emptier post (fd, pr, th, st, fs, cr, dw, se, (mr_en SR), (mr_en GO), (mr_en HO), (mr_en SZ), sw, cw, (mr_en CM), (mr_eo EN), (mr_en EP), (mr_en BS), (mr_en (mr_tw M0 M1)), (mr_en (mr_tw K0 K1)), (mr_tw W0 W1), (mr_eo LV), (mr_eo OW), hu, tu, gv, co, pg) (nI r) (nI s) (nI u)) →
      wX_wayOn_104 post (nI r) (nI m) (nI s) (nI u) fd pr th st fs cr dw se (mr_en SR) (mr_en GO) (mr_en HO) (mr_en SZ) sw cw (mr_en CM) (mr_eo EN) (mr_en EP) (mr_en BS) (mr_en (mr_tw M0 M1)) (mr_en (mr_tw K0 K1)) (mr_tw W0 W1) (mr_eo LV) (mr_eo OW) hu tu gv co pg := fun s u a b => by
    unfold wX_wayOn_104
    refine ⟨vp_in_nI hm (by omega), ?_⟩
    rw [nI_clamp (n := m) (by omega)]
    refine pk_eq (HO m) 1 (fun e => a (by rw [e]; rfl)) (fun e => b (if_neg e))
  have h59 : ∀ s u, (GO m % 4 = r % 4 → post (nI u)) → (GO m % 4 ≠ r % 4 → GO m / 4 = r / 4 → post (nI s)) → (GO m % 4 ≠ r % 4 → GO m / 4 ≠ r / 4 → mr_ln (HO m) = 0 → post (nI s)) →
      (GO m % 4 ≠ r % 4 → GO m / 4 ≠ r / 4 → mr_ln (HO m) = 1 → post (nI u)) →
      (r % 4 < GO m % 4 → GO m / 4 ≠ r / 4 → mr_ln (HO m) = 0 → wpX_emptier post (fd, pr, th, st, fs, cr, dw, se, (mr_en SR), (mr_en GO), (mr_en HO), (mr_en SZ), sw, cw, (mr_en CM), (mr_eo EN), (mr_en EP), (mr_en BS), (mr_en (mr_tw M0 M1)), (mr_en (mr_tw K0 K1)), (mr_tw W0 W1), (mr_eo LV), (mr_eo OW), hu, tu, gv, co, pg) (nI r) (nI s) (nI u)) →
      wX_wayOn_59 post (nI r) (nI m) (nI (GO m % 4) - nI (r % 4)) (nI (GO m / 4) - nI (r / 4)) (nI s) (nI u) fd pr th st fs cr dw se (mr_en SR) (mr_en GO) (mr_en HO) (mr_en SZ) sw cw (mr_en CM) (mr_eo EN) (mr_en EP) (mr_en BS) (mr_en (mr_tw M0 M1)) (mr_en (mr_tw K0 K1)) (mr_tw W0 W1) (mr_eo LV) (mr_eo OW) hu tu gv co pg := fun s u a b c d e => by
    unfold wX_wayOn_59
    refine br_c (fun z => a ((mr_d0 (by omega) (by omega)).mp z)) (fun z => ?_)
    rw [mr_d0 (by omega) (by omega)] at z
    refine br_c (fun y => b z ((mr_d0 (by omega) (by omega)).mp y)) (fun y => ?_)
    rw [mr_d0 (by omega) (by omega)] at y
    refine ⟨vp_in_nI hm (by omega), ?_⟩
    rw [nI_clamp (n := m) (by omega)]
    refine pk_eq (HO m) 0 (fun x => c z y (by rw [x]; rfl)) (fun x => ?_)
    refine br_c (fun w => ?_) (fun w => ?_)
    · rw [mr_dge (by omega) (by omega)] at w
      exact h104 s u (d z y) (e (by omega) y)
    · rw [mr_dge (by omega) (by omega)] at w
      refine ⟨vp_in_nI hm (by omega), ?_⟩
      refine pk_eq (HO m) 1 (fun v => ?_) (fun v => c z y (if_neg v))
      exact h104 s u (d z y) (fun v' => by rw [v] at v'; exact nomatch v')
  have h37 : ¬ (GO m % 4 = r % 4 ∧ GO m / 4 = r / 4) → wX_wayOn_37 post (nI r) (nI m) (nI (GO m % 4) - nI (r % 4)) (nI (GO m / 4) - nI (r / 4)) fd pr th st fs cr dw se (mr_en SR) (mr_en GO) (mr_en HO) (mr_en SZ) sw cw (mr_en CM) (mr_eo EN) (mr_en EP) (mr_en BS) (mr_en (mr_tw M0 M1)) (mr_en (mr_tw K0 K1)) (mr_tw W0 W1) (mr_eo LV) (mr_eo OW) hu tu gv co pg := fun ne => by
    have go : ∀ s u, (s = 3 ∧ GO m % 4 ≤ r % 4 ∨ s = 1 ∧ r % 4 < GO m % 4) → (u = 0 ∧ GO m / 4 ≤ r / 4 ∨ u = 2 ∧ r / 4 < GO m / 4) →
        wX_wayOn_59 post (nI r) (nI m) (nI (GO m % 4) - nI (r % 4)) (nI (GO m / 4) - nI (r / 4)) (nI s) (nI u) fd pr th st fs cr dw se (mr_en SR) (mr_en GO) (mr_en HO) (mr_en SZ) sw cw (mr_en CM) (mr_eo EN) (mr_en EP) (mr_en BS) (mr_en (mr_tw M0 M1)) (mr_en (mr_tw K0 K1)) (mr_tw W0 W1) (mr_eo LV) (mr_eo OW) hu tu gv co pg := fun s u hs hu => by
      have W : ∀ q, ((q = s ∧ GO m % 4 ≠ r % 4 ∧ (mr_ln (HO m) = 0 ∨ GO m / 4 = r / 4)) ∨ (q = u ∧ GO m / 4 ≠ r / 4 ∧ (mr_ln (HO m) = 1 ∨ r % 4 ≤ GO m % 4))) → post (nI q) := fun q hq => by
        apply h
        unfold mr_wo
        simp only [Bool.or_eq_true, Bool.and_eq_true, decide_eq_true_eq]
        omega
      refine h59 s u (fun z => W u (by omega)) (fun z y => W s (by omega)) (fun z y l => W s (by omega)) (fun z y l => W u (by omega)) (fun z y l => ?_)
      have vs : mr_vl r s = true := by
        have e : s = 1 := by omega
        subst e
        exact decide_eq_true (by omega)
      have vu : mr_vl r u = true := by
        rcases hu with ⟨e, x⟩ | ⟨e, x⟩ <;> subst e <;> exact decide_eq_true (by omega)
      exact mr_w_emp hr (by omega) vs (by omega) vu (W s (by omega)) (W u (by omega))
    have h47 : ∀ s, (s = 3 ∧ GO m % 4 ≤ r % 4 ∨ s = 1 ∧ r % 4 < GO m % 4) → wX_wayOn_47 post (nI r) (nI m) (nI (GO m % 4) - nI (r % 4)) (nI (GO m / 4) - nI (r / 4)) (nI s) fd pr th st fs cr dw se (mr_en SR) (mr_en GO) (mr_en HO) (mr_en SZ) sw cw (mr_en CM) (mr_eo EN) (mr_en EP) (mr_en BS) (mr_en (mr_tw M0 M1)) (mr_en (mr_tw K0 K1)) (mr_tw W0 W1) (mr_eo LV) (mr_eo OW) hu tu gv co pg := fun s hs => by
      unfold wX_wayOn_47
      refine br_c (fun z => go s 0 hs (Or.inl ⟨rfl, (mr_dle (by omega) (by omega)).mp z⟩)) (fun z => go s 2 hs (Or.inr ⟨rfl, ?_⟩))
      rw [mr_dle (by omega) (by omega)] at z
      omega
    unfold wX_wayOn_37
    refine br_c (fun z => h47 3 (Or.inl ⟨rfl, (mr_dle (by omega) (by omega)).mp z⟩)) (fun z => h47 1 (Or.inr ⟨rfl, ?_⟩))
    rw [mr_dle (by omega) (by omega)] at z
    omega
  unfold wpX_wayOn
  refine ⟨vp_in_nI hm (by omega), nm_r (e' := nI (GO m)) (mr_c (by omega)) ⟨by decide, by decide, ?_⟩⟩
  refine nm_r (e' := nI (GO m % 4) - nI (r % 4)) ?_ ⟨by decide, by decide, nm_r (e' := nI (GO m / 4) - nI (r / 4)) ?_ ?_⟩
  · show (nI (GO m) - nI (GO m) / nI 4 * nI 4) - (nI r - nI r / nI 4 * nI 4) = _
    rw [pk_rem (by omega) (by omega) (by omega), pk_rem (by omega) (by omega) (by omega)]
  · show nI (GO m) / nI 4 - nI r / nI 4 = _
    rw [pk_div (by omega) (by omega) (by omega), pk_div (by omega) (by omega) (by omega)]
  · refine br_c (fun z => ?_) (fun z => ?_)
    · rw [mr_d0 (by omega) (by omega)] at z
      refine br_c (fun y => ?_) (fun y => ?_)
      · rw [mr_d0 (by omega) (by omega)] at y
        refine h 4 ?_
        have e : GO m = r := by omega
        unfold mr_wo
        simp [e]
      · rw [mr_d0 (by omega) (by omega)] at y
        exact h37 (fun x => y x.2)
    · rw [mr_d0 (by omega) (by omega)] at z
      exact h37 (fun x => z x.1)
end
end
section
/-! walk of findWays -/
theorem mr_m2 (b : Nat) : nI b * 2 = nI (2 * b) := by
  show nI b * nI 2 = _
  rw [pk_mul, Nat.mul_comm]
theorem mr_bo {A B : Prop} {x : Int32} (n : Nat) (f : n ≠ 0 → A) (g : n = 0 → B) (hx : x = mr_o n := by rfl) (hn : n < 2 ^ 31 := by omega) : (0 ≤ x → A) ∧ (¬ 0 ≤ x → B) := by
  subst hx
  rw [mr_ole hn]
  exact ⟨f, fun z => g (by omega)⟩
theorem mr_bl {A B : Prop} {x : Int32} (n : Nat) (f : n = 0 → A) (g : n ≠ 0 → B) (hx : x = mr_o n := by rfl) (hn : n < 2 ^ 31 := by omega) : (x < 0 → A) ∧ (¬ x < 0 → B) := by
  subst hx
  rw [mr_olt hn]
  exact ⟨f, g⟩
theorem mr_wU {f : Nat → Nat} {i v : Nat} {y : Int32} (hi : i < 2 ^ 31) (hy : y = nI v) : upd (mr_en f) (nI i).toNatClampNeg y = mr_en (mr_up f i v) := by
  rw [nI_clamp hi, hy, mr_updE]
theorem mr_wO {f : Nat → Nat} {i v : Nat} {y : Int32} (hi : i < 2 ^ 31) (hy : y = mr_o v) : upd (mr_eo f) (nI i).toNatClampNeg y = mr_eo (mr_up f i v) := by
  rw [nI_clamp hi, hy, mr_updO]
section
variable {fd pr th st fs cr : Int32} {dw se sw cw hu tu gv co pg W0 W1 : Nat → Int32} {SR GO HO SZ CM EN EP BS M0 M1 K0 K1 LV OW : Nat → Nat} {loc : Nat → Nat → Nat} {im ik gm gk : Nat → Nat}
def mr_FX (GO HO BS M0 LV OW : Nat → Nat) (x : Nat) : Prop := ∀ b, b < x → 1 ≤ BS b → LV b = 0 → ∃ q, mr_wo (GO (M0 b)) (mr_ln (HO (M0 b))) (b / 10) q = true ∧ OW (mr_bf (b / 10) q (b % 2)) ≠ 0
theorem mr_w_fwl {post : SX → Prop} (K : ∀ (LV OW gm gk : Nat → Nat), (mr_Inv pr SR GO HO SZ sw th st cw CM EN EP BS M0 M1 K0 K1 W0 W1 LV OW loc im ik gm gk) → (mr_FW GO HO BS M0 LV OW) → post (fd, pr, th, st, fs, cr, dw, se, (mr_en SR), (mr_en GO), (mr_en HO), (mr_en SZ), sw, cw, (mr_en CM), (mr_eo EN), (mr_en EP), (mr_en BS), (mr_en (mr_tw M0 M1)), (mr_en (mr_tw K0 K1)), (mr_tw W0 W1), (mr_eo LV), (mr_eo OW), hu, tu, gv, co, pg)) :
    ∀ (n x : Nat) (LV OW gm gk : Nat → Nat), 160 - x < n → x ≤ 160 → (mr_Inv pr SR GO HO SZ sw th st cw CM EN EP BS M0 M1 K0 K1 W0 W1 LV OW loc im ik gm gk) → (mr_FX GO HO BS M0 LV OW) x → wX_findWays_2 post fd pr th st fs cr n (nI x) dw se (mr_en SR) (mr_en GO) (mr_en HO) (mr_en SZ) sw cw (mr_en CM) (mr_eo EN) (mr_en EP) (mr_en BS) (mr_en (mr_tw M0 M1)) (mr_en (mr_tw K0 K1)) (mr_tw W0 W1) (mr_eo LV) (mr_eo OW) hu tu gv co pg := by
  intro n
  induction n with
  | zero => intro x LV OW gm gk h; omega
  | succ n ih =>
    intro x LV OW gm gk hn hx I W
    unfold wX_findWays_2
    refine pk_le 160 x (fun e => ?_) (fun l => ?_)
    · have e : x = 160 := by omega
      subst e
      exact K LV OW gm gk I W
    · have I' := I
      obtain ⟨F, Q, S, G, O, _⟩ := I
      have next : (1 ≤ BS x → LV x = 0 → ∃ q, mr_wo (GO (M0 x)) (mr_ln (HO (M0 x))) (x / 10) q = true ∧ OW (mr_bf (x / 10) q (x % 2)) ≠ 0) →
          wX_findWays_2 post fd pr th st fs cr n (nI x + 1) dw se (mr_en SR) (mr_en GO) (mr_en HO) (mr_en SZ) sw cw (mr_en CM) (mr_eo EN) (mr_en EP) (mr_en BS) (mr_en (mr_tw M0 M1)) (mr_en (mr_tw K0 K1)) (mr_tw W0 W1) (mr_eo LV) (mr_eo OW) hu tu gv co pg := fun h => by
        rw [nI_1]
        refine ih (x + 1) LV OW gm gk (by omega) (by omega) I' (fun b hb => ?_)
        by_cases z : b = x
        · rw [z]; exact h
        · exact W b (by omega)
      refine ⟨vp_in_nI l (by omega), ?_⟩
      rw [nI_clamp (n := x) (by omega)]
      have s2 := mr_qb2 (Q x l)
      refine pk_le (BS x) 0 (fun z => nm_e (next (fun y => by omega))) (fun z => ?_)
      have l5 : LV x ≤ 5 := by
        by_cases y : LV x = 0
        · omega
        · exact (G x l y).1
      obtain ⟨m20, pm, rgb, kS, wd, lb⟩ := (S x l).1 z
      obtain ⟨z1, sr, go, ho⟩ := F.1 _ m20 pm
      refine ⟨vp_in_nI l (by omega), mr_bo (LV x) (fun y => nm_e (next (fun _ w => absurd w y))) (fun y => ?_)⟩
      rw [mr_m2, nI_clamp (n := 2 * x) (by omega)]
      refine ⟨vp_in_nI (by omega) (by omega), nm_r (e' := nI (M0 x)) (congrArg nI (mr_tw0 x)) ⟨by decide, nm_r (e' := nI (x / 10)) (pk_div (d := 10) (by omega) (by omega) (by omega)) ?_⟩⟩
      refine mr_w_way (by omega) m20 go ho (fun q wo => mr_w_lane m20 ho (mr_w_bf ?_))
      have q5 := mr_wo5 wo
      rw [← mr_rgl rgb]
      have ol := mr_bfl (r := x / 10) (p := q) (l := x % 2) (by omega) q5 (by omega)
      have o160 : OW (mr_bf (x / 10) q (x % 2)) ≤ 160 := by
        by_cases w : OW (mr_bf (x / 10) q (x % 2)) = 0
        · omega
        · exact (O _ ol w).1
      refine ⟨vp_in_nI ol (by omega), ?_⟩
      rw [nI_clamp (n := mr_bf (x / 10) q (x % 2)) (by omega)]
      refine mr_bo (OW (mr_bf (x / 10) q (x % 2))) (fun w => nm_e (next (fun _ _ => ⟨q, wo, w⟩))) (fun w => ?_)
      refine ⟨vp_in_nI ol (by omega), nm_r (e' := mr_eo (mr_up OW (mr_bf (x / 10) q (x % 2)) (x + 1))) ?_ ⟨vp_in_nI l (by omega), nm_r (e' := mr_eo (mr_up LV x (q + 1))) ?_ (nm_r (nI_1 x) ?_)⟩⟩
      · rw [mr_n16' (by omega), ← mr_os x, mr_updO]
      · rw [mr_n8' (by omega), ← mr_os q, mr_updO]
      · refine ih (x + 1) _ _ _ _ (by omega) (by omega) (mr_stepA I' l (by omega) y wo w) (fun b hb => ?_)
        by_cases z' : b = x
        · rw [z', mr_us]; intro _ h; omega
        · rw [mr_un z']
          intro h1 h2
          obtain ⟨q', a, c⟩ := W b (by omega) h1 h2
          refine ⟨q', a, ?_⟩
          unfold mr_up
          split
          · omega
          · exact c
theorem mr_w_fw {post : SX → Prop} (I : (mr_Inv pr SR GO HO SZ sw th st cw CM EN EP BS M0 M1 K0 K1 W0 W1 LV OW loc im ik gm gk)) (K : ∀ (LV OW gm gk : Nat → Nat), (mr_Inv pr SR GO HO SZ sw th st cw CM EN EP BS M0 M1 K0 K1 W0 W1 LV OW loc im ik gm gk) → (mr_FW GO HO BS M0 LV OW) → post (fd, pr, th, st, fs, cr, dw, se, (mr_en SR), (mr_en GO), (mr_en HO), (mr_en SZ), sw, cw, (mr_en CM), (mr_eo EN), (mr_en EP), (mr_en BS), (mr_en (mr_tw M0 M1)), (mr_en (mr_tw K0 K1)), (mr_tw W0 W1), (mr_eo LV), (mr_eo OW), hu, tu, gv, co, pg)) : wpX_findWays post (fd, pr, th, st, fs, cr, dw, se, (mr_en SR), (mr_en GO), (mr_en HO), (mr_en SZ), sw, cw, (mr_en CM), (mr_eo EN), (mr_en EP), (mr_en BS), (mr_en (mr_tw M0 M1)), (mr_en (mr_tw K0 K1)), (mr_tw W0 W1), (mr_eo LV), (mr_eo OW), hu, tu, gv, co, pg) := by
  unfold wpX_findWays
  exact ⟨161, mr_w_fwl K 161 0 LV OW gm gk (by omega) (by omega) I (fun b hb => by omega)⟩
end
end
section
/-! walk of choose -/
def mr_CG (BS OW HU CO : Nat → Nat) (pg : Nat → Int32) (r p l : Nat) : Prop :=
  OW (mr_bf r p l) ≠ 0 ∧ BS (OW (mr_bf r p l) - 1) ≠ 0 ∧ pg ((OW (mr_bf r p l) - 1) / 2) = 0 ∧ (p = 4 ∨ (p ≠ 4 ∧ HU (r * 4 + p) = 0 ∧ BS (mr_bh r p l) + CO (mr_bh r p l) < 2))
def mr_CI (BS LV : Nat → Nat) (gv : Nat → Int32) : Prop := ∀ b, b < 160 → gv b ≠ 0 → 1 ≤ BS b ∧ LV b ≠ 0 ∧ (LV b ≠ 5 → BS (mr_xb LV b) ≤ 1)
section
variable {fd pr th st fs cr : Int32} {dw se sw cw hu tu gv co pg W0 W1 : Nat → Int32} {SR GO HO SZ CM EN EP BS M0 M1 K0 K1 LV OW : Nat → Nat} {loc : Nat → Nat → Nat} {im ik gm gk : Nat → Nat} {HU CO : Nat → Nat}
/-- the owner of a way -/
theorem mr_ownr (I : (mr_Inv pr SR GO HO SZ sw th st cw CM EN EP BS M0 M1 K0 K1 W0 W1 LV OW loc im ik gm gk)) {r p l b : Nat} (hr : r < 16) (hp : p < 5) (hl : l < 2) (e : OW (mr_bf r p l) = b + 1) :
    b < 160 ∧ LV b = p + 1 ∧ b / 10 = r ∧ b % 2 = l ∧ (p ≠ 4 → mr_vl r p = true ∧ mr_bh r p l < 160 ∧ mr_xb LV b = mr_bh r p l) := by
  obtain ⟨F, Q, S, G, O, _⟩ := I
  obtain ⟨f1, f2, f3⟩ := mr_bff (r := r) (p := p) (l := l) hp hl
  obtain ⟨o1, o2, o3, o4⟩ := O _ (mr_bfl hr hp hl) (by omega)
  rw [e, Nat.add_sub_cancel] at o2 o3 o4
  rw [f2] at o2
  rw [f1] at o3
  rw [f3] at o4
  refine ⟨by omega, o2, o3, o4, fun h4 => ?_⟩
  obtain ⟨w1, w2, w3, _⟩ := mr_way F G (b := b) (by omega) (by omega) (by omega)
  have ex : mr_xb LV b = mr_bh r p l := by unfold mr_xb; rw [o2, o3, o4, Nat.add_sub_cancel]
  rw [o2, o3, Nat.add_sub_cancel] at w2
  rw [ex] at w3
  exact ⟨w2, w3, ex⟩
theorem mr_w_cg {post : Int32 → Prop} (I : (mr_Inv pr SR GO HO SZ sw th st cw CM EN EP BS M0 M1 K0 K1 W0 W1 LV OW loc im ik gm gk)) {r p l : Nat} (hr : r < 16) (hp : p < 5) (hl : l < 2) (hH : ∀ i, i < 64 → hu i = nI (HU i) ∧ HU i ≤ 50)
    (hC : ∀ b, b < 160 → co b = nI (CO b) ∧ CO b ≤ 2) (h1 : (mr_CG BS OW HU CO pg) r p l → post 1) (h0 : ¬ (mr_CG BS OW HU CO pg) r p l → post 0) : wpX_canGo post (fd, pr, th, st, fs, cr, dw, se, (mr_en SR), (mr_en GO), (mr_en HO), (mr_en SZ), sw, cw, (mr_en CM), (mr_eo EN), (mr_en EP), (mr_en BS), (mr_en (mr_tw M0 M1)), (mr_en (mr_tw K0 K1)), (mr_tw W0 W1), (mr_eo LV), (mr_eo OW), hu, tu, gv, co, pg) (nI r) (nI p) (nI l) := by
  unfold wpX_canGo
  refine mr_w_bf ⟨vp_in_nI (mr_bfl hr hp hl) (by omega), ?_⟩
  have ol := mr_bfl hr hp hl
  rw [nI_clamp (n := mr_bf r p l) (by omega)]
  cases e : OW (mr_bf r p l) with
  | zero =>
    refine nm_r (e' := -1) (show mr_o (OW (mr_bf r p l)) = -1 by rw [e]; exact mr_o0) ?_
    exact br_t (by decide) (h0 (fun z => z.1 e))
  | succ b =>
    obtain ⟨hb, lb, b1, b2, b3⟩ := mr_ownr I hr hp hl e
    have eb : OW (mr_bf r p l) - 1 = b := by omega
    refine nm_r (e' := nI b) (show mr_o (OW (mr_bf r p l)) = nI b by rw [e]; exact mr_os b) ?_
    refine br_f (nI_pos (by omega)) ⟨vp_in_nI hb (by omega), ?_⟩
    rw [nI_clamp (n := b) (by omega), show nI b / 2 = nI (b / 2) from pk_div (d := 2) (by omega) (by omega) (by omega), nI_clamp (n := b / 2) (by omega)]
    have s2 := mr_qb2 (I.2.1 b hb)
    refine pk_eq (BS b) 0 (fun z => h0 (fun c => c.2.1 (by rw [eb]; exact z))) (fun z => ⟨by decide, vp_in_nI (by omega) (by omega), ?_⟩)
    refine br_c (fun y => ?_) (fun y => h0 (fun c => y (by have := c.2.2.1; rw [eb] at this; exact this)))
    refine pk_eq p 4 (fun w => h1 ⟨by omega, by rw [eb]; exact z, by rw [eb]; exact y, Or.inl w⟩) (fun w => ?_)
    obtain ⟨v1, v2, v3⟩ := b3 w
    refine mr_w_bh hr (by omega) v1 ?_
    have ei : nI r * 4 + nI p = nI (r * 4 + p) := by
      show nI r * nI 4 + nI p = _
      rw [pk_mul, nI_add]
    rw [ei, nI_clamp (n := r * 4 + p) (by omega), nI_clamp (n := mr_bh r p l) (by omega)]
    obtain ⟨hu1, hu2⟩ := hH (r * 4 + p) (by omega)
    obtain ⟨c1, c2⟩ := hC _ v2
    have s3 := mr_qb2 (I.2.1 _ v2)
    refine ⟨vp_in_nI (by omega) (by omega), pk_eq (HU (r * 4 + p)) 0 (fun x => ?_) (fun x => h0 (fun c => ?_)) hu1⟩
    · refine ⟨vp_in_nI v2 (by omega), vp_in_nI v2 (by omega), pk_le 2 (BS (mr_bh r p l) + CO (mr_bh r p l)) (fun u => h0 (fun c => ?_)) (fun u => h1 ⟨by omega, by rw [eb]; exact z, by rw [eb]; exact y, Or.inr ⟨w, x, u⟩⟩) rfl ?_⟩
      · rcases c.2.2.2 with c | c <;> omega
      · rw [c1]; exact nI_add _ _
    · rcases c.2.2.2 with c | c <;> omega
theorem mr_w_gr {post : SX → Prop} (I : (mr_Inv pr SR GO HO SZ sw th st cw CM EN EP BS M0 M1 K0 K1 W0 W1 LV OW loc im ik gm gk)) {r p l b : Nat} (hr : r < 16) (hp : p < 5) (hl : l < 2) (hC : ∀ b, b < 160 → co b = nI (CO b) ∧ CO b ≤ 2) (c : (mr_CG BS OW HU CO pg) r p l)
    (h : ∀ (co' : Nat → Int32) (CO' : Nat → Nat), OW (mr_bf r p l) = b + 1 → (∀ b, b < 160 → co' b = nI (CO' b) ∧ CO' b ≤ 2) → post (fd, pr, th, st, fs, cr, dw, se, (mr_en SR), (mr_en GO), (mr_en HO), (mr_en SZ), sw, cw, (mr_en CM), (mr_eo EN), (mr_en EP), (mr_en BS), (mr_en (mr_tw M0 M1)), (mr_en (mr_tw K0 K1)), (mr_tw W0 W1), (mr_eo LV), (mr_eo OW), hu, tu, (mr_up gv b 1), co', (mr_up pg (b / 2) 1))) (eb : b = OW (mr_bf r p l) - 1) : wpX_grant post (fd, pr, th, st, fs, cr, dw, se, (mr_en SR), (mr_en GO), (mr_en HO), (mr_en SZ), sw, cw, (mr_en CM), (mr_eo EN), (mr_en EP), (mr_en BS), (mr_en (mr_tw M0 M1)), (mr_en (mr_tw K0 K1)), (mr_tw W0 W1), (mr_eo LV), (mr_eo OW), hu, tu, gv, co, pg) (nI r) (nI p) (nI l) := by
  have e : OW (mr_bf r p l) = b + 1 := by have := c.1; omega
  obtain ⟨hb, lb, b1, b2, b3⟩ := mr_ownr I hr hp hl e
  have ol := mr_bfl hr hp hl
  unfold wpX_grant
  refine mr_w_bf ⟨vp_in_nI ol (by omega), ?_⟩
  rw [nI_clamp (n := mr_bf r p l) (by omega)]
  refine nm_r (e' := nI b) (show mr_o (OW (mr_bf r p l)) = nI b by rw [e]; exact mr_os b) ?_
  rw [nI_clamp (n := b) (by omega), show nI b / 2 = nI (b / 2) from pk_div (d := 2) (by omega) (by omega) (by omega), nI_clamp (n := b / 2) (by omega)]
  refine ⟨vp_in_nI hb (by omega), nm_r (e' := mr_up gv b 1) rfl ⟨by decide, vp_in_nI (by omega) (by omega), nm_r (e' := mr_up pg (b / 2) 1) rfl ?_⟩⟩
  refine pk_eq p 4 (fun w => h co CO e hC) (fun w => ?_)
  obtain ⟨v1, v2, v3⟩ := b3 w
  refine mr_w_bh hr (by omega) v1 ⟨vp_in_nI v2 (by omega), vp_in_nI v2 (by omega), ?_⟩
  obtain ⟨c1, c2⟩ := hC _ v2
  have c3 : CO (mr_bh r p l) ≤ 1 := by rcases c.2.2.2 with c | c <;> omega
  rw [nI_clamp (n := mr_bh r p l) (by omega)]
  refine nm_r (e' := mr_up co (mr_bh r p l) (nI (CO (mr_bh r p l) + 1))) ?_ (h _ (mr_up CO (mr_bh r p l) (CO (mr_bh r p l) + 1)) e (fun d hd => ?_))
  · rw [c1, nI_1, mr_n8' (by omega)]
    rfl
  · by_cases z : d = mr_bh r p l
    · rw [z, mr_us, mr_us]; exact ⟨rfl, by omega⟩
    · rw [mr_un z, mr_un z]; exact hC d hd
theorem mr_w_79 {post : SX → Prop} {J : Int32 → Int32 → Int32 → Int32 → Int32 → Int32 → Int32 → (Nat → Int32) → (Nat → Int32) → (Nat → Int32) → (Nat → Int32) → (Nat → Int32) → (Nat → Int32) → (Nat → Int32) → (Nat → Int32) → (Nat → Int32) → (Nat → Int32) → (Nat → Int32) → (Nat → Int32) → (Nat → Int32) → (Nat → Int32) → (Nat → Int32) → (Nat → Int32) → (Nat → Int32) → (Nat → Int32) → (Nat → Int32) → (Nat → Int32) → (Nat → Int32) → (Nat → Int32) → Prop}
    (I : (mr_Inv pr SR GO HO SZ sw th st cw CM EN EP BS M0 M1 K0 K1 W0 W1 LV OW loc im ik gm gk)) {i l : Nat} (hi : i < 80) (hl : l < 2) (hH : ∀ i, i < 64 → hu i = nI (HU i) ∧ HU i ≤ 50) (hC : ∀ b, b < 160 → co b = nI (CO b) ∧ CO b ≤ 2)
    (k0 : ¬ (mr_CG BS OW HU CO pg) (i / 5) (i % 5) l → J (nI (i + 1)) fd pr th st fs cr dw se (mr_en SR) (mr_en GO) (mr_en HO) (mr_en SZ) sw cw (mr_en CM) (mr_eo EN) (mr_en EP) (mr_en BS) (mr_en (mr_tw M0 M1)) (mr_en (mr_tw K0 K1)) (mr_tw W0 W1) (mr_eo LV) (mr_eo OW) hu tu gv co pg)
    (k1 : (mr_CG BS OW HU CO pg) (i / 5) (i % 5) l → ∀ (b : Nat) (co' : Nat → Int32) (CO' : Nat → Nat), OW (mr_bf (i / 5) (i % 5) l) = b + 1 → (∀ b, b < 160 → co' b = nI (CO' b) ∧ CO' b ≤ 2) →
      J (nI (i + 1)) fd pr th st fs cr dw se (mr_en SR) (mr_en GO) (mr_en HO) (mr_en SZ) sw cw (mr_en CM) (mr_eo EN) (mr_en EP) (mr_en BS) (mr_en (mr_tw M0 M1)) (mr_en (mr_tw K0 K1)) (mr_tw W0 W1) (mr_eo LV) (mr_eo OW) hu (mr_up tu i (nI (1 - l))) (mr_up gv b 1) co' (mr_up pg (b / 2) 1)) :
    wX_choose_79 post J (nI i) (nI (i / 5)) (nI (i % 5)) (nI l) fd pr th st fs cr dw se (mr_en SR) (mr_en GO) (mr_en HO) (mr_en SZ) sw cw (mr_en CM) (mr_eo EN) (mr_en EP) (mr_en BS) (mr_en (mr_tw M0 M1)) (mr_en (mr_tw K0 K1)) (mr_tw W0 W1) (mr_eo LV) (mr_eo OW) hu tu gv co pg := by
  unfold wX_choose_79
  refine mr_w_cg I (by omega) (by omega) hl hH hC (fun c => br_f (by decide) ?_) (fun c => br_t rfl (nm_r (nI_1 i) (k0 c)))
  refine mr_w_gr I (by omega) (by omega) hl hC c (fun co' CO' e h => ⟨vp_in_nI hi (by omega), ?_⟩) rfl
  rw [nI_clamp (n := i) (by omega)]
  refine nm_r (e' := mr_up tu i (nI (1 - l))) ?_ (nm_r (nI_1 i) (k1 c _ co' CO' e h))
  rw [show (1 : Int32) - nI l = nI (1 - l) from pk_sub (a := 1) (by omega), mr_n8' (by omega)]
  rfl
/-- nothing was granted to the ways below 2 * i, nor could be -/
def mr_CJ (BS OW HU : Nat → Nat) (gv co pg : Nat → Int32) (i : Nat) : Prop :=
  (∃ b, b < 160 ∧ gv b ≠ 0) ∨ ((∀ b, b < 160 → co b = 0 ∧ pg (b / 2) = 0) ∧ ∀ j, j < i → ∀ l, l < 2 → ¬ mr_CG BS OW HU (fun _ => 0) (fun _ => 0) (j / 5) (j % 5) l)
theorem mr_w_40 {post : SX → Prop} (I : (mr_Inv pr SR GO HO SZ sw th st cw CM EN EP BS M0 M1 K0 K1 W0 W1 LV OW loc im ik gm gk)) (hH : ∀ i, i < 64 → hu i = nI (HU i) ∧ HU i ≤ 50)
    (K : ∀ (tu gv co pg : Nat → Int32), (∀ i, i < 80 → ∃ l, l < 2 ∧ tu i = nI l) → (mr_CI BS LV gv) → mr_CJ BS OW HU gv co pg 80 → post (fd, pr, th, st, fs, cr, dw, se, (mr_en SR), (mr_en GO), (mr_en HO), (mr_en SZ), sw, cw, (mr_en CM), (mr_eo EN), (mr_en EP), (mr_en BS), (mr_en (mr_tw M0 M1)), (mr_en (mr_tw K0 K1)), (mr_tw W0 W1), (mr_eo LV), (mr_eo OW), hu, tu, gv, co, pg)) :
    ∀ (n i : Nat) (tu gv co pg : Nat → Int32) (CO : Nat → Nat), 80 - i < n → i ≤ 80 → (∀ i, i < 80 → ∃ l, l < 2 ∧ tu i = nI l) → (∀ b, b < 160 → co b = nI (CO b) ∧ CO b ≤ 2) → (mr_CI BS LV gv) → mr_CJ BS OW HU gv co pg i →
      wX_choose_40 post n (nI i) fd pr th st fs cr dw se (mr_en SR) (mr_en GO) (mr_en HO) (mr_en SZ) sw cw (mr_en CM) (mr_eo EN) (mr_en EP) (mr_en BS) (mr_en (mr_tw M0 M1)) (mr_en (mr_tw K0 K1)) (mr_tw W0 W1) (mr_eo LV) (mr_eo OW) hu tu gv co pg := by
  intro n
  induction n with
  | zero => intro i tu gv co pg CO h; omega
  | succ n ih =>
    intro i tu gv co pg CO hn hi hT hC C J
    unfold wX_choose_40
    refine pk_le 80 i (fun e => ?_) (fun lt => ?_)
    · have e : i = 80 := by omega
      subst e
      exact K tu gv co pg hT C J
    · obtain ⟨l, hl, el⟩ := hT i lt
      refine ⟨by decide, nm_r (e' := nI (i / 5)) (pk_div (d := 5) (by omega) (by omega) (by omega)) ⟨by decide, nm_r (e' := nI (i % 5)) (pk_rem (d := 5) (by omega) (by omega) (by omega)) ⟨vp_in_nI lt (by omega), ?_⟩⟩⟩
      rw [nI_clamp (n := i) (by omega)]
      refine nm_r (e' := nI l) el ?_
      have up : ∀ l', l' < 2 → (mr_CG BS OW HU CO pg) (i / 5) (i % 5) l' → ∀ (b : Nat) (co' : Nat → Int32) (CO' : Nat → Nat), OW (mr_bf (i / 5) (i % 5) l') = b + 1 → (∀ b, b < 160 → co' b = nI (CO' b) ∧ CO' b ≤ 2) →
          wX_choose_40 post n (nI (i + 1)) fd pr th st fs cr dw se (mr_en SR) (mr_en GO) (mr_en HO) (mr_en SZ) sw cw (mr_en CM) (mr_eo EN) (mr_en EP) (mr_en BS) (mr_en (mr_tw M0 M1)) (mr_en (mr_tw K0 K1)) (mr_tw W0 W1) (mr_eo LV) (mr_eo OW) hu (mr_up tu i (nI (1 - l'))) (mr_up gv b 1) co' (mr_up pg (b / 2) 1) := fun l' hl' c b co' CO' e h => by
        obtain ⟨hb, lb, b1, b2, b3⟩ := mr_ownr I (r := i / 5) (p := i % 5) (by omega) (by omega) hl' e
        refine ih (i + 1) _ _ _ _ CO' (by omega) (by omega) (fun j hj => ?_) h (fun d hd hg => ?_) (Or.inl ⟨b, hb, by rw [mr_us]; decide⟩)
        · by_cases z : j = i
          · rw [z, mr_us]; exact ⟨_, by omega, rfl⟩
          · rw [mr_un z]; exact hT j hj
        · by_cases z : d = b
          · rw [z]
            have c2 := c.2.1
            rw [e, Nat.add_sub_cancel] at c2
            refine ⟨by omega, by omega, fun h5 => ?_⟩
            obtain ⟨v1, v2, v3⟩ := b3 (by omega)
            rw [v3]
            rcases c.2.2.2 with c | c <;> omega
          · rw [mr_un z] at hg
            exact C d hd hg
      have no : (∀ l, l < 2 → ¬ (mr_CG BS OW HU CO pg) (i / 5) (i % 5) l) → wX_choose_40 post n (nI (i + 1)) fd pr th st fs cr dw se (mr_en SR) (mr_en GO) (mr_en HO) (mr_en SZ) sw cw (mr_en CM) (mr_eo EN) (mr_en EP) (mr_en BS) (mr_en (mr_tw M0 M1)) (mr_en (mr_tw K0 K1)) (mr_tw W0 W1) (mr_eo LV) (mr_eo OW) hu tu gv co pg := fun h => by
        refine ih (i + 1) _ _ _ _ CO (by omega) (by omega) hT hC C ?_
        rcases J with J | ⟨J1, J2⟩
        · exact Or.inl J
        · refine Or.inr ⟨J1, fun j hj l hl c => ?_⟩
          by_cases z : j = i
          · rw [z] at c
            refine h l hl ?_
            obtain ⟨b, eb⟩ : ∃ b, OW (mr_bf (i / 5) (i % 5) l) = b + 1 := ⟨OW (mr_bf (i / 5) (i % 5) l) - 1, by have := c.1; omega⟩
            obtain ⟨hb, lb, b1, b2, b3⟩ := mr_ownr I (r := i / 5) (p := i % 5) (by omega) (by omega) hl eb
            refine ⟨c.1, c.2.1, ?_, ?_⟩
            · rw [eb, Nat.add_sub_cancel]; exact (J1 b hb).2
            · rcases c.2.2.2 with c | ⟨c1, c2, c3⟩
              · exact Or.inl c
              · obtain ⟨v1, v2, v3⟩ := b3 c1
                obtain ⟨x1, x2⟩ := hC _ v2
                rw [(J1 _ v2).1] at x1
                have x3 : CO (mr_bh (i / 5) (i % 5) l) = 0 := ((nI_eq (by omega) (by omega)).mp (nI_0.trans x1)).symm
                exact Or.inr ⟨c1, c2, by rw [x3]; exact c3⟩
          · exact J2 j (by omega) l hl c
      refine mr_w_cg I (by omega) (by omega) hl hH hC (fun c => br_f (by decide) ?_) (fun c => br_t rfl ?_)
      · exact mr_w_79 I lt hl hH hC (fun nc => absurd c nc) (up l hl)
      · refine nm_r (e' := nI (1 - l)) (pk_sub (a := 1) (by omega)) ?_
        refine mr_w_79 I lt (by omega) hH hC (fun nc => no (fun l' hl' => ?_)) (up (1 - l) (by omega))
        by_cases z : l' = l
        · rw [z]; exact c
        · rw [show l' = 1 - l by omega]; exact nc
theorem mr_w_ch2 {post : SX → Prop} (K : ∀ (gv co pg : Nat → Int32), (∀ b, b < 160 → gv b = 0 ∧ co b = 0 ∧ pg (b / 2) = 0) → ∃ n40 : Nat, wX_choose_40 post n40 0 fd pr th st fs cr dw se (mr_en SR) (mr_en GO) (mr_en HO) (mr_en SZ) sw cw (mr_en CM) (mr_eo EN) (mr_en EP) (mr_en BS) (mr_en (mr_tw M0 M1)) (mr_en (mr_tw K0 K1)) (mr_tw W0 W1) (mr_eo LV) (mr_eo OW) hu tu gv co pg) :
    ∀ (n x : Nat) (gv co pg : Nat → Int32), 160 - x < n → x ≤ 160 → (∀ b, b < x → gv b = 0 ∧ co b = 0 ∧ pg (b / 2) = 0) → wX_choose_2 post fd pr th st fs cr n (nI x) dw se (mr_en SR) (mr_en GO) (mr_en HO) (mr_en SZ) sw cw (mr_en CM) (mr_eo EN) (mr_en EP) (mr_en BS) (mr_en (mr_tw M0 M1)) (mr_en (mr_tw K0 K1)) (mr_tw W0 W1) (mr_eo LV) (mr_eo OW) hu tu gv co pg := by
  intro n
  induction n with
  | zero => intro x gv co pg h; omega
  | succ n ih =>
    intro x gv co pg hn hx h
    unfold wX_choose_2
    refine pk_le 160 x (fun e => ?_) (fun l => ?_)
    · have e : x = 160 := by omega
      subst e
      exact K gv co pg h
    · rw [nI_clamp (n := x) (by omega), show nI x / 2 = nI (x / 2) from pk_div (d := 2) (by omega) (by omega) (by omega), nI_clamp (n := x / 2) (by omega)]
      refine ⟨vp_in_nI l (by omega), nm_r (e' := mr_up gv x 0) rfl ⟨vp_in_nI l (by omega), nm_r (e' := mr_up co x 0) ?_ ⟨by decide, vp_in_nI (by omega) (by omega), nm_r (e' := mr_up pg (x / 2) 0) rfl (nm_r (nI_1 x) ?_)⟩⟩⟩
      · rw [show vp_nar .byte 0 = 0 from mr_n8 (n := 0) (by omega)]
        rfl
      · refine ih (x + 1) _ _ _ (by omega) (by omega) (fun b hb => ?_)
        unfold mr_up
        by_cases z : b = x
        · rw [if_pos z, if_pos z, if_pos (by omega)]; exact ⟨rfl, rfl, rfl⟩
        · obtain ⟨a1, a2, a3⟩ := h b (by omega)
          rw [if_neg z, if_neg z]
          refine ⟨a1, a2, ?_⟩
          split
          · rfl
          · exact a3
theorem mr_w_choose {post : SX → Prop} (I : (mr_Inv pr SR GO HO SZ sw th st cw CM EN EP BS M0 M1 K0 K1 W0 W1 LV OW loc im ik gm gk)) (hH : ∀ i, i < 64 → hu i = nI (HU i) ∧ HU i ≤ 50) (hT : ∀ i, i < 80 → ∃ l, l < 2 ∧ tu i = nI l)
    (K : ∀ (tu gv co pg : Nat → Int32), (∀ i, i < 80 → ∃ l, l < 2 ∧ tu i = nI l) → (mr_CI BS LV gv) → ((∃ b, b < 160 ∧ gv b ≠ 0) ∨ ((∀ i, i < 64 → HU i = 0) → (mr_NC BS LV))) → post (fd, pr, th, st, fs, cr, dw, se, (mr_en SR), (mr_en GO), (mr_en HO), (mr_en SZ), sw, cw, (mr_en CM), (mr_eo EN), (mr_en EP), (mr_en BS), (mr_en (mr_tw M0 M1)), (mr_en (mr_tw K0 K1)), (mr_tw W0 W1), (mr_eo LV), (mr_eo OW), hu, tu, gv, co, pg)) : wpX_choose post (fd, pr, th, st, fs, cr, dw, se, (mr_en SR), (mr_en GO), (mr_en HO), (mr_en SZ), sw, cw, (mr_en CM), (mr_eo EN), (mr_en EP), (mr_en BS), (mr_en (mr_tw M0 M1)), (mr_en (mr_tw K0 K1)), (mr_tw W0 W1), (mr_eo LV), (mr_eo OW), hu, tu, gv, co, pg) := by
  unfold wpX_choose
  refine ⟨161, mr_w_ch2 (fun gv co pg h => ⟨81, ?_⟩) 161 0 gv co pg (by omega) (by omega) (fun b hb => by omega)⟩
  refine mr_w_40 I hH (fun tu gv co pg hT C J => K tu gv co pg hT C ?_) 81 0 tu gv co pg (fun _ => 0) (by omega) (by omega) hT (fun b hb => ⟨(h b hb).2.1, by omega⟩) (fun b hb z => absurd (h b hb).1 z)
    (Or.inr ⟨fun b hb => ⟨(h b hb).2.1, (h b hb).2.2⟩, fun j hj => by omega⟩)
  rcases J with J | ⟨J1, J2⟩
  · exact Or.inl J
  · refine Or.inr (fun hz b hb lb sb => ?_)
    obtain ⟨F, Q, S, G, O, _⟩ := I
    obtain ⟨g1, g2, g3, g4, g5, g6, g7, _⟩ := G b hb lb
    have h := J2 (b / 10 * 5 + (LV b - 1)) (by omega) (b % 2) (by omega)
    rw [show (b / 10 * 5 + (LV b - 1)) / 5 = b / 10 by omega, show (b / 10 * 5 + (LV b - 1)) % 5 = LV b - 1 by omega] at h
    unfold mr_ob at g7
    have nh : ¬ (LV b - 1 = 4 ∨ (LV b - 1 ≠ 4 ∧ HU (b / 10 * 4 + (LV b - 1)) = 0 ∧ BS (mr_xb LV b) < 2)) := fun z => h ⟨by omega, by rw [g7, Nat.add_sub_cancel]; exact sb, rfl, z⟩
    by_cases y : LV b = 5
    · exact absurd (Or.inl (by omega)) nh
    · refine ⟨y, ?_⟩
      have h0 := hz (b / 10 * 4 + (LV b - 1)) (by omega)
      by_cases w : 2 ≤ BS (mr_xb LV b)
      · exact w
      · exact absurd (Or.inr ⟨by omega, h0, by omega⟩) nh
end
end
section
/-! walk of move -/
section
variable {fd pr th st fs cr : Int32} {dw se sw cw hu tu gv co pg W0 W1 : Nat → Int32} {SR GO HO SZ CM EN EP BS M0 M1 K0 K1 LV OW : Nat → Nat} {loc : Nat → Nat → Nat} {im ik gm gk : Nat → Nat}
theorem mr_w_drop {post : SX → Prop} {b : Nat} (hb : b < 160) (s1 : 1 ≤ BS b) (s2 : BS b ≤ 2) (hm : BS b = 2 → M1 b < 128 ∧ K1 b < 128)
    (h : ∀ (BS' M0' K0' : Nat → Nat) (W0' : Nat → Int32), (mr_dr BS BS' M0 M0' M1 K0 K0' K1 W0 W0' W1) b → (∀ c, c ≠ b → (mr_sa BS BS' M0 M0' M1 M1 K0 K0' K1 K1 W0 W0' W1 W1) c) → post (fd, pr, th, st, fs, cr, dw, se, (mr_en SR), (mr_en GO), (mr_en HO), (mr_en SZ), sw, cw, (mr_en CM), (mr_eo EN), (mr_en EP), (mr_en BS'), (mr_en (mr_tw M0' M1)), (mr_en (mr_tw K0' K1)), (mr_tw W0' W1), (mr_eo LV), (mr_eo OW), hu, tu, gv, co, pg)) : wpX_dropFirst post (fd, pr, th, st, fs, cr, dw, se, (mr_en SR), (mr_en GO), (mr_en HO), (mr_en SZ), sw, cw, (mr_en CM), (mr_eo EN), (mr_en EP), (mr_en BS), (mr_en (mr_tw M0 M1)), (mr_en (mr_tw K0 K1)), (mr_tw W0 W1), (mr_eo LV), (mr_eo OW), hu, tu, gv, co, pg) (nI b) := by
  unfold wpX_dropFirst
  rw [nI_clamp (n := b) (by omega)]
  refine ⟨vp_in_nI hb (by omega), vp_in_nI hb (by omega), nm_r (e' := mr_en (mr_up BS b (BS b - 1))) ?_ ?_⟩
  · show upd (mr_en BS) b (vp_nar .byte ((nI (BS b) - nI 1).toInt8.toInt32)) = _
    rw [pk_sub s1, mr_n8' (by omega), mr_updE]
  · rcases Nat.lt_or_ge (BS b) 2 with z | z
    · refine ⟨1, ?_⟩
      unfold wX_dropFirst_13
      rw [nI_clamp (n := b) (by omega)]
      refine ⟨vp_in_nI hb (by omega), pk_le 0 0 (fun _ => ?_) (fun z => by omega) ?_⟩
      · refine h (mr_up BS b (BS b - 1)) M0 K0 W0 ⟨by rw [mr_us]; omega, fun e => by omega⟩ (fun c hc => ⟨mr_un hc, rfl, rfl, rfl, rfl, rfl, rfl⟩)
      · show nI (mr_up BS b (BS b - 1) b) = nI 0
        rw [mr_us]
        congr 1
        omega
    · have e : BS b = 2 := by omega
      obtain ⟨m1, k1⟩ := hm e
      refine ⟨2, ?_⟩
      unfold wX_dropFirst_13
      rw [nI_clamp (n := b) (by omega)]
      refine ⟨vp_in_nI hb (by omega), pk_le 1 0 (fun z => by omega) (fun _ => ?_) ?_⟩
      · refine nm_r (e' := nI (2 * b)) ?_ ?_
        · rw [mr_m2]
          exact nI_add (2 * b) 0
        · rw [nI_1, nI_clamp (n := 2 * b) (by omega), nI_clamp (n := 2 * b + 1) (by omega)]
          have i0 : vp_in (nI (2 * b)) 320 := vp_in_nI (by omega) (by omega)
          have i1 : vp_in (nI (2 * b + 1)) 320 := vp_in_nI (by omega) (by omega)
          refine ⟨i1, i0, nm_r (e' := mr_en (mr_tw (mr_up M0 b (M1 b)) M1)) ?_ ⟨i1, i0, nm_r (e' := mr_en (mr_tw (mr_up K0 b (K1 b)) K1)) ?_ ⟨i1, i0, nm_r (e' := mr_tw (mr_up W0 b (W1 b)) W1) ?_ (nm_r (e' := nI 1) rfl ?_)⟩⟩⟩
          · show upd _ _ (vp_nar .byte (nI (mr_tw M0 M1 (2 * b + 1)))) = _
            rw [mr_tw1, mr_n8 m1, mr_updE, mr_utw0]
          · show upd _ _ (vp_nar .byte (nI (mr_tw K0 K1 (2 * b + 1)))) = _
            rw [mr_tw1, mr_n8 k1, mr_updE, mr_utw0]
          · rw [mr_tw1, mr_updU, mr_utw0]
          · unfold wX_dropFirst_13
            rw [nI_clamp (n := b) (by omega)]
            refine ⟨vp_in_nI hb (by omega), pk_le 1 1 (fun _ => ?_) (fun z => by omega) ?_⟩
            · refine h _ _ _ _ ⟨by rw [mr_us]; omega, fun _ => ⟨mr_us, mr_us, mr_us⟩⟩ (fun c hc => ⟨mr_un hc, mr_un hc, rfl, mr_un hc, rfl, mr_un hc, rfl⟩)
            · show nI (mr_up BS b (BS b - 1) b) = nI 1
              rw [mr_us, e]
      · show nI (mr_up BS b (BS b - 1) b) = nI 1
        rw [mr_us, e]
theorem mr_w_put {post : SX → Prop} {d m k : Nat} {w : Int32} (hd : d < 160) (d1 : BS d ≤ 1) (hm : m < 128) (hk : k < 128)
    (h : ∀ (BS' M0' M1' K0' K1' : Nat → Nat) (W0' W1' : Nat → Int32), (mr_pu BS BS' M0 M0' M1' K0 K0' K1' W0 W0' W1') d m k w → (∀ c, c ≠ d → (mr_sa BS BS' M0 M0' M1 M1' K0 K0' K1 K1' W0 W0' W1 W1') c) → post (fd, pr, th, st, fs, cr, dw, se, (mr_en SR), (mr_en GO), (mr_en HO), (mr_en SZ), sw, cw, (mr_en CM), (mr_eo EN), (mr_en EP), (mr_en BS'), (mr_en (mr_tw M0' M1')), (mr_en (mr_tw K0' K1')), (mr_tw W0' W1'), (mr_eo LV), (mr_eo OW), hu, tu, gv, co, pg)) : wpX_put post (fd, pr, th, st, fs, cr, dw, se, (mr_en SR), (mr_en GO), (mr_en HO), (mr_en SZ), sw, cw, (mr_en CM), (mr_eo EN), (mr_en EP), (mr_en BS), (mr_en (mr_tw M0 M1)), (mr_en (mr_tw K0 K1)), (mr_tw W0 W1), (mr_eo LV), (mr_eo OW), hu, tu, gv, co, pg) (nI d) (nI m) (nI k) w := by
  unfold wpX_put
  rw [nI_clamp (n := d) (by omega)]
  have id : vp_in (nI d) 160 := vp_in_nI hd (by omega)
  refine ⟨id, nm_r (e' := nI (2 * d + BS d)) ?_ ?_⟩
  · rw [mr_m2]; exact nI_add _ _
  · rw [nI_clamp (n := 2 * d + BS d) (by omega), mr_n8' hm, mr_n8' hk]
    have ii : vp_in (nI (2 * d + BS d)) 320 := vp_in_nI (by omega) (by omega)
    have es : upd (mr_en BS) d (vp_nar .byte ((mr_en BS d + 1).toInt8.toInt32)) = mr_en (mr_up BS d (BS d + 1)) := by
      show upd (mr_en BS) d (vp_nar .byte ((nI (BS d) + 1).toInt8.toInt32)) = _
      rw [nI_1, mr_n8' (by omega), mr_updE]
    rcases Nat.lt_or_ge (BS d) 1 with z | z
    · have e : BS d = 0 := by omega
      refine ⟨ii, nm_r (e' := mr_en (mr_tw (mr_up M0 d m) M1)) ?_ ⟨ii, nm_r (e' := mr_en (mr_tw (mr_up K0 d k) K1)) ?_ ⟨ii, nm_r (e' := mr_tw (mr_up W0 d w) W1) ?_ ⟨id, id, nm_r es ?_⟩⟩⟩⟩
      · rw [e, Nat.add_zero, mr_updE, mr_utw0]
      · rw [e, Nat.add_zero, mr_updE, mr_utw0]
      · rw [e, Nat.add_zero, mr_updU, mr_utw0]
      · exact h _ _ _ _ _ _ _ ⟨mr_us, fun _ => ⟨mr_us, mr_us, mr_us⟩, fun z => by omega⟩ (fun c hc => ⟨mr_un hc, mr_un hc, rfl, mr_un hc, rfl, mr_un hc, rfl⟩)
    · have e : BS d = 1 := by omega
      refine ⟨ii, nm_r (e' := mr_en (mr_tw M0 (mr_up M1 d m))) ?_ ⟨ii, nm_r (e' := mr_en (mr_tw K0 (mr_up K1 d k))) ?_ ⟨ii, nm_r (e' := mr_tw W0 (mr_up W1 d w)) ?_ ⟨id, id, nm_r es ?_⟩⟩⟩⟩
      · rw [e, mr_updE, mr_utw1]
      · rw [e, mr_updE, mr_utw1]
      · rw [e, mr_updU, mr_utw1]
      · exact h _ _ _ _ _ _ _ ⟨mr_us, fun z => by omega, fun _ => ⟨rfl, rfl, rfl, mr_us, mr_us, mr_us⟩⟩ (fun c hc => ⟨mr_un hc, rfl, mr_un hc, rfl, mr_un hc, rfl, mr_un hc⟩)
theorem mr_w_recv {post : SX → Prop} {m k : Nat} {w : Int32} (hm : m < 20) (hs : SZ m ≤ 5) (hk : k ≤ 5) (hc : CM m = k)
    (h : ∀ (th' : Int32) (cw' : Nat → Int32), (∀ i, i < 32 → bt th' i = (bt th i || (decide (i = m) && decide (k = SZ m)))) → (1 ≤ k → cw' (m * 5 + k - 1) = w) → (∀ i, (1 ≤ k → i ≠ m * 5 + k - 1) → cw' i = cw i) →
      post (fd, pr, th', st, fs, cr, dw, se, (mr_en SR), (mr_en GO), (mr_en HO), (mr_en SZ), sw, cw', (mr_en (mr_up CM m (k + 1))), (mr_eo EN), (mr_en EP), (mr_en BS), (mr_en (mr_tw M0 M1)), (mr_en (mr_tw K0 K1)), (mr_tw W0 W1), (mr_eo LV), (mr_eo OW), hu, tu, gv, co, pg)) : wpX_receive post (fd, pr, th, st, fs, cr, dw, se, (mr_en SR), (mr_en GO), (mr_en HO), (mr_en SZ), sw, cw, (mr_en CM), (mr_eo EN), (mr_en EP), (mr_en BS), (mr_en (mr_tw M0 M1)), (mr_en (mr_tw K0 K1)), (mr_tw W0 W1), (mr_eo LV), (mr_eo OW), hu, tu, gv, co, pg) (nI m) (nI k) w := by
  have H : ∀ cw' : Nat → Int32, (1 ≤ k → cw' (m * 5 + k - 1) = w) → (∀ i, (1 ≤ k → i ≠ m * 5 + k - 1) → cw' i = cw i) → wX_receive_17 post (nI m) fd pr th st fs cr dw se (mr_en SR) (mr_en GO) (mr_en HO) (mr_en SZ) sw cw' (mr_en CM) (mr_eo EN) (mr_en EP) (mr_en BS) (mr_en (mr_tw M0 M1)) (mr_en (mr_tw K0 K1)) (mr_tw W0 W1) (mr_eo LV) (mr_eo OW) hu tu gv co pg := fun cw' a b => by
    unfold wX_receive_17
    rw [nI_clamp (n := m) (by omega)]
    have im : vp_in (nI m) 20 := vp_in_nI hm (by omega)
    refine ⟨im, im, nm_r (e' := mr_en (mr_up CM m (k + 1))) ?_ ⟨im, im, ?_⟩⟩
    · show upd (mr_en CM) m (vp_nar .byte ((nI (CM m) + 1).toInt8.toInt32)) = _
      rw [nI_1, hc, mr_n8' (by omega), mr_updE]
    · refine pk_eq (k + 1) (SZ m + 1) (fun e => nm_e ?_) (fun e => ?_) (congrArg nI mr_us) (nI_1 _)
      · refine h _ _ (fun i hi => ?_) a b
        rw [mr_set _ (by omega) hi, decide_eq_true (show k = SZ m by omega), Bool.and_true]
      · refine h _ _ (fun i hi => ?_) a b
        rw [decide_eq_false (show ¬ k = SZ m by omega), Bool.and_false, Bool.or_false]
  unfold wpX_receive
  refine pk_le k 0 (fun e => H cw (fun z => by omega) (fun i _ => rfl)) (fun e => ?_)
  have ei : nI m * 5 + nI k - 1 = nI (m * 5 + k - 1) := by
    show nI m * nI 5 + nI k - nI 1 = _
    rw [pk_mul, nI_add, pk_sub (by omega)]
  rw [ei, nI_clamp (n := m * 5 + k - 1) (by omega)]
  refine ⟨vp_in_nI (by omega) (by omega), nm_e (H _ (fun _ => pk_us) (fun i hi => pk_un (hi e)))⟩
theorem mr_w_rel {post : SX → Prop} {b r p l : Nat} (hb : b < 160) (hr : r < 16) (hp : p < 5) (hl : l < 2) (h : post (fd, pr, th, st, fs, cr, dw, se, (mr_en SR), (mr_en GO), (mr_en HO), (mr_en SZ), sw, cw, (mr_en CM), (mr_eo EN), (mr_en EP), (mr_en BS), (mr_en (mr_tw M0 M1)), (mr_en (mr_tw K0 K1)), (mr_tw W0 W1), (mr_eo (mr_up LV b 0)), (mr_eo (mr_up OW (mr_bf r p l) 0)), hu, tu, gv, co, pg)) : wpX_release post (fd, pr, th, st, fs, cr, dw, se, (mr_en SR), (mr_en GO), (mr_en HO), (mr_en SZ), sw, cw, (mr_en CM), (mr_eo EN), (mr_en EP), (mr_en BS), (mr_en (mr_tw M0 M1)), (mr_en (mr_tw K0 K1)), (mr_tw W0 W1), (mr_eo LV), (mr_eo OW), hu, tu, gv, co, pg) (nI b) (nI r) (nI p) (nI l) := by
  unfold wpX_release
  have ol := mr_bfl hr hp hl
  refine mr_w_bf ⟨vp_in_nI ol (by omega), ?_⟩
  rw [nI_clamp (n := mr_bf r p l) (by omega), nI_clamp (n := b) (by omega)]
  refine nm_r (e' := mr_eo (mr_up OW (mr_bf r p l) 0)) ?_ ⟨vp_in_nI hb (by omega), nm_r (e' := mr_eo (mr_up LV b 0)) ?_ h⟩
  · rw [mr_n16m, ← mr_o0, mr_updO]
  · rw [mr_n8m, ← mr_o0, mr_updO]
/-- what move knows of the buffers that still have to give -/
def mr_MV (BS LV : Nat → Nat) (gv : Nat → Int32) (x : Nat) : Prop := ∀ b, x ≤ b → b < 160 → gv b ≠ 0 → 1 ≤ BS b ∧ LV b ≠ 0 ∧ (LV b ≠ 5 → BS (mr_xb LV b) ≤ 1)
theorem mr_w_mvl {post : SX → Prop} {κ : Int32} {φ : Nat}
    (K : ∀ (th cr : Int32) (cw : Nat → Int32) (CM BS M0 M1 K0 K1 : Nat → Nat) (W0 W1 : Nat → Int32) (LV OW : Nat → Nat) (loc : Nat → Nat → Nat) (im ik gm gk : Nat → Nat), (mr_Inv pr SR GO HO SZ sw th st cw CM EN EP BS M0 M1 K0 K1 W0 W1 LV OW loc im ik gm gk) → cr + nI (mr_Ch SR GO loc) = κ → (mr_Ph SR GO loc) < φ → post (fd, pr, th, st, fs, cr, dw, se, (mr_en SR), (mr_en GO), (mr_en HO), (mr_en SZ), sw, cw, (mr_en CM), (mr_eo EN), (mr_en EP), (mr_en BS), (mr_en (mr_tw M0 M1)), (mr_en (mr_tw K0 K1)), (mr_tw W0 W1), (mr_eo LV), (mr_eo OW), hu, tu, gv, co, pg)) :
    ∀ (n x : Nat) (th cr : Int32) (cw : Nat → Int32) (CM BS M0 M1 K0 K1 : Nat → Nat) (W0 W1 : Nat → Int32) (LV OW : Nat → Nat) (loc : Nat → Nat → Nat) (im ik gm gk : Nat → Nat), 160 - x < n → x ≤ 160 →
      (mr_Inv pr SR GO HO SZ sw th st cw CM EN EP BS M0 M1 K0 K1 W0 W1 LV OW loc im ik gm gk) → cr + nI (mr_Ch SR GO loc) = κ → (mr_Ph SR GO loc) ≤ φ → ((mr_Ph SR GO loc) < φ ∨ ∃ b, x ≤ b ∧ b < 160 ∧ gv b ≠ 0) → (mr_MV BS LV gv) x → wX_move_2 post n (nI x) fd pr th st fs cr dw se (mr_en SR) (mr_en GO) (mr_en HO) (mr_en SZ) sw cw (mr_en CM) (mr_eo EN) (mr_en EP) (mr_en BS) (mr_en (mr_tw M0 M1)) (mr_en (mr_tw K0 K1)) (mr_tw W0 W1) (mr_eo LV) (mr_eo OW) hu tu gv co pg := by
  intro n
  induction n with
  | zero => intro x th cr cw CM BS M0 M1 K0 K1 W0 W1 LV OW loc im ik gm gk h; omega
  | succ n ih =>
    intro x th cr cw CM BS M0 M1 K0 K1 W0 W1 LV OW loc im ik gm gk hn hx I hc hp hq V
    unfold wX_move_2
    refine pk_le 160 x (fun e => ?_) (fun l => ?_)
    · refine K _ _ _ _ _ _ _ _ _ _ _ _ _ _ _ _ _ _ I hc ?_
      rcases hq with h | ⟨b, h1, h2, _⟩
      · exact h
      · omega
    · rw [nI_clamp (n := x) (by omega)]
      refine ⟨vp_in_nI l (by omega), br_c (fun z => nm_r (nI_1 x) ?_) (fun z => ?_)⟩
      · refine ih (x + 1) _ _ _ _ _ _ _ _ _ _ _ _ _ _ _ _ _ _ (by omega) (by omega) I hc hp ?_ (fun b hb => V b (by omega))
        rcases hq with h | ⟨b, h1, h2, h3⟩
        · exact Or.inl h
        · refine Or.inr ⟨b, ?_, h2, h3⟩
          have : b ≠ x := fun e => h3 (by rw [e]; exact z)
          omega
      · clear hq
        have I' := I
        obtain ⟨F, Q, S, G, O, _⟩ := I
        obtain ⟨s1, l1, rm⟩ := V x (Nat.le_refl x) l z
        have s2 := mr_qb2 (Q x l)
        obtain ⟨gmb, gkb⟩ := mr_qbf (Q x l) s1 l1
        obtain ⟨g1, g2, g3, g4, g5, g6, g7, g8, g9⟩ := G x l l1
        obtain ⟨m20, pm, rgb, kS, wd, lb⟩ := (S x l).1 s1
        obtain ⟨z1, sr, go, ho⟩ := F.1 _ m20 pm
        have z5 := F.2.1 _ m20
        have lx : mr_ln (HO (M0 x)) = x % 2 := (mr_rgl rgb).symm
        rw [mr_m2]
        have ii : vp_in (nI (2 * x)) 320 := vp_in_nI (by omega) (by omega)
        refine nm_r (e' := nI (2 * x)) rfl ?_
        rw [nI_clamp (n := 2 * x) (by omega)]
        refine ⟨ii, nm_r (e' := nI (M0 x)) (congrArg nI (mr_tw0 x)) ⟨ii, nm_r (e' := nI (K0 x)) (congrArg nI (mr_tw0 x)) ⟨ii, nm_r (e' := W0 x) (mr_tw0 x) ⟨by decide, nm_r (e' := nI (x / 10)) (pk_div (d := 10) (by omega) (by omega) (by omega)) ⟨vp_in_nI l (by omega), nm_r (e' := nI (LV x - 1)) ?_ ?_⟩⟩⟩⟩⟩
        · show mr_o (LV x) = _
          rw [show LV x = LV x - 1 + 1 by omega, mr_os]
          rfl
        · refine mr_w_drop l s1 s2 (fun e => ?_) (fun BS' M0' K0' W0' D A => ?_)
          · obtain ⟨a1, a2, a3, a4, _⟩ := (S x l).2 e
            have := F.2.1 _ a1
            exact ⟨by omega, by omega⟩
          · refine mr_w_lane m20 ho ?_
            rw [lx]
            -- behind the piece: the way is given free, or kept
            have T122 : ∀ (th' cr' : Int32) (cw' : Nat → Int32) (CM' BS'' M0'' M1'' K0'' K1'' : Nat → Nat) (W0'' W1'' : Nat → Int32),
                wX_move_2 post n (nI (x + 1)) fd pr th' st fs cr' dw se (mr_en SR) (mr_en GO) (mr_en HO) (mr_en SZ) sw cw' (mr_en CM') (mr_eo EN) (mr_en EP) (mr_en BS'') (mr_en (mr_tw M0'' M1'')) (mr_en (mr_tw K0'' K1'')) (mr_tw W0'' W1'') (mr_eo (mr_up LV x (if K0 x = SZ (M0 x) then 0 else LV x))) (mr_eo (mr_up OW (mr_ob LV x) (if K0 x = SZ (M0 x) then 0 else x + 1))) hu tu gv co pg →
                wX_move_122 post (wX_move_2 post n) (nI x) (nI (M0 x)) (nI (K0 x)) (nI (x / 10)) (nI (LV x - 1)) (nI (x % 2)) fd pr th' st fs cr' dw se (mr_en SR) (mr_en GO) (mr_en HO) (mr_en SZ) sw cw' (mr_en CM') (mr_eo EN) (mr_en EP) (mr_en BS'') (mr_en (mr_tw M0'' M1'')) (mr_en (mr_tw K0'' K1'')) (mr_tw W0'' W1'') (mr_eo LV) (mr_eo OW) hu tu gv co pg := fun th' cr' cw' CM' BS'' M0'' M1'' K0'' K1'' W0'' W1'' h => by
              unfold wX_move_122
              rw [nI_clamp (n := M0 x) (by omega)]
              refine ⟨vp_in_nI m20 (by omega), pk_eq (K0 x) (SZ (M0 x)) (fun t => ?_) (fun t => nm_r (nI_1 x) ?_)⟩
              · rw [if_pos t, if_pos t] at h
                exact mr_w_rel l (by omega) (by omega) (by omega) (nm_r (nI_1 x) h)
              · rw [if_neg t, if_neg t, mr_uu, show mr_up OW (mr_ob LV x) (x + 1) = OW by rw [← g7]; exact mr_uu] at h
                exact h
            refine pk_eq (LV x - 1) 4 (fun e4 => ?_) (fun e4 => ?_)
            · -- the piece is at its goal
              have l5 : LV x = 5 := by omega
              have cm := g9 l5
              rw [gmb, gkb] at cm
              refine mr_w_recv m20 z5 (by omega) cm (fun th' cw' t1 t2 t3 => T122 _ _ _ _ _ _ _ _ _ _ _ ?_)
              obtain ⟨J, p1, p2, p3⟩ := mr_stepR I' l s1 l5 D A t1 t2 t3
              refine ih (x + 1) _ _ _ _ _ _ _ _ _ _ _ _ _ _ _ _ _ _ (by omega) (by omega) J (by rw [p2]; exact hc) (by omega) (Or.inl (by omega)) (fun b hb b160 gb => ?_)
              have bx : b ≠ x := by omega
              obtain ⟨v1, v2, v3⟩ := V b (by omega) b160 gb
              rw [mr_un bx, mr_xbn bx, (A b bx).1]
              refine ⟨v1, v2, fun h5 => ?_⟩
              by_cases y : mr_xb LV b = x
              · rw [y]; have := D.1; omega
              · rw [(A _ y).1]; exact v3 h5
            · -- it goes to the next router
              have l5 : LV x ≠ 5 := by omega
              obtain ⟨w1, w2, w3, w4, w5, w6, w7, w8, w9⟩ := mr_way F G l l1 l5
              have bd := (A _ w8).1
              refine mr_w_bh (by omega) w1 w2 ?_
              refine mr_w_put (d := mr_xb LV x) w3 (by rw [bd]; exact rm l5) (by omega) (by omega) (fun BS'' M0'' M1'' K0'' K1'' W0'' W1'' P B => nm_e (T122 _ _ _ _ _ _ _ _ _ _ _ ?_))
              obtain ⟨P1, P2, P3⟩ := P
              obtain ⟨a1, a2, a3, a4, a5, a6, a7⟩ := A _ w8
              obtain ⟨c1, c2, c3, c4, c5, c6, c7⟩ := B x (Ne.symm w8)
              obtain ⟨J, p1, p2⟩ := mr_stepH (BS' := BS'') (M0' := M0'') (M1' := M1'') (K0' := K0'') (K1' := K1'') (W0' := W0'') (W1' := W1'') I' l s1 l1 l5 rfl (rm l5)
                ⟨by rw [c1]; exact D.1, fun e => by rw [c2, c4, c6]; exact D.2 e⟩
                ⟨by rw [P1, a1], fun e => P2 (by rw [a1]; exact e), fun e => by
                  obtain ⟨q1, q2, q3, q4, q5, q6⟩ := P3 (by rw [a1]; exact e)
                  exact ⟨q1.trans a2, q2.trans a4, q3.trans a6, q4, q5, q6⟩⟩
                (fun c cx cd => by
                  obtain ⟨a1, a2, a3, a4, a5, a6, a7⟩ := A c cx
                  obtain ⟨c1, c2, c3, c4, c5, c6, c7⟩ := B c cd
                  exact ⟨c1.trans a1, c2.trans a2, c3, c4.trans a4, c5, c6.trans a6, c7⟩)
              refine ih (x + 1) _ _ _ _ _ _ _ _ _ _ _ _ _ _ _ _ _ _ (by omega) (by omega) J ?_ (by omega) (Or.inl (by omega)) (fun b hb b160 gb => ?_)
              · rw [← hc, ← p2, ← nI_1]
                grind
              · have bx : b ≠ x := by omega
                obtain ⟨v1, v2, v3⟩ := V b (by omega) b160 gb
                rw [mr_un bx, mr_xbn bx]
                refine ⟨?_, v2, fun h5 => ?_⟩
                · by_cases y : b = mr_xb LV x
                  · rw [y]; omega
                  · rw [(B b y).1, (A b bx).1]; exact v1
                · have nd : mr_xb LV b ≠ mr_xb LV x := fun e => bx (mr_way2 F G b160 l v2 l1 h5 l5 e)
                  rw [(B _ nd).1]
                  by_cases y : mr_xb LV b = x
                  · rw [y]; have := D.1; omega
                  · rw [(A _ y).1]; exact v3 h5
theorem mr_w_move {post : SX → Prop} {κ : Int32} (I : (mr_Inv pr SR GO HO SZ sw th st cw CM EN EP BS M0 M1 K0 K1 W0 W1 LV OW loc im ik gm gk)) (hc : cr + nI (mr_Ch SR GO loc) = κ) (hg : ∃ b, b < 160 ∧ gv b ≠ 0) (C : (mr_CI BS LV gv))
    (K : ∀ (th cr : Int32) (cw : Nat → Int32) (CM BS M0 M1 K0 K1 : Nat → Nat) (W0 W1 : Nat → Int32) (LV OW : Nat → Nat) (loc' : Nat → Nat → Nat) (im ik gm gk : Nat → Nat), (mr_Inv pr SR GO HO SZ sw th st cw CM EN EP BS M0 M1 K0 K1 W0 W1 LV OW loc' im ik gm gk) → cr + nI (mr_Ch SR GO loc') = κ → (mr_Ph SR GO loc') < (mr_Ph SR GO loc) → post (fd, pr, th, st, fs, cr, dw, se, (mr_en SR), (mr_en GO), (mr_en HO), (mr_en SZ), sw, cw, (mr_en CM), (mr_eo EN), (mr_en EP), (mr_en BS), (mr_en (mr_tw M0 M1)), (mr_en (mr_tw K0 K1)), (mr_tw W0 W1), (mr_eo LV), (mr_eo OW), hu, tu, gv, co, pg)) : wpX_move post (fd, pr, th, st, fs, cr, dw, se, (mr_en SR), (mr_en GO), (mr_en HO), (mr_en SZ), sw, cw, (mr_en CM), (mr_eo EN), (mr_en EP), (mr_en BS), (mr_en (mr_tw M0 M1)), (mr_en (mr_tw K0 K1)), (mr_tw W0 W1), (mr_eo LV), (mr_eo OW), hu, tu, gv, co, pg) := by
  unfold wpX_move
  obtain ⟨b, hb, gb⟩ := hg
  exact ⟨161, mr_w_mvl (φ := (mr_Ph SR GO loc)) K 161 0 _ _ _ _ _ _ _ _ _ _ _ _ _ _ _ _ _ _ (by omega) (by omega) I hc (Nat.le_refl _) (Or.inr ⟨b, Nat.zero_le _, hb, gb⟩) (fun b _ hb gb => C b hb gb)⟩
theorem mr_w_mv0 {post : SX → Prop} (h : ∀ b, b < 160 → gv b = 0) (K : post (fd, pr, th, st, fs, cr, dw, se, (mr_en SR), (mr_en GO), (mr_en HO), (mr_en SZ), sw, cw, (mr_en CM), (mr_eo EN), (mr_en EP), (mr_en BS), (mr_en (mr_tw M0 M1)), (mr_en (mr_tw K0 K1)), (mr_tw W0 W1), (mr_eo LV), (mr_eo OW), hu, tu, gv, co, pg)) : wpX_move post (fd, pr, th, st, fs, cr, dw, se, (mr_en SR), (mr_en GO), (mr_en HO), (mr_en SZ), sw, cw, (mr_en CM), (mr_eo EN), (mr_en EP), (mr_en BS), (mr_en (mr_tw M0 M1)), (mr_en (mr_tw K0 K1)), (mr_tw W0 W1), (mr_eo LV), (mr_eo OW), hu, tu, gv, co, pg) := by
  have L : ∀ n x, 160 - x < n → x ≤ 160 → wX_move_2 post n (nI x) fd pr th st fs cr dw se (mr_en SR) (mr_en GO) (mr_en HO) (mr_en SZ) sw cw (mr_en CM) (mr_eo EN) (mr_en EP) (mr_en BS) (mr_en (mr_tw M0 M1)) (mr_en (mr_tw K0 K1)) (mr_tw W0 W1) (mr_eo LV) (mr_eo OW) hu tu gv co pg := by
    intro n
    induction n with
    | zero => intro x h; omega
    | succ n ih =>
      intro x hn hx
      unfold wX_move_2
      refine pk_le 160 x (fun e => K) (fun l => ?_)
      rw [nI_clamp (n := x) (by omega)]
      exact ⟨vp_in_nI l (by omega), br_t (h x l) (nm_r (nI_1 x) (ih (x + 1) (by omega) (by omega)))⟩
  unfold wpX_move
  exact ⟨161, L 161 0 (by omega) (by omega)⟩
end
end
section
/-! walk of enter -/
def mr_WT (pr : Int32) (SR : Nat → Nat) (th st : Int32) (p m : Nat) : Prop := bt pr m = true ∧ bt th m = false ∧ SR m = p ∧ bt st m = false
def mr_NB (pr : Int32) (SR : Nat → Nat) (th st : Int32) (p x e : Nat) : Prop := (e = 0 ∧ ∀ m, m < x → ¬ mr_WT pr SR th st p m) ∨ (∃ m, m < 20 ∧ e = m + 1 ∧ mr_WT pr SR th st p m)
theorem mr_NBe {pr : Int32} {SR : Nat → Nat} {th st : Int32} {p x e : Nat} (h : mr_NB pr SR th st p x e) : e ≤ 20 := by
  rcases h with ⟨h, _⟩ | ⟨m, h1, h2, _⟩ <;> omega
section
variable {fd pr th st fs cr : Int32} {dw se sw cw hu tu gv co pg W0 W1 : Nat → Int32} {SR GO HO SZ CM EN EP BS M0 M1 K0 K1 LV OW : Nat → Nat} {loc : Nat → Nat → Nat} {im ik gm gk : Nat → Nat}
theorem mr_w_nxl {post : Int32 → Prop} {p : Nat} (hp : p < 16) (hsr : ∀ m, m < 20 → bt pr m = true → SR m < 16) (K : ∀ e, mr_NB pr SR th st p 20 e → post (mr_o e)) :
    ∀ n x e, 20 - x < n → x ≤ 20 → mr_NB pr SR th st p x e → wX_nextAt_4 post (nI p) fd pr th st fs cr dw se (mr_en SR) (mr_en GO) (mr_en HO) (mr_en SZ) sw cw (mr_en CM) (mr_eo EN) (mr_en EP) (mr_en BS) (mr_en (mr_tw M0 M1)) (mr_en (mr_tw K0 K1)) (mr_tw W0 W1) (mr_eo LV) (mr_eo OW) hu tu gv co pg n (mr_o e) (nI x) := by
  intro n
  induction n with
  | zero => intro x e h; omega
  | succ n ih =>
    intro x e hn hx N
    have e20 := mr_NBe N
    unfold wX_nextAt_4
    refine pk_le 20 x (fun l => ?_) (fun l => ?_)
    · have e : x = 20 := by omega
      subst e
      exact K _ N
    · have no : ¬ mr_WT pr SR th st p x → wX_nextAt_48 post (wX_nextAt_4 post (nI p) fd pr th st fs cr dw se (mr_en SR) (mr_en GO) (mr_en HO) (mr_en SZ) sw cw (mr_en CM) (mr_eo EN) (mr_en EP) (mr_en BS) (mr_en (mr_tw M0 M1)) (mr_en (mr_tw K0 K1)) (mr_tw W0 W1) (mr_eo LV) (mr_eo OW) hu tu gv co pg n) (nI p) (mr_o e) (nI x) fd pr th st fs cr dw se (mr_en SR) (mr_en GO) (mr_en HO) (mr_en SZ) sw cw (mr_en CM) (mr_eo EN) (mr_en EP) (mr_en BS) (mr_en (mr_tw M0 M1)) (mr_en (mr_tw K0 K1)) (mr_tw W0 W1) (mr_eo LV) (mr_eo OW) hu tu gv co pg := fun h => by
        unfold wX_nextAt_48 wX_nextAt_49
        refine br_t rfl (nm_r (nI_1 x) (ih (x + 1) e (by omega) (by omega) ?_))
        rcases N with ⟨N1, N2⟩ | N
        · refine Or.inl ⟨N1, fun m hm => ?_⟩
          by_cases z : m = x
          · rw [z]; exact h
          · exact N2 m (by omega)
        · exact Or.inr N
      refine mr_w_has (by omega) (br_c (fun z => no (fun w => ?_)) (fun z => ?_))
      · rw [mr_b0] at z; exact mr_tf w.1 z
      · rw [mr_b0] at z
        have pm : bt pr x = true := by simpa using z
        have sx := hsr x l pm
        refine mr_w_isThere (by omega) (br_c (fun y => ?_) (fun y => no (fun w => y (mr_b0.mpr w.2.1))))
        rw [mr_b0] at y
        refine ⟨vp_in_nI l (by omega), ?_⟩
        rw [nI_clamp (n := x) (by omega)]
        refine pk_eq (SR x) p (fun w => ?_) (fun w => no (fun v => w v.2.2.1))
        refine mr_w_started (by omega) (br_c (fun v => ?_) (fun v => no (fun u => v (mr_b0.mpr u.2.2.2))))
        rw [mr_b0] at v
        have W : mr_WT pr SR th st p x := ⟨pm, y, w, v⟩
        have yes : wX_nextAt_4 post (nI p) fd pr th st fs cr dw se (mr_en SR) (mr_en GO) (mr_en HO) (mr_en SZ) sw cw (mr_en CM) (mr_eo EN) (mr_en EP) (mr_en BS) (mr_en (mr_tw M0 M1)) (mr_en (mr_tw K0 K1)) (mr_tw W0 W1) (mr_eo LV) (mr_eo OW) hu tu gv co pg n (nI x) (nI (x + 1)) := by
          rw [← mr_os x]
          exact ih (x + 1) (x + 1) (by omega) (by omega) (Or.inr ⟨x, l, rfl, W⟩)
        unfold wX_nextAt_49
        refine br_f (by decide) (mr_bl e (fun z0 => nm_r (nI_1 x) yes) (fun z0 => ?_))
        obtain ⟨b, rfl⟩ : ∃ b, e = b + 1 := ⟨e - 1, by omega⟩
        have keep : wX_nextAt_4 post (nI p) fd pr th st fs cr dw se (mr_en SR) (mr_en GO) (mr_en HO) (mr_en SZ) sw cw (mr_en CM) (mr_eo EN) (mr_en EP) (mr_en BS) (mr_en (mr_tw M0 M1)) (mr_en (mr_tw K0 K1)) (mr_tw W0 W1) (mr_eo LV) (mr_eo OW) hu tu gv co pg n (mr_o (b + 1)) (nI (x + 1)) := ih (x + 1) (b + 1) (by omega) (by omega) (by
          rcases N with ⟨N1, N2⟩ | N
          · omega
          · exact Or.inr N)
        refine ⟨vp_in_nI l (by omega), ?_, br_c (fun _ => nm_r (nI_1 x) keep) (fun _ => nm_r (nI_1 x) yes)⟩
        rw [mr_os]
        exact vp_in_nI (by omega) (by omega)
theorem mr_w_next {post : Int32 → Prop} {p : Nat} (hp : p < 16) (hsr : ∀ m, m < 20 → bt pr m = true → SR m < 16) (K : ∀ e, mr_NB pr SR th st p 20 e → post (mr_o e)) : wpX_nextAt post (fd, pr, th, st, fs, cr, dw, se, (mr_en SR), (mr_en GO), (mr_en HO), (mr_en SZ), sw, cw, (mr_en CM), (mr_eo EN), (mr_en EP), (mr_en BS), (mr_en (mr_tw M0 M1)), (mr_en (mr_tw K0 K1)), (mr_tw W0 W1), (mr_eo LV), (mr_eo OW), hu, tu, gv, co, pg) (nI p) := by
  unfold wpX_nextAt
  refine ⟨21, ?_⟩
  have h := mr_w_nxl (fd := fd) (fs := fs) (cr := cr) (dw := dw) (se := se) (sw := sw) (cw := cw) (hu := hu) (tu := tu) (gv := gv) (co := co) (pg := pg) (W0 := W0) (W1 := W1) (GO := GO) (HO := HO) (SZ := SZ) (CM := CM) (EN := EN) (EP := EP) (BS := BS) (M0 := M0) (M1 := M1) (K0 := K0) (K1 := K1) (LV := LV) (OW := OW) hp hsr K 21 0 0 (by omega) (by omega) (Or.inl ⟨rfl, fun m hm => by omega⟩)
  rw [mr_o0] at h
  exact h
theorem mr_w_ep {post : SX → Prop} {p m : Nat} (I : (mr_Inv pr SR GO HO SZ sw th st cw CM EN EP BS M0 M1 K0 K1 W0 W1 LV OW loc im ik gm gk)) (hp : p < 16) (en : EN p = m + 1) (h0 : 2 ≤ BS (mr_own HO p m) → post (fd, pr, th, st, fs, cr, dw, se, (mr_en SR), (mr_en GO), (mr_en HO), (mr_en SZ), sw, cw, (mr_en CM), (mr_eo EN), (mr_en EP), (mr_en BS), (mr_en (mr_tw M0 M1)), (mr_en (mr_tw K0 K1)), (mr_tw W0 W1), (mr_eo LV), (mr_eo OW), hu, tu, gv, co, pg))
    (h1 : ∀ (EN' EP' BS' M0' M1' K0' K1' : Nat → Nat) (W0' W1' : Nat → Int32) (loc' : Nat → Nat → Nat) (im' ik' : Nat → Nat),
      (mr_Inv pr SR GO HO SZ sw th st cw CM EN' EP' BS' M0' M1' K0' K1' W0' W1' LV OW loc' im' ik' gm gk) → (mr_Ph SR GO loc') + 1 = (mr_Ph SR GO loc) → (mr_Ch SR GO loc') = (mr_Ch SR GO loc) →
      post (fd, pr, th, st, fs, cr, dw, se, (mr_en SR), (mr_en GO), (mr_en HO), (mr_en SZ), sw, cw, (mr_en CM), (mr_eo EN'), (mr_en EP'), (mr_en BS'), (mr_en (mr_tw M0' M1')), (mr_en (mr_tw K0' K1')), (mr_tw W0' W1'), (mr_eo LV), (mr_eo OW), hu, tu, gv, co, pg)) : wpX_enterPiece post (fd, pr, th, st, fs, cr, dw, se, (mr_en SR), (mr_en GO), (mr_en HO), (mr_en SZ), sw, cw, (mr_en CM), (mr_eo EN), (mr_en EP), (mr_en BS), (mr_en (mr_tw M0 M1)), (mr_en (mr_tw K0 K1)), (mr_tw W0 W1), (mr_eo LV), (mr_eo OW), hu, tu, gv, co, pg) (nI p) := by
  have I' := I
  obtain ⟨F, Q, S, G, O, II, E, _⟩ := I
  obtain ⟨e1, e2, e3, e4, e5, e6, e7, e8⟩ := E p hp (by omega)
  rw [en, Nat.add_sub_cancel] at e2 e3 e4 e5 e6 e7 e8
  have m20 : m < 20 := by omega
  obtain ⟨z1, sr, go, ho⟩ := F.1 _ m20 e2
  have z5 := F.2.1 _ m20
  have dl := (mr_owf (HO := HO) (m := m) hp).2.2.2
  have s2 := mr_qb2 (Q _ dl)
  unfold wpX_enterPiece
  rw [nI_clamp (n := p) (by omega)]
  have ip : vp_in (nI p) 16 := vp_in_nI hp (by omega)
  refine ⟨ip, nm_r (e' := nI m) (show mr_o (EN p) = nI m by rw [en]; exact mr_os m) (mr_w_lane m20 ho (mr_w_bf (p := 4) ?_))⟩
  show vp_in (nI (mr_own HO p m)) 160 ∧ _
  refine ⟨vp_in_nI dl (by omega), ?_⟩
  rw [nI_clamp (n := mr_bf p 4 (mr_ln (HO m))) (Nat.lt_trans dl (by decide))]
  refine pk_lt (BS (mr_own HO p m)) 2 (fun l => ⟨ip, nm_r (e' := nI (EP p)) rfl ?_⟩) h0
  have H : ∀ w, (1 ≤ EP p → w = sw (m * 5 + EP p - 1)) → wX_enterPiece_63 post (nI p) (nI m) (nI (mr_own HO p m)) (nI (EP p)) w fd pr th st fs cr dw se (mr_en SR) (mr_en GO) (mr_en HO) (mr_en SZ) sw cw (mr_en CM) (mr_eo EN) (mr_en EP) (mr_en BS) (mr_en (mr_tw M0 M1)) (mr_en (mr_tw K0 K1)) (mr_tw W0 W1) (mr_eo LV) (mr_eo OW) hu tu gv co pg := fun w hw => by
    unfold wX_enterPiece_63
    refine mr_w_put dl (by omega) (by omega) (by omega) (fun BS' M0' M1' K0' K1' W0' W1' P A => ?_)
    obtain ⟨J, j1, j2⟩ := mr_stepP I' hp en rfl (by omega) hw P A
    rw [nI_clamp (n := p) (by omega), nI_clamp (n := m) (by omega)]
    refine ⟨ip, ip, nm_r (e' := mr_en (mr_up EP p (EP p + 1))) ?_ ⟨vp_in_nI m20 (by omega), pk_eq (EP p) (SZ m) (fun t => ⟨ip, nm_r (e' := mr_eo (mr_up EN p 0)) ?_ ?_⟩) (fun t => ?_)⟩⟩
    · show upd (mr_en EP) p (vp_nar .byte ((nI (EP p) + 1).toInt8.toInt32)) = _
      rw [nI_1, mr_n8' (by omega), mr_updE]
    · rw [mr_n8m, ← mr_o0, mr_updO]
    · rw [if_pos t, if_pos t] at J
      exact h1 _ _ _ _ _ _ _ _ _ _ _ _ J j1 j2
    · rw [if_neg t, if_neg t, ← en, mr_uu] at J
      exact h1 _ _ _ _ _ _ _ _ _ _ _ _ J j1 j2
  refine pk_eq (EP p) 0 (fun z => H 0 (fun y => by omega)) (fun z => ?_)
  have ei : nI m * 5 + nI (EP p) - 1 = nI (m * 5 + EP p - 1) := by
    show nI m * nI 5 + nI (EP p) - nI 1 = _
    rw [pk_mul, nI_add, pk_sub (by omega)]
  rw [ei, nI_clamp (n := m * 5 + EP p - 1) (by omega)]
  exact ⟨vp_in_nI (by omega) (by omega), H _ (fun _ => rfl)⟩
/-- a piece has entered, or some place from x on can let one in -/
def mr_GP (g : Prop) (φ : Nat) (pr : Int32) (SR GO HO : Nat → Nat) (th st : Int32) (EN BS : Nat → Nat) (loc : Nat → Nat → Nat) (x : Nat) : Prop :=
  g → ((mr_Ph SR GO loc) < φ ∨ ∃ p, x ≤ p ∧ p < 16 ∧ (mr_rdy pr SR HO th st EN BS) p)
theorem mr_w_enl {post : SX → Prop} {g : Prop} {φ χ : Nat}
    (K : ∀ (st : Int32) (EN EP BS M0 M1 K0 K1 : Nat → Nat) (W0 W1 : Nat → Int32) (loc : Nat → Nat → Nat) (im ik : Nat → Nat), (mr_Inv pr SR GO HO SZ sw th st cw CM EN EP BS M0 M1 K0 K1 W0 W1 LV OW loc im ik gm gk) → (mr_Ch SR GO loc) = χ → (mr_Ph SR GO loc) ≤ φ → (g → (mr_Ph SR GO loc) < φ) → post (fd, pr, th, st, fs, cr, dw, se, (mr_en SR), (mr_en GO), (mr_en HO), (mr_en SZ), sw, cw, (mr_en CM), (mr_eo EN), (mr_en EP), (mr_en BS), (mr_en (mr_tw M0 M1)), (mr_en (mr_tw K0 K1)), (mr_tw W0 W1), (mr_eo LV), (mr_eo OW), hu, tu, gv, co, pg)) :
    ∀ (n x : Nat) (st : Int32) (EN EP BS M0 M1 K0 K1 : Nat → Nat) (W0 W1 : Nat → Int32) (loc : Nat → Nat → Nat) (im ik : Nat → Nat), 16 - x < n → x ≤ 16 →
      (mr_Inv pr SR GO HO SZ sw th st cw CM EN EP BS M0 M1 K0 K1 W0 W1 LV OW loc im ik gm gk) → (mr_Ch SR GO loc) = χ → (mr_Ph SR GO loc) ≤ φ → (mr_GP g φ pr SR GO HO th st EN BS loc) x → wX_enter_2 post n (nI x) fd pr th st fs cr dw se (mr_en SR) (mr_en GO) (mr_en HO) (mr_en SZ) sw cw (mr_en CM) (mr_eo EN) (mr_en EP) (mr_en BS) (mr_en (mr_tw M0 M1)) (mr_en (mr_tw K0 K1)) (mr_tw W0 W1) (mr_eo LV) (mr_eo OW) hu tu gv co pg := by
  intro n
  induction n with
  | zero => intro x st EN EP BS M0 M1 K0 K1 W0 W1 loc im ik h; omega
  | succ n ih =>
    intro x st EN EP BS M0 M1 K0 K1 W0 W1 loc im ik hn hx I hc hp P
    unfold wX_enter_2
    refine pk_le 16 x (fun e => ?_) (fun l => ?_)
    · refine K _ _ _ _ _ _ _ _ _ _ _ _ _ I hc hp (fun hg => ?_)
      rcases P hg with h | ⟨p, h1, h2, _⟩
      · exact h
      · omega
    · have I' := I
      obtain ⟨F, Q, S, G, O, II, E, _⟩ := I
      have ix : vp_in (nI x) 16 := vp_in_nI l (by omega)
      have e20 : EN x ≤ 20 := by
        by_cases z : EN x = 0
        · omega
        · exact (E x l z).1
      -- a message stands at the door
      have A66 : ∀ (st' : Int32) (EN' EP' : Nat → Nat) (m : Nat), (mr_Inv pr SR GO HO SZ sw th st' cw CM EN' EP' BS M0 M1 K0 K1 W0 W1 LV OW loc im ik gm gk) → EN' x = m + 1 → (2 ≤ BS (mr_own HO x m) → (mr_GP g φ pr SR GO HO th st' EN' BS loc) (x + 1)) →
          wX_enter_66 post (wX_enter_2 post n) (nI x) fd pr th st' fs cr dw se (mr_en SR) (mr_en GO) (mr_en HO) (mr_en SZ) sw cw (mr_en CM) (mr_eo EN') (mr_en EP') (mr_en BS) (mr_en (mr_tw M0 M1)) (mr_en (mr_tw K0 K1)) (mr_tw W0 W1) (mr_eo LV) (mr_eo OW) hu tu gv co pg := fun st' EN' EP' m J em hP => by
        have m20 : m < 20 := by
          obtain ⟨_, _, _, _, _, _, E', _⟩ := J
          have := (E' x l (by omega)).1
          omega
        unfold wX_enter_66
        refine ⟨ix, ?_⟩
        rw [nI_clamp (n := x) (by omega)]
        refine mr_bl (EN' x) (fun z => by omega) (fun z => ?_)
        refine mr_w_ep J l em (fun z => nm_r (nI_1 x) ?_) (fun EN'' EP'' BS' M0' M1' K0' K1' W0' W1' loc' im' ik' J' j1 j2 => nm_r (nI_1 x) ?_)
        · exact ih (x + 1) _ _ _ _ _ _ _ _ _ _ _ _ _ (by omega) (by omega) J hc hp (hP z)
        · exact ih (x + 1) _ _ _ _ _ _ _ _ _ _ _ _ _ (by omega) (by omega) J' (j2.trans hc) (by omega) (fun _ => Or.inl (by omega))
      refine ⟨ix, ?_⟩
      rw [nI_clamp (n := x) (by omega)]
      refine mr_bo (EN x) (fun z => ?_) (fun z => ?_)
      · obtain ⟨m, em⟩ : ∃ m, EN x = m + 1 := ⟨EN x - 1, by omega⟩
        refine A66 st EN EP m I' em (fun h2 hg => ?_)
        rcases P hg with h | ⟨p, p1, p2, p3⟩
        · exact Or.inl h
        · refine Or.inr ⟨p, ?_, p2, p3⟩
          have : p ≠ x := fun e => by
            rw [e] at p3
            rcases p3 with ⟨a, b⟩ | ⟨a, b⟩
            · rw [em, Nat.add_sub_cancel] at b; omega
            · omega
          omega
      · refine mr_w_next l (fun m hm pm => (F.1 m hm pm).2.1) (fun e N => ⟨ix, nm_r (e' := mr_eo (mr_up EN x e)) ?_ ⟨ix, nm_r (e' := mr_en (mr_up EP x 0)) ?_ ⟨ix, ?_⟩⟩⟩)
        · rw [mr_n8o (Nat.le_trans (mr_NBe N) (by decide)), mr_updO]
        · rw [show vp_nar .byte 0 = nI 0 from mr_n8 (n := 0) (by omega), mr_updE]
        · have ne := mr_NBe N
          have ex : mr_eo (mr_up EN x e) x = mr_o e := congrArg mr_o mr_us
          rw [ex]
          rcases N with ⟨N1, N2⟩ | ⟨m, m20, em, W⟩
          · subst N1
            refine mr_bl 0 (fun _ => ?_) (fun y => absurd rfl y)
            rw [show mr_up EN x 0 = EN by rw [← z]; exact mr_uu]
            unfold wX_enter_62
            refine nm_r (e' := st) ?_ ?_
            · apply b_ext
              intro i hi
              rw [b_or, b_0, Bool.or_false]
            · unfold wX_enter_66
              refine ⟨ix, ?_⟩
              rw [nI_clamp (n := x) (by omega)]
              refine mr_bl (EN x) (fun _ => nm_r (nI_1 x) ?_) (fun y => absurd z y)
              refine ih (x + 1) _ _ _ _ _ _ _ _ _ _ _ _ _ (by omega) (by omega) (mr_stepZ I' l z) hc hp (fun hg => ?_)
              rcases P hg with h | ⟨p, p1, p2, p3⟩
              · exact Or.inl h
              · refine Or.inr ⟨p, ?_, p2, p3⟩
                have : p ≠ x := fun e => by
                  rw [e] at p3
                  rcases p3 with ⟨a, b⟩ | ⟨a, b, m, m20, c1, c2, c3, c4⟩
                  · exact a z
                  · exact N2 m m20 ⟨c1, c3, c2, c4⟩
                omega
          · subst em
            obtain ⟨w1, w2, w3, w4⟩ := W
            refine mr_bl (m + 1) (fun y => by omega) (fun _ => ⟨ix, ?_⟩)
            rw [mr_os]
            unfold wX_enter_62
            refine nm_e ?_
            have hs : ∀ i, i < 32 → bt (st ||| ((1 : Int32) <<< (nI m &&& 31))) i = (bt st i || decide (i = m)) := fun i hi => mr_set st (by omega) hi
            refine A66 _ _ _ m (mr_stepN I' l z m20 w1 w2 w4 w3 hs) mr_us (fun h2 hg => ?_)
            rcases P hg with h | ⟨p, p1, p2, p3⟩
            · exact Or.inl h
            · have px : p ≠ x := fun e => by
                rw [e] at p3
                rcases p3 with ⟨a, b⟩ | ⟨a, b, _⟩
                · exact a z
                · have b' : BS (mr_own HO x m) ≤ 1 := b _ (mr_ln2 _)
                  omega
              refine Or.inr ⟨p, by omega, p2, ?_⟩
              unfold mr_rdy at p3 ⊢
              rw [mr_un px]
              rcases p3 with p3 | ⟨a, b, m', m20', c1, c2, c3, c4⟩
              · exact Or.inl p3
              · refine Or.inr ⟨a, b, m', m20', c1, c2, c3, ?_⟩
                rw [hs m' (by omega), c4, decide_eq_false (fun e => px (by rw [← c2, e, w3]))]
                rfl
theorem mr_w_enter {post : SX → Prop} {g : Prop} {φ χ : Nat} (I : (mr_Inv pr SR GO HO SZ sw th st cw CM EN EP BS M0 M1 K0 K1 W0 W1 LV OW loc im ik gm gk)) (hc : (mr_Ch SR GO loc) = χ) (hp : (mr_Ph SR GO loc) ≤ φ) (hg : g → ((mr_Ph SR GO loc) < φ ∨ ∃ p, p < 16 ∧ (mr_rdy pr SR HO th st EN BS) p))
    (K : ∀ (st : Int32) (EN EP BS M0 M1 K0 K1 : Nat → Nat) (W0 W1 : Nat → Int32) (loc : Nat → Nat → Nat) (im ik : Nat → Nat), (mr_Inv pr SR GO HO SZ sw th st cw CM EN EP BS M0 M1 K0 K1 W0 W1 LV OW loc im ik gm gk) → (mr_Ch SR GO loc) = χ → (mr_Ph SR GO loc) ≤ φ → (g → (mr_Ph SR GO loc) < φ) → post (fd, pr, th, st, fs, cr, dw, se, (mr_en SR), (mr_en GO), (mr_en HO), (mr_en SZ), sw, cw, (mr_en CM), (mr_eo EN), (mr_en EP), (mr_en BS), (mr_en (mr_tw M0 M1)), (mr_en (mr_tw K0 K1)), (mr_tw W0 W1), (mr_eo LV), (mr_eo OW), hu, tu, gv, co, pg)) : wpX_enter post (fd, pr, th, st, fs, cr, dw, se, (mr_en SR), (mr_en GO), (mr_en HO), (mr_en SZ), sw, cw, (mr_en CM), (mr_eo EN), (mr_en EP), (mr_en BS), (mr_en (mr_tw M0 M1)), (mr_en (mr_tw K0 K1)), (mr_tw W0 W1), (mr_eo LV), (mr_eo OW), hu, tu, gv, co, pg) := by
  unfold wpX_enter
  refine ⟨17, mr_w_enl K 17 0 _ _ _ _ _ _ _ _ _ _ _ _ _ (by omega) (by omega) I hc hp (fun h => ?_)⟩
  rcases hg h with h | ⟨p, h1, h2⟩
  · exact Or.inl h
  · exact Or.inr ⟨p, Nat.zero_le _, h1, h2⟩
end
end
section
/-! walks of wearOff, moment, settle -/
section
variable {fd pr th st fs cr : Int32} {dw se sw cw hu tu gv co pg W0 W1 : Nat → Int32} {SR GO HO SZ CM EN EP BS M0 M1 K0 K1 LV OW : Nat → Nat} {loc : Nat → Nat → Nat} {im ik gm gk : Nat → Nat} {HU : Nat → Nat}
theorem mr_w_wrl {post : SX → Prop} (hb : ∀ i, i < 64 → HU i ≤ 50) (K : ∀ hu : Nat → Int32, (∀ i, i < 64 → hu i = nI (HU i - 1)) → post (fd, pr, th, st, fs, cr, dw, se, (mr_en SR), (mr_en GO), (mr_en HO), (mr_en SZ), sw, cw, (mr_en CM), (mr_eo EN), (mr_en EP), (mr_en BS), (mr_en (mr_tw M0 M1)), (mr_en (mr_tw K0 K1)), (mr_tw W0 W1), (mr_eo LV), (mr_eo OW), hu, tu, gv, co, pg)) :
    ∀ (n x : Nat) (hu : Nat → Int32), 64 - x < n → x ≤ 64 → (∀ i, i < 64 → hu i = nI (if i < x then HU i - 1 else HU i)) → wX_wearOff_2 post fd pr th st fs cr n (nI x) dw se (mr_en SR) (mr_en GO) (mr_en HO) (mr_en SZ) sw cw (mr_en CM) (mr_eo EN) (mr_en EP) (mr_en BS) (mr_en (mr_tw M0 M1)) (mr_en (mr_tw K0 K1)) (mr_tw W0 W1) (mr_eo LV) (mr_eo OW) hu tu gv co pg := by
  intro n
  induction n with
  | zero => intro x hu h; omega
  | succ n ih =>
    intro x hu hn hx h
    unfold wX_wearOff_2
    refine pk_le 64 x (fun e => ?_) (fun l => ?_)
    · refine K hu (fun i hi => ?_)
      rw [h i hi, if_pos (by omega)]
    · have ix : vp_in (nI x) 64 := vp_in_nI l (by omega)
      have hx0 : hu x = nI (HU x) := by rw [h x l, if_neg (by omega)]
      have b50 := hb x l
      have up : ∀ i, i < 64 → mr_up hu x (nI (HU x - 1)) i = nI (if i < x + 1 then HU i - 1 else HU i) := fun i hi => by
        by_cases z : i = x
        · rw [z, mr_us, if_pos (by omega)]
        · rw [mr_un z, h i hi]
          by_cases y : i < x
          · rw [if_pos y, if_pos (by omega)]
          · rw [if_neg y, if_neg (by omega)]
      refine ⟨ix, ?_⟩
      rw [nI_clamp (n := x) (by omega), hx0]
      refine pk_le (HU x) 0 (fun z => ⟨ix, nm_r (e' := mr_up hu x (nI (HU x - 1))) ?_ (nm_r (nI_1 x) (ih (x + 1) _ (by omega) (by omega) up))⟩) (fun z => ⟨ix, ix, nm_r (e' := mr_up hu x (nI (HU x - 1))) ?_ (nm_r (nI_1 x) (ih (x + 1) _ (by omega) (by omega) up))⟩)
      · rw [show HU x - 1 = 0 by omega]
        show upd hu x (vp_nar .byte ((nI 0).toInt8.toInt32)) = _
        rw [mr_n8' (by omega)]
        rfl
      · show upd hu x (vp_nar .byte ((nI (HU x) - nI 1).toInt8.toInt32)) = _
        rw [pk_sub (by omega), mr_n8' (by omega)]
        rfl
theorem mr_w_wear {post : SX → Prop} (hH : ∀ i, i < 64 → hu i = nI (HU i) ∧ HU i ≤ 50) (K : ∀ hu : Nat → Int32, (∀ i, i < 64 → hu i = nI (HU i - 1)) → post (fd, pr, th, st, fs, cr, dw, se, (mr_en SR), (mr_en GO), (mr_en HO), (mr_en SZ), sw, cw, (mr_en CM), (mr_eo EN), (mr_en EP), (mr_en BS), (mr_en (mr_tw M0 M1)), (mr_en (mr_tw K0 K1)), (mr_tw W0 W1), (mr_eo LV), (mr_eo OW), hu, tu, gv, co, pg)) : wpX_wearOff post (fd, pr, th, st, fs, cr, dw, se, (mr_en SR), (mr_en GO), (mr_en HO), (mr_en SZ), sw, cw, (mr_en CM), (mr_eo EN), (mr_en EP), (mr_en BS), (mr_en (mr_tw M0 M1)), (mr_en (mr_tw K0 K1)), (mr_tw W0 W1), (mr_eo LV), (mr_eo OW), hu, tu, gv, co, pg) := by
  unfold wpX_wearOff
  exact ⟨65, mr_w_wrl (fun i hi => (hH i hi).2) K 65 0 hu (by omega) (by omega) (fun i hi => by rw [if_neg (by omega)]; exact (hH i hi).1)⟩
theorem mr_w_moment {post : SX → Prop} {κ : Int32} (I : (mr_Inv pr SR GO HO SZ sw th st cw CM EN EP BS M0 M1 K0 K1 W0 W1 LV OW loc im ik gm gk)) (hH : ∀ i, i < 64 → hu i = nI (HU i) ∧ HU i ≤ 50) (hT : ∀ i, i < 80 → ∃ l, l < 2 ∧ tu i = nI l) (hc : cr + nI (mr_Ch SR GO loc) = κ)
    (K : ∀ (th' st cr : Int32) (cw : Nat → Int32) (CM EN EP BS M0 M1 K0 K1 : Nat → Nat) (W0 W1 : Nat → Int32) (LV OW : Nat → Nat) (hu tu gv co pg : Nat → Int32) (loc' : Nat → Nat → Nat) (im ik gm gk : Nat → Nat),
      (mr_Inv pr SR GO HO SZ sw th' st cw CM EN EP BS M0 M1 K0 K1 W0 W1 LV OW loc' im ik gm gk) → cr + nI (mr_Ch SR GO loc') = κ → (∀ i, i < 64 → hu i = nI (HU i - 1)) → (∀ i, i < 80 → ∃ l, l < 2 ∧ tu i = nI l) → (mr_Ph SR GO loc') ≤ (mr_Ph SR GO loc) →
      ((∀ i, i < 64 → HU i = 0) → (∃ m, m < 20 ∧ bt pr m = true ∧ bt th m = false) → (mr_Ph SR GO loc') < (mr_Ph SR GO loc)) → post (fd, pr, th', st, fs, cr, dw, se, (mr_en SR), (mr_en GO), (mr_en HO), (mr_en SZ), sw, cw, (mr_en CM), (mr_eo EN), (mr_en EP), (mr_en BS), (mr_en (mr_tw M0 M1)), (mr_en (mr_tw K0 K1)), (mr_tw W0 W1), (mr_eo LV), (mr_eo OW), hu, tu, gv, co, pg)) : wpX_moment post (fd, pr, th, st, fs, cr, dw, se, (mr_en SR), (mr_en GO), (mr_en HO), (mr_en SZ), sw, cw, (mr_en CM), (mr_eo EN), (mr_en EP), (mr_en BS), (mr_en (mr_tw M0 M1)), (mr_en (mr_tw K0 K1)), (mr_tw W0 W1), (mr_eo LV), (mr_eo OW), hu, tu, gv, co, pg) := by
  unfold wpX_moment
  refine mr_w_fw I (fun LV OW gm gk I1 W => mr_w_choose I1 hH hT (fun tu gv co pg hT' C hq => ?_))
  by_cases hg : ∃ b, b < 160 ∧ gv b ≠ 0
  · refine mr_w_move I1 hc hg C (fun th1 cr1 cw1 CM BS M0 M1 K0 K1 W0 W1 LV OW loc1 im ik gm gk I2 hc2 hp2 => ?_)
    refine mr_w_enter (g := False) (φ := mr_Ph SR GO loc1) (χ := mr_Ch SR GO loc1) I2 rfl (Nat.le_refl _) (fun z => z.elim) (fun st EN EP BS M0 M1 K0 K1 W0 W1 loc2 im ik I3 c3 p3 _ => ?_)
    refine mr_w_wear hH (fun hu hh => K th1 st cr1 cw1 CM EN EP BS M0 M1 K0 K1 W0 W1 LV OW hu tu gv co pg loc2 im ik gm gk I3 (by rw [c3]; exact hc2) hh hT' (by omega) (fun _ _ => by omega))
  · have g0 : ∀ b, b < 160 → gv b = 0 := fun b hb => by
      by_cases z : gv b = 0
      · exact z
      · exact absurd ⟨b, hb, z⟩ hg
    refine mr_w_mv0 g0 ?_
    refine mr_w_enter (g := (∀ i, i < 64 → HU i = 0) ∧ ∃ m, m < 20 ∧ bt pr m = true ∧ bt th m = false) (φ := mr_Ph SR GO loc) (χ := mr_Ch SR GO loc) I1 rfl (Nat.le_refl _) (fun z => ?_) (fun st EN EP BS M0 M1 K0 K1 W0 W1 loc2 im ik I3 c3 p3 p4 => ?_)
    · obtain ⟨z0, m, m20, pm, tm⟩ := z
      rcases hq with hq | hq
      · exact absurd hq hg
      · exact Or.inr (mr_prog I1 W (hq z0) m m20 pm tm)
    · refine mr_w_wear hH (fun hu hh => K th st cr cw CM EN EP BS M0 M1 K0 K1 W0 W1 LV OW hu tu gv co pg loc2 im ik gm gk I3 (by rw [c3]; exact hc) hh hT' p3 (fun a b => p4 ⟨a, b⟩))
theorem mr_w_s48 {post : Int32 → SX → Prop} {x2 : Int32} (K : post (mr_si (fun m => mr_b (bt x2 m)) 20) (fd, pr, th, st, fs, cr, dw, se, (mr_en SR), (mr_en GO), (mr_en HO), (mr_en SZ), sw, cw, (mr_en CM), (mr_eo EN), (mr_en EP), (mr_en BS), (mr_en (mr_tw M0 M1)), (mr_en (mr_tw K0 K1)), (mr_tw W0 W1), (mr_eo LV), (mr_eo OW), hu, tu, gv, co, pg)) :
    ∀ n x, 20 - x < n → x ≤ 20 → wX_settle_48 post x2 fd pr th st fs cr dw se (mr_en SR) (mr_en GO) (mr_en HO) (mr_en SZ) sw cw (mr_en CM) (mr_eo EN) (mr_en EP) (mr_en BS) (mr_en (mr_tw M0 M1)) (mr_en (mr_tw K0 K1)) (mr_tw W0 W1) (mr_eo LV) (mr_eo OW) hu tu gv co pg n (mr_si (fun m => mr_b (bt x2 m)) x) (nI x) := by
  intro n
  induction n with
  | zero => intro x h; omega
  | succ n ih =>
    intro x hn hx
    unfold wX_settle_48
    refine pk_le 20 x (fun e => ?_) (fun l => ?_)
    · have e : x = 20 := by omega
      subst e
      exact K
    · refine nm_r (e' := mr_si (fun m => mr_b (bt x2 m)) (x + 1)) ?_ (nm_r (nI_1 x) (ih (x + 1) (by omega) (by omega)))
      rw [mr_bit x2 (m := x) (by omega)]
      rfl
theorem mr_w_s34 {post : Int32 → SX → Prop} {x1 : Int32} (K : post (mr_si (fun m => mr_b (bt th m && !bt x1 m)) 20) (fd, pr, th, st, fs, cr, dw, se, (mr_en SR), (mr_en GO), (mr_en HO), (mr_en SZ), sw, cw, (mr_en CM), (mr_eo EN), (mr_en EP), (mr_en BS), (mr_en (mr_tw M0 M1)), (mr_en (mr_tw K0 K1)), (mr_tw W0 W1), (mr_eo LV), (mr_eo OW), hu, tu, gv, co, pg)) : wX_settle_34 post x1 fd pr th st fs cr dw se (mr_en SR) (mr_en GO) (mr_en HO) (mr_en SZ) sw cw (mr_en CM) (mr_eo EN) (mr_en EP) (mr_en BS) (mr_en (mr_tw M0 M1)) (mr_en (mr_tw K0 K1)) (mr_tw W0 W1) (mr_eo LV) (mr_eo OW) hu tu gv co pg := by
  unfold wX_settle_34
  refine nm_e ⟨21, ?_⟩
  have e : mr_si (fun m => mr_b (bt (th &&& (x1 ^^^ (-1))) m)) 20 = mr_si (fun m => mr_b (bt th m && !bt x1 m)) 20 := mr_sic (fun i hi => by
    rw [b_and, b_xor, b_m1 i (by omega), Bool.xor_true])
  exact mr_w_s48 (by rw [e]; exact K) 21 0 (by omega) (by omega)
theorem mr_thpr (F : (mr_Fx pr SR GO HO SZ)) (T : (mr_IT pr th st)) (h : ¬ ∃ m, m < 20 ∧ bt pr m = true ∧ bt th m = false) : th = pr := by
  apply b_ext
  intro i hi
  cases z : bt pr i
  · cases y : bt th i
    · rfl
    · have := T.1 i hi y
      rw [z] at this
      exact nomatch this
  · cases y : bt th i
    · exact absurd ⟨i, F.2.2 i hi z, z, y⟩ h
    · rfl
theorem mr_w_s7 {post : Int32 → SX → Prop} {x1 κ : Int32}
    (K : ∀ (th st cr : Int32) (cw : Nat → Int32) (CM EN EP BS M0 M1 K0 K1 : Nat → Nat) (W0 W1 : Nat → Int32) (LV OW : Nat → Nat) (hu tu gv co pg : Nat → Int32) (loc : Nat → Nat → Nat) (im ik gm gk HU : Nat → Nat),
      (mr_Inv pr SR GO HO SZ sw th st cw CM EN EP BS M0 M1 K0 K1 W0 W1 LV OW loc im ik gm gk) → cr + nI (mr_Ch SR GO loc) = κ → (∀ i, i < 64 → hu i = nI (HU i) ∧ HU i ≤ 50) → (∀ i, i < 80 → ∃ l, l < 2 ∧ tu i = nI l) → th = pr → wX_settle_34 post x1 fd pr th st fs cr dw se (mr_en SR) (mr_en GO) (mr_en HO) (mr_en SZ) sw cw (mr_en CM) (mr_eo EN) (mr_en EP) (mr_en BS) (mr_en (mr_tw M0 M1)) (mr_en (mr_tw K0 K1)) (mr_tw W0 W1) (mr_eo LV) (mr_eo OW) hu tu gv co pg) :
    ∀ (n x : Nat) (th st cr : Int32) (cw : Nat → Int32) (CM EN EP BS M0 M1 K0 K1 : Nat → Nat) (W0 W1 : Nat → Int32) (LV OW : Nat → Nat) (hu tu gv co pg : Nat → Int32) (loc : Nat → Nat → Nat) (im ik gm gk HU : Nat → Nat),
      (50 - x) + (mr_Ph SR GO loc) < n → x + (50 - x) + (mr_Ph SR GO loc) ≤ 2000 → (mr_Inv pr SR GO HO SZ sw th st cw CM EN EP BS M0 M1 K0 K1 W0 W1 LV OW loc im ik gm gk) → cr + nI (mr_Ch SR GO loc) = κ → (∀ i, i < 64 → hu i = nI (HU i) ∧ HU i ≤ 50 - x) → (∀ i, i < 80 → ∃ l, l < 2 ∧ tu i = nI l) →
      wX_settle_7 post x1 n (nI x) fd pr th st fs cr dw se (mr_en SR) (mr_en GO) (mr_en HO) (mr_en SZ) sw cw (mr_en CM) (mr_eo EN) (mr_en EP) (mr_en BS) (mr_en (mr_tw M0 M1)) (mr_en (mr_tw K0 K1)) (mr_tw W0 W1) (mr_eo LV) (mr_eo OW) hu tu gv co pg := by
  intro n
  induction n with
  | zero => intro x th st cr cw CM EN EP BS M0 M1 K0 K1 W0 W1 LV OW hu tu gv co pg loc im ik gm gk HU h; omega
  | succ n ih =>
    intro x th st cr cw CM EN EP BS M0 M1 K0 K1 W0 W1 LV OW hu tu gv co pg loc im ik gm gk HU hn hx I hc hH hT
    have hH' : ∀ i, i < 64 → hu i = nI (HU i) ∧ HU i ≤ 50 := fun i hi => ⟨(hH i hi).1, by have := (hH i hi).2; omega⟩
    unfold wX_settle_7
    refine pk_le 100000 x (fun e => by omega) (fun _ => br_c (fun e => ?_) (fun e => ?_))
    · exact K _ _ _ _ _ _ _ _ _ _ _ _ _ _ _ _ _ _ _ _ _ _ _ _ _ _ _ I hc hH' hT e
    · have hm : ∃ m, m < 20 ∧ bt pr m = true ∧ bt th m = false := by
        by_cases z : ∃ m, m < 20 ∧ bt pr m = true ∧ bt th m = false
        · exact z
        · obtain ⟨F, _, _, _, _, _, _, _, _, _, _, T, _⟩ := I
          exact absurd (mr_thpr F T z) e
      refine mr_w_moment I hH' hT hc (fun th' st cr cw CM EN EP BS M0 M1 K0 K1 W0 W1 LV OW hu tu gv co pg loc' im ik gm gk J c1 h1 t1 p1 p2 => nm_r (nI_1 x) ?_)
      have p3 : 50 ≤ x → mr_Ph SR GO loc' < mr_Ph SR GO loc := fun z => p2 (fun i hi => by have := (hH i hi).2; omega) hm
      clear hm p2
      have p4 : (50 - (x + 1)) + mr_Ph SR GO loc' < (50 - x) + mr_Ph SR GO loc ∧ (x + 1) + (50 - (x + 1)) + mr_Ph SR GO loc' ≤ x + (50 - x) + mr_Ph SR GO loc := by
        rcases Nat.lt_or_ge x 50 with z | z
        · omega
        · have := p3 z; omega
      exact ih (x + 1) _ _ _ _ _ _ _ _ _ _ _ _ _ _ _ _ _ _ _ _ _ _ _ _ _ _ (fun i => HU i - 1) (by omega) (by omega) J c1 (fun i hi => ⟨h1 i hi, by have := (hH i hi).2; omega⟩) t1
theorem mr_w_settle {post : Int32 → SX → Prop} (F : (mr_Fx pr SR GO HO SZ)) (T : (mr_IT pr th st)) (hz : ∀ b, b < 160 → BS b = 0 ∧ LV b = 0 ∧ OW b = 0) (he : ∀ p, p < 16 → EN p = 0)
    (hc : ∀ m, m < 20 → bt pr m = true → CM m = if bt th m = true then SZ m + 1 else 0) (hs : ∀ m, m < 20 → bt st m = true → bt th m = true)
    (hw : ∀ m k, m < 20 → bt pr m = true → bt th m = true → k < SZ m → cw (m * 5 + k) = sw (m * 5 + k))
    (hH : ∀ i, i < 64 → hu i = nI (HU i) ∧ HU i ≤ 50) (hT : ∀ i, i < 80 → ∃ l, l < 2 ∧ tu i = nI l)
    (K : ∀ (st : Int32) (cw : Nat → Int32) (CM EN EP BS M0 M1 K0 K1 : Nat → Nat) (W0 W1 : Nat → Int32) (LV OW : Nat → Nat) (hu tu gv co pg : Nat → Int32) (HU : Nat → Nat),
      (mr_IT pr pr st) → (∀ b, b < 160 → BS b = 0 ∧ LV b = 0 ∧ OW b = 0) → (∀ p, p < 16 → EN p = 0) → (∀ m, m < 20 → bt pr m = true → CM m = SZ m + 1) → (∀ m k, m < 20 → bt pr m = true → k < SZ m → cw (m * 5 + k) = sw (m * 5 + k)) →
      (∀ i, i < 64 → hu i = nI (HU i) ∧ HU i ≤ 50) → (∀ i, i < 80 → ∃ l, l < 2 ∧ tu i = nI l) →
      post (mr_si (fun m => mr_b (bt pr m && !bt th m)) 20) (fd, pr, pr, st, fs, (cr + nI (mr_sm (fun m => if bt pr m = true ∧ bt th m = false then mr_di (SR m) (GO m) * (SZ m + 1) else 0) 20)), dw, se, (mr_en SR), (mr_en GO), (mr_en HO), (mr_en SZ), sw, cw, (mr_en CM), (mr_eo EN), (mr_en EP), (mr_en BS), (mr_en (mr_tw M0 M1)), (mr_en (mr_tw K0 K1)), (mr_tw W0 W1), (mr_eo LV), (mr_eo OW), hu, tu, gv, co, pg)) : wpX_settle post (fd, pr, th, st, fs, cr, dw, se, (mr_en SR), (mr_en GO), (mr_en HO), (mr_en SZ), sw, cw, (mr_en CM), (mr_eo EN), (mr_en EP), (mr_en BS), (mr_en (mr_tw M0 M1)), (mr_en (mr_tw K0 K1)), (mr_tw W0 W1), (mr_eo LV), (mr_eo OW), hu, tu, gv, co, pg) := by
  have I : (mr_Inv pr SR GO HO SZ sw th st cw CM EN EP BS M0 M1 K0 K1 W0 W1 LV OW (mr_l0 pr SZ th) (fun _ => 0) (fun _ => 0) (fun _ => 0) (fun _ => 0)) := mr_start F T hz he hc hs hw
  have p0 := mr_ph0 (th := th) F
  unfold wpX_settle
  refine ⟨50 + 960 + 1, mr_w_s7 (κ := cr + nI (mr_Ch SR GO (mr_l0 pr SZ th))) (fun th' st cr' cw CM EN EP BS M0 M1 K0 K1 W0 W1 LV OW hu tu gv co pg loc im ik gm gk HU J c1 h1 t1 e => mr_w_s34 ?_) (50 + 960 + 1) 0 th st cr cw CM EN EP BS M0 M1 K0 K1 W0 W1 LV OW hu tu gv co pg _ _ _ _ _ HU (by omega) (by omega) I rfl (fun i hi => hH i hi) hT⟩
  subst e
  obtain ⟨f1, f2, f3, f4, f5⟩ := mr_fin J (fun m _ h => h)
  obtain ⟨_, _, _, _, _, _, _, _, _, _, _, T', _⟩ := J
  have e2 : cr' = cr + nI (mr_sm (fun m => if bt th' m = true ∧ bt th m = false then mr_di (SR m) (GO m) * (SZ m + 1) else 0) 20) := by
    rw [f5, mr_ch0 F, nI_0, Int32.add_zero] at c1
    exact c1
  rw [e2]
  exact K st cw CM EN EP BS M0 M1 K0 K1 W0 W1 LV OW hu tu gv co pg HU T' f1 f2 f3 f4 h1 t1
end
end
section
/-! walks of X's looking methods -/
theorem mr_e0 {S : Int32} {c : Bool} (h : c = false) : S + 0 = S + mr_b c := by rw [h]; rfl
theorem mr_e1 {S : Int32} {c : Bool} (h : c = true) : S + 1 = S + mr_b c := by rw [h]; rfl
theorem mr_bt1 {c : Bool} (h : ¬ mr_b c = 0) : c = true := by
  cases c
  · exact absurd rfl h
  · rfl
def mr_at (pr th : Int32) (SR GO : Nat → Nat) (g s : Int32) (m : Nat) : Bool := bt pr m && bt th m && decide (nI (GO m) = g) && decide (nI (SR m) = s)
/-- how many of the same kind came earlier -/
def mr_rank (pr th : Int32) (SR GO SE : Nat → Nat) (g s : Int32) (m : Nat) : Nat := mr_sm (fun k => if (mr_at pr th SR GO) g s k = true ∧ SE k < SE m then 1 else 0) 20
section
variable {fd pr th st fs cr : Int32} {dw se sw cw hu tu gv co pg W0 W1 : Nat → Int32} {SE SR GO HO SZ CM EN EP BS M0 M1 K0 K1 LV OW : Nat → Nat}
theorem mr_w_msgs {post : Int32 → Prop} (K : post (mr_si (fun m => mr_b (bt pr m)) 20)) : wpX_messages post (fd, pr, th, st, fs, cr, dw, se, (mr_en SR), (mr_en GO), (mr_en HO), (mr_en SZ), sw, cw, (mr_en CM), (mr_eo EN), (mr_en EP), (mr_en BS), (mr_en (mr_tw M0 M1)), (mr_en (mr_tw K0 K1)), (mr_tw W0 W1), (mr_eo LV), (mr_eo OW), hu, tu, gv, co, pg) := by
  have L : ∀ n x, 20 - x < n → x ≤ 20 → wX_messages_4 post fd pr th st fs cr dw se (mr_en SR) (mr_en GO) (mr_en HO) (mr_en SZ) sw cw (mr_en CM) (mr_eo EN) (mr_en EP) (mr_en BS) (mr_en (mr_tw M0 M1)) (mr_en (mr_tw K0 K1)) (mr_tw W0 W1) (mr_eo LV) (mr_eo OW) hu tu gv co pg n (mr_si (fun m => mr_b (bt pr m)) x) (nI x) := by
    intro n
    induction n with
    | zero => intro x h; omega
    | succ n ih =>
      intro x hn hx
      unfold wX_messages_4
      refine pk_le 20 x (fun e => ?_) (fun l => ?_)
      · have e : x = 20 := by omega
        subst e
        exact K
      · have nx := ih (x + 1) (by omega) (by omega)
        exact mr_w_has (by omega) (br_c (fun z => nm_r (mr_e0 (mr_b0.mp z)) (nm_r (nI_1 x) nx)) (fun z => nm_r (mr_e1 (mr_bt1 z)) (nm_r (nI_1 x) nx)))
  unfold wpX_messages
  exact ⟨21, L 21 0 (by omega) (by omega)⟩
theorem mr_w_wait {post : Int32 → Prop} {g : Int32} (K : post (mr_si (fun m => mr_b (bt pr m && !bt th m && decide (nI (SR m) = g))) 20)) : ∀ n x, 20 - x < n → x ≤ 20 →
    wX_waiting_13 post g fd pr th st fs cr dw se (mr_en SR) (mr_en GO) (mr_en HO) (mr_en SZ) sw cw (mr_en CM) (mr_eo EN) (mr_en EP) (mr_en BS) (mr_en (mr_tw M0 M1)) (mr_en (mr_tw K0 K1)) (mr_tw W0 W1) (mr_eo LV) (mr_eo OW) hu tu gv co pg n (mr_si (fun m => mr_b (bt pr m && !bt th m && decide (nI (SR m) = g))) x) (nI x) := by
  intro n
  induction n with
  | zero => intro x h; omega
  | succ n ih =>
    intro x hn hx
    unfold wX_waiting_13
    refine pk_le 20 x (fun e => ?_) (fun l => ?_)
    · have e : x = 20 := by omega
      subst e
      exact K
    · have nx := ih (x + 1) (by omega) (by omega)
      refine mr_w_has (by omega) (br_c (fun z => nm_r (mr_e0 (by rw [mr_b0.mp z]; rfl)) (nm_r (nI_1 x) nx)) (fun z => ?_))
      refine mr_w_isThere (by omega) (br_c (fun y => ⟨vp_in_nI l (by omega), ?_⟩) (fun y => nm_r (mr_e0 (by rw [mr_bt1 y]; simp)) (nm_r (nI_1 x) nx)))
      rw [nI_clamp (n := x) (by omega)]
      refine br_c (fun w => nm_r (mr_e1 ?_) (nm_r (nI_1 x) nx)) (fun w => nm_r (mr_e0 ?_) (nm_r (nI_1 x) nx))
      · rw [mr_bt1 z, mr_b0.mp y, decide_eq_true (show nI (SR x) = g from w)]; rfl
      · rw [decide_eq_false (show ¬ nI (SR x) = g from w), Bool.and_false]
theorem mr_w_isAt {post : Int32 → Prop} {m : Nat} {g s : Int32} (hm : m < 20) (h : post (mr_b ((mr_at pr th SR GO) g s m))) : wpX_isAt post (fd, pr, th, st, fs, cr, dw, se, (mr_en SR), (mr_en GO), (mr_en HO), (mr_en SZ), sw, cw, (mr_en CM), (mr_eo EN), (mr_en EP), (mr_en BS), (mr_en (mr_tw M0 M1)), (mr_en (mr_tw K0 K1)), (mr_tw W0 W1), (mr_eo LV), (mr_eo OW), hu, tu, gv, co, pg) (nI m) g s := by
  unfold wpX_isAt
  unfold mr_at at h
  refine mr_w_has (by omega) (br_c (fun z => ?_) (fun z => ?_))
  · rw [mr_b0.mp z, Bool.false_and, Bool.false_and, Bool.false_and] at h; exact h
  · refine mr_w_isThere (by omega) (br_c (fun y => ?_) (fun y => ?_))
    · rw [mr_b0.mp y, Bool.and_false, Bool.false_and, Bool.false_and] at h; exact h
    · rw [mr_bt1 z, mr_bt1 y] at h
      rw [nI_clamp (n := m) (by omega)]
      refine ⟨vp_in_nI hm (by omega), br_c (fun w => ⟨vp_in_nI hm (by omega), br_c (fun v => ?_) (fun v => ?_)⟩) (fun w => ?_)⟩
      · rw [decide_eq_true (show nI (GO m) = g from w), decide_eq_true (show nI (SR m) = s from v)] at h; exact h
      · rw [decide_eq_false (show ¬ nI (SR m) = s from v), Bool.and_false] at h; exact h
      · rw [decide_eq_false (show ¬ nI (GO m) = g from w), Bool.and_false, Bool.false_and] at h; exact h
theorem mr_w_arrl {post : Int32 → Prop} {g s : Int32} (K : post (mr_si (fun m => mr_b ((mr_at pr th SR GO) g s m)) 20)) : ∀ n x, 20 - x < n → x ≤ 20 →
    wX_arrived_21 post g s fd pr th st fs cr dw se (mr_en SR) (mr_en GO) (mr_en HO) (mr_en SZ) sw cw (mr_en CM) (mr_eo EN) (mr_en EP) (mr_en BS) (mr_en (mr_tw M0 M1)) (mr_en (mr_tw K0 K1)) (mr_tw W0 W1) (mr_eo LV) (mr_eo OW) hu tu gv co pg n (mr_si (fun m => mr_b ((mr_at pr th SR GO) g s m)) x) (nI x) := by
  intro n
  induction n with
  | zero => intro x h; omega
  | succ n ih =>
    intro x hn hx
    unfold wX_arrived_21
    refine pk_le 20 x (fun e => ?_) (fun l => ?_)
    · have e : x = 20 := by omega
      subst e
      exact K
    · have nx := ih (x + 1) (by omega) (by omega)
      exact mr_w_isAt l (br_c (fun z => nm_r (mr_e0 (mr_b0.mp z)) (nm_r (nI_1 x) nx)) (fun z => nm_r (mr_e1 (mr_bt1 z)) (nm_r (nI_1 x) nx)))
theorem mr_w_held {post : Int32 → Prop} {g : Int32} (K : post (mr_si (fun m => mr_b (bt pr m && bt th m && decide (nI (GO m) = g))) 20)) : ∀ n x, 20 - x < n → x ≤ 20 →
    wX_held_13 post g fd pr th st fs cr dw se (mr_en SR) (mr_en GO) (mr_en HO) (mr_en SZ) sw cw (mr_en CM) (mr_eo EN) (mr_en EP) (mr_en BS) (mr_en (mr_tw M0 M1)) (mr_en (mr_tw K0 K1)) (mr_tw W0 W1) (mr_eo LV) (mr_eo OW) hu tu gv co pg n (mr_si (fun m => mr_b (bt pr m && bt th m && decide (nI (GO m) = g))) x) (nI x) := by
  intro n
  induction n with
  | zero => intro x h; omega
  | succ n ih =>
    intro x hn hx
    unfold wX_held_13
    refine pk_le 20 x (fun e => ?_) (fun l => ?_)
    · have e : x = 20 := by omega
      subst e
      exact K
    · have nx := ih (x + 1) (by omega) (by omega)
      refine mr_w_has (by omega) (br_c (fun z => nm_r (mr_e0 (by rw [mr_b0.mp z]; rfl)) (nm_r (nI_1 x) nx)) (fun z => ?_))
      refine mr_w_isThere (by omega) (br_c (fun y => nm_r (mr_e0 (by rw [mr_b0.mp y]; simp)) (nm_r (nI_1 x) nx)) (fun y => ⟨vp_in_nI l (by omega), ?_⟩))
      rw [nI_clamp (n := x) (by omega)]
      refine br_c (fun w => nm_r (mr_e1 ?_) (nm_r (nI_1 x) nx)) (fun w => nm_r (mr_e0 ?_) (nm_r (nI_1 x) nx))
      · rw [mr_bt1 z, mr_bt1 y, decide_eq_true (show nI (GO x) = g from w)]; rfl
      · rw [decide_eq_false (show ¬ nI (GO x) = g from w), Bool.and_false]
/-- what slot m adds to the sum -/
def mr_sx (pr th : Int32) (GO SZ : Nat → Nat) (cw : Nat → Int32) (g : Int32) (m : Nat) : Int32 := mr_si (fun k => if (bt pr m && bt th m && decide (nI (GO m) = g)) = true then cw (m * 5 + k) else 0) (SZ m)
theorem mr_w_sum {post : Int32 → Prop} {g : Int32} (hs : ∀ m, m < 20 → SZ m ≤ 5) (K : post (mr_si ((mr_sx pr th GO SZ cw) g) 20)) : wpX_sum post (fd, pr, th, st, fs, cr, dw, se, (mr_en SR), (mr_en GO), (mr_en HO), (mr_en SZ), sw, cw, (mr_en CM), (mr_eo EN), (mr_en EP), (mr_en BS), (mr_en (mr_tw M0 M1)), (mr_en (mr_tw K0 K1)), (mr_tw W0 W1), (mr_eo LV), (mr_eo OW), hu, tu, gv, co, pg) g := by
  have L13 : ∀ (J : Int32 → Int32 → Prop) (S : Int32) (m : Nat), m < 20 → J (S + (mr_sx pr th GO SZ cw) g m) (nI (m + 1)) → ∀ n x, SZ m - x < n → x ≤ SZ m →
      wX_sum_13 post J g (nI m) fd pr th st fs cr dw se (mr_en SR) (mr_en GO) (mr_en HO) (mr_en SZ) sw cw (mr_en CM) (mr_eo EN) (mr_en EP) (mr_en BS) (mr_en (mr_tw M0 M1)) (mr_en (mr_tw K0 K1)) (mr_tw W0 W1) (mr_eo LV) (mr_eo OW) hu tu gv co pg n (S + mr_si (fun k => if (bt pr m && bt th m && decide (nI (GO m) = g)) = true then cw (m * 5 + k) else 0) x) (nI x) := by
    intro J S m hm hJ n
    have z5 := hs m hm
    induction n with
    | zero => intro x h; omega
    | succ n ih =>
      intro x hn hx
      unfold wX_sum_13
      rw [nI_clamp (n := m) (by omega)]
      refine ⟨vp_in_nI hm (by omega), pk_le (SZ m) x (fun e => nm_r (nI_1 m) ?_) (fun l => ?_)⟩
      · have e : x = SZ m := by omega
        rw [e]
        exact hJ
      · have nx := ih (x + 1) (by omega) (by omega)
        have no : (bt pr m && bt th m && decide (nI (GO m) = g)) = false → wX_sum_54 post J (wX_sum_13 post J g (nI m) fd pr th st fs cr dw se (mr_en SR) (mr_en GO) (mr_en HO) (mr_en SZ) sw cw (mr_en CM) (mr_eo EN) (mr_en EP) (mr_en BS) (mr_en (mr_tw M0 M1)) (mr_en (mr_tw K0 K1)) (mr_tw W0 W1) (mr_eo LV) (mr_eo OW) hu tu gv co pg n) g (S + mr_si (fun k => if (bt pr m && bt th m && decide (nI (GO m) = g)) = true then cw (m * 5 + k) else 0) x) (nI m) (nI x) fd pr th st fs cr dw se (mr_en SR) (mr_en GO) (mr_en HO) (mr_en SZ) sw cw (mr_en CM) (mr_eo EN) (mr_en EP) (mr_en BS) (mr_en (mr_tw M0 M1)) (mr_en (mr_tw K0 K1)) (mr_tw W0 W1) (mr_eo LV) (mr_eo OW) hu tu gv co pg := fun h => by
          unfold wX_sum_54 wX_sum_55
          refine br_t rfl (nm_r ?_ (nm_r (nI_1 x) nx))
          rw [Int32.add_assoc]
          congr 1
          show _ = mr_si _ x + (if _ then _ else _)
          rw [h, if_neg (by decide)]
        refine mr_w_has (by omega) (br_c (fun z => no (by rw [mr_b0.mp z]; rfl)) (fun z => ?_))
        refine mr_w_isThere (by omega) (br_c (fun y => no (by rw [mr_b0.mp y]; simp)) (fun y => ⟨vp_in_nI hm (by omega), ?_⟩))
        refine br_c (fun w => ?_) (fun w => no (by rw [decide_eq_false (show ¬ nI (GO m) = g from w), Bool.and_false]))
        unfold wX_sum_55
        have ei : nI m * 5 + nI x = nI (m * 5 + x) := by
          show nI m * nI 5 + nI x = _
          rw [pk_mul, nI_add]
        rw [ei, nI_clamp (n := m * 5 + x) (by omega)]
        refine br_f (by decide) ⟨vp_in_nI (by omega) (by omega), nm_r ?_ (nm_r (nI_1 x) nx)⟩
        rw [Int32.add_assoc]
        congr 1
        show _ = mr_si _ x + (if _ then _ else _)
        rw [mr_bt1 z, mr_bt1 y, decide_eq_true (show nI (GO m) = g from w), if_pos (show (true && true && true) = true from rfl)]
  have L4 : ∀ n x, 20 - x < n → x ≤ 20 → wX_sum_4 post g fd pr th st fs cr dw se (mr_en SR) (mr_en GO) (mr_en HO) (mr_en SZ) sw cw (mr_en CM) (mr_eo EN) (mr_en EP) (mr_en BS) (mr_en (mr_tw M0 M1)) (mr_en (mr_tw K0 K1)) (mr_tw W0 W1) (mr_eo LV) (mr_eo OW) hu tu gv co pg n (mr_si ((mr_sx pr th GO SZ cw) g) x) (nI x) := by
    intro n
    induction n with
    | zero => intro x h; omega
    | succ n ih =>
      intro x hn hx
      unfold wX_sum_4
      refine pk_le 20 x (fun e => ?_) (fun l => ?_)
      · have e : x = 20 := by omega
        subst e
        exact K
      · have h := L13 (wX_sum_4 post g fd pr th st fs cr dw se (mr_en SR) (mr_en GO) (mr_en HO) (mr_en SZ) sw cw (mr_en CM) (mr_eo EN) (mr_en EP) (mr_en BS) (mr_en (mr_tw M0 M1)) (mr_en (mr_tw K0 K1)) (mr_tw W0 W1) (mr_eo LV) (mr_eo OW) hu tu gv co pg n) (mr_si ((mr_sx pr th GO SZ cw) g) x) x l (ih (x + 1) (by omega) (by omega)) (SZ x + 1) 0 (by omega) (by omega)
        refine ⟨SZ x + 1, ?_⟩
        have e : mr_si ((mr_sx pr th GO SZ cw) g) x + mr_si (fun k => if (bt pr x && bt th x && decide (nI (GO x) = g)) = true then cw (x * 5 + k) else 0) 0 = mr_si ((mr_sx pr th GO SZ cw) g) x := Int32.add_zero _
        rw [e] at h
        exact h
  unfold wpX_sum
  exact ⟨21, L4 21 0 (by omega) (by omega)⟩
theorem mr_w_find {post : Int32 → Prop} {g s i : Int32} (hse : ∀ m, m < 20 → bt pr m = true → SE m < 2 ^ 31) (Kb : ∀ m, m < 20 → (mr_at pr th SR GO) g s m = true → nI ((mr_rank pr th SR GO SE) g s m) = i → post (nI m))
    (Ka : (∀ m, m < 20 → (mr_at pr th SR GO) g s m = true → nI ((mr_rank pr th SR GO SE) g s m) ≠ i) → post (-1)) : wpX_find post (fd, pr, th, st, fs, cr, dw, (mr_en SE), (mr_en SR), (mr_en GO), (mr_en HO), (mr_en SZ), sw, cw, (mr_en CM), (mr_eo EN), (mr_en EP), (mr_en BS), (mr_en (mr_tw M0 M1)), (mr_en (mr_tw K0 K1)), (mr_tw W0 W1), (mr_eo LV), (mr_eo OW), hu, tu, gv, co, pg) g s i := by
  have pat : ∀ m, (mr_at pr th SR GO) g s m = true → bt pr m = true := fun m h => by
    unfold mr_at at h
    simp only [Bool.and_eq_true] at h
    exact h.1.1.1
  have L27 : ∀ (J : Int32 → Prop) (m : Nat), m < 20 → (mr_at pr th SR GO) g s m = true → (nI ((mr_rank pr th SR GO SE) g s m) = i → post (nI m)) → (nI ((mr_rank pr th SR GO SE) g s m) ≠ i → J (nI (m + 1))) → ∀ n x, 20 - x < n → x ≤ 20 →
      wX_find_27 post J g s i (nI m) fd pr th st fs cr dw (mr_en SE) (mr_en SR) (mr_en GO) (mr_en HO) (mr_en SZ) sw cw (mr_en CM) (mr_eo EN) (mr_en EP) (mr_en BS) (mr_en (mr_tw M0 M1)) (mr_en (mr_tw K0 K1)) (mr_tw W0 W1) (mr_eo LV) (mr_eo OW) hu tu gv co pg n (nI (mr_sm (fun k => if (mr_at pr th SR GO) g s k = true ∧ SE k < SE m then 1 else 0) x)) (nI x) := by
    intro J m hm am k1 k2 n
    induction n with
    | zero => intro x h; omega
    | succ n ih =>
      intro x hn hx
      unfold wX_find_27
      refine pk_le 20 x (fun e => ?_) (fun l => ?_)
      · have e : x = 20 := by omega
        subst e
        exact br_c k1 (fun z => nm_r (nI_1 m) (k2 z))
      · have nx := ih (x + 1) (by omega) (by omega)
        have no : ¬ ((mr_at pr th SR GO) g s x = true ∧ SE x < SE m) → nI (mr_sm (fun k => if (mr_at pr th SR GO) g s k = true ∧ SE k < SE m then 1 else 0) x) + 0 = nI (mr_sm (fun k => if (mr_at pr th SR GO) g s k = true ∧ SE k < SE m then 1 else 0) (x + 1)) := fun h => by
          rw [Int32.add_zero]
          congr 1
          show _ = _ + (if _ then _ else _)
          rw [if_neg h]
          rfl
        have yes : ((mr_at pr th SR GO) g s x = true ∧ SE x < SE m) → nI (mr_sm (fun k => if (mr_at pr th SR GO) g s k = true ∧ SE k < SE m then 1 else 0) x) + 1 = nI (mr_sm (fun k => if (mr_at pr th SR GO) g s k = true ∧ SE k < SE m then 1 else 0) (x + 1)) := fun h => by
          rw [nI_1]
          congr 1
          show _ = _ + (if _ then _ else _)
          rw [if_pos h]
        refine mr_w_isAt l (br_c (fun z => nm_r (no (fun y => mr_tf y.1 (mr_b0.mp z))) (nm_r (nI_1 x) nx)) (fun z => ⟨vp_in_nI l (by omega), vp_in_nI hm (by omega), ?_⟩))
        rw [nI_clamp (n := x) (by omega), nI_clamp (n := m) (by omega)]
        exact pk_le (SE m) (SE x) (fun y => nm_r (no (fun w => by omega)) (nm_r (nI_1 x) nx)) (fun y => nm_r (yes ⟨mr_bt1 z, y⟩) (nm_r (nI_1 x) nx)) rfl rfl (hse m hm (pat m am)) (hse x l (pat x (mr_bt1 z)))
  have L3 : ∀ n x, 20 - x < n → x ≤ 20 → (∀ m, m < x → (mr_at pr th SR GO) g s m = true → nI ((mr_rank pr th SR GO SE) g s m) ≠ i) → wX_find_3 post g s i fd pr th st fs cr dw (mr_en SE) (mr_en SR) (mr_en GO) (mr_en HO) (mr_en SZ) sw cw (mr_en CM) (mr_eo EN) (mr_en EP) (mr_en BS) (mr_en (mr_tw M0 M1)) (mr_en (mr_tw K0 K1)) (mr_tw W0 W1) (mr_eo LV) (mr_eo OW) hu tu gv co pg n (nI x) := by
    intro n
    induction n with
    | zero => intro x h; omega
    | succ n ih =>
      intro x hn hx hb
      unfold wX_find_3
      refine pk_le 20 x (fun e => ?_) (fun l => ?_)
      · have e : x = 20 := by omega
        subst e
        exact Ka hb
      · have nx : ((mr_at pr th SR GO) g s x = true → nI ((mr_rank pr th SR GO SE) g s x) ≠ i) → wX_find_3 post g s i fd pr th st fs cr dw (mr_en SE) (mr_en SR) (mr_en GO) (mr_en HO) (mr_en SZ) sw cw (mr_en CM) (mr_eo EN) (mr_en EP) (mr_en BS) (mr_en (mr_tw M0 M1)) (mr_en (mr_tw K0 K1)) (mr_tw W0 W1) (mr_eo LV) (mr_eo OW) hu tu gv co pg n (nI (x + 1)) := fun h => ih (x + 1) (by omega) (by omega) (fun m hm => by
          by_cases z : m = x
          · rw [z]; exact h
          · exact hb m (by omega))
        refine mr_w_isAt l (br_c (fun z => nm_r (nI_1 x) (nx (fun y => absurd (mr_b0.mp z) (by rw [y]; decide)))) (fun z => ⟨21, ?_⟩))
        exact L27 _ x l (mr_bt1 z) (Kb x l (mr_bt1 z)) (fun h => nx (fun _ => h)) 21 0 (by omega) (by omega)
  unfold wpX_find
  exact ⟨21, L3 21 0 (by omega) (by omega) (fun m hm => by omega)⟩
end
end
section
/-! walks of Y's looking methods -/
def mr_aty (ys yg yh : Nat → Nat) (g s : Int32) (j : Nat) : Bool := decide (yh j ≠ 0) && decide (nI (yg j) = g) && decide (nI (ys j) = s)
def mr_cy (ys yg yh : Nat → Nat) (g s : Int32) (j : Nat) : Nat := mr_sm (fun i => if (mr_aty ys yg yh) g s i = true then 1 else 0) j
def mr_sy (yg yz yh : Nat → Nat) (yt : Nat → Int32) (g : Int32) (j : Nat) : Int32 := mr_si (fun k => if (decide (yh j ≠ 0) && decide (nI (yg j) = g) && decide (k < yz j)) = true then yt (5 * j + k) else 0) 5
theorem mr_e2 {f : Nat → Bool} {j : Nat} (h : f j = false) : mr_si (fun i => mr_b (f i)) (j + 1) = mr_si (fun i => mr_b (f i)) j := by
  show _ + mr_b (f j) = _
  rw [h]
  exact Int32.add_zero _
section
variable {fd yn yc : Int32} {dw yt : Nat → Int32} {ys yg yz yh : Nat → Nat} {cn : Nat}
theorem mr_y_place {post : Int32 → Prop} {x : Int32} (h1 : ∀ j, j < 16 → x = nI j → post 1) (h0 : (¬ ∃ j, j < 16 ∧ x = nI j) → post 0) : wpY_place post (fd, yn, yc, dw, (mr_en ys), (mr_en yg), (mr_en yz), yt, (mr_en yh)) x := by
  unfold wpY_place
  by_cases a : x < 0
  · exact br_t a (h0 (fun ⟨j, hj, e⟩ => nI_pos (n := j) (by omega) (by rw [← e]; exact a)))
  · refine br_f a ?_
    obtain ⟨j, hj, rfl⟩ := nI_of a
    refine pk_lt 15 j (fun l => h0 (fun ⟨i, hi, e⟩ => ?_)) (fun l => h1 j (by omega) rfl)
    rw [nI_eq hj (by omega)] at e
    omega
theorem mr_y_is {post : Int32 → Prop} {j : Nat} {g s : Int32} (hj : j < 20) (hy : yh j ≤ 1) (h : post (mr_b ((mr_aty ys yg yh) g s j))) : wpY_is post (fd, yn, yc, dw, (mr_en ys), (mr_en yg), (mr_en yz), yt, (mr_en yh)) (nI j) g s := by
  unfold wpY_is
  unfold mr_aty at h
  rw [nI_clamp (n := j) (by omega)]
  refine ⟨vp_in_nI hj (by omega), pk_eq (yh j) 0 (fun z => ?_) (fun z => ⟨vp_in_nI hj (by omega), br_c (fun w => ⟨vp_in_nI hj (by omega), br_c (fun v => ?_) (fun v => ?_)⟩) (fun w => ?_)⟩)⟩
  · rw [decide_eq_false (show ¬ yh j ≠ 0 from fun y => y z), Bool.false_and, Bool.false_and] at h; exact h
  · rw [decide_eq_true z, decide_eq_true (show nI (yg j) = g from w), decide_eq_true (show nI (ys j) = s from v)] at h; exact h
  · rw [decide_eq_false (show ¬ nI (ys j) = s from v), Bool.and_false] at h; exact h
  · rw [decide_eq_false (show ¬ nI (yg j) = g from w), Bool.and_false, Bool.false_and] at h; exact h
theorem mr_y_wait {post : Int32 → Prop} {g : Int32} (hc : cn ≤ 20) (hy : ∀ j, j < cn → yh j ≤ 1) (k1 : ∀ p, p < 16 → g = nI p → post (mr_si (fun j => mr_b (decide (nI (ys j) = g) && decide (yh j = 0))) cn))
    (k0 : (¬ ∃ p, p < 16 ∧ g = nI p) → post (-1)) : wpY_waiting post (fd, (nI cn), yc, dw, (mr_en ys), (mr_en yg), (mr_en yz), yt, (mr_en yh)) g := by
  have L : ∀ n x, cn - x < n → x ≤ cn → wY_waiting_4 post g fd (nI cn) yc dw (mr_en ys) (mr_en yg) (mr_en yz) yt (mr_en yh) n (mr_si (fun j => mr_b (decide (nI (ys j) = g) && decide (yh j = 0))) x) (nI x) := by
    intro n
    induction n with
    | zero => intro x h; omega
    | succ n ih =>
      intro x hn hx
      unfold wY_waiting_4
      refine pk_le cn x (fun e => ?_) (fun l => ?_)
      · have e : x = cn := by omega
        subst e
        exact mr_y_place (fun p hp ep => br_f (by decide) (k1 p hp ep)) (fun no => br_t rfl (k0 no))
      · have nx := ih (x + 1) (by omega) (by omega)
        have hx' := hy x l
        have no : (decide (nI (ys x) = g) && decide (yh x = 0)) = false → wY_waiting_4 post g fd (nI cn) yc dw (mr_en ys) (mr_en yg) (mr_en yz) yt (mr_en yh) n (mr_si (fun j => mr_b (decide (nI (ys j) = g) && decide (yh j = 0))) x) (nI (x + 1)) := fun h => by
          rw [mr_e2 (f := fun j => decide (nI (ys j) = g) && decide (yh j = 0)) h] at nx
          exact nx
        rw [nI_clamp (n := x) (by omega)]
        refine ⟨vp_in_nI (by omega) (by omega), br_c (fun z => ⟨vp_in_nI (by omega) (by omega), pk_eq (yh x) 0 (fun y => nm_r (mr_e1 ?_) (nm_r (nI_1 x) nx)) (fun y => nm_r (nI_1 x) (no ?_))⟩) (fun z => nm_r (nI_1 x) (no ?_))⟩
        · rw [decide_eq_true (show nI (ys x) = g from z), decide_eq_true y]; rfl
        · rw [decide_eq_false y, Bool.and_false]
        · rw [decide_eq_false (show ¬ nI (ys x) = g from z), Bool.false_and]
  unfold wpY_waiting
  exact ⟨cn + 1, L (cn + 1) 0 (by omega) (by omega)⟩
theorem mr_y_arr {post : Int32 → Prop} {g s : Int32} (hc : cn ≤ 20) (hy : ∀ j, j < cn → yh j ≤ 1) (k1 : ∀ p q, p < 16 → q < 16 → g = nI p → s = nI q → post (mr_si (fun j => mr_b ((mr_aty ys yg yh) g s j)) cn))
    (k0 : (¬ ∃ p, p < 16 ∧ g = nI p) → post (-1)) (k2 : (¬ ∃ p, p < 16 ∧ s = nI p) → post (-1)) : wpY_arrived post (fd, (nI cn), yc, dw, (mr_en ys), (mr_en yg), (mr_en yz), yt, (mr_en yh)) g s := by
  have L : ∀ n x, cn - x < n → x ≤ cn → wY_arrived_5 post g s fd (nI cn) yc dw (mr_en ys) (mr_en yg) (mr_en yz) yt (mr_en yh) n (mr_si (fun j => mr_b ((mr_aty ys yg yh) g s j)) x) (nI x) := by
    intro n
    induction n with
    | zero => intro x h; omega
    | succ n ih =>
      intro x hn hx
      unfold wY_arrived_5
      refine pk_le cn x (fun e => ?_) (fun l => ?_)
      · have e : x = cn := by omega
        subst e
        exact mr_y_place (fun p hp ep => br_f (by decide) (mr_y_place (fun q hq eq => br_f (by decide) (k1 p q hp hq ep eq)) (fun no => br_t rfl (k2 no)))) (fun no => br_t rfl (k0 no))
      · have nx := ih (x + 1) (by omega) (by omega)
        refine mr_y_is (by omega) (hy x l) (br_c (fun z => nm_r (nI_1 x) ?_) (fun z => nm_r (mr_e1 (mr_bt1 z)) (nm_r (nI_1 x) nx)))
        rw [mr_e2 (f := fun j => (mr_aty ys yg yh) g s j) (mr_b0.mp z)] at nx
        exact nx
  unfold wpY_arrived
  exact ⟨cn + 1, L (cn + 1) 0 (by omega) (by omega)⟩
theorem mr_y_held {post : Int32 → Prop} {g : Int32} (hc : cn ≤ 20) (hy : ∀ j, j < cn → yh j ≤ 1) (k1 : ∀ p, p < 16 → g = nI p → post (mr_si (fun j => mr_b (decide (yh j ≠ 0) && decide (nI (yg j) = g))) cn))
    (k0 : (¬ ∃ p, p < 16 ∧ g = nI p) → post (-1)) : wpY_held post (fd, (nI cn), yc, dw, (mr_en ys), (mr_en yg), (mr_en yz), yt, (mr_en yh)) g := by
  have L : ∀ n x, cn - x < n → x ≤ cn → wY_held_4 post g fd (nI cn) yc dw (mr_en ys) (mr_en yg) (mr_en yz) yt (mr_en yh) n (mr_si (fun j => mr_b (decide (yh j ≠ 0) && decide (nI (yg j) = g))) x) (nI x) := by
    intro n
    induction n with
    | zero => intro x h; omega
    | succ n ih =>
      intro x hn hx
      unfold wY_held_4
      refine pk_le cn x (fun e => ?_) (fun l => ?_)
      · have e : x = cn := by omega
        subst e
        exact mr_y_place (fun p hp ep => br_f (by decide) (k1 p hp ep)) (fun no => br_t rfl (k0 no))
      · have nx := ih (x + 1) (by omega) (by omega)
        have hx' := hy x l
        have no : (decide (yh x ≠ 0) && decide (nI (yg x) = g)) = false → wY_held_4 post g fd (nI cn) yc dw (mr_en ys) (mr_en yg) (mr_en yz) yt (mr_en yh) n (mr_si (fun j => mr_b (decide (yh j ≠ 0) && decide (nI (yg j) = g))) x) (nI (x + 1)) := fun h => by
          rw [mr_e2 (f := fun j => decide (yh j ≠ 0) && decide (nI (yg j) = g)) h] at nx
          exact nx
        rw [nI_clamp (n := x) (by omega)]
        refine ⟨vp_in_nI (by omega) (by omega), pk_eq (yh x) 0 (fun y => nm_r (nI_1 x) (no ?_)) (fun y => ⟨vp_in_nI (by omega) (by omega), br_c (fun z => nm_r (mr_e1 ?_) (nm_r (nI_1 x) nx)) (fun z => nm_r (nI_1 x) (no ?_))⟩)⟩
        · rw [decide_eq_false (show ¬ yh x ≠ 0 from fun w => w y), Bool.false_and]
        · rw [decide_eq_true (show nI (yg x) = g from z), decide_eq_true y]; rfl
        · rw [decide_eq_false (show ¬ nI (yg x) = g from z), Bool.and_false]
  unfold wpY_held
  exact ⟨cn + 1, L (cn + 1) 0 (by omega) (by omega)⟩
theorem mr_y_sum {post : Int32 → Prop} {g : Int32} (hc : cn ≤ 20) (hy : ∀ j, j < cn → yh j ≤ 1 ∧ yz j ≤ 5) (K : post (mr_si ((mr_sy yg yz yh yt) g) cn)) : wpY_sum post (fd, (nI cn), yc, dw, (mr_en ys), (mr_en yg), (mr_en yz), yt, (mr_en yh)) g := by
  have L15 : ∀ (J : Int32 → Int32 → Prop) (S : Int32) (m : Nat), m < cn → J (S + (mr_sy yg yz yh yt) g m) (nI (m + 1)) → ∀ n x, 5 - x < n → x ≤ 5 →
      wY_sum_15 post J g (nI m) fd (nI cn) yc dw (mr_en ys) (mr_en yg) (mr_en yz) yt (mr_en yh) n (S + mr_si (fun k => if (decide (yh m ≠ 0) && decide (nI (yg m) = g) && decide (k < yz m)) = true then yt (5 * m + k) else 0) x) (nI x) := by
    intro J S m hm hJ n
    obtain ⟨h1, h5⟩ := hy m hm
    induction n with
    | zero => intro x h; omega
    | succ n ih =>
      intro x hn hx
      unfold wY_sum_15
      rw [nI_clamp (n := m) (by omega)]
      refine pk_le 5 x (fun e => nm_r (nI_1 m) ?_) (fun l => ?_)
      · have e : x = 5 := by omega
        subst e
        exact hJ
      · have nx := ih (x + 1) (by omega) (by omega)
        have no : (decide (yh m ≠ 0) && decide (nI (yg m) = g) && decide (x < yz m)) = false → wY_sum_15 post J g (nI m) fd (nI cn) yc dw (mr_en ys) (mr_en yg) (mr_en yz) yt (mr_en yh) n (S + mr_si (fun k => if (decide (yh m ≠ 0) && decide (nI (yg m) = g) && decide (k < yz m)) = true then yt (5 * m + k) else 0) x) (nI (x + 1)) := fun h => by
          have e : mr_si (fun k => if (decide (yh m ≠ 0) && decide (nI (yg m) = g) && decide (k < yz m)) = true then yt (5 * m + k) else 0) (x + 1) = mr_si (fun k => if (decide (yh m ≠ 0) && decide (nI (yg m) = g) && decide (k < yz m)) = true then yt (5 * m + k) else 0) x := by
            show mr_si _ x + (if _ then _ else _) = _
            rw [h, if_neg (by decide)]
            exact Int32.add_zero _
          rw [e] at nx
          exact nx
        have im : vp_in (nI m) 20 := vp_in_nI (by omega) (by omega)
        refine ⟨im, pk_eq (yh m) 0 (fun y => nm_r (nI_1 x) (no ?_)) (fun y => ⟨im, br_c (fun z => ⟨im, pk_le (yz m) x (fun w => nm_r (nI_1 x) (no ?_)) (fun w => ?_)⟩) (fun z => nm_r (nI_1 x) (no ?_))⟩)⟩
        · rw [decide_eq_false (show ¬ yh m ≠ 0 from fun w => w y), Bool.false_and, Bool.false_and]
        · rw [decide_eq_false (show ¬ x < yz m by omega), Bool.and_false]
        · have ei : 5 * nI m + nI x = nI (5 * m + x) := by
            show nI 5 * nI m + nI x = _
            rw [pk_mul, nI_add]
          rw [ei, nI_clamp (n := 5 * m + x) (by omega)]
          refine ⟨vp_in_nI (by omega) (by omega), nm_r ?_ (nm_r (nI_1 x) nx)⟩
          rw [Int32.add_assoc]
          congr 1
          show _ = mr_si _ x + (if _ then _ else _)
          rw [decide_eq_true y, decide_eq_true (show nI (yg m) = g from z), if_pos (by rw [decide_eq_true w]; rfl)]
        · rw [decide_eq_false (show ¬ nI (yg m) = g from z), Bool.and_false, Bool.false_and]
  have L4 : ∀ n x, cn - x < n → x ≤ cn → wY_sum_4 post g fd (nI cn) yc dw (mr_en ys) (mr_en yg) (mr_en yz) yt (mr_en yh) n (mr_si ((mr_sy yg yz yh yt) g) x) (nI x) := by
    intro n
    induction n with
    | zero => intro x h; omega
    | succ n ih =>
      intro x hn hx
      unfold wY_sum_4
      refine pk_le cn x (fun e => ?_) (fun l => ?_)
      · have e : x = cn := by omega
        subst e
        exact K
      · have h := L15 (wY_sum_4 post g fd (nI cn) yc dw (mr_en ys) (mr_en yg) (mr_en yz) yt (mr_en yh) n) (mr_si ((mr_sy yg yz yh yt) g) x) x l (ih (x + 1) (by omega) (by omega)) 6 0 (by omega) (by omega)
        refine ⟨6, ?_⟩
        have e : mr_si ((mr_sy yg yz yh yt) g) x + mr_si (fun k => if (decide (yh x ≠ 0) && decide (nI (yg x) = g) && decide (k < yz x)) = true then yt (5 * x + k) else 0) 0 = mr_si ((mr_sy yg yz yh yt) g) x := Int32.add_zero _
        rw [e] at h
        exact h
  unfold wpY_sum
  exact ⟨cn + 1, L4 (cn + 1) 0 (by omega) (by omega)⟩
theorem mr_y_find {post : Int32 → Prop} {g s i : Int32} (hc : cn ≤ 20) (hy : ∀ j, j < cn → yh j ≤ 1) (k1 : ∀ j, j < cn → (mr_aty ys yg yh) g s j = true → nI ((mr_cy ys yg yh) g s j) = i → post (nI j))
    (k0 : (∀ j, j < cn → (mr_aty ys yg yh) g s j = true → nI ((mr_cy ys yg yh) g s j) ≠ i) → post (-1)) : wpY_find post (fd, (nI cn), yc, dw, (mr_en ys), (mr_en yg), (mr_en yz), yt, (mr_en yh)) g s i := by
  have L : ∀ n x, cn - x < n → x ≤ cn → (∀ j, j < x → (mr_aty ys yg yh) g s j = true → nI ((mr_cy ys yg yh) g s j) ≠ i) → wY_find_6 post g s i fd (nI cn) yc dw (mr_en ys) (mr_en yg) (mr_en yz) yt (mr_en yh) n (nI ((mr_cy ys yg yh) g s x)) (nI x) := by
    intro n
    induction n with
    | zero => intro x h; omega
    | succ n ih =>
      intro x hn hx hb
      unfold wY_find_6
      refine pk_le cn x (fun e => ?_) (fun l => ?_)
      · have e : x = cn := by omega
        subst e
        exact k0 hb
      · have nx := fun (h : (mr_aty ys yg yh) g s x = true → nI ((mr_cy ys yg yh) g s x) ≠ i) => ih (x + 1) (by omega) (by omega) (fun m hm => by
          by_cases z : m = x
          · rw [z]; exact h
          · exact hb m (by omega))
        refine mr_y_is (by omega) (hy x l) (br_c (fun z => nm_r (nI_1 x) ?_) (fun z => br_c (fun y => k1 x l (mr_bt1 z) y) (fun y => nm_r (e' := nI ((mr_cy ys yg yh) g s (x + 1))) ?_ (nm_r (nI_1 x) (nx (fun _ => y))))))
        · have e : (mr_cy ys yg yh) g s (x + 1) = (mr_cy ys yg yh) g s x := by
            show _ + (if _ then _ else _) = _
            rw [if_neg (by rw [mr_b0.mp z]; decide)]
            rfl
          have h := nx (fun y => absurd (mr_b0.mp z) (by rw [y]; decide))
          rw [e] at h
          exact h
        · rw [nI_1]
          congr 1
          show _ = _ + (if _ then _ else _)
          rw [if_pos (mr_bt1 z)]
          rfl
  unfold wpY_find
  exact ⟨cn + 1, L (cn + 1) 0 (by omega) (by omega) (fun m hm => by omega)⟩
end
end
section
/-! the relation: slots of X along the list of Y -/
def mr_XI (kk ds sr : Nat) (pr th st : Int32) (SE SR GO HO SZ : Nat → Nat) (sw cw : Nat → Int32) (CM EN BS LV OW : Nat → Nat) (hu tu : Nat → Int32) (HU : Nat → Nat) : Prop :=
  ds ≤ 5 ∧ sr ≤ kk ∧ (mr_Fx pr SR GO HO SZ) ∧ (mr_IT pr th st) ∧ (∀ m, m < 20 → bt pr m = true → SE m < sr) ∧ (∀ b, b < 160 → BS b = 0 ∧ LV b = 0 ∧ OW b = 0) ∧ (∀ p, p < 16 → EN p = 0) ∧
  (∀ m, m < 20 → bt pr m = true → CM m = if bt th m = true then SZ m + 1 else 0) ∧ (∀ m, m < 20 → bt st m = true → bt th m = true) ∧
  (∀ m k, m < 20 → bt pr m = true → bt th m = true → k < SZ m → cw (m * 5 + k) = sw (m * 5 + k)) ∧
  (∀ i, i < 64 → hu i = nI (HU i) ∧ HU i ≤ 50) ∧ (∀ i, i < 80 → ∃ l, l < 2 ∧ tu i = nI l)
def mr_YL (cn : Nat) (pr th : Int32) (SE SR GO SZ : Nat → Nat) (sw : Nat → Int32) (σ ys yg yz yh : Nat → Nat) (yt : Nat → Int32) : Prop :=
  cn ≤ 20 ∧
  (∀ j, j < cn → σ j < 20 ∧ bt pr (σ j) = true ∧ ys j = SR (σ j) ∧ yg j = GO (σ j) ∧ yz j = SZ (σ j) ∧ yh j = (if bt th (σ j) = true then 1 else 0) ∧ ∀ k, k < SZ (σ j) → yt (5 * j + k) = sw (σ j * 5 + k)) ∧
  (∀ i j, i < j → j < cn → SE (σ i) < SE (σ j)) ∧ (∀ m, m < 20 → bt pr m = true → ∃ j, j < cn ∧ σ j = m)
def i_Rel (k : Nat) (u : SX) (v : SY) : Prop :=
  ∃ (ds cn sr : Nat) (pr th st cr : Int32) (dw : Nat → Int32) (SE SR GO HO SZ : Nat → Nat) (sw cw : Nat → Int32) (CM EN EP BS M0 M1 K0 K1 : Nat → Nat) (W0 W1 : Nat → Int32) (LV OW : Nat → Nat) (hu tu gv co pg : Nat → Int32) (HU σ ys yg yz yh : Nat → Nat) (yt : Nat → Int32),
    (mr_XI k ds sr pr th st SE SR GO HO SZ sw cw CM EN BS LV OW hu tu HU) ∧ (mr_YL cn pr th SE SR GO SZ sw σ ys yg yz yh yt) ∧ u = ((nI ds), pr, th, st, (nI sr), cr, dw, (mr_en SE), (mr_en SR), (mr_en GO), (mr_en HO), (mr_en SZ), sw, cw, (mr_en CM), (mr_eo EN), (mr_en EP), (mr_en BS), (mr_en (mr_tw M0 M1)), (mr_en (mr_tw K0 K1)), (mr_tw W0 W1), (mr_eo LV), (mr_eo OW), hu, tu, gv, co, pg) ∧ v = ((nI ds), (nI cn), cr, dw, (mr_en ys), (mr_en yg), (mr_en yz), yt, (mr_en yh))
theorem mr_in {kk ds cn sr : Nat} {pr th st cr : Int32} {dw : Nat → Int32} {SE SR GO HO SZ : Nat → Nat} {sw cw : Nat → Int32} {CM EN EP BS M0 M1 K0 K1 : Nat → Nat} {W0 W1 : Nat → Int32} {LV OW : Nat → Nat} {hu tu gv co pg : Nat → Int32} {HU σ ys yg yz yh : Nat → Nat} {yt : Nat → Int32}
    (X : (mr_XI kk ds sr pr th st SE SR GO HO SZ sw cw CM EN BS LV OW hu tu HU)) (Y : (mr_YL cn pr th SE SR GO SZ sw σ ys yg yz yh yt)) : i_Rel kk ((nI ds), pr, th, st, (nI sr), cr, dw, (mr_en SE), (mr_en SR), (mr_en GO), (mr_en HO), (mr_en SZ), sw, cw, (mr_en CM), (mr_eo EN), (mr_en EP), (mr_en BS), (mr_en (mr_tw M0 M1)), (mr_en (mr_tw K0 K1)), (mr_tw W0 W1), (mr_eo LV), (mr_eo OW), hu, tu, gv, co, pg) ((nI ds), (nI cn), cr, dw, (mr_en ys), (mr_en yg), (mr_en yz), yt, (mr_en yh)) :=
  ⟨ds, cn, sr, pr, th, st, cr, dw, SE, SR, GO, HO, SZ, sw, cw, CM, EN, EP, BS, M0, M1, K0, K1, W0, W1, LV, OW, hu, tu, gv, co, pg, HU, σ, ys, yg, yz, yh, yt, X, Y, rfl, rfl⟩
theorem mr_el {k : Nat} {P : SX → SY → Prop} (h : ∀ (ds cn sr : Nat) (pr th st cr : Int32) (dw : Nat → Int32) (SE SR GO HO SZ : Nat → Nat) (sw cw : Nat → Int32) (CM EN EP BS M0 M1 K0 K1 : Nat → Nat) (W0 W1 : Nat → Int32) (LV OW : Nat → Nat) (hu tu gv co pg : Nat → Int32) (HU σ ys yg yz yh : Nat → Nat) (yt : Nat → Int32), (mr_XI k ds sr pr th st SE SR GO HO SZ sw cw CM EN BS LV OW hu tu HU) → (mr_YL cn pr th SE SR GO SZ sw σ ys yg yz yh yt) → P ((nI ds), pr, th, st, (nI sr), cr, dw, (mr_en SE), (mr_en SR), (mr_en GO), (mr_en HO), (mr_en SZ), sw, cw, (mr_en CM), (mr_eo EN), (mr_en EP), (mr_en BS), (mr_en (mr_tw M0 M1)), (mr_en (mr_tw K0 K1)), (mr_tw W0 W1), (mr_eo LV), (mr_eo OW), hu, tu, gv, co, pg) ((nI ds), (nI cn), cr, dw, (mr_en ys), (mr_en yg), (mr_en yz), yt, (mr_en yh))) {u : SX} {v : SY} (I : i_Rel k u v) : P u v :=
  Exists.elim I (fun ds I => Exists.elim I (fun cn I => Exists.elim I (fun sr I => Exists.elim I (fun pr I => Exists.elim I (fun th I => Exists.elim I (fun st I => Exists.elim I (fun cr I => Exists.elim I (fun dw I =>
  Exists.elim I (fun SE I => Exists.elim I (fun SR I => Exists.elim I (fun GO I => Exists.elim I (fun HO I => Exists.elim I (fun SZ I => Exists.elim I (fun sw I => Exists.elim I (fun cw I => Exists.elim I (fun CM I =>
  Exists.elim I (fun EN I => Exists.elim I (fun EP I => Exists.elim I (fun BS I => Exists.elim I (fun M0 I => Exists.elim I (fun M1 I => Exists.elim I (fun K0 I => Exists.elim I (fun K1 I => Exists.elim I (fun W0 I =>
  Exists.elim I (fun W1 I => Exists.elim I (fun LV I => Exists.elim I (fun OW I => Exists.elim I (fun hu I => Exists.elim I (fun tu I => Exists.elim I (fun gv I => Exists.elim I (fun co I => Exists.elim I (fun pg I =>
  Exists.elim I (fun HU I => Exists.elim I (fun σ I => Exists.elim I (fun ys I => Exists.elim I (fun yg I => Exists.elim I (fun yz I => Exists.elim I (fun yh I => Exists.elim I (fun yt I =>
    I.2.2.1.symm ▸ I.2.2.2.symm ▸ h ds cn sr pr th st cr dw SE SR GO HO SZ sw cw CM EN EP BS M0 M1 K0 K1 W0 W1 LV OW hu tu gv co pg HU σ ys yg yz yh yt I.1 I.2.1)))))))))))))))))))))))))))))))))))))))
theorem mr_xup {kk kk' ds sr : Nat} {pr th st : Int32} {SE SR GO HO SZ : Nat → Nat} {sw cw : Nat → Int32} {CM EN BS LV OW : Nat → Nat} {hu tu : Nat → Int32} {HU : Nat → Nat} (X : (mr_XI kk ds sr pr th st SE SR GO HO SZ sw cw CM EN BS LV OW hu tu HU)) (h : kk ≤ kk') : (mr_XI kk' ds sr pr th st SE SR GO HO SZ sw cw CM EN BS LV OW hu tu HU) := by
  obtain ⟨a, b, c⟩ := X
  exact ⟨a, by omega, c⟩
theorem i_up {k : Nat} {u : SX} {v : SY} (h : i_Rel k u v) : i_Rel (k + 4) u v := by
  refine mr_el (P := fun u v => i_Rel (k + 4) u v) ?_ h
  intro ds cn sr pr th st cr dw SE SR GO HO SZ sw cw CM EN EP BS M0 M1 K0 K1 W0 W1 LV OW hu tu gv co pg HU σ ys yg yz yh yt X Y
  exact mr_in (mr_xup X (by omega)) Y
section
variable {cn : Nat} {pr th : Int32} {SE SR GO SZ : Nat → Nat} {sw yt : Nat → Int32} {σ ys yg yz yh : Nat → Nat}
theorem mr_lki (Y : (mr_YL cn pr th SE SR GO SZ sw σ ys yg yz yh yt)) : ∀ i j, i < cn → j < cn → σ i = σ j → i = j := fun i j hi hj e => by
  obtain ⟨_, _, Y3, _⟩ := Y
  rcases Nat.lt_trichotomy i j with h | h | h
  · have := Y3 i j h hj; rw [e] at this; omega
  · exact h
  · have := Y3 j i h hi; rw [e] at this; omega
theorem mr_lks (Y : (mr_YL cn pr th SE SR GO SZ sw σ ys yg yz yh yt)) (f : Nat → Int32) (hf : ∀ m, m < 20 → bt pr m = false → f m = 0) : mr_si f 20 = mr_si (fun j => f (σ j)) cn :=
  mr_bij σ cn f (fun j hj => (Y.2.1 j hj).1) (mr_lki Y) (fun m hm h => hf m hm (by
    cases z : bt pr m
    · rfl
    · obtain ⟨j, hj, e⟩ := Y.2.2.2 m hm z
      exact absurd e (h j hj)))
theorem mr_lksN (Y : (mr_YL cn pr th SE SR GO SZ sw σ ys yg yz yh yt)) (f : Nat → Nat) (hf : ∀ m, m < 20 → bt pr m = false → f m = 0) : mr_sm f 20 = mr_sm (fun j => f (σ j)) cn :=
  mr_bijN σ cn f (fun j hj => (Y.2.1 j hj).1) (mr_lki Y) (fun m hm h => hf m hm (by
    cases z : bt pr m
    · rfl
    · obtain ⟨j, hj, e⟩ := Y.2.2.2 m hm z
      exact absurd e (h j hj)))
theorem mr_lkh (Y : (mr_YL cn pr th SE SR GO SZ sw σ ys yg yz yh yt)) {j : Nat} (hj : j < cn) : yh j ≤ 1 ∧ decide (yh j ≠ 0) = bt th (σ j) ∧ decide (yh j = 0) = !bt th (σ j) := by
  have h := (Y.2.1 j hj).2.2.2.2.2.1
  cases z : bt th (σ j)
  · rw [z, if_neg (by decide)] at h
    rw [h]
    exact ⟨by omega, rfl, rfl⟩
  · rw [z, if_pos rfl] at h
    rw [h]
    exact ⟨by omega, rfl, rfl⟩
theorem mr_lka (Y : (mr_YL cn pr th SE SR GO SZ sw σ ys yg yz yh yt)) {g s : Int32} {j : Nat} (hj : j < cn) : (mr_at pr th SR GO) g s (σ j) = (mr_aty ys yg yh) g s j := by
  obtain ⟨a1, a2, a3, a4, _⟩ := Y.2.1 j hj
  obtain ⟨b1, b2, b3⟩ := mr_lkh Y hj
  unfold mr_at mr_aty
  rw [a2, b2, a3, a4, Bool.true_and]
theorem mr_sml1 {c : Nat → Bool} {j : Nat} : ∀ n, j ≤ n → mr_sm (fun i => if c i = true ∧ i < j then 1 else 0) n = mr_sm (fun i => if c i = true then 1 else 0) j := by
  intro n
  induction n with
  | zero => intro h; rw [show j = 0 by omega]; rfl
  | succ n ih =>
    intro h
    by_cases z : j = n + 1
    · subst z
      exact mr_smc (fun i hi => by
        by_cases y : c i = true
        · rw [if_pos ⟨y, hi⟩, if_pos y]
        · rw [if_neg (fun w => y w.1), if_neg y])
    · show _ + (if _ then _ else _) = _
      rw [if_neg (by omega), ih (by omega)]
      rfl
theorem mr_lkr (Y : (mr_YL cn pr th SE SR GO SZ sw σ ys yg yz yh yt)) {g s : Int32} {j : Nat} (hj : j < cn) : (mr_rank pr th SR GO SE) g s (σ j) = (mr_cy ys yg yh) g s j := by
  unfold mr_rank mr_cy
  rw [mr_lksN Y _ (fun m hm h => if_neg (fun z => by
    have z1 := z.1
    unfold mr_at at z1
    rw [h] at z1
    exact nomatch z1)), ← mr_sml1 cn (by omega)]
  refine mr_smc (fun i hi => ?_)
  have e : SE (σ i) < SE (σ j) ↔ i < j := by
    obtain ⟨_, _, Y3, _⟩ := Y
    constructor
    · intro h
      rcases Nat.lt_trichotomy i j with h' | h' | h'
      · exact h'
      · rw [h'] at h; omega
      · have := Y3 j i h' hi; omega
    · exact fun h => Y3 i j h hj
  rw [mr_lka Y hi]
  by_cases z : (mr_aty ys yg yh) g s i = true ∧ i < j
  · rw [if_pos ⟨z.1, e.mpr z.2⟩, if_pos z]
  · rw [if_neg (fun w => z ⟨w.1, e.mp w.2⟩), if_neg z]
theorem mr_cyl (g s : Int32) : ∀ j, (mr_cy ys yg yh) g s j ≤ j := by
  intro j
  have := mr_sml (f := fun i => if (mr_aty ys yg yh) g s i = true then 1 else 0) (n := j) (c := 1) (fun i _ => by
    split <;> omega)
  unfold mr_cy
  omega
theorem mr_cym {g s : Int32} {i : Nat} : ∀ d, (mr_cy ys yg yh) g s i ≤ (mr_cy ys yg yh) g s (i + d) := by
  intro d
  induction d with
  | zero => exact Nat.le_refl _
  | succ d ih => exact Nat.le_trans ih (Nat.le_add_right _ _)
theorem mr_cyu {g s : Int32} {i j : Nat} (hi : (mr_aty ys yg yh) g s i = true) (hj : (mr_aty ys yg yh) g s j = true) (e : (mr_cy ys yg yh) g s i = (mr_cy ys yg yh) g s j) : i = j := by
  have st : ∀ a b, a < b → (mr_aty ys yg yh) g s a = true → (mr_cy ys yg yh) g s a < (mr_cy ys yg yh) g s b := fun a b h ha => by
    have h1 := mr_cym (ys := ys) (yg := yg) (yh := yh) (g := g) (s := s) (i := a + 1) (b - (a + 1))
    rw [show a + 1 + (b - (a + 1)) = b by omega] at h1
    have h2 : (mr_cy ys yg yh) g s (a + 1) = (mr_cy ys yg yh) g s a + 1 := by
      show _ + (if _ then _ else _) = _
      rw [if_pos ha]
      rfl
    omega
  rcases Nat.lt_trichotomy i j with h | h | h
  · have := st i j h hi; omega
  · exact h
  · have := st j i h hj; omega
theorem mr_fsome (Y : (mr_YL cn pr th SE SR GO SZ sw σ ys yg yz yh yt)) {g s i : Int32} {m : Nat} (hm : m < 20) (am : (mr_at pr th SR GO) g s m = true) (em : nI ((mr_rank pr th SR GO SE) g s m) = i) :
    ∃ j, j < cn ∧ σ j = m ∧ (∀ j', j' < cn → (mr_aty ys yg yh) g s j' = true → nI ((mr_cy ys yg yh) g s j') = i → j' = j) ∧ ¬ (∀ j', j' < cn → (mr_aty ys yg yh) g s j' = true → nI ((mr_cy ys yg yh) g s j') ≠ i) := by
  have pm : bt pr m = true := by
    unfold mr_at at am
    simp only [Bool.and_eq_true] at am
    exact am.1.1.1
  obtain ⟨j, hj, e⟩ := Y.2.2.2 m hm pm
  rw [← e] at am em
  rw [mr_lkr Y hj] at em
  rw [mr_lka Y hj] at am
  have c20 := Y.1
  refine ⟨j, hj, e, fun j' hj' a' e' => ?_, fun h => h j hj am em⟩
  rw [← em, nI_eq (by have := mr_cyl (ys := ys) (yg := yg) (yh := yh) g s j'; omega) (by have := mr_cyl (ys := ys) (yg := yg) (yh := yh) g s j; omega)] at e'
  exact mr_cyu a' am e'
theorem mr_fnone (Y : (mr_YL cn pr th SE SR GO SZ sw σ ys yg yz yh yt)) {g s i : Int32} (h : ∀ m, m < 20 → (mr_at pr th SR GO) g s m = true → nI ((mr_rank pr th SR GO SE) g s m) ≠ i) : ∀ j, j < cn → (mr_aty ys yg yh) g s j = true → nI ((mr_cy ys yg yh) g s j) ≠ i := fun j hj a e => by
  obtain ⟨a1, _⟩ := Y.2.1 j hj
  rw [← mr_lka Y hj] at a
  rw [← mr_lkr Y hj] at e
  exact h _ a1 a e
end
end
section
/-! the looking methods agree -/
theorem i_vc_write {k : Nat} {u : SX} {v : SY} (I : i_Rel k u v) (hk : k + 4 ≤ 2048) (v1 : Int32) : wpX_write (fun r u' => wpY_write (fun r' v' => r' = r ∧ i_Rel (k + 4) u' v') v v1) u v1 := by
  refine mr_el (P := fun u v => wpX_write (fun r u' => wpY_write (fun r' v' => r' = r ∧ i_Rel (k + 4) u' v') v v1) u v1) ?_ I
  intro ds cn sr pr th st cr dw SE SR GO HO SZ sw cw CM EN EP BS M0 M1 K0 K1 W0 W1 LV OW hu tu gv co pg HU σ ys yg yz yh yt X Y
  have X' := X
  obtain ⟨a, b, c⟩ := X'
  unfold wpX_write
  refine pk_lt ds 5 (fun l => ⟨vp_in_nI l (by omega), nm_e (nm_r (nI_1 ds) ?_)⟩) (fun l => ?_)
  · unfold wpY_write
    refine br_t (nI_lt (b := 5) l (by decide)) ⟨vp_in_nI l (by omega), nm_e (nm_r (nI_1 ds) ⟨rfl, mr_in ⟨by omega, by omega, c⟩ Y⟩)⟩
  · unfold wpY_write
    exact br_f (nI_nlt (b := 5) l (by omega)) ⟨rfl, mr_in ⟨by omega, by omega, c⟩ Y⟩
theorem i_vc_wipe {k : Nat} {u : SX} {v : SY} (I : i_Rel k u v) (hk : k + 4 ≤ 2048) : wpX_wipe (fun r u' => wpY_wipe (fun r' v' => r' = r ∧ i_Rel (k + 4) u' v') v) u := by
  refine mr_el (P := fun u v => wpX_wipe (fun r u' => wpY_wipe (fun r' v' => r' = r ∧ i_Rel (k + 4) u' v') v) u) ?_ I
  intro ds cn sr pr th st cr dw SE SR GO HO SZ sw cw CM EN EP BS M0 M1 K0 K1 W0 W1 LV OW hu tu gv co pg HU σ ys yg yz yh yt X Y
  obtain ⟨a, b, c⟩ := X
  exact ⟨rfl, mr_in (ds := 0) ⟨by omega, by omega, c⟩ Y⟩
theorem i_vc_draft {k : Nat} {u : SX} {v : SY} (I : i_Rel k u v) (hk : k + 4 ≤ 2048) : wpX_draft (fun r => wpY_draft (fun r' => r' = r ∧ i_Rel (k + 4) u v) v) u := by
  refine mr_el (P := fun u v => wpX_draft (fun r => wpY_draft (fun r' => r' = r ∧ i_Rel (k + 4) u v) v) u) ?_ I
  intro ds cn sr pr th st cr dw SE SR GO HO SZ sw cw CM EN EP BS M0 M1 K0 K1 W0 W1 LV OW hu tu gv co pg HU σ ys yg yz yh yt X Y
  exact ⟨rfl, mr_in (mr_xup X (by omega)) Y⟩
theorem i_vc_crossings {k : Nat} {u : SX} {v : SY} (I : i_Rel k u v) (hk : k + 4 ≤ 2048) : wpX_crossings (fun r => wpY_crossings (fun r' => r' = r ∧ i_Rel (k + 4) u v) v) u := by
  refine mr_el (P := fun u v => wpX_crossings (fun r => wpY_crossings (fun r' => r' = r ∧ i_Rel (k + 4) u v) v) u) ?_ I
  intro ds cn sr pr th st cr dw SE SR GO HO SZ sw cw CM EN EP BS M0 M1 K0 K1 W0 W1 LV OW hu tu gv co pg HU σ ys yg yz yh yt X Y
  exact ⟨rfl, mr_in (mr_xup X (by omega)) Y⟩
theorem mr_one1 (n : Nat) : mr_si (fun _ => mr_b true) n = nI n := by
  induction n with
  | zero => rfl
  | succ n ih =>
    show mr_si (fun _ => mr_b true) n + 1 = _
    rw [ih, nI_1]
theorem mr_msgs {cn : Nat} {pr th : Int32} {SE SR GO SZ : Nat → Nat} {sw yt : Nat → Int32} {σ ys yg yz yh : Nat → Nat} (Y : (mr_YL cn pr th SE SR GO SZ sw σ ys yg yz yh yt)) : mr_si (fun m => mr_b (bt pr m)) 20 = nI cn := by
  rw [mr_lks Y _ (fun m hm h => by rw [h]; rfl), ← mr_one1 cn]
  exact mr_sic (fun j hj => by rw [(Y.2.1 j hj).2.1])
theorem i_vc_messages {k : Nat} {u : SX} {v : SY} (I : i_Rel k u v) (hk : k + 4 ≤ 2048) : wpX_messages (fun r => wpY_messages (fun r' => r' = r ∧ i_Rel (k + 4) u v) v) u := by
  refine mr_el (P := fun u v => wpX_messages (fun r => wpY_messages (fun r' => r' = r ∧ i_Rel (k + 4) u v) v) u) ?_ I
  intro ds cn sr pr th st cr dw SE SR GO HO SZ sw cw CM EN EP BS M0 M1 K0 K1 W0 W1 LV OW hu tu gv co pg HU σ ys yg yz yh yt X Y
  refine mr_w_msgs ?_
  exact ⟨(mr_msgs Y).symm, mr_in (mr_xup X (by omega)) Y⟩
theorem i_vc_waiting {k : Nat} {u : SX} {v : SY} (I : i_Rel k u v) (hk : k + 4 ≤ 2048) (v1 : Int32) : wpX_waiting (fun r => wpY_waiting (fun r' => r' = r ∧ i_Rel (k + 4) u v) v v1) u v1 := by
  refine mr_el (P := fun u v => wpX_waiting (fun r => wpY_waiting (fun r' => r' = r ∧ i_Rel (k + 4) u v) v v1) u v1) ?_ I
  intro ds cn sr pr th st cr dw SE SR GO HO SZ sw cw CM EN EP BS M0 M1 K0 K1 W0 W1 LV OW hu tu gv co pg HU σ ys yg yz yh yt X Y
  have R := mr_in (dw := dw) (cr := cr) (EP := EP) (M0 := M0) (M1 := M1) (K0 := K0) (K1 := K1) (W0 := W0) (W1 := W1) (gv := gv) (co := co) (pg := pg) (mr_xup X (kk' := k + 4) (by omega)) Y
  unfold wpX_waiting
  refine mr_w_place (fun p hp ep => br_f (by decide) ⟨21, mr_w_wait ?_ 21 0 (by omega) (by omega)⟩) (fun no => br_t rfl ?_)
  · refine mr_y_wait Y.1 (fun j hj => (mr_lkh Y hj).1) (fun _ _ _ => ⟨?_, R⟩) (fun no => absurd ⟨p, hp, ep⟩ no)
    rw [mr_lks Y _ (fun m hm h => by rw [h]; rfl)]
    refine mr_sic (fun j hj => ?_)
    obtain ⟨a1, a2, a3, a4, _⟩ := Y.2.1 j hj
    rw [a2, a3, (mr_lkh Y hj).2.2, Bool.true_and, Bool.and_comm]
  · exact mr_y_wait Y.1 (fun j hj => (mr_lkh Y hj).1) (fun p hp ep => absurd ⟨p, hp, ep⟩ no) (fun _ => ⟨rfl, R⟩)
theorem i_vc_arrived {k : Nat} {u : SX} {v : SY} (I : i_Rel k u v) (hk : k + 4 ≤ 2048) (v1 : Int32) (v2 : Int32) : wpX_arrived (fun r => wpY_arrived (fun r' => r' = r ∧ i_Rel (k + 4) u v) v v1 v2) u v1 v2 := by
  refine mr_el (P := fun u v => wpX_arrived (fun r => wpY_arrived (fun r' => r' = r ∧ i_Rel (k + 4) u v) v v1 v2) u v1 v2) ?_ I
  intro ds cn sr pr th st cr dw SE SR GO HO SZ sw cw CM EN EP BS M0 M1 K0 K1 W0 W1 LV OW hu tu gv co pg HU σ ys yg yz yh yt X Y
  have R := mr_in (dw := dw) (cr := cr) (EP := EP) (M0 := M0) (M1 := M1) (K0 := K0) (K1 := K1) (W0 := W0) (W1 := W1) (gv := gv) (co := co) (pg := pg) (mr_xup X (kk' := k + 4) (by omega)) Y
  have hy : ∀ j, j < cn → yh j ≤ 1 := fun j hj => (mr_lkh Y hj).1
  unfold wpX_arrived
  refine mr_w_place (fun p hp ep => br_f (by decide) (mr_w_place (fun q hq eq => br_f (by decide) ⟨21, mr_w_arrl ?_ 21 0 (by omega) (by omega)⟩) (fun no => br_t rfl ?_))) (fun no => br_t rfl ?_)
  · refine mr_y_arr Y.1 hy (fun _ _ _ _ _ _ => ⟨?_, R⟩) (fun no => absurd ⟨p, hp, ep⟩ no) (fun no => absurd ⟨q, hq, eq⟩ no)
    rw [mr_lks Y _ (fun m hm h => by unfold mr_at; rw [h]; rfl)]
    exact mr_sic (fun j hj => by rw [mr_lka Y hj])
  · exact mr_y_arr Y.1 hy (fun _ q _ hq _ eq => absurd ⟨q, hq, eq⟩ no) (fun _ => ⟨rfl, R⟩) (fun _ => ⟨rfl, R⟩)
  · exact mr_y_arr Y.1 hy (fun p _ hp _ ep _ => absurd ⟨p, hp, ep⟩ no) (fun _ => ⟨rfl, R⟩) (fun _ => ⟨rfl, R⟩)
theorem i_vc_held {k : Nat} {u : SX} {v : SY} (I : i_Rel k u v) (hk : k + 4 ≤ 2048) (v1 : Int32) : wpX_held (fun r => wpY_held (fun r' => r' = r ∧ i_Rel (k + 4) u v) v v1) u v1 := by
  refine mr_el (P := fun u v => wpX_held (fun r => wpY_held (fun r' => r' = r ∧ i_Rel (k + 4) u v) v v1) u v1) ?_ I
  intro ds cn sr pr th st cr dw SE SR GO HO SZ sw cw CM EN EP BS M0 M1 K0 K1 W0 W1 LV OW hu tu gv co pg HU σ ys yg yz yh yt X Y
  have R := mr_in (dw := dw) (cr := cr) (EP := EP) (M0 := M0) (M1 := M1) (K0 := K0) (K1 := K1) (W0 := W0) (W1 := W1) (gv := gv) (co := co) (pg := pg) (mr_xup X (kk' := k + 4) (by omega)) Y
  unfold wpX_held
  refine mr_w_place (fun p hp ep => br_f (by decide) ⟨21, mr_w_held ?_ 21 0 (by omega) (by omega)⟩) (fun no => br_t rfl ?_)
  · refine mr_y_held Y.1 (fun j hj => (mr_lkh Y hj).1) (fun _ _ _ => ⟨?_, R⟩) (fun no => absurd ⟨p, hp, ep⟩ no)
    rw [mr_lks Y _ (fun m hm h => by rw [h]; rfl)]
    refine mr_sic (fun j hj => ?_)
    obtain ⟨a1, a2, a3, a4, _⟩ := Y.2.1 j hj
    rw [a2, a4, (mr_lkh Y hj).2.1, Bool.true_and]
  · exact mr_y_held Y.1 (fun j hj => (mr_lkh Y hj).1) (fun p hp ep => absurd ⟨p, hp, ep⟩ no) (fun _ => ⟨rfl, R⟩)
theorem mr_si5 {f : Nat → Int32} {s : Nat} : ∀ n, s ≤ n → mr_si (fun k => if k < s then f k else 0) n = mr_si f s := by
  intro n
  induction n with
  | zero => intro h; rw [show s = 0 by omega]; rfl
  | succ n ih =>
    intro h
    by_cases z : s = n + 1
    · subst z
      exact mr_sic (fun i hi => if_pos hi)
    · show _ + (if _ then _ else _) = _
      rw [if_neg (by omega), ih (by omega)]
      exact Int32.add_zero _
theorem i_vc_sum {k : Nat} {u : SX} {v : SY} (I : i_Rel k u v) (hk : k + 4 ≤ 2048) (v1 : Int32) : wpX_sum (fun r => wpY_sum (fun r' => r' = r ∧ i_Rel (k + 4) u v) v v1) u v1 := by
  refine mr_el (P := fun u v => wpX_sum (fun r => wpY_sum (fun r' => r' = r ∧ i_Rel (k + 4) u v) v v1) u v1) ?_ I
  intro ds cn sr pr th st cr dw SE SR GO HO SZ sw cw CM EN EP BS M0 M1 K0 K1 W0 W1 LV OW hu tu gv co pg HU σ ys yg yz yh yt X Y
  have R := mr_in (dw := dw) (cr := cr) (EP := EP) (M0 := M0) (M1 := M1) (K0 := K0) (K1 := K1) (W0 := W0) (W1 := W1) (gv := gv) (co := co) (pg := pg) (mr_xup X (kk' := k + 4) (by omega)) Y
  obtain ⟨x1, x2, F, T, x5, x6, x7, x8, x9, x10, _⟩ := X
  refine mr_w_sum F.2.1 (mr_y_sum Y.1 (fun j hj => ⟨(mr_lkh Y hj).1, ?_⟩) ⟨?_, R⟩)
  · obtain ⟨a1, a2, a3, a4, a5, _⟩ := Y.2.1 j hj
    rw [a5]
    exact F.2.1 _ a1
  · rw [mr_lks Y _ (fun m hm h => by
      unfold mr_sx
      exact mr_siz (fun i hi => by rw [h]; rfl))]
    refine mr_sic (fun j hj => ?_)
    obtain ⟨a1, a2, a3, a4, a5, a6, a7⟩ := Y.2.1 j hj
    obtain ⟨b1, b2, b3⟩ := mr_lkh Y hj
    unfold mr_sy mr_sx
    rw [← mr_si5 5 (F.2.1 _ a1), a2, b2, a4, a5]
    refine mr_sic (fun i hi => ?_)
    by_cases z : i < SZ (σ j)
    · rw [if_pos z, decide_eq_true z, Bool.and_true, Bool.true_and]
      by_cases y : (bt th (σ j) && decide (nI (GO (σ j)) = v1)) = true
      · rw [if_pos y, if_pos y, a7 i z]
        rw [Bool.and_eq_true] at y
        exact (x10 _ i a1 a2 y.1 z).symm
      · rw [if_neg y, if_neg y]
    · rw [if_neg z, decide_eq_false z, Bool.and_false]
      rfl
theorem i_vc_words {k : Nat} {u : SX} {v : SY} (I : i_Rel k u v) (hk : k + 4 ≤ 2048) (v1 : Int32) (v2 : Int32) (v3 : Int32) : wpX_words (fun r => wpY_words (fun r' => r' = r ∧ i_Rel (k + 4) u v) v v1 v2 v3) u v1 v2 v3 := by
  refine mr_el (P := fun u v => wpX_words (fun r => wpY_words (fun r' => r' = r ∧ i_Rel (k + 4) u v) v v1 v2 v3) u v1 v2 v3) ?_ I
  intro ds cn sr pr th st cr dw SE SR GO HO SZ sw cw CM EN EP BS M0 M1 K0 K1 W0 W1 LV OW hu tu gv co pg HU σ ys yg yz yh yt X Y
  have R := mr_in (dw := dw) (cr := cr) (EP := EP) (M0 := M0) (M1 := M1) (K0 := K0) (K1 := K1) (W0 := W0) (W1 := W1) (gv := gv) (co := co) (pg := pg) (mr_xup X (kk' := k + 4) (by omega)) Y
  obtain ⟨x1, x2, F, T, x5, _⟩ := X
  have hse : ∀ m, m < 20 → bt pr m = true → SE m < 2 ^ 31 := fun m hm pm => by have := x5 m hm pm; omega
  have hy : ∀ j, j < cn → yh j ≤ 1 := fun j hj => (mr_lkh Y hj).1
  have c20 := Y.1
  unfold wpX_words
  refine mr_w_find hse (fun m hm am em => br_t (nI_pos' (by omega)) ⟨vp_in_nI hm (by omega), ?_⟩) (fun no => br_f (by decide) ?_)
  · obtain ⟨j0, hj0, e0, u0, n0⟩ := mr_fsome Y hm am em
    unfold wpY_words
    refine mr_y_find Y.1 hy (fun j hj aj ej => br_t (nI_pos' (by omega)) ⟨vp_in_nI (by omega) (by omega), ?_, R⟩) (fun no => absurd no n0)
    rw [u0 j hj aj ej, nI_clamp (n := j0) (by omega), nI_clamp (n := m) (by omega), ← e0]
    exact congrArg nI (Y.2.1 j0 hj0).2.2.2.2.1
  · have n0 := mr_fnone Y no
    unfold wpY_words
    exact mr_y_find Y.1 hy (fun j hj aj ej => absurd ej (n0 j hj aj)) (fun _ => br_f (by decide) ⟨rfl, R⟩)
theorem i_vc_word {k : Nat} {u : SX} {v : SY} (I : i_Rel k u v) (hk : k + 4 ≤ 2048) (v1 : Int32) (v2 : Int32) (v3 : Int32) : wpX_word (fun r => wpY_word (fun r' => r' = r ∧ i_Rel (k + 4) u v) v v1 v2 v3) u v1 v2 v3 := by
  refine mr_el (P := fun u v => wpX_word (fun r => wpY_word (fun r' => r' = r ∧ i_Rel (k + 4) u v) v v1 v2 v3) u v1 v2 v3) ?_ I
  intro ds cn sr pr th st cr dw SE SR GO HO SZ sw cw CM EN EP BS M0 M1 K0 K1 W0 W1 LV OW hu tu gv co pg HU σ ys yg yz yh yt X Y
  have R := mr_in (dw := dw) (cr := cr) (EP := EP) (M0 := M0) (M1 := M1) (K0 := K0) (K1 := K1) (W0 := W0) (W1 := W1) (gv := gv) (co := co) (pg := pg) (mr_xup X (kk' := k + 4) (by omega)) Y
  obtain ⟨x1, x2, F, T, x5, x6, x7, x8, x9, x10, _⟩ := X
  have hse : ∀ m, m < 20 → bt pr m = true → SE m < 2 ^ 31 := fun m hm pm => by have := x5 m hm pm; omega
  have hy : ∀ j, j < cn → yh j ≤ 1 := fun j hj => (mr_lkh Y hj).1
  have c20 := Y.1
  have YN : ∀ r, r = 0 → wY_word_11 (fun r' => r' = r ∧ i_Rel (k + 4) ((nI ds), pr, th, st, (nI sr), cr, dw, (mr_en SE), (mr_en SR), (mr_en GO), (mr_en HO), (mr_en SZ), sw, cw, (mr_en CM), (mr_eo EN), (mr_en EP), (mr_en BS), (mr_en (mr_tw M0 M1)), (mr_en (mr_tw K0 K1)), (mr_tw W0 W1), (mr_eo LV), (mr_eo OW), hu, tu, gv, co, pg) ((nI ds), (nI cn), cr, dw, (mr_en ys), (mr_en yg), (mr_en yz), yt, (mr_en yh))) v3 (nI ds) (nI cn) cr dw (mr_en ys) (mr_en yg) (mr_en yz) yt (mr_en yh) := fun r hr => by
    unfold wY_word_11 wY_word_28
    exact br_t (by decide) ⟨hr.symm, R⟩
  unfold wpX_word
  by_cases h0 : v1 < 0
  · refine br_t h0 ?_
    unfold wX_word_11 wX_word_27
    refine br_t (by decide) ?_
    unfold wpY_word
    exact br_t h0 (YN 0 rfl)
  · refine br_f h0 ?_
    by_cases h1 : v1 ≤ 255
    · refine br_t h1 ?_
      obtain ⟨b, hb, rfl⟩ := nI_of2 (M := 255) (n := 255) (by decide) h0 h1
      have e1 : nI b &&& 15 = nI (b % 16) := pk_andN (by omega) 4 (by decide)
      have e2 : nI b >>> ((4 : Int32) &&& 31) = nI (b / 16) := pk_shrN (by omega) _ 4 (by decide)
      have e3 : nI b - nI b / 16 * 16 = nI (b % 16) := pk_rem (d := 16) (by omega) (by omega) (by omega)
      have e4 : nI b / 16 = nI (b / 16) := pk_div (d := 16) (by omega) (by omega) (by omega)
      rw [e1, e2]
      refine mr_w_find hse (fun m hm am em => ?_) (fun no => ?_)
      · obtain ⟨j0, hj0, e0, u0, n0⟩ := mr_fsome Y hm am em
        obtain ⟨a1, a2, a3, a4, a5, a6, a7⟩ := Y.2.1 j0 hj0
        rw [e0] at a2 a5 a7
        have z5 := F.2.1 m hm
        have tm : bt th m = true := by
          unfold mr_at at am
          simp only [Bool.and_eq_true] at am
          exact am.1.1.2
        -- Y's half, for any answer
        have YF : ∀ r, wY_word_28 (fun r' => r' = r ∧ i_Rel (k + 4) ((nI ds), pr, th, st, (nI sr), cr, dw, (mr_en SE), (mr_en SR), (mr_en GO), (mr_en HO), (mr_en SZ), sw, cw, (mr_en CM), (mr_eo EN), (mr_en EP), (mr_en BS), (mr_en (mr_tw M0 M1)), (mr_en (mr_tw K0 K1)), (mr_tw W0 W1), (mr_eo LV), (mr_eo OW), hu, tu, gv, co, pg) ((nI ds), (nI cn), cr, dw, (mr_en ys), (mr_en yg), (mr_en yz), yt, (mr_en yh))) v3 (nI j0) (nI ds) (nI cn) cr dw (mr_en ys) (mr_en yg) (mr_en yz) yt (mr_en yh) →
            wpY_word (fun r' => r' = r ∧ i_Rel (k + 4) ((nI ds), pr, th, st, (nI sr), cr, dw, (mr_en SE), (mr_en SR), (mr_en GO), (mr_en HO), (mr_en SZ), sw, cw, (mr_en CM), (mr_eo EN), (mr_en EP), (mr_en BS), (mr_en (mr_tw M0 M1)), (mr_en (mr_tw K0 K1)), (mr_tw W0 W1), (mr_eo LV), (mr_eo OW), hu, tu, gv, co, pg) ((nI ds), (nI cn), cr, dw, (mr_en ys), (mr_en yg), (mr_en yz), yt, (mr_en yh))) ((nI ds), (nI cn), cr, dw, (mr_en ys), (mr_en yg), (mr_en yz), yt, (mr_en yh)) (nI b) v2 v3 := fun r h => by
          unfold wpY_word
          rw [e3, e4]
          refine br_f h0 (br_t h1 ⟨by decide, by decide, mr_y_find Y.1 hy (fun j hj aj ej => ?_) (fun no => absurd no n0)⟩)
          rw [u0 j hj aj ej]
          exact h
        unfold wX_word_27
        refine br_f (nI_pos (by omega)) ?_
        by_cases k0 : v3 < 0
        · refine br_t k0 (YF 0 ?_)
          unfold wY_word_28
          exact br_f (nI_pos (by omega)) (br_t k0 ⟨rfl, R⟩)
        · refine br_f k0 ⟨vp_in_nI hm (by omega), ?_⟩
          obtain ⟨i, hi, rfl⟩ := nI_of k0
          rw [nI_clamp (n := m) (by omega)]
          refine pk_lt i (SZ m) (fun l => ?_) (fun l => YF 0 ?_)
          · have ei : nI m * 5 + nI i = nI (m * 5 + i) := by
              show nI m * nI 5 + nI i = _
              rw [pk_mul, nI_add]
            rw [ei, nI_clamp (n := m * 5 + i) (by omega)]
            refine ⟨vp_in_nI (by omega) (by omega), YF _ ?_⟩
            unfold wY_word_28
            have ej : 5 * nI j0 + nI i = nI (5 * j0 + i) := by
              show nI 5 * nI j0 + nI i = _
              rw [pk_mul, nI_add]
            rw [ej, nI_clamp (n := j0) (by omega), nI_clamp (n := 5 * j0 + i) (by omega)]
            refine br_f (nI_pos (by omega)) (br_f k0 ⟨vp_in_nI (by omega) (by omega), br_t ?_ ⟨vp_in_nI (by omega) (by omega), ?_, R⟩⟩)
            · show nI i < nI (yz j0)
              rw [a5]
              exact nI_lt l (by omega)
            · rw [a7 i l]
              exact (x10 m i hm a2 tm l).symm
          · unfold wY_word_28
            rw [nI_clamp (n := j0) (by omega)]
            refine br_f (nI_pos (by omega)) (br_f k0 ⟨vp_in_nI (by omega) (by omega), br_f ?_ ⟨rfl, R⟩⟩)
            show ¬ nI i < nI (yz j0)
            rw [a5]
            exact nI_nlt l hi
      · have n0 := mr_fnone Y no
        unfold wX_word_27
        refine br_t (by decide) ?_
        unfold wpY_word
        rw [e3, e4]
        refine br_f h0 (br_t h1 ⟨by decide, by decide, mr_y_find Y.1 hy (fun j hj aj ej => absurd ej (n0 j hj aj)) (fun _ => ?_)⟩)
        unfold wY_word_28
        exact br_t (by decide) ⟨rfl, R⟩
    · refine br_f h1 ?_
      unfold wX_word_11 wX_word_27
      refine br_t (by decide) ?_
      unfold wpY_word
      exact br_f h0 (br_f h1 (YN 0 rfl))
theorem mr_dab {a b : Nat} (ha : a < 2 ^ 30) (hb : b < 2 ^ 30) : nI ((a - b) + (b - a)) = if nI b ≤ nI a then nI a - nI b else nI b - nI a := by
  by_cases h : b ≤ a
  · rw [if_pos (nI_le h (by omega)), pk_sub h, show a - b + (b - a) = a - b by omega]
  · rw [if_neg (nI_ge (by omega) (by omega)), pk_sub (by omega), show a - b + (b - a) = b - a by omega]
theorem mr_w_apart {post : Int32 → Prop} {a b : Nat} (ha : a < 2 ^ 30) (hb : b < 2 ^ 30) (h : post (nI ((a - b) + (b - a)))) : wpX_apart post (nI a) (nI b) := by
  unfold wpX_apart
  refine pk_le b a (fun l => ?_) (fun l => ?_)
  · rw [pk_sub l]; rw [show a - b + (b - a) = a - b by omega] at h; exact h
  · rw [pk_sub (by omega)]; rw [show a - b + (b - a) = b - a by omega] at h; exact h
theorem mr_y_size {post : Int32 → Prop} {fd yn yc : Int32} {dw yt : Nat → Int32} {ys yg yz yh : Nat → Nat} {a b : Nat} (ha : a < 2 ^ 30) (hb : b < 2 ^ 30) (h : post (nI ((a - b) + (b - a)))) : wpY_size post (fd, yn, yc, dw, (mr_en ys), (mr_en yg), (mr_en yz), yt, (mr_en yh)) (nI a - nI b) := by
  unfold wpY_size
  refine br_c (fun z => ?_) (fun z => ?_)
  · rw [mr_dge ha hb] at z
    rw [pk_sub z]; rw [show a - b + (b - a) = a - b by omega] at h; exact h
  · rw [mr_dge ha hb] at z
    have e : -(nI a - nI b) = nI b - nI a := by grind
    rw [e, pk_sub (by omega)]; rw [show a - b + (b - a) = b - a by omega] at h; exact h
theorem mr_y_dist {post : Int32 → Prop} {fd yn yc : Int32} {dw yt : Nat → Int32} {ys yg yz yh : Nat → Nat} {a b : Nat} (ha : a < 16) (hb : b < 16) (h : post (nI (mr_di a b))) : wpY_distance post (fd, yn, yc, dw, (mr_en ys), (mr_en yg), (mr_en yz), yt, (mr_en yh)) (nI a) (nI b) := by
  unfold wpY_distance
  refine mr_y_place (fun p hp ep => br_f (by decide) (mr_y_place (fun q hq eq => br_f (by decide) ⟨by decide, by decide, ?_⟩) (fun no => absurd ⟨b, hb, rfl⟩ no))) (fun no => absurd ⟨a, ha, rfl⟩ no)
  rw [show nI a - nI a / 4 * 4 = nI (a % 4) from pk_rem (d := 4) (by omega) (by omega) (by omega), show nI b - nI b / 4 * 4 = nI (b % 4) from pk_rem (d := 4) (by omega) (by omega) (by omega),
    show nI a / 4 = nI (a / 4) from pk_div (d := 4) (by omega) (by omega) (by omega), show nI b / 4 = nI (b / 4) from pk_div (d := 4) (by omega) (by omega) (by omega)]
  refine mr_y_size (by omega) (by omega) ⟨by decide, by decide, mr_y_size (by omega) (by omega) ?_⟩
  rw [nI_add]
  exact h
theorem i_vc_distance {k : Nat} {u : SX} {v : SY} (I : i_Rel k u v) (hk : k + 4 ≤ 2048) (v1 : Int32) (v2 : Int32) : wpX_distance (fun r => wpY_distance (fun r' => r' = r ∧ i_Rel (k + 4) u v) v v1 v2) u v1 v2 := by
  refine mr_el (P := fun u v => wpX_distance (fun r => wpY_distance (fun r' => r' = r ∧ i_Rel (k + 4) u v) v v1 v2) u v1 v2) ?_ I
  intro ds cn sr pr th st cr dw SE SR GO HO SZ sw cw CM EN EP BS M0 M1 K0 K1 W0 W1 LV OW hu tu gv co pg HU σ ys yg yz yh yt X Y
  have R := mr_in (dw := dw) (cr := cr) (EP := EP) (M0 := M0) (M1 := M1) (K0 := K0) (K1 := K1) (W0 := W0) (W1 := W1) (gv := gv) (co := co) (pg := pg) (mr_xup X (kk' := k + 4) (by omega)) Y
  unfold wpX_distance
  refine mr_w_place (fun a ha ea => br_f (by decide) (mr_w_place (fun b hb eb => br_f (by decide) ⟨by decide, by decide, ?_⟩) (fun no => br_t rfl ?_))) (fun no => br_t rfl ?_)
  · subst ea eb
    rw [show nI a - nI a / 4 * 4 = nI (a % 4) from pk_rem (d := 4) (by omega) (by omega) (by omega), show nI b - nI b / 4 * 4 = nI (b % 4) from pk_rem (d := 4) (by omega) (by omega) (by omega),
      show nI a / 4 = nI (a / 4) from pk_div (d := 4) (by omega) (by omega) (by omega), show nI b / 4 = nI (b / 4) from pk_div (d := 4) (by omega) (by omega) (by omega)]
    refine mr_w_apart (by omega) (by omega) ⟨by decide, by decide, mr_w_apart (by omega) (by omega) ?_⟩
    rw [nI_add]
    exact mr_y_dist ha hb ⟨rfl, R⟩
  · unfold wpY_distance
    exact mr_y_place (fun _ _ _ => br_f (by decide) (mr_y_place (fun b hb eb => absurd ⟨b, hb, eb⟩ no) (fun _ => br_t rfl ⟨rfl, R⟩))) (fun _ => br_t rfl ⟨rfl, R⟩)
  · unfold wpY_distance
    exact mr_y_place (fun a ha ea => absurd ⟨a, ha, ea⟩ no) (fun _ => br_t rfl ⟨rfl, R⟩)
end
section
/-! hold and the constructors -/
section
variable {fd yn yc : Int32} {dw yt : Nat → Int32} {ys yg yz yh : Nat → Nat}
theorem mr_y_h75 {post : Int32 → Prop} {a c : Nat} {z0 z1 : Int32} (ha : a ≤ 5) (hc : c ≤ 5) (hz : z1 + z0 = mr_o c) (h : post (mr_b (decide (1 ≤ a ∧ a ≤ 4 ∧ 1 ≤ c ∧ c ≤ 4)))) : wY_hold_75 post (mr_o a) z0 z1 fd yn yc dw (mr_en ys) (mr_en yg) (mr_en yz) yt (mr_en yh) := by
  unfold wY_hold_75
  refine nm_r (e' := mr_o c) hz ?_
  have no : ¬ (1 ≤ a ∧ a ≤ 4 ∧ 1 ≤ c ∧ c ≤ 4) → post 0 := fun n => by rw [decide_eq_false n] at h; exact h
  refine mr_bl a (fun e => no (by omega)) (fun e => ?_)
  obtain ⟨a', rfl⟩ : ∃ a', a = a' + 1 := ⟨a - 1, by omega⟩
  refine pk_lt 3 a' (fun l => no (by omega)) (fun l => mr_bl c (fun e => no (by omega)) (fun e => ?_)) rfl (mr_os a')
  obtain ⟨c', rfl⟩ : ∃ c', c = c' + 1 := ⟨c - 1, by omega⟩
  refine pk_lt 3 c' (fun l => no (by omega)) (fun l => ?_) rfl (mr_os c')
  rw [decide_eq_true (by omega)] at h
  exact h
theorem mr_om (n : Nat) : nI n + (-1) = mr_o n := by unfold mr_o; grind
theorem mr_oz (n : Nat) : nI n + 0 = mr_o (n + 1) := by rw [Int32.add_zero, mr_os]
theorem mr_op1 (n : Nat) : nI n + 1 = mr_o (n + 2) := by rw [nI_1, mr_os]
theorem mr_y_hold {post : Int32 → Prop} {p d t : Nat} (hp : p < 16) (hd : d < 4) (ht : t ≤ 50) (h : post (mr_b (mr_vl p d))) : wpY_hold post (fd, yn, yc, dw, (mr_en ys), (mr_en yg), (mr_en yz), yt, (mr_en yh)) (nI p) (nI d) (nI t) := by
  have h50 : ∀ (z0 : Int32) (a : Nat), a ≤ 5 → nI (p / 4) + z0 = mr_o a → (∀ c, (d = 1 ∧ c = p % 4 + 2 ∨ d = 3 ∧ c = p % 4 ∨ d ≠ 1 ∧ d ≠ 3 ∧ c = p % 4 + 1) → decide (1 ≤ a ∧ a ≤ 4 ∧ 1 ≤ c ∧ c ≤ 4) = mr_vl p d) →
      wY_hold_50 post (nI p) (nI d) z0 (nI (p / 4)) fd yn yc dw (mr_en ys) (mr_en yg) (mr_en yz) yt (mr_en yh) := fun z0 a ha e hh => by
    unfold wY_hold_50
    refine nm_r (e' := mr_o a) e ⟨by decide, ?_⟩
    rw [show nI p - nI p / 4 * 4 = nI (p % 4) from pk_rem (d := 4) (by omega) (by omega) (by omega)]
    refine pk_eq d 1 (fun e1 => mr_y_h75 ha (c := p % 4 + 2) (by omega) (mr_op1 _) ?_) (fun e1 => pk_eq d 3 (fun e3 => mr_y_h75 ha (c := p % 4) (by omega) (mr_om _) ?_) (fun e3 => mr_y_h75 ha (c := p % 4 + 1) (by omega) (mr_oz _) ?_))
    · rw [hh (p % 4 + 2) (by omega)]; exact h
    · rw [hh (p % 4) (by omega)]; exact h
    · rw [hh (p % 4 + 1) (by omega)]; exact h
  unfold wpY_hold
  refine mr_y_place (fun q hq eq => br_f (by decide) (br_f (nI_pos (by omega)) (br_f (nI_nlt (a := d) (b := 3) |> fun _ => ?_) (br_f (nI_pos (by omega)) (br_t (nI_le (b := 50) ht (by decide)) ⟨by decide, ?_⟩))))) (fun no => absurd ⟨p, hp, rfl⟩ no)
  · exact nI_nlt (a := 3) (b := d) (by omega) (by decide)
  · rw [show nI p / 4 = nI (p / 4) from pk_div (d := 4) (by omega) (by omega) (by omega)]
    refine pk_eq d 0 (fun e0 => h50 _ (p / 4) (by omega) (mr_om _) (fun c hc => ?_)) (fun e0 => pk_eq d 2 (fun e2 => h50 _ (p / 4 + 2) (by omega) (mr_op1 _) (fun c hc => ?_)) (fun e2 => h50 _ (p / 4 + 1) (by omega) (mr_oz _) (fun c hc => ?_)))
    · subst e0
      show _ = decide (4 ≤ p)
      exact decide_eq_decide.mpr (by omega)
    · subst e2
      show _ = decide (p < 12)
      exact decide_eq_decide.mpr (by omega)
    · rcases (show d = 1 ∨ d = 3 by omega) with e | e
      · subst e
        show _ = decide (p % 4 < 3)
        exact decide_eq_decide.mpr (by omega)
      · subst e
        show _ = decide (0 < p % 4)
        exact decide_eq_decide.mpr (by omega)
end
theorem i_vc_hold {k : Nat} {u : SX} {v : SY} (I : i_Rel k u v) (hk : k + 4 ≤ 2048) (v1 : Int32) (v2 : Int32) (v3 : Int32) : wpX_hold (fun r u' => wpY_hold (fun r' => r' = r ∧ i_Rel (k + 4) u' v) v v1 v2 v3) u v1 v2 v3 := by
  refine mr_el (P := fun u v => wpX_hold (fun r u' => wpY_hold (fun r' => r' = r ∧ i_Rel (k + 4) u' v) v v1 v2 v3) u v1 v2 v3) ?_ I
  intro ds cn sr pr th st cr dw SE SR GO HO SZ sw cw CM EN EP BS M0 M1 K0 K1 W0 W1 LV OW hu tu gv co pg HU σ ys yg yz yh yt X Y
  have R := mr_in (dw := dw) (cr := cr) (EP := EP) (M0 := M0) (M1 := M1) (K0 := K0) (K1 := K1) (W0 := W0) (W1 := W1) (gv := gv) (co := co) (pg := pg) (mr_xup X (kk' := k + 4) (by omega)) Y
  unfold wpX_hold
  refine mr_w_place (fun p hp ep => br_f (by decide) ?_) (fun no => br_t rfl ?_)
  · have ip : ∀ post, post 1 → wpY_place post ((nI ds), (nI cn), cr, dw, (mr_en ys), (mr_en yg), (mr_en yz), yt, (mr_en yh)) v1 := fun post h => mr_y_place (fun _ _ _ => h) (fun no => absurd ⟨p, hp, ep⟩ no)
    refine br_c (fun a => ?_) (fun a => br_c (fun b => ?_) (fun b => br_c (fun c => ?_) (fun c => br_c (fun d => ?_) (fun d => ?_))))
    · unfold wpY_hold
      exact ip _ (br_f (by decide) (br_t a ⟨rfl, R⟩))
    · unfold wpY_hold
      exact ip _ (br_f (by decide) (br_f a (br_t b ⟨rfl, R⟩)))
    · unfold wpY_hold
      exact ip _ (br_f (by decide) (br_f a (br_f b (br_t c ⟨rfl, R⟩))))
    · subst ep
      obtain ⟨q, hq, rfl⟩ := nI_of2 (M := 3) (n := 3) (by decide) a (Int32.not_lt.mp b)
      obtain ⟨t, ht, rfl⟩ := nI_of2 (M := 50) (n := 50) (by decide) c d
      refine mr_w_nb hp (by omega) ?_
      by_cases vl : mr_vl p q = true
      · rw [if_pos vl]
        have nb := (mr_bhf hp (show q < 4 by omega) (show 0 < 2 by omega) vl).2.2.2.2.1
        refine br_t (nI_pos' (by omega)) ?_
        have ei : nI p * 4 + nI q = nI (p * 4 + q) := by
          show nI p * nI 4 + nI q = _
          rw [pk_mul, nI_add]
        rw [ei, nI_clamp (n := p * 4 + q) (by omega), mr_n8' (by omega)]
        refine ⟨vp_in_nI (by omega) (by omega), nm_e (mr_y_hold hp (by omega) ht ?_)⟩
        rw [vl]
        refine ⟨rfl, ?_⟩
        obtain ⟨x1, x2, x3, x4, x5, x6, x7, x8, x9, x10, x11, x12⟩ := X
        refine mr_in (HU := mr_up HU (p * 4 + q) t) ⟨x1, by omega, x3, x4, x5, x6, x7, x8, x9, x10, fun i hi => ?_, x12⟩ Y
        by_cases z : i = p * 4 + q
        · rw [z, pk_us, mr_us]; exact ⟨rfl, ht⟩
        · rw [pk_un z, mr_un z]; exact x11 i hi
      · rw [if_neg vl]
        refine br_f (by decide) (mr_y_hold hp (by omega) ht ?_)
        rw [show mr_vl p q = false by simpa using vl]
        exact ⟨rfl, R⟩
    · unfold wpY_hold
      exact ip _ (br_f (by decide) (br_f a (br_f b (br_f c (br_f d ⟨rfl, R⟩)))))
  · unfold wpY_hold
    exact mr_y_place (fun a ha ea => absurd ⟨a, ha, ea⟩ no) (fun _ => br_t rfl ⟨rfl, R⟩)
theorem mr_z_eo : mr_eo (fun _ => 1) = fun _ => 0 := funext (fun _ => show mr_o 1 = 0 by decide +kernel)
theorem mr_z_en : mr_en (fun _ => 0) = fun _ => 0 := rfl
theorem mr_z_tw {α : Type} {x : α} : mr_tw (fun _ => x) (fun _ => x) = fun _ => x := by
  funext i
  unfold mr_tw
  split <;> rfl
section
variable {fd pr th st fs cr : Int32} {dw se sw cw hu tu gv co pg W0 W1 : Nat → Int32} {SR GO HO SZ CM EN EP BS M0 M1 K0 K1 LV OW : Nat → Nat}
theorem mr_w_i218 {post : SX → Prop} (K : ∀ EN : Nat → Nat, (∀ p, p < 16 → EN p = 0) → post (fd, pr, th, st, fs, cr, dw, se, (mr_en SR), (mr_en GO), (mr_en HO), (mr_en SZ), sw, cw, (mr_en CM), (mr_eo EN), (mr_en EP), (mr_en BS), (mr_en (mr_tw M0 M1)), (mr_en (mr_tw K0 K1)), (mr_tw W0 W1), (mr_eo LV), (mr_eo OW), hu, tu, gv, co, pg)) : ∀ (n x : Nat) (EN : Nat → Nat), 16 - x < n → x ≤ 16 → (∀ p, p < x → EN p = 0) → wX_init_218 post fd pr th st fs cr n (nI x) dw se (mr_en SR) (mr_en GO) (mr_en HO) (mr_en SZ) sw cw (mr_en CM) (mr_eo EN) (mr_en EP) (mr_en BS) (mr_en (mr_tw M0 M1)) (mr_en (mr_tw K0 K1)) (mr_tw W0 W1) (mr_eo LV) (mr_eo OW) hu tu gv co pg := by
  intro n
  induction n with
  | zero => intro x EN h; omega
  | succ n ih =>
    intro x EN hn hx h
    unfold wX_init_218
    refine pk_le 16 x (fun e => K EN (fun p hp => h p (by omega))) (fun l => ⟨vp_in_nI l (by omega), nm_r (e' := mr_eo (mr_up EN x 0)) ?_ (nm_r (nI_1 x) (ih (x + 1) _ (by omega) (by omega) (fun p hp => ?_)))⟩)
    · rw [nI_clamp (n := x) (by omega), mr_n8m, ← mr_o0, mr_updO]
    · by_cases z : p = x
      · rw [z, mr_us]
      · rw [mr_un z]; exact h p (by omega)
theorem mr_w_i189 {post : SX → Prop} (K : ∀ LV OW : Nat → Nat, (∀ b, b < 160 → LV b = 0 ∧ OW b = 0) → ∃ n218 : Nat, wX_init_218 post fd pr th st fs cr n218 0 dw se (mr_en SR) (mr_en GO) (mr_en HO) (mr_en SZ) sw cw (mr_en CM) (mr_eo EN) (mr_en EP) (mr_en BS) (mr_en (mr_tw M0 M1)) (mr_en (mr_tw K0 K1)) (mr_tw W0 W1) (mr_eo LV) (mr_eo OW) hu tu gv co pg) : ∀ (n x : Nat) (LV OW : Nat → Nat), 160 - x < n → x ≤ 160 → (∀ b, b < x → LV b = 0 ∧ OW b = 0) → wX_init_189 post fd pr th st fs cr n (nI x) dw se (mr_en SR) (mr_en GO) (mr_en HO) (mr_en SZ) sw cw (mr_en CM) (mr_eo EN) (mr_en EP) (mr_en BS) (mr_en (mr_tw M0 M1)) (mr_en (mr_tw K0 K1)) (mr_tw W0 W1) (mr_eo LV) (mr_eo OW) hu tu gv co pg := by
  intro n
  induction n with
  | zero => intro x LV OW h; omega
  | succ n ih =>
    intro x LV OW hn hx h
    unfold wX_init_189
    refine pk_le 160 x (fun e => K LV OW (fun p hp => h p (by omega))) (fun l => ⟨vp_in_nI l (by omega), nm_r (e' := mr_eo (mr_up LV x 0)) ?_ ⟨vp_in_nI l (by omega), nm_r (e' := mr_eo (mr_up OW x 0)) ?_ (nm_r (nI_1 x) (ih (x + 1) _ _ (by omega) (by omega) (fun p hp => ?_)))⟩⟩)
    · rw [nI_clamp (n := x) (by omega), mr_n8m, ← mr_o0, mr_updO]
    · rw [nI_clamp (n := x) (by omega), mr_n16m, ← mr_o0, mr_updO]
    · by_cases z : p = x
      · rw [z, mr_us, mr_us]; exact ⟨rfl, rfl⟩
      · rw [mr_un z, mr_un z]; exact h p (by omega)
end
theorem i_vc0 : wpX_init (fun u => wpY_init (fun v => i_Rel 0 u v)) := by
  unfold wpX_init
  have h := mr_w_i189 (post := fun u => wpY_init (fun v => i_Rel 0 u v)) (fd := 0) (pr := 0) (th := 0) (st := 0) (fs := 0) (cr := 0) (dw := fun _ => 0) (se := fun _ => 0) (sw := fun _ => 0) (cw := fun _ => 0) (hu := fun _ => 0) (tu := fun _ => 0) (gv := fun _ => 0) (co := fun _ => 0) (pg := fun _ => 0) (W0 := fun _ => 0) (W1 := fun _ => 0)
    (SR := fun _ => 0) (GO := fun _ => 0) (HO := fun _ => 0) (SZ := fun _ => 0) (CM := fun _ => 0) (EN := fun _ => 1) (EP := fun _ => 0) (BS := fun _ => 0) (M0 := fun _ => 0) (M1 := fun _ => 0) (K0 := fun _ => 0) (K1 := fun _ => 0)
    (fun LV OW hl => ⟨17, mr_w_i218 (fun EN he => ?_) 17 0 (fun _ => 1) (by omega) (by omega) (fun p hp => by omega)⟩) 161 0 (fun _ => 1) (fun _ => 1) (by omega) (by omega) (fun p hp => by omega)
  · rw [mr_z_tw, mr_z_tw, mr_z_eo] at h
    exact ⟨161, h⟩
  · have b0 : ∀ m, ¬ bt 0 m = true := fun m h => by rw [b_0] at h; exact nomatch h
    refine mr_in (kk := 0) (ds := 0) (cn := 0) (sr := 0) (SE := fun _ => 0) (HU := fun _ => 0) (σ := fun _ => 0) (ys := fun _ => 0) (yg := fun _ => 0) (yz := fun _ => 0) (yh := fun _ => 0) (yt := fun _ => 0) ?_ ?_
    · exact ⟨by omega, by omega, ⟨fun m _ h => absurd h (b0 m), fun _ _ => Nat.zero_le _, fun m _ h => absurd h (b0 m)⟩, ⟨fun m _ h => absurd h (b0 m), fun m _ h => absurd h (b0 m)⟩, fun m _ h => absurd h (b0 m), fun b hb => ⟨rfl, hl b hb⟩, he,
        fun m _ h => absurd h (b0 m), fun m _ h => absurd h (b0 m), fun m _ _ h => absurd h (b0 m), fun _ _ => ⟨rfl, Nat.zero_le _⟩, fun _ _ => ⟨0, by omega, rfl⟩⟩
    · exact ⟨by omega, fun j hj => by omega, fun i j _ hj => by omega, fun m _ h => absurd h (b0 m)⟩
end
section
/-! send -/
section
variable {fd pr th st fs cr : Int32} {dw se sw cw hu tu gv co pg W0 W1 : Nat → Int32} {SE SR GO HO SZ CM EN EP BS M0 M1 K0 K1 LV OW : Nat → Nat} {ds : Nat}
theorem mr_w_166 {post : Int32 → SX → Prop} {m : Nat} (hm : m < 20) (hd : ds ≤ 5)
    (K : ∀ sw' cw' : Nat → Int32, (∀ k, k < ds → sw' (m * 5 + k) = dw k) → (∀ i, (i < m * 5 ∨ m * 5 + 5 ≤ i) → sw' i = sw i ∧ cw' i = cw i) → post (mr_si (fun m => mr_b (bt pr m)) 20) (0, pr, th, st, fs, cr, dw, se, (mr_en SR), (mr_en GO), (mr_en HO), (mr_en SZ), sw', cw', (mr_en CM), (mr_eo EN), (mr_en EP), (mr_en BS), (mr_en (mr_tw M0 M1)), (mr_en (mr_tw K0 K1)), (mr_tw W0 W1), (mr_eo LV), (mr_eo OW), hu, tu, gv, co, pg)) :
    ∀ (n x : Nat) (sw' cw' : Nat → Int32), ds - x < n → x ≤ ds → (∀ k, k < x → sw' (m * 5 + k) = dw k) → (∀ i, (i < m * 5 ∨ m * 5 + 5 ≤ i) → sw' i = sw i ∧ cw' i = cw i) →
      wX_send_166 post (nI m) (nI ds) pr th st fs cr n (nI x) dw se (mr_en SR) (mr_en GO) (mr_en HO) (mr_en SZ) sw' cw' (mr_en CM) (mr_eo EN) (mr_en EP) (mr_en BS) (mr_en (mr_tw M0 M1)) (mr_en (mr_tw K0 K1)) (mr_tw W0 W1) (mr_eo LV) (mr_eo OW) hu tu gv co pg := by
  intro n
  induction n with
  | zero => intro x sw' cw' h; omega
  | succ n ih =>
    intro x sw' cw' hn hx h1 h2
    unfold wX_send_166
    refine pk_le ds x (fun e => ?_) (fun l => ?_)
    · refine mr_w_msgs (K sw' cw' (fun k hk => h1 k (by omega)) h2)
    · have ei : nI m * 5 + nI x = nI (m * 5 + x) := by
        show nI m * nI 5 + nI x = _
        rw [pk_mul, nI_add]
      rw [ei, nI_clamp (n := m * 5 + x) (by omega), nI_clamp (n := x) (by omega)]
      have ii : vp_in (nI (m * 5 + x)) 100 := vp_in_nI (by omega) (by omega)
      refine ⟨vp_in_nI (by omega) (by omega), ii, nm_e ⟨ii, nm_e (nm_r (nI_1 x) (ih (x + 1) _ _ (by omega) (by omega) (fun k hk => ?_) (fun i hi => ?_)))⟩⟩
      · by_cases z : k = x
        · rw [z, pk_us]
        · rw [pk_un (by omega)]; exact h1 k (by omega)
      · rw [pk_un (by omega), pk_un (by omega)]; exact h2 i hi
theorem mr_w_35 {post : Int32 → SX → Prop} {x1 x2 x3 : Int32} (Ka : ∀ m, m < 20 → bt pr m = false → wX_send_57 post x1 x2 x3 (nI m) fd pr th st fs cr dw se (mr_en SR) (mr_en GO) (mr_en HO) (mr_en SZ) sw cw (mr_en CM) (mr_eo EN) (mr_en EP) (mr_en BS) (mr_en (mr_tw M0 M1)) (mr_en (mr_tw K0 K1)) (mr_tw W0 W1) (mr_eo LV) (mr_eo OW) hu tu gv co pg) (Kb : (∀ m, m < 20 → bt pr m = true) → wX_send_57 post x1 x2 x3 20 fd pr th st fs cr dw se (mr_en SR) (mr_en GO) (mr_en HO) (mr_en SZ) sw cw (mr_en CM) (mr_eo EN) (mr_en EP) (mr_en BS) (mr_en (mr_tw M0 M1)) (mr_en (mr_tw K0 K1)) (mr_tw W0 W1) (mr_eo LV) (mr_eo OW) hu tu gv co pg) :
    ∀ n x, 20 - x < n → x ≤ 20 → (∀ m, m < x → bt pr m = true) → wX_send_35 post x1 x2 x3 fd pr th st fs cr dw se (mr_en SR) (mr_en GO) (mr_en HO) (mr_en SZ) sw cw (mr_en CM) (mr_eo EN) (mr_en EP) (mr_en BS) (mr_en (mr_tw M0 M1)) (mr_en (mr_tw K0 K1)) (mr_tw W0 W1) (mr_eo LV) (mr_eo OW) hu tu gv co pg n (nI x) := by
  intro n
  induction n with
  | zero => intro x h; omega
  | succ n ih =>
    intro x hn hx h
    unfold wX_send_35
    refine pk_le 20 x (fun e => ?_) (fun l => ?_)
    · have e : x = 20 := by omega
      subst e
      exact Kb h
    · refine mr_w_has (by omega) (br_c (fun z => Ka x l (mr_b0.mp z)) (fun z => nm_r (nI_1 x) (ih (x + 1) (by omega) (by omega) (fun m hm => ?_))))
      by_cases y : m = x
      · rw [y]; exact mr_bt1 z
      · exact h m (by omega)
end
theorem mr_cnt {cn : Nat} {pr th : Int32} {SE SR GO SZ : Nat → Nat} {sw yt : Nat → Int32} {σ ys yg yz yh : Nat → Nat} (Y : (mr_YL cn pr th SE SR GO SZ sw σ ys yg yz yh yt)) : mr_sm (fun m => if bt pr m = true then 1 else 0) 20 = cn := by
  rw [mr_lksN Y _ (fun m hm h => by rw [h]; rfl)]
  have e : ∀ n, mr_sm (fun _ => 1) n = n := by
    intro n
    induction n with
    | zero => rfl
    | succ n ih => show mr_sm (fun _ => 1) n + 1 = _; rw [ih]
  have e2 : mr_sm (fun j => if bt pr (σ j) = true then 1 else 0) cn = mr_sm (fun _ => 1) cn := mr_smc (fun j hj => if_pos (Y.2.1 j hj).2.1)
  exact e2.trans (e cn)
theorem mr_free {cn : Nat} {pr th : Int32} {SE SR GO SZ : Nat → Nat} {sw yt : Nat → Int32} {σ ys yg yz yh : Nat → Nat} (Y : (mr_YL cn pr th SE SR GO SZ sw σ ys yg yz yh yt)) {m : Nat} (hm : m < 20) (h : bt pr m = false) : cn < 20 := by
  have h1 := mr_cnt Y
  have h2 := mr_smu (f := fun i => if bt pr i = true then 1 else 0) (g := mr_up (fun i => if bt pr i = true then 1 else 0) m 1) hm (fun i _ z => (mr_un (f := fun i => if bt pr i = true then 1 else 0) z).symm)
  have h3 := mr_sml (f := mr_up (fun i => if bt pr i = true then 1 else 0) m 1) (n := 20) (c := 1) (fun i _ => by
    by_cases z : i = m
    · rw [z, mr_us]; exact Nat.le_refl 1
    · rw [mr_un z]; split <;> omega)
  rw [mr_us] at h2
  rw [h] at h2
  simp only [Bool.false_eq_true, if_false] at h2
  omega
theorem mr_fullc {cn : Nat} {pr th : Int32} {SE SR GO SZ : Nat → Nat} {sw yt : Nat → Int32} {σ ys yg yz yh : Nat → Nat} (Y : (mr_YL cn pr th SE SR GO SZ sw σ ys yg yz yh yt)) (h : ∀ m, m < 20 → bt pr m = true) : cn = 20 := by
  rw [← mr_cnt Y, mr_smc (f := fun m => if bt pr m = true then 1 else 0) (g := fun _ => 1) (fun i hi => if_pos (h i hi))]
  rfl
section
variable {fd yn yc : Int32} {dw yt : Nat → Int32} {ys yg yz yh : Nat → Nat} {cn ds : Nat}
theorem mr_y_92 {post : Int32 → SY → Prop} (hc : cn < 20) (hd : ds ≤ 5)
    (K : ∀ yt' : Nat → Int32, (∀ k, k < ds → yt' (5 * cn + k) = dw k) → (∀ i, i < 5 * cn → yt' i = yt i) → post (nI (cn + 1)) (0, (nI (cn + 1)), yc, dw, (mr_en ys), (mr_en yg), (mr_en yz), yt', (mr_en yh))) :
    ∀ (n x : Nat) (yt' : Nat → Int32), ds - x < n → x ≤ ds → (∀ k, k < x → yt' (5 * cn + k) = dw k) → (∀ i, i < 5 * cn → yt' i = yt i) → wY_send_92 post (nI ds) (nI cn) yc n (nI x) dw (mr_en ys) (mr_en yg) (mr_en yz) yt' (mr_en yh) := by
  intro n
  induction n with
  | zero => intro x yt' h; omega
  | succ n ih =>
    intro x yt' hn hx h1 h2
    unfold wY_send_92
    refine pk_le ds x (fun e => nm_r (nI_1 cn) (K yt' (fun k hk => h1 k (by omega)) h2)) (fun l => ?_)
    have ei : 5 * nI cn + nI x = nI (5 * cn + x) := by
      show nI 5 * nI cn + nI x = _
      rw [pk_mul, nI_add]
    rw [ei, nI_clamp (n := 5 * cn + x) (by omega), nI_clamp (n := x) (by omega)]
    refine ⟨vp_in_nI (by omega) (by omega), vp_in_nI (by omega) (by omega), nm_e (nm_r (nI_1 x) (ih (x + 1) _ (by omega) (by omega) (fun k hk => ?_) (fun i hi => ?_)))⟩
    · by_cases z : k = x
      · rw [z, pk_us]
      · rw [pk_un (by omega)]; exact h1 k (by omega)
    · rw [pk_un (by omega)]; exact h2 i hi
end
/-- the relation when message (a, b, h) of ds words has gone into slot m -/
theorem mr_rsend {k ds cn sr : Nat} {pr th st : Int32} {dw : Nat → Int32} {SE SR GO HO SZ : Nat → Nat} {sw cw : Nat → Int32} {CM EN BS : Nat → Nat} {LV OW : Nat → Nat} {hu tu : Nat → Int32} {HU σ ys yg yz yh : Nat → Nat} {yt : Nat → Int32}
    {sw' cw' yt' : Nat → Int32} {m a b h : Nat} {pr' th' : Int32}
    (X : (mr_XI k ds sr pr th st SE SR GO HO SZ sw cw CM EN BS LV OW hu tu HU)) (Y : (mr_YL cn pr th SE SR GO SZ sw σ ys yg yz yh yt)) (hm : m < 20) (pm : bt pr m = false) (d0 : ds ≠ 0) (ha : a < 16) (hb : b < 16) (hh : h ≤ 2)
    (hp : ∀ i, i < 32 → bt pr' i = (bt pr i || decide (i = m))) (ht : ∀ i, i < 32 → bt th' i = (bt th i && !decide (i = m)))
    (h1 : ∀ k, k < ds → sw' (m * 5 + k) = dw k) (h2 : ∀ i, (i < m * 5 ∨ m * 5 + 5 ≤ i) → sw' i = sw i ∧ cw' i = cw i)
    (h3 : ∀ k, k < ds → yt' (5 * cn + k) = dw k) (h4 : ∀ i, i < 5 * cn → yt' i = yt i) :
    (mr_YL (cn + 1) pr' th' (mr_up SE m sr) (mr_up SR m a) (mr_up GO m b) (mr_up SZ m ds) sw' (mr_up σ cn m) (mr_up ys cn a) (mr_up yg cn b) (mr_up yz cn ds) (mr_up yh cn 0) yt') ∧
    (mr_XI (k + 4) 0 (sr + 1) pr' th' st (mr_up SE m sr) (mr_up SR m a) (mr_up GO m b) (mr_up HO m h) (mr_up SZ m ds) sw' cw' (mr_up CM m 0) EN BS LV OW hu tu HU) := by
  obtain ⟨x1, x2, F, T, x5, x6, x7, x8, x9, x10, x11, x12⟩ := X
  have cf := mr_free Y hm pm
  obtain ⟨Y1, Y2, Y3, Y4⟩ := Y
  have po : ∀ i, i < 32 → i ≠ m → bt pr' i = bt pr i := fun i hi z => by rw [hp i hi, decide_eq_false z, Bool.or_false]
  have pmm : bt pr' m = true := by rw [hp m (by omega), decide_eq_true rfl, Bool.or_true]
  have to : ∀ i, i < 32 → i ≠ m → bt th' i = bt th i := fun i hi z => by rw [ht i hi, decide_eq_false z]; simp
  have tmm : bt th' m = false := by rw [ht m (by omega), decide_eq_true rfl]; simp
  refine ⟨⟨by omega, fun j hj => ?_, fun i j hij hj => ?_, fun i hi pi => ?_⟩, by omega, by omega, ⟨fun i hi pi => ?_, fun i hi => ?_, fun i hi pi => ?_⟩, ⟨fun i hi ti => ?_, fun i hi si => ?_⟩, fun i hi pi => ?_, x6, x7, fun i hi pi => ?_, fun i hi si => ?_, fun i j hi pi ti hj => ?_, x11, x12⟩
  · by_cases z : j = cn
    · subst z
      rw [mr_us, mr_us, mr_us, mr_us, mr_us, mr_us, mr_us, mr_us, tmm]
      exact ⟨hm, pmm, rfl, rfl, rfl, rfl, fun k hk => (h3 k hk).trans (h1 k hk).symm⟩
    · obtain ⟨a1, a2, a3, a4, a5, a6, a7⟩ := Y2 j (by omega)
      have nm : σ j ≠ m := fun e => by rw [e, pm] at a2; exact nomatch a2
      rw [mr_un z, mr_un z, mr_un z, mr_un z, mr_un z, mr_un nm, mr_un nm, mr_un nm, po _ (by omega) nm, to _ (by omega) nm]
      refine ⟨a1, a2, a3, a4, a5, a6, fun k hk => ?_⟩
      have := F.2.1 _ a1
      rw [h4 _ (by omega), (h2 _ (by omega)).1]
      exact a7 k hk
  · by_cases z : j = cn
    · subst z
      obtain ⟨a1, a2, _⟩ := Y2 i hij
      have nm : σ i ≠ m := fun e => by rw [e, pm] at a2; exact nomatch a2
      rw [mr_us, mr_us, mr_un (show i ≠ j by omega), mr_un nm]
      exact x5 _ a1 a2
    · obtain ⟨a1, a2, _⟩ := Y2 i (by omega)
      obtain ⟨b1, b2, _⟩ := Y2 j (by omega)
      have nm : σ i ≠ m := fun e => by rw [e, pm] at a2; exact nomatch a2
      have nm' : σ j ≠ m := fun e => by rw [e, pm] at b2; exact nomatch b2
      rw [mr_un z, mr_un (show i ≠ cn by omega), mr_un nm, mr_un nm']
      exact Y3 i j hij (by omega)
  · by_cases z : i = m
    · exact ⟨cn, by omega, by rw [mr_us, z]⟩
    · rw [po i (by omega) z] at pi
      obtain ⟨j, hj, e⟩ := Y4 i hi pi
      exact ⟨j, by omega, by rw [mr_un (by omega)]; exact e⟩
  · by_cases z : i = m
    · rw [z, mr_us, mr_us, mr_us, mr_us]; exact ⟨by omega, ha, hb, hh⟩
    · rw [po i (by omega) z] at pi
      rw [mr_un z, mr_un z, mr_un z, mr_un z]
      exact F.1 i hi pi
  · by_cases z : i = m
    · rw [z, mr_us]; exact x1
    · rw [mr_un z]; exact F.2.1 i hi
  · by_cases z : i = m
    · omega
    · rw [po i hi z] at pi
      exact F.2.2 i hi pi
  · by_cases z : i = m
    · rw [z]; exact pmm
    · rw [to i hi z] at ti
      rw [po i hi z]
      exact T.1 i hi ti
  · by_cases z : i = m
    · rw [z]; exact pmm
    · rw [po i hi z]
      exact T.2 i hi si
  · by_cases z : i = m
    · rw [z, mr_us]; omega
    · rw [po i (by omega) z] at pi
      rw [mr_un z]
      have := x5 i hi pi
      omega
  · by_cases z : i = m
    · rw [z, mr_us, tmm]; rfl
    · rw [po i (by omega) z] at pi
      rw [mr_un z, mr_un z, to i (by omega) z]
      exact x8 i hi pi
  · have z : i ≠ m := fun e => by
      have := T.2 i (by omega) si
      rw [e, pm] at this
      exact nomatch this
    rw [to i (by omega) z]
    exact x9 i hi si
  · have z : i ≠ m := fun e => by rw [e, tmm] at ti; exact nomatch ti
    rw [po i (by omega) z] at pi
    rw [to i (by omega) z] at ti
    rw [mr_un z] at hj
    have := F.2.1 i hi
    rw [(h2 _ (by omega)).1, (h2 _ (by omega)).2]
    exact x10 i j hi pi ti hj
theorem i_vc_send {k : Nat} {u : SX} {v : SY} (I : i_Rel k u v) (hk : k + 4 ≤ 2048) (v1 : Int32) (v2 : Int32) (v3 : Int32) : wpX_send (fun r u' => wpY_send (fun r' v' => r' = r ∧ i_Rel (k + 4) u' v') v v1 v2 v3) u v1 v2 v3 := by
  refine mr_el (P := fun u v => wpX_send (fun r u' => wpY_send (fun r' v' => r' = r ∧ i_Rel (k + 4) u' v') v v1 v2 v3) u v1 v2 v3) ?_ I
  intro ds cn sr pr th st cr dw SE SR GO HO SZ sw cw CM EN EP BS M0 M1 K0 K1 W0 W1 LV OW hu tu gv co pg HU σ ys yg yz yh yt X Y
  have R := mr_in (dw := dw) (cr := cr) (EP := EP) (M0 := M0) (M1 := M1) (K0 := K0) (K1 := K1) (W0 := W0) (W1 := W1) (gv := gv) (co := co) (pg := pg) (mr_xup X (kk' := k + 4) (by omega)) Y
  have d5 := X.1
  unfold wpX_send
  refine mr_w_place (fun a ha ea => br_f (by decide) (mr_w_place (fun b hb eb => br_f (by decide) ?_) (fun no => br_t rfl ?_))) (fun no => br_t rfl ?_)
  · have ip : ∀ post, post 1 → wpY_place post ((nI ds), (nI cn), cr, dw, (mr_en ys), (mr_en yg), (mr_en yz), yt, (mr_en yh)) v1 := fun post h => mr_y_place (fun _ _ _ => h) (fun no => absurd ⟨a, ha, ea⟩ no)
    have iq : ∀ post, post 1 → wpY_place post ((nI ds), (nI cn), cr, dw, (mr_en ys), (mr_en yg), (mr_en yz), yt, (mr_en yh)) v2 := fun post h => mr_y_place (fun _ _ _ => h) (fun no => absurd ⟨b, hb, eb⟩ no)
    refine br_c (fun c => ?_) (fun c => br_c (fun d => ?_) (fun d => ?_))
    · unfold wpY_send
      exact ip _ (br_f (by decide) (iq _ (br_f (by decide) (br_t c ⟨rfl, R⟩))))
    · unfold wpY_send
      exact ip _ (br_f (by decide) (iq _ (br_f (by decide) (br_f c (br_t d ⟨rfl, R⟩)))))
    · refine pk_eq ds 0 (fun e => ?_) (fun e => ?_)
      · unfold wpY_send
        exact ip _ (br_f (by decide) (iq _ (br_f (by decide) (br_f c (br_f d (br_t (by rw [e]; rfl) ⟨rfl, R⟩))))))
      · have nz : ¬ nI ds = 0 := nI_ne0 (by omega) (by omega)
        refine ⟨21, mr_w_35 (fun m hm pm => ?_) (fun all => ?_) 21 0 (by omega) (by omega) (fun m hm => by omega)⟩
        · have cf := mr_free Y hm pm
          obtain ⟨h, hh, rfl⟩ := nI_of2 (M := 2) (n := 2) (by decide) c (Int32.not_lt.mp d)
          subst ea eb
          have im : vp_in (nI m) 20 := vp_in_nI hm (by omega)
          unfold wX_send_57
          rw [nI_clamp (n := m) (by omega)]
          refine br_f (fun z => ?_) (nm_e (nm_e ⟨im, nm_r (e' := mr_en (mr_up SE m sr)) mr_updE (nm_r (nI_1 sr) ⟨im, nm_r (e' := mr_en (mr_up SR m a)) ?_ ⟨im, nm_r (e' := mr_en (mr_up GO m b)) ?_ ⟨im, nm_r (e' := mr_en (mr_up HO m h)) ?_ ⟨im, nm_r (e' := mr_en (mr_up SZ m ds)) ?_ ⟨im, nm_r (e' := mr_en (mr_up CM m 0)) ?_ ⟨ds + 1, ?_⟩⟩⟩⟩⟩⟩)⟩))
          · have := (nI_eq (a := m) (b := 20) (by omega) (by omega)).mp z
            omega
          · rw [mr_n8' (by omega), mr_updE]
          · rw [mr_n8' (by omega), mr_updE]
          · rw [mr_n8' (by omega), mr_updE]
          · rw [mr_n8' (by omega), mr_updE]
          · rw [show vp_nar .byte 0 = nI 0 from mr_n8 (n := 0) (by omega), mr_updE]
          · refine mr_w_166 hm d5 (fun sw' cw' h1 h2 => ?_) (ds + 1) 0 sw cw (by omega) (by omega) (fun k hk => by omega) (fun i _ => ⟨rfl, rfl⟩)
            unfold wpY_send
            have ic : vp_in (nI cn) 20 := vp_in_nI cf (by omega)
            refine ip _ (br_f (by decide) (iq _ (br_f (by decide) (br_f c (br_f d (br_f nz (br_t (nI_lt (b := 20) cf (by decide)) ?_)))))))
            rw [nI_clamp (n := cn) (by omega)]
            refine ⟨ic, nm_r (e' := mr_en (mr_up ys cn a)) mr_updE ⟨ic, nm_r (e' := mr_en (mr_up yg cn b)) mr_updE ⟨ic, nm_r (e' := mr_en (mr_up yz cn ds)) mr_updE ⟨ic, nm_r (e' := mr_en (mr_up yh cn 0)) (mr_updE (v := 0)) ⟨ds + 1, ?_⟩⟩⟩⟩⟩
            refine mr_y_92 cf d5 (fun yt' h3 h4 => ?_) (ds + 1) 0 yt (by omega) (by omega) (fun k hk => by omega) (fun i _ => rfl)
            obtain ⟨Y', X'⟩ := mr_rsend X Y hm pm e ha hb hh (fun i hi => mr_set pr (m := m) (by omega) hi) (fun i hi => mr_clr th (m := m) (by omega) hi) h1 h2 h3 h4
            exact ⟨(mr_msgs Y').symm, mr_in (ds := 0) X' Y'⟩
        · have c20 := mr_fullc Y all
          unfold wX_send_57
          refine br_t rfl ?_
          unfold wpY_send
          exact ip _ (br_f (by decide) (iq _ (br_f (by decide) (br_f c (br_f d (br_f nz (br_f (by rw [c20]; decide) ⟨rfl, R⟩)))))))
  · unfold wpY_send
    exact mr_y_place (fun _ _ _ => br_f (by decide) (mr_y_place (fun b hb eb => absurd ⟨b, hb, eb⟩ no) (fun _ => br_t rfl ⟨rfl, R⟩))) (fun _ => br_t rfl ⟨rfl, R⟩)
  · unfold wpY_send
    exact mr_y_place (fun a ha ea => absurd ⟨a, ha, ea⟩ no) (fun _ => br_t rfl ⟨rfl, R⟩)
end
section
/-! take -/
/-- f with the places from j to x - 1 moved down by one -/
def mr_sh {α : Type} (f : Nat → α) (j x : Nat) : Nat → α := fun i => if j ≤ i ∧ i < x then f (i + 1) else f i
theorem mr_sh0 {α : Type} {f : Nat → α} {j : Nat} : mr_sh f j j = f := by
  funext i
  exact if_neg (by omega)
theorem mr_shs {α : Type} {f : Nat → α} {j x : Nat} (h : j ≤ x) : mr_up (mr_sh f j x) x (f (x + 1)) = mr_sh f j (x + 1) := by
  funext i
  unfold mr_up mr_sh
  by_cases z : i = x
  · rw [if_pos z, if_pos (by omega), z]
  · rw [if_neg z]
    by_cases y : j ≤ i ∧ i < x
    · rw [if_pos y, if_pos (by omega)]
    · rw [if_neg y, if_neg (by omega)]
theorem mr_shp {α : Type} {f : Nat → α} {j x i : Nat} (h : j ≤ i ∧ i < x) : mr_sh f j x i = f (i + 1) := if_pos h
theorem mr_shn {α : Type} {f : Nat → α} {j x i : Nat} (h : ¬ (j ≤ i ∧ i < x)) : mr_sh f j x i = f i := if_neg h
theorem mr_shx {α : Type} {f : Nat → α} {j x : Nat} : mr_sh f j x (x + 1) = f (x + 1) := if_neg (by omega)
/-- the same for texts, five words a place -/
def mr_s5 (f : Nat → Int32) (j y : Nat) : Nat → Int32 := fun i => if 5 * j ≤ i ∧ i < y then f (i + 5) else f i
theorem mr_s50 {f : Nat → Int32} {j : Nat} : mr_s5 f j (5 * j) = f := by
  funext i
  exact if_neg (by omega)
theorem mr_s5s {f : Nat → Int32} {j y : Nat} (h : 5 * j ≤ y) : upd (mr_s5 f j y) y (mr_s5 f j y (y + 5)) = mr_s5 f j (y + 1) := by
  funext i
  unfold upd mr_s5
  by_cases z : i = y
  · rw [if_pos z, if_neg (by omega), if_pos (by omega), z]
  · rw [if_neg z]
    by_cases w : 5 * j ≤ i ∧ i < y
    · rw [if_pos w, if_pos (by omega)]
    · rw [if_neg w, if_neg (by omega)]
section
variable {fd yn yc : Int32} {dw yt : Nat → Int32} {ys yg yz yh : Nat → Nat} {cn : Nat}
theorem mr_y_111 {post : Int32 → SY → Prop} {J : Int32 → (Nat → Int32) → (Nat → Int32) → (Nat → Int32) → (Nat → Int32) → (Nat → Int32) → (Nat → Int32) → Prop} {x4 : Int32} {j x : Nat} (hx : x + 1 < 20) (hj : j ≤ x)
    (K : J (nI (x + 1)) dw (mr_en ys) (mr_en yg) (mr_en yz) (mr_s5 yt j (5 * (x + 1))) (mr_en yh)) : ∀ n i, 5 - i < n → i ≤ 5 → wY_take_111 post J x4 (nI x) fd yn yc n (nI i) dw (mr_en ys) (mr_en yg) (mr_en yz) (mr_s5 yt j (5 * x + i)) (mr_en yh) := by
  intro n
  induction n with
  | zero => intro i h; omega
  | succ n ih =>
    intro i hn hi
    unfold wY_take_111
    refine pk_le 5 i (fun e => nm_r (nI_1 x) ?_) (fun l => ?_)
    · have e : i = 5 := by omega
      subst e
      exact K
    · have e1 : 5 * nI x + 5 + nI i = nI (5 * x + i + 5) := by
        show nI 5 * nI x + nI 5 + nI i = _
        rw [pk_mul, nI_add, nI_add, show 5 * x + 5 + i = 5 * x + i + 5 by omega]
      have e2 : 5 * nI x + nI i = nI (5 * x + i) := by
        show nI 5 * nI x + nI i = _
        rw [pk_mul, nI_add]
      rw [e1, e2, nI_clamp (n := 5 * x + i + 5) (by omega), nI_clamp (n := 5 * x + i) (by omega)]
      exact ⟨vp_in_nI (by omega) (by omega), vp_in_nI (by omega) (by omega), nm_r (mr_s5s (by omega)) (nm_r (nI_1 i) (ih (i + 1) (by omega) (by omega)))⟩
theorem mr_y_35 {post : Int32 → SY → Prop} {x4 : Int32} {j : Nat} (hc : cn < 20) (hy : ∀ i, i < cn + 1 → yh i ≤ 1)
    (K : post x4 (fd, (nI cn), yc, dw, (mr_en (mr_sh ys j cn)), (mr_en (mr_sh yg j cn)), (mr_en (mr_sh yz j cn)), (mr_s5 yt j (5 * cn)), (mr_en (mr_sh yh j cn)))) :
    ∀ n x, cn - x < n → j ≤ x → x ≤ cn → wY_take_35 post x4 fd (nI cn) yc n (nI x) dw (mr_en (mr_sh ys j x)) (mr_en (mr_sh yg j x)) (mr_en (mr_sh yz j x)) (mr_s5 yt j (5 * x)) (mr_en (mr_sh yh j x)) := by
  intro n
  induction n with
  | zero => intro x h; omega
  | succ n ih =>
    intro x hn hj hx
    unfold wY_take_35
    refine pk_le cn x (fun e => ?_) (fun l => ?_)
    · have e : x = cn := by omega
      subst e
      exact K
    · have i0 : vp_in (nI x) 20 := vp_in_nI (by omega) (by omega)
      have i1 : vp_in (nI (x + 1)) 20 := vp_in_nI (by omega) (by omega)
      have E : ∀ f : Nat → Nat, upd (mr_en (mr_sh f j x)) x (mr_en (mr_sh f j x) (x + 1)) = mr_en (mr_sh f j (x + 1)) := fun f => by
        show upd (mr_en (mr_sh f j x)) x (nI (mr_sh f j x (x + 1))) = _
        rw [mr_shx, mr_updE, mr_shs hj]
      have B1 : vp_nar .boolean (mr_en (mr_sh yh j x) (x + 1)) = mr_en (mr_sh yh j x) (x + 1) := by
        show vp_nar .boolean (nI (mr_sh yh j x (x + 1))) = nI (mr_sh yh j x (x + 1))
        rw [mr_shx]
        rcases (show yh (x + 1) = 0 ∨ yh (x + 1) = 1 by have := hy (x + 1) (by omega); omega) with z | z <;> rw [z] <;> rfl
      rw [nI_1, nI_clamp (n := x) (by omega), nI_clamp (n := x + 1) (by omega), B1]
      exact ⟨i1, i0, nm_r (E ys) ⟨i1, i0, nm_r (E yg) ⟨i1, i0, nm_r (E yz) ⟨i1, i0, nm_r (E yh) ⟨6, mr_y_111 (by omega) hj (ih (x + 1) (by omega) (by omega) (by omega)) 6 0 (by omega) (by omega)⟩⟩⟩⟩⟩
end
/-- the relation when the message at place j0 has gone -/
theorem mr_rtake {k ds c sr : Nat} {pr th st : Int32} {SE SR GO HO SZ : Nat → Nat} {sw cw : Nat → Int32} {CM EN BS : Nat → Nat} {LV OW : Nat → Nat} {hu tu : Nat → Int32} {HU σ ys yg yz yh : Nat → Nat} {yt : Nat → Int32} {m j0 : Nat} {pr' th' st' : Int32}
    (X : (mr_XI k ds sr pr th st SE SR GO HO SZ sw cw CM EN BS LV OW hu tu HU)) (Y : (mr_YL (c + 1) pr th SE SR GO SZ sw σ ys yg yz yh yt)) (hm : m < 20) (hj : j0 < c + 1) (e0 : σ j0 = m)
    (hp : ∀ i, i < 32 → bt pr' i = (bt pr i && !decide (i = m))) (ht : ∀ i, i < 32 → bt th' i = (bt th i && !decide (i = m))) (hs : ∀ i, i < 32 → bt st' i = (bt st i && !decide (i = m))) :
    (mr_XI (k + 4) ds sr pr' th' st' SE SR GO HO SZ sw cw CM EN BS LV OW hu tu HU) ∧ (mr_YL c pr' th' SE SR GO SZ sw (mr_sh σ j0 c) (mr_sh ys j0 c) (mr_sh yg j0 c) (mr_sh yz j0 c) (mr_sh yh j0 c) (mr_s5 yt j0 (5 * c))) := by
  obtain ⟨x1, x2, F, T, x5, x6, x7, x8, x9, x10, x11, x12⟩ := X
  have inj := mr_lki Y
  obtain ⟨Y1, Y2, Y3, Y4⟩ := Y
  have D : ∀ (x y : Int32), (∀ i, i < 32 → bt x i = (bt y i && !decide (i = m))) → ∀ i, i < 32 → bt x i = true → bt y i = true ∧ i ≠ m := fun x y h i hi t => by
    rw [h i hi] at t
    by_cases z : i = m
    · rw [decide_eq_true z] at t; simp at t
    · rw [decide_eq_false z] at t
      exact ⟨by simpa using t, z⟩
  have U : ∀ (x y : Int32), (∀ i, i < 32 → bt x i = (bt y i && !decide (i = m))) → ∀ i, i < 32 → i ≠ m → bt x i = bt y i := fun x y h i hi z => by
    rw [h i hi, decide_eq_false z]; simp
  have P := D _ _ hp
  have TT := D _ _ ht
  have SS := D _ _ hs
  have PU := U _ _ hp
  have TU := U _ _ ht
  refine ⟨⟨x1, by omega, ⟨fun i hi pi => F.1 i hi (P i (by omega) pi).1, F.2.1, fun i hi pi => F.2.2 i hi (P i hi pi).1⟩, ⟨fun i hi ti => ?_, fun i hi si => ?_⟩, fun i hi pi => x5 i hi (P i (by omega) pi).1, x6, x7, fun i hi pi => ?_, fun i hi si => ?_, fun i j hi pi ti hj => x10 i j hi (P i (by omega) pi).1 (TT i (by omega) ti).1 hj, x11, x12⟩, by omega, fun j hj' => ?_, fun i j hij hj' => ?_, fun i hi pi => ?_⟩
  · obtain ⟨t1, t2⟩ := TT i hi ti
    rw [PU i hi t2]
    exact T.1 i hi t1
  · obtain ⟨t1, t2⟩ := SS i hi si
    rw [PU i hi t2]
    exact T.2 i hi t1
  · obtain ⟨t1, t2⟩ := P i (by omega) pi
    rw [TU i (by omega) t2]
    exact x8 i hi t1
  · obtain ⟨t1, t2⟩ := SS i (by omega) si
    rw [TU i (by omega) t2]
    exact x9 i hi t1
  · -- a place of the new list is a place of the old
    have main : ∀ j', j' < c + 1 → j' ≠ j0 → mr_sh σ j0 c j = σ j' → mr_sh ys j0 c j = ys j' → mr_sh yg j0 c j = yg j' → mr_sh yz j0 c j = yz j' → mr_sh yh j0 c j = yh j' → (∀ k, k < 5 → mr_s5 yt j0 (5 * c) (5 * j + k) = yt (5 * j' + k)) →
        mr_sh σ j0 c j < 20 ∧ bt pr' (mr_sh σ j0 c j) = true ∧ mr_sh ys j0 c j = SR (mr_sh σ j0 c j) ∧ mr_sh yg j0 c j = GO (mr_sh σ j0 c j) ∧ mr_sh yz j0 c j = SZ (mr_sh σ j0 c j) ∧ mr_sh yh j0 c j = (if bt th' (mr_sh σ j0 c j) = true then 1 else 0) ∧
          ∀ k, k < SZ (mr_sh σ j0 c j) → mr_s5 yt j0 (5 * c) (5 * j + k) = sw (mr_sh σ j0 c j * 5 + k) := fun j' hj'' ne q1 q2 q3 q4 q5 q6 => by
      obtain ⟨a1, a2, a3, a4, a5, a6, a7⟩ := Y2 j' hj''
      have nm : σ j' ≠ m := fun e => ne (inj _ _ hj'' hj (e.trans e0.symm))
      rw [q1, q2, q3, q4, q5, PU _ (by omega) nm, TU _ (by omega) nm]
      refine ⟨a1, a2, a3, a4, a5, a6, fun k hk => ?_⟩
      have := F.2.1 _ a1
      rw [q6 k (by omega)]
      exact a7 k hk
    by_cases z : j0 ≤ j
    · have w : j0 ≤ j ∧ j < c := ⟨z, hj'⟩
      refine main (j + 1) (by omega) (by omega) (if_pos w) (if_pos w) (if_pos w) (if_pos w) (if_pos w) (fun k hk => ?_)
      unfold mr_s5
      rw [if_pos (by omega), show 5 * j + k + 5 = 5 * (j + 1) + k by omega]
    · have w : ¬ (j0 ≤ j ∧ j < c) := fun y => z y.1
      refine main j (by omega) (by omega) (if_neg w) (if_neg w) (if_neg w) (if_neg w) (if_neg w) (fun k hk => ?_)
      unfold mr_s5
      rw [if_neg (by omega)]
  · by_cases z : j0 ≤ j
    · rw [mr_shp (i := j) ⟨z, hj'⟩]
      by_cases y : j0 ≤ i
      · rw [mr_shp (i := i) ⟨y, by omega⟩]; exact Y3 _ _ (by omega) (by omega)
      · rw [mr_shn (i := i) (fun w => y w.1)]; exact Y3 _ _ (by omega) (by omega)
    · rw [mr_shn (i := j) (fun w => z w.1), mr_shn (i := i) (fun w => by omega)]
      exact Y3 _ _ hij (by omega)
  · obtain ⟨t1, t2⟩ := P i (by omega) pi
    obtain ⟨j, hj', e⟩ := Y4 i hi t1
    have ne : j ≠ j0 := fun y => t2 (by rw [← e, y, e0])
    by_cases z : j0 ≤ j
    · refine ⟨j - 1, by omega, ?_⟩
      rw [mr_shp (by omega), show j - 1 + 1 = j by omega]
      exact e
    · refine ⟨j, by omega, ?_⟩
      rw [mr_shn (fun w => z w.1)]
      exact e
theorem i_vc_take {k : Nat} {u : SX} {v : SY} (I : i_Rel k u v) (hk : k + 4 ≤ 2048) (v1 : Int32) (v2 : Int32) : wpX_take (fun r u' => wpY_take (fun r' v' => r' = r ∧ i_Rel (k + 4) u' v') v v1 v2) u v1 v2 := by
  refine mr_el (P := fun u v => wpX_take (fun r u' => wpY_take (fun r' v' => r' = r ∧ i_Rel (k + 4) u' v') v v1 v2) u v1 v2) ?_ I
  intro ds cn sr pr th st cr dw SE SR GO HO SZ sw cw CM EN EP BS M0 M1 K0 K1 W0 W1 LV OW hu tu gv co pg HU σ ys yg yz yh yt X Y
  have R := mr_in (dw := dw) (cr := cr) (EP := EP) (M0 := M0) (M1 := M1) (K0 := K0) (K1 := K1) (W0 := W0) (W1 := W1) (gv := gv) (co := co) (pg := pg) (mr_xup X (kk' := k + 4) (by omega)) Y
  have hse : ∀ m, m < 20 → bt pr m = true → SE m < 2 ^ 31 := fun m hm pm => by
    obtain ⟨x1, x2, F, T, x5, _⟩ := X
    have := x5 m hm pm; omega
  have hy : ∀ j, j < cn → yh j ≤ 1 := fun j hj => (mr_lkh Y hj).1
  have c20 := Y.1
  unfold wpX_take
  refine mr_w_find hse (fun m hm am em => br_t (nI_pos' (by omega)) (nm_e (nm_e (nm_e ⟨vp_in_nI hm (by omega), ?_⟩)))) (fun no => br_f (by decide) ?_)
  · obtain ⟨j0, hj0, e0, u0, n0⟩ := mr_fsome Y hm am em
    unfold wpY_take
    refine mr_y_find Y.1 hy (fun j hj aj ej => br_t (nI_pos' (by omega)) ⟨vp_in_nI (by omega) (by omega), ?_⟩) (fun no => absurd no n0)
    have ee := u0 j hj aj ej
    subst ee
    obtain ⟨c, rfl⟩ : ∃ c, cn = c + 1 := ⟨cn - 1, by omega⟩
    rw [nI_clamp (n := j) (by omega), nI_clamp (n := m) (by omega)]
    refine nm_e (nm_r (nI_pred c) ⟨c + 1, ?_⟩)
    obtain ⟨X', Y'⟩ := mr_rtake (pr' := pr &&& (((1 : Int32) <<< (nI m &&& 31)) ^^^ (-1))) (th' := th &&& (((1 : Int32) <<< (nI m &&& 31)) ^^^ (-1))) (st' := st &&& (((1 : Int32) <<< (nI m &&& 31)) ^^^ (-1))) X Y hm hj e0
      (fun i hi => mr_clr pr (by omega) hi) (fun i hi => mr_clr th (by omega) hi) (fun i hi => mr_clr st (by omega) hi)
    have h := mr_y_35 (cn := c) (j := j) (ys := ys) (yg := yg) (yz := yz) (yh := yh) (yt := yt) (dw := dw) (fd := nI ds) (yc := cr) (x4 := mr_en yz j)
      (post := fun r' v' => r' = mr_en SZ m ∧ i_Rel (k + 4) ((nI ds), (pr &&& (((1 : Int32) <<< (nI m &&& 31)) ^^^ (-1))), (th &&& (((1 : Int32) <<< (nI m &&& 31)) ^^^ (-1))), (st &&& (((1 : Int32) <<< (nI m &&& 31)) ^^^ (-1))), (nI sr), cr, dw, (mr_en SE), (mr_en SR), (mr_en GO), (mr_en HO), (mr_en SZ), sw, cw, (mr_en CM), (mr_eo EN), (mr_en EP), (mr_en BS), (mr_en (mr_tw M0 M1)), (mr_en (mr_tw K0 K1)), (mr_tw W0 W1), (mr_eo LV), (mr_eo OW), hu, tu, gv, co, pg) v')
      (by omega) hy ⟨?_, mr_in X' Y'⟩ (c + 1) j (by omega) (by omega) (by omega)
    · rw [mr_sh0, mr_sh0, mr_sh0, mr_sh0, mr_s50] at h
      exact h
    · rw [← e0]
      exact congrArg nI (Y.2.1 j hj0).2.2.2.2.1
  · have n0 := mr_fnone Y no
    unfold wpY_take
    exact mr_y_find Y.1 hy (fun j hj aj ej => absurd ej (n0 j hj aj)) (fun _ => br_f (by decide) ⟨rfl, R⟩)
end
section
/-! settle -/
def mr_on (yh : Nat → Nat) (x : Nat) : Nat → Nat := fun i => if i < x then 1 else yh i
theorem mr_on0 {yh : Nat → Nat} : mr_on yh 0 = yh := by
  funext i
  exact if_neg (by omega)
theorem mr_ons {yh : Nat → Nat} {x : Nat} : mr_up (mr_on yh x) x 1 = mr_on yh (x + 1) := by
  funext i
  unfold mr_up mr_on
  by_cases z : i = x
  · rw [if_pos z, if_pos (by omega)]
  · rw [if_neg z]
    by_cases y : i < x
    · rw [if_pos y, if_pos (by omega)]
    · rw [if_neg y, if_neg (by omega)]
theorem mr_onk {yh : Nat → Nat} {x : Nat} (h : yh x = 1) : mr_on yh x = mr_on yh (x + 1) := by
  funext i
  unfold mr_on
  by_cases y : i < x
  · rw [if_pos y, if_pos (by omega)]
  · rw [if_neg y]
    by_cases z : i = x
    · rw [if_pos (by omega), z, h]
    · rw [if_neg (by omega)]
section
variable {fd yn yc : Int32} {dw yt : Nat → Int32} {ys yg yz yh : Nat → Nat} {cn : Nat}
theorem mr_y_set {post : Int32 → SY → Prop} (hc : cn ≤ 20) (hy : ∀ j, j < cn → yh j ≤ 1 ∧ ys j < 16 ∧ yg j < 16 ∧ yz j ≤ 5)
    (K : post (mr_si (fun j => mr_b (decide (yh j = 0))) cn) (fd, (nI cn), (yc + nI (mr_sm (fun j => if yh j = 0 then mr_di (ys j) (yg j) * (yz j + 1) else 0) cn)), dw, (mr_en ys), (mr_en yg), (mr_en yz), yt, (mr_en (mr_on yh cn)))) : wpY_settle post (fd, (nI cn), yc, dw, (mr_en ys), (mr_en yg), (mr_en yz), yt, (mr_en yh)) := by
  have L : ∀ n x, cn - x < n → x ≤ cn → wY_settle_4 post fd (nI cn) n (mr_si (fun j => mr_b (decide (yh j = 0))) x) (nI x) (yc + nI (mr_sm (fun j => if yh j = 0 then mr_di (ys j) (yg j) * (yz j + 1) else 0) x)) dw (mr_en ys) (mr_en yg) (mr_en yz) yt (mr_en (mr_on yh x)) := by
    intro n
    induction n with
    | zero => intro x h; omega
    | succ n ih =>
      intro x hn hx
      unfold wY_settle_4
      refine pk_le cn x (fun e => ?_) (fun l => ?_)
      · have e : x = cn := by omega
        subst e
        exact K
      · have nx := ih (x + 1) (by omega) (by omega)
        obtain ⟨h1, h2, h3, h4⟩ := hy x l
        have ix : vp_in (nI x) 20 := vp_in_nI (by omega) (by omega)
        have ox : mr_on yh x x = yh x := if_neg (by omega)
        rw [nI_clamp (n := x) (by omega)]
        refine ⟨ix, pk_eq (yh x) 0 (fun z => ⟨ix, nm_r (e' := mr_en (mr_on yh (x + 1))) ?_ (nm_r (e' := mr_si (fun j => mr_b (decide (yh j = 0))) (x + 1)) (mr_e1 (decide_eq_true z)) ⟨ix, ix, ?_⟩)⟩) (fun z => nm_r (nI_1 x) ?_) (congrArg nI ox)⟩
        · rw [show vp_nar .boolean 1 = nI 1 from rfl, mr_updE, mr_ons]
        · refine mr_y_dist h2 h3 ⟨ix, nm_r (e' := yc + nI (mr_sm (fun j => if yh j = 0 then mr_di (ys j) (yg j) * (yz j + 1) else 0) (x + 1))) ?_ (nm_r (nI_1 x) nx)⟩
          show yc + nI _ + nI _ * (nI (yz x) + 1) = _
          rw [nI_1, pk_mul, Int32.add_assoc, nI_add]
          congr 2
          show _ = _ + (if _ then _ else _)
          rw [if_pos z]
        · have e1 : mr_si (fun j => mr_b (decide (yh j = 0))) (x + 1) = mr_si (fun j => mr_b (decide (yh j = 0))) x := mr_e2 (f := fun j => decide (yh j = 0)) (decide_eq_false z)
          have e2 : mr_sm (fun j => if yh j = 0 then mr_di (ys j) (yg j) * (yz j + 1) else 0) (x + 1) = mr_sm (fun j => if yh j = 0 then mr_di (ys j) (yg j) * (yz j + 1) else 0) x := by
            show _ + (if _ then _ else _) = _
            rw [if_neg z]
            rfl
          rw [e1, e2, ← mr_onk (by omega)] at nx
          exact nx
  unfold wpY_settle
  have h := L (cn + 1) 0 (by omega) (by omega)
  rw [mr_on0] at h
  have e : yc + nI (mr_sm (fun j => if yh j = 0 then mr_di (ys j) (yg j) * (yz j + 1) else 0) 0) = yc := Int32.add_zero _
  rw [e] at h
  exact ⟨cn + 1, h⟩
end
theorem i_vc_settle {k : Nat} {u : SX} {v : SY} (I : i_Rel k u v) (hk : k + 4 ≤ 2048) : wpX_settle (fun r u' => wpY_settle (fun r' v' => r' = r ∧ i_Rel (k + 4) u' v') v) u := by
  refine mr_el (P := fun u v => wpX_settle (fun r u' => wpY_settle (fun r' v' => r' = r ∧ i_Rel (k + 4) u' v') v) u) ?_ I
  intro ds cn sr pr th st cr dw SE SR GO HO SZ sw cw CM EN EP BS M0 M1 K0 K1 W0 W1 LV OW hu tu gv co pg HU σ ys yg yz yh yt X Y
  obtain ⟨x1, x2, F, T, x5, x6, x7, x8, x9, x10, x11, x12⟩ := X
  refine mr_w_settle F T x6 x7 x8 x9 x10 x11 x12 (fun st' cw' CM' EN' EP' BS' M0' M1' K0' K1' W0' W1' LV' OW' hu' tu' gv' co' pg' HU' T' f1 f2 f3 f4 f5 f6 => ?_)
  refine mr_y_set Y.1 (fun j hj => ?_) ⟨?_, ?_⟩
  · obtain ⟨a1, a2, a3, a4, a5, a6, a7⟩ := Y.2.1 j hj
    obtain ⟨b1, b2, b3, b4⟩ := F.1 _ a1 a2
    rw [a3, a4, a5]
    exact ⟨(mr_lkh Y hj).1, b2, b3, F.2.1 _ a1⟩
  · rw [mr_lks Y _ (fun m hm h => by rw [h]; rfl)]
    refine mr_sic (fun j hj => ?_)
    rw [(Y.2.1 j hj).2.1, (mr_lkh Y hj).2.2, Bool.true_and]
  · have e : mr_sm (fun m => if bt pr m = true ∧ bt th m = false then mr_di (SR m) (GO m) * (SZ m + 1) else 0) 20 = mr_sm (fun j => if yh j = 0 then mr_di (ys j) (yg j) * (yz j + 1) else 0) cn := by
      rw [mr_lksN Y _ (fun m hm h => if_neg (fun z => by rw [h] at z; exact nomatch z.1))]
      refine mr_smc (fun j hj => ?_)
      obtain ⟨a1, a2, a3, a4, a5, a6, a7⟩ := Y.2.1 j hj
      rw [a3, a4, a5]
      cases z : bt th (σ j)
      · rw [z, if_neg (by decide)] at a6
        rw [if_pos ⟨a2, rfl⟩, if_pos a6]
      · rw [z, if_pos rfl] at a6
        rw [if_neg (fun y => nomatch y.2), if_neg (by omega)]
    rw [e]
    obtain ⟨Y1, Y2, Y3, Y4⟩ := Y
    refine mr_in ⟨x1, by omega, F, T', x5, f1, f2, fun m hm pm => ?_, fun m hm sm => T'.2 m (by omega) sm, fun m i hm pm _ hi => f4 m i hm pm hi, f5, f6⟩ ⟨Y1, fun j hj => ?_, Y3, Y4⟩
    · rw [if_pos pm]; exact f3 m hm pm
    · obtain ⟨a1, a2, a3, a4, a5, a6, a7⟩ := Y2 j hj
      refine ⟨a1, a2, a3, a4, a5, ?_, a7⟩
      rw [if_pos a2]
      exact if_pos hj
end
