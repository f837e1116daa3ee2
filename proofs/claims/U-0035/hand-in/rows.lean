section
theorem pk_us {f : Nat → Int32} {k : Nat} {x : Int32} : upd f k x k = x := if_pos rfl
theorem pk_un {f : Nat → Int32} {k j : Nat} {x : Int32} (h : j ≠ k) : upd f k x j = f j := if_neg h
theorem pk_uLs {f : Nat → Int64} {k : Nat} {x : Int64} : vp_updL f k x k = x := if_pos rfl
theorem pk_uLn {f : Nat → Int64} {k j : Nat} {x : Int64} (h : j ≠ k) : vp_updL f k x j = f j := if_neg h
theorem pk_sub {a b : Nat} (h : b ≤ a) : nI a - nI b = nI (a - b) := by
  obtain ⟨c, rfl⟩ : ∃ c, a = c + b := ⟨a - b, by omega⟩
  rw [← nI_add, Int32.add_sub_cancel, Nat.add_sub_cancel]
theorem pk_m1 (n : Nat) : nI (n + 1) + (-1) = nI n := by
  rw [← nI_1, Int32.add_assoc, show (1 : Int32) + (-1) = 0 from rfl, Int32.add_zero]
theorem pk_mul (a b : Nat) : nI a * nI b = nI (a * b) := (Int32.ofNat_mul a b).symm
theorem pk_div {a d : Nat} (ha : a < 2 ^ 31) (h0 : 0 < d) (hd : d < 2 ^ 31) : nI a / nI d = nI (a / d) := by
  apply Int32.toInt_inj.mp
  rw [lg_idiv_nonneg (by rw [nI_toInt ha]; omega) (by rw [nI_toInt hd]; omega), nI_toInt ha, nI_toInt hd, nI_toInt (Nat.lt_of_le_of_lt (Nat.div_le_self a d) ha)]
  first | rfl | exact (Int.natCast_ediv _ _).symm
theorem pk_rem {a d : Nat} (ha : a < 2 ^ 31) (h0 : 0 < d) (hd : d < 2 ^ 31) : nI a - nI a / nI d * nI d = nI (a % d) := by
  rw [pk_div ha h0 hd, pk_mul, pk_sub (Nat.div_mul_le_self a d)]
  exact congrArg nI (by have := Nat.div_add_mod' a d; omega)
theorem pk_sub_toInt {a b : Nat} (ha : a < 2 ^ 30) (hb : b < 2 ^ 30) : (nI a - nI b).toInt = (a : Int) - b := by
  rw [Int32.toInt_sub, nI_toInt (by omega), nI_toInt (by omega)]
  exact Int.bmod_eq_of_le (by omega) (by omega)
theorem pk_sneg {a b : Nat} (hb : b < 2 ^ 30) (h : a < b) : nI a - nI b < 0 := by
  rw [Int32.lt_iff_toInt_lt, pk_sub_toInt (by omega) hb, show (0 : Int32).toInt = 0 from by decide]
  omega
theorem pk_ix (x : Int32) {n : Nat} (hn : n < 2 ^ 31) : x < 0 ∨ nI n ≤ x ∨ ∃ j : Nat, j < n ∧ x = nI j := by
  by_cases h : x < 0
  · exact Or.inl h
  · obtain ⟨j, hj, rfl⟩ := nI_of h
    by_cases h2 : j < n
    · exact Or.inr (Or.inr ⟨j, h2, rfl⟩)
    · exact Or.inr (Or.inl (nI_le (by omega) hj))
theorem pk_le {x y : Int32} {A B : Prop} (a b : Nat) (f : a ≤ b → A) (g : b < a → B) (hx : x = nI a := by rfl) (hy : y = nI b := by rfl) (ha : a < 2 ^ 31 := by omega) (hb : b < 2 ^ 31 := by omega) : (x ≤ y → A) ∧ (¬ x ≤ y → B) := by
  subst hx hy
  rw [nI_leI ha hb]
  exact ⟨f, fun z => g (by omega)⟩
theorem pk_lt {x y : Int32} {A B : Prop} (a b : Nat) (f : a < b → A) (g : b ≤ a → B) (hx : x = nI a := by rfl) (hy : y = nI b := by rfl) (ha : a < 2 ^ 31 := by omega) (hb : b < 2 ^ 31 := by omega) : (x < y → A) ∧ (¬ x < y → B) := by
  subst hx hy
  rw [nI_ltI ha hb]
  exact ⟨f, fun z => g (by omega)⟩
theorem pk_eq {x y : Int32} {A B : Prop} (a b : Nat) (f : a = b → A) (g : a ≠ b → B) (hx : x = nI a := by rfl) (hy : y = nI b := by rfl) (ha : a < 2 ^ 31 := by omega) (hb : b < 2 ^ 31 := by omega) : (x = y → A) ∧ (¬ x = y → B) := by
  subst hx hy
  rw [nI_eq ha hb]
  exact ⟨f, g⟩
theorem pk_in {x : Int32} (n N : Nat) (h : n < N) (hx : x = nI n := by rfl) (hN : N < 2 ^ 31 := by omega) : vp_in x N := by
  subst hx
  exact vp_in_nI h hN
theorem pk_cl {x : Int32} (n : Nat) (hx : x = nI n := by rfl) (h : n < 2 ^ 31 := by omega) : x.toNatClampNeg = n := by
  subst hx
  exact nI_clamp h
theorem pk_tn {n : Nat} (h : n < 2 ^ 32) : (nI n).toBitVec.toNat = n := Nat.mod_eq_of_lt h
theorem pk_and (x : Int32) {m : Int32} (k : Nat) (hm : m.toBitVec.toNat = 2 ^ k - 1) : x &&& m = nI (x.toBitVec.toNat % 2 ^ k) := by
  apply Int32.toBitVec_inj.mp
  apply BitVec.eq_of_toNat_eq
  rw [Int32.toBitVec_and, BitVec.toNat_and, hm, Nat.and_two_pow_sub_one_eq_mod]
  show _ = (BitVec.ofNat 32 _).toNat
  rw [BitVec.toNat_ofNat]
  exact (Nat.mod_eq_of_lt (Nat.lt_of_le_of_lt (Nat.mod_le _ _) x.toBitVec.isLt)).symm
theorem pk_andN {n : Nat} (h : n < 2 ^ 32) {m : Int32} (k : Nat) (hm : m.toBitVec.toNat = 2 ^ k - 1) : nI n &&& m = nI (n % 2 ^ k) := by
  rw [pk_and _ k hm, pk_tn h]
theorem pk_andE (x : Int32) {m : Int32} (k : Nat) (hm : m.toBitVec.toNat = 2 ^ k - 1) : ∃ j : Nat, j < 2 ^ k ∧ x &&& m = nI j := ⟨_, Nat.mod_lt _ (Nat.two_pow_pos k), pk_and x k hm⟩
theorem pk_andIn (x : Int32) {m : Int32} (k : Nat) (hm : m.toBitVec.toNat = 2 ^ k - 1) (hk : k ≤ 30) : vp_in (x &&& m) (2 ^ k) := by
  obtain ⟨j, hj, e⟩ := pk_andE x k hm
  rw [e]
  exact vp_in_nI hj (Nat.lt_of_le_of_lt (Nat.pow_le_pow_right (by decide) hk) (by decide))
theorem pk_shl (a s : Int32) (k : Nat) (hs : (s.toBitVec.smod 32).toNat = k) : (a <<< s).toBitVec.toNat = a.toBitVec.toNat * 2 ^ k % 2 ^ 32 := by
  show (a.toBitVec <<< (s.toBitVec.smod 32).toNat).toNat = _
  rw [hs, BitVec.toNat_shiftLeft, Nat.shiftLeft_eq]
theorem pk_shlN {n : Nat} (s : Int32) (k : Nat) (hs : (s.toBitVec.smod 32).toNat = k) (h : n * 2 ^ k < 2 ^ 32) : nI n <<< s = nI (n * 2 ^ k) := by
  apply Int32.toBitVec_inj.mp
  apply BitVec.eq_of_toNat_eq
  have hn : n < 2 ^ 32 := Nat.lt_of_le_of_lt (Nat.le_mul_of_pos_right n (Nat.two_pow_pos k)) h
  rw [pk_shl _ _ k hs, pk_tn hn, pk_tn h, Nat.mod_eq_of_lt h]
/-! ===== Int32 by its bits: bt x i ===== -/
def bt (x : Int32) (i : Nat) : Bool := x.toBitVec.getLsbD i
theorem b_ext {x y : Int32} (h : ∀ i, i < 32 → bt x i = bt y i) : x = y := Int32.toBitVec_inj.mp (BitVec.eq_of_getLsbD_eq (fun i hi => h i hi))
theorem b_or (x y : Int32) (i : Nat) : bt (x ||| y) i = (bt x i || bt y i) := by unfold bt; rw [Int32.toBitVec_or, BitVec.getLsbD_or]
theorem b_and (x y : Int32) (i : Nat) : bt (x &&& y) i = (bt x i && bt y i) := by unfold bt; rw [Int32.toBitVec_and, BitVec.getLsbD_and]
theorem b_xor (x y : Int32) (i : Nat) : bt (x ^^^ y) i = (bt x i ^^ bt y i) := by unfold bt; rw [Int32.toBitVec_xor, BitVec.getLsbD_xor]
theorem b_big {x : Int32} {i : Nat} (h : 32 ≤ i) : bt x i = false := BitVec.getLsbD_of_ge _ _ h
theorem b_255 (i : Nat) : bt 255 i = decide (i < 8) := by
  rcases Nat.lt_or_ge i 32 with h | h
  · exact (by decide +kernel : ∀ i, i < 32 → bt 255 i = decide (i < 8)) i h
  · rw [b_big h, decide_eq_false (by omega)]
theorem b_65535 (i : Nat) : bt 65535 i = decide (i < 16) := by
  rcases Nat.lt_or_ge i 32 with h | h
  · exact (by decide +kernel : ∀ i, i < 32 → bt 65535 i = decide (i < 16)) i h
  · rw [b_big h, decide_eq_false (by omega)]
theorem b_m1 : ∀ i, i < 32 → bt (-1) i = true := by decide +kernel
theorem b_0 (i : Nat) : bt 0 i = false := BitVec.getLsbD_zero
theorem s_l : ∀ n, n < 32 → ((nI n &&& 31).toBitVec.smod 32).toNat = n := by decide +kernel
theorem s_u : ∀ n, n < 32 → (((nI n).toUInt32 &&& Int32.toUInt32 31).toBitVec % 32).toNat = n := by decide +kernel
theorem b_shl (n : Nat) (hn : n < 32) (x : Int32) {i : Nat} (hi : i < 32) : bt (x <<< (nI n &&& 31)) i = (decide (n ≤ i) && bt x (i - n)) := by
  unfold bt
  rw [Int32.toBitVec_shiftLeft]
  show (x.toBitVec <<< ((nI n &&& 31).toBitVec.smod 32).toNat).getLsbD i = _
  rw [s_l n hn, BitVec.getLsbD_shiftLeft]
  rcases Nat.lt_or_ge i n with h | h
  · simp [h, Nat.not_le.mpr h]
  · simp [hi, h, Nat.not_lt.mpr h]
theorem b_ushr (n : Nat) (hn : n < 32) (x : Int32) (i : Nat) : bt ((x.toUInt32 >>> ((nI n).toUInt32 &&& Int32.toUInt32 31)).toInt32) i = bt x (n + i) := by
  show (x.toUInt32 >>> ((nI n).toUInt32 &&& Int32.toUInt32 31)).toBitVec.getLsbD i = x.toUInt32.toBitVec.getLsbD (n + i)
  rw [UInt32.toBitVec_shiftRight]
  show (x.toUInt32.toBitVec >>> (((nI n).toUInt32 &&& Int32.toUInt32 31).toBitVec % 32).toNat).getLsbD i = _
  rw [s_u n hn, BitVec.getLsbD_ushiftRight]
theorem b_sshr (n : Nat) (hn : n < 32) (x : Int32) {i : Nat} (hi : i < 32) : bt (x >>> (nI n &&& 31)) i = if n + i < 32 then bt x (n + i) else bt x 31 := by
  unfold bt
  rw [Int32.toBitVec_shiftRight]
  show (x.toBitVec.sshiftRight ((nI n &&& 31).toBitVec.smod 32).toNat).getLsbD i = _
  rw [s_l n hn, BitVec.getLsbD_sshiftRight, BitVec.msb_eq_getLsbD_last]
  simp [hi]
theorem b_shl8 (x : Int32) {i : Nat} (hi : i < 32) : bt (x <<< ((8 : Int32) &&& 31)) i = (decide (8 ≤ i) && bt x (i - 8)) := b_shl 8 (by omega) x hi
theorem b_shl16 (x : Int32) {i : Nat} (hi : i < 32) : bt (x <<< ((16 : Int32) &&& 31)) i = (decide (16 ≤ i) && bt x (i - 16)) := b_shl 16 (by omega) x hi
theorem b_shl24 (x : Int32) {i : Nat} (hi : i < 32) : bt (x <<< ((24 : Int32) &&& 31)) i = (decide (24 ≤ i) && bt x (i - 24)) := b_shl 24 (by omega) x hi
theorem b_sshr8 (x : Int32) {i : Nat} (hi : i < 32) : bt (x >>> ((8 : Int32) &&& 31)) i = if 8 + i < 32 then bt x (8 + i) else bt x 31 := b_sshr 8 (by omega) x hi
/-! ===== Int32 as a set of bits: test, set ===== -/
def nf_M (m : Int32) : Nat := 4294967296 - m.toBitVec.toNat
theorem nf_sh : ∀ l, l < 32 → ((1 : Int32) <<< (nI l &&& 31)).toBitVec = BitVec.twoPow 32 l := by decide +kernel
theorem nf_sl : ∀ l, l < 32 → (((nI l).toUInt32 &&& Int32.toUInt32 31).toBitVec % 32).toNat = l := by decide +kernel
theorem nf_tp : ∀ l, l < 32 → BitVec.twoPow 32 l ≠ 0#32 := by decide +kernel
theorem nf_bit (m : Int32) (l : Nat) (hl : l < 32) : ((m.toUInt32 >>> ((nI l).toUInt32 &&& Int32.toUInt32 31)).toInt32 &&& 1) = 0 ↔ (m &&& ((1 : Int32) <<< (nI l &&& 31))) = 0 := by
  have e : ((m.toUInt32 >>> ((nI l).toUInt32 &&& Int32.toUInt32 31)).toInt32).toBitVec = m.toBitVec >>> l := by
    show m.toBitVec >>> (((nI l).toUInt32 &&& Int32.toUInt32 31).toBitVec % 32) = m.toBitVec >>> l
    rw [BitVec.ushiftRight_eq', nf_sl l hl]
  rw [← Int32.toBitVec_inj, ← Int32.toBitVec_inj, Int32.toBitVec_and, Int32.toBitVec_and, nf_sh l hl, e, BitVec.and_twoPow]
  show (m.toBitVec >>> l &&& 1#32) = 0#32 ↔ _ = 0#32
  rw [BitVec.and_one_eq_setWidth_ofBool_getLsbD, BitVec.getLsbD_ushiftRight, Nat.add_zero]
  cases hb : m.toBitVec.getLsbD l
  · exact ⟨fun _ => by simp, fun _ => by decide⟩
  · exact ⟨fun z => absurd z (by decide), fun z => absurd ((if_pos rfl).symm.trans z) (nf_tp l hl)⟩
theorem nf_gr (m k : Int32) (h : m &&& k = 0) (hk : k ≠ 0) : nf_M (m ||| k) < nf_M m := by
  have hm := m.toBitVec.isLt
  have hm' := (m ||| k).toBitVec.isLt
  have h1 : m.toBitVec.toNat ≤ (m ||| k).toBitVec.toNat := by
    rw [Int32.toBitVec_or, BitVec.toNat_or]
    exact Nat.left_le_or
  have h2 : m.toBitVec.toNat ≠ (m ||| k).toBitVec.toNat := by
    intro e
    have e2 : m = m ||| k := Int32.toBitVec_inj.mp (BitVec.eq_of_toNat_eq e)
    apply hk
    apply Int32.toBitVec_inj.mp
    show k.toBitVec = 0#32
    apply BitVec.eq_of_getLsbD_eq
    intro i hi
    have a : m.toBitVec.getLsbD i = (m.toBitVec.getLsbD i || k.toBitVec.getLsbD i) := by rw [← BitVec.getLsbD_or, ← Int32.toBitVec_or, ← e2]
    have b : (m.toBitVec.getLsbD i && k.toBitVec.getLsbD i) = false := by
      rw [← BitVec.getLsbD_and, ← Int32.toBitVec_and, h]
      exact BitVec.getLsbD_zero
    rw [BitVec.getLsbD_zero]
    revert a b
    cases m.toBitVec.getLsbD i <;> cases k.toBitVec.getLsbD i <;> simp
  unfold nf_M
  omega
end
section
/-! bits as sets, images of abstract functions as arrays -/
def cs_h (s : Int32) (m : Nat) : Prop := bt s m = true
theorem cs_h_lt {s : Int32} {m : Nat} (h : cs_h s m) : m < 32 := by
  rcases Nat.lt_or_ge m 32 with z | z
  · exact z
  · unfold cs_h at h; rw [b_big z] at h; exact absurd h (by decide)
theorem cs_h_or (a b : Int32) (m : Nat) : cs_h (a ||| b) m ↔ cs_h a m ∨ cs_h b m := by
  unfold cs_h; rw [b_or, Bool.or_eq_true]
theorem cs_h_and (a b : Int32) (m : Nat) : cs_h (a &&& b) m ↔ cs_h a m ∧ cs_h b m := by
  unfold cs_h; rw [b_and, Bool.and_eq_true]
theorem cs_h_dif (a b : Int32) (m : Nat) : cs_h (a &&& (b ^^^ (-1))) m ↔ cs_h a m ∧ ¬ cs_h b m := by
  rcases Nat.lt_or_ge m 32 with z | z
  · unfold cs_h; rw [b_and, b_xor, b_m1 m z]; cases bt a m <;> cases bt b m <;> decide
  · constructor
    · intro h; exact absurd (cs_h_lt h) (by omega)
    · intro h; exact absurd (cs_h_lt h.1) (by omega)
theorem cs_h_0 (m : Nat) : ¬ cs_h 0 m := by unfold cs_h; rw [b_0]; decide
theorem cs_bt1 : ∀ i, i < 32 → bt 1 i = decide (i = 0) := by decide +kernel
theorem cs_h_1 {w : Nat} (hw : w < 32) (m : Nat) : cs_h ((1 : Int32) <<< (nI w &&& 31)) m ↔ m = w := by
  rcases Nat.lt_or_ge m 32 with z | z
  · unfold cs_h
    rw [b_shl w hw 1 z, cs_bt1 (m - w) (by omega), Bool.and_eq_true, decide_eq_true_eq, decide_eq_true_eq]
    omega
  · constructor
    · intro h; exact absurd (cs_h_lt h) (by omega)
    · intro h; omega
theorem cs_h_ext {a b : Int32} (h : ∀ m, cs_h a m ↔ cs_h b m) : a = b := by
  apply b_ext
  intro i _
  have := h i
  unfold cs_h at this
  cases e : bt a i <;> cases f : bt b i <;> simp_all
theorem cs_h_z {s : Int32} : s = 0 ↔ ∀ m, ¬ cs_h s m := by
  constructor
  · intro h m; rw [h]; exact cs_h_0 m
  · intro h; exact cs_h_ext fun m => ⟨fun z => absurd z (h m), fun z => absurd z (cs_h_0 m)⟩
theorem cs_h_nz {s : Int32} (h : ¬ s = 0) : ∃ m, cs_h s m := by
  apply Classical.byContradiction
  intro z
  exact h (cs_h_z.mpr fun m hm => z ⟨m, hm⟩)
theorem cs_bit {s : Int32} {m : Nat} (hm : m < 32) : ((s.toUInt32 >>> ((nI m).toUInt32 &&& Int32.toUInt32 31)).toInt32 &&& 1) = 0 ↔ ¬ cs_h s m := by
  rw [cs_h_z]
  constructor
  · intro h hs
    apply h 0
    rw [cs_h_and]
    refine ⟨?_, by unfold cs_h; decide⟩
    unfold cs_h; rw [b_ushr m hm]; exact hs
  · intro h j hj
    rw [cs_h_and] at hj
    have := cs_bt1 j (cs_h_lt hj.2)
    have e : bt 1 j = true := hj.2
    rw [e] at this
    have j0 : j = 0 := by simpa using this
    subst j0
    apply h
    have := hj.1
    unfold cs_h at this
    rw [b_ushr m hm] at this
    exact this
theorem cs_mask {s : Int32} {m : Nat} (hm : m < 32) : (s &&& ((1 : Int32) <<< (nI m &&& 31))) = 0 ↔ ¬ cs_h s m := by
  rw [cs_h_z]
  constructor
  · intro h hs; exact h m ((cs_h_and _ _ _).mpr ⟨hs, (cs_h_1 hm m).mpr rfl⟩)
  · intro h j hj
    rw [cs_h_and, cs_h_1 hm] at hj
    rw [hj.2] at hj
    exact h hj.1
/-! images -/
def cs_bI (b : Bool) : Int32 := if b = true then 1 else 0
theorem cs_bI_t : cs_bI true = 1 := rfl
theorem cs_bI_f : cs_bI false = 0 := rfl
theorem cs_bI_0 {b : Bool} : cs_bI b = 0 ↔ b = false := by cases b <;> decide
theorem cs_nar (b : Bool) : vp_nar .boolean (cs_bI b) = cs_bI b := by cases b <;> decide
theorem cs_nar1 : vp_nar .boolean 1 = cs_bI true := by decide
theorem cs_nar0 : vp_nar .boolean 0 = cs_bI false := by decide
def cs_oI : Option Nat → Int32
  | none => -1
  | some w => nI w
def cs_N (f : Nat → Nat) : Nat → Int32 := fun j => nI (f j)
def cs_B (f : Nat → Bool) : Nat → Int32 := fun j => cs_bI (f j)
def cs_M (m : Nat) (f : Nat → Nat → Bool) : Nat → Int32 := fun j => cs_bI (f (j / m) (j % m))
def cs_O (m : Nat) (f : Nat → Nat → Option Nat) : Nat → Int32 := fun j => cs_oI (f (j / m) (j % m))
def cs_u {α : Type} (f : Nat → α) (k : Nat) (x : α) : Nat → α := fun j => if j = k then x else f j
def cs_u2 {α : Type} (f : Nat → Nat → α) (a b : Nat) (x : α) : Nat → Nat → α := fun i j => if i = a ∧ j = b then x else f i j
theorem cs_us {α : Type} {f : Nat → α} {k : Nat} {x : α} : cs_u f k x k = x := if_pos rfl
theorem cs_un {α : Type} {f : Nat → α} {k j : Nat} {x : α} (h : j ≠ k) : cs_u f k x j = f j := if_neg h
theorem cs_N_up (f : Nat → Nat) (k x : Nat) : upd (cs_N f) k (nI x) = cs_N (cs_u f k x) := by
  funext j; unfold upd cs_N cs_u; by_cases h : j = k <;> simp [h]
theorem cs_B_up (f : Nat → Bool) (k : Nat) (x : Bool) : upd (cs_B f) k (cs_bI x) = cs_B (cs_u f k x) := by
  funext j; unfold upd cs_B cs_u; by_cases h : j = k <;> simp [h]
theorem cs_dm {m w v : Nat} (h : v < m) : (w * m + v) / m = w ∧ (w * m + v) % m = v := by
  constructor
  · rw [Nat.mul_comm, Nat.mul_add_div (by omega), Nat.div_eq_of_lt h]; rfl
  · rw [Nat.mul_comm, Nat.mul_add_mod, Nat.mod_eq_of_lt h]
theorem cs_md {m j w v : Nat} (h : v < m) : j = w * m + v ↔ j / m = w ∧ j % m = v := by
  constructor
  · intro e; rw [e]; exact cs_dm h
  · intro e; have := Nat.div_add_mod' j m; rw [e.1, e.2] at this; exact this.symm
theorem cs_M_at {m w v : Nat} {f : Nat → Nat → Bool} (h : v < m) : cs_M m f (w * m + v) = cs_bI (f w v) := by
  unfold cs_M; rw [(cs_dm h).1, (cs_dm h).2]
theorem cs_O_at {m w v : Nat} {f : Nat → Nat → Option Nat} (h : v < m) : cs_O m f (w * m + v) = cs_oI (f w v) := by
  unfold cs_O; rw [(cs_dm h).1, (cs_dm h).2]
theorem cs_M_up {m w v : Nat} {f : Nat → Nat → Bool} (h : v < m) (b : Bool) : upd (cs_M m f) (w * m + v) (cs_bI b) = cs_M m (cs_u2 f w v b) := by
  funext j; unfold upd cs_M cs_u2
  by_cases e : j = w * m + v
  · rw [if_pos e, if_pos ((cs_md h).mp e)]
  · rw [if_neg e, if_neg (fun z => e ((cs_md h).mpr z))]
theorem cs_O_up {m w v : Nat} {f : Nat → Nat → Option Nat} (h : v < m) (b : Option Nat) : upd (cs_O m f) (w * m + v) (cs_oI b) = cs_O m (cs_u2 f w v b) := by
  funext j; unfold upd cs_O cs_u2
  by_cases e : j = w * m + v
  · rw [if_pos e, if_pos ((cs_md h).mp e)]
  · rw [if_neg e, if_neg (fun z => e ((cs_md h).mpr z))]
theorem cs_i8 (a b : Nat) : nI a * 8 + nI b = nI (a * 8 + b) := by
  show nI a * nI 8 + nI b = _; rw [pk_mul, nI_add]
theorem cs_i4 (a b : Nat) : nI a * 4 + nI b = nI (a * 4 + b) := by
  show nI a * nI 4 + nI b = _; rw [pk_mul, nI_add]
theorem cs_i32 (a b : Nat) : nI a * 32 + nI b = nI (a * 32 + b) := by
  show nI a * nI 32 + nI b = _; rw [pk_mul, nI_add]
theorem cs_m32 (a : Nat) : nI a * 32 = nI (a * 32) := by
  show nI a * nI 32 = _; rw [pk_mul]
theorem cs_oI_neg {b : Option Nat} (h : ∀ w, b = some w → w < 2 ^ 31) : cs_oI b < 0 ↔ b = none := by
  cases b with
  | none => exact ⟨fun _ => rfl, fun _ => by decide⟩
  | some w => exact ⟨fun z => absurd z (nI_pos (h w rfl)), fun z => nomatch z⟩
theorem cs_nIm1 {w : Nat} (h : w < 2 ^ 31) : ¬ nI w = -1 := by
  intro e
  have a := nI_pos h
  rw [e] at a
  exact a (by decide)
theorem cs_oI_m1 {b : Option Nat} (h : ∀ w, b = some w → w < 2 ^ 31) : cs_oI b = -1 ↔ b = none := by
  cases b with
  | none => exact ⟨fun _ => rfl, fun _ => rfl⟩
  | some w => exact ⟨fun z => absurd z (cs_nIm1 (h w rfl)), fun z => nomatch z⟩
theorem cs_oI_inj {a b : Option Nat} (ha : ∀ w, a = some w → w < 2 ^ 31) (hb : ∀ w, b = some w → w < 2 ^ 31) : cs_oI a = cs_oI b ↔ a = b := by
  cases a with
  | none => exact ⟨fun z => ((cs_oI_m1 hb).mp z.symm).symm, fun z => by rw [z]⟩
  | some v => cases b with
    | none => exact ⟨fun z => absurd z (cs_nIm1 (ha v rfl)), fun z => nomatch z⟩
    | some w =>
      show nI v = nI w ↔ _
      rw [nI_eq (ha v rfl) (hb w rfl)]
      exact ⟨fun z => by rw [z], fun z => Option.some.inj z⟩
/-! counting -/
def cs_cn (p : Nat → Bool) : Nat → Nat
  | 0 => 0
  | m + 1 => cs_cn p m + (if p m = true then 1 else 0)
theorem cs_cn_le (p : Nat → Bool) : ∀ m, cs_cn p m ≤ m
  | 0 => Nat.le_refl _
  | m + 1 => by have := cs_cn_le p m; unfold cs_cn; split <;> omega
theorem cs_cn_full {p : Nat → Bool} : ∀ {m : Nat}, cs_cn p m = m → ∀ j, j < m → p j = true
  | 0, _, j, hj => by omega
  | m + 1, h, j, hj => by
    unfold cs_cn at h
    have := cs_cn_le p m
    by_cases e : p m = true
    · rw [if_pos e] at h
      by_cases z : j = m
      · rw [z]; exact e
      · exact cs_cn_full (m := m) (by omega) j (by omega)
    · rw [if_neg e] at h; omega
theorem cs_cn_same {p q : Nat → Bool} : ∀ {m : Nat}, (∀ j, j < m → p j = q j) → cs_cn p m = cs_cn q m
  | 0, _ => rfl
  | m + 1, h => by unfold cs_cn; rw [cs_cn_same (m := m) fun j hj => h j (by omega), h m (by omega)]
theorem cs_cn_add {p q : Nat → Bool} {a : Nat} (hp : p a = false) (hq : q a = true) (h : ∀ j, j ≠ a → p j = q j) : ∀ {m : Nat}, a < m → cs_cn q m = cs_cn p m + 1
  | 0, ha => by omega
  | m + 1, ha => by
    unfold cs_cn
    by_cases z : a = m
    · subst z
      rw [hp, hq, cs_cn_same (p := p) (q := q) (m := a) fun j hj => h j (by omega)]
      simp
    · rw [cs_cn_add hp hq h (m := m) (by omega), h m (by omega)]
      omega
theorem cs_len : ∀ (n : Nat) (L : List Nat), L.Nodup → (∀ x, x ∈ L → x < n) → L.length ≤ n
  | 0, L, _, h => by
    cases L with
    | nil => exact Nat.le_refl _
    | cons x r => exact absurd (h x List.mem_cons_self) (by omega)
  | n + 1, L, hd, h => by
    by_cases hn : n ∈ L
    · have h1 : (L.erase n).Nodup := hd.erase n
      have h2 : ∀ x, x ∈ L.erase n → x < n := fun x hx => by
        have hx1 := List.mem_of_mem_erase hx
        have hx2 : x ≠ n := fun e => by rw [e] at hx; exact (List.Nodup.not_mem_erase hd) hx
        have := h x hx1
        omega
      have := cs_len n _ h1 h2
      rw [List.length_erase_of_mem hn] at this
      omega
    · have := cs_len n L hd fun x hx => by
        have := h x hx
        have : x ≠ n := fun e => hn (e ▸ hx)
        omega
      omega
end
section
/-! the plain law: pasts, nearest members, visibility, newest, greatest time -/
def cs_sf (kf tf og : Nat → Nat) (w : Nat) : Nat := tf w * 32 + og w * 8 + kf w
def cs_Mx (D : Nat → Bool) (P : Nat → Nat → Bool) (v : Nat) : Prop := D v = true ∧ ∀ e, D e = true → P e v = false
def cs_V (P : Nat → Nat → Bool) (a : Nat → Bool) (w : Nat) : Prop := a w = true ∧ ∀ v, P w v = true → a v = true
def cs_Bst (sf : Nat → Nat) (T : Nat → Prop) : Option Nat → Prop
  | none => ∀ w, ¬ T w
  | some w => T w ∧ ∀ v, T v → sf v ≤ sf w
def cs_Tm (tf : Nat → Nat) (T : Nat → Prop) (t : Nat) : Prop := (∀ w, T w → tf w ≤ t) ∧ (t = 0 ∨ ∃ w, T w ∧ tf w = t)
def cs_PO (n : Nat) (P : Nat → Nat → Bool) : Prop := (∀ w v, P w v = true → v < w ∧ w < n) ∧ (∀ w v u, P w v = true → P v u = true → P w u = true)
def cs_W (R K S n : Nat) (kf tf og : Nat → Nat) (P : Nat → Nat → Bool) : Prop :=
  (∀ w, kf w < K) ∧ (∀ w, og w < R) ∧ (∀ w, tf w ≤ n) ∧ cs_PO n P ∧ (∀ w v, P w v = true → tf v < tf w) ∧
  (∀ v w, v < w → w < n → og v = og w → kf v % S = kf w % S → tf v < tf w)
section
variable {n : Nat} {P : Nat → Nat → Bool}
theorem cs_cover (hP : cs_PO n P) {D : Nat → Bool} : ∀ d v, n - v < d → D v = true → ∃ m, cs_Mx D P m ∧ (m = v ∨ P m v = true) := by
  intro d
  induction d with
  | zero => intro v h; omega
  | succ d ih =>
    intro v hd hv
    by_cases h : cs_Mx D P v
    · exact ⟨v, h, Or.inl rfl⟩
    · have : ∃ e, D e = true ∧ P e v = true := by
        apply Classical.byContradiction
        intro z
        apply h
        refine ⟨hv, fun e he => ?_⟩
        cases q : P e v
        · rfl
        · exact absurd ⟨e, he, q⟩ z
      obtain ⟨e, he, hev⟩ := this
      have := hP.1 e v hev
      obtain ⟨m, hm, hx⟩ := ih e (by omega) he
      refine ⟨m, hm, Or.inr ?_⟩
      rcases hx with rfl | hx
      · exact hev
      · exact hP.2 m e v hx hev
theorem cs_cov (hP : cs_PO n P) {D : Nat → Bool} {v : Nat} (h : D v = true) : ∃ m, cs_Mx D P m ∧ (m = v ∨ P m v = true) := cs_cover hP _ v (Nat.lt_succ_self _) h
theorem cs_Bst_iff {sf : Nat → Nat} {T U : Nat → Prop} (h : ∀ w, T w ↔ U w) {b : Option Nat} (hb : cs_Bst sf T b) : cs_Bst sf U b := by
  cases b with
  | none => exact fun w hw => hb w ((h w).mpr hw)
  | some w => exact ⟨(h w).mp hb.1, fun v hv => hb.2 v ((h v).mpr hv)⟩
theorem cs_Bst_u {sf : Nat → Nat} {T : Nat → Prop} (hi : ∀ v w, T v → T w → sf v = sf w → v = w) {a b : Option Nat} (ha : cs_Bst sf T a) (hb : cs_Bst sf T b) : a = b := by
  cases a with
  | none => cases b with
    | none => rfl
    | some w => exact absurd hb.1 (ha w)
  | some v => cases b with
    | none => exact absurd ha.1 (hb v)
    | some w => exact congrArg some (hi v w ha.1 hb.1 (Nat.le_antisymm (hb.2 v ha.1) (ha.2 w hb.1)))
theorem cs_Tm_iff {tf : Nat → Nat} {T U : Nat → Prop} (h : ∀ w, T w ↔ U w) {t : Nat} (ht : cs_Tm tf T t) : cs_Tm tf U t := by
  refine ⟨fun w hw => ht.1 w ((h w).mpr hw), ?_⟩
  rcases ht.2 with z | ⟨w, hw, e⟩
  · exact Or.inl z
  · exact Or.inr ⟨w, (h w).mp hw, e⟩
theorem cs_Tm_le {tf : Nat → Nat} {T : Nat → Prop} {a b : Nat} (ha : cs_Tm tf T a) (hb : cs_Tm tf T b) : a ≤ b := by
  rcases ha.2 with z | ⟨w, hw, e⟩
  · omega
  · have := hb.1 w hw; omega
theorem cs_Tm_u {tf : Nat → Nat} {T : Nat → Prop} {a b : Nat} (ha : cs_Tm tf T a) (hb : cs_Tm tf T b) : a = b := Nat.le_antisymm (cs_Tm_le ha hb) (cs_Tm_le hb ha)
theorem cs_Tm_l {tf : Nat → Nat} {T U : Nat → Prop} {a b : Nat} (ha : cs_Tm tf T a) (hb : cs_Tm tf U b) (h : b ≤ a) : cs_Tm tf (fun w => T w ∨ U w) a := by
  refine ⟨fun w hw => ?_, ?_⟩
  · rcases hw with z | z
    · exact ha.1 w z
    · exact Nat.le_trans (hb.1 w z) h
  · rcases ha.2 with z | ⟨w, hw, e⟩
    · exact Or.inl z
    · exact Or.inr ⟨w, Or.inl hw, e⟩
theorem cs_Tm_r {tf : Nat → Nat} {T U : Nat → Prop} {a b : Nat} (ha : cs_Tm tf T a) (hb : cs_Tm tf U b) (h : a ≤ b) : cs_Tm tf (fun w => T w ∨ U w) b :=
  cs_Tm_iff (fun _ => Or.comm) (cs_Tm_l hb ha h)
/-- a set takes in u and the past of u -/
def cs_tk (D : Nat → Bool) (P : Nat → Nat → Bool) (u : Nat) : Nat → Bool := fun v => D v || (decide (v = u) || P u v)
theorem cs_tk_m {D : Nat → Bool} {u v : Nat} : cs_tk D P u v = true ↔ D v = true ∨ v = u ∨ P u v = true := by
  unfold cs_tk; rw [Bool.or_eq_true, Bool.or_eq_true, decide_eq_true_eq]
theorem cs_tk_cl (hP : cs_PO n P) {D : Nat → Bool} {u : Nat} (hD : ∀ w v, D w = true → P w v = true → D v = true) : ∀ w v, cs_tk D P u w = true → P w v = true → cs_tk D P u v = true := by
  intro w v hw hv
  rw [cs_tk_m] at hw ⊢
  rcases hw with z | z | z
  · exact Or.inl (hD w v z hv)
  · subst z; exact Or.inr (Or.inr hv)
  · exact Or.inr (Or.inr (hP.2 u w v z hv))
theorem cs_tk_id {D : Nat → Bool} {u : Nat} (hD : ∀ w v, D w = true → P w v = true → D v = true) (hu : D u = true) : cs_tk D P u = D := by
  funext v
  cases h : D v
  · cases z : cs_tk D P u v
    · rfl
    · rw [cs_tk_m] at z
      rcases z with z | z | z
      · rw [h] at z; exact absurd z (by decide)
      · rw [z, hu] at h; exact absurd h (by decide)
      · rw [hD u v hu z] at h; exact absurd h (by decide)
  · exact cs_tk_m.mpr (Or.inl h)
theorem cs_tk_Mx (hP : cs_PO n P) {D : Nat → Bool} {u : Nat} (hD : ∀ w v, D w = true → P w v = true → D v = true) (hu : ¬ D u = true) (v : Nat) :
    cs_Mx (cs_tk D P u) P v ↔ (cs_Mx D P v ∧ ¬ P u v = true) ∨ v = u := by
  have uu : cs_tk D P u u = true := cs_tk_m.mpr (Or.inr (Or.inl rfl))
  constructor
  · intro h
    rcases cs_tk_m.mp h.1 with z | z | z
    · refine Or.inl ⟨⟨z, fun e he => h.2 e (cs_tk_m.mpr (Or.inl he))⟩, fun q => ?_⟩
      rw [h.2 u uu] at q; exact absurd q (by decide)
    · exact Or.inr z
    · rw [h.2 u uu] at z; exact absurd z (by decide)
  · intro h
    rcases h with ⟨h, hv⟩ | rfl
    · refine ⟨cs_tk_m.mpr (Or.inl h.1), fun e he => ?_⟩
      rcases cs_tk_m.mp he with z | z | z
      · exact h.2 e z
      · subst z; exact Bool.eq_false_iff.mpr hv
      · exact Bool.eq_false_iff.mpr fun q => hv (hP.2 u e v z q)
    · refine ⟨uu, fun e he => Bool.eq_false_iff.mpr fun q => ?_⟩
      rcases cs_tk_m.mp he with z | z | z
      · exact hu (hD e v z q)
      · subst z; have := (hP.1 _ _ q).1; omega
      · have := (hP.1 _ _ q).1; have := (hP.1 _ _ z).1; omega
theorem cs_tk_Tm {D : Nat → Bool} {tf : Nat → Nat} {u t : Nat} (hT : ∀ w v, P w v = true → tf v < tf w) (h : cs_Tm tf (fun w => D w = true) t) :
    (tf u ≤ t → cs_Tm tf (fun w => cs_tk D P u w = true) t) ∧ (t ≤ tf u → cs_Tm tf (fun w => cs_tk D P u w = true) (tf u)) := by
  have a : cs_Tm tf (fun w => w = u ∨ P u w = true) (tf u) := by
    refine ⟨fun w hw => ?_, Or.inr ⟨u, Or.inl rfl, rfl⟩⟩
    rcases hw with rfl | z
    · exact Nat.le_refl _
    · exact Nat.le_of_lt (hT u w z)
  exact ⟨fun z => cs_Tm_iff (fun w => cs_tk_m.symm) (cs_Tm_l h a z), fun z => cs_Tm_iff (fun w => cs_tk_m.symm) (cs_Tm_r h a z)⟩
/-! arrival -/
theorem cs_V_cl (hP : cs_PO n P) {a : Nat → Bool} {w v : Nat} (h : cs_V P a w) (hv : P w v = true) : cs_V P a v :=
  ⟨h.2 v hv, fun u hu => h.2 u (hP.2 w v u hv hu)⟩
def cs_L1 (P : Nat → Nat → Bool) (a : Nat → Bool) (V rd : Nat → Prop) : Prop :=
  (∀ w, V w → a w = true ∧ ∀ v, P w v = true → V v) ∧ (∀ w, rd w ↔ a w = true ∧ ¬ V w ∧ ∀ v, cs_Mx (P w) P v → V v)
theorem cs_near (hP : cs_PO n P) {V : Nat → Prop} (hV : ∀ w v, V w → P w v = true → V v) {w : Nat} (h : ∀ v, cs_Mx (P w) P v → V v) : ∀ v, P w v = true → V v := by
  intro v hv
  obtain ⟨m, hm, z⟩ := cs_cov hP (D := P w) hv
  rcases z with rfl | z
  · exact h _ hm
  · exact hV m v (h m hm) z
theorem cs_L1_step (hP : cs_PO n P) {a : Nat → Bool} {V rd : Nat → Prop} {i : Nat} (h : cs_L1 P a V rd) (hi : rd i) :
    cs_L1 P a (fun w => V w ∨ w = i) (fun w => (rd w ∧ w ≠ i) ∨ (a w = true ∧ cs_Mx (P w) P i ∧ ∀ v, cs_Mx (P w) P v → V v ∨ v = i)) := by
  have hi' := (h.2 i).mp hi
  have cl : ∀ w v, V w → P w v = true → V v := fun w v hw => (h.1 w hw).2 v
  refine ⟨fun w hw => ?_, fun w => ⟨fun hw => ?_, fun hw => ?_⟩⟩
  · rcases hw with z | rfl
    · exact ⟨(h.1 w z).1, fun v hv => Or.inl ((h.1 w z).2 v hv)⟩
    · exact ⟨hi'.1, fun v hv => Or.inl (cs_near hP cl hi'.2.2 v hv)⟩
  · rcases hw with ⟨z, ne⟩ | ⟨aw, mi, hv⟩
    · have z' := (h.2 w).mp z
      exact ⟨z'.1, fun q => q.elim z'.2.1 ne, fun v hv => Or.inl (z'.2.2 v hv)⟩
    · refine ⟨aw, fun q => ?_, hv⟩
      rcases q with q | rfl
      · exact hi'.2.1 (cl w i q mi.1)
      · have := (hP.1 _ _ mi.1).1; omega
  · obtain ⟨aw, nv, hv⟩ := hw
    by_cases q : cs_Mx (P w) P i
    · exact Or.inr ⟨aw, q, hv⟩
    · refine Or.inl ⟨(h.2 w).mpr ⟨aw, fun z => nv (Or.inl z), fun v z => ?_⟩, fun e => nv (Or.inr e)⟩
      rcases hv v z with y | rfl
      · exact y
      · exact absurd z q
theorem cs_L1_end (hP : cs_PO n P) {a : Nat → Bool} {V rd : Nat → Prop} (h : cs_L1 P a V rd) (hr : ∀ w, ¬ rd w) : ∀ w, V w ↔ cs_V P a w := by
  have cl : ∀ w v, V w → P w v = true → V v := fun w v hw => (h.1 w hw).2 v
  have key : ∀ m w, w < m → cs_V P a w → V w := by
    intro m
    induction m with
    | zero => intro w hw; omega
    | succ m ih =>
      intro w hw hv
      apply Classical.byContradiction
      intro nv
      refine hr w ((h.2 w).mpr ⟨hv.1, nv, fun v mv => ?_⟩)
      have := (hP.1 _ _ mv.1).1
      exact ih v (by omega) (cs_V_cl hP hv mv.1)
  exact fun w => ⟨fun hw => ⟨(h.1 w hw).1, fun v hv => (h.1 v (cl w v hw hv)).1⟩, key _ w (Nat.lt_succ_self _)⟩
theorem cs_L1_init (hP : cs_PO n P) {a : Nat → Bool} {V : Nat → Prop} {i : Nat} (hV : ∀ w, V w ↔ cs_V P a w) (hi : ¬ a i = true) (h : ∀ v, cs_Mx (P i) P v → V v) :
    cs_L1 P (cs_u a i true) V (fun w => w = i) := by
  have cl : ∀ w v, V w → P w v = true → V v := fun w v hw hv => (hV v).mpr (cs_V_cl hP ((hV w).mp hw) hv)
  have up : ∀ w, a w = true → cs_u a i true w = true := fun w hw => by unfold cs_u; split <;> simp [hw]
  refine ⟨fun w hw => ⟨up w ((hV w).mp hw).1, fun v => cl w v hw⟩, fun w => ⟨fun e => ?_, fun hw => ?_⟩⟩
  · subst e
    exact ⟨cs_us, fun q => hi ((hV w).mp q).1, h⟩
  · apply Classical.byContradiction
    intro ne
    rw [cs_un ne] at hw
    exact hw.2.1 ((hV w).mpr ⟨hw.1, fun v hv => ((hV v).mp (cs_near hP cl hw.2.2 v hv)).1⟩)
theorem cs_hold (hP : cs_PO n P) {a : Nat → Bool} {V : Nat → Prop} {i j : Nat} (hV : ∀ w, V w ↔ cs_V P a w) (hj : P i j = true) (hn : ¬ V j) :
    ∀ w, V w ↔ cs_V P (cs_u a i true) w := by
  have up : ∀ w, a w = true → cs_u a i true w = true := fun w hw => by unfold cs_u; split <;> simp [hw]
  have dn : ∀ w, w ≠ i → cs_u a i true w = true → a w = true := fun w hw h => by rw [cs_un hw] at h; exact h
  have ni : ¬ cs_V P (cs_u a i true) i := fun z => by
    have zj := cs_V_cl hP z hj
    have := (hP.1 _ _ hj).1
    refine hn ((hV j).mpr ⟨dn j (by omega) zj.1, fun v hv => dn v ?_ (zj.2 v hv)⟩)
    have := (hP.1 _ _ hv).1; omega
  intro w
  rw [hV w]
  refine ⟨fun h => ⟨up w h.1, fun v hv => up v (h.2 v hv)⟩, fun h => ?_⟩
  have ne : w ≠ i := fun e => ni (e ▸ h)
  refine ⟨dn w ne h.1, fun v hv => dn v (fun e => ?_) (h.2 v hv)⟩
  have z := cs_V_cl hP h hv
  rw [e] at z
  exact ni z
end
theorem cs_inj {R K S n : Nat} {kf tf og : Nat → Nat} {P : Nat → Nat → Bool} (hR : R ≤ 4) (hW : cs_W R K S n kf tf og P) {v w : Nat} (hv : v < n) (hw : w < n) (hk : kf v = kf w) (hs : cs_sf kf tf og v = cs_sf kf tf og w) : v = w := by
  obtain ⟨_, hO, _, _, _, hT⟩ := hW
  have o1 := hO v
  have o2 := hO w
  unfold cs_sf at hs
  have e1 : og v = og w := by omega
  have e2 : tf v = tf w := by omega
  rcases Nat.lt_trichotomy v w with z | z | z
  · have := hT v w z hw e1 (by rw [hk]); omega
  · exact z
  · have := hT w v z hv e1.symm (by rw [hk]); omega
end
section
/-! the component's small walks -/
section
variable {R K S C n : Nat} {xko xvo xti xso xpo xno xol xch xar xvi xne xck xst xbl xwa xho xco xfr xse xtr xaq xfe xre : Nat → Int32}
theorem cs_xcl_t {post : Int32 → Prop} {c : Nat} (hc : c < C) (hC : C ≤ 32) (h : post 1) : wpX_isClient post (nI R, nI K, nI S, nI C, nI n, xko, xvo, xti, xso, xpo, xno, xol, xch, xar, xvi, xne, xck, xst, xbl, xwa, xho, xco, xfr, xse, xtr, xaq, xfe, xre) (nI c) := br_f (nI_pos (by omega)) (br_f (nI_ge hc (by omega)) h)
theorem cs_xcl_f {post : Int32 → Prop} {x : Int32} (hx : x < 0 ∨ nI C ≤ x) (h : post 0) : wpX_isClient post (nI R, nI K, nI S, nI C, nI n, xko, xvo, xti, xso, xpo, xno, xol, xch, xar, xvi, xne, xck, xst, xbl, xwa, xho, xco, xfr, xse, xtr, xaq, xfe, xre) x := by
  by_cases z : x < 0
  · exact br_t z h
  · exact br_f z (br_t (hx.resolve_left z) h)
theorem cs_xky_t {post : Int32 → Prop} {c : Nat} (hc : c < K) (hC : K ≤ 32) (h : post 1) : wpX_isKey post (nI R, nI K, nI S, nI C, nI n, xko, xvo, xti, xso, xpo, xno, xol, xch, xar, xvi, xne, xck, xst, xbl, xwa, xho, xco, xfr, xse, xtr, xaq, xfe, xre) (nI c) := br_f (nI_pos (by omega)) (br_f (nI_ge hc (by omega)) h)
theorem cs_xky_f {post : Int32 → Prop} {x : Int32} (hx : x < 0 ∨ nI K ≤ x) (h : post 0) : wpX_isKey post (nI R, nI K, nI S, nI C, nI n, xko, xvo, xti, xso, xpo, xno, xol, xch, xar, xvi, xne, xck, xst, xbl, xwa, xho, xco, xfr, xse, xtr, xaq, xfe, xre) x := by
  by_cases z : x < 0
  · exact br_t z h
  · exact br_f z (br_t (hx.resolve_left z) h)
theorem cs_xrp_t {post : Int32 → Prop} {c : Nat} (hc : c < R) (hC : R ≤ 32) (h : post 1) : wpX_isReplica post (nI R, nI K, nI S, nI C, nI n, xko, xvo, xti, xso, xpo, xno, xol, xch, xar, xvi, xne, xck, xst, xbl, xwa, xho, xco, xfr, xse, xtr, xaq, xfe, xre) (nI c) := br_f (nI_pos (by omega)) (br_f (nI_ge hc (by omega)) h)
theorem cs_xrp_f {post : Int32 → Prop} {x : Int32} (hx : x < 0 ∨ nI R ≤ x) (h : post 0) : wpX_isReplica post (nI R, nI K, nI S, nI C, nI n, xko, xvo, xti, xso, xpo, xno, xol, xch, xar, xvi, xne, xck, xst, xbl, xwa, xho, xco, xfr, xse, xtr, xaq, xfe, xre) x := by
  by_cases z : x < 0
  · exact br_t z h
  · exact br_f z (br_t (hx.resolve_left z) h)
theorem cs_xwr_t {post : Int32 → Prop} {c : Nat} (hc : c < n) (hC : n ≤ 32) (h : post 1) : wpX_isWrite post (nI R, nI K, nI S, nI C, nI n, xko, xvo, xti, xso, xpo, xno, xol, xch, xar, xvi, xne, xck, xst, xbl, xwa, xho, xco, xfr, xse, xtr, xaq, xfe, xre) (nI c) := br_f (nI_pos (by omega)) (br_f (nI_ge hc (by omega)) h)
theorem cs_xwr_f {post : Int32 → Prop} {x : Int32} (hx : x < 0 ∨ nI n ≤ x) (h : post 0) : wpX_isWrite post (nI R, nI K, nI S, nI C, nI n, xko, xvo, xti, xso, xpo, xno, xol, xch, xar, xvi, xne, xck, xst, xbl, xwa, xho, xco, xfr, xse, xtr, xaq, xfe, xre) x := by
  by_cases z : x < 0
  · exact br_t z h
  · exact br_f z (br_t (hx.resolve_left z) h)
theorem cs_xhas {post : Int32 → Prop} {s : Int32} {m : Nat} (hm : m < 32) (h1 : cs_h s m → post 1) (h0 : ¬ cs_h s m → post 0) : wpX_has post (nI R, nI K, nI S, nI C, nI n, xko, xvo, xti, xso, xpo, xno, xol, xch, xar, xvi, xne, xck, xst, xbl, xwa, xho, xco, xfr, xse, xtr, xaq, xfe, xre) s (nI m) := by
  by_cases h : cs_h s m
  · exact br_f (fun z => (cs_bit hm).mp z h) (h1 h)
  · exact br_t ((cs_bit hm).mpr h) (h0 h)
theorem cs_xlow_l {post : Int32 → Prop} {s : Int32} (h1 : ∀ i, i < 32 → cs_h s i → (∀ j, j < i → ¬ cs_h s j) → post (nI i)) (h0 : s = 0 → post (-1)) :
    ∀ m i, i ≤ 32 → 32 - i < m → (∀ j, j < i → ¬ cs_h s j) → wX_lowest_2 post s (nI R) (nI K) (nI S) (nI C) (nI n) xko xvo xti xso xpo xno xol xch xar xvi xne xck xst xbl xwa xho xco xfr xse xtr xaq xfe xre m (nI i) := by
  intro m
  induction m with
  | zero => intro i _ h; omega
  | succ m ih =>
    intro i hi hm hj
    by_cases h : i < 32
    · refine br_f (nI_ge (b := 32) h (by decide)) (cs_xhas h (fun hq => ?_) (fun hq => ?_))
      · exact br_f (by decide) (h1 i h hq hj)
      · refine br_t rfl (nm_r (nI_1 i) (ih (i + 1) (by omega) (by omega) fun j z => ?_))
        by_cases e : j = i
        · rw [e]; exact hq
        · exact hj j (by omega)
    · refine br_t (nI_le (a := 32) (by omega) (by omega)) (h0 (cs_h_z.mpr fun j z => hj j ?_ z))
      have := cs_h_lt z; omega
theorem cs_xlow {post : Int32 → Prop} {s : Int32} (h1 : ∀ i, i < 32 → cs_h s i → (∀ j, j < i → ¬ cs_h s j) → post (nI i)) (h0 : s = 0 → post (-1)) : wpX_lowest post (nI R, nI K, nI S, nI C, nI n, xko, xvo, xti, xso, xpo, xno, xol, xch, xar, xvi, xne, xck, xst, xbl, xwa, xho, xco, xfr, xse, xtr, xaq, xfe, xre) s :=
  Exists.intro 33 (cs_xlow_l h1 h0 33 0 (by omega) (by omega) (fun j h => by omega))
theorem cs_xshow {post : SX → Prop} {r w k : Nat} {b : Option Nat} (hr : r < 4) (hw : w < 32) (hk : xko w = nI k) (hk8 : k < 8) (hb : xne (r * 8 + k) = cs_oI b) (hbw : ∀ v, b = some v → v < 32)
    (h1 : (∀ v, b = some v → ¬ xso w ≤ xso v) → post (nI R, nI K, nI S, nI C, nI n, xko, xvo, xti, xso, xpo, xno, xol, xch, xar, upd xvi r (xvi r ||| ((1 : Int32) <<< (nI w &&& 31))), upd xne (r * 8 + k) (nI w), xck, xst, xbl, xwa, xho, xco, xfr, xse, xtr, xaq, xfe, xre))
    (h0 : (∃ v, b = some v ∧ xso w ≤ xso v) → post (nI R, nI K, nI S, nI C, nI n, xko, xvo, xti, xso, xpo, xno, xol, xch, xar, upd xvi r (xvi r ||| ((1 : Int32) <<< (nI w &&& 31))), xne, xck, xst, xbl, xwa, xho, xco, xfr, xse, xtr, xaq, xfe, xre)) : wpX_show post (nI R, nI K, nI S, nI C, nI n, xko, xvo, xti, xso, xpo, xno, xol, xch, xar, xvi, xne, xck, xst, xbl, xwa, xho, xco, xfr, xse, xtr, xaq, xfe, xre) (nI r) (nI w) := by
  have c1 : (nI r).toNatClampNeg = r := nI_clamp (by omega)
  have c2 : (nI w).toNatClampNeg = w := nI_clamp (by omega)
  have c3 : (nI (r * 8 + k)).toNatClampNeg = r * 8 + k := nI_clamp (by omega)
  have i1 : vp_in (nI r) 4 := vp_in_nI hr (by omega)
  have i2 : vp_in (nI w) 32 := vp_in_nI hw (by omega)
  have i3 : vp_in (nI (r * 8 + k)) 32 := vp_in_nI (by omega) (by omega)
  have e3 : nI r * 8 + xko (nI w).toNatClampNeg = nI (r * 8 + k) := by rw [c2, hk, cs_i8]
  refine And.intro i1 (And.intro i1 (nm_r (e' := upd xvi r (xvi r ||| ((1 : Int32) <<< (nI w &&& 31)))) (by rw [c1]) (And.intro i2 (nm_r e3 (And.intro i3 (nm_r (e' := cs_oI b) (by rw [c3, hb]) ?_))))))
  cases b with
  | none => exact br_t (by decide) (And.intro i3 (nm_r (e' := upd xne (r * 8 + k) (nI w)) (by rw [c3]) (h1 (fun v z => nomatch z))))
  | some v =>
    have hv := hbw v rfl
    have c4 : (cs_oI (some v)).toNatClampNeg = v := nI_clamp (by omega)
    have i4 : vp_in (cs_oI (some v)) 32 := vp_in_nI hv (by omega)
    refine br_f (nI_pos (by omega)) (And.intro i4 (And.intro i2 ?_))
    by_cases z : xso w ≤ xso v
    · exact br_t (by rw [c2, c4]; exact z) (h0 ⟨v, rfl, z⟩)
    · exact br_f (by rw [c2, c4]; exact z) (And.intro i3 (nm_r (e' := upd xne (r * 8 + k) (nI w)) (by rw [c3]) (h1 (fun v' e => by cases e; exact z))))
end
/-! release -/
def cs_RI (q : Int32) (d r : Nat) (b0 : Nat → Int32) (i : Nat) (fr : Int32) (bl : Nat → Int32) : Prop :=
  (∀ w, cs_h fr w ↔ w < i ∧ cs_h q w ∧ bl (r * 32 + w) = 0) ∧ (∀ w, w < 32 → ∀ v, cs_h (bl (r * 32 + w)) v ↔ cs_h (b0 (r * 32 + w)) v ∧ ¬ (w < i ∧ cs_h q w ∧ v = d)) ∧
  (∀ j, (j < r * 32 ∨ r * 32 + 32 ≤ j) → bl j = b0 j)
theorem cs_RI_0 {q : Int32} {d r : Nat} {b0 : Nat → Int32} : cs_RI q d r b0 0 0 b0 :=
  ⟨fun w => ⟨fun h => absurd h (cs_h_0 w), fun h => absurd h.1 (by omega)⟩, fun w _ v => ⟨fun h => ⟨h, fun z => absurd z.1 (by omega)⟩, fun h => h.1⟩, fun j _ => rfl⟩
theorem cs_RI_n {q : Int32} {d r : Nat} {b0 : Nat → Int32} {i : Nat} {fr : Int32} {bl : Nat → Int32} (hq : ¬ cs_h q i) (h : cs_RI q d r b0 i fr bl) : cs_RI q d r b0 (i + 1) fr bl := by
  have key : ∀ w, (w < i + 1 ∧ cs_h q w) ↔ (w < i ∧ cs_h q w) := fun w => by
    constructor
    · rintro ⟨a, b⟩
      refine ⟨?_, b⟩
      by_cases e : w = i
      · rw [e] at b; exact absurd b hq
      · omega
    · rintro ⟨a, b⟩; exact ⟨by omega, b⟩
  refine ⟨fun w => ?_, fun w hw v => ?_, h.2.2⟩
  · rw [h.1 w, ← and_assoc, ← and_assoc, key]
  · rw [h.2.1 w hw v, ← and_assoc, ← and_assoc, key]
theorem cs_RI_b {q : Int32} {d r : Nat} {b0 : Nat → Int32} {i : Nat} {fr : Int32} {bl : Nat → Int32} (hd : d < 32) (hi : i < 32) (hq : cs_h q i) (h : cs_RI q d r b0 i fr bl) :
    (∀ w, w < 32 → ∀ v, cs_h (upd bl (r * 32 + i) (bl (r * 32 + i) &&& (((1 : Int32) <<< (nI d &&& 31)) ^^^ (-1))) (r * 32 + w)) v ↔ cs_h (b0 (r * 32 + w)) v ∧ ¬ (w < i + 1 ∧ cs_h q w ∧ v = d)) ∧
    (∀ j, (j < r * 32 ∨ r * 32 + 32 ≤ j) → upd bl (r * 32 + i) (bl (r * 32 + i) &&& (((1 : Int32) <<< (nI d &&& 31)) ^^^ (-1))) j = b0 j) := by
  refine ⟨fun w hw v => ?_, fun j hj => ?_⟩
  · by_cases e : w = i
    · subst e
      rw [pk_us, cs_h_dif, cs_h_1 hd, h.2.1 w hw v]
      constructor
      · rintro ⟨⟨a, _⟩, b⟩; exact ⟨a, fun z => b z.2.2⟩
      · rintro ⟨a, b⟩; exact ⟨⟨a, fun z => absurd z.1 (by omega)⟩, fun z => b ⟨by omega, hq, z⟩⟩
    · rw [pk_un (by omega), h.2.1 w hw v]
      constructor
      · rintro ⟨a, b⟩; exact ⟨a, fun z => b ⟨by omega, z.2⟩⟩
      · rintro ⟨a, b⟩; exact ⟨a, fun z => b ⟨by omega, z.2⟩⟩
  · rw [pk_un (by omega)]; exact h.2.2 j hj
theorem cs_RI_t {q : Int32} {d r : Nat} {b0 : Nat → Int32} {i : Nat} {fr : Int32} {bl : Nat → Int32} (hd : d < 32) (hi : i < 32) (hq : cs_h q i) (z : bl (r * 32 + i) &&& (((1 : Int32) <<< (nI d &&& 31)) ^^^ (-1)) = 0) (h : cs_RI q d r b0 i fr bl) :
    cs_RI q d r b0 (i + 1) (fr ||| ((1 : Int32) <<< (nI i &&& 31))) (upd bl (r * 32 + i) (bl (r * 32 + i) &&& (((1 : Int32) <<< (nI d &&& 31)) ^^^ (-1)))) := by
  refine ⟨fun w => ?_, cs_RI_b hd hi hq h⟩
  rw [cs_h_or, cs_h_1 hi, h.1 w]
  by_cases e : w = i
  · subst e
    rw [pk_us]
    exact ⟨fun _ => ⟨by omega, hq, z⟩, fun _ => Or.inr rfl⟩
  · rw [pk_un (by omega)]
    constructor
    · rintro (y | y)
      · exact ⟨by omega, y.2⟩
      · exact absurd y e
    · rintro y; exact Or.inl ⟨by omega, y.2⟩
theorem cs_RI_f {q : Int32} {d r : Nat} {b0 : Nat → Int32} {i : Nat} {fr : Int32} {bl : Nat → Int32} (hd : d < 32) (hi : i < 32) (hq : cs_h q i) (z : ¬ bl (r * 32 + i) &&& (((1 : Int32) <<< (nI d &&& 31)) ^^^ (-1)) = 0) (h : cs_RI q d r b0 i fr bl) :
    cs_RI q d r b0 (i + 1) fr (upd bl (r * 32 + i) (bl (r * 32 + i) &&& (((1 : Int32) <<< (nI d &&& 31)) ^^^ (-1)))) := by
  refine ⟨fun w => ?_, cs_RI_b hd hi hq h⟩
  rw [h.1 w]
  by_cases e : w = i
  · subst e
    rw [pk_us]
    exact ⟨fun y => absurd y.1 (by omega), fun y => absurd y.2.2 z⟩
  · rw [pk_un (by omega)]
    constructor
    · rintro y; exact ⟨by omega, y.2⟩
    · rintro y; exact ⟨by omega, y.2⟩
section
variable {R K S C n : Nat} {xko xvo xti xso xpo xno xol xch xar xvi xne xck xst xbl xwa xho xco xfr xse xtr xaq xfe xre : Nat → Int32}
theorem cs_xrel_l {post : Int32 → SX → Prop} {r d : Nat} {q : Int32} {b0 : Nat → Int32} (hr : r < 4) (hd : d < 32) (h : ∀ fr bl, cs_RI q d r b0 32 fr bl → post fr (nI R, nI K, nI S, nI C, nI n, xko, xvo, xti, xso, xpo, xno, xol, xch, xar, xvi, xne, xck, xst, bl, xwa, xho, xco, xfr, xse, xtr, xaq, xfe, xre)) :
    ∀ m i fr bl, i ≤ 32 → 32 - i < m → cs_RI q d r b0 i fr bl → wX_release_30 post (nI d) (nI (r * 32)) q (nI R) (nI K) (nI S) (nI C) (nI n) m fr (nI i) xko xvo xti xso xpo xno xol xch xar xvi xne xck xst bl xwa xho xco xfr xse xtr xaq xfe xre := by
  intro m
  induction m with
  | zero => intro i _ _ _ h; omega
  | succ m ih =>
    intro i fr bl hi hm hI
    by_cases hi2 : i < 32
    · refine br_f (nI_ge (b := 32) hi2 (by decide)) (cs_xhas hi2 (fun hq => ?_) (fun hq => ?_))
      · have e : nI (r * 32) + nI i = nI (r * 32 + i) := nI_add _ _
        have vi : vp_in (nI (r * 32) + nI i) 128 := by rw [e]; exact vp_in_nI (by omega) (by omega)
        have c : (nI (r * 32) + nI i).toNatClampNeg = r * 32 + i := by rw [e]; exact nI_clamp (by omega)
        refine br_f (by decide) (And.intro vi (And.intro vi (nm_r (e' := upd bl (r * 32 + i) (bl (r * 32 + i) &&& (((1 : Int32) <<< (nI d &&& 31)) ^^^ (-1)))) (by rw [c]) (And.intro vi ?_))))
        by_cases z : bl (r * 32 + i) &&& (((1 : Int32) <<< (nI d &&& 31)) ^^^ (-1)) = 0
        · exact br_t (by rw [c, pk_us]; exact z) (nm_e (nm_r (nI_1 i) (ih (i + 1) _ _ (by omega) (by omega) (cs_RI_t hd hi2 hq z hI))))
        · exact br_f (by rw [c, pk_us]; exact z) (nm_r (nI_1 i) (ih (i + 1) _ _ (by omega) (by omega) (cs_RI_f hd hi2 hq z hI)))
      · exact br_t rfl (nm_r (nI_1 i) (ih (i + 1) _ _ (by omega) (by omega) (cs_RI_n hq hI)))
    · have e : i = 32 := by omega
      subst e
      exact br_t (nI_le (a := 32) (by omega) (by omega)) (h fr bl hI)
theorem cs_xrel {post : Int32 → SX → Prop} {r d : Nat} (hr : r < 4) (hd : d < 32) (h : ∀ fr bl, cs_RI (xwa (r * 32 + d)) d r xbl 32 fr bl → post fr (nI R, nI K, nI S, nI C, nI n, xko, xvo, xti, xso, xpo, xno, xol, xch, xar, xvi, xne, xck, xst, bl, upd xwa (r * 32 + d) 0, xho, xco, xfr, xse, xtr, xaq, xfe, xre)) : wpX_release post (nI R, nI K, nI S, nI C, nI n, xko, xvo, xti, xso, xpo, xno, xol, xch, xar, xvi, xne, xck, xst, xbl, xwa, xho, xco, xfr, xse, xtr, xaq, xfe, xre) (nI r) (nI d) := by
  have e : nI (r * 32) + nI d = nI (r * 32 + d) := nI_add _ _
  have vi : vp_in (nI (r * 32) + nI d) 128 := by rw [e]; exact vp_in_nI (by omega) (by omega)
  have c : (nI (r * 32) + nI d).toNatClampNeg = r * 32 + d := by rw [e]; exact nI_clamp (by omega)
  refine nm_r (cs_m32 r) (And.intro vi (nm_r (e' := xwa (r * 32 + d)) (by rw [c]) (And.intro vi (nm_r (e' := upd xwa (r * 32 + d) 0) (by rw [c]) ?_))))
  exact Exists.intro 33 (cs_xrel_l hr hd h 33 0 0 xbl (by omega) (by omega) cs_RI_0)
end
/-! hold -/
def cs_HI (m : Int32) (w r : Nat) (a0 : Nat → Int32) (i : Nat) (wa : Nat → Int32) : Prop :=
  (∀ d, d < 32 → ∀ v, cs_h (wa (r * 32 + d)) v ↔ cs_h (a0 (r * 32 + d)) v ∨ (d < i ∧ cs_h m d ∧ v = w)) ∧ (∀ j, (j < r * 32 ∨ r * 32 + 32 ≤ j) → wa j = a0 j)
theorem cs_HI_0 {m : Int32} {w r : Nat} {a0 : Nat → Int32} : cs_HI m w r a0 0 a0 :=
  ⟨fun d _ v => ⟨Or.inl, fun h => h.elim id fun z => absurd z.1 (by omega)⟩, fun j _ => rfl⟩
theorem cs_HI_n {m : Int32} {w r : Nat} {a0 : Nat → Int32} {i : Nat} {wa : Nat → Int32} (hq : ¬ cs_h m i) (h : cs_HI m w r a0 i wa) : cs_HI m w r a0 (i + 1) wa := by
  refine ⟨fun d hd v => ?_, h.2⟩
  rw [h.1 d hd v]
  constructor
  · rintro (y | y)
    · exact Or.inl y
    · exact Or.inr ⟨by omega, y.2⟩
  · rintro (y | y)
    · exact Or.inl y
    · refine Or.inr ⟨?_, y.2⟩
      by_cases e : d = i
      · rw [e] at y; exact absurd y.2.1 hq
      · omega
theorem cs_HI_t {m : Int32} {w r : Nat} {a0 : Nat → Int32} {i : Nat} {wa : Nat → Int32} (hw : w < 32) (hi : i < 32) (hq : cs_h m i) (h : cs_HI m w r a0 i wa) :
    cs_HI m w r a0 (i + 1) (upd wa (r * 32 + i) (wa (r * 32 + i) ||| ((1 : Int32) <<< (nI w &&& 31)))) := by
  refine ⟨fun d hd v => ?_, fun j hj => ?_⟩
  · by_cases e : d = i
    · subst e
      rw [pk_us, cs_h_or, cs_h_1 hw, h.1 d hd v]
      constructor
      · rintro ((y | y) | y)
        · exact Or.inl y
        · exact absurd y.1 (by omega)
        · exact Or.inr ⟨by omega, hq, y⟩
      · rintro (y | y)
        · exact Or.inl (Or.inl y)
        · exact Or.inr y.2.2
    · rw [pk_un (by omega), h.1 d hd v]
      constructor
      · rintro (y | y)
        · exact Or.inl y
        · exact Or.inr ⟨by omega, y.2⟩
      · rintro (y | y)
        · exact Or.inl y
        · exact Or.inr ⟨by omega, y.2⟩
  · rw [pk_un (by omega)]; exact h.2 j hj
section
variable {R K S C n : Nat} {xko xvo xti xso xpo xno xol xch xar xvi xne xck xst xbl xwa xho xco xfr xse xtr xaq xfe xre : Nat → Int32}
theorem cs_xhold_l {post : SX → Prop} {r w : Nat} {q : Int32} {a0 : Nat → Int32} (hr : r < 4) (hw : w < 32) (h : ∀ wa, cs_HI q w r a0 32 wa → post (nI R, nI K, nI S, nI C, nI n, xko, xvo, xti, xso, xpo, xno, xol, xch, xar, xvi, xne, xck, xst, xbl, wa, xho, xco, xfr, xse, xtr, xaq, xfe, xre)) :
    ∀ m i wa, i ≤ 32 → 32 - i < m → cs_HI q w r a0 i wa → wX_hold_19 post (nI w) q (nI (r * 32)) (nI R) (nI K) (nI S) (nI C) (nI n) m (nI i) xko xvo xti xso xpo xno xol xch xar xvi xne xck xst xbl wa xho xco xfr xse xtr xaq xfe xre := by
  intro m
  induction m with
  | zero => intro i _ _ h; omega
  | succ m ih =>
    intro i wa hi hm hI
    by_cases hi2 : i < 32
    · refine br_f (nI_ge (b := 32) hi2 (by decide)) (cs_xhas hi2 (fun hq => ?_) (fun hq => ?_))
      · have e : nI (r * 32) + nI i = nI (r * 32 + i) := nI_add _ _
        have vi : vp_in (nI (r * 32) + nI i) 128 := by rw [e]; exact vp_in_nI (by omega) (by omega)
        have c : (nI (r * 32) + nI i).toNatClampNeg = r * 32 + i := by rw [e]; exact nI_clamp (by omega)
        exact br_f (by decide) (And.intro vi (And.intro vi (nm_r (e' := upd wa (r * 32 + i) (wa (r * 32 + i) ||| ((1 : Int32) <<< (nI w &&& 31)))) (by rw [c]) (nm_r (nI_1 i) (ih (i + 1) _ (by omega) (by omega) (cs_HI_t hw hi2 hq hI))))))
      · exact br_t rfl (nm_r (nI_1 i) (ih (i + 1) _ (by omega) (by omega) (cs_HI_n hq hI)))
    · have e : i = 32 := by omega
      subst e
      exact br_t (nI_le (a := 32) (by omega) (by omega)) (h wa hI)
theorem cs_xhold {post : SX → Prop} {r w : Nat} {q : Int32} (hr : r < 4) (hw : w < 32) (h : ∀ wa, cs_HI q w r xwa 32 wa → post (nI R, nI K, nI S, nI C, nI n, xko, xvo, xti, xso, xpo, xno, xol, xch, xar, xvi, xne, xck, xst, upd xbl (r * 32 + w) q, wa, xho, xco, xfr, xse, xtr, xaq, xfe, xre)) : wpX_hold post (nI R, nI K, nI S, nI C, nI n, xko, xvo, xti, xso, xpo, xno, xol, xch, xar, xvi, xne, xck, xst, xbl, xwa, xho, xco, xfr, xse, xtr, xaq, xfe, xre) (nI r) (nI w) q := by
  have e : nI (r * 32) + nI w = nI (r * 32 + w) := nI_add _ _
  have vi : vp_in (nI (r * 32) + nI w) 128 := by rw [e]; exact vp_in_nI (by omega) (by omega)
  have c : (nI (r * 32) + nI w).toNatClampNeg = r * 32 + w := by rw [e]; exact nI_clamp (by omega)
  refine nm_r (cs_m32 r) (And.intro vi (nm_r (e' := upd xbl (r * 32 + w) q) (by rw [c]) ?_))
  exact Exists.intro 33 (cs_xhold_l hr hw h 33 0 xwa (by omega) (by omega) cs_HI_0)
end
end
section
/-! arrival at a replica: the component's showAll, hold, arrive -/
theorem cs_Bst_a1 {sf : Nat → Nat} {T : Nat → Prop} {i : Nat} {b : Option Nat} (hb : cs_Bst sf T b) (h : ∀ v, b = some v → sf v ≤ sf i) : cs_Bst sf (fun w => T w ∨ w = i) (some i) := by
  refine ⟨Or.inr rfl, fun v hv => ?_⟩
  rcases hv with z | z
  · cases b with
    | none => exact absurd z (hb v)
    | some u => exact Nat.le_trans (hb.2 v z) (h u rfl)
  · rw [z]; exact Nat.le_refl _
theorem cs_Bst_a0 {sf : Nat → Nat} {T : Nat → Prop} {i u : Nat} (hb : cs_Bst sf T (some u)) (h : sf i ≤ sf u) : cs_Bst sf (fun w => T w ∨ w = i) (some u) := by
  refine ⟨Or.inl hb.1, fun v hv => ?_⟩
  rcases hv with z | z
  · exact hb.2 v z
  · rw [z]; exact h
theorem cs_cn_or {s : Int32} {i : Nat} (hi : i < 32) (h : ¬ cs_h s i) : cs_cn (bt (s ||| ((1 : Int32) <<< (nI i &&& 31)))) 32 = cs_cn (bt s) 32 + 1 := by
  have key : ∀ j, bt (s ||| ((1 : Int32) <<< (nI i &&& 31))) j = true ↔ bt s j = true ∨ j = i := fun j => by
    have := cs_h_or s ((1 : Int32) <<< (nI i &&& 31)) j
    rw [cs_h_1 hi] at this
    exact this
  refine cs_cn_add (a := i) (Bool.eq_false_iff.mpr h) ((key i).mpr (Or.inr rfl)) (fun j hj => ?_) hi
  have := key j
  cases e : bt s j <;> cases f : bt (s ||| ((1 : Int32) <<< (nI i &&& 31))) j <;> simp_all
def cs_SI (K : Nat) (kf sf : Nat → Nat) (P : Nat → Nat → Bool) (a : Nat → Bool) (r : Nat) (v0 n0 b0 w0 vi ne bl wa : Nat → Int32) (rd : Int32) : Prop :=
  cs_L1 P a (cs_h (vi r)) (cs_h rd) ∧
  (∀ k, k < K → ∃ b, ne (r * 8 + k) = cs_oI b ∧ cs_Bst sf (fun w => kf w = k ∧ cs_h (vi r) w) b) ∧
  (∀ w, w < 32 → ∀ v, cs_h (bl (r * 32 + w)) v ↔ a w = true ∧ cs_Mx (P w) P v ∧ ¬ cs_h (vi r) v) ∧
  (∀ d, d < 32 → ∀ w, cs_h (wa (r * 32 + d)) w ↔ a w = true ∧ cs_Mx (P w) P d ∧ ¬ cs_h (vi r) d) ∧
  (∀ q, q ≠ r → vi q = v0 q) ∧ (∀ j, (j < r * 8 ∨ r * 8 + 8 ≤ j) → ne j = n0 j) ∧
  (∀ j, (j < r * 32 ∨ r * 32 + 32 ≤ j) → bl j = b0 j) ∧ (∀ j, (j < r * 32 ∨ r * 32 + 32 ≤ j) → wa j = w0 j)
theorem cs_SI_step {n K : Nat} {kf sf : Nat → Nat} {P : Nat → Nat → Bool} {a : Nat → Bool} {r i : Nat} {v0 n0 b0 w0 vi ne bl wa ne' bl' : Nat → Int32} {rd fr : Int32}
    (hP : cs_PO n P) (hn : n ≤ 32) (ha : ∀ w, a w = true → w < n) (h : cs_SI K kf sf P a r v0 n0 b0 w0 vi ne bl wa rd) (hi : cs_h rd i)
    (hR : cs_RI (wa (r * 32 + i)) i r bl 32 fr bl') (h1 : ∀ j, (j < r * 8 ∨ r * 8 + 8 ≤ j) → ne' j = n0 j)
    (h2 : ∀ k, k < K → ∃ b, ne' (r * 8 + k) = cs_oI b ∧ cs_Bst sf (fun w => kf w = k ∧ (cs_h (vi r) w ∨ w = i)) b) :
    cs_SI K kf sf P a r v0 n0 b0 w0 (upd vi r (vi r ||| ((1 : Int32) <<< (nI i &&& 31)))) ne' bl' (upd wa (r * 32 + i) 0) ((rd &&& (((1 : Int32) <<< (nI i &&& 31)) ^^^ (-1))) ||| fr) := by
  obtain ⟨hL, _, hbl, hwa, hv0, _, hb0, hw0⟩ := h
  have hi32 := cs_h_lt hi
  have nvi := ((hL.2 i).mp hi).2.1
  have eV : cs_h (upd vi r (vi r ||| ((1 : Int32) <<< (nI i &&& 31))) r) = fun w => cs_h (vi r) w ∨ w = i := by
    funext w; rw [pk_us]; exact propext (by rw [cs_h_or, cs_h_1 hi32])
  have hfr : ∀ w, cs_h fr w ↔ (a w = true ∧ cs_Mx (P w) P i ∧ ∀ v, cs_Mx (P w) P v → cs_h (vi r) v ∨ v = i) := by
    intro w
    rw [hR.1 w]
    constructor
    · rintro ⟨hw, hq, hz⟩
      have hq' := (hwa i hi32 w).mp hq
      refine ⟨hq'.1, hq'.2.1, fun v mv => ?_⟩
      apply Classical.byContradiction
      intro z
      have := (hR.2.1 w hw v).mpr ⟨(hbl w hw v).mpr ⟨hq'.1, mv, fun y => z (Or.inl y)⟩, fun y => z (Or.inr y.2.2)⟩
      rw [hz] at this
      exact cs_h_0 v this
    · rintro ⟨aw, mi, hv⟩
      have hw : w < 32 := by have := ha w aw; omega
      have hq := (hwa i hi32 w).mpr ⟨aw, mi, nvi⟩
      refine ⟨hw, hq, cs_h_z.mpr fun v y => ?_⟩
      obtain ⟨y1, y2⟩ := (hR.2.1 w hw v).mp y
      obtain ⟨_, mv, nv⟩ := (hbl w hw v).mp y1
      rcases hv v mv with q | q
      · exact nv q
      · exact y2 ⟨hw, hq, q⟩
  have eR : cs_h ((rd &&& (((1 : Int32) <<< (nI i &&& 31)) ^^^ (-1))) ||| fr) = fun w => (cs_h rd w ∧ w ≠ i) ∨ (a w = true ∧ cs_Mx (P w) P i ∧ ∀ v, cs_Mx (P w) P v → cs_h (vi r) v ∨ v = i) := by
    funext w; exact propext (by rw [cs_h_or, cs_h_dif, cs_h_1 hi32, hfr w])
  unfold cs_SI
  rw [eV, eR]
  refine ⟨cs_L1_step hP hL hi, h2, fun w hw v => ?_, fun d hd w => ?_, fun q hq => ?_, h1, fun j hj => ?_, fun j hj => ?_⟩
  · rw [hR.2.1 w hw v, hbl w hw v]
    constructor
    · rintro ⟨⟨aw, mv, nv⟩, z⟩
      refine ⟨aw, mv, fun y => y.elim nv fun e => z ⟨hw, ?_, e⟩⟩
      rw [e] at mv
      exact (hwa i hi32 w).mpr ⟨aw, mv, nvi⟩
    · rintro ⟨aw, mv, nv⟩
      exact ⟨⟨aw, mv, fun y => nv (Or.inl y)⟩, fun y => nv (Or.inr y.2.2)⟩
  · by_cases e : d = i
    · subst e
      rw [pk_us]
      exact ⟨fun z => absurd z (cs_h_0 w), fun z => absurd (Or.inr rfl) z.2.2⟩
    · rw [pk_un (by omega), hwa d hd w]
      constructor
      · rintro ⟨y1, y2, y3⟩; exact ⟨y1, y2, fun y => y.elim y3 e⟩
      · rintro ⟨y1, y2, y3⟩; exact ⟨y1, y2, fun y => y3 (Or.inl y)⟩
  · rw [pk_un hq]; exact hv0 q hq
  · rw [hR.2.2 j hj]; exact hb0 j hj
  · rw [pk_un (by omega)]; exact hw0 j hj
section
variable {R K S C n : Nat} {xko xvo xti xso xpo xno xol xch xar xvi xne xck xst xbl xwa xho xco xfr xse xtr xaq xfe xre : Nat → Int32}
variable {kf sf : Nat → Nat} {P : Nat → Nat → Bool} {a : Nat → Bool} {r : Nat} {v0 n0 b0 w0 : Nat → Int32}
theorem cs_xsa_l {post : SX → Prop} (hr : r < 4) (hn : n ≤ 32) (hK : K ≤ 8) (hP : cs_PO n P) (ha : ∀ w, a w = true → w < n) (hkf : ∀ w, kf w < K) (hko : ∀ w, xko w = nI (kf w))
    (hso : ∀ w, w < n → xso w = nI (sf w)) (hsb : ∀ w, sf w < 2 ^ 31)
    (h : ∀ vi ne bl wa rd, cs_SI K kf sf P a r v0 n0 b0 w0 vi ne bl wa rd → rd = 0 → post (nI R, nI K, nI S, nI C, nI n, xko, xvo, xti, xso, xpo, xno, xol, xch, xar, vi, ne, xck, xst, bl, wa, xho, xco, xfr, xse, xtr, xaq, xfe, xre)) :
    ∀ m i vi ne bl wa rd, i ≤ 32 → 32 - i < m → i ≤ cs_cn (bt (vi r)) 32 → cs_SI K kf sf P a r v0 n0 b0 w0 vi ne bl wa rd → wX_showAll_7 post (nI r) m rd (nI i) (nI R) (nI K) (nI S) (nI C) (nI n) xko xvo xti xso xpo xno xol xch xar vi ne xck xst bl wa xho xco xfr xse xtr xaq xfe xre := by
  intro m
  induction m with
  | zero => intro i _ _ _ _ _ _ h; omega
  | succ m ih =>
    intro i vi ne bl wa rd hi hm hc hS
    by_cases hi2 : i < 32
    · refine br_f (nI_ge (b := 32) hi2 (by decide)) ?_
      by_cases z : rd = 0
      · exact br_t z (h vi ne bl wa rd hS z)
      · refine br_f z (cs_xlow (fun j hj hin _ => ?_) (fun e => absurd e z))
        have hL := (hS.1.2 j).mp hin
        have hjn := ha j hL.1
        obtain ⟨b, hb, hB⟩ := hS.2.1 (kf j) (hkf j)
        have hbV : ∀ v, b = some v → v < 32 ∧ v < n := fun v e => by
          subst e
          exact ⟨cs_h_lt hB.1.2, ha v (hS.1.1 v hB.1.2).1⟩
        have hcn : i + 1 ≤ cs_cn (bt (upd vi r (vi r ||| ((1 : Int32) <<< (nI j &&& 31))) r)) 32 := by
          rw [pk_us, cs_cn_or hj hL.2.1]; omega
        have hne : ∀ {b' : Option Nat} {ne' : Nat → Int32}, (∀ q, q ≠ r * 8 + kf j → ne' q = ne q) → ne' (r * 8 + kf j) = cs_oI b' → cs_Bst sf (fun w => (kf w = kf j ∧ cs_h (vi r) w) ∨ w = j) b' →
            (∀ q, (q < r * 8 ∨ r * 8 + 8 ≤ q) → ne' q = n0 q) ∧ (∀ k, k < K → ∃ b, ne' (r * 8 + k) = cs_oI b ∧ cs_Bst sf (fun w => kf w = k ∧ (cs_h (vi r) w ∨ w = j)) b) := by
          intro b' ne' e1 e2 e3
          have := hkf j
          refine ⟨fun q hq => ?_, fun k hk => ?_⟩
          · rw [e1 q (by omega)]; exact hS.2.2.2.2.2.1 q hq
          · by_cases e : k = kf j
            · subst e
              refine ⟨b', e2, cs_Bst_iff (fun w => ?_) e3⟩
              constructor
              · rintro (y | y)
                · exact ⟨y.1, Or.inl y.2⟩
                · exact ⟨by rw [y], Or.inr y⟩
              · rintro ⟨y1, y | y⟩
                · exact Or.inl ⟨y1, y⟩
                · exact Or.inr y
            · obtain ⟨c, hc, hC⟩ := hS.2.1 k hk
              refine ⟨c, by rw [e1 _ (by omega)]; exact hc, cs_Bst_iff (fun w => ?_) hC⟩
              constructor
              · rintro ⟨y1, y2⟩; exact ⟨y1, Or.inl y2⟩
              · rintro ⟨y1, y | y⟩
                · exact ⟨y1, y⟩
                · rw [y] at y1; exact absurd y1.symm e
        refine nm_e (cs_xshow hr hj (hko j) (by have := hkf j; omega) hb (fun v e => (hbV v e).1) (fun h1 => ?_) (fun h0 => ?_))
        · have hx := hne (b' := some j) (ne' := upd ne (r * 8 + kf j) (nI j)) (fun q hq => pk_un hq) pk_us (cs_Bst_a1 hB fun v e => by
            have := h1 v e
            rw [hso j hjn, hso v (hbV v e).2, nI_leI (hsb j) (hsb v)] at this
            omega)
          refine cs_xrel hr hj (fun fr bl' hR => ?_)
          exact nm_e (nm_r (nI_1 i) (ih (i + 1) _ _ _ _ _ (by omega) (by omega) hcn (cs_SI_step hP hn ha hS hin hR hx.1 hx.2)))
        · obtain ⟨v, e, hle⟩ := h0
          have hx := hne (b' := b) (ne' := ne) (fun q hq => rfl) hb (by
            subst e
            refine cs_Bst_a0 hB ?_
            rw [hso j hjn, hso v (hbV v rfl).2, nI_leI (hsb j) (hsb v)] at hle
            exact hle)
          refine cs_xrel hr hj (fun fr bl' hR => ?_)
          exact nm_e (nm_r (nI_1 i) (ih (i + 1) _ _ _ _ _ (by omega) (by omega) hcn (cs_SI_step hP hn ha hS hin hR hx.1 hx.2)))
    · have e : i = 32 := by omega
      subst e
      refine br_t (nI_le (a := 32) (by omega) (by omega)) (h vi ne bl wa rd hS (cs_h_z.mpr fun j hj => ?_))
      have hL := (hS.1.2 j).mp hj
      have := cs_cn_le (bt (vi r)) 32
      exact hL.2.1 (cs_cn_full (p := bt (vi r)) (m := 32) (by omega) j (cs_h_lt hj))
theorem cs_xsa {post : SX → Prop} {i : Nat} (hr : r < 4) (hn : n ≤ 32) (hK : K ≤ 8) (hP : cs_PO n P) (ha : ∀ w, a w = true → w < n) (hkf : ∀ w, kf w < K) (hko : ∀ w, xko w = nI (kf w))
    (hso : ∀ w, w < n → xso w = nI (sf w)) (hsb : ∀ w, sf w < 2 ^ 31) (hS : cs_SI K kf sf P a r xvi xne xbl xwa xvi xne xbl xwa ((1 : Int32) <<< (nI i &&& 31)))
    (h : ∀ vi ne bl wa rd, cs_SI K kf sf P a r xvi xne xbl xwa vi ne bl wa rd → rd = 0 → post (nI R, nI K, nI S, nI C, nI n, xko, xvo, xti, xso, xpo, xno, xol, xch, xar, vi, ne, xck, xst, bl, wa, xho, xco, xfr, xse, xtr, xaq, xfe, xre)) : wpX_showAll post (nI R, nI K, nI S, nI C, nI n, xko, xvo, xti, xso, xpo, xno, xol, xch, xar, xvi, xne, xck, xst, xbl, xwa, xho, xco, xfr, xse, xtr, xaq, xfe, xre) (nI r) (nI i) :=
  nm_e (Exists.intro 33 (cs_xsa_l hr hn hK hP ha hkf hko hso hsb h 33 0 xvi xne xbl xwa _ (by omega) (by omega) (Nat.zero_le _) hS))
end
/-- what the component keeps of replica r, at which the writes of a have arrived -/
def cs_Rp (n K S : Nat) (kf tf og : Nat → Nat) (P : Nat → Nat → Bool) (a : Nat → Bool) (r : Nat) (xar xvi xne xck xst xbl xwa : Nat → Int32) : Prop :=
  (∀ w, a w = true → w < n) ∧
  (∀ w, cs_h (xar r) w ↔ a w = true) ∧
  (∀ w, cs_h (xvi r) w ↔ cs_V P a w) ∧
  (∀ k, k < K → ∃ b, xne (r * 8 + k) = cs_oI b ∧ cs_Bst (cs_sf kf tf og) (fun w => kf w = k ∧ cs_V P a w) b) ∧
  (∀ s, s < S → ∃ t, xck (r * 4 + s) = nI t ∧ cs_Tm tf (fun w => a w = true ∧ kf w % S = s) t) ∧
  (∀ s, s < S → ∀ w, cs_h (xst (r * 4 + s)) w ↔ w < n ∧ og w = r ∧ kf w % S = s) ∧
  (∀ w, w < 32 → ∀ v, cs_h (xbl (r * 32 + w)) v ↔ a w = true ∧ cs_Mx (P w) P v ∧ ¬ cs_V P a v) ∧
  (∀ d, d < 32 → ∀ w, cs_h (xwa (r * 32 + d)) w ↔ a w = true ∧ cs_Mx (P w) P d ∧ ¬ cs_V P a d)
/-- the other replicas' cells are as they were -/
def cs_Ot (r : Nat) (xar xvi xne xck xbl xwa ar vi ne ck bl wa : Nat → Int32) : Prop :=
  (∀ q, q ≠ r → ar q = xar q) ∧ (∀ q, q ≠ r → vi q = xvi q) ∧ (∀ j, (j < r * 8 ∨ r * 8 + 8 ≤ j) → ne j = xne j) ∧ (∀ j, (j < r * 4 ∨ r * 4 + 4 ≤ j) → ck j = xck j) ∧
  (∀ j, (j < r * 32 ∨ r * 32 + 32 ≤ j) → bl j = xbl j) ∧ (∀ j, (j < r * 32 ∨ r * 32 + 32 ≤ j) → wa j = xwa j)
theorem cs_Rp_ot {n K S : Nat} {kf tf og : Nat → Nat} {P : Nat → Nat → Bool} {a : Nat → Bool} {r q : Nat} {xar xvi xne xck xst xbl xwa ar vi ne ck bl wa : Nat → Int32} (hK : K ≤ 8) (hS : S ≤ 4) (hq : q ≠ r)
    (ho : cs_Ot r xar xvi xne xck xbl xwa ar vi ne ck bl wa) (h : cs_Rp n K S kf tf og P a q xar xvi xne xck xst xbl xwa) : cs_Rp n K S kf tf og P a q ar vi ne ck xst bl wa := by
  obtain ⟨h1, h2, h3, h4, h5, h6, h7, h8⟩ := h
  obtain ⟨o1, o2, o3, o4, o5, o6⟩ := ho
  refine ⟨h1, fun w => by rw [o1 q hq]; exact h2 w, fun w => by rw [o2 q hq]; exact h3 w, fun k hk => ?_, fun s hs => ?_, h6, fun w hw v => ?_, fun d hd w => ?_⟩
  · rw [o3 _ (by omega)]; exact h4 k hk
  · rw [o4 _ (by omega)]; exact h5 s hs
  · rw [o5 _ (by omega)]; exact h7 w hw v
  · rw [o6 _ (by omega)]; exact h8 d hd w
section
variable {R K S C n : Nat} {xko xvo xti xso xpo xno xol xch xar xvi xne xck xst xbl xwa xho xco xfr xse xtr xaq xfe xre : Nat → Int32}
variable {kf tf og : Nat → Nat} {P : Nat → Nat → Bool} {a : Nat → Bool} {r w : Nat}
theorem cs_xarr55 {post : SX → Prop} (hr : r < 4) (hn : n ≤ 32) (hK : K ≤ 8) (hP : cs_PO n P) (hw : w < n) (haw : ¬ a w = true) (ha : ∀ w, a w = true → w < n) (hkf : ∀ w, kf w < K) (hko : ∀ w, xko w = nI (kf w))
    (hso : ∀ w, w < n → xso w = nI (cs_sf kf tf og w)) (hsb : ∀ w, cs_sf kf tf og w < 2 ^ 31) (hno : ∀ v, cs_h (xno w) v ↔ cs_Mx (P w) P v)
    (h3 : ∀ w, cs_h (xvi r) w ↔ cs_V P a w)
    (h4 : ∀ k, k < K → ∃ b, xne (r * 8 + k) = cs_oI b ∧ cs_Bst (cs_sf kf tf og) (fun w => kf w = k ∧ cs_V P a w) b)
    (h7 : ∀ w, w < 32 → ∀ v, cs_h (xbl (r * 32 + w)) v ↔ a w = true ∧ cs_Mx (P w) P v ∧ ¬ cs_V P a v)
    (h8 : ∀ d, d < 32 → ∀ w, cs_h (xwa (r * 32 + d)) w ↔ a w = true ∧ cs_Mx (P w) P d ∧ ¬ cs_V P a d)
    (h : ∀ vi ne bl wa, (∀ v, cs_h (vi r) v ↔ cs_V P (cs_u a w true) v) →
      (∀ k, k < K → ∃ b, ne (r * 8 + k) = cs_oI b ∧ cs_Bst (cs_sf kf tf og) (fun v => kf v = k ∧ cs_V P (cs_u a w true) v) b) →
      (∀ u, u < 32 → ∀ v, cs_h (bl (r * 32 + u)) v ↔ cs_u a w true u = true ∧ cs_Mx (P u) P v ∧ ¬ cs_V P (cs_u a w true) v) →
      (∀ d, d < 32 → ∀ u, cs_h (wa (r * 32 + d)) u ↔ cs_u a w true u = true ∧ cs_Mx (P u) P d ∧ ¬ cs_V P (cs_u a w true) d) →
      (∀ q, q ≠ r → vi q = xvi q) → (∀ j, (j < r * 8 ∨ r * 8 + 8 ≤ j) → ne j = xne j) → (∀ j, (j < r * 32 ∨ r * 32 + 32 ≤ j) → bl j = xbl j) → (∀ j, (j < r * 32 ∨ r * 32 + 32 ≤ j) → wa j = xwa j) →
      post (nI R, nI K, nI S, nI C, nI n, xko, xvo, xti, xso, xpo, xno, xol, xch, xar, vi, ne, xck, xst, bl, wa, xho, xco, xfr, xse, xtr, xaq, xfe, xre)) : wX_arrive_55 post (nI r) (nI w) (nI R) (nI K) (nI S) (nI C) (nI n) xko xvo xti xso xpo xno xol xch xar xvi xne xck xst xbl xwa xho xco xfr xse xtr xaq xfe xre := by
  have c1 : (nI r).toNatClampNeg = r := nI_clamp (by omega)
  have c2 : (nI w).toNatClampNeg = w := nI_clamp (by omega)
  have i1 : vp_in (nI r) 4 := vp_in_nI hr (by omega)
  have i2 : vp_in (nI w) 32 := vp_in_nI (by omega) (by omega)
  have ha' : ∀ v, cs_u a w true v = true → v < n := fun v hv => by
    by_cases e : v = w
    · omega
    · rw [cs_un e] at hv; exact ha v hv
  have hu : ∀ v, cs_u a w true v = true ↔ a v = true ∨ v = w := fun v => by
    by_cases e : v = w
    · subst e; rw [cs_us]; exact ⟨fun _ => Or.inr rfl, fun _ => rfl⟩
    · rw [cs_un e]; exact ⟨Or.inl, fun y => y.elim id fun y => absurd y e⟩
  refine And.intro i2 (And.intro i1 (nm_r (e' := xno w &&& (xvi r ^^^ (-1))) (by rw [c1, c2]) ?_))
  by_cases z : xno w &&& (xvi r ^^^ (-1)) = 0
  · have hz : ∀ v, cs_Mx (P w) P v → cs_h (xvi r) v := fun v hv => by
      apply Classical.byContradiction
      intro y
      exact cs_h_z.mp z v ((cs_h_dif _ _ _).mpr ⟨(hno v).mpr hv, y⟩)
    have e1 : cs_h ((1 : Int32) <<< (nI w &&& 31)) = fun v => v = w := by funext v; exact propext (cs_h_1 (by omega) v)
    refine br_t z (cs_xsa (kf := kf) (sf := cs_sf kf tf og) (P := P) (a := cs_u a w true) hr hn hK hP ha' hkf hko hso hsb ?_ (fun vi ne bl wa rd hS hrd => ?_))
    · refine ⟨by rw [e1]; exact cs_L1_init hP h3 haw hz, fun k hk => ?_, fun u hu' v => ?_, fun d hd u => ?_, fun _ _ => rfl, fun _ _ => rfl, fun _ _ => rfl, fun _ _ => rfl⟩
      · obtain ⟨b, hb, hB⟩ := h4 k hk
        exact ⟨b, hb, cs_Bst_iff (fun v => by rw [h3 v]) hB⟩
      · rw [h7 u hu' v, ← h3 v, hu u]
        constructor
        · rintro ⟨y1, y2, y3⟩; exact ⟨Or.inl y1, y2, y3⟩
        · rintro ⟨y1 | y1, y2, y3⟩
          · exact ⟨y1, y2, y3⟩
          · rw [y1] at y2; exact absurd (hz v y2) y3
      · rw [h8 d hd u, ← h3 d, hu u]
        constructor
        · rintro ⟨y1, y2, y3⟩; exact ⟨Or.inl y1, y2, y3⟩
        · rintro ⟨y1 | y1, y2, y3⟩
          · exact ⟨y1, y2, y3⟩
          · rw [y1] at y2; exact absurd (hz d y2) y3
    · obtain ⟨s1, s2, s3, s4, s5, s6, s7, s8⟩ := hS
      have hV := cs_L1_end hP s1 (fun v => by rw [hrd]; exact cs_h_0 v)
      refine h vi ne bl wa hV (fun k hk => ?_) (fun u hu' v => ?_) (fun d hd u => ?_) s5 s6 s7 s8
      · obtain ⟨b, hb, hB⟩ := s2 k hk
        exact ⟨b, hb, cs_Bst_iff (fun v => by rw [hV v]) hB⟩
      · rw [s3 u hu' v, hV v]
      · rw [s4 d hd u, hV d]
  · obtain ⟨j, hj⟩ := cs_h_nz z
    rw [cs_h_dif, hno j] at hj
    have hV := cs_hold hP h3 hj.1.1 hj.2
    refine br_f z (cs_xhold hr (by omega) (fun wa hI => ?_))
    refine h xvi xne _ wa hV (fun k hk => ?_) (fun u hu' v => ?_) (fun d hd u => ?_) (fun _ _ => rfl) (fun _ _ => rfl) (fun q hq => pk_un (by omega)) hI.2
    · obtain ⟨b, hb, hB⟩ := h4 k hk
      exact ⟨b, hb, cs_Bst_iff (fun v => by rw [← h3 v, hV v]) hB⟩
    · rw [← hV v, hu u]
      by_cases e : u = w
      · subst e
        rw [pk_us, cs_h_dif, hno v]
        exact ⟨fun y => ⟨Or.inr rfl, y⟩, fun y => y.2⟩
      · rw [pk_un (by omega), h7 u hu' v, ← h3 v]
        constructor
        · rintro ⟨y1, y2, y3⟩; exact ⟨Or.inl y1, y2, y3⟩
        · rintro ⟨y1 | y1, y2, y3⟩
          · exact ⟨y1, y2, y3⟩
          · exact absurd y1 e
    · rw [hI.1 d hd u, h8 d hd u, ← h3 d, ← hV d, hu u, cs_h_dif, hno d]
      constructor
      · rintro (⟨y1, y2, y3⟩ | ⟨_, ⟨y2, y3⟩, y4⟩)
        · exact ⟨Or.inl y1, y2, y3⟩
        · subst y4; exact ⟨Or.inr rfl, y2, y3⟩
      · rintro ⟨y1 | y1, y2, y3⟩
        · exact Or.inl ⟨y1, y2, y3⟩
        · subst y1; exact Or.inr ⟨hd, ⟨y2, y3⟩, rfl⟩
theorem cs_xarr {post : SX → Prop} (hr : r < R) (hR : R ≤ 4) (hn : n ≤ 32) (hK : K ≤ 8) (hS1 : 1 ≤ S) (hS4 : S ≤ 4) (hW : cs_W R K S n kf tf og P) (hw : w < n) (haw : ¬ a w = true) (hko : ∀ w, xko w = nI (kf w)) (hti : ∀ w, xti w = nI (tf w))
    (hso : ∀ w, w < n → xso w = nI (cs_sf kf tf og w)) (hsb : ∀ w, cs_sf kf tf og w < 2 ^ 31) (hno : ∀ v, cs_h (xno w) v ↔ cs_Mx (P w) P v)
    (hp : cs_Rp n K S kf tf og P a r xar xvi xne xck xst xbl xwa)
    (h : ∀ ar vi ne ck bl wa, cs_Rp n K S kf tf og P (cs_u a w true) r ar vi ne ck xst bl wa → cs_Ot r xar xvi xne xck xbl xwa ar vi ne ck bl wa → post (nI R, nI K, nI S, nI C, nI n, xko, xvo, xti, xso, xpo, xno, xol, xch, ar, vi, ne, ck, xst, bl, wa, xho, xco, xfr, xse, xtr, xaq, xfe, xre)) : wpX_arrive post (nI R, nI K, nI S, nI C, nI n, xko, xvo, xti, xso, xpo, xno, xol, xch, xar, xvi, xne, xck, xst, xbl, xwa, xho, xco, xfr, xse, xtr, xaq, xfe, xre) (nI r) (nI w) := by
  obtain ⟨h1, h2, h3, h4, h5, h6, h7, h8⟩ := hp
  obtain ⟨hkf, hof, htf, hP, _, _⟩ := hW
  have hmod : kf w % S < S := Nat.mod_lt _ (by omega)
  have c1 : (nI r).toNatClampNeg = r := nI_clamp (by omega)
  have c2 : (nI w).toNatClampNeg = w := nI_clamp (by omega)
  have c3 : (nI (r * 4 + kf w % S)).toNatClampNeg = r * 4 + kf w % S := nI_clamp (by omega)
  have i1 : vp_in (nI r) 4 := vp_in_nI (by omega) (by omega)
  have i2 : vp_in (nI w) 32 := vp_in_nI (by omega) (by omega)
  have i3 : vp_in (nI (r * 4 + kf w % S)) 16 := vp_in_nI (by omega) (by omega)
  have hk8 := hkf w
  have e3 : nI r * 4 + (xko (nI w).toNatClampNeg - xko (nI w).toNatClampNeg / nI S * nI S) = nI (r * 4 + kf w % S) := by
    rw [c2, hko, pk_rem (by omega) (by omega) (by omega), cs_i4]
  obtain ⟨t, ht, hT⟩ := h5 _ hmod
  have htb : t ≤ n := by
    rcases hT.2 with y | ⟨v, _, y⟩
    · omega
    · have := htf v; omega
  have htw := htf w
  have ha' : ∀ v, cs_u a w true v = true → v < n := fun v hv => by
    by_cases e : v = w
    · omega
    · rw [cs_un e] at hv; exact h1 v hv
  have hu : ∀ v, cs_u a w true v = true ↔ a v = true ∨ v = w := fun v => by
    by_cases e : v = w
    · subst e; rw [cs_us]; exact ⟨fun _ => Or.inr rfl, fun _ => rfl⟩
    · rw [cs_un e]; exact ⟨Or.inl, fun y => y.elim id fun y => absurd y e⟩
  have hck : ∀ ck : Nat → Int32, (∀ q, q ≠ r * 4 + kf w % S → ck q = xck q) → (∀ t', cs_Tm tf (fun v => (a v = true ∧ kf v % S = kf w % S) ∨ v = w) t' → ck (r * 4 + kf w % S) = nI t') →
      (∃ t', cs_Tm tf (fun v => (a v = true ∧ kf v % S = kf w % S) ∨ v = w) t') → ∀ s, s < S → ∃ t, ck (r * 4 + s) = nI t ∧ cs_Tm tf (fun v => cs_u a w true v = true ∧ kf v % S = s) t := by
    intro ck q1 q2 q3 s hs
    by_cases e : s = kf w % S
    · subst e
      obtain ⟨t', ht'⟩ := q3
      refine ⟨t', q2 t' ht', cs_Tm_iff (fun v => ?_) ht'⟩
      rw [hu v]
      constructor
      · rintro (y | y)
        · exact ⟨Or.inl y.1, y.2⟩
        · exact ⟨Or.inr y, by rw [y]⟩
      · rintro ⟨y | y, y2⟩
        · exact Or.inl ⟨y, y2⟩
        · exact Or.inr y
    · obtain ⟨t', e1, e2⟩ := h5 s hs
      refine ⟨t', by rw [q1 _ (by omega)]; exact e1, cs_Tm_iff (fun v => ?_) e2⟩
      rw [hu v]
      constructor
      · rintro ⟨y1, y2⟩; exact ⟨Or.inl y1, y2⟩
      · rintro ⟨y | y, y2⟩
        · exact ⟨y, y2⟩
        · rw [y] at y2; exact absurd y2.symm e
  have hTw : cs_Tm tf (fun v => v = w) (tf w) := ⟨fun v e => by rw [e]; exact Nat.le_refl _, Or.inr ⟨w, rfl, rfl⟩⟩
  have hfin : ∀ ck : Nat → Int32, (∀ q, q ≠ r * 4 + kf w % S → ck q = xck q) → (∀ s, s < S → ∃ t, ck (r * 4 + s) = nI t ∧ cs_Tm tf (fun v => cs_u a w true v = true ∧ kf v % S = s) t) →
      wX_arrive_55 post (nI r) (nI w) (nI R) (nI K) (nI S) (nI C) (nI n) xko xvo xti xso xpo xno xol xch (upd xar r (xar r ||| ((1 : Int32) <<< (nI w &&& 31)))) xvi xne ck xst xbl xwa xho xco xfr xse xtr xaq xfe xre := by
    intro ck q1 q2
    refine cs_xarr55 (by omega) hn hK hP hw haw h1 hkf hko hso hsb hno h3 h4 h7 h8 (fun vi ne bl wa g1 g2 g3 g4 g5 g6 g7 g8 => ?_)
    refine h _ vi ne ck bl wa ⟨ha', fun v => ?_, g1, g2, q2, h6, g3, g4⟩ ⟨fun q hq => pk_un hq, g5, g6, fun j hj => q1 j (by omega), g7, g8⟩
    rw [pk_us, cs_h_or, cs_h_1 (by omega), h2 v, hu v]
  refine And.intro i1 (And.intro i1 (nm_r (e' := upd xar r (xar r ||| ((1 : Int32) <<< (nI w &&& 31)))) (by rw [c1]) (And.intro i2 (And.intro (nI_ne0 (by omega) (by omega)) (nm_r e3 (And.intro i2 (And.intro i3 ?_)))))))
  by_cases z : tf w ≤ t
  · refine br_t (by rw [c2, c3, hti, ht]; exact nI_le z (by omega)) (hfin xck (fun _ _ => rfl) (hck xck (fun _ _ => rfl) (fun t' ht' => ?_) ⟨t, cs_Tm_l hT hTw z⟩))
    rw [ht, cs_Tm_u (cs_Tm_l hT hTw z) ht']
  · refine br_f (by rw [c2, c3, hti, ht]; exact nI_ge (by omega) (by omega)) (And.intro i2 (And.intro i3 (nm_r (e' := upd xck (r * 4 + kf w % S) (nI (tf w))) (by rw [c2, c3, hti]) ?_)))
    refine hfin _ (fun q hq => pk_un hq) (hck _ (fun q hq => pk_un hq) (fun t' ht' => ?_) ⟨tf w, cs_Tm_r hT hTw (by omega)⟩)
    rw [pk_us, cs_Tm_u (cs_Tm_r hT hTw (by omega)) ht']
end
end
section
/-! the component's client side: takeIn, describe -/
def cs_tko (D : Nat → Bool) (P : Nat → Nat → Bool) : Option Nat → Nat → Bool
  | none => D
  | some u => cs_tk D P u
/-- what the component keeps of client c, whose past is D -/
def cs_Cl (n : Nat) (tf : Nat → Nat) (P : Nat → Nat → Bool) (D : Nat → Bool) (c : Nat) (xco xfr xse : Nat → Int32) : Prop :=
  (∀ w, D w = true → w < n) ∧ (∀ w v, D w = true → P w v = true → D v = true) ∧ (∀ w, cs_h (xco c) w ↔ D w = true) ∧ (∀ v, cs_h (xfr c) v ↔ cs_Mx D P v) ∧
  (∃ t, xse c = nI t ∧ cs_Tm tf (fun w => D w = true) t)
def cs_Oc (c : Nat) (xco xfr xse co fr se : Nat → Int32) : Prop := ∀ q, q ≠ c → co q = xco q ∧ fr q = xfr q ∧ se q = xse q
theorem cs_Cl_oc {n : Nat} {tf : Nat → Nat} {P : Nat → Nat → Bool} {D : Nat → Bool} {c q : Nat} {xco xfr xse co fr se : Nat → Int32} (hq : q ≠ c) (ho : cs_Oc c xco xfr xse co fr se) (h : cs_Cl n tf P D q xco xfr xse) : cs_Cl n tf P D q co fr se := by
  obtain ⟨h1, h2, h3, h4, h5⟩ := h
  obtain ⟨o1, o2, o3⟩ := ho q hq
  exact ⟨h1, h2, by rw [o1]; exact h3, by rw [o2]; exact h4, by rw [o3]; exact h5⟩
section
variable {R K S C n : Nat} {xko xvo xti xso xpo xno xol xch xar xvi xne xck xst xbl xwa xho xco xfr xse xtr xaq xfe xre : Nat → Int32}
theorem cs_xtk1 {post : SX → Prop} {c w : Nat} (hc : c < 8) (hw : w < 32) (h1 : cs_h (xco c) w → post (nI R, nI K, nI S, nI C, nI n, xko, xvo, xti, xso, xpo, xno, xol, xch, xar, xvi, xne, xck, xst, xbl, xwa, xho, xco, xfr, xse, xtr, xaq, xfe, xre))
    (h2 : ¬ cs_h (xco c) w → ∀ se : Nat → Int32, (¬ xti w ≤ xse c → se = upd xse c (xti w)) → (xti w ≤ xse c → se = xse) →
      post (nI R, nI K, nI S, nI C, nI n, xko, xvo, xti, xso, xpo, xno, xol, xch, xar, xvi, xne, xck, xst, xbl, xwa, xho, upd xco c (xco c ||| (xpo w ||| ((1 : Int32) <<< (nI w &&& 31)))), upd xfr c ((xfr c &&& (xpo w ^^^ (-1))) ||| ((1 : Int32) <<< (nI w &&& 31))), se, xtr, xaq, xfe, xre)) :
    wpX_takeIn post (nI R, nI K, nI S, nI C, nI n, xko, xvo, xti, xso, xpo, xno, xol, xch, xar, xvi, xne, xck, xst, xbl, xwa, xho, xco, xfr, xse, xtr, xaq, xfe, xre) (nI c) (nI w) := by
  have c1 : (nI c).toNatClampNeg = c := nI_clamp (by omega)
  have c2 : (nI w).toNatClampNeg = w := nI_clamp (by omega)
  have i1 : vp_in (nI c) 8 := vp_in_nI hc (by omega)
  have i2 : vp_in (nI w) 32 := vp_in_nI hw (by omega)
  refine br_f (nI_pos (by omega)) (And.intro i1 (cs_xhas hw (fun hq => ?_) (fun hq => ?_)))
  · rw [c1] at hq
    exact br_f (by decide) (h1 hq)
  · rw [c1] at hq
    refine br_t rfl (nm_e (And.intro i1 (And.intro i2 (And.intro i1 (nm_r (e' := upd xco c (xco c ||| (xpo w ||| ((1 : Int32) <<< (nI w &&& 31))))) (by rw [c1, c2])
      (And.intro i1 (And.intro i2 (And.intro i1 (nm_r (e' := upd xfr c ((xfr c &&& (xpo w ^^^ (-1))) ||| ((1 : Int32) <<< (nI w &&& 31)))) (by rw [c1, c2]) (And.intro i2 (And.intro i1 ?_)))))))))))
    by_cases z : xti w ≤ xse c
    · exact br_t (by rw [c1, c2]; exact z) (h2 hq xse (fun y => absurd z y) (fun _ => rfl))
    · exact br_f (by rw [c1, c2]; exact z) (And.intro i2 (And.intro i1 (nm_r (e' := upd xse c (xti w)) (by rw [c1, c2]) (h2 hq _ (fun _ => rfl) (fun y => absurd y z)))))
theorem cs_xtk {post : SX → Prop} {c : Nat} {b : Option Nat} {tf : Nat → Nat} {P : Nat → Nat → Bool} {D : Nat → Bool} (hc : c < 8) (hn : n ≤ 32) (hP : cs_PO n P) (hT : ∀ w v, P w v = true → tf v < tf w) (htf : ∀ w, tf w ≤ n)
    (hti : ∀ w, xti w = nI (tf w)) (hpo : ∀ w, w < n → ∀ v, cs_h (xpo w) v ↔ P w v = true) (hb : ∀ w, b = some w → w < n) (hC : cs_Cl n tf P D c xco xfr xse)
    (h : ∀ co fr se, cs_Cl n tf P (cs_tko D P b) c co fr se → cs_Oc c xco xfr xse co fr se → post (nI R, nI K, nI S, nI C, nI n, xko, xvo, xti, xso, xpo, xno, xol, xch, xar, xvi, xne, xck, xst, xbl, xwa, xho, co, fr, se, xtr, xaq, xfe, xre)) : wpX_takeIn post (nI R, nI K, nI S, nI C, nI n, xko, xvo, xti, xso, xpo, xno, xol, xch, xar, xvi, xne, xck, xst, xbl, xwa, xho, xco, xfr, xse, xtr, xaq, xfe, xre) (nI c) (cs_oI b) := by
  cases b with
  | none => exact br_t (by decide) (h _ _ _ hC (fun _ _ => ⟨rfl, rfl, rfl⟩))
  | some w =>
    have hw := hb w rfl
    obtain ⟨h1, h2, h3, h4, t, h5, h6⟩ := hC
    refine cs_xtk1 hc (by omega) (fun hq => ?_) (fun hq se s1 s2 => ?_)
    · have e : cs_tko D P (some w) = D := cs_tk_id h2 ((h3 w).mp hq)
      exact h _ _ _ (by rw [e]; exact ⟨h1, h2, h3, h4, t, h5, h6⟩) (fun _ _ => ⟨rfl, rfl, rfl⟩)
    · have hu : ¬ D w = true := fun z => hq ((h3 w).mpr z)
      have htb : t ≤ n := by
        rcases h6.2 with y | ⟨v, _, y⟩
        · omega
        · have := htf v; omega
      have htw := htf w
      have hk := cs_tk_Tm (P := P) (u := w) hT h6
      have cmp : xti w ≤ xse c ↔ tf w ≤ t := by rw [hti, h5, nI_leI (by omega) (by omega)]
      have hse : se c = (if tf w ≤ t then nI t else nI (tf w)) ∧ ∀ q, q ≠ c → se q = xse q := by
        by_cases z : tf w ≤ t
        · rw [s2 (cmp.mpr z), if_pos z]; exact ⟨h5, fun _ _ => rfl⟩
        · rw [s1 (fun y => z (cmp.mp y)), if_neg z, pk_us, hti]; exact ⟨rfl, fun q hq => pk_un hq⟩
      refine h _ _ se ⟨fun v hv => ?_, cs_tk_cl hP h2, fun v => ?_, fun v => ?_, ?_⟩ (fun q hq => ⟨pk_un hq, pk_un hq, hse.2 q hq⟩)
      · rcases cs_tk_m.mp hv with z | z | z
        · exact h1 v z
        · omega
        · have := (hP.1 _ _ z).1; omega
      · rw [pk_us, cs_h_or, cs_h_or, cs_h_1 (by omega), h3 v, hpo w hw v]
        refine Iff.trans ?_ cs_tk_m.symm
        constructor
        · rintro (y | y | y)
          · exact Or.inl y
          · exact Or.inr (Or.inr y)
          · exact Or.inr (Or.inl y)
        · rintro (y | y | y)
          · exact Or.inl y
          · exact Or.inr (Or.inr y)
          · exact Or.inr (Or.inl y)
      · rw [pk_us, cs_h_or, cs_h_dif, cs_h_1 (by omega), h4 v, hpo w hw v]
        exact (cs_tk_Mx hP h2 hu v).symm
      · rw [hse.1]
        by_cases z : tf w ≤ t
        · rw [if_pos z]; exact ⟨t, rfl, hk.1 z⟩
        · rw [if_neg z]; exact ⟨tf w, rfl, hk.2 (by omega)⟩
theorem cs_xdes50 {post : SX → Prop} {w c k q t : Nat} {x : Int32} (hw : w < 32) (hc : c < 8) (hj : q * 4 + k % S < 16)
    (h : post (nI R, nI K, nI S, nI C, nI n, upd xko w (nI k), upd xvo w x, upd xti w (nI (t + 1)), upd xso w (nI ((t + 1) * 32 + q * 8 + k)), upd xpo w (xco c), upd xno w (xfr c), xol, xch, xar, xvi, xne, xck, upd xst (q * 4 + k % S) (xst (q * 4 + k % S) ||| ((1 : Int32) <<< (nI w &&& 31))), xbl, xwa, xho, xco, xfr, xse, xtr, xaq, xfe, xre)) :
    wX_describe_50 post (nI w) (nI c) (nI k) x (nI q) (nI (q * 4 + k % S)) (nI t) (nI R) (nI K) (nI S) (nI C) (nI n) xko xvo xti xso xpo xno xol xch xar xvi xne xck xst xbl xwa xho xco xfr xse xtr xaq xfe xre := by
  have c1 : (nI w).toNatClampNeg = w := nI_clamp (by omega)
  have c2 : (nI c).toNatClampNeg = c := nI_clamp (by omega)
  have c3 : (nI (q * 4 + k % S)).toNatClampNeg = q * 4 + k % S := nI_clamp (by omega)
  have i1 : vp_in (nI w) 32 := vp_in_nI hw (by omega)
  have i2 : vp_in (nI c) 8 := vp_in_nI hc (by omega)
  have i3 : vp_in (nI (q * 4 + k % S)) 16 := vp_in_nI hj (by omega)
  have e8 : nI q * 8 = nI (q * 8) := by show nI q * nI 8 = _; rw [pk_mul]
  have es : nI (t + 1) * 32 + nI q * 8 + nI k = nI ((t + 1) * 32 + q * 8 + k) := by rw [cs_m32, e8, nI_add, nI_add]
  refine nm_r (nI_1 t) (And.intro i1 (nm_r (e' := upd xko w (nI k)) (by rw [c1]) (And.intro i1 (nm_r (e' := upd xvo w x) (by rw [c1]) (And.intro i1 (nm_r (e' := upd xti w (nI (t + 1))) (by rw [c1])
    (And.intro i1 (nm_r (e' := upd xso w (nI ((t + 1) * 32 + q * 8 + k))) (by rw [c1, es]) (And.intro i2 (And.intro i1 (nm_r (e' := upd xpo w (xco c)) (by rw [c1, c2])
    (And.intro i2 (And.intro i1 (nm_r (e' := upd xno w (xfr c)) (by rw [c1, c2]) (And.intro i3 (And.intro i3 (nm_r (e' := upd xst (q * 4 + k % S) (xst (q * 4 + k % S) ||| ((1 : Int32) <<< (nI w &&& 31)))) (by rw [c3]) h)))))))))))))))))
theorem cs_xdes {post : SX → Prop} {w c k q t tc : Nat} {x : Int32} (hw : w < 32) (hc : c < 8) (hk : k < 8) (hq : q < 4) (hS1 : 1 ≤ S) (hS4 : S ≤ 4) (hho : xho c = nI q) (hse : xse c = nI t) (hck : xck (q * 4 + k % S) = nI tc) (ht : t ≤ 32) (htc : tc ≤ 32)
    (h : ∀ u, (tc ≤ t → u = t) → (t ≤ tc → u = tc) → post (nI R, nI K, nI S, nI C, nI n, upd xko w (nI k), upd xvo w x, upd xti w (nI (u + 1)), upd xso w (nI ((u + 1) * 32 + q * 8 + k)), upd xpo w (xco c), upd xno w (xfr c), xol, xch, xar, xvi, xne, xck, upd xst (q * 4 + k % S) (xst (q * 4 + k % S) ||| ((1 : Int32) <<< (nI w &&& 31))), xbl, xwa, xho, xco, xfr, xse, xtr, xaq, xfe, xre)) :
    wpX_describe post (nI R, nI K, nI S, nI C, nI n, xko, xvo, xti, xso, xpo, xno, xol, xch, xar, xvi, xne, xck, xst, xbl, xwa, xho, xco, xfr, xse, xtr, xaq, xfe, xre) (nI w) (nI c) (nI k) x := by
  have hmod : k % S < S := Nat.mod_lt _ (by omega)
  have c2 : (nI c).toNatClampNeg = c := nI_clamp (by omega)
  have c3 : (nI (q * 4 + k % S)).toNatClampNeg = q * 4 + k % S := nI_clamp (by omega)
  have i2 : vp_in (nI c) 8 := vp_in_nI hc (by omega)
  have i3 : vp_in (nI (q * 4 + k % S)) 16 := vp_in_nI (by omega) (by omega)
  have e4 : nI q * 4 + (nI k - nI k / nI S * nI S) = nI (q * 4 + k % S) := by rw [pk_rem (by omega) (by omega) (by omega), cs_i4]
  refine And.intro i2 (nm_r (e' := nI q) (by rw [c2, hho]) (And.intro (nI_ne0 (by omega) (by omega)) (nm_r e4 (And.intro i2 (nm_r (e' := nI t) (by rw [c2, hse]) (And.intro i3 ?_))))))
  by_cases z : tc ≤ t
  · exact br_t (by rw [c3, hck]; exact nI_le z (by omega)) (cs_xdes50 hw hc (by omega) (h t (fun _ => rfl) (fun y => by omega)))
  · exact br_f (by rw [c3, hck]; exact nI_ge (by omega) (by omega)) (And.intro i3 (nm_r (e' := nI tc) (by rw [c3, hck]) (cs_xdes50 hw hc (by omega) (h tc (fun y => absurd y z) (fun _ => rfl)))))
end
end
section
/-! version chains: link, newestWithin -/
def cs_Chn (ol : Nat → Int32) : Int32 → List Nat → Prop
  | x, [] => x = -1
  | x, w :: L => x = nI w ∧ cs_Chn ol (ol w) L
def cs_Ch (n K : Nat) (kf sf : Nat → Nat) (xch xol : Nat → Int32) : Prop :=
  ∀ k, k < K → ∃ L : List Nat, cs_Chn xol (xch k) L ∧ L.Pairwise (fun a b => sf b < sf a) ∧ ∀ w, w ∈ L ↔ w < n ∧ kf w = k
theorem cs_Chn_c {ol ol' : Nat → Int32} : ∀ {L : List Nat} {x : Int32}, (∀ u, u ∈ L → ol' u = ol u) → cs_Chn ol x L → cs_Chn ol' x L
  | [], _, _, h => h
  | w :: L, x, hu, h => ⟨h.1, by rw [hu w List.mem_cons_self]; exact cs_Chn_c (fun u m => hu u (List.mem_cons_of_mem _ m)) h.2⟩
theorem cs_Chn_i {ol ol' : Nat → Int32} {v w : Nat} {L2 : List Nat} (hv : ol' v = nI w) (h2 : cs_Chn ol' (ol' w) L2) : ∀ {L1 : List Nat} {x : Int32}, (∀ u, u ∈ L1 → ol' u = ol u) → cs_Chn ol x (L1 ++ v :: L2) → cs_Chn ol' x (L1 ++ v :: w :: L2)
  | [], _, _, h => ⟨h.1, hv, h2⟩
  | u :: L, x, hu, h => ⟨h.1, by rw [hu u List.mem_cons_self]; exact cs_Chn_i hv h2 (fun y m => hu y (List.mem_cons_of_mem _ m)) h.2⟩
theorem cs_Ch_cong {n K : Nat} {kf sf kf' sf' : Nat → Nat} {xch xol : Nat → Int32} (hk : ∀ v, v < n → kf' v = kf v) (hs : ∀ v, v < n → sf' v = sf v) (h : cs_Ch n K kf sf xch xol) : cs_Ch n K kf' sf' xch xol := by
  intro k hk'
  obtain ⟨L, h1, h2, h3⟩ := h k hk'
  refine ⟨L, h1, ?_, fun w => ?_⟩
  · refine List.Pairwise.imp_of_mem (fun {a b} ha hb hab => ?_) h2
    rw [hs a ((h3 a).mp ha).1, hs b ((h3 b).mp hb).1]; exact hab
  · rw [h3 w]
    constructor
    · rintro ⟨y1, y2⟩; exact ⟨y1, by rw [hk w y1]; exact y2⟩
    · rintro ⟨y1, y2⟩; exact ⟨y1, by rw [← hk w y1]; exact y2⟩
theorem cs_nd {sf : Nat → Nat} {L : List Nat} (h : L.Pairwise (fun a b => sf b < sf a)) : L.Nodup := by
  refine List.Pairwise.imp (fun {a b} hab e => ?_) h
  rw [e] at hab; omega
section
variable {R K S C n : Nat} {xko xvo xti xso xpo xno xol xch xar xvi xne xck xst xbl xwa xho xco xfr xse xtr xaq xfe xre : Nat → Int32}
theorem cs_xlink66 {post : SX → Prop} {w k : Nat} {nw : Option Nat} {y : Int32} (hw : w < 32) (hk : k < 8) (hv : ∀ v, nw = some v → v < 32)
    (h0 : nw = none → post (nI R, nI K, nI S, nI C, nI n, xko, xvo, xti, xso, xpo, xno, upd xol w y, upd xch k (nI w), xar, xvi, xne, xck, xst, xbl, xwa, xho, xco, xfr, xse, xtr, xaq, xfe, xre)) (h1 : ∀ v, nw = some v → post (nI R, nI K, nI S, nI C, nI n, xko, xvo, xti, xso, xpo, xno, upd (upd xol w y) v (nI w), xch, xar, xvi, xne, xck, xst, xbl, xwa, xho, xco, xfr, xse, xtr, xaq, xfe, xre)) : wX_link_66 post (nI w) (nI k) (cs_oI nw) y (nI R) (nI K) (nI S) (nI C) (nI n) xko xvo xti xso xpo xno xol xch xar xvi xne xck xst xbl xwa xho xco xfr xse xtr xaq xfe xre := by
  have c1 : (nI w).toNatClampNeg = w := nI_clamp (by omega)
  have c2 : (nI k).toNatClampNeg = k := nI_clamp (by omega)
  have i1 : vp_in (nI w) 32 := vp_in_nI hw (by omega)
  have i2 : vp_in (nI k) 8 := vp_in_nI hk (by omega)
  refine And.intro i1 (nm_r (e' := upd xol w y) (by rw [c1]) ?_)
  cases nw with
  | none => exact br_f (by decide) (And.intro i2 (nm_r (e' := upd xch k (nI w)) (by rw [c2]) (h0 rfl)))
  | some v =>
    have hv' := hv v rfl
    have c3 : (cs_oI (some v)).toNatClampNeg = v := nI_clamp (by omega)
    exact br_t (nI_pos' (by omega)) (And.intro (vp_in_nI hv' (by omega)) (nm_r (e' := upd (upd xol w y) v (nI w)) (by rw [c3]) (h1 v rfl)))
theorem cs_xlink_l {post : SX → Prop} {w k : Nat} {sf : Nat → Nat} {L : List Nat} (hw : w < 32) (hk : k < 8) (hsw : xso w = nI (sf w)) (hso : ∀ v, v ∈ L → v < 32 ∧ xso v = nI (sf v)) (hsb : ∀ w, sf w < 2 ^ 31) (hlen : L.length ≤ 31)
    (h0 : ∀ y, cs_Chn xol y L → (∀ v, L.head? = some v → sf v ≤ sf w) → post (nI R, nI K, nI S, nI C, nI n, xko, xvo, xti, xso, xpo, xno, upd xol w y, upd xch k (nI w), xar, xvi, xne, xck, xst, xbl, xwa, xho, xco, xfr, xse, xtr, xaq, xfe, xre))
    (h1 : ∀ L1 v L2 y, L = L1 ++ v :: L2 → cs_Chn xol y L2 → (∀ u, u ∈ L1 ++ [v] → sf w < sf u) → (∀ u, L2.head? = some u → sf u ≤ sf w) → post (nI R, nI K, nI S, nI C, nI n, xko, xvo, xti, xso, xpo, xno, upd (upd xol w y) v (nI w), xch, xar, xvi, xne, xck, xst, xbl, xwa, xho, xco, xfr, xse, xtr, xaq, xfe, xre)) :
    ∀ m i L1 L2 nw y, L = L1 ++ L2 → i = L1.length → 32 - i < m → (∀ u, u ∈ L1 → sf w < sf u) → ((L1 = [] ∧ nw = none) ∨ ∃ M v, L1 = M ++ [v] ∧ nw = some v) → cs_Chn xol y L2 → wX_link_20 post (nI w) (nI k) (nI R) (nI K) (nI S) (nI C) (nI n) xko xvo xti xso xpo xno xol xch xar xvi xne xck xst xbl xwa xho xco xfr xse xtr xaq xfe xre m (cs_oI nw) y (nI i) := by
  intro m
  induction m with
  | zero => intro i _ _ _ _ _ _ h; omega
  | succ m ih =>
    intro i L1 L2 nw y hL hi hm hg hnw hy
    have hlen' : L1.length + L2.length ≤ 31 := by rw [hL, List.length_append] at hlen; exact hlen
    have c1 : (nI w).toNatClampNeg = w := nI_clamp (by omega)
    have i1 : vp_in (nI w) 32 := vp_in_nI hw (by omega)
    have stop : (∀ u, L2.head? = some u → sf u ≤ sf w) → wX_link_66 post (nI w) (nI k) (cs_oI nw) y (nI R) (nI K) (nI S) (nI C) (nI n) xko xvo xti xso xpo xno xol xch xar xvi xne xck xst xbl xwa xho xco xfr xse xtr xaq xfe xre := by
      intro hh
      rcases hnw with ⟨e1, e2⟩ | ⟨M, v, e1, e2⟩
      · subst e1 e2
        rw [List.nil_append] at hL
        subst hL
        exact cs_xlink66 hw hk (fun v z => nomatch z) (fun _ => h0 y hy hh) (fun v z => nomatch z)
      · subst e1 e2
        have hv : v < 32 := (hso v (by rw [hL]; simp)).1
        refine cs_xlink66 hw hk (fun u z => by cases z; exact hv) (fun z => nomatch z) (fun u z => ?_)
        cases z
        exact h1 M v L2 y (by rw [hL]; simp) hy hg hh
    refine br_f (nI_ge (b := 32) (by omega) (by decide)) ?_
    cases L2 with
    | nil =>
      have e : y = -1 := hy
      subst e
      exact br_t (by decide) (stop (fun u z => nomatch z))
    | cons v L2 =>
      obtain ⟨e, hy2⟩ := hy
      subst e
      have hv := hso v (by rw [hL]; simp)
      have c2 : (nI v).toNatClampNeg = v := nI_clamp (by omega)
      have i2 : vp_in (nI v) 32 := vp_in_nI hv.1 (by omega)
      refine br_f (nI_pos (by omega)) (And.intro i2 (And.intro i1 ?_))
      by_cases z : sf v ≤ sf w
      · exact br_t (by rw [c1, c2, hv.2, hsw]; exact nI_le z (hsb w)) (stop (fun u q => by cases q; exact z))
      · refine br_f (by rw [c1, c2, hv.2, hsw]; exact nI_ge (by omega) (hsb v)) (And.intro i2 (nm_r (e' := xol v) (by rw [c2]) (nm_r (nI_1 i) ?_)))
        refine ih (i + 1) (L1 ++ [v]) L2 (some v) (xol v) (by rw [hL]; simp) (by rw [hi]; simp) (by omega) (fun u hu => ?_) (Or.inr ⟨L1, v, rfl, rfl⟩) hy2
        rcases List.mem_append.mp hu with q | q
        · exact hg u q
        · rw [List.mem_singleton.mp q]; omega
theorem cs_xlink {post : SX → Prop} {w : Nat} {kf sf : Nat → Nat} (hw : w < 32) (hK : K ≤ 8) (hkf : kf w < K) (hko : xko w = nI (kf w)) (hso : ∀ v, v ≤ w → xso v = nI (sf v)) (hsb : ∀ w, sf w < 2 ^ 31)
    (hC : cs_Ch w K kf sf xch xol) (hin : ∀ v, v < w → kf v = kf w → sf v ≠ sf w) (h : ∀ ol ch, cs_Ch (w + 1) K kf sf ch ol → post (nI R, nI K, nI S, nI C, nI n, xko, xvo, xti, xso, xpo, xno, ol, ch, xar, xvi, xne, xck, xst, xbl, xwa, xho, xco, xfr, xse, xtr, xaq, xfe, xre)) : wpX_link post (nI R, nI K, nI S, nI C, nI n, xko, xvo, xti, xso, xpo, xno, xol, xch, xar, xvi, xne, xck, xst, xbl, xwa, xho, xco, xfr, xse, xtr, xaq, xfe, xre) (nI w) := by
  have c1 : (nI w).toNatClampNeg = w := nI_clamp (by omega)
  have c2 : (nI (kf w)).toNatClampNeg = kf w := nI_clamp (by omega)
  obtain ⟨L, l1, l2, l3⟩ := hC (kf w) hkf
  have hl : L.length ≤ w := cs_len w L (cs_nd l2) (fun x hx => ((l3 x).mp hx).1)
  have lw : w ∉ L := fun z => by have := ((l3 w).mp z).1; omega
  have oth : ∀ (ol ch : Nat → Int32), (∀ u, u ≠ w → u ∉ L → ol u = xol u) → (∀ k, k ≠ kf w → ch k = xch k) → ∀ k, k < K → k ≠ kf w → ∃ M : List Nat, cs_Chn ol (ch k) M ∧ M.Pairwise (fun a b => sf b < sf a) ∧ ∀ u, u ∈ M ↔ u < w + 1 ∧ kf u = k := by
    intro ol ch q1 q2 k hk ne
    obtain ⟨M, m1, m2, m3⟩ := hC k hk
    refine ⟨M, ?_, m2, fun u => ?_⟩
    · rw [q2 k ne]
      refine cs_Chn_c (fun u hu => q1 u ?_ ?_) m1
      · have := ((m3 u).mp hu).1; omega
      · intro z; exact ne (((m3 u).mp hu).2.symm.trans ((l3 u).mp z).2)
    · rw [m3 u]
      constructor
      · rintro ⟨y1, y2⟩; exact ⟨by omega, y2⟩
      · rintro ⟨y1, y2⟩
        refine ⟨?_, y2⟩
        by_cases e : u = w
        · rw [e] at y2; exact absurd y2.symm ne
        · omega
  have mem : ∀ M : List Nat, (∀ u, u ∈ M ↔ u = w ∨ u ∈ L) → ∀ u, u ∈ M ↔ u < w + 1 ∧ kf u = kf w := by
    intro M hM u
    rw [hM u, l3 u]
    constructor
    · rintro (y | y)
      · rw [y]; exact ⟨by omega, rfl⟩
      · exact ⟨by omega, y.2⟩
    · rintro ⟨y1, y2⟩
      by_cases e : u = w
      · exact Or.inl e
      · exact Or.inr ⟨by omega, y2⟩
  have below : ∀ L2 : List Nat, L2.Pairwise (fun a b => sf b < sf a) → (∀ u, u ∈ L2 → u ∈ L) → (∀ u, L2.head? = some u → sf u ≤ sf w) → ∀ u, u ∈ L2 → sf u < sf w := by
    intro L2 p1 p2 p3 u hu
    have ne : sf u ≠ sf w := by
      have := (l3 u).mp (p2 u hu)
      exact hin u this.1 this.2
    cases L2 with
    | nil => exact nomatch hu
    | cons v L2 =>
      have a := p3 v rfl
      rcases List.mem_cons.mp hu with e | e
      · rw [e] at ne ⊢; omega
      · have := (List.pairwise_cons.mp p1).1 u e; omega
  refine And.intro (vp_in_nI hw (by omega)) (nm_r (e' := nI (kf w)) (by rw [c1, hko]) (And.intro (vp_in_nI (by omega) (by omega)) (nm_r (e' := xch (kf w)) (by rw [c2]) ?_)))
  refine Exists.intro 33 (cs_xlink_l (sf := sf) (L := L) hw (by omega) (hso w (Nat.le_refl _)) (fun v hv => ?_) hsb (by omega) (fun y hy hh => ?_) (fun L1 v L2 y e hy hg hh => ?_) 33 0 [] L none (xch (kf w)) rfl rfl (by omega) (fun u hu => nomatch hu) (Or.inl ⟨rfl, rfl⟩) l1)
  · have := ((l3 v).mp hv).1
    exact ⟨by omega, hso v (by omega)⟩
  · refine h _ _ (fun k hk => ?_)
    by_cases ek : k = kf w
    · subst ek
      refine ⟨w :: L, ⟨pk_us, ?_⟩, List.pairwise_cons.mpr ⟨below L l2 (fun _ z => z) hh, l2⟩, mem _ (fun u => by simp)⟩
      rw [pk_us]
      exact cs_Chn_c (fun u hu => pk_un (fun z => lw (z ▸ hu))) hy
    · exact oth _ _ (fun u a _ => pk_un a) (fun q hq => pk_un hq) k hk ek
  · have nd := cs_nd l2
    have l2' := l2
    rw [e] at nd l2'
    have hvL : v ∈ L := by rw [e]; simp
    have hvw : v ≠ w := fun z => lw (z ▸ hvL)
    have nd2 := List.nodup_append.mp nd
    have nv2 : v ∉ L2 := (List.nodup_cons.mp nd2.2.1).1
    have nv1 : v ∉ L1 := fun z => (nd2.2.2 v z v List.mem_cons_self) rfl
    have nw1 : w ∉ L1 := fun z => lw (by rw [e]; simp [z])
    have nw2 : w ∉ L2 := fun z => lw (by rw [e]; simp [z])
    have p := List.pairwise_append.mp l2'
    have p2 := List.pairwise_cons.mp p.2.1
    refine h _ _ (fun k hk => ?_)
    by_cases ek : k = kf w
    · subst ek
      refine ⟨L1 ++ v :: w :: L2, cs_Chn_i (ol := xol) pk_us ?_ (fun u hu => ?_) (e ▸ l1), ?_, mem _ (fun u => ?_)⟩
      · rw [pk_un (Ne.symm hvw), pk_us]
        refine cs_Chn_c (fun u hu => ?_) hy
        rw [pk_un (show u ≠ v from fun z => nv2 (z ▸ hu)), pk_un (show u ≠ w from fun z => nw2 (z ▸ hu))]
      · rw [pk_un (show u ≠ v from fun z => nv1 (z ▸ hu)), pk_un (show u ≠ w from fun z => nw1 (z ▸ hu))]
      · have bl := below L2 p2.2 (fun u z => by rw [e]; simp [z]) hh
        refine List.pairwise_append.mpr ⟨p.1, List.pairwise_cons.mpr ⟨fun u hu => ?_, List.pairwise_cons.mpr ⟨bl, p2.2⟩⟩, fun a ha b hb => ?_⟩
        · rcases List.mem_cons.mp hu with q | q
          · rw [q]; exact hg v (by simp)
          · exact p2.1 u q
        · rcases List.mem_cons.mp hb with q | q
          · rw [q]; exact p.2.2 a ha v List.mem_cons_self
          · rcases List.mem_cons.mp q with q | q
            · rw [q]; exact hg a (by simp [ha])
            · exact p.2.2 a ha b (List.mem_cons_of_mem _ q)
      · rw [e]; simp only [List.mem_append, List.mem_cons]
        constructor
        · rintro (y | y | y | y)
          · exact Or.inr (Or.inl y)
          · exact Or.inr (Or.inr (Or.inl y))
          · exact Or.inl y
          · exact Or.inr (Or.inr (Or.inr y))
        · rintro (y | y | y | y)
          · exact Or.inr (Or.inr (Or.inl y))
          · exact Or.inl y
          · exact Or.inr (Or.inl y)
          · exact Or.inr (Or.inr (Or.inr y))
    · refine oth _ _ (fun u a b => ?_) (fun q hq => rfl) k hk ek
      rw [pk_un (show u ≠ v from fun z => b (z ▸ hvL)), pk_un a]
theorem cs_xnw_l {post : Int32 → Prop} {s : Int32} {sf : Nat → Nat} : ∀ (L : List Nat) (m i : Nat) (x : Int32), L.length < m → i + L.length ≤ 32 → cs_Chn xol x L → (∀ w, w ∈ L → w < 32) → L.Pairwise (fun a b => sf b < sf a) →
    (∀ b, cs_Bst sf (fun w => w ∈ L ∧ cs_h s w) b → post (cs_oI b)) → wX_newestWithin_10 post s (nI R) (nI K) (nI S) (nI C) (nI n) xko xvo xti xso xpo xno xol xch xar xvi xne xck xst xbl xwa xho xco xfr xse xtr xaq xfe xre m x (nI i)
  | L, 0, _, _, h, _, _, _, _, _ => by omega
  | [], m + 1, i, x, _, hi, hx, _, _, h => by
    have e : x = -1 := hx
    subst e
    have hp : post (-1) := h none (fun w z => nomatch z.1)
    by_cases q : i < 32
    · exact br_f (nI_ge (b := 32) q (by decide)) (br_t (by decide) hp)
    · exact br_t (nI_le (a := 32) (by omega) (by omega)) hp
  | w :: L, m + 1, i, x, hm, hi, hx, hw, hp, h => by
    obtain ⟨e, hx2⟩ := hx
    subst e
    rw [List.length_cons] at hm hi
    have hw32 := hw w List.mem_cons_self
    have hp2 := List.pairwise_cons.mp hp
    refine br_f (nI_ge (b := 32) (by omega) (by decide)) (br_f (nI_pos (by omega)) (cs_xhas hw32 (fun hq => ?_) (fun hq => ?_)))
    · refine br_f (by decide) (h (some w) ⟨⟨List.mem_cons_self, hq⟩, fun v hv => ?_⟩)
      rcases List.mem_cons.mp hv.1 with q | q
      · rw [q]; exact Nat.le_refl _
      · exact Nat.le_of_lt (hp2.1 v q)
    · have c : (nI w).toNatClampNeg = w := nI_clamp (by omega)
      refine br_t rfl (And.intro (vp_in_nI hw32 (by omega)) (nm_r (e' := xol w) (by rw [c]) (nm_r (nI_1 i) ?_)))
      refine cs_xnw_l L m (i + 1) (xol w) (by omega) (by omega) hx2 (fun v hv => hw v (List.mem_cons_of_mem _ hv)) hp2.2 (fun b hb => h b (cs_Bst_iff (fun v => ?_) hb))
      constructor
      · rintro ⟨y1, y2⟩; exact ⟨List.mem_cons_of_mem _ y1, y2⟩
      · rintro ⟨y1, y2⟩
        rcases List.mem_cons.mp y1 with q | q
        · rw [q] at y2; exact absurd y2 hq
        · exact ⟨q, y2⟩
theorem cs_xnw {post : Int32 → Prop} {s : Int32} {k : Nat} {kf sf : Nat → Nat} (hn : n ≤ 32) (hK : K ≤ 8) (hk : k < K) (hC : cs_Ch n K kf sf xch xol) (h : ∀ b, cs_Bst sf (fun w => (w < n ∧ kf w = k) ∧ cs_h s w) b → post (cs_oI b)) : wpX_newestWithin post (nI R, nI K, nI S, nI C, nI n, xko, xvo, xti, xso, xpo, xno, xol, xch, xar, xvi, xne, xck, xst, xbl, xwa, xho, xco, xfr, xse, xtr, xaq, xfe, xre) (nI k) s := by
  have c : (nI k).toNatClampNeg = k := nI_clamp (by omega)
  obtain ⟨L, l1, l2, l3⟩ := hC k hk
  have hl : L.length ≤ n := cs_len n L (cs_nd l2) (fun x hx => ((l3 x).mp hx).1)
  refine And.intro (vp_in_nI (by omega) (by omega)) (nm_r (e' := xch k) (by rw [c]) (Exists.intro 33 ?_))
  refine cs_xnw_l (sf := sf) L 33 0 (xch k) (by omega) (by omega) l1 (fun w hw => ?_) l2 (fun b hb => h b (cs_Bst_iff (fun w => by rw [l3 w]) hb))
  have := ((l3 w).mp hw).1; omega
end
end
section
/-! the end of a transaction, component -/
def cs_Rch (K : Nat) (q : Nat → Bool) (g : Nat → Option Nat) (P : Nat → Nat → Bool) (w : Nat) : Prop := ∃ k, k < K ∧ q k = true ∧ ∃ f, g k = some f ∧ (f = w ∨ P f w = true)
def cs_Dn (q : Nat → Bool) (fb : Nat → Option Nat) (P : Nat → Nat → Bool) (D : Nat → Bool) : Nat → Nat → Bool
  | 0 => D
  | i + 1 => if q i = true then cs_tko (cs_Dn q fb P D i) P (fb i) else cs_Dn q fb P D i
def cs_ct (q : Nat → Bool) (fb g : Nat → Option Nat) : Nat → Nat
  | 0 => 0
  | i + 1 => if q i = true ∧ fb i ≠ g i then cs_ct q fb g i + 1 else cs_ct q fb g i
theorem cs_ct_le (q : Nat → Bool) (fb g : Nat → Option Nat) : ∀ i, cs_ct q fb g i ≤ i
  | 0 => Nat.le_refl _
  | i + 1 => by have := cs_ct_le q fb g i; unfold cs_ct; split <;> omega
theorem cs_Dn_t {q : Nat → Bool} {fb : Nat → Option Nat} {P : Nat → Nat → Bool} {D : Nat → Bool} {i : Nat} (h : q i = true) : cs_Dn q fb P D (i + 1) = cs_tko (cs_Dn q fb P D i) P (fb i) := if_pos h
theorem cs_Dn_f {q : Nat → Bool} {fb : Nat → Option Nat} {P : Nat → Nat → Bool} {D : Nat → Bool} {i : Nat} (h : ¬ q i = true) : cs_Dn q fb P D (i + 1) = cs_Dn q fb P D i := if_neg h
theorem cs_ct_t {q : Nat → Bool} {fb g : Nat → Option Nat} {i : Nat} (h : q i = true) (e : fb i ≠ g i) : cs_ct q fb g (i + 1) = cs_ct q fb g i + 1 := if_pos ⟨h, e⟩
theorem cs_ct_e {q : Nat → Bool} {fb g : Nat → Option Nat} {i : Nat} (e : fb i = g i) : cs_ct q fb g (i + 1) = cs_ct q fb g i := if_neg fun z => z.2 e
theorem cs_ct_f {q : Nat → Bool} {fb g : Nat → Option Nat} {i : Nat} (h : ¬ q i = true) : cs_ct q fb g (i + 1) = cs_ct q fb g i := if_neg fun z => h z.1
theorem cs_ex {sf : Nat → Nat} {T : Nat → Prop} : ∀ n, ∃ b, cs_Bst sf (fun w => w < n ∧ T w) b
  | 0 => ⟨none, fun w h => absurd h.1 (by omega)⟩
  | n + 1 => by
    obtain ⟨b, hb⟩ := cs_ex (sf := sf) (T := T) n
    by_cases h : T n
    · have fl : ∀ w, ((w < n ∧ T w) ∨ w = n) ↔ (w < n + 1 ∧ T w) := fun w => by
        constructor
        · rintro (y | y)
          · exact ⟨by omega, y.2⟩
          · rw [y]; exact ⟨by omega, h⟩
        · rintro ⟨y1, y2⟩
          by_cases e : w = n
          · exact Or.inr e
          · exact Or.inl ⟨by omega, y2⟩
      by_cases z : ∀ v, b = some v → sf v ≤ sf n
      · exact ⟨some n, cs_Bst_iff fl (cs_Bst_a1 hb z)⟩
      · cases b with
        | none => exact absurd (fun v e => nomatch e) z
        | some u =>
          refine ⟨some u, cs_Bst_iff fl (cs_Bst_a0 hb ?_)⟩
          apply Classical.byContradiction
          intro y
          exact z (fun v e => by cases e; omega)
    · refine ⟨b, cs_Bst_iff (fun w => ?_) hb⟩
      constructor
      · rintro ⟨y1, y2⟩; exact ⟨by omega, y2⟩
      · rintro ⟨y1, y2⟩
        refine ⟨?_, y2⟩
        by_cases e : w = n
        · rw [e] at y2; exact absurd y2 h
        · omega
section
variable {R K S C n : Nat} {xko xvo xti xso xpo xno xol xch xar xvi xne xck xst xbl xwa xho xco xfr xse xtr xaq xfe xre : Nat → Int32}
variable {c : Nat} {q : Nat → Bool} {g fb : Nat → Option Nat} {P : Nat → Nat → Bool}
theorem cs_xfc_l {post : Int32 → Prop} (hc : c < 8) (hK : K ≤ 8) (hn : n ≤ 32) (haq : ∀ k, cs_h (xaq c) k ↔ k < K ∧ q k = true) (hre : ∀ k, k < K → q k = true → xre (c * 8 + k) = cs_oI (g k) ∧ ∀ w, g k = some w → w < n)
    (hpo : ∀ w, w < n → ∀ v, cs_h (xpo w) v ↔ P w v = true) (h : ∀ s, (∀ w, cs_h s w ↔ cs_Rch K q g P w) → post s) :
    ∀ m i s, i ≤ K → K - i < m → (∀ w, cs_h s w ↔ cs_Rch i q g P w) → wX_fetchedClosure_4 post (nI c) (nI R) (nI K) (nI S) (nI C) (nI n) xko xvo xti xso xpo xno xol xch xar xvi xne xck xst xbl xwa xho xco xfr xse xtr xaq xfe xre m s (nI i) := by
  intro m
  induction m with
  | zero => intro i _ _ h; omega
  | succ m ih =>
    intro i s hi hm hs
    by_cases hi2 : i < K
    · have e : nI c * 8 + nI i = nI (c * 8 + i) := cs_i8 _ _
      have vi : vp_in (nI c * 8 + nI i) 64 := by rw [e]; exact vp_in_nI (by omega) (by omega)
      have c0 : (nI c * 8 + nI i).toNatClampNeg = c * 8 + i := by rw [e]; exact nI_clamp (by omega)
      have c1 : (nI c).toNatClampNeg = c := nI_clamp (by omega)
      refine br_f (nI_ge hi2 (by omega)) (And.intro vi (nm_r (e' := xre (c * 8 + i)) (by rw [c0]) (And.intro (vp_in_nI hc (by omega)) (cs_xhas (by omega) (fun hq => ?_) (fun hq => ?_)))))
      · rw [c1, haq] at hq
        obtain ⟨r1, r2⟩ := hre i hi2 hq.2
        refine br_f (by decide) ?_
        rw [r1]
        cases hg : g i with
        | none =>
          refine br_t (by decide) (nm_r (nI_1 i) (ih (i + 1) s (by omega) (by omega) (fun w => ?_)))
          rw [hs w]
          constructor
          · rintro ⟨k, y1, y2⟩; exact ⟨k, by omega, y2⟩
          · rintro ⟨k, y1, y2, f, y3, y4⟩
            refine ⟨k, ?_, y2, f, y3, y4⟩
            by_cases z : k = i
            · rw [z, hg] at y3; exact nomatch y3
            · omega
        | some f =>
          have hf := r2 f hg
          have c2 : (cs_oI (some f)).toNatClampNeg = f := nI_clamp (by omega)
          refine br_f (nI_pos (by omega)) (And.intro (vp_in_nI (by omega) (by omega)) (nm_r (e' := s ||| (xpo f ||| ((1 : Int32) <<< (nI f &&& 31)))) (by rw [c2]; rfl) (nm_r (nI_1 i) (ih (i + 1) _ (by omega) (by omega) (fun w => ?_)))))
          rw [cs_h_or, cs_h_or, cs_h_1 (by omega), hs w, hpo f hf w]
          constructor
          · rintro (⟨k, y1, y2⟩ | y | y)
            · exact ⟨k, by omega, y2⟩
            · exact ⟨i, by omega, hq.2, f, hg, Or.inr y⟩
            · exact ⟨i, by omega, hq.2, f, hg, Or.inl y.symm⟩
          · rintro ⟨k, y1, y2, f', y3, y4⟩
            by_cases z : k = i
            · rw [z, hg] at y3
              cases y3
              exact y4.elim (fun y => Or.inr (Or.inr y.symm)) (fun y => Or.inr (Or.inl y))
            · exact Or.inl ⟨k, by omega, y2, f', y3, y4⟩
      · rw [c1, haq] at hq
        refine br_t rfl (nm_r (nI_1 i) (ih (i + 1) s (by omega) (by omega) (fun w => ?_)))
        rw [hs w]
        constructor
        · rintro ⟨k, y1, y2⟩; exact ⟨k, by omega, y2⟩
        · rintro ⟨k, y1, y2⟩
          refine ⟨k, ?_, y2⟩
          by_cases z : k = i
          · rw [z] at y2; exact absurd ⟨hi2, y2.1⟩ hq
          · omega
    · have e : i = K := by omega
      subst e
      exact br_t (nI_le (by omega) (by omega)) (h s hs)
theorem cs_xfc {post : Int32 → Prop} (hc : c < 8) (hK : K ≤ 8) (hn : n ≤ 32) (haq : ∀ k, cs_h (xaq c) k ↔ k < K ∧ q k = true) (hre : ∀ k, k < K → q k = true → xre (c * 8 + k) = cs_oI (g k) ∧ ∀ w, g k = some w → w < n)
    (hpo : ∀ w, w < n → ∀ v, cs_h (xpo w) v ↔ P w v = true) (h : ∀ s, (∀ w, cs_h s w ↔ cs_Rch K q g P w) → post s) : wpX_fetchedClosure post (nI R, nI K, nI S, nI C, nI n, xko, xvo, xti, xso, xpo, xno, xol, xch, xar, xvi, xne, xck, xst, xbl, xwa, xho, xco, xfr, xse, xtr, xaq, xfe, xre) (nI c) :=
  Exists.intro 9 (cs_xfc_l hc hK hn haq hre hpo h 9 0 0 (Nat.zero_le _) (by omega) (fun w => ⟨fun z => absurd z (cs_h_0 w), fun ⟨k, y, _⟩ => absurd y (by omega)⟩))
variable {kf tf sf : Nat → Nat} {D : Nat → Bool}
theorem cs_xset {post : Int32 → SX → Prop} {k : Nat} {s : Int32} {b gk : Option Nat} (hc : c < 8) (hK : K ≤ 8) (hn : n ≤ 32) (hk : k < K) (hP : cs_PO n P) (hT : ∀ w v, P w v = true → tf v < tf w) (htf : ∀ w, tf w ≤ n)
    (hti : ∀ w, xti w = nI (tf w)) (hpo : ∀ w, w < n → ∀ v, cs_h (xpo w) v ↔ P w v = true) (hC : cs_Ch n K kf sf xch xol) (hb : ∀ b', cs_Bst sf (fun w => (w < n ∧ kf w = k) ∧ cs_h s w) b' → b' = b) (hbn : ∀ w, b = some w → w < n)
    (hg : xre (c * 8 + k) = cs_oI gk) (hgn : ∀ w, gk = some w → w < n) (hD : cs_Cl n tf P D c xco xfr xse)
    (h0 : b = gk → ∀ co fr se, cs_Cl n tf P (cs_tko D P b) c co fr se → cs_Oc c xco xfr xse co fr se → post 0 (nI R, nI K, nI S, nI C, nI n, xko, xvo, xti, xso, xpo, xno, xol, xch, xar, xvi, xne, xck, xst, xbl, xwa, xho, co, fr, se, xtr, xaq, xfe, upd xre (c * 8 + k) (cs_oI b)))
    (h1 : b ≠ gk → ∀ co fr se, cs_Cl n tf P (cs_tko D P b) c co fr se → cs_Oc c xco xfr xse co fr se → post 1 (nI R, nI K, nI S, nI C, nI n, xko, xvo, xti, xso, xpo, xno, xol, xch, xar, xvi, xne, xck, xst, xbl, xwa, xho, co, fr, se, xtr, xaq, xfe, upd xre (c * 8 + k) (cs_oI b))) :
    wpX_settleResult post (nI R, nI K, nI S, nI C, nI n, xko, xvo, xti, xso, xpo, xno, xol, xch, xar, xvi, xne, xck, xst, xbl, xwa, xho, xco, xfr, xse, xtr, xaq, xfe, xre) (nI c) (nI k) s := by
  have c0 : (nI (c * 8 + k)).toNatClampNeg = c * 8 + k := nI_clamp (by omega)
  have vi : vp_in (nI (c * 8 + k)) 64 := vp_in_nI (by omega) (by omega)
  refine nm_r (cs_i8 c k) (cs_xnw hn hK hk hC (fun b' hb' => ?_))
  rw [hb b' hb']
  have inj := cs_oI_inj (a := b) (b := gk) (fun w e => by have := hbn w e; omega) (fun w e => by have := hgn w e; omega)
  refine And.intro vi ?_
  by_cases z : b = gk
  · refine br_t (by rw [c0, hg]; exact inj.mpr z) (And.intro vi (nm_r (e' := upd xre (c * 8 + k) (cs_oI b)) (by rw [c0]) ?_))
    exact cs_xtk hc hn hP hT htf hti hpo hbn hD (fun co fr se y1 y2 => And.intro rfl (h0 z co fr se y1 y2))
  · refine br_f (by rw [c0, hg]; exact fun y => z (inj.mp y)) (And.intro vi (nm_r (e' := upd xre (c * 8 + k) (cs_oI b)) (by rw [c0]) ?_))
    exact cs_xtk hc hn hP hT htf hti hpo hbn hD (fun co fr se y1 y2 => And.intro rfl (h1 z co fr se y1 y2))
/-- what the loop over the keys keeps of the results -/
def cs_Rs (K c : Nat) (q : Nat → Bool) (fb g : Nat → Option Nat) (x0 : Nat → Int32) (i : Nat) (re : Nat → Int32) : Prop :=
  (∀ k, k < K → q k = true → re (c * 8 + k) = cs_oI (if k < i then fb k else g k)) ∧ (∀ j, (j < c * 8 ∨ c * 8 + 8 ≤ j) → re j = x0 j)
theorem cs_Rs_f {i : Nat} {x0 re : Nat → Int32} (hq : ¬ q i = true) (h : cs_Rs K c q fb g x0 i re) : cs_Rs K c q fb g x0 (i + 1) re := by
  refine ⟨fun k hk y => ?_, h.2⟩
  rw [h.1 k hk y]
  by_cases e : k = i
  · rw [e] at y; exact absurd y hq
  · by_cases z : k < i
    · rw [if_pos z, if_pos (by omega)]
    · rw [if_neg z, if_neg (by omega)]
theorem cs_Rs_t {i : Nat} {x0 re : Nat → Int32} (hK : K ≤ 8) (hi : i < K) (h : cs_Rs K c q fb g x0 i re) : cs_Rs K c q fb g x0 (i + 1) (upd re (c * 8 + i) (cs_oI (fb i))) := by
  refine ⟨fun k hk y => ?_, fun j hj => by rw [pk_un (by omega)]; exact h.2 j hj⟩
  by_cases e : k = i
  · rw [e, pk_us, if_pos (by omega)]
  · rw [pk_un (by omega), h.1 k hk y]
    by_cases z : k < i
    · rw [if_pos z, if_pos (by omega)]
    · rw [if_neg z, if_neg (by omega)]
theorem cs_xfin_l {post : Int32 → SX → Prop} {s : Int32} (hc : c < 8) (hK : K ≤ 8) (hn : n ≤ 32) (hP : cs_PO n P) (hT : ∀ w v, P w v = true → tf v < tf w) (htf : ∀ w, tf w ≤ n)
    (hti : ∀ w, xti w = nI (tf w)) (hpo : ∀ w, w < n → ∀ v, cs_h (xpo w) v ↔ P w v = true) (hC : cs_Ch n K kf sf xch xol)
    (hb : ∀ k, k < K → ∀ b', cs_Bst sf (fun w => (w < n ∧ kf w = k) ∧ cs_h s w) b' → b' = fb k) (hbn : ∀ k w, fb k = some w → w < n) (hgn : ∀ k, k < K → q k = true → ∀ w, g k = some w → w < n)
    (haq : ∀ k, cs_h (xaq c) k ↔ k < K ∧ q k = true)
    (h : ∀ co fr se re, cs_Cl n tf P (cs_Dn q fb P D K) c co fr se → cs_Oc c xco xfr xse co fr se → cs_Rs K c q fb g xre K re → post (nI (cs_ct q fb g K)) (nI R, nI K, nI S, nI C, nI n, xko, xvo, xti, xso, xpo, xno, xol, xch, xar, xvi, xne, xck, xst, xbl, xwa, xho, co, fr, se, upd xtr c (cs_bI false), xaq, xfe, re)) :
    ∀ m i co fr se re, i ≤ K → K - i < m → cs_Cl n tf P (cs_Dn q fb P D i) c co fr se → cs_Oc c xco xfr xse co fr se → cs_Rs K c q fb g xre i re →
      wX_finish_55 post (nI c) s m (nI (cs_ct q fb g i)) (nI i) (nI R) (nI K) (nI S) (nI C) (nI n) xko xvo xti xso xpo xno xol xch xar xvi xne xck xst xbl xwa xho co fr se xtr xaq xfe re := by
  intro m
  induction m with
  | zero => intro i _ _ _ _ _ h; omega
  | succ m ih =>
    intro i co fr se re hi hm hD hO hre
    have c1 : (nI c).toNatClampNeg = c := nI_clamp (by omega)
    have i1 : vp_in (nI c) 8 := vp_in_nI hc (by omega)
    by_cases hi2 : i < K
    · refine br_f (nI_ge hi2 (by omega)) (And.intro i1 (cs_xhas (by omega) (fun hq => ?_) (fun hq => ?_)))
      · rw [c1, haq] at hq
        have hri := hre.1 i hi2 hq.2
        rw [if_neg (by omega)] at hri
        have oc : ∀ {co' fr' se' : Nat → Int32}, cs_Oc c co fr se co' fr' se' → cs_Oc c xco xfr xse co' fr' se' := fun y z hz => ⟨(y z hz).1.trans (hO z hz).1, (y z hz).2.1.trans (hO z hz).2.1, (y z hz).2.2.trans (hO z hz).2.2⟩
        refine br_f (by decide) (cs_xset (P := P) (tf := tf) (b := fb i) (gk := g i) hc hK hn hi2 hP hT htf hti hpo hC (hb i hi2) (hbn i) hri (hgn i hi2 hq.2) hD (fun e co' fr' se' y1 y2 => ?_) (fun e co' fr' se' y1 y2 => ?_))
        · refine br_t rfl (nm_r (nI_1 i) ?_)
          rw [← cs_ct_e e]
          exact ih (i + 1) co' fr' se' _ (by omega) (by omega) (by rw [cs_Dn_t hq.2]; exact y1) (oc y2) (cs_Rs_t hK hi2 hre)
        · refine br_f (by decide) (nm_r (nI_1 _) (nm_r (nI_1 i) ?_))
          rw [← cs_ct_t hq.2 e]
          exact ih (i + 1) co' fr' se' _ (by omega) (by omega) (by rw [cs_Dn_t hq.2]; exact y1) (oc y2) (cs_Rs_t hK hi2 hre)
      · rw [c1, haq] at hq
        have hq' : ¬ q i = true := fun z => hq ⟨hi2, z⟩
        refine br_t rfl (nm_r (nI_1 i) ?_)
        rw [← cs_ct_f (fb := fb) (g := g) hq']
        exact ih (i + 1) co fr se re (by omega) (by omega) (by rw [cs_Dn_f hq']; exact hD) hO (cs_Rs_f hq' hre)
    · have e : i = K := by omega
      subst e
      exact br_t (nI_le (by omega) (by omega)) (And.intro i1 (nm_r (e' := upd xtr c (cs_bI false)) (by rw [c1, cs_nar0]) (h co fr se re hD hO hre)))
end
end
section
/-! the reference's walks -/
theorem cs_T1 {U : Nat → Prop} {i : Nat} (h : U i) (w : Nat) : ((w < i ∧ U w) ∨ w = i) ↔ (w < i + 1 ∧ U w) := by
  constructor
  · rintro (y | y)
    · exact ⟨by omega, y.2⟩
    · rw [y]; exact ⟨by omega, h⟩
  · rintro ⟨y1, y2⟩
    by_cases e : w = i
    · exact Or.inr e
    · exact Or.inl ⟨by omega, y2⟩
theorem cs_T0 {U : Nat → Prop} {i : Nat} (h : ¬ U i) (w : Nat) : (w < i ∧ U w) ↔ (w < i + 1 ∧ U w) := by
  constructor
  · rintro ⟨y1, y2⟩; exact ⟨by omega, y2⟩
  · rintro ⟨y1, y2⟩
    refine ⟨?_, y2⟩
    by_cases e : w = i
    · rw [e] at y2; exact absurd y2 h
    · omega
/-- row c of f, below m, is g -/
def cs_pt {α : Type} (f : Nat → Nat → α) (c m : Nat) (g : Nat → α) : Nat → Nat → α := fun a b => if a = c ∧ b < m then g b else f a b
theorem cs_pt_0 {α : Type} (f : Nat → Nat → α) (c : Nat) (g : Nat → α) : cs_pt f c 0 g = f := by
  funext a b; exact if_neg fun z => absurd z.2 (by omega)
theorem cs_pt_s {α : Type} (f : Nat → Nat → α) (c i : Nat) (g : Nat → α) : cs_u2 (cs_pt f c i g) c i (g i) = cs_pt f c (i + 1) g := by
  funext a b
  unfold cs_u2 cs_pt
  by_cases e : a = c ∧ b = i
  · rw [if_pos e, if_pos ⟨e.1, by omega⟩, e.2]
  · rw [if_neg e]
    by_cases z : a = c ∧ b < i
    · rw [if_pos z, if_pos ⟨z.1, by omega⟩]
    · rw [if_neg z, if_neg fun y => z ⟨y.1, by omega⟩]
theorem cs_pt_k {α : Type} (f : Nat → Nat → α) (c i : Nat) (g : Nat → α) (h : g i = f c i) : cs_pt f c i g = cs_pt f c (i + 1) g := by
  funext a b
  unfold cs_pt
  by_cases e : a = c ∧ b = i
  · rw [if_neg fun z => by omega, if_pos ⟨e.1, by omega⟩, e.1, e.2, h]
  · by_cases z : a = c ∧ b < i
    · rw [if_pos z, if_pos ⟨z.1, by omega⟩]
    · rw [if_neg z, if_neg fun y => z ⟨y.1, by omega⟩]
theorem cs_pt_u {α : Type} (f : Nat → Nat → α) (c m : Nat) (g : Nat → α) (h : ∀ b, m ≤ b → g b = f c b) : cs_pt f c m g = cs_u f c g := by
  funext a b
  unfold cs_pt cs_u
  by_cases e : a = c
  · rw [if_pos e]
    by_cases z : b < m
    · rw [if_pos ⟨e, z⟩]
    · rw [if_neg fun y => z y.2, h b (by omega), e]
  · rw [if_neg e, if_neg fun y => e y.1]
theorem cs_u_id {α : Type} (f : Nat → α) (c : Nat) : cs_u f c (f c) = f := by
  funext j; unfold cs_u; by_cases e : j = c
  · rw [if_pos e, e]
  · rw [if_neg e]
section
variable {R K S C n : Nat} {kf tf og hf : Nat → Nat} {P A X : Nat → Nat → Bool} {ob : Nat → Bool} {Q F : Nat → Nat → Bool} {G : Nat → Nat → Option Nat} {vo fi : Nat → Int32}
theorem cs_ycl_t {post : Int32 → Prop} {c : Nat} (hc : c < C) (hC : C ≤ 32) (h : post 0) : wpY_noClient post (nI R, nI K, nI S, nI C, nI n, cs_N kf, vo, cs_N og, cs_N tf, cs_M 32 P, cs_M 32 A, cs_M 32 X, cs_N hf, cs_B ob, cs_M 8 Q, cs_M 8 F, cs_O 8 G, fi) (nI c) := br_f (nI_pos (by omega)) (br_t (nI_lt hc (by omega)) h)
theorem cs_ycl_f {post : Int32 → Prop} {x : Int32} (hx : x < 0 ∨ nI C ≤ x) (h : post 1) : wpY_noClient post (nI R, nI K, nI S, nI C, nI n, cs_N kf, vo, cs_N og, cs_N tf, cs_M 32 P, cs_M 32 A, cs_M 32 X, cs_N hf, cs_B ob, cs_M 8 Q, cs_M 8 F, cs_O 8 G, fi) x := by
  by_cases z : x < 0
  · exact br_t z h
  · exact br_f z (br_f (Int32.not_lt.mpr (hx.resolve_left z)) h)
theorem cs_yky_t {post : Int32 → Prop} {c : Nat} (hc : c < K) (hC : K ≤ 32) (h : post 0) : wpY_noKey post (nI R, nI K, nI S, nI C, nI n, cs_N kf, vo, cs_N og, cs_N tf, cs_M 32 P, cs_M 32 A, cs_M 32 X, cs_N hf, cs_B ob, cs_M 8 Q, cs_M 8 F, cs_O 8 G, fi) (nI c) := br_f (nI_pos (by omega)) (br_t (nI_lt hc (by omega)) h)
theorem cs_yky_f {post : Int32 → Prop} {x : Int32} (hx : x < 0 ∨ nI K ≤ x) (h : post 1) : wpY_noKey post (nI R, nI K, nI S, nI C, nI n, cs_N kf, vo, cs_N og, cs_N tf, cs_M 32 P, cs_M 32 A, cs_M 32 X, cs_N hf, cs_B ob, cs_M 8 Q, cs_M 8 F, cs_O 8 G, fi) x := by
  by_cases z : x < 0
  · exact br_t z h
  · exact br_f z (br_f (Int32.not_lt.mpr (hx.resolve_left z)) h)
theorem cs_yrp_t {post : Int32 → Prop} {c : Nat} (hc : c < R) (hC : R ≤ 32) (h : post 0) : wpY_noReplica post (nI R, nI K, nI S, nI C, nI n, cs_N kf, vo, cs_N og, cs_N tf, cs_M 32 P, cs_M 32 A, cs_M 32 X, cs_N hf, cs_B ob, cs_M 8 Q, cs_M 8 F, cs_O 8 G, fi) (nI c) := br_f (nI_pos (by omega)) (br_t (nI_lt hc (by omega)) h)
theorem cs_yrp_f {post : Int32 → Prop} {x : Int32} (hx : x < 0 ∨ nI R ≤ x) (h : post 1) : wpY_noReplica post (nI R, nI K, nI S, nI C, nI n, cs_N kf, vo, cs_N og, cs_N tf, cs_M 32 P, cs_M 32 A, cs_M 32 X, cs_N hf, cs_B ob, cs_M 8 Q, cs_M 8 F, cs_O 8 G, fi) x := by
  by_cases z : x < 0
  · exact br_t z h
  · exact br_f z (br_f (Int32.not_lt.mpr (hx.resolve_left z)) h)
theorem cs_ywr_t {post : Int32 → Prop} {c : Nat} (hc : c < n) (hC : n ≤ 32) (h : post 0) : wpY_noWrite post (nI R, nI K, nI S, nI C, nI n, cs_N kf, vo, cs_N og, cs_N tf, cs_M 32 P, cs_M 32 A, cs_M 32 X, cs_N hf, cs_B ob, cs_M 8 Q, cs_M 8 F, cs_O 8 G, fi) (nI c) := br_f (nI_pos (by omega)) (br_t (nI_lt hc (by omega)) h)
theorem cs_ywr_f {post : Int32 → Prop} {x : Int32} (hx : x < 0 ∨ nI n ≤ x) (h : post 1) : wpY_noWrite post (nI R, nI K, nI S, nI C, nI n, cs_N kf, vo, cs_N og, cs_N tf, cs_M 32 P, cs_M 32 A, cs_M 32 X, cs_N hf, cs_B ob, cs_M 8 Q, cs_M 8 F, cs_O 8 G, fi) x := by
  by_cases z : x < 0
  · exact br_t z h
  · exact br_f z (br_f (Int32.not_lt.mpr (hx.resolve_left z)) h)
theorem cs_at32 {f : Nat → Nat → Bool} {a b : Nat} (hb : b < 32) (ha : a < 1000) : cs_M 32 f (nI a * 32 + nI b).toNatClampNeg = cs_bI (f a b) := by
  rw [cs_i32, nI_clamp (by omega), cs_M_at hb]
theorem cs_at8 {f : Nat → Nat → Bool} {a b : Nat} (hb : b < 8) (ha : a < 1000) : cs_M 8 f (nI a * 8 + nI b).toNatClampNeg = cs_bI (f a b) := by
  rw [cs_i8, nI_clamp (by omega), cs_M_at hb]
theorem cs_in32 {a b N : Nat} (h : a * 32 + b < N) (hN : N < 2 ^ 31) : vp_in (nI a * 32 + nI b) N := by
  rw [cs_i32]; exact vp_in_nI h hN
theorem cs_in8 {a b N : Nat} (h : a * 8 + b < N) (hN : N < 2 ^ 31) : vp_in (nI a * 8 + nI b) N := by
  rw [cs_i8]; exact vp_in_nI h hN
theorem cs_bz {b : Bool} {x : Int32} {A B : Prop} (e : x = cs_bI b) (h0 : ¬ b = true → A) (h1 : b = true → B) : (x = 0 → A) ∧ (¬ x = 0 → B) := by
  subst e
  cases b
  · exact br_t rfl (h0 (by decide))
  · exact br_f (by decide) (h1 rfl)
theorem cs_yvis_l {post : Int32 → Prop} {r w : Nat} (hn : n ≤ 32) (hr : r < 4) (hw : w < n) (hP : cs_PO n P) (h1 : cs_V P (A r) w → post 1) (h0 : ¬ cs_V P (A r) w → post 0) :
    ∀ m i, i ≤ n → n - i < m → (∀ v, v < i → (v = w ∨ P w v = true) → A r v = true) → wY_visible_2 post (nI r) (nI w) (nI R) (nI K) (nI S) (nI C) (nI n) (cs_N kf) vo (cs_N og) (cs_N tf) (cs_M 32 P) (cs_M 32 A) (cs_M 32 X) (cs_N hf) (cs_B ob) (cs_M 8 Q) (cs_M 8 F) (cs_O 8 G) fi m (nI i) := by
  intro m
  induction m with
  | zero => intro i _ h; omega
  | succ m ih =>
    intro i hi hm hh
    by_cases hi2 : i < n
    · have j29 : (i = w ∨ P w i = true) → wY_visible_29 post (wY_visible_2 post (nI r) (nI w) (nI R) (nI K) (nI S) (nI C) (nI n) (cs_N kf) vo (cs_N og) (cs_N tf) (cs_M 32 P) (cs_M 32 A) (cs_M 32 X) (cs_N hf) (cs_B ob) (cs_M 8 Q) (cs_M 8 F) (cs_O 8 G) fi m) (nI r) (nI w) (nI i) (nI R) (nI K) (nI S) (nI C) (nI n) (cs_N kf) vo (cs_N og) (cs_N tf) (cs_M 32 P) (cs_M 32 A) (cs_M 32 X) (cs_N hf) (cs_B ob) (cs_M 8 Q) (cs_M 8 F) (cs_O 8 G) fi := by
        intro hc
        refine And.intro (cs_in32 (by omega) (by omega)) (cs_bz (cs_at32 (by omega) (by omega)) (fun z => h0 fun hv => z ?_) (fun z => nm_r (nI_1 i) (ih (i + 1) (by omega) (by omega) fun v hv hc' => ?_)))
        · rcases hc with e | e
          · rw [e]; exact hv.1
          · exact hv.2 i e
        · by_cases e : v = i
          · rw [e]; exact z
          · exact hh v (by omega) hc'
      refine br_f (nI_ge hi2 (by omega)) ?_
      by_cases e : i = w
      · exact br_t (by rw [e]) (j29 (Or.inl e))
      · refine br_f (fun z => e ((nI_eq (by omega) (by omega)).mp z)) (And.intro (cs_in32 (by omega) (by omega)) (cs_bz (cs_at32 (by omega) (by omega)) (fun z => nm_r (nI_1 i) (ih (i + 1) (by omega) (by omega) fun v hv hc' => ?_)) (fun z => j29 (Or.inr z))))
        by_cases e2 : v = i
        · rw [e2] at hc'; exact absurd hc' (fun y => y.elim e z)
        · exact hh v (by omega) hc'
    · have e : i = n := by omega
      subst e
      exact br_t (nI_le (by omega) (by omega)) (h1 ⟨hh w hw (Or.inl rfl), fun v hv => hh v (by have := hP.1 _ _ hv; omega) (Or.inr hv)⟩)
theorem cs_yvis {post : Int32 → Prop} {r w : Nat} (hn : n ≤ 32) (hr : r < 4) (hw : w < n) (hP : cs_PO n P) (h1 : cs_V P (A r) w → post 1) (h0 : ¬ cs_V P (A r) w → post 0) : wpY_visible post (nI R, nI K, nI S, nI C, nI n, cs_N kf, vo, cs_N og, cs_N tf, cs_M 32 P, cs_M 32 A, cs_M 32 X, cs_N hf, cs_B ob, cs_M 8 Q, cs_M 8 F, cs_O 8 G, fi) (nI r) (nI w) :=
  Exists.intro 33 (cs_yvis_l hn hr hw hP h1 h0 33 0 (by omega) (by omega) (fun v h => by omega))
theorem cs_ystamp {post : Int32 → Prop} {w : Nat} (hn : n ≤ 32) (hw : w < n) (h : post (nI (cs_sf kf tf og w))) : wpY_stamp post (nI R, nI K, nI S, nI C, nI n, cs_N kf, vo, cs_N og, cs_N tf, cs_M 32 P, cs_M 32 A, cs_M 32 X, cs_N hf, cs_B ob, cs_M 8 Q, cs_M 8 F, cs_O 8 G, fi) (nI w) := by
  have c : (nI w).toNatClampNeg = w := nI_clamp (by omega)
  have i : vp_in (nI w) 32 := vp_in_nI (by omega) (by omega)
  have e8 : nI (og w) * 8 = nI (og w * 8) := by show nI (og w) * nI 8 = _; rw [pk_mul]
  have e : cs_N tf (nI w).toNatClampNeg * 32 + cs_N og (nI w).toNatClampNeg * 8 + cs_N kf (nI w).toNatClampNeg = nI (cs_sf kf tf og w) := by
    rw [c]; show nI (tf w) * 32 + nI (og w) * 8 + nI (kf w) = _
    rw [cs_m32, e8, nI_add, nI_add]; rfl
  unfold wpY_stamp
  refine cs_ywr_t hw hn ?_
  refine br_t rfl (And.intro i (And.intro i (And.intro i ?_)))
  rw [e]; exact h
theorem cs_ynew {post : Int32 → Prop} {w : Nat} {b : Option Nat} (hn : n ≤ 32) (hw : w < n) (hb : ∀ v, b = some v → v < n) (hsb : ∀ w, cs_sf kf tf og w < 2 ^ 31) (h1 : (∀ v, b = some v → cs_sf kf tf og v ≤ cs_sf kf tf og w) → post 1)
    (h0 : ∀ v, b = some v → cs_sf kf tf og w ≤ cs_sf kf tf og v → post 0) : wpY_newer post (nI R, nI K, nI S, nI C, nI n, cs_N kf, vo, cs_N og, cs_N tf, cs_M 32 P, cs_M 32 A, cs_M 32 X, cs_N hf, cs_B ob, cs_M 8 Q, cs_M 8 F, cs_O 8 G, fi) (nI w) (cs_oI b) := by
  cases b with
  | none => exact br_t rfl (h1 fun v e => nomatch e)
  | some v =>
    have hv := hb v rfl
    refine br_f (cs_nIm1 (by omega)) (cs_ystamp hn hw (cs_ystamp hn hv ?_))
    by_cases z : cs_sf kf tf og w ≤ cs_sf kf tf og v
    · exact br_t (nI_le z (hsb v)) (h0 v rfl z)
    · exact br_f (nI_ge (by omega) (hsb w)) (h1 fun u e => by cases e; omega)
theorem cs_ycur_l {post : Int32 → Prop} {r k : Nat} (hn : n ≤ 32) (hr : r < 4) (hk : k < 8) (hkf : ∀ w, kf w < 8) (hP : cs_PO n P) (hsb : ∀ w, cs_sf kf tf og w < 2 ^ 31)
    (h : ∀ b, cs_Bst (cs_sf kf tf og) (fun w => w < n ∧ (kf w = k ∧ cs_V P (A r) w)) b → post (cs_oI b)) :
    ∀ m i b, i ≤ n → n - i < m → cs_Bst (cs_sf kf tf og) (fun w => w < i ∧ (kf w = k ∧ cs_V P (A r) w)) b → wY_current_24 post (nI r) (nI k) (nI R) (nI K) (nI S) (nI C) (nI n) (cs_N kf) vo (cs_N og) (cs_N tf) (cs_M 32 P) (cs_M 32 A) (cs_M 32 X) (cs_N hf) (cs_B ob) (cs_M 8 Q) (cs_M 8 F) (cs_O 8 G) fi m (cs_oI b) (nI i) := by
  intro m
  induction m with
  | zero => intro i _ _ h; omega
  | succ m ih =>
    intro i b hi hm hB
    by_cases hi2 : i < n
    · have c : (nI i).toNatClampNeg = i := nI_clamp (by omega)
      have ck : cs_N kf (nI i).toNatClampNeg = nI (kf i) := by rw [c]; rfl
      have hk8 := hkf i
      refine br_f (nI_ge hi2 (by omega)) (And.intro (vp_in_nI (by omega) (by omega)) ?_)
      by_cases e : kf i = k
      · refine br_t (by rw [ck, e]) (cs_yvis hn hr hi2 hP (fun hv => ?_) (fun hv => ?_))
        · refine br_f (by decide) (cs_ynew hn hi2 (fun v e => ?_) hsb (fun hh => ?_) (fun v e' hh => ?_))
          · subst e; have := hB.1.1; omega
          · exact br_f (by decide) (nm_r (nI_1 i) (ih (i + 1) (some i) (by omega) (by omega) (cs_Bst_iff (cs_T1 (U := fun w => kf w = k ∧ cs_V P (A r) w) ⟨e, hv⟩) (cs_Bst_a1 hB hh))))
          · subst e'
            exact br_t rfl (nm_r (nI_1 i) (ih (i + 1) (some v) (by omega) (by omega) (cs_Bst_iff (cs_T1 (U := fun w => kf w = k ∧ cs_V P (A r) w) ⟨e, hv⟩) (cs_Bst_a0 hB hh))))
        · exact br_t rfl (nm_r (nI_1 i) (ih (i + 1) b (by omega) (by omega) (cs_Bst_iff (cs_T0 (U := fun w => kf w = k ∧ cs_V P (A r) w) (fun y => hv y.2)) hB)))
      · exact br_f (by rw [ck]; exact fun z => e ((nI_eq (by omega) (by omega)).mp z)) (nm_r (nI_1 i) (ih (i + 1) b (by omega) (by omega) (cs_Bst_iff (cs_T0 (U := fun w => kf w = k ∧ cs_V P (A r) w) (fun y => e y.1)) hB)))
    · have e : i = n := by omega
      subst e
      exact br_t (nI_le (by omega) (by omega)) (h b hB)
theorem cs_ycur {post : Int32 → Prop} {r k : Nat} (hn : n ≤ 32) (hR : R ≤ 4) (hK : K ≤ 8) (hr : r < R) (hk : k < K) (hkf : ∀ w, kf w < 8) (hP : cs_PO n P) (hsb : ∀ w, cs_sf kf tf og w < 2 ^ 31)
    (h : ∀ b, cs_Bst (cs_sf kf tf og) (fun w => w < n ∧ (kf w = k ∧ cs_V P (A r) w)) b → post (cs_oI b)) : wpY_current post (nI R, nI K, nI S, nI C, nI n, cs_N kf, vo, cs_N og, cs_N tf, cs_M 32 P, cs_M 32 A, cs_M 32 X, cs_N hf, cs_B ob, cs_M 8 Q, cs_M 8 F, cs_O 8 G, fi) (nI r) (nI k) := by
  unfold wpY_current
  refine cs_yrp_t hr (by omega) ?_
  refine br_t rfl ?_
  refine cs_yky_t hk (by omega) ?_
  refine br_t rfl ?_
  exact Exists.intro 33 (cs_ycur_l hn (by omega) (by omega) hkf hP hsb h 33 0 none (by omega) (by omega) (fun w y => absurd y.1 (by omega)))
theorem cs_ytk_l {post : SY → Prop} {c u : Nat} (hn : n ≤ 32) (hc : c < 8) (hu : u < n) (h : post (nI R, nI K, nI S, nI C, nI n, cs_N kf, vo, cs_N og, cs_N tf, cs_M 32 P, cs_M 32 A, cs_M 32 (cs_pt X c n (cs_tk (X c) P u)), cs_N hf, cs_B ob, cs_M 8 Q, cs_M 8 F, cs_O 8 G, fi)) :
    ∀ m i, i ≤ n → n - i < m → wY_takeIn_8 post (nI c) (nI u) (nI R) (nI K) (nI S) (nI C) (nI n) m (nI i) (cs_N kf) vo (cs_N og) (cs_N tf) (cs_M 32 P) (cs_M 32 A) (cs_M 32 (cs_pt X c i (cs_tk (X c) P u))) (cs_N hf) (cs_B ob) (cs_M 8 Q) (cs_M 8 F) (cs_O 8 G) fi := by
  intro m
  induction m with
  | zero => intro i _ h; omega
  | succ m ih =>
    intro i hi hm
    by_cases hi2 : i < n
    · have j35 : (i = u ∨ P u i = true) → wY_takeIn_35 post (wY_takeIn_8 post (nI c) (nI u) (nI R) (nI K) (nI S) (nI C) (nI n) m) (nI c) (nI u) (nI i) (nI R) (nI K) (nI S) (nI C) (nI n) (cs_N kf) vo (cs_N og) (cs_N tf) (cs_M 32 P) (cs_M 32 A) (cs_M 32 (cs_pt X c i (cs_tk (X c) P u))) (cs_N hf) (cs_B ob) (cs_M 8 Q) (cs_M 8 F) (cs_O 8 G) fi := by
        intro hd
        have ht : cs_tk (X c) P u i = true := cs_tk_m.mpr (Or.inr hd)
        refine And.intro (cs_in32 (by omega) (by omega)) (nm_r (e' := cs_M 32 (cs_pt X c (i + 1) (cs_tk (X c) P u))) ?_ (nm_r (nI_1 i) (ih (i + 1) (by omega) (by omega))))
        rw [cs_i32, nI_clamp (by omega), cs_nar1, cs_M_up (by omega), ← cs_pt_s, ht]
      refine br_f (nI_ge hi2 (by omega)) ?_
      by_cases e : i = u
      · exact br_t (by rw [e]) (j35 (Or.inl e))
      · refine br_f (fun z => e ((nI_eq (by omega) (by omega)).mp z)) (And.intro (cs_in32 (by omega) (by omega)) (cs_bz (cs_at32 (by omega) (by omega)) (fun z => nm_r (nI_1 i) ?_) (fun z => j35 (Or.inr z))))
        have ht : cs_tk (X c) P u i = X c i := by
          unfold cs_tk; rw [decide_eq_false e, Bool.eq_false_iff.mpr z]; simp
        rw [cs_pt_k X c i _ ht]
        exact ih (i + 1) (by omega) (by omega)
    · have e : i = n := by omega
      subst e
      exact br_t (nI_le (by omega) (by omega)) h
theorem cs_ytk {post : SY → Prop} {c : Nat} {b : Option Nat} (hn : n ≤ 32) (hc : c < 8) (hP : cs_PO n P) (hb : ∀ w, b = some w → w < n) (h : post (nI R, nI K, nI S, nI C, nI n, cs_N kf, vo, cs_N og, cs_N tf, cs_M 32 P, cs_M 32 A, cs_M 32 (cs_u X c (cs_tko (X c) P b)), cs_N hf, cs_B ob, cs_M 8 Q, cs_M 8 F, cs_O 8 G, fi)) : wpY_takeIn post (nI R, nI K, nI S, nI C, nI n, cs_N kf, vo, cs_N og, cs_N tf, cs_M 32 P, cs_M 32 A, cs_M 32 X, cs_N hf, cs_B ob, cs_M 8 Q, cs_M 8 F, cs_O 8 G, fi) (nI c) (cs_oI b) := by
  cases b with
  | none =>
    have e : cs_u X c (cs_tko (X c) P none) = X := cs_u_id X c
    rw [e] at h
    exact br_t rfl h
  | some u =>
    have hu := hb u rfl
    have e : cs_pt X c n (cs_tk (X c) P u) = cs_u X c (cs_tko (X c) P (some u)) := by
      refine cs_pt_u X c n _ (fun v hv => ?_)
      unfold cs_tk
      have a1 : P u v = false := Bool.eq_false_iff.mpr fun z => by have := hP.1 _ _ z; omega
      rw [decide_eq_false (by omega), a1]; simp
    rw [← e] at h
    have := cs_ytk_l hn hc hu h 33 0 (by omega) (by omega)
    rw [cs_pt_0] at this
    exact br_f (cs_nIm1 (by omega)) (Exists.intro 33 this)
theorem cs_atO {f : Nat → Nat → Option Nat} {a b : Nat} (hb : b < 8) (ha : a < 1000) : cs_O 8 f (nI a * 8 + nI b).toNatClampNeg = cs_oI (f a b) := by
  rw [cs_i8, nI_clamp (by omega), cs_O_at hb]
theorem cs_yrch_l {post : Int32 → Prop} {c w : Nat} (hn : n ≤ 32) (hc : c < 8) (hK : K ≤ 8) (hw : w < n) (hG : ∀ k, k < K → Q c k = true → ∀ w, G c k = some w → w < n) (h1 : cs_Rch K (Q c) (G c) P w → post 1) (h0 : ¬ cs_Rch K (Q c) (G c) P w → post 0) :
    ∀ m i, i ≤ K → K - i < m → ¬ cs_Rch i (Q c) (G c) P w → wY_reached_2 post (nI c) (nI w) (nI R) (nI K) (nI S) (nI C) (nI n) (cs_N kf) vo (cs_N og) (cs_N tf) (cs_M 32 P) (cs_M 32 A) (cs_M 32 X) (cs_N hf) (cs_B ob) (cs_M 8 Q) (cs_M 8 F) (cs_O 8 G) fi m (nI i) := by
  intro m
  induction m with
  | zero => intro i _ h; omega
  | succ m ih =>
    intro i hi hm hr
    by_cases hi2 : i < K
    · have nx : (Q c i = true → ∀ f, G c i = some f → ¬ (f = w ∨ P f w = true)) → ¬ cs_Rch (i + 1) (Q c) (G c) P w := by
        rintro y ⟨k, y1, y2, f, y3, y4⟩
        by_cases e : k = i
        · rw [e] at y2 y3; exact y y2 f y3 y4
        · exact hr ⟨k, by omega, y2, f, y3, y4⟩
      refine br_f (nI_ge hi2 (by omega)) (And.intro (cs_in8 (by omega) (by omega)) (nm_r (cs_atO (by omega) (by omega)) (And.intro (cs_in8 (by omega) (by omega)) (cs_bz (cs_at8 (by omega) (by omega)) (fun z => nm_r (nI_1 i) (ih (i + 1) (by omega) (by omega) (nx fun y => absurd y z))) (fun z => ?_)))))
      cases hg : G c i with
      | none => exact br_t rfl (nm_r (nI_1 i) (ih (i + 1) (by omega) (by omega) (nx fun _ f y => by rw [hg] at y; exact nomatch y)))
      | some f =>
        have hf := hG i hi2 z f hg
        refine br_f (cs_nIm1 (by omega)) ?_
        by_cases e : f = w
        · exact br_t (by rw [e]; rfl) (h1 ⟨i, hi2, z, f, hg, Or.inl e⟩)
        · refine br_f (fun y => e ((nI_eq (by omega) (by omega)).mp y)) (And.intro (cs_in32 (by omega) (by omega)) (cs_bz (cs_at32 (a := f) (b := w) (by omega) (by omega)) (fun p => ?_) (fun p => h1 ⟨i, hi2, z, f, hg, Or.inr p⟩)))
          refine nm_r (nI_1 i) (ih (i + 1) (by omega) (by omega) (nx fun _ f' y => ?_))
          rw [hg] at y
          cases y
          exact fun q => q.elim e p
    · have e : i = K := by omega
      subst e
      exact br_t (nI_le (by omega) (by omega)) (h0 hr)
theorem cs_yrch {post : Int32 → Prop} {c w : Nat} (hn : n ≤ 32) (hc : c < 8) (hK : K ≤ 8) (hw : w < n) (hG : ∀ k, k < K → Q c k = true → ∀ w, G c k = some w → w < n) (h1 : cs_Rch K (Q c) (G c) P w → post 1) (h0 : ¬ cs_Rch K (Q c) (G c) P w → post 0) : wpY_reached post (nI R, nI K, nI S, nI C, nI n, cs_N kf, vo, cs_N og, cs_N tf, cs_M 32 P, cs_M 32 A, cs_M 32 X, cs_N hf, cs_B ob, cs_M 8 Q, cs_M 8 F, cs_O 8 G, fi) (nI c) (nI w) :=
  Exists.intro 9 (cs_yrch_l hn hc hK hw hG h1 h0 9 0 (by omega) (by omega) (fun ⟨_, y, _⟩ => absurd y (by omega)))
end
end
section
/-! the reference's walks, the longer ones -/
section
variable {R K S C n : Nat} {kf tf og hf : Nat → Nat} {P A X : Nat → Nat → Bool} {ob : Nat → Bool} {Q F : Nat → Nat → Bool} {G : Nat → Nat → Option Nat} {vo fi : Nat → Int32}
theorem cs_ywr_2 {post : Int32 → SY → Prop} {c k q t : Nat} {x : Int32} (hn : n < 32) (hc : c < 8) (hq : q < 4)
    (h : post (nI n) (nI R, nI K, nI S, nI C, nI (n + 1), cs_N (cs_u kf n k), upd vo n x, cs_N (cs_u og n q), cs_N (cs_u tf n (t + 1)), cs_M 32 (cs_pt P n n (X c)), cs_M 32 (cs_u2 A q n true), cs_M 32 (cs_u2 X c n true), cs_N hf, cs_B ob, cs_M 8 Q, cs_M 8 F, cs_O 8 G, fi)) :
    ∀ m i, i ≤ n → n - i < m → wY_write_166 post (nI c) (nI k) x (nI n) (nI q) (nI t) (nI R) (nI K) (nI S) (nI C) (nI n) m (nI i) (cs_N kf) vo (cs_N og) (cs_N tf) (cs_M 32 (cs_pt P n i (X c))) (cs_M 32 A) (cs_M 32 X) (cs_N hf) (cs_B ob) (cs_M 8 Q) (cs_M 8 F) (cs_O 8 G) fi := by
  intro m
  induction m with
  | zero => intro i _ h; omega
  | succ m ih =>
    intro i hi hm
    have c1 : (nI n).toNatClampNeg = n := nI_clamp (by omega)
    have i1 : vp_in (nI n) 32 := vp_in_nI (by omega) (by omega)
    by_cases hi2 : i < n
    · refine br_f (nI_ge hi2 (by omega)) (And.intro (cs_in32 (by omega) (by omega)) (And.intro (cs_in32 (by omega) (by omega)) (nm_r (e' := cs_M 32 (cs_pt P n (i + 1) (X c))) ?_ (nm_r (nI_1 i) (ih (i + 1) (by omega) (by omega))))))
      rw [cs_at32 (by omega) (by omega), cs_nar, cs_i32, nI_clamp (by omega), cs_M_up (by omega), cs_pt_s]
    · have e : i = n := by omega
      subst e
      refine br_t (nI_le (by omega) (by omega)) (And.intro i1 (nm_r (e' := cs_N (cs_u kf i k)) (by rw [c1, cs_N_up]) (And.intro i1 (nm_r (e' := upd vo i x) (by rw [c1]) (And.intro i1 (nm_r (e' := cs_N (cs_u og i q)) (by rw [c1, cs_N_up])
        (And.intro i1 (nm_r (e' := cs_N (cs_u tf i (t + 1))) (by rw [c1, nI_1, cs_N_up]) (And.intro (cs_in32 (by omega) (by omega)) (nm_r (e' := cs_M 32 (cs_u2 A q i true)) (by rw [cs_i32, nI_clamp (by omega), cs_nar1, cs_M_up (by omega)])
        (And.intro (cs_in32 (by omega) (by omega)) (nm_r (e' := cs_M 32 (cs_u2 X c i true)) (by rw [cs_i32, nI_clamp (by omega), cs_nar1, cs_M_up (by omega)]) (nm_r (nI_1 i) h)))))))))))))
theorem cs_ywr_1 {post : Int32 → SY → Prop} {c k q : Nat} {x : Int32} (hn : n < 32) (hc : c < 8) (hq : q < 4) (hk : k < 8) (hS1 : 1 ≤ S) (hS4 : S ≤ 4) (hkf : ∀ w, kf w < 8) (htf : ∀ w, tf w ≤ 32)
    (h : ∀ t, cs_Tm tf (fun v => v < n ∧ ((A q v = true ∧ kf v % S = k % S) ∨ X c v = true)) t →
      post (nI n) (nI R, nI K, nI S, nI C, nI (n + 1), cs_N (cs_u kf n k), upd vo n x, cs_N (cs_u og n q), cs_N (cs_u tf n (t + 1)), cs_M 32 (cs_pt P n n (X c)), cs_M 32 (cs_u2 A q n true), cs_M 32 (cs_u2 X c n true), cs_N hf, cs_B ob, cs_M 8 Q, cs_M 8 F, cs_O 8 G, fi)) :
    ∀ m i t, i ≤ n → n - i < m → cs_Tm tf (fun v => v < i ∧ ((A q v = true ∧ kf v % S = k % S) ∨ X c v = true)) t → wY_write_63 post (nI c) (nI k) x (nI n) (nI q) (nI R) (nI K) (nI S) (nI C) (nI n) (cs_N kf) vo (cs_N og) (cs_N tf) (cs_M 32 P) (cs_M 32 A) (cs_M 32 X) (cs_N hf) (cs_B ob) (cs_M 8 Q) (cs_M 8 F) (cs_O 8 G) fi m (nI t) (nI i) := by
  intro m
  induction m with
  | zero => intro i _ _ h; omega
  | succ m ih =>
    intro i t hi hm hT
    have htb : t ≤ 32 := by
      rcases hT.2 with y | ⟨v, _, y⟩
      · omega
      · have := htf v; omega
    by_cases hi2 : i < n
    · have c1 : (nI i).toNatClampNeg = i := nI_clamp (by omega)
      have i1 : vp_in (nI i) 32 := vp_in_nI (by omega) (by omega)
      have hti := htf i
      have hki := hkf i
      have ct : cs_N tf (nI i).toNatClampNeg = nI (tf i) := by rw [c1]; rfl
      have eq1 : cs_Tm tf (fun v => v = i) (tf i) := ⟨fun v e => by rw [e]; exact Nat.le_refl _, Or.inr ⟨i, rfl, rfl⟩⟩
      have j136 : ((A q i = true ∧ kf i % S = k % S) ∨ X c i = true) → wY_write_136 post (wY_write_63 post (nI c) (nI k) x (nI n) (nI q) (nI R) (nI K) (nI S) (nI C) (nI n) (cs_N kf) vo (cs_N og) (cs_N tf) (cs_M 32 P) (cs_M 32 A) (cs_M 32 X) (cs_N hf) (cs_B ob) (cs_M 8 Q) (cs_M 8 F) (cs_O 8 G) fi m) (nI c) (nI k) x (nI n) (nI q) (nI t) (nI i) (nI R) (nI K) (nI S) (nI C) (nI n) (cs_N kf) vo (cs_N og) (cs_N tf) (cs_M 32 P) (cs_M 32 A) (cs_M 32 X) (cs_N hf) (cs_B ob) (cs_M 8 Q) (cs_M 8 F) (cs_O 8 G) fi := by
        intro hd
        have fl := cs_T1 (U := fun v => (A q v = true ∧ kf v % S = k % S) ∨ X c v = true) hd
        refine And.intro i1 ?_
        by_cases z : tf i ≤ t
        · exact br_t (by rw [ct]; exact nI_le z (by omega)) (nm_r (nI_1 i) (ih (i + 1) t (by omega) (by omega) (cs_Tm_iff fl (cs_Tm_l hT eq1 z))))
        · exact br_f (by rw [ct]; exact nI_ge (by omega) (by omega)) (And.intro i1 (nm_r ct (nm_r (nI_1 i) (ih (i + 1) (tf i) (by omega) (by omega) (cs_Tm_iff fl (cs_Tm_r hT eq1 (by omega)))))))
      have j113 : ¬ (A q i = true ∧ kf i % S = k % S) → wY_write_113 post (wY_write_63 post (nI c) (nI k) x (nI n) (nI q) (nI R) (nI K) (nI S) (nI C) (nI n) (cs_N kf) vo (cs_N og) (cs_N tf) (cs_M 32 P) (cs_M 32 A) (cs_M 32 X) (cs_N hf) (cs_B ob) (cs_M 8 Q) (cs_M 8 F) (cs_O 8 G) fi m) (nI c) (nI k) x (nI n) (nI q) (nI t) (nI i) (nI R) (nI K) (nI S) (nI C) (nI n) (cs_N kf) vo (cs_N og) (cs_N tf) (cs_M 32 P) (cs_M 32 A) (cs_M 32 X) (cs_N hf) (cs_B ob) (cs_M 8 Q) (cs_M 8 F) (cs_O 8 G) fi := by
        intro hd
        refine br_t rfl (And.intro (cs_in32 (by omega) (by omega)) (cs_bz (cs_at32 (by omega) (by omega)) (fun z => nm_r (nI_1 i) (ih (i + 1) t (by omega) (by omega) ?_)) (fun z => j136 (Or.inr z))))
        exact cs_Tm_iff (cs_T0 (U := fun v => (A q v = true ∧ kf v % S = k % S) ∨ X c v = true) (fun y => y.elim hd z)) hT
      have s0 : ¬ nI S = 0 := nI_ne0 (by omega) (by omega)
      refine br_f (nI_ge hi2 (by omega)) (And.intro (cs_in32 (by omega) (by omega)) (cs_bz (cs_at32 (by omega) (by omega)) (fun z => j113 fun y => z y.1) (fun z => And.intro i1 (And.intro s0 (And.intro s0 ?_)))))
      have ck : cs_N kf (nI i).toNatClampNeg - cs_N kf (nI i).toNatClampNeg / nI S * nI S = nI (kf i % S) := by
        rw [c1]; exact pk_rem (by omega) (by omega) (by omega)
      have ck2 : nI k - nI k / nI S * nI S = nI (k % S) := pk_rem (by omega) (by omega) (by omega)
      have m1 : kf i % S < S := Nat.mod_lt _ (by omega)
      have m2 : k % S < S := Nat.mod_lt _ (by omega)
      by_cases e : kf i % S = k % S
      · exact br_t (by rw [ck, ck2, e]) (br_f (by decide) (j136 (Or.inl ⟨z, e⟩)))
      · exact br_f (by rw [ck, ck2]; exact fun y => e ((nI_eq (by omega) (by omega)).mp y)) (j113 fun y => e y.2)
    · have e : i = n := by omega
      subst e
      have := cs_ywr_2 (t := t) hn hc hq (h t hT) 33 0 (by omega) (by omega)
      rw [cs_pt_0] at this
      exact br_t (nI_le (by omega) (by omega)) (Exists.intro 33 this)
theorem cs_ywr {post : Int32 → SY → Prop} {c k : Nat} {x : Int32} (hn : n < 32) (hC : C ≤ 8) (hK : K ≤ 8) (hR : R ≤ 4) (hc : c < C) (hk : k < K) (ho : ob c = false) (hhf : hf c < R) (hS1 : 1 ≤ S) (hS4 : S ≤ 4) (hkf : ∀ w, kf w < 8) (htf : ∀ w, tf w ≤ 32)
    (h : ∀ t, cs_Tm tf (fun v => v < n ∧ ((A (hf c) v = true ∧ kf v % S = k % S) ∨ X c v = true)) t →
      post (nI n) (nI R, nI K, nI S, nI C, nI (n + 1), cs_N (cs_u kf n k), upd vo n x, cs_N (cs_u og n (hf c)), cs_N (cs_u tf n (t + 1)), cs_M 32 (cs_pt P n n (X c)), cs_M 32 (cs_u2 A (hf c) n true), cs_M 32 (cs_u2 X c n true), cs_N hf, cs_B ob, cs_M 8 Q, cs_M 8 F, cs_O 8 G, fi)) : wpY_write post (nI R, nI K, nI S, nI C, nI n, cs_N kf, vo, cs_N og, cs_N tf, cs_M 32 P, cs_M 32 A, cs_M 32 X, cs_N hf, cs_B ob, cs_M 8 Q, cs_M 8 F, cs_O 8 G, fi) (nI c) (nI k) x := by
  have c1 : (nI c).toNatClampNeg = c := nI_clamp (by omega)
  have i1 : vp_in (nI c) 8 := vp_in_nI (by omega) (by omega)
  have eo : cs_B ob (nI c).toNatClampNeg = 0 := by rw [c1]; show cs_bI (ob c) = 0; rw [ho]; rfl
  unfold wpY_write
  refine cs_ycl_t hc (by omega) ?_
  refine br_t rfl ?_
  refine cs_yky_t hk (by omega) ?_
  refine br_t rfl (And.intro i1 (br_t eo (br_t (nI_lt (b := 32) hn (by decide)) (And.intro i1 (nm_r (e' := nI (hf c)) (by rw [c1]; rfl) ?_)))))
  exact Exists.intro 33 (cs_ywr_1 hn (by omega) (by omega) (by omega) hS1 hS4 hkf htf h 33 0 0 (by omega) (by omega) ⟨fun w y => absurd y.1 (by omega), Or.inl rfl⟩)
theorem cs_ybeg_l {post : Int32 → SY → Prop} {c : Nat} {x : Int32} (hc : c < 8) (hK : K ≤ 8) (h : post 0 (nI R, nI K, nI S, nI C, nI n, cs_N kf, vo, cs_N og, cs_N tf, cs_M 32 P, cs_M 32 A, cs_M 32 X, cs_N hf, cs_B (cs_u ob c true), cs_M 8 (cs_pt Q c K (bt x)), cs_M 8 (cs_pt F c K (fun _ => false)), cs_O 8 (cs_pt G c K (fun _ => none)), fi)) :
    ∀ m i, i ≤ K → K - i < m → wY_begin_40 post (nI c) x (nI R) (nI K) (nI S) (nI C) (nI n) m (nI i) (cs_N kf) vo (cs_N og) (cs_N tf) (cs_M 32 P) (cs_M 32 A) (cs_M 32 X) (cs_N hf) (cs_B ob) (cs_M 8 (cs_pt Q c i (bt x))) (cs_M 8 (cs_pt F c i (fun _ => false))) (cs_O 8 (cs_pt G c i (fun _ => none))) fi := by
  intro m
  induction m with
  | zero => intro i _ h; omega
  | succ m ih =>
    intro i hi hm
    by_cases hi2 : i < K
    · have j71 : ∀ z : Int32, z = cs_bI (bt x i) → wY_begin_71 post (wY_begin_40 post (nI c) x (nI R) (nI K) (nI S) (nI C) (nI n) m) (nI c) x (nI i) z (nI c * 8 + nI i) (nI R) (nI K) (nI S) (nI C) (nI n) (cs_N kf) vo (cs_N og) (cs_N tf) (cs_M 32 P) (cs_M 32 A) (cs_M 32 X) (cs_N hf) (cs_B ob) (cs_M 8 (cs_pt Q c i (bt x))) (cs_M 8 (cs_pt F c i (fun _ => false))) (cs_O 8 (cs_pt G c i (fun _ => none))) fi := by
        intro z ez
        have i8 := cs_in8 (a := c) (b := i) (N := 64) (by omega) (by omega)
        refine And.intro i8 (nm_r (e' := cs_M 8 (cs_pt Q c (i + 1) (bt x))) ?_ (And.intro i8 (nm_r (e' := cs_M 8 (cs_pt F c (i + 1) (fun _ => false))) ?_ (And.intro i8 (nm_r (e' := cs_O 8 (cs_pt G c (i + 1) (fun _ => none))) ?_ (nm_r (nI_1 i) (ih (i + 1) (by omega) (by omega))))))))
        · rw [ez, cs_i8, nI_clamp (by omega), cs_nar, cs_M_up (by omega), cs_pt_s]
        · rw [cs_i8, nI_clamp (by omega), cs_nar0, cs_M_up (by omega)]
          exact congrArg (cs_M 8) (cs_pt_s F c i (fun _ => false))
        · rw [cs_i8, nI_clamp (by omega)]
          show upd (cs_O 8 (cs_pt G c i fun _ => none)) (c * 8 + i) (cs_oI none) = _
          rw [cs_O_up (by omega)]
          exact congrArg (cs_O 8) (cs_pt_s G c i (fun _ => none))
      refine br_f (nI_ge hi2 (by omega)) ?_
      by_cases e : cs_h x i
      · have e' : bt x i = true := e
        exact br_f (fun z => (cs_mask (by omega)).mp z e) (j71 1 (by rw [e']; rfl))
      · have e' : bt x i = false := Bool.eq_false_iff.mpr e
        exact br_t ((cs_mask (by omega)).mpr e) (j71 0 (by rw [e']; rfl))
    · have e : i = K := by omega
      subst e
      have c1 : (nI c).toNatClampNeg = c := nI_clamp (by omega)
      exact br_t (nI_le (by omega) (by omega)) (And.intro (vp_in_nI hc (by omega)) (nm_r (e' := cs_B (cs_u ob c true)) (by rw [c1, cs_nar1, cs_B_up]) h))
theorem cs_ydel_l {post : Int32 → SY → Prop} {p r s : Nat} (hn : n ≤ 32) (hr : r < 4) (hp : p < 4) (hS1 : 1 ≤ S) (hS4 : S ≤ 4) (hs : s < S) (hkf : ∀ w, kf w < 8) (hof : ∀ w, og w < 4)
    (h1 : ∀ w, w < n → (og w = p ∧ kf w % S = s ∧ ¬ A r w = true) → (∀ v, v < w → ¬ (og v = p ∧ kf v % S = s ∧ ¬ A r v = true)) → post (nI w) (nI R, nI K, nI S, nI C, nI n, cs_N kf, vo, cs_N og, cs_N tf, cs_M 32 P, cs_M 32 (cs_u2 A r w true), cs_M 32 X, cs_N hf, cs_B ob, cs_M 8 Q, cs_M 8 F, cs_O 8 G, fi))
    (h0 : (∀ v, v < n → ¬ (og v = p ∧ kf v % S = s ∧ ¬ A r v = true)) → post (-1) (nI R, nI K, nI S, nI C, nI n, cs_N kf, vo, cs_N og, cs_N tf, cs_M 32 P, cs_M 32 A, cs_M 32 X, cs_N hf, cs_B ob, cs_M 8 Q, cs_M 8 F, cs_O 8 G, fi)) :
    ∀ m i, i ≤ n → n - i < m → (∀ v, v < i → ¬ (og v = p ∧ kf v % S = s ∧ ¬ A r v = true)) → wY_deliver_39 post (nI p) (nI r) (nI s) (nI R) (nI K) (nI S) (nI C) (nI n) (cs_N kf) vo (cs_N og) (cs_N tf) (cs_M 32 P) (cs_M 32 A) (cs_M 32 X) (cs_N hf) (cs_B ob) (cs_M 8 Q) (cs_M 8 F) (cs_O 8 G) fi m (nI i) := by
  intro m
  induction m with
  | zero => intro i _ h; omega
  | succ m ih =>
    intro i hi hm hh
    by_cases hi2 : i < n
    · have c1 : (nI i).toNatClampNeg = i := nI_clamp (by omega)
      have i1 : vp_in (nI i) 32 := vp_in_nI (by omega) (by omega)
      have hki := hkf i
      have hoi := hof i
      have co : cs_N og (nI i).toNatClampNeg = nI (og i) := by rw [c1]; rfl
      have ck : cs_N kf (nI i).toNatClampNeg - cs_N kf (nI i).toNatClampNeg / nI S * nI S = nI (kf i % S) := by
        rw [c1]; exact pk_rem (by omega) (by omega) (by omega)
      have m1 : kf i % S < S := Nat.mod_lt _ (by omega)
      have nx : ¬ (og i = p ∧ kf i % S = s ∧ ¬ A r i = true) → ∀ v, v < i + 1 → ¬ (og v = p ∧ kf v % S = s ∧ ¬ A r v = true) := fun y v hv => by
        by_cases e : v = i
        · rw [e]; exact y
        · exact hh v (by omega)
      have i3 := cs_in32 (a := r) (b := i) (N := 128) (by omega) (by omega)
      refine br_f (nI_ge hi2 (by omega)) (And.intro i1 ?_)
      by_cases e : og i = p
      · refine br_t (by rw [co, e]) (And.intro i1 (And.intro (nI_ne0 (by omega) (by omega)) ?_))
        by_cases e2 : kf i % S = s
        · refine br_t (by rw [ck, e2]) (And.intro i3 (cs_bz (cs_at32 (by omega) (by omega)) (fun z => And.intro i3 (nm_r (e' := cs_M 32 (cs_u2 A r i true)) ?_ (h1 i hi2 ⟨e, e2, z⟩ hh))) (fun z => nm_r (nI_1 i) (ih (i + 1) (by omega) (by omega) (nx fun y => y.2.2 z)))))
          rw [cs_i32, nI_clamp (by omega), cs_nar1, cs_M_up (by omega)]
        · exact br_f (by rw [ck]; exact fun y => e2 ((nI_eq (by omega) (by omega)).mp y)) (nm_r (nI_1 i) (ih (i + 1) (by omega) (by omega) (nx fun y => e2 y.2.1)))
      · exact br_f (by rw [co]; exact fun y => e ((nI_eq (by omega) (by omega)).mp y)) (nm_r (nI_1 i) (ih (i + 1) (by omega) (by omega) (nx fun y => e y.1)))
    · have e : i = n := by omega
      subst e
      exact br_t (nI_le (by omega) (by omega)) (h0 hh)
theorem cs_ymov_l {post : Int32 → SY → Prop} {c r : Nat} (hn : n ≤ 32) (hr : r < 4) (hc : c < 8) (hP : cs_PO n P)
    (h1 : (∀ w, w < n → X c w = true → cs_V P (A r) w) → post 0 (nI R, nI K, nI S, nI C, nI n, cs_N kf, vo, cs_N og, cs_N tf, cs_M 32 P, cs_M 32 A, cs_M 32 X, cs_N (cs_u hf c r), cs_B ob, cs_M 8 Q, cs_M 8 F, cs_O 8 G, fi)) (h0 : ∀ w, w < n → X c w = true → ¬ cs_V P (A r) w → post (-9) (nI R, nI K, nI S, nI C, nI n, cs_N kf, vo, cs_N og, cs_N tf, cs_M 32 P, cs_M 32 A, cs_M 32 X, cs_N hf, cs_B ob, cs_M 8 Q, cs_M 8 F, cs_O 8 G, fi)) :
    ∀ m i, i ≤ n → n - i < m → (∀ w, w < i → X c w = true → cs_V P (A r) w) → wY_move_33 post (nI c) (nI r) (nI R) (nI K) (nI S) (nI C) (nI n) (cs_N kf) vo (cs_N og) (cs_N tf) (cs_M 32 P) (cs_M 32 A) (cs_M 32 X) (cs_N hf) (cs_B ob) (cs_M 8 Q) (cs_M 8 F) (cs_O 8 G) fi m (nI i) := by
  intro m
  induction m with
  | zero => intro i _ h; omega
  | succ m ih =>
    intro i hi hm hh
    by_cases hi2 : i < n
    · have nx : (X c i = true → cs_V P (A r) i) → ∀ w, w < i + 1 → X c w = true → cs_V P (A r) w := fun y w hw hx => by
        by_cases e : w = i
        · rw [e] at hx ⊢; exact y hx
        · exact hh w (by omega) hx
      refine br_f (nI_ge hi2 (by omega)) (And.intro (cs_in32 (by omega) (by omega)) (cs_bz (cs_at32 (by omega) (by omega)) (fun z => nm_r (nI_1 i) (ih (i + 1) (by omega) (by omega) (nx fun y => absurd y z))) (fun z => ?_)))
      exact cs_yvis hn hr hi2 hP (fun hv => br_f (by decide) (nm_r (nI_1 i) (ih (i + 1) (by omega) (by omega) (nx fun _ => hv)))) (fun hv => br_t rfl (h0 i hi2 z hv))
    · have e : i = n := by omega
      subst e
      have c1 : (nI c).toNatClampNeg = c := nI_clamp (by omega)
      exact br_t (nI_le (by omega) (by omega)) (And.intro (vp_in_nI hc (by omega)) (nm_r (e' := cs_N (cs_u hf c r)) (by rw [c1, cs_N_up]) (h1 hh)))
theorem cs_ydep_l {post : Int32 → Prop} {w d : Nat} (hn : n ≤ 32) (hw : w < n) (hd : d < n) (h2 : (∀ e, e < n → P w e = true → P e d = false) → post 2) (h1 : ∀ e, e < n → P w e = true → P e d = true → post 1) :
    ∀ m i, i ≤ n → n - i < m → (∀ e, e < i → P w e = true → P e d = false) → wY_dependency_37 post (nI w) (nI d) (nI R) (nI K) (nI S) (nI C) (nI n) (cs_N kf) vo (cs_N og) (cs_N tf) (cs_M 32 P) (cs_M 32 A) (cs_M 32 X) (cs_N hf) (cs_B ob) (cs_M 8 Q) (cs_M 8 F) (cs_O 8 G) fi m (nI i) := by
  intro m
  induction m with
  | zero => intro i _ h; omega
  | succ m ih =>
    intro i hi hm hh
    by_cases hi2 : i < n
    · have nx : (P w i = true → P i d = false) → ∀ e, e < i + 1 → P w e = true → P e d = false := fun y e he hx => by
        by_cases z : e = i
        · rw [z] at hx ⊢; exact y hx
        · exact hh e (by omega) hx
      refine br_f (nI_ge hi2 (by omega)) (And.intro (cs_in32 (by omega) (by omega)) (cs_bz (cs_at32 (by omega) (by omega)) (fun z => nm_r (nI_1 i) (ih (i + 1) (by omega) (by omega) (nx fun y => absurd y z))) (fun z => ?_)))
      exact And.intro (cs_in32 (by omega) (by omega)) (cs_bz (cs_at32 (by omega) (by omega)) (fun y => nm_r (nI_1 i) (ih (i + 1) (by omega) (by omega) (nx fun _ => Bool.eq_false_iff.mpr y))) (fun y => h1 i hi2 z y))
    · have e : i = n := by omega
      subst e
      exact br_t (nI_le (by omega) (by omega)) (h2 hh)
theorem cs_yctx_l {post : Int32 → Prop} {c d : Nat} (hn : n ≤ 32) (hc : c < 8) (hd : d < n) (h2 : (∀ e, e < n → X c e = true → P e d = false) → post 2) (h1 : ∀ e, e < n → X c e = true → P e d = true → post 1) :
    ∀ m i, i ≤ n → n - i < m → (∀ e, e < i → X c e = true → P e d = false) → wY_context_37 post (nI c) (nI d) (nI R) (nI K) (nI S) (nI C) (nI n) (cs_N kf) vo (cs_N og) (cs_N tf) (cs_M 32 P) (cs_M 32 A) (cs_M 32 X) (cs_N hf) (cs_B ob) (cs_M 8 Q) (cs_M 8 F) (cs_O 8 G) fi m (nI i) := by
  intro m
  induction m with
  | zero => intro i _ h; omega
  | succ m ih =>
    intro i hi hm hh
    by_cases hi2 : i < n
    · have nx : (X c i = true → P i d = false) → ∀ e, e < i + 1 → X c e = true → P e d = false := fun y e he hx => by
        by_cases z : e = i
        · rw [z] at hx ⊢; exact y hx
        · exact hh e (by omega) hx
      refine br_f (nI_ge hi2 (by omega)) (And.intro (cs_in32 (by omega) (by omega)) (cs_bz (cs_at32 (by omega) (by omega)) (fun z => nm_r (nI_1 i) (ih (i + 1) (by omega) (by omega) (nx fun y => absurd y z))) (fun z => ?_)))
      exact And.intro (cs_in32 (by omega) (by omega)) (cs_bz (cs_at32 (by omega) (by omega)) (fun y => nm_r (nI_1 i) (ih (i + 1) (by omega) (by omega) (nx fun _ => Bool.eq_false_iff.mpr y))) (fun y => h1 i hi2 z y))
    · have e : i = n := by omega
      subst e
      exact br_t (nI_le (by omega) (by omega)) (h2 hh)
end
end
section
/-! the reference's finish -/
theorem cs_uu {α : Type} (f : Nat → α) (c : Nat) (a b : α) : cs_u (cs_u f c a) c b = cs_u f c b := by
  funext j; unfold cs_u; by_cases e : j = c
  · rw [if_pos e, if_pos e]
  · rw [if_neg e, if_neg e, if_neg e]
section
variable {R K S C n : Nat} {kf tf og hf : Nat → Nat} {P A X : Nat → Nat → Bool} {ob : Nat → Bool} {Q F : Nat → Nat → Bool} {G : Nat → Nat → Option Nat} {vo fi : Nat → Int32}
variable {c : Nat} {fb : Nat → Option Nat}
theorem cs_yf25 {post : Int32 → SY → Prop} (hc : c < 8) (hK : K ≤ 8) (h7 : ∀ k, k < K → Q c k = true → ¬ F c k = true → post (-7) (nI R, nI K, nI S, nI C, nI n, cs_N kf, vo, cs_N og, cs_N tf, cs_M 32 P, cs_M 32 A, cs_M 32 X, cs_N hf, cs_B ob, cs_M 8 Q, cs_M 8 F, cs_O 8 G, fi)) (hgo : (∀ k, k < K → Q c k = true → F c k = true) → ∃ m : Nat, wY_finish_72 post (nI c) (nI R) (nI K) (nI S) (nI C) (nI n) m 0 (cs_N kf) vo (cs_N og) (cs_N tf) (cs_M 32 P) (cs_M 32 A) (cs_M 32 X) (cs_N hf) (cs_B ob) (cs_M 8 Q) (cs_M 8 F) (cs_O 8 G) fi) :
    ∀ m i, i ≤ K → K - i < m → (∀ k, k < i → Q c k = true → F c k = true) → wY_finish_25 post (nI c) (nI R) (nI K) (nI S) (nI C) (nI n) (cs_N kf) vo (cs_N og) (cs_N tf) (cs_M 32 P) (cs_M 32 A) (cs_M 32 X) (cs_N hf) (cs_B ob) (cs_M 8 Q) (cs_M 8 F) (cs_O 8 G) fi m (nI i) := by
  intro m
  induction m with
  | zero => intro i _ h; omega
  | succ m ih =>
    intro i hi hm hh
    by_cases hi2 : i < K
    · have nx : (Q c i = true → F c i = true) → ∀ k, k < i + 1 → Q c k = true → F c k = true := fun y k hk hx => by
        by_cases z : k = i
        · rw [z] at hx ⊢; exact y hx
        · exact hh k (by omega) hx
      refine br_f (nI_ge hi2 (by omega)) (And.intro (cs_in8 (by omega) (by omega)) (cs_bz (cs_at8 (by omega) (by omega)) (fun z => nm_r (nI_1 i) (ih (i + 1) (by omega) (by omega) (nx fun y => absurd y z))) (fun z => ?_)))
      exact And.intro (cs_in8 (by omega) (by omega)) (cs_bz (cs_at8 (by omega) (by omega)) (fun y => h7 i hi2 z y) (fun y => nm_r (nI_1 i) (ih (i + 1) (by omega) (by omega) (nx fun _ => y))))
    · have e : i = K := by omega
      subst e
      exact br_t (nI_le (by omega) (by omega)) (hgo hh)
theorem cs_yf89 {post : Int32 → SY → Prop} {J : Int32 → (Nat → Int32) → (Nat → Int32) → (Nat → Int32) → (Nat → Int32) → (Nat → Int32) → (Nat → Int32) → (Nat → Int32) → (Nat → Int32) → (Nat → Int32) → (Nat → Int32) → (Nat → Int32) → (Nat → Int32) → (Nat → Int32) → Prop}
    {k : Nat} {f0 : Nat → Int32} (hn : n ≤ 32) (hc : c < 8) (hK : K ≤ 8) (hk : k < 8) (hkf : ∀ w, kf w < 8) (hsb : ∀ w, cs_sf kf tf og w < 2 ^ 31) (hG : ∀ k, k < K → Q c k = true → ∀ w, G c k = some w → w < n)
    (hJ : ∀ b f, cs_Bst (cs_sf kf tf og) (fun w => w < n ∧ (kf w = k ∧ cs_Rch K (Q c) (G c) P w)) b → f k = cs_oI b → (∀ j, j ≠ k → f j = f0 j) → J (nI (k + 1)) (cs_N kf) vo (cs_N og) (cs_N tf) (cs_M 32 P) (cs_M 32 A) (cs_M 32 X) (cs_N hf) (cs_B ob) (cs_M 8 Q) (cs_M 8 F) (cs_O 8 G) f) :
    ∀ m i b f, i ≤ n → n - i < m → cs_Bst (cs_sf kf tf og) (fun w => w < i ∧ (kf w = k ∧ cs_Rch K (Q c) (G c) P w)) b → f k = cs_oI b → (∀ j, j ≠ k → f j = f0 j) → wY_finish_89 post J (nI c) (nI k) (nI R) (nI K) (nI S) (nI C) (nI n) m (nI i) (cs_N kf) vo (cs_N og) (cs_N tf) (cs_M 32 P) (cs_M 32 A) (cs_M 32 X) (cs_N hf) (cs_B ob) (cs_M 8 Q) (cs_M 8 F) (cs_O 8 G) f := by
  intro m
  induction m with
  | zero => intro i _ _ _ h; omega
  | succ m ih =>
    intro i b f hi hm hB hf hf0
    have c2 : (nI k).toNatClampNeg = k := nI_clamp (by omega)
    by_cases hi2 : i < n
    · have c1 : (nI i).toNatClampNeg = i := nI_clamp (by omega)
      have i1 : vp_in (nI i) 32 := vp_in_nI (by omega) (by omega)
      have i2 : vp_in (nI k) 8 := vp_in_nI (by omega) (by omega)
      have hki := hkf i
      have ck : cs_N kf (nI i).toNatClampNeg = nI (kf i) := by rw [c1]; rfl
      refine br_f (nI_ge hi2 (by omega)) (And.intro i1 ?_)
      by_cases e : kf i = k
      · refine br_t (by rw [ck, e]) (cs_yrch hn hc hK hi2 hG (fun hr => ?_) (fun hr => ?_))
        · refine br_f (by decide) (And.intro i2 ?_)
          have efk : f (nI k).toNatClampNeg = cs_oI b := by rw [c2, hf]
          rw [efk]
          refine cs_ynew hn hi2 (fun v e => ?_) hsb (fun hh => ?_) (fun v e' hh => ?_)
          · subst e; have := hB.1.1; omega
          · refine br_f (by decide) (And.intro i2 (nm_r (e' := upd f k (nI i)) (by rw [c2]) (nm_r (nI_1 i) ?_)))
            exact ih (i + 1) (some i) _ (by omega) (by omega) (cs_Bst_iff (cs_T1 (U := fun w => kf w = k ∧ cs_Rch K (Q c) (G c) P w) ⟨e, hr⟩) (cs_Bst_a1 hB hh)) pk_us (fun j hj => by rw [pk_un hj]; exact hf0 j hj)
          · subst e'
            refine br_t rfl (nm_r (nI_1 i) ?_)
            exact ih (i + 1) (some v) f (by omega) (by omega) (cs_Bst_iff (cs_T1 (U := fun w => kf w = k ∧ cs_Rch K (Q c) (G c) P w) ⟨e, hr⟩) (cs_Bst_a0 hB hh)) hf hf0
        · exact br_t rfl (nm_r (nI_1 i) (ih (i + 1) b f (by omega) (by omega) (cs_Bst_iff (cs_T0 (U := fun w => kf w = k ∧ cs_Rch K (Q c) (G c) P w) (fun y => hr y.2)) hB) hf hf0))
      · exact br_f (by rw [ck]; exact fun z => e ((nI_eq (by omega) (by omega)).mp z)) (nm_r (nI_1 i) (ih (i + 1) b f (by omega) (by omega) (cs_Bst_iff (cs_T0 (U := fun w => kf w = k ∧ cs_Rch K (Q c) (G c) P w) (fun y => e y.1)) hB) hf hf0))
    · have e : i = n := by omega
      subst e
      exact br_t (nI_le (by omega) (by omega)) (nm_r (nI_1 k) (hJ b f hB hf hf0))
theorem cs_yf72 {post : Int32 → SY → Prop} (hn : n ≤ 32) (hc : c < 8) (hK : K ≤ 8) (hkf : ∀ w, kf w < 8) (hsb : ∀ w, cs_sf kf tf og w < 2 ^ 31) (hG : ∀ k, k < K → Q c k = true → ∀ w, G c k = some w → w < n)
    (hb : ∀ k, k < K → ∀ b, cs_Bst (cs_sf kf tf og) (fun w => w < n ∧ (kf w = k ∧ cs_Rch K (Q c) (G c) P w)) b → b = fb k)
    (h : ∀ f, (∀ k, k < K → f k = cs_oI (fb k)) → ∃ m : Nat, wY_finish_153 post (nI c) m 0 0 (nI R) (nI K) (nI S) (nI C) (nI n) (cs_N kf) vo (cs_N og) (cs_N tf) (cs_M 32 P) (cs_M 32 A) (cs_M 32 X) (cs_N hf) (cs_B ob) (cs_M 8 Q) (cs_M 8 F) (cs_O 8 G) f) :
    ∀ m i f, i ≤ K → K - i < m → (∀ k, k < i → f k = cs_oI (fb k)) → wY_finish_72 post (nI c) (nI R) (nI K) (nI S) (nI C) (nI n) m (nI i) (cs_N kf) vo (cs_N og) (cs_N tf) (cs_M 32 P) (cs_M 32 A) (cs_M 32 X) (cs_N hf) (cs_B ob) (cs_M 8 Q) (cs_M 8 F) (cs_O 8 G) f := by
  intro m
  induction m with
  | zero => intro i _ _ h; omega
  | succ m ih =>
    intro i f hi hm hf
    by_cases hi2 : i < K
    · have c1 : (nI i).toNatClampNeg = i := nI_clamp (by omega)
      refine br_f (nI_ge hi2 (by omega)) (And.intro (vp_in_nI (by omega) (by omega)) (nm_r (e' := upd f i (-1)) (by rw [c1]) (Exists.intro 33 ?_)))
      refine cs_yf89 (f0 := f) hn hc hK (by omega) hkf hsb hG (fun b f' hB e1 e2 => ?_) 33 0 none (upd f i (-1)) (by omega) (by omega) (fun w y => absurd y.1 (by omega)) pk_us (fun j hj => pk_un hj)
      refine ih (i + 1) f' (by omega) (by omega) (fun k hk => ?_)
      by_cases e : k = i
      · rw [e, e1, hb i hi2 b hB]
      · rw [e2 k e]; exact hf k (by omega)
    · have e : i = K := by omega
      subst e
      exact br_t (nI_le (by omega) (by omega)) (h f hf)
theorem cs_yf153 {post : Int32 → SY → Prop} (hn : n ≤ 32) (hc : c < 8) (hK : K ≤ 8) (hP : cs_PO n P) (hfi : ∀ k, k < K → fi k = cs_oI (fb k)) (hbn : ∀ k w, fb k = some w → w < n) (hG : ∀ k, k < K → Q c k = true → ∀ w, G c k = some w → w < n)
    (h : post (nI (cs_ct (Q c) fb (G c) K)) (nI R, nI K, nI S, nI C, nI n, cs_N kf, vo, cs_N og, cs_N tf, cs_M 32 P, cs_M 32 A, cs_M 32 (cs_u X c (cs_Dn (Q c) fb P (X c) K)), cs_N hf, cs_B (cs_u ob c false), cs_M 8 Q, cs_M 8 F, cs_O 8 (cs_pt G c K (fun k => if Q c k = true then fb k else G c k)), fi)) :
    ∀ m i, i ≤ K → K - i < m → wY_finish_153 post (nI c) m (nI (cs_ct (Q c) fb (G c) i)) (nI i) (nI R) (nI K) (nI S) (nI C) (nI n) (cs_N kf) vo (cs_N og) (cs_N tf) (cs_M 32 P) (cs_M 32 A) (cs_M 32 (cs_u X c (cs_Dn (Q c) fb P (X c) i))) (cs_N hf) (cs_B ob) (cs_M 8 Q) (cs_M 8 F) (cs_O 8 (cs_pt G c i (fun k => if Q c k = true then fb k else G c k))) fi := by
  intro m
  induction m with
  | zero => intro i _ h; omega
  | succ m ih =>
    intro i hi hm
    have c2 : (nI c).toNatClampNeg = c := nI_clamp (by omega)
    by_cases hi2 : i < K
    · have c1 : (nI i).toNatClampNeg = i := nI_clamp (by omega)
      have i1 : vp_in (nI i) 8 := vp_in_nI (by omega) (by omega)
      have i3 := cs_in8 (a := c) (b := i) (N := 64) (by omega) (by omega)
      have ef : fi (nI i).toNatClampNeg = cs_oI (fb i) := by rw [c1, hfi i hi2]
      have pe : cs_pt G c i (fun k => if Q c k = true then fb k else G c k) c i = G c i := if_neg fun y => by omega
      refine br_f (nI_ge hi2 (by omega)) (And.intro i3 (cs_bz (cs_at8 (by omega) (by omega)) (fun z => nm_r (nI_1 i) ?_) (fun z => And.intro i1 (And.intro i3 ?_))))
      · have := ih (i + 1) (by omega) (by omega)
        rw [cs_ct_f z, cs_Dn_f z, ← cs_pt_k G c i _ (if_neg z)] at this
        exact this
      · have j201 : ∀ x : Int32, x = nI (cs_ct (Q c) fb (G c) (i + 1)) → wY_finish_201 post (wY_finish_153 post (nI c) m) (nI c) x (nI i) (nI R) (nI K) (nI S) (nI C) (nI n) (cs_N kf) vo (cs_N og) (cs_N tf) (cs_M 32 P) (cs_M 32 A) (cs_M 32 (cs_u X c (cs_Dn (Q c) fb P (X c) i))) (cs_N hf) (cs_B ob) (cs_M 8 Q) (cs_M 8 F) (cs_O 8 (cs_pt G c i (fun k => if Q c k = true then fb k else G c k))) fi := by
          intro x ex
          refine And.intro i1 (And.intro i3 (nm_r (e' := cs_O 8 (cs_pt G c (i + 1) (fun k => if Q c k = true then fb k else G c k))) ?_ (And.intro i1 ?_)))
          · rw [ef, cs_i8, nI_clamp (by omega), cs_O_up (by omega)]
            have := cs_pt_s G c i (fun k => if Q c k = true then fb k else G c k)
            rw [if_pos z] at this
            rw [this]
          · rw [ef]
            refine cs_ytk hn hc hP (hbn i) (nm_r (nI_1 i) ?_)
            have := ih (i + 1) (by omega) (by omega)
            rw [cs_Dn_t z] at this
            rw [ex, cs_us, cs_uu]
            exact this
        have inj := cs_oI_inj (a := fb i) (b := G c i) (fun w e => by have := hbn i w e; omega) (fun w e => by have := hG i hi2 z w e; omega)
        have eg : cs_O 8 (cs_pt G c i (fun k => if Q c k = true then fb k else G c k)) (nI c * 8 + nI i).toNatClampNeg = cs_oI (G c i) := by rw [cs_atO (by omega) (by omega), pe]
        by_cases e : fb i = G c i
        · exact br_t (by rw [ef, eg]; exact inj.mpr e) (j201 _ (by rw [cs_ct_e e]))
        · exact br_f (by rw [ef, eg]; exact fun y => e (inj.mp y)) (nm_r (nI_1 _) (j201 _ (by rw [cs_ct_t z e])))
    · have e : i = K := by omega
      subst e
      exact br_t (nI_le (by omega) (by omega)) (And.intro (vp_in_nI hc (by omega)) (nm_r (e' := cs_B (cs_u ob c false)) (by rw [c2, cs_nar0, cs_B_up]) h))
theorem cs_yfin {post : Int32 → SY → Prop} (hn : n ≤ 32) (hC : C ≤ 8) (hc : c < C) (hK : K ≤ 8) (ho : ob c = true) (hP : cs_PO n P) (hkf : ∀ w, kf w < 8) (hsb : ∀ w, cs_sf kf tf og w < 2 ^ 31)
    (hG : ∀ k, k < K → Q c k = true → F c k = true → ∀ w, G c k = some w → w < n)
    (h7 : ∀ k, k < K → Q c k = true → ¬ F c k = true → post (-7) (nI R, nI K, nI S, nI C, nI n, cs_N kf, vo, cs_N og, cs_N tf, cs_M 32 P, cs_M 32 A, cs_M 32 X, cs_N hf, cs_B ob, cs_M 8 Q, cs_M 8 F, cs_O 8 G, fi))
    (hb : (∀ k, k < K → Q c k = true → F c k = true) → (∀ k, k < K → ∀ b, cs_Bst (cs_sf kf tf og) (fun w => w < n ∧ (kf w = k ∧ cs_Rch K (Q c) (G c) P w)) b → b = fb k) ∧ (∀ k w, fb k = some w → w < n) ∧
      ∀ f, post (nI (cs_ct (Q c) fb (G c) K)) (nI R, nI K, nI S, nI C, nI n, cs_N kf, vo, cs_N og, cs_N tf, cs_M 32 P, cs_M 32 A, cs_M 32 (cs_u X c (cs_Dn (Q c) fb P (X c) K)), cs_N hf, cs_B (cs_u ob c false), cs_M 8 Q, cs_M 8 F, cs_O 8 (cs_pt G c K (fun k => if Q c k = true then fb k else G c k)), f)) : wpY_finish post (nI R, nI K, nI S, nI C, nI n, cs_N kf, vo, cs_N og, cs_N tf, cs_M 32 P, cs_M 32 A, cs_M 32 X, cs_N hf, cs_B ob, cs_M 8 Q, cs_M 8 F, cs_O 8 G, fi) (nI c) := by
  have c1 : (nI c).toNatClampNeg = c := nI_clamp (by omega)
  have i1 : vp_in (nI c) 8 := vp_in_nI (by omega) (by omega)
  have eo : ¬ cs_B ob (nI c).toNatClampNeg = 0 := by rw [c1]; show ¬ cs_bI (ob c) = 0; rw [ho]; decide
  unfold wpY_finish
  refine cs_ycl_t hc (by omega) ?_
  refine br_t rfl (And.intro i1 (br_f eo (Exists.intro 9 ?_)))
  refine cs_yf25 (by omega) hK h7 (fun hall => ?_) 9 0 (by omega) (by omega) (fun k hk => by omega)
  obtain ⟨b1, b2, b3⟩ := hb hall
  have hG' : ∀ k, k < K → Q c k = true → ∀ w, G c k = some w → w < n := fun k hk hq => hG k hk hq (hall k hk hq)
  refine Exists.intro 9 (cs_yf72 (fb := fb) hn (by omega) hK hkf hsb hG' b1 (fun f hf => Exists.intro 9 ?_) 9 0 fi (by omega) (by omega) (fun k hk => by omega))
  have := cs_yf153 (fi := f) hn (by omega) hK hP hf b2 hG' (b3 f) 9 0 (by omega) (by omega)
  rw [cs_pt_0] at this
  have e0 : cs_u X c (cs_Dn (Q c) fb P (X c) 0) = X := cs_u_id X c
  rw [e0] at this
  exact this
end
end
section
/-! the relation -/
def cs_Inv (R : Nat) (K : Nat) (S : Nat) (C : Nat) (n : Nat) (kf : Nat → Nat) (tf : Nat → Nat) (og : Nat → Nat) (hf : Nat → Nat) (P : Nat → Nat → Bool) (A : Nat → Nat → Bool) (X : Nat → Nat → Bool) (Q : Nat → Nat → Bool) (F : Nat → Nat → Bool) (G : Nat → Nat → Option Nat) (xso : Nat → Int32) (xpo : Nat → Int32) (xno : Nat → Int32) (xol : Nat → Int32) (xch : Nat → Int32) (xar : Nat → Int32) (xvi : Nat → Int32) (xne : Nat → Int32) (xck : Nat → Int32) (xst : Nat → Int32) (xbl : Nat → Int32) (xwa : Nat → Int32) (xco : Nat → Int32) (xfr : Nat → Int32) (xse : Nat → Int32) (xaq : Nat → Int32) (xfe : Nat → Int32) (xre : Nat → Int32) : Prop :=
  (2 ≤ R ∧ R ≤ 4 ∧ 2 ≤ K ∧ K ≤ 8 ∧ 1 ≤ S ∧ S ≤ 4 ∧ 1 ≤ C ∧ C ≤ 8 ∧ n ≤ 32) ∧
  cs_W R K S n kf tf og P ∧
  (∀ w, w < n → xso w = nI (cs_sf kf tf og w) ∧ (∀ v, cs_h (xpo w) v ↔ P w v = true) ∧ (∀ v, cs_h (xno w) v ↔ cs_Mx (P w) P v)) ∧
  cs_Ch n K kf (cs_sf kf tf og) xch xol ∧
  (∀ r, r < R → cs_Rp n K S kf tf og P (A r) r xar xvi xne xck xst xbl xwa) ∧
  (∀ w, w < n → A (og w) w = true) ∧
  (∀ c, c < C → cs_Cl n tf P (X c) c xco xfr xse) ∧
  (∀ c, hf c < R) ∧
  (∀ c, c < C → (∀ k, cs_h (xaq c) k ↔ k < K ∧ Q c k = true) ∧ (∀ k, k < K → (cs_h (xfe c) k ↔ F c k = true)) ∧
    (∀ k, k < K → Q c k = true → F c k = true → xre (c * 8 + k) = cs_oI (G c k) ∧ ∀ w, G c k = some w → w < n))
/-- the relation of the two states -/
def i_Rel (k : Nat) (u : SX) (v : SY) : Prop := k = k ∧ ∃ (R : Nat), ∃ (K : Nat), ∃ (S : Nat), ∃ (C : Nat), ∃ (n : Nat), ∃ (kf : Nat → Nat), ∃ (tf : Nat → Nat), ∃ (og : Nat → Nat), ∃ (hf : Nat → Nat), ∃ (P : Nat → Nat → Bool), ∃ (A : Nat → Nat → Bool), ∃ (X : Nat → Nat → Bool), ∃ (ob : Nat → Bool), ∃ (Q : Nat → Nat → Bool), ∃ (F : Nat → Nat → Bool), ∃ (G : Nat → Nat → Option Nat), ∃ (vo : Nat → Int32), ∃ (fi : Nat → Int32), ∃ (xso : Nat → Int32), ∃ (xpo : Nat → Int32), ∃ (xno : Nat → Int32), ∃ (xol : Nat → Int32), ∃ (xch : Nat → Int32), ∃ (xar : Nat → Int32), ∃ (xvi : Nat → Int32), ∃ (xne : Nat → Int32), ∃ (xck : Nat → Int32), ∃ (xst : Nat → Int32), ∃ (xbl : Nat → Int32), ∃ (xwa : Nat → Int32), ∃ (xco : Nat → Int32), ∃ (xfr : Nat → Int32), ∃ (xse : Nat → Int32), ∃ (xaq : Nat → Int32), ∃ (xfe : Nat → Int32), ∃ (xre : Nat → Int32), u = (nI R, nI K, nI S, nI C, nI n, cs_N kf, vo, cs_N tf, xso, xpo, xno, xol, xch, xar, xvi, xne, xck, xst, xbl, xwa, cs_N hf, xco, xfr, xse, cs_B ob, xaq, xfe, xre) ∧ v = (nI R, nI K, nI S, nI C, nI n, cs_N kf, vo, cs_N og, cs_N tf, cs_M 32 P, cs_M 32 A, cs_M 32 X, cs_N hf, cs_B ob, cs_M 8 Q, cs_M 8 F, cs_O 8 G, fi) ∧ cs_Inv R K S C n kf tf og hf P A X Q F G xso xpo xno xol xch xar xvi xne xck xst xbl xwa xco xfr xse xaq xfe xre
theorem cs_el {k : Nat} {u : SX} {v : SY} {Z : SX → SY → Prop} (h : ∀ (R : Nat) (K : Nat) (S : Nat) (C : Nat) (n : Nat) (kf : Nat → Nat) (tf : Nat → Nat) (og : Nat → Nat) (hf : Nat → Nat) (P : Nat → Nat → Bool) (A : Nat → Nat → Bool) (X : Nat → Nat → Bool) (ob : Nat → Bool) (Q : Nat → Nat → Bool) (F : Nat → Nat → Bool) (G : Nat → Nat → Option Nat) (vo : Nat → Int32) (fi : Nat → Int32) (xso : Nat → Int32) (xpo : Nat → Int32) (xno : Nat → Int32) (xol : Nat → Int32) (xch : Nat → Int32) (xar : Nat → Int32) (xvi : Nat → Int32) (xne : Nat → Int32) (xck : Nat → Int32) (xst : Nat → Int32) (xbl : Nat → Int32) (xwa : Nat → Int32) (xco : Nat → Int32) (xfr : Nat → Int32) (xse : Nat → Int32) (xaq : Nat → Int32) (xfe : Nat → Int32) (xre : Nat → Int32), cs_Inv R K S C n kf tf og hf P A X Q F G xso xpo xno xol xch xar xvi xne xck xst xbl xwa xco xfr xse xaq xfe xre → Z (nI R, nI K, nI S, nI C, nI n, cs_N kf, vo, cs_N tf, xso, xpo, xno, xol, xch, xar, xvi, xne, xck, xst, xbl, xwa, cs_N hf, xco, xfr, xse, cs_B ob, xaq, xfe, xre) (nI R, nI K, nI S, nI C, nI n, cs_N kf, vo, cs_N og, cs_N tf, cs_M 32 P, cs_M 32 A, cs_M 32 X, cs_N hf, cs_B ob, cs_M 8 Q, cs_M 8 F, cs_O 8 G, fi)) (I : i_Rel k u v) : Z u v :=
  And.elim (fun _ I => Exists.elim I fun R I => Exists.elim I fun K I => Exists.elim I fun S I => Exists.elim I fun C I => Exists.elim I fun n I => Exists.elim I fun kf I => Exists.elim I fun tf I => Exists.elim I fun og I => Exists.elim I fun hf I => Exists.elim I fun P I => Exists.elim I fun A I => Exists.elim I fun X I => Exists.elim I fun ob I => Exists.elim I fun Q I => Exists.elim I fun F I => Exists.elim I fun G I => Exists.elim I fun vo I => Exists.elim I fun fi I => Exists.elim I fun xso I => Exists.elim I fun xpo I => Exists.elim I fun xno I => Exists.elim I fun xol I => Exists.elim I fun xch I => Exists.elim I fun xar I => Exists.elim I fun xvi I => Exists.elim I fun xne I => Exists.elim I fun xck I => Exists.elim I fun xst I => Exists.elim I fun xbl I => Exists.elim I fun xwa I => Exists.elim I fun xco I => Exists.elim I fun xfr I => Exists.elim I fun xse I => Exists.elim I fun xaq I => Exists.elim I fun xfe I => Exists.elim I fun xre I => (by
    obtain ⟨hu, hv, hI⟩ := I
    rw [hu, hv]
    exact h R K S C n kf tf og hf P A X ob Q F G vo fi xso xpo xno xol xch xar xvi xne xck xst xbl xwa xco xfr xse xaq xfe xre hI)) I
section
variable {R K S C n : Nat} {kf tf og hf : Nat → Nat} {P A X : Nat → Nat → Bool} {ob : Nat → Bool} {Q F : Nat → Nat → Bool} {G : Nat → Nat → Option Nat} {vo fi : Nat → Int32} {xso xpo xno xol xch xar xvi xne xck xst xbl xwa xco xfr xse xaq xfe xre : Nat → Int32}
theorem cs_mk {k : Nat} (h : cs_Inv R K S C n kf tf og hf P A X Q F G xso xpo xno xol xch xar xvi xne xck xst xbl xwa xco xfr xse xaq xfe xre) : i_Rel k (nI R, nI K, nI S, nI C, nI n, cs_N kf, vo, cs_N tf, xso, xpo, xno, xol, xch, xar, xvi, xne, xck, xst, xbl, xwa, cs_N hf, xco, xfr, xse, cs_B ob, xaq, xfe, xre) (nI R, nI K, nI S, nI C, nI n, cs_N kf, vo, cs_N og, cs_N tf, cs_M 32 P, cs_M 32 A, cs_M 32 X, cs_N hf, cs_B ob, cs_M 8 Q, cs_M 8 F, cs_O 8 G, fi) := ⟨rfl, R, K, S, C, n, kf, tf, og, hf, P, A, X, ob, Q, F, G, vo, fi, xso, xpo, xno, xol, xch, xar, xvi, xne, xck, xst, xbl, xwa, xco, xfr, xse, xaq, xfe, xre, rfl, rfl, h⟩
theorem cs_sfb (hR : R ≤ 4) (hK : K ≤ 8) (hn : n ≤ 32) (hW : cs_W R K S n kf tf og P) : ∀ w, cs_sf kf tf og w < 2 ^ 31 := fun w => by
  have a := hW.1 w
  have b := hW.2.1 w
  have c := hW.2.2.1 w
  unfold cs_sf; omega
theorem cs_kf8 (hK : K ≤ 8) (hW : cs_W R K S n kf tf og P) : ∀ w, kf w < 8 := fun w => by have := hW.1 w; omega
/-- the newest visible write of a key is one -/
theorem cs_one {r k : Nat} {a b : Option Nat} (hR : R ≤ 4) (hW : cs_W R K S n kf tf og P) (ha : ∀ w, A r w = true → w < n)
    (h1 : cs_Bst (cs_sf kf tf og) (fun w => kf w = k ∧ cs_V P (A r) w) a) (h2 : cs_Bst (cs_sf kf tf og) (fun w => w < n ∧ (kf w = k ∧ cs_V P (A r) w)) b) : b = a := by
  refine cs_Bst_u (T := fun w => kf w = k ∧ cs_V P (A r) w) (fun v w hv hw e => cs_inj hR hW (ha v hv.2.1) (ha w hw.2.1) (hv.1.trans hw.1.symm) e) (cs_Bst_iff (fun w => ?_) h2) h1
  exact ⟨fun y => y.2, fun y => ⟨ha w y.2.1, y⟩⟩
theorem cs_bn {r k : Nat} {b : Option Nat} (ha : ∀ w, A r w = true → w < n) (h1 : cs_Bst (cs_sf kf tf og) (fun w => kf w = k ∧ cs_V P (A r) w) b) : ∀ w, b = some w → w < n := fun w e => by
  subst e; exact ha w h1.1.2.1
/-- a client's past has grown -/
theorem cs_Inv_X {c : Nat} {D : Nat → Bool} {co fr se : Nat → Int32} (hI : cs_Inv R K S C n kf tf og hf P A X Q F G xso xpo xno xol xch xar xvi xne xck xst xbl xwa xco xfr xse xaq xfe xre) (hD : cs_Cl n tf P D c co fr se) (hO : cs_Oc c xco xfr xse co fr se) : cs_Inv R K S C n kf tf og hf P A (cs_u X c D) Q F G xso xpo xno xol xch xar xvi xne xck xst xbl xwa co fr se xaq xfe xre := by
  obtain ⟨h0, h1, h2, h3, h4, h5, h6, h7, h8⟩ := hI
  refine ⟨h0, h1, h2, h3, h4, h5, fun q hq => ?_, h7, h8⟩
  by_cases e : q = c
  · subst e; rw [cs_us]; exact hD
  · rw [cs_un e]; exact cs_Cl_oc e hO (h6 q hq)
end
theorem cs_ix (x : Int32) {m : Nat} (hm : m ≤ 32) : (x < 0 ∨ nI m ≤ x) ∨ ∃ j, j < m ∧ x = nI j := by
  rcases pk_ix x (n := m) (by omega) with z | z | z
  · exact Or.inl (Or.inl z)
  · exact Or.inl (Or.inr z)
  · exact Or.inr z
theorem i_up {k : Nat} {u : SX} {v : SY} (h : i_Rel k u v) : i_Rel (k + 4) u v := And.intro rfl h.2
end
section
/-! the methods that only read -/
theorem i_vc_result {k : Nat} {u : SX} {v : SY} (I : i_Rel k u v) (hk : k + 4 ≤ 2052) (v1 : Int32) (v2 : Int32) : wpX_result (fun r => wpY_result (fun r' => r' = r ∧ i_Rel (k + 4) u v) v v1 v2) u v1 v2 := by
  refine cs_el (Z := fun u v => wpX_result (fun r => wpY_result (fun r' => r' = r ∧ i_Rel (k + 4) u v) v v1 v2) u v1 v2) ?_ I
  intro R K S C n kf tf og hf P A X ob Q F G vo fi xso xpo xno xol xch xar xvi xne xck xst xbl xwa xco xfr xse xaq xfe xre hI
  have rel : i_Rel (k + 4) (nI R, nI K, nI S, nI C, nI n, cs_N kf, vo, cs_N tf, xso, xpo, xno, xol, xch, xar, xvi, xne, xck, xst, xbl, xwa, cs_N hf, xco, xfr, xse, cs_B ob, xaq, xfe, xre) (nI R, nI K, nI S, nI C, nI n, cs_N kf, vo, cs_N og, cs_N tf, cs_M 32 P, cs_M 32 A, cs_M 32 X, cs_N hf, cs_B ob, cs_M 8 Q, cs_M 8 F, cs_O 8 G, fi) := cs_mk hI
  obtain ⟨⟨hR2, hR4, hK2, hK8, hS1, hS4, hC1, hC8, hn⟩, hW, hX, hCh, hRp, hAo, hCl, hhf, hTr⟩ := hI
  rcases cs_ix v1 (m := C) (by omega) with z1 | ⟨c, hc, rfl⟩
  · unfold wpX_result
    refine cs_xcl_f z1 (br_t rfl ?_)
    unfold wpY_result
    exact cs_ycl_f z1 (br_f (by decide) ⟨rfl, rel⟩)
  · rcases cs_ix v2 (m := K) (by omega) with z2 | ⟨q, hq, rfl⟩
    · unfold wpX_result
      refine cs_xcl_t hc (by omega) (br_f (by decide) ?_)
      refine cs_xky_f z2 (br_t rfl ?_)
      unfold wpY_result
      refine cs_ycl_t hc (by omega) (br_t rfl ?_)
      exact cs_yky_f z2 (br_f (by decide) ⟨rfl, rel⟩)
    · obtain ⟨t1, t2, t3⟩ := hTr c hc
      have c1 : (nI c).toNatClampNeg = c := nI_clamp (by omega)
      have i1 : vp_in (nI c) 8 := vp_in_nI (by omega) (by omega)
      have i8 := cs_in8 (a := c) (b := q) (N := 64) (by omega) (by omega)
      unfold wpX_result
      refine cs_xcl_t hc (by omega) (br_f (by decide) ?_)
      refine cs_xky_t hq (by omega) (br_f (by decide) (And.intro i1 ?_))
      refine cs_xhas (by omega) (fun a => ?_) (fun a => ?_)
      · rw [c1, t1] at a
        refine br_f (by decide) (And.intro i1 (cs_xhas (by omega) (fun b => ?_) (fun b => ?_)))
        · rw [c1, t2 q hq] at b
          refine br_f (by decide) (And.intro i8 ?_)
          unfold wpY_result
          refine cs_ycl_t hc (by omega) (br_t rfl ?_)
          refine cs_yky_t hq (by omega) (br_t rfl (And.intro i8 ?_))
          refine cs_bz (cs_at8 (by omega) (by omega)) (fun z => absurd a.2 z) (fun _ => And.intro i8 (cs_bz (cs_at8 (by omega) (by omega)) (fun z => absurd b z) (fun _ => And.intro i8 ⟨?_, rel⟩)))
          rw [cs_atO (by omega) (by omega), cs_i8, nI_clamp (by omega), (t3 q hq a.2 b).1]
        · rw [c1, t2 q hq] at b
          refine br_t rfl ?_
          unfold wpY_result
          refine cs_ycl_t hc (by omega) (br_t rfl ?_)
          refine cs_yky_t hq (by omega) (br_t rfl (And.intro i8 ?_))
          exact cs_bz (cs_at8 (by omega) (by omega)) (fun z => absurd a.2 z) (fun _ => And.intro i8 (cs_bz (cs_at8 (by omega) (by omega)) (fun _ => ⟨rfl, rel⟩) (fun z => absurd z b)))
      · rw [c1, t1] at a
        refine br_t rfl ?_
        unfold wpY_result
        refine cs_ycl_t hc (by omega) (br_t rfl ?_)
        refine cs_yky_t hq (by omega) (br_t rfl (And.intro i8 ?_))
        exact cs_bz (cs_at8 (by omega) (by omega)) (fun _ => ⟨rfl, rel⟩) (fun z => absurd ⟨hq, z⟩ a)
theorem i_vc_isOpen {k : Nat} {u : SX} {v : SY} (I : i_Rel k u v) (hk : k + 4 ≤ 2052) (v1 : Int32) : wpX_isOpen (fun r => wpY_isOpen (fun r' => r' = r ∧ i_Rel (k + 4) u v) v v1) u v1 := by
  refine cs_el (Z := fun u v => wpX_isOpen (fun r => wpY_isOpen (fun r' => r' = r ∧ i_Rel (k + 4) u v) v v1) u v1) ?_ I
  intro R K S C n kf tf og hf P A X ob Q F G vo fi xso xpo xno xol xch xar xvi xne xck xst xbl xwa xco xfr xse xaq xfe xre hI
  have rel : i_Rel (k + 4) (nI R, nI K, nI S, nI C, nI n, cs_N kf, vo, cs_N tf, xso, xpo, xno, xol, xch, xar, xvi, xne, xck, xst, xbl, xwa, cs_N hf, xco, xfr, xse, cs_B ob, xaq, xfe, xre) (nI R, nI K, nI S, nI C, nI n, cs_N kf, vo, cs_N og, cs_N tf, cs_M 32 P, cs_M 32 A, cs_M 32 X, cs_N hf, cs_B ob, cs_M 8 Q, cs_M 8 F, cs_O 8 G, fi) := cs_mk hI
  obtain ⟨⟨hR2, hR4, hK2, hK8, hS1, hS4, hC1, hC8, hn⟩, hW, hX, hCh, hRp, hAo, hCl, hhf, hTr⟩ := hI
  rcases cs_ix v1 (m := C) (by omega) with z1 | ⟨c, hc, rfl⟩
  · unfold wpX_isOpen
    refine cs_xcl_f z1 (br_t rfl ?_)
    unfold wpY_isOpen
    exact cs_ycl_f z1 (br_f (by decide) ⟨rfl, rel⟩)
  · have c1 : (nI c).toNatClampNeg = c := nI_clamp (by omega)
    have i1 : vp_in (nI c) 8 := vp_in_nI (by omega) (by omega)
    have eo : cs_B ob (nI c).toNatClampNeg = cs_bI (ob c) := by rw [c1]; rfl
    unfold wpX_isOpen
    refine cs_xcl_t hc (by omega) (br_f (by decide) (And.intro i1 ?_))
    refine cs_bz eo (fun z => ?_) (fun z => ?_)
    · unfold wpY_isOpen
      refine cs_ycl_t hc (by omega) (br_t rfl (And.intro i1 ?_))
      exact cs_bz eo (fun _ => ⟨rfl, rel⟩) (fun y => absurd y z)
    · unfold wpY_isOpen
      refine cs_ycl_t hc (by omega) (br_t rfl (And.intro i1 ?_))
      exact cs_bz eo (fun y => absurd z y) (fun _ => ⟨rfl, rel⟩)
theorem i_vc_status {k : Nat} {u : SX} {v : SY} (I : i_Rel k u v) (hk : k + 4 ≤ 2052) (v1 : Int32) (v2 : Int32) : wpX_status (fun r => wpY_status (fun r' => r' = r ∧ i_Rel (k + 4) u v) v v1 v2) u v1 v2 := by
  refine cs_el (Z := fun u v => wpX_status (fun r => wpY_status (fun r' => r' = r ∧ i_Rel (k + 4) u v) v v1 v2) u v1 v2) ?_ I
  intro R K S C n kf tf og hf P A X ob Q F G vo fi xso xpo xno xol xch xar xvi xne xck xst xbl xwa xco xfr xse xaq xfe xre hI
  have rel : i_Rel (k + 4) (nI R, nI K, nI S, nI C, nI n, cs_N kf, vo, cs_N tf, xso, xpo, xno, xol, xch, xar, xvi, xne, xck, xst, xbl, xwa, cs_N hf, xco, xfr, xse, cs_B ob, xaq, xfe, xre) (nI R, nI K, nI S, nI C, nI n, cs_N kf, vo, cs_N og, cs_N tf, cs_M 32 P, cs_M 32 A, cs_M 32 X, cs_N hf, cs_B ob, cs_M 8 Q, cs_M 8 F, cs_O 8 G, fi) := cs_mk hI
  obtain ⟨⟨hR2, hR4, hK2, hK8, hS1, hS4, hC1, hC8, hn⟩, hW, hX, hCh, hRp, hAo, hCl, hhf, hTr⟩ := hI
  rcases cs_ix v1 (m := R) (by omega) with z1 | ⟨c, hc, rfl⟩
  · unfold wpX_status
    refine cs_xrp_f z1 (br_t rfl ?_)
    unfold wpY_status
    exact cs_yrp_f z1 (br_f (by decide) ⟨rfl, rel⟩)
  · rcases cs_ix v2 (m := n) (by omega) with z2 | ⟨q, hq, rfl⟩
    · unfold wpX_status
      refine cs_xrp_t hc (by omega) (br_f (by decide) ?_)
      refine cs_xwr_f z2 (br_t rfl ?_)
      unfold wpY_status
      refine cs_yrp_t hc (by omega) (br_t rfl ?_)
      exact cs_ywr_f z2 (br_f (by decide) ⟨rfl, rel⟩)
    · obtain ⟨r1, r2, r3, _⟩ := hRp c hc
      have hP := hW.2.2.2.1
      have c1 : (nI c).toNatClampNeg = c := nI_clamp (by omega)
      have i1 : vp_in (nI c) 4 := vp_in_nI (by omega) (by omega)
      have i8 := cs_in32 (a := c) (b := q) (N := 128) (by omega) (by omega)
      unfold wpX_status
      refine cs_xrp_t hc (by omega) (br_f (by decide) ?_)
      refine cs_xwr_t hq (by omega) (br_f (by decide) (And.intro i1 ?_))
      refine cs_xhas (by omega) (fun a => ?_) (fun a => ?_)
      · rw [c1, r2] at a
        refine br_f (by decide) (And.intro i1 (cs_xhas (by omega) (fun b => ?_) (fun b => ?_)))
        · rw [c1, r3] at b
          refine br_f (by decide) ?_
          unfold wpY_status
          refine cs_yrp_t hc (by omega) (br_t rfl ?_)
          refine cs_ywr_t hq (by omega) (br_t rfl (And.intro i8 ?_))
          exact cs_bz (cs_at32 (by omega) (by omega)) (fun z => absurd a z) (fun _ => cs_yvis hn (by omega) hq hP (fun _ => br_f (by decide) ⟨rfl, rel⟩) (fun z => absurd b z))
        · rw [c1, r3] at b
          refine br_t rfl ?_
          unfold wpY_status
          refine cs_yrp_t hc (by omega) (br_t rfl ?_)
          refine cs_ywr_t hq (by omega) (br_t rfl (And.intro i8 ?_))
          exact cs_bz (cs_at32 (by omega) (by omega)) (fun z => absurd a z) (fun _ => cs_yvis hn (by omega) hq hP (fun z => absurd z b) (fun _ => br_t rfl ⟨rfl, rel⟩))
      · rw [c1, r2] at a
        refine br_t rfl ?_
        unfold wpY_status
        refine cs_yrp_t hc (by omega) (br_t rfl ?_)
        refine cs_ywr_t hq (by omega) (br_t rfl (And.intro i8 ?_))
        exact cs_bz (cs_at32 (by omega) (by omega)) (fun _ => ⟨rfl, rel⟩) (fun z => absurd z a)
theorem i_vc_current {k : Nat} {u : SX} {v : SY} (I : i_Rel k u v) (hk : k + 4 ≤ 2052) (v1 : Int32) (v2 : Int32) : wpX_current (fun r => wpY_current (fun r' => r' = r ∧ i_Rel (k + 4) u v) v v1 v2) u v1 v2 := by
  refine cs_el (Z := fun u v => wpX_current (fun r => wpY_current (fun r' => r' = r ∧ i_Rel (k + 4) u v) v v1 v2) u v1 v2) ?_ I
  intro R K S C n kf tf og hf P A X ob Q F G vo fi xso xpo xno xol xch xar xvi xne xck xst xbl xwa xco xfr xse xaq xfe xre hI
  have rel : i_Rel (k + 4) (nI R, nI K, nI S, nI C, nI n, cs_N kf, vo, cs_N tf, xso, xpo, xno, xol, xch, xar, xvi, xne, xck, xst, xbl, xwa, cs_N hf, xco, xfr, xse, cs_B ob, xaq, xfe, xre) (nI R, nI K, nI S, nI C, nI n, cs_N kf, vo, cs_N og, cs_N tf, cs_M 32 P, cs_M 32 A, cs_M 32 X, cs_N hf, cs_B ob, cs_M 8 Q, cs_M 8 F, cs_O 8 G, fi) := cs_mk hI
  obtain ⟨⟨hR2, hR4, hK2, hK8, hS1, hS4, hC1, hC8, hn⟩, hW, hX, hCh, hRp, hAo, hCl, hhf, hTr⟩ := hI
  rcases cs_ix v1 (m := R) (by omega) with z1 | ⟨c, hc, rfl⟩
  · unfold wpX_current
    refine cs_xrp_f z1 (br_t rfl ?_)
    unfold wpY_current
    exact cs_yrp_f z1 (br_f (by decide) ⟨rfl, rel⟩)
  · rcases cs_ix v2 (m := K) (by omega) with z2 | ⟨q, hq, rfl⟩
    · unfold wpX_current
      refine cs_xrp_t hc (by omega) (br_f (by decide) ?_)
      refine cs_xky_f z2 (br_t rfl ?_)
      unfold wpY_current
      refine cs_yrp_t hc (by omega) (br_t rfl ?_)
      exact cs_yky_f z2 (br_f (by decide) ⟨rfl, rel⟩)
    · obtain ⟨r1, r2, r3, r4, _⟩ := hRp c hc
      obtain ⟨b, hb, hB⟩ := r4 q hq
      unfold wpX_current
      refine cs_xrp_t hc (by omega) (br_f (by decide) ?_)
      refine cs_xky_t hq (by omega) (br_f (by decide) (And.intro (cs_in8 (by omega) (by omega)) ?_))
      refine cs_ycur hn hR4 hK8 hc hq (cs_kf8 hK8 hW) hW.2.2.2.1 (cs_sfb hR4 hK8 hn hW) (fun b' hB' => ⟨?_, rel⟩)
      rw [cs_i8, nI_clamp (by omega), hb, cs_one hR4 hW r1 hB hB']
theorem i_vc_home {k : Nat} {u : SX} {v : SY} (I : i_Rel k u v) (hk : k + 4 ≤ 2052) (v1 : Int32) : wpX_home (fun r => wpY_home (fun r' => r' = r ∧ i_Rel (k + 4) u v) v v1) u v1 := by
  refine cs_el (Z := fun u v => wpX_home (fun r => wpY_home (fun r' => r' = r ∧ i_Rel (k + 4) u v) v v1) u v1) ?_ I
  intro R K S C n kf tf og hf P A X ob Q F G vo fi xso xpo xno xol xch xar xvi xne xck xst xbl xwa xco xfr xse xaq xfe xre hI
  have rel : i_Rel (k + 4) (nI R, nI K, nI S, nI C, nI n, cs_N kf, vo, cs_N tf, xso, xpo, xno, xol, xch, xar, xvi, xne, xck, xst, xbl, xwa, cs_N hf, xco, xfr, xse, cs_B ob, xaq, xfe, xre) (nI R, nI K, nI S, nI C, nI n, cs_N kf, vo, cs_N og, cs_N tf, cs_M 32 P, cs_M 32 A, cs_M 32 X, cs_N hf, cs_B ob, cs_M 8 Q, cs_M 8 F, cs_O 8 G, fi) := cs_mk hI
  obtain ⟨⟨hR2, hR4, hK2, hK8, hS1, hS4, hC1, hC8, hn⟩, hW, hX, hCh, hRp, hAo, hCl, hhf, hTr⟩ := hI
  rcases cs_ix v1 (m := C) (by omega) with z1 | ⟨c, hc, rfl⟩
  · unfold wpX_home
    refine cs_xcl_f z1 (br_t rfl ?_)
    unfold wpY_home
    exact cs_ycl_f z1 (br_f (by decide) ⟨rfl, rel⟩)
  · have i1 : vp_in (nI c) 8 := vp_in_nI (by omega) (by omega)
    unfold wpX_home
    refine cs_xcl_t hc (by omega) (br_f (by decide) (And.intro i1 ?_))
    unfold wpY_home
    exact cs_ycl_t hc (by omega) (br_t rfl (And.intro i1 ⟨rfl, rel⟩))
theorem i_vc_stamp {k : Nat} {u : SX} {v : SY} (I : i_Rel k u v) (hk : k + 4 ≤ 2052) (v1 : Int32) : wpX_stamp (fun r => wpY_stamp (fun r' => r' = r ∧ i_Rel (k + 4) u v) v v1) u v1 := by
  refine cs_el (Z := fun u v => wpX_stamp (fun r => wpY_stamp (fun r' => r' = r ∧ i_Rel (k + 4) u v) v v1) u v1) ?_ I
  intro R K S C n kf tf og hf P A X ob Q F G vo fi xso xpo xno xol xch xar xvi xne xck xst xbl xwa xco xfr xse xaq xfe xre hI
  have rel : i_Rel (k + 4) (nI R, nI K, nI S, nI C, nI n, cs_N kf, vo, cs_N tf, xso, xpo, xno, xol, xch, xar, xvi, xne, xck, xst, xbl, xwa, cs_N hf, xco, xfr, xse, cs_B ob, xaq, xfe, xre) (nI R, nI K, nI S, nI C, nI n, cs_N kf, vo, cs_N og, cs_N tf, cs_M 32 P, cs_M 32 A, cs_M 32 X, cs_N hf, cs_B ob, cs_M 8 Q, cs_M 8 F, cs_O 8 G, fi) := cs_mk hI
  obtain ⟨⟨hR2, hR4, hK2, hK8, hS1, hS4, hC1, hC8, hn⟩, hW, hX, hCh, hRp, hAo, hCl, hhf, hTr⟩ := hI
  rcases cs_ix v1 (m := n) (by omega) with z1 | ⟨c, hc, rfl⟩
  · unfold wpX_stamp
    refine cs_xwr_f z1 (br_t rfl ?_)
    unfold wpY_stamp
    exact cs_ywr_f z1 (br_f (by decide) ⟨rfl, rel⟩)
  · have c1 : (nI c).toNatClampNeg = c := nI_clamp (by omega)
    have i1 : vp_in (nI c) 32 := vp_in_nI (by omega) (by omega)
    unfold wpX_stamp
    refine cs_xwr_t hc (by omega) (br_f (by decide) (And.intro i1 ?_))
    refine cs_ystamp hn hc ⟨?_, rel⟩
    rw [c1, (hX c hc).1]
theorem i_vc_value {k : Nat} {u : SX} {v : SY} (I : i_Rel k u v) (hk : k + 4 ≤ 2052) (v1 : Int32) : wpX_value (fun r => wpY_value (fun r' => r' = r ∧ i_Rel (k + 4) u v) v v1) u v1 := by
  refine cs_el (Z := fun u v => wpX_value (fun r => wpY_value (fun r' => r' = r ∧ i_Rel (k + 4) u v) v v1) u v1) ?_ I
  intro R K S C n kf tf og hf P A X ob Q F G vo fi xso xpo xno xol xch xar xvi xne xck xst xbl xwa xco xfr xse xaq xfe xre hI
  have rel : i_Rel (k + 4) (nI R, nI K, nI S, nI C, nI n, cs_N kf, vo, cs_N tf, xso, xpo, xno, xol, xch, xar, xvi, xne, xck, xst, xbl, xwa, cs_N hf, xco, xfr, xse, cs_B ob, xaq, xfe, xre) (nI R, nI K, nI S, nI C, nI n, cs_N kf, vo, cs_N og, cs_N tf, cs_M 32 P, cs_M 32 A, cs_M 32 X, cs_N hf, cs_B ob, cs_M 8 Q, cs_M 8 F, cs_O 8 G, fi) := cs_mk hI
  obtain ⟨⟨hR2, hR4, hK2, hK8, hS1, hS4, hC1, hC8, hn⟩, hW, hX, hCh, hRp, hAo, hCl, hhf, hTr⟩ := hI
  rcases cs_ix v1 (m := n) (by omega) with z1 | ⟨c, hc, rfl⟩
  · unfold wpX_value
    refine cs_xwr_f z1 (br_t rfl ?_)
    unfold wpY_value
    exact cs_ywr_f z1 (br_f (by decide) ⟨rfl, rel⟩)
  · have i1 : vp_in (nI c) 32 := vp_in_nI (by omega) (by omega)
    unfold wpX_value
    refine cs_xwr_t hc (by omega) (br_f (by decide) (And.intro i1 ?_))
    unfold wpY_value
    exact cs_ywr_t hc (by omega) (br_t rfl (And.intro i1 ⟨rfl, rel⟩))
theorem i_vc_dependency {k : Nat} {u : SX} {v : SY} (I : i_Rel k u v) (hk : k + 4 ≤ 2052) (v1 : Int32) (v2 : Int32) : wpX_dependency (fun r => wpY_dependency (fun r' => r' = r ∧ i_Rel (k + 4) u v) v v1 v2) u v1 v2 := by
  refine cs_el (Z := fun u v => wpX_dependency (fun r => wpY_dependency (fun r' => r' = r ∧ i_Rel (k + 4) u v) v v1 v2) u v1 v2) ?_ I
  intro R K S C n kf tf og hf P A X ob Q F G vo fi xso xpo xno xol xch xar xvi xne xck xst xbl xwa xco xfr xse xaq xfe xre hI
  have rel : i_Rel (k + 4) (nI R, nI K, nI S, nI C, nI n, cs_N kf, vo, cs_N tf, xso, xpo, xno, xol, xch, xar, xvi, xne, xck, xst, xbl, xwa, cs_N hf, xco, xfr, xse, cs_B ob, xaq, xfe, xre) (nI R, nI K, nI S, nI C, nI n, cs_N kf, vo, cs_N og, cs_N tf, cs_M 32 P, cs_M 32 A, cs_M 32 X, cs_N hf, cs_B ob, cs_M 8 Q, cs_M 8 F, cs_O 8 G, fi) := cs_mk hI
  obtain ⟨⟨hR2, hR4, hK2, hK8, hS1, hS4, hC1, hC8, hn⟩, hW, hX, hCh, hRp, hAo, hCl, hhf, hTr⟩ := hI
  rcases cs_ix v1 (m := n) (by omega) with z1 | ⟨c, hc, rfl⟩
  · unfold wpX_dependency
    refine cs_xwr_f z1 (br_t rfl ?_)
    unfold wpY_dependency
    exact cs_ywr_f z1 (br_f (by decide) ⟨rfl, rel⟩)
  · rcases cs_ix v2 (m := n) (by omega) with z2 | ⟨q, hq, rfl⟩
    · unfold wpX_dependency
      refine cs_xwr_t hc (by omega) (br_f (by decide) ?_)
      refine cs_xwr_f z2 (br_t rfl ?_)
      unfold wpY_dependency
      refine cs_ywr_t hc (by omega) (br_t rfl ?_)
      exact cs_ywr_f z2 (br_f (by decide) ⟨rfl, rel⟩)
    · obtain ⟨x1, x2, x3⟩ := hX c hc
      have hP := hW.2.2.2.1
      have c1 : (nI c).toNatClampNeg = c := nI_clamp (by omega)
      have i1 : vp_in (nI c) 32 := vp_in_nI (by omega) (by omega)
      have i8 := cs_in32 (a := c) (b := q) (N := 1024) (by omega) (by omega)
      unfold wpX_dependency
      refine cs_xwr_t hc (by omega) (br_f (by decide) ?_)
      refine cs_xwr_t hq (by omega) (br_f (by decide) (And.intro i1 (And.intro i1 ?_)))
      unfold wpX_relation
      refine cs_xhas (by omega) (fun a => ?_) (fun a => ?_)
      · rw [c1, x2] at a
        refine br_f (by decide) ?_
        refine cs_xhas (by omega) (fun b => ?_) (fun b => ?_)
        · rw [c1, x3] at b
          refine br_f (by decide) ?_
          unfold wpY_dependency
          refine cs_ywr_t hc (by omega) (br_t rfl ?_)
          refine cs_ywr_t hq (by omega) (br_t rfl (And.intro i8 ?_))
          refine cs_bz (cs_at32 (by omega) (by omega)) (fun z => absurd a z) (fun _ => Exists.intro 33 ?_)
          refine cs_ydep_l hn hc hq (fun _ => ⟨rfl, rel⟩) (fun e _ y1 y2 => ?_) 33 0 (by omega) (by omega) (fun e h => by omega)
          rw [b.2 e y1] at y2; exact absurd y2 (by decide)
        · rw [c1, x3] at b
          refine br_t rfl ?_
          unfold wpY_dependency
          refine cs_ywr_t hc (by omega) (br_t rfl ?_)
          refine cs_ywr_t hq (by omega) (br_t rfl (And.intro i8 ?_))
          refine cs_bz (cs_at32 (by omega) (by omega)) (fun z => absurd a z) (fun _ => Exists.intro 33 ?_)
          refine cs_ydep_l hn hc hq (fun y => absurd ⟨a, fun e he => y e ?_ he⟩ b) (fun e _ y1 y2 => ⟨rfl, rel⟩) 33 0 (by omega) (by omega) (fun e h => by omega)
          have := hP.1 _ _ he; omega
      · rw [c1, x2] at a
        refine br_t rfl ?_
        unfold wpY_dependency
        refine cs_ywr_t hc (by omega) (br_t rfl ?_)
        refine cs_ywr_t hq (by omega) (br_t rfl (And.intro i8 ?_))
        exact cs_bz (cs_at32 (by omega) (by omega)) (fun _ => ⟨rfl, rel⟩) (fun z => absurd z a)
theorem i_vc_context {k : Nat} {u : SX} {v : SY} (I : i_Rel k u v) (hk : k + 4 ≤ 2052) (v1 : Int32) (v2 : Int32) : wpX_context (fun r => wpY_context (fun r' => r' = r ∧ i_Rel (k + 4) u v) v v1 v2) u v1 v2 := by
  refine cs_el (Z := fun u v => wpX_context (fun r => wpY_context (fun r' => r' = r ∧ i_Rel (k + 4) u v) v v1 v2) u v1 v2) ?_ I
  intro R K S C n kf tf og hf P A X ob Q F G vo fi xso xpo xno xol xch xar xvi xne xck xst xbl xwa xco xfr xse xaq xfe xre hI
  have rel : i_Rel (k + 4) (nI R, nI K, nI S, nI C, nI n, cs_N kf, vo, cs_N tf, xso, xpo, xno, xol, xch, xar, xvi, xne, xck, xst, xbl, xwa, cs_N hf, xco, xfr, xse, cs_B ob, xaq, xfe, xre) (nI R, nI K, nI S, nI C, nI n, cs_N kf, vo, cs_N og, cs_N tf, cs_M 32 P, cs_M 32 A, cs_M 32 X, cs_N hf, cs_B ob, cs_M 8 Q, cs_M 8 F, cs_O 8 G, fi) := cs_mk hI
  obtain ⟨⟨hR2, hR4, hK2, hK8, hS1, hS4, hC1, hC8, hn⟩, hW, hX, hCh, hRp, hAo, hCl, hhf, hTr⟩ := hI
  rcases cs_ix v1 (m := C) (by omega) with z1 | ⟨c, hc, rfl⟩
  · unfold wpX_context
    refine cs_xcl_f z1 (br_t rfl ?_)
    unfold wpY_context
    exact cs_ycl_f z1 (br_f (by decide) ⟨rfl, rel⟩)
  · rcases cs_ix v2 (m := n) (by omega) with z2 | ⟨q, hq, rfl⟩
    · unfold wpX_context
      refine cs_xcl_t hc (by omega) (br_f (by decide) ?_)
      refine cs_xwr_f z2 (br_t rfl ?_)
      unfold wpY_context
      refine cs_ycl_t hc (by omega) (br_t rfl ?_)
      exact cs_ywr_f z2 (br_f (by decide) ⟨rfl, rel⟩)
    · obtain ⟨x0, x1, x2, x3, _⟩ := hCl c hc
      have c1 : (nI c).toNatClampNeg = c := nI_clamp (by omega)
      have i1 : vp_in (nI c) 8 := vp_in_nI (by omega) (by omega)
      have i8 := cs_in32 (a := c) (b := q) (N := 256) (by omega) (by omega)
      unfold wpX_context
      refine cs_xcl_t hc (by omega) (br_f (by decide) ?_)
      refine cs_xwr_t hq (by omega) (br_f (by decide) (And.intro i1 (And.intro i1 ?_)))
      unfold wpX_relation
      refine cs_xhas (by omega) (fun a => ?_) (fun a => ?_)
      · rw [c1, x2] at a
        refine br_f (by decide) ?_
        refine cs_xhas (by omega) (fun b => ?_) (fun b => ?_)
        · rw [c1, x3] at b
          refine br_f (by decide) ?_
          unfold wpY_context
          refine cs_ycl_t hc (by omega) (br_t rfl ?_)
          refine cs_ywr_t hq (by omega) (br_t rfl (And.intro i8 ?_))
          refine cs_bz (cs_at32 (by omega) (by omega)) (fun z => absurd a z) (fun _ => Exists.intro 33 ?_)
          refine cs_yctx_l hn (by omega) hq (fun _ => ⟨rfl, rel⟩) (fun e _ y1 y2 => ?_) 33 0 (by omega) (by omega) (fun e h => by omega)
          rw [b.2 e y1] at y2; exact absurd y2 (by decide)
        · rw [c1, x3] at b
          refine br_t rfl ?_
          unfold wpY_context
          refine cs_ycl_t hc (by omega) (br_t rfl ?_)
          refine cs_ywr_t hq (by omega) (br_t rfl (And.intro i8 ?_))
          refine cs_bz (cs_at32 (by omega) (by omega)) (fun z => absurd a z) (fun _ => Exists.intro 33 ?_)
          exact cs_yctx_l hn (by omega) hq (fun y => absurd ⟨a, fun e he => y e (x0 e he) he⟩ b) (fun e _ y1 y2 => ⟨rfl, rel⟩) 33 0 (by omega) (by omega) (fun e h => by omega)
      · rw [c1, x2] at a
        refine br_t rfl ?_
        unfold wpY_context
        refine cs_ycl_t hc (by omega) (br_t rfl ?_)
        refine cs_ywr_t hq (by omega) (br_t rfl (And.intro i8 ?_))
        exact cs_bz (cs_at32 (by omega) (by omega)) (fun _ => ⟨rfl, rel⟩) (fun z => absurd z a)
end
section
/-! a write just accepted: the plain law -/
theorem cs_Bst_c {sf sg : Nat → Nat} {T U : Nat → Prop} (h : ∀ w, T w ↔ U w) (hs : ∀ w, T w → sg w = sf w) {b : Option Nat} (hb : cs_Bst sf T b) : cs_Bst sg U b := by
  cases b with
  | none => exact fun w hw => hb w ((h w).mpr hw)
  | some w =>
    refine ⟨(h w).mp hb.1, fun v hv => ?_⟩
    have hv' := (h v).mpr hv
    rw [hs v hv', hs w hb.1]; exact hb.2 v hv'
theorem cs_Tm_c {tf tg : Nat → Nat} {T U : Nat → Prop} (h : ∀ w, T w ↔ U w) (hs : ∀ w, T w → tg w = tf w) {t : Nat} (ht : cs_Tm tf T t) : cs_Tm tg U t := by
  refine ⟨fun w hw => ?_, ?_⟩
  · have hw' := (h w).mpr hw
    rw [hs w hw']; exact ht.1 w hw'
  · rcases ht.2 with z | ⟨w, hw, e⟩
    · exact Or.inl z
    · exact Or.inr ⟨w, (h w).mp hw, by rw [hs w hw]; exact e⟩
section
variable {R K S C n : Nat} {kf tf og hf : Nat → Nat} {P A X : Nat → Nat → Bool} {ob : Nat → Bool} {Q F : Nat → Nat → Bool} {G : Nat → Nat → Option Nat} {vo fi : Nat → Int32} {xso xpo xno xol xch xar xvi xne xck xst xbl xwa xco xfr xse xaq xfe xre : Nat → Int32}
variable {c k q t : Nat}
theorem cs_new_W (hW : cs_W R K S n kf tf og P) (hk : k < K) (hq : q < R) (hX1 : ∀ w, X c w = true → w < n) (hX2 : ∀ w v, X c w = true → P w v = true → X c v = true) (hAo : ∀ w, w < n → A (og w) w = true)
    (hT : cs_Tm tf (fun v => v < n ∧ ((A q v = true ∧ kf v % S = k % S) ∨ X c v = true)) t) : cs_W R K S (n + 1) (cs_u kf n k) (cs_u tf n (t + 1)) (cs_u og n q) (cs_u P n (X c)) := by
  obtain ⟨h1, h2, h3, h4, h5, h6⟩ := hW
  have htb : t ≤ n := by
    rcases hT.2 with y | ⟨v, _, y⟩
    · omega
    · have := h3 v; omega
  refine ⟨fun w => ?_, fun w => ?_, fun w => ?_, ⟨fun w v hv => ?_, fun w v u hv hu => ?_⟩, fun w v hv => ?_, fun v w hvw hw ho hkk => ?_⟩
  · by_cases e : w = n
    · rw [e, cs_us]; exact hk
    · rw [cs_un e]; exact h1 w
  · by_cases e : w = n
    · rw [e, cs_us]; exact hq
    · rw [cs_un e]; exact h2 w
  · by_cases e : w = n
    · rw [e, cs_us]; omega
    · rw [cs_un e]; have := h3 w; omega
  · by_cases e : w = n
    · rw [e, cs_us] at hv; have := hX1 v hv; omega
    · rw [cs_un e] at hv; have := h4.1 w v hv; omega
  · by_cases e : w = n
    · rw [e, cs_us] at hv ⊢
      have hvn := hX1 v hv
      rw [cs_un (by omega)] at hu
      exact hX2 v u hv hu
    · rw [cs_un e] at hv ⊢
      have hvn := h4.1 w v hv
      rw [cs_un (by omega)] at hu
      exact h4.2 w v u hv hu
  · by_cases e : w = n
    · rw [e, cs_us] at hv
      have hvn := hX1 v hv
      rw [e, cs_us, cs_un (by omega)]
      have := hT.1 v ⟨hvn, Or.inr hv⟩
      omega
    · rw [cs_un e] at hv
      have hvn := h4.1 w v hv
      rw [cs_un e, cs_un (by omega)]
      exact h5 w v hv
  · by_cases e : w = n
    · have ev : v ≠ n := by omega
      rw [e, cs_us, cs_un ev] at ho hkk
      rw [e, cs_us, cs_un ev]
      have hA := hAo v (by omega)
      rw [ho] at hA
      have := hT.1 v ⟨by omega, Or.inl ⟨hA, hkk⟩⟩
      omega
    · have ev : v ≠ n := by omega
      rw [cs_un e, cs_un ev] at ho hkk
      rw [cs_un e, cs_un ev]
      exact h6 v w hvw (by omega) ho hkk
theorem cs_new_sf {w : Nat} (h : w < n) : cs_sf (cs_u kf n k) (cs_u tf n (t + 1)) (cs_u og n q) w = cs_sf kf tf og w := by
  unfold cs_sf; rw [cs_un (by omega), cs_un (by omega), cs_un (by omega)]
theorem cs_new_Mx {D E : Nat → Bool} {v : Nat} (hD : ∀ w, D w = true → w < n) : cs_Mx D (cs_u P n E) v ↔ cs_Mx D P v := by
  constructor
  · rintro ⟨y1, y2⟩
    refine ⟨y1, fun e he => ?_⟩
    have := y2 e he
    rw [cs_un (by have := hD e he; omega)] at this
    exact this
  · rintro ⟨y1, y2⟩
    refine ⟨y1, fun e he => ?_⟩
    rw [cs_un (by have := hD e he; omega)]
    exact y2 e he
theorem cs_new_V {a E : Nat → Bool} {w : Nat} (ha : ∀ w, a w = true → w < n) : cs_V (cs_u P n E) a w ↔ cs_V P a w := by
  constructor
  · rintro ⟨y1, y2⟩
    refine ⟨y1, fun v hv => y2 v ?_⟩
    rw [cs_un (by have := ha w y1; omega)]; exact hv
  · rintro ⟨y1, y2⟩
    refine ⟨y1, fun v hv => y2 v ?_⟩
    rw [cs_un (by have := ha w y1; omega)] at hv; exact hv
theorem cs_new_X {so po no : Nat → Int32} (hP : cs_PO n P) (hX : ∀ w, w < n → xso w = nI (cs_sf kf tf og w) ∧ (∀ v, cs_h (xpo w) v ↔ P w v = true) ∧ (∀ v, cs_h (xno w) v ↔ cs_Mx (P w) P v))
    (hC : cs_Cl n tf P (X c) c xco xfr xse) (e1 : so = upd xso n (nI ((t + 1) * 32 + q * 8 + k))) (e2 : po = upd xpo n (xco c)) (e3 : no = upd xno n (xfr c)) :
    ∀ w, w < n + 1 → so w = nI (cs_sf (cs_u kf n k) (cs_u tf n (t + 1)) (cs_u og n q) w) ∧ (∀ v, cs_h (po w) v ↔ cs_u P n (X c) w v = true) ∧ (∀ v, cs_h (no w) v ↔ cs_Mx (cs_u P n (X c) w) (cs_u P n (X c)) v) := by
  intro w hw
  subst e1 e2 e3
  by_cases e : w = n
  · subst e
    rw [pk_us, pk_us, pk_us, cs_us]
    refine ⟨?_, hC.2.2.1, fun v => ?_⟩
    · unfold cs_sf; rw [cs_us, cs_us, cs_us]
    · rw [hC.2.2.2.1 v]; exact (cs_new_Mx hC.1).symm
  · rw [pk_un e, pk_un e, pk_un e, cs_un e, cs_new_sf (by omega)]
    obtain ⟨x1, x2, x3⟩ := hX w (by omega)
    refine ⟨x1, x2, fun v => ?_⟩
    rw [x3 v]; exact (cs_new_Mx fun u hu => by have := hP.1 _ _ hu; omega).symm
theorem cs_new_R {r : Nat} {a : Nat → Bool} {st : Nat → Int32} (hn : n < 32) (hS1 : 1 ≤ S) (hS4 : S ≤ 4) (hP : cs_PO n P) (h : cs_Rp n K S kf tf og P a r xar xvi xne xck xst xbl xwa)
    (e : st = upd xst (q * 4 + k % S) (xst (q * 4 + k % S) ||| ((1 : Int32) <<< (nI n &&& 31)))) :
    cs_Rp (n + 1) K S (cs_u kf n k) (cs_u tf n (t + 1)) (cs_u og n q) (cs_u P n (X c)) a r xar xvi xne xck st xbl xwa := by
  obtain ⟨h1, h2, h3, h4, h5, h6, h7, h8⟩ := h
  have hmod : k % S < S := Nat.mod_lt _ (by omega)
  have mx : ∀ w v, a w = true → (cs_Mx (cs_u P n (X c) w) (cs_u P n (X c)) v ↔ cs_Mx (P w) P v) := fun w v hw => by
    have := h1 w hw
    rw [cs_un (f := P) (by omega)]
    exact cs_new_Mx fun u hu => by have := hP.1 _ _ hu; omega
  refine ⟨fun w hw => by have := h1 w hw; omega, h2, fun w => by rw [h3 w, cs_new_V h1], fun k' hk' => ?_, fun s hs => ?_, fun s hs w => ?_, fun w hw v => ?_, fun d hd w => ?_⟩
  · obtain ⟨b, hb, hB⟩ := h4 k' hk'
    refine ⟨b, hb, cs_Bst_c (fun w => ?_) (fun w hw => cs_new_sf (h1 w hw.2.1)) hB⟩
    rw [cs_new_V h1]
    constructor
    · rintro ⟨y1, y2⟩; refine ⟨?_, y2⟩; rw [cs_un (by have := h1 w y2.1; omega)]; exact y1
    · rintro ⟨y1, y2⟩; refine ⟨?_, y2⟩; rw [cs_un (by have := h1 w y2.1; omega)] at y1; exact y1
  · obtain ⟨t', ht', hT'⟩ := h5 s hs
    refine ⟨t', ht', cs_Tm_c (fun w => ?_) (fun w hw => cs_un (by have := h1 w hw.1; omega)) hT'⟩
    constructor
    · rintro ⟨y1, y2⟩; refine ⟨y1, ?_⟩; rw [cs_un (by have := h1 w y1; omega)]; exact y2
    · rintro ⟨y1, y2⟩; refine ⟨y1, ?_⟩; rw [cs_un (by have := h1 w y1; omega)] at y2; exact y2
  · subst e
    by_cases ei : r * 4 + s = q * 4 + k % S
    · have er : r = q := by omega
      have es : s = k % S := by omega
      rw [ei, pk_us, cs_h_or, cs_h_1 hn, ← ei, h6 s hs w]
      by_cases ew : w = n
      · rw [ew, cs_us, cs_us]
        exact ⟨fun _ => ⟨by omega, er.symm, es.symm⟩, fun _ => Or.inr rfl⟩
      · rw [cs_un ew, cs_un ew]
        constructor
        · rintro (y | y)
          · exact ⟨by omega, y.2⟩
          · exact absurd y ew
        · rintro y; exact Or.inl ⟨by omega, y.2⟩
    · rw [pk_un ei, h6 s hs w]
      by_cases ew : w = n
      · rw [ew, cs_us, cs_us]
        exact ⟨fun y => absurd y.1 (by omega), fun y => absurd (by rw [y.2.1, y.2.2]) ei⟩
      · rw [cs_un ew, cs_un ew]
        constructor
        · rintro y; exact ⟨by omega, y.2⟩
        · rintro y; exact ⟨by omega, y.2⟩
  · rw [h7 w hw v]
    constructor
    · rintro ⟨y1, y2, y3⟩; exact ⟨y1, (mx w v y1).mpr y2, fun z => y3 ((cs_new_V h1).mp z)⟩
    · rintro ⟨y1, y2, y3⟩; exact ⟨y1, (mx w v y1).mp y2, fun z => y3 ((cs_new_V h1).mpr z)⟩
  · rw [h8 d hd w]
    constructor
    · rintro ⟨y1, y2, y3⟩; exact ⟨y1, (mx w d y1).mpr y2, fun z => y3 ((cs_new_V h1).mp z)⟩
    · rintro ⟨y1, y2, y3⟩; exact ⟨y1, (mx w d y1).mp y2, fun z => y3 ((cs_new_V h1).mpr z)⟩
theorem cs_new_C {p : Nat} {D E : Nat → Bool} (h : cs_Cl n tf P D p xco xfr xse) : cs_Cl (n + 1) (cs_u tf n (t + 1)) (cs_u P n E) D p xco xfr xse := by
  obtain ⟨h1, h2, h3, h4, s, h5, h6⟩ := h
  refine ⟨fun w hw => by have := h1 w hw; omega, fun w v hw hv => ?_, h3, fun v => by rw [h4 v]; exact (cs_new_Mx h1).symm, s, h5, cs_Tm_c (fun _ => Iff.rfl) (fun w hw => cs_un (by have := h1 w hw; omega)) h6⟩
  rw [cs_un (by have := h1 w hw; omega)] at hv
  exact h2 w v hw hv
end
end
section
/-! read, begin, fetch, move, deliver -/
theorem i_vc_read {k : Nat} {u : SX} {v : SY} (I : i_Rel k u v) (hk : k + 4 ≤ 2052) (v1 : Int32) (v2 : Int32) : wpX_read (fun r u' => wpY_read (fun r' v' => r' = r ∧ i_Rel (k + 4) u' v') v v1 v2) u v1 v2 := by
  refine cs_el (Z := fun u v => wpX_read (fun r u' => wpY_read (fun r' v' => r' = r ∧ i_Rel (k + 4) u' v') v v1 v2) u v1 v2) ?_ I
  intro R K S C n kf tf og hf P A X ob Q F G vo fi xso xpo xno xol xch xar xvi xne xck xst xbl xwa xco xfr xse xaq xfe xre hI
  have rel : i_Rel (k + 4) (nI R, nI K, nI S, nI C, nI n, cs_N kf, vo, cs_N tf, xso, xpo, xno, xol, xch, xar, xvi, xne, xck, xst, xbl, xwa, cs_N hf, xco, xfr, xse, cs_B ob, xaq, xfe, xre) (nI R, nI K, nI S, nI C, nI n, cs_N kf, vo, cs_N og, cs_N tf, cs_M 32 P, cs_M 32 A, cs_M 32 X, cs_N hf, cs_B ob, cs_M 8 Q, cs_M 8 F, cs_O 8 G, fi) := cs_mk hI
  have hI0 := hI
  obtain ⟨⟨hR2, hR4, hK2, hK8, hS1, hS4, hC1, hC8, hn⟩, hW, hX, hCh, hRp, hAo, hCl, hhf, hTr⟩ := hI
  rcases cs_ix v1 (m := C) (by omega) with z1 | ⟨c, hc, rfl⟩
  · unfold wpX_read
    refine cs_xcl_f z1 (br_t rfl ?_)
    unfold wpY_read
    exact cs_ycl_f z1 (br_f (by decide) ⟨rfl, rel⟩)
  · rcases cs_ix v2 (m := K) (by omega) with z2 | ⟨q, hq, rfl⟩
    · unfold wpX_read
      refine cs_xcl_t hc (by omega) (br_f (by decide) ?_)
      refine cs_xky_f z2 (br_t rfl ?_)
      unfold wpY_read
      refine cs_ycl_t hc (by omega) (br_t rfl ?_)
      exact cs_yky_f z2 (br_f (by decide) ⟨rfl, rel⟩)
    · have c1 : (nI c).toNatClampNeg = c := nI_clamp (by omega)
      have i1 : vp_in (nI c) 8 := vp_in_nI (by omega) (by omega)
      have eo : cs_B ob (nI c).toNatClampNeg = cs_bI (ob c) := by rw [c1]; rfl
      have eh : cs_N hf (nI c).toNatClampNeg = nI (hf c) := by rw [c1]; rfl
      have hh := hhf c
      obtain ⟨r1, r2, r3, r4, _⟩ := hRp (hf c) hh
      obtain ⟨b, hb, hB⟩ := r4 q hq
      have hP := hW.2.2.2.1
      have hbn := cs_bn r1 hB
      unfold wpX_read
      refine cs_xcl_t hc (by omega) (br_f (by decide) ?_)
      refine cs_xky_t hq (by omega) (br_f (by decide) (And.intro i1 ?_))
      refine cs_bz eo (fun z => ?_) (fun z => ?_)
      · refine And.intro i1 (And.intro (by rw [eh]; exact cs_in8 (by omega) (by omega)) (nm_r (e' := cs_oI b) (by rw [eh, cs_i8, nI_clamp (by omega), hb]) ?_))
        refine cs_xtk (P := P) (tf := tf) (by omega) hn hP hW.2.2.2.2.1 hW.2.2.1 (fun _ => rfl) (fun w hw => (hX w hw).2.1) hbn (hCl c hc) (fun co fr se y1 y2 => ?_)
        unfold wpY_read
        refine cs_ycl_t hc (by omega) (br_t rfl ?_)
        refine cs_yky_t hq (by omega) (br_t rfl (And.intro i1 ?_))
        refine cs_bz eo (fun _ => And.intro i1 ?_) (fun y => absurd y z)
        rw [eh]
        refine cs_ycur hn hR4 hK8 hh hq (cs_kf8 hK8 hW) hP (cs_sfb hR4 hK8 hn hW) (fun b' hB' => ?_)
        rw [cs_one hR4 hW r1 hB hB']
        exact cs_ytk hn (by omega) hP hbn ⟨rfl, cs_mk (cs_Inv_X hI0 y1 y2)⟩
      · unfold wpY_read
        refine cs_ycl_t hc (by omega) (br_t rfl ?_)
        refine cs_yky_t hq (by omega) (br_t rfl (And.intro i1 ?_))
        exact cs_bz eo (fun y => absurd z y) (fun _ => ⟨rfl, rel⟩)
theorem cs_mlt {x : Int32} {K k : Nat} (hK : K ≤ 8) (h0 : ¬ x < 1) (h1 : x < ((1 : Int32) <<< (nI K &&& 31))) (h : cs_h x k) : k < K := by
  have e : (1 : Int32) <<< (nI K &&& 31) = nI (2 ^ K) := by
    have : K = 0 ∨ K = 1 ∨ K = 2 ∨ K = 3 ∨ K = 4 ∨ K = 5 ∨ K = 6 ∨ K = 7 ∨ K = 8 := by omega
    rcases this with z | z | z | z | z | z | z | z | z <;> subst z <;> decide
  have hp : 2 ^ K ≤ 2 ^ 8 := Nat.pow_le_pow_right (by decide) hK
  have nx : ¬ x < 0 := fun z => h0 (Int32.lt_trans z (by decide))
  obtain ⟨j, hj, rfl⟩ := nI_of nx
  rw [e, nI_ltI hj (by omega)] at h1
  apply Classical.byContradiction
  intro z
  have a : 2 ^ K ≤ 2 ^ k := Nat.pow_le_pow_right (by decide) (by omega)
  have b : j.testBit k = false := Nat.testBit_lt_two_pow (by omega)
  unfold cs_h bt at h
  have e2 : (nI j).toBitVec = BitVec.ofNat 32 j := rfl
  rw [e2, BitVec.getLsbD_ofNat, b] at h
  simp at h
theorem i_vc_begin {k : Nat} {u : SX} {v : SY} (I : i_Rel k u v) (hk : k + 4 ≤ 2052) (v1 : Int32) (v2 : Int32) : wpX_begin (fun r u' => wpY_begin (fun r' v' => r' = r ∧ i_Rel (k + 4) u' v') v v1 v2) u v1 v2 := by
  refine cs_el (Z := fun u v => wpX_begin (fun r u' => wpY_begin (fun r' v' => r' = r ∧ i_Rel (k + 4) u' v') v v1 v2) u v1 v2) ?_ I
  intro R K S C n kf tf og hf P A X ob Q F G vo fi xso xpo xno xol xch xar xvi xne xck xst xbl xwa xco xfr xse xaq xfe xre hI
  have rel : i_Rel (k + 4) (nI R, nI K, nI S, nI C, nI n, cs_N kf, vo, cs_N tf, xso, xpo, xno, xol, xch, xar, xvi, xne, xck, xst, xbl, xwa, cs_N hf, xco, xfr, xse, cs_B ob, xaq, xfe, xre) (nI R, nI K, nI S, nI C, nI n, cs_N kf, vo, cs_N og, cs_N tf, cs_M 32 P, cs_M 32 A, cs_M 32 X, cs_N hf, cs_B ob, cs_M 8 Q, cs_M 8 F, cs_O 8 G, fi) := cs_mk hI
  obtain ⟨⟨hR2, hR4, hK2, hK8, hS1, hS4, hC1, hC8, hn⟩, hW, hX, hCh, hRp, hAo, hCl, hhf, hTr⟩ := hI
  rcases cs_ix v1 (m := C) (by omega) with z1 | ⟨c, hc, rfl⟩
  · unfold wpX_begin
    refine cs_xcl_f z1 (br_t rfl ?_)
    unfold wpY_begin
    exact cs_ycl_f z1 (br_f (by decide) ⟨rfl, rel⟩)
  · have c1 : (nI c).toNatClampNeg = c := nI_clamp (by omega)
    have i1 : vp_in (nI c) 8 := vp_in_nI (by omega) (by omega)
    have eo : cs_B ob (nI c).toNatClampNeg = cs_bI (ob c) := by rw [c1]; rfl
    unfold wpX_begin
    refine cs_xcl_t hc (by omega) (br_f (by decide) ?_)
    by_cases m1 : v2 < 1
    · refine br_t m1 ?_
      unfold wpY_begin
      exact cs_ycl_t hc (by omega) (br_t rfl (br_t m1 ⟨rfl, rel⟩))
    · refine br_f m1 ?_
      by_cases m2 : v2 < ((1 : Int32) <<< (nI K &&& 31))
      · refine br_t m2 (And.intro i1 ?_)
        refine cs_bz eo (fun z => ?_) (fun z => ?_)
        · refine And.intro i1 (nm_r (e' := upd xaq c v2) (by rw [c1]) (And.intro i1 (nm_r (e' := upd xfe c 0) (by rw [c1]) (And.intro i1 (nm_r (e' := cs_B (cs_u ob c true)) (by rw [c1, cs_nar1, cs_B_up]) ?_)))))
          unfold wpY_begin
          refine cs_ycl_t hc (by omega) (br_t rfl (br_f m1 (br_t m2 (And.intro i1 ?_))))
          refine cs_bz eo (fun _ => ?_) (fun y => absurd y z)
          have hgo : i_Rel (k + 4) (nI R, nI K, nI S, nI C, nI n, cs_N kf, vo, cs_N tf, xso, xpo, xno, xol, xch, xar, xvi, xne, xck, xst, xbl, xwa, cs_N hf, xco, xfr, xse, cs_B (cs_u ob c true), upd xaq c v2, upd xfe c 0, xre) (nI R, nI K, nI S, nI C, nI n, cs_N kf, vo, cs_N og, cs_N tf, cs_M 32 P, cs_M 32 A, cs_M 32 X, cs_N hf, cs_B (cs_u ob c true), cs_M 8 (cs_pt Q c K (bt v2)), cs_M 8 (cs_pt F c K (fun _ => false)), cs_O 8 (cs_pt G c K (fun _ => none)), fi) := by
            refine cs_mk ⟨⟨hR2, hR4, hK2, hK8, hS1, hS4, hC1, hC8, hn⟩, hW, hX, hCh, hRp, hAo, hCl, hhf, fun p hp => ?_⟩
            obtain ⟨t1, t2, t3⟩ := hTr p hp
            by_cases e : p = c
            · subst e
              rw [pk_us, pk_us]
              refine ⟨fun j => ?_, fun j hj => ?_, fun j hj _ y => ?_⟩
              · constructor
                · intro y
                  have := cs_mlt hK8 m1 m2 y
                  refine ⟨this, ?_⟩
                  unfold cs_pt; rw [if_pos ⟨rfl, this⟩]; exact y
                · rintro ⟨y1, y2⟩
                  unfold cs_pt at y2; rw [if_pos ⟨rfl, y1⟩] at y2; exact y2
              · unfold cs_pt; rw [if_pos ⟨rfl, hj⟩]
                exact ⟨fun y => absurd y (cs_h_0 j), fun y => absurd (show false = true from y) (by decide)⟩
              · unfold cs_pt at y; rw [if_pos ⟨rfl, hj⟩] at y; exact absurd (show false = true from y) (by decide)
            · have pn : ∀ {α : Type} (f : Nat → Nat → α) (m : Nat) (g : Nat → α) (j : Nat), cs_pt f c m g p j = f p j := fun f m g j => if_neg fun y => e y.1
              rw [pk_un e, pk_un e]
              refine ⟨fun j => by rw [pn]; exact t1 j, fun j hj => by rw [pn]; exact t2 j hj, fun j hj y1 y2 => ?_⟩
              rw [pn] at y1 y2 ⊢
              exact t3 j hj y1 y2
          have := cs_ybeg_l (R := R) (S := S) (C := C) (n := n) (kf := kf) (tf := tf) (og := og) (hf := hf) (P := P) (A := A) (X := X) (ob := ob) (Q := Q) (F := F) (G := G) (vo := vo) (fi := fi) (post := fun r' v' => r' = 0 ∧ i_Rel (k + 4) (nI R, nI K, nI S, nI C, nI n, cs_N kf, vo, cs_N tf, xso, xpo, xno, xol, xch, xar, xvi, xne, xck, xst, xbl, xwa, cs_N hf, xco, xfr, xse, cs_B (cs_u ob c true), upd xaq c v2, upd xfe c 0, xre) v') (c := c) (x := v2) (by omega) hK8 ⟨rfl, hgo⟩ 9 0 (by omega) (by omega)
          rw [cs_pt_0, cs_pt_0, cs_pt_0] at this
          exact Exists.intro 9 this
        · unfold wpY_begin
          refine cs_ycl_t hc (by omega) (br_t rfl (br_f m1 (br_t m2 (And.intro i1 ?_))))
          exact cs_bz eo (fun y => absurd z y) (fun _ => ⟨rfl, rel⟩)
      · refine br_f m2 ?_
        unfold wpY_begin
        exact cs_ycl_t hc (by omega) (br_t rfl (br_f m1 (br_f m2 ⟨rfl, rel⟩)))
theorem i_vc_fetch {k : Nat} {u : SX} {v : SY} (I : i_Rel k u v) (hk : k + 4 ≤ 2052) (v1 : Int32) (v2 : Int32) : wpX_fetch (fun r u' => wpY_fetch (fun r' v' => r' = r ∧ i_Rel (k + 4) u' v') v v1 v2) u v1 v2 := by
  refine cs_el (Z := fun u v => wpX_fetch (fun r u' => wpY_fetch (fun r' v' => r' = r ∧ i_Rel (k + 4) u' v') v v1 v2) u v1 v2) ?_ I
  intro R K S C n kf tf og hf P A X ob Q F G vo fi xso xpo xno xol xch xar xvi xne xck xst xbl xwa xco xfr xse xaq xfe xre hI
  have rel : i_Rel (k + 4) (nI R, nI K, nI S, nI C, nI n, cs_N kf, vo, cs_N tf, xso, xpo, xno, xol, xch, xar, xvi, xne, xck, xst, xbl, xwa, cs_N hf, xco, xfr, xse, cs_B ob, xaq, xfe, xre) (nI R, nI K, nI S, nI C, nI n, cs_N kf, vo, cs_N og, cs_N tf, cs_M 32 P, cs_M 32 A, cs_M 32 X, cs_N hf, cs_B ob, cs_M 8 Q, cs_M 8 F, cs_O 8 G, fi) := cs_mk hI
  obtain ⟨⟨hR2, hR4, hK2, hK8, hS1, hS4, hC1, hC8, hn⟩, hW, hX, hCh, hRp, hAo, hCl, hhf, hTr⟩ := hI
  rcases cs_ix v1 (m := C) (by omega) with z1 | ⟨c, hc, rfl⟩
  · unfold wpX_fetch
    refine cs_xcl_f z1 (br_t rfl ?_)
    unfold wpY_fetch
    exact cs_ycl_f z1 (br_f (by decide) ⟨rfl, rel⟩)
  · rcases cs_ix v2 (m := K) (by omega) with z2 | ⟨q, hq, rfl⟩
    · unfold wpX_fetch
      refine cs_xcl_t hc (by omega) (br_f (by decide) ?_)
      refine cs_xky_f z2 (br_t rfl ?_)
      unfold wpY_fetch
      refine cs_ycl_t hc (by omega) (br_t rfl ?_)
      exact cs_yky_f z2 (br_f (by decide) ⟨rfl, rel⟩)
    · have c1 : (nI c).toNatClampNeg = c := nI_clamp (by omega)
      have i1 : vp_in (nI c) 8 := vp_in_nI (by omega) (by omega)
      have i8 := cs_in8 (a := c) (b := q) (N := 64) (by omega) (by omega)
      have eo : cs_B ob (nI c).toNatClampNeg = cs_bI (ob c) := by rw [c1]; rfl
      have eh : cs_N hf (nI c).toNatClampNeg = nI (hf c) := by rw [c1]; rfl
      have hh := hhf c
      obtain ⟨r1, r2, r3, r4, _⟩ := hRp (hf c) hh
      obtain ⟨b, hb, hB⟩ := r4 q hq
      have hP := hW.2.2.2.1
      have hbn := cs_bn r1 hB
      obtain ⟨t1, t2, t3⟩ := hTr c hc
      unfold wpX_fetch
      refine cs_xcl_t hc (by omega) (br_f (by decide) ?_)
      refine cs_xky_t hq (by omega) (br_f (by decide) (And.intro i1 ?_))
      refine cs_bz eo (fun z => ?_) (fun z => And.intro i1 ?_)
      · unfold wpY_fetch
        refine cs_ycl_t hc (by omega) (br_t rfl ?_)
        refine cs_yky_t hq (by omega) (br_t rfl (And.intro i1 ?_))
        exact cs_bz eo (fun _ => ⟨rfl, rel⟩) (fun y => absurd y z)
      · refine cs_xhas (by omega) (fun a => ?_) (fun a => ?_)
        · rw [c1, t1] at a
          refine br_f (by decide) (And.intro i1 (cs_xhas (by omega) (fun d => ?_) (fun d => ?_)))
          · rw [c1, t2 q hq] at d
            refine br_f (by decide) ?_
            unfold wpY_fetch
            refine cs_ycl_t hc (by omega) (br_t rfl ?_)
            refine cs_yky_t hq (by omega) (br_t rfl (And.intro i1 ?_))
            refine cs_bz eo (fun y => absurd z y) (fun _ => And.intro i8 ?_)
            refine cs_bz (cs_at8 (by omega) (by omega)) (fun y => absurd a.2 y) (fun _ => And.intro i8 ?_)
            exact cs_bz (cs_at8 (by omega) (by omega)) (fun y => absurd d y) (fun _ => ⟨rfl, rel⟩)
          · rw [c1, t2 q hq] at d
            refine br_t rfl (And.intro i1 (And.intro (by rw [eh]; exact cs_in8 (by omega) (by omega)) (nm_r (e' := cs_oI b) (by rw [eh, cs_i8, nI_clamp (by omega), hb]) (And.intro i1 (And.intro i1 (nm_r (e' := upd xfe c (xfe c ||| ((1 : Int32) <<< (nI q &&& 31)))) (by rw [c1])
              (And.intro i8 (nm_r (e' := upd xre (c * 8 + q) (cs_oI b)) (by rw [cs_i8, nI_clamp (by omega)]) ?_))))))))
            have hgo : i_Rel (k + 4) (nI R, nI K, nI S, nI C, nI n, cs_N kf, vo, cs_N tf, xso, xpo, xno, xol, xch, xar, xvi, xne, xck, xst, xbl, xwa, cs_N hf, xco, xfr, xse, cs_B ob, xaq, upd xfe c (xfe c ||| ((1 : Int32) <<< (nI q &&& 31))), upd xre (c * 8 + q) (cs_oI b)) (nI R, nI K, nI S, nI C, nI n, cs_N kf, vo, cs_N og, cs_N tf, cs_M 32 P, cs_M 32 A, cs_M 32 X, cs_N hf, cs_B ob, cs_M 8 Q, cs_M 8 (cs_u2 F c q true), cs_O 8 (cs_u2 G c q b), fi) := by
              refine cs_mk ⟨⟨hR2, hR4, hK2, hK8, hS1, hS4, hC1, hC8, hn⟩, hW, hX, hCh, hRp, hAo, hCl, hhf, fun p hp => ?_⟩
              obtain ⟨s1, s2, s3⟩ := hTr p hp
              by_cases e : p = c
              · subst e
                rw [pk_us]
                refine ⟨s1, fun j hj => ?_, fun j hj y1 y2 => ?_⟩
                · rw [cs_h_or, cs_h_1 (by omega), s2 j hj]
                  unfold cs_u2
                  by_cases e2 : j = q
                  · rw [if_pos ⟨rfl, e2⟩]; exact ⟨fun _ => rfl, fun _ => Or.inr e2⟩
                  · rw [if_neg fun y => e2 y.2]; exact ⟨fun y => y.elim id fun y => absurd y e2, Or.inl⟩
                · by_cases e2 : j = q
                  · subst e2
                    rw [pk_us]
                    unfold cs_u2
                    rw [if_pos ⟨rfl, rfl⟩]
                    exact ⟨rfl, hbn⟩
                  · rw [pk_un (by omega)]
                    unfold cs_u2 at y2 ⊢
                    rw [if_neg fun y => e2 y.2] at y2
                    rw [if_neg fun y => e2 y.2]
                    exact s3 j hj y1 y2
              · have pn : ∀ {α : Type} (f : Nat → Nat → α) (x : α) (j : Nat), cs_u2 f c q x p j = f p j := fun f x j => if_neg fun y => e y.1
                rw [pk_un e]
                refine ⟨s1, fun j hj => by rw [pn]; exact s2 j hj, fun j hj y1 y2 => ?_⟩
                rw [pn] at y2 ⊢
                rw [pk_un (by omega)]
                exact s3 j hj y1 y2
            unfold wpY_fetch
            refine cs_ycl_t hc (by omega) (br_t rfl ?_)
            refine cs_yky_t hq (by omega) (br_t rfl (And.intro i1 ?_))
            refine cs_bz eo (fun y => absurd z y) (fun _ => And.intro i8 ?_)
            refine cs_bz (cs_at8 (by omega) (by omega)) (fun y => absurd a.2 y) (fun _ => And.intro i8 ?_)
            refine cs_bz (cs_at8 (by omega) (by omega)) (fun _ => And.intro i8 (nm_r (e' := cs_M 8 (cs_u2 F c q true)) (by rw [cs_i8, nI_clamp (by omega), cs_nar1, cs_M_up (by omega)]) (And.intro i1 ?_))) (fun y => absurd y d)
            rw [eh]
            refine cs_ycur hn hR4 hK8 hh hq (cs_kf8 hK8 hW) hP (cs_sfb hR4 hK8 hn hW) (fun b' hB' => ?_)
            rw [cs_one hR4 hW r1 hB hB']
            refine And.intro i8 (nm_r (e' := cs_O 8 (cs_u2 G c q b)) (by rw [cs_i8, nI_clamp (by omega), cs_O_up (by omega)]) (And.intro i8 ⟨?_, hgo⟩))
            rw [cs_atO (by omega) (by omega)]
            exact congrArg cs_oI (if_pos ⟨rfl, rfl⟩)
        · rw [c1, t1] at a
          refine br_t rfl ?_
          unfold wpY_fetch
          refine cs_ycl_t hc (by omega) (br_t rfl ?_)
          refine cs_yky_t hq (by omega) (br_t rfl (And.intro i1 ?_))
          refine cs_bz eo (fun y => absurd z y) (fun _ => And.intro i8 ?_)
          exact cs_bz (cs_at8 (by omega) (by omega)) (fun _ => ⟨rfl, rel⟩) (fun y => absurd ⟨hq, y⟩ a)
theorem i_vc_move {k : Nat} {u : SX} {v : SY} (I : i_Rel k u v) (hk : k + 4 ≤ 2052) (v1 : Int32) (v2 : Int32) : wpX_move (fun r u' => wpY_move (fun r' v' => r' = r ∧ i_Rel (k + 4) u' v') v v1 v2) u v1 v2 := by
  refine cs_el (Z := fun u v => wpX_move (fun r u' => wpY_move (fun r' v' => r' = r ∧ i_Rel (k + 4) u' v') v v1 v2) u v1 v2) ?_ I
  intro R K S C n kf tf og hf P A X ob Q F G vo fi xso xpo xno xol xch xar xvi xne xck xst xbl xwa xco xfr xse xaq xfe xre hI
  have rel : i_Rel (k + 4) (nI R, nI K, nI S, nI C, nI n, cs_N kf, vo, cs_N tf, xso, xpo, xno, xol, xch, xar, xvi, xne, xck, xst, xbl, xwa, cs_N hf, xco, xfr, xse, cs_B ob, xaq, xfe, xre) (nI R, nI K, nI S, nI C, nI n, cs_N kf, vo, cs_N og, cs_N tf, cs_M 32 P, cs_M 32 A, cs_M 32 X, cs_N hf, cs_B ob, cs_M 8 Q, cs_M 8 F, cs_O 8 G, fi) := cs_mk hI
  obtain ⟨⟨hR2, hR4, hK2, hK8, hS1, hS4, hC1, hC8, hn⟩, hW, hX, hCh, hRp, hAo, hCl, hhf, hTr⟩ := hI
  rcases cs_ix v1 (m := C) (by omega) with z1 | ⟨c, hc, rfl⟩
  · unfold wpX_move
    refine cs_xcl_f z1 (br_t rfl ?_)
    unfold wpY_move
    exact cs_ycl_f z1 (br_f (by decide) ⟨rfl, rel⟩)
  · rcases cs_ix v2 (m := R) (by omega) with z2 | ⟨r, hr, rfl⟩
    · unfold wpX_move
      refine cs_xcl_t hc (by omega) (br_f (by decide) ?_)
      refine cs_xrp_f z2 (br_t rfl ?_)
      unfold wpY_move
      refine cs_ycl_t hc (by omega) (br_t rfl ?_)
      exact cs_yrp_f z2 (br_f (by decide) ⟨rfl, rel⟩)
    · have c1 : (nI c).toNatClampNeg = c := nI_clamp (by omega)
      have c2 : (nI r).toNatClampNeg = r := nI_clamp (by omega)
      have i1 : vp_in (nI c) 8 := vp_in_nI (by omega) (by omega)
      have i2 : vp_in (nI r) 4 := vp_in_nI (by omega) (by omega)
      have eo : cs_B ob (nI c).toNatClampNeg = cs_bI (ob c) := by rw [c1]; rfl
      obtain ⟨r1, r2, r3, _⟩ := hRp r hr
      obtain ⟨x0, x1, x2, x3, _⟩ := hCl c hc
      have hP := hW.2.2.2.1
      unfold wpX_move
      refine cs_xcl_t hc (by omega) (br_f (by decide) ?_)
      refine cs_xrp_t hr (by omega) (br_f (by decide) (And.intro i1 ?_))
      refine cs_bz eo (fun z => And.intro i1 (And.intro i2 ?_)) (fun z => ?_)
      · have low : ∀ post : Int32 → SY → Prop, ((∀ w, w < n → X c w = true → cs_V P (A r) w) → post 0 (nI R, nI K, nI S, nI C, nI n, cs_N kf, vo, cs_N og, cs_N tf, cs_M 32 P, cs_M 32 A, cs_M 32 X, cs_N (cs_u hf c r), cs_B ob, cs_M 8 Q, cs_M 8 F, cs_O 8 G, fi)) → (∀ w, w < n → X c w = true → ¬ cs_V P (A r) w → post (-9) (nI R, nI K, nI S, nI C, nI n, cs_N kf, vo, cs_N og, cs_N tf, cs_M 32 P, cs_M 32 A, cs_M 32 X, cs_N hf, cs_B ob, cs_M 8 Q, cs_M 8 F, cs_O 8 G, fi)) → wpY_move post (nI R, nI K, nI S, nI C, nI n, cs_N kf, vo, cs_N og, cs_N tf, cs_M 32 P, cs_M 32 A, cs_M 32 X, cs_N hf, cs_B ob, cs_M 8 Q, cs_M 8 F, cs_O 8 G, fi) (nI c) (nI r) := by
          intro post p1 p2
          unfold wpY_move
          refine cs_ycl_t hc (by omega) (br_t rfl ?_)
          refine cs_yrp_t hr (by omega) (br_t rfl (And.intro i1 ?_))
          exact cs_bz eo (fun _ => Exists.intro 33 (cs_ymov_l hn (by omega) (by omega) hP p1 p2 33 0 (by omega) (by omega) (fun w hw => by omega))) (fun y => absurd y z)
        by_cases m : xfr c &&& (xvi r ^^^ (-1)) = 0
        · refine br_t (by rw [c1, c2]; exact m) (And.intro i1 (nm_r (e' := cs_N (cs_u hf c r)) (by rw [c1, cs_N_up]) ?_))
          refine low _ (fun _ => ⟨rfl, cs_mk ⟨⟨hR2, hR4, hK2, hK8, hS1, hS4, hC1, hC8, hn⟩, hW, hX, hCh, hRp, hAo, hCl, fun p => ?_, hTr⟩⟩) (fun w hw y1 y2 => absurd ?_ y2)
          · by_cases e : p = c
            · rw [e, cs_us]; exact hr
            · rw [cs_un e]; exact hhf p
          · obtain ⟨j, j1, j2⟩ := cs_cov hP (D := X c) y1
            have jv : cs_V P (A r) j := by
              rw [← r3 j]
              apply Classical.byContradiction
              intro y
              exact cs_h_z.mp m j ((cs_h_dif _ _ _).mpr ⟨(x3 j).mpr j1, y⟩)
            rcases j2 with e | e
            · rw [← e]; exact jv
            · exact cs_V_cl hP jv e
        · refine br_f (by rw [c1, c2]; exact m) ?_
          refine low _ (fun y => absurd ?_ m) (fun w _ _ _ => ⟨rfl, rel⟩)
          refine cs_h_z.mpr fun j hj => ?_
          rw [cs_h_dif, x3 j, r3 j] at hj
          exact hj.2 (y j (x0 j hj.1.1) hj.1.1)
      · unfold wpY_move
        refine cs_ycl_t hc (by omega) (br_t rfl ?_)
        refine cs_yrp_t hr (by omega) (br_t rfl (And.intro i1 ?_))
        exact cs_bz eo (fun y => absurd z y) (fun _ => ⟨rfl, rel⟩)
end
section
/-! deliver -/
theorem cs_u2r {α : Type} (f : Nat → Nat → α) (a b : Nat) (x : α) : cs_u2 f a b x a = cs_u (f a) b x := by
  funext j; unfold cs_u2 cs_u
  by_cases e : j = b
  · rw [if_pos e, if_pos ⟨rfl, e⟩]
  · rw [if_neg e, if_neg fun y => e y.2]
theorem cs_u2n {α : Type} (f : Nat → Nat → α) {a q : Nat} (b : Nat) (x : α) (h : q ≠ a) : cs_u2 f a b x q = f q := by
  funext j; exact if_neg fun y => h y.1
section
variable {R K S C n : Nat} {kf tf og hf : Nat → Nat} {P A X : Nat → Nat → Bool} {ob : Nat → Bool} {Q F : Nat → Nat → Bool} {G : Nat → Nat → Option Nat} {vo fi : Nat → Int32} {xso xpo xno xol xch xar xvi xne xck xst xbl xwa xco xfr xse xaq xfe xre : Nat → Int32}
theorem cs_Rp_all {r w : Nat} {ar vi ne ck bl wa : Nat → Int32} (hK : K ≤ 8) (hS : S ≤ 4) (h : ∀ q, q < R → cs_Rp n K S kf tf og P (A q) q xar xvi xne xck xst xbl xwa)
    (h1 : cs_Rp n K S kf tf og P (cs_u (A r) w true) r ar vi ne ck xst bl wa) (ho : cs_Ot r xar xvi xne xck xbl xwa ar vi ne ck bl wa) : ∀ q, q < R → cs_Rp n K S kf tf og P (cs_u2 A r w true q) q ar vi ne ck xst bl wa := by
  intro q hq
  by_cases e : q = r
  · rw [e, cs_u2r]; exact h1
  · rw [cs_u2n A w true e]; exact cs_Rp_ot hK hS e ho (h q hq)
end
theorem i_vc_deliver {k : Nat} {u : SX} {v : SY} (I : i_Rel k u v) (hk : k + 4 ≤ 2052) (v1 : Int32) (v2 : Int32) (v3 : Int32) : wpX_deliver (fun r u' => wpY_deliver (fun r' v' => r' = r ∧ i_Rel (k + 4) u' v') v v1 v2 v3) u v1 v2 v3 := by
  refine cs_el (Z := fun u v => wpX_deliver (fun r u' => wpY_deliver (fun r' v' => r' = r ∧ i_Rel (k + 4) u' v') v v1 v2 v3) u v1 v2 v3) ?_ I
  intro R K S C n kf tf og hf P A X ob Q F G vo fi xso xpo xno xol xch xar xvi xne xck xst xbl xwa xco xfr xse xaq xfe xre hI
  have rel : i_Rel (k + 4) (nI R, nI K, nI S, nI C, nI n, cs_N kf, vo, cs_N tf, xso, xpo, xno, xol, xch, xar, xvi, xne, xck, xst, xbl, xwa, cs_N hf, xco, xfr, xse, cs_B ob, xaq, xfe, xre) (nI R, nI K, nI S, nI C, nI n, cs_N kf, vo, cs_N og, cs_N tf, cs_M 32 P, cs_M 32 A, cs_M 32 X, cs_N hf, cs_B ob, cs_M 8 Q, cs_M 8 F, cs_O 8 G, fi) := cs_mk hI
  obtain ⟨⟨hR2, hR4, hK2, hK8, hS1, hS4, hC1, hC8, hn⟩, hW, hX, hCh, hRp, hAo, hCl, hhf, hTr⟩ := hI
  rcases cs_ix v1 (m := R) (by omega) with z1 | ⟨p, hp, rfl⟩
  · unfold wpX_deliver
    refine cs_xrp_f z1 (br_t rfl ?_)
    unfold wpY_deliver
    exact cs_yrp_f z1 (br_f (by decide) ⟨rfl, rel⟩)
  · rcases cs_ix v2 (m := R) (by omega) with z2 | ⟨r, hr, rfl⟩
    · unfold wpX_deliver
      refine cs_xrp_t hp (by omega) (br_f (by decide) ?_)
      refine cs_xrp_f z2 (br_t rfl ?_)
      unfold wpY_deliver
      refine cs_yrp_t hp (by omega) (br_t rfl ?_)
      exact cs_yrp_f z2 (br_f (by decide) ⟨rfl, rel⟩)
    · unfold wpX_deliver
      refine cs_xrp_t hp (by omega) (br_f (by decide) ?_)
      refine cs_xrp_t hr (by omega) (br_f (by decide) ?_)
      by_cases e : nI p = nI r
      · refine br_t e ?_
        unfold wpY_deliver
        refine cs_yrp_t hp (by omega) (br_t rfl ?_)
        exact cs_yrp_t hr (by omega) (br_t rfl (br_t e ⟨rfl, rel⟩))
      · refine br_f e ?_
        by_cases e0 : v3 < 0
        · refine br_t e0 ?_
          unfold wpY_deliver
          refine cs_yrp_t hp (by omega) (br_t rfl ?_)
          exact cs_yrp_t hr (by omega) (br_t rfl (br_f e (br_t e0 ⟨rfl, rel⟩)))
        · refine br_f e0 ?_
          by_cases e1 : v3 < nI S
          · obtain ⟨s, hs, rfl⟩ := nI_of e0
            rw [nI_ltI hs (by omega)] at e1
            have c4 : (nI p * 4 + nI s).toNatClampNeg = p * 4 + s := by rw [cs_i4]; exact nI_clamp (by omega)
            have c2 : (nI r).toNatClampNeg = r := nI_clamp (by omega)
            have i4 : vp_in (nI p * 4 + nI s) 16 := by rw [cs_i4]; exact vp_in_nI (by omega) (by omega)
            have i2 : vp_in (nI r) 4 := vp_in_nI (by omega) (by omega)
            obtain ⟨r1, r2, r3, _⟩ := hRp r hr
            have p6 := (hRp p hp).2.2.2.2.2.1 s e1
            have mem : ∀ w, cs_h (xst (p * 4 + s) &&& (xar r ^^^ (-1))) w ↔ w < n ∧ (og w = p ∧ kf w % S = s ∧ ¬ A r w = true) := fun w => by
              rw [cs_h_dif, p6 w, r2 w]
              constructor
              · rintro ⟨⟨y1, y2, y3⟩, y4⟩; exact ⟨y1, y2, y3, y4⟩
              · rintro ⟨y1, y2, y3, y4⟩; exact ⟨⟨y1, y2, y3⟩, y4⟩
            have low : ∀ post : Int32 → SY → Prop, (∀ w, w < n → (og w = p ∧ kf w % S = s ∧ ¬ A r w = true) → (∀ v, v < w → ¬ (og v = p ∧ kf v % S = s ∧ ¬ A r v = true)) → post (nI w) (nI R, nI K, nI S, nI C, nI n, cs_N kf, vo, cs_N og, cs_N tf, cs_M 32 P, cs_M 32 (cs_u2 A r w true), cs_M 32 X, cs_N hf, cs_B ob, cs_M 8 Q, cs_M 8 F, cs_O 8 G, fi)) →
                ((∀ v, v < n → ¬ (og v = p ∧ kf v % S = s ∧ ¬ A r v = true)) → post (-1) (nI R, nI K, nI S, nI C, nI n, cs_N kf, vo, cs_N og, cs_N tf, cs_M 32 P, cs_M 32 A, cs_M 32 X, cs_N hf, cs_B ob, cs_M 8 Q, cs_M 8 F, cs_O 8 G, fi)) → wpY_deliver post (nI R, nI K, nI S, nI C, nI n, cs_N kf, vo, cs_N og, cs_N tf, cs_M 32 P, cs_M 32 A, cs_M 32 X, cs_N hf, cs_B ob, cs_M 8 Q, cs_M 8 F, cs_O 8 G, fi) (nI p) (nI r) (nI s) := by
              intro post q1 q2
              unfold wpY_deliver
              refine cs_yrp_t hp (by omega) (br_t rfl ?_)
              refine cs_yrp_t hr (by omega) (br_t rfl (br_f e (br_f e0 (br_t (nI_lt e1 (by omega)) (Exists.intro 33 ?_)))))
              exact cs_ydel_l hn (by omega) (by omega) hS1 hS4 e1 (cs_kf8 hK8 hW) (fun w => by have := hW.2.1 w; omega) q1 q2 33 0 (by omega) (by omega) (fun v hv => by omega)
            refine br_t (nI_lt e1 (by omega)) (And.intro i4 (And.intro i2 ?_))
            rw [c4, c2]
            refine cs_xlow (fun i hi hin hlo => ?_) (fun hz => ?_)
            · obtain ⟨hin1, hin2⟩ := (mem i).mp hin
              refine br_f (nI_pos (by omega)) ?_
              refine cs_xarr hr hR4 hn hK8 hS1 hS4 hW hin1 hin2.2.2 (fun _ => rfl) (fun _ => rfl) (fun w hw => (hX w hw).1) (cs_sfb hR4 hK8 hn hW) (hX i hin1).2.2 (hRp r hr) (fun ar vi ne ck bl wa y1 y2 => ?_)
              refine low _ (fun w hw w1 w2 => ?_) (fun y => absurd hin2 (y i hin1))
              have ew : w = i := by
                rcases Nat.lt_trichotomy w i with y | y | y
                · exact absurd ((mem w).mpr ⟨hw, w1⟩) (hlo w y)
                · exact y
                · exact absurd hin2 (w2 i y)
              subst ew
              refine ⟨rfl, cs_mk ⟨⟨hR2, hR4, hK2, hK8, hS1, hS4, hC1, hC8, hn⟩, hW, hX, hCh, cs_Rp_all hK8 hS4 hRp y1 y2, fun q hq => ?_, hCl, hhf, hTr⟩⟩
              unfold cs_u2
              split
              · rfl
              · exact hAo q hq
            · refine br_t (by decide) ?_
              refine low _ (fun w hw w1 w2 => ?_) (fun _ => ⟨rfl, rel⟩)
              exact absurd ((mem w).mpr ⟨hw, w1⟩) (cs_h_z.mp hz w)
          · refine br_f e1 ?_
            unfold wpY_deliver
            refine cs_yrp_t hp (by omega) (br_t rfl ?_)
            exact cs_yrp_t hr (by omega) (br_t rfl (br_f e (br_f e0 (br_f e1 ⟨rfl, rel⟩))))
end
section
/-! finish -/
theorem i_vc_finish {k : Nat} {u : SX} {v : SY} (I : i_Rel k u v) (hk : k + 4 ≤ 2052) (v1 : Int32) : wpX_finish (fun r u' => wpY_finish (fun r' v' => r' = r ∧ i_Rel (k + 4) u' v') v v1) u v1 := by
  refine cs_el (Z := fun u v => wpX_finish (fun r u' => wpY_finish (fun r' v' => r' = r ∧ i_Rel (k + 4) u' v') v v1) u v1) ?_ I
  intro R K S C n kf tf og hf P A X ob Q F G vo fi xso xpo xno xol xch xar xvi xne xck xst xbl xwa xco xfr xse xaq xfe xre hI
  have rel : i_Rel (k + 4) (nI R, nI K, nI S, nI C, nI n, cs_N kf, vo, cs_N tf, xso, xpo, xno, xol, xch, xar, xvi, xne, xck, xst, xbl, xwa, cs_N hf, xco, xfr, xse, cs_B ob, xaq, xfe, xre) (nI R, nI K, nI S, nI C, nI n, cs_N kf, vo, cs_N og, cs_N tf, cs_M 32 P, cs_M 32 A, cs_M 32 X, cs_N hf, cs_B ob, cs_M 8 Q, cs_M 8 F, cs_O 8 G, fi) := cs_mk hI
  have hI0 := hI
  obtain ⟨⟨hR2, hR4, hK2, hK8, hS1, hS4, hC1, hC8, hn⟩, hW, hX, hCh, hRp, hAo, hCl, hhf, hTr⟩ := hI
  rcases cs_ix v1 (m := C) (by omega) with z1 | ⟨c, hc, rfl⟩
  · unfold wpX_finish
    refine cs_xcl_f z1 (br_t rfl ?_)
    unfold wpY_finish
    exact cs_ycl_f z1 (br_f (by decide) ⟨rfl, rel⟩)
  · have c1 : (nI c).toNatClampNeg = c := nI_clamp (by omega)
    have i1 : vp_in (nI c) 8 := vp_in_nI (by omega) (by omega)
    have eo : cs_B ob (nI c).toNatClampNeg = cs_bI (ob c) := by rw [c1]; rfl
    have hP := hW.2.2.2.1
    have hsb := cs_sfb hR4 hK8 hn hW
    obtain ⟨t1, t2, t3⟩ := hTr c hc
    obtain ⟨fb, hfb⟩ := Classical.axiomOfChoice (fun q : Nat => cs_ex (sf := cs_sf kf tf og) (T := fun w => kf w = q ∧ cs_Rch K (Q c) (G c) P w) n)
    have uni : ∀ q, q < K → ∀ b, cs_Bst (cs_sf kf tf og) (fun w => w < n ∧ (kf w = q ∧ cs_Rch K (Q c) (G c) P w)) b → b = fb q := fun q _ b hb =>
      cs_Bst_u (fun v w hv hw e => cs_inj hR4 hW hv.1 hw.1 (hv.2.1.trans hw.2.1.symm) e) hb (hfb q)
    have hbn : ∀ q w, fb q = some w → w < n := fun q w e => by
      have := hfb q
      rw [e] at this
      exact this.1.1
    unfold wpX_finish
    refine cs_xcl_t hc (by omega) (br_f (by decide) (And.intro i1 ?_))
    refine cs_bz eo (fun z => ?_) (fun z => And.intro i1 (And.intro i1 ?_))
    · unfold wpY_finish
      refine cs_ycl_t hc (by omega) (br_t rfl (And.intro i1 ?_))
      exact cs_bz eo (fun _ => ⟨rfl, rel⟩) (fun y => absurd y z)
    · have hall : xaq c &&& (xfe c ^^^ (-1)) = 0 ↔ ∀ q, q < K → Q c q = true → F c q = true := by
        rw [cs_h_z]
        constructor
        · intro y q hq hQ
          apply Classical.byContradiction
          intro nf
          exact y q ((cs_h_dif _ _ _).mpr ⟨(t1 q).mpr ⟨hq, hQ⟩, fun w => nf ((t2 q hq).mp w)⟩)
        · intro y q hq
          rw [cs_h_dif, t1 q] at hq
          exact hq.2 ((t2 q hq.1.1).mpr (y q hq.1.1 hq.1.2))
      have hG : ∀ q, q < K → Q c q = true → F c q = true → ∀ w, G c q = some w → w < n := fun q hq y1 y2 => (t3 q hq y1 y2).2
      by_cases m : xaq c &&& (xfe c ^^^ (-1)) = 0
      · have al := hall.mp m
        refine br_t (by rw [c1]; exact m) ?_
        refine cs_xfc (q := Q c) (g := G c) (P := P) (by omega) hK8 hn t1 (fun q hq y => t3 q hq y (al q hq y)) (fun w hw => (hX w hw).2.1) (fun s hs => Exists.intro 9 ?_)
        refine cs_xfin_l (q := Q c) (g := G c) (fb := fb) (P := P) (kf := kf) (tf := tf) (sf := cs_sf kf tf og) (D := X c) (by omega) hK8 hn hP hW.2.2.2.2.1 hW.2.2.1 (fun _ => rfl) (fun w hw => (hX w hw).2.1) hCh (fun q hq b hb => uni q hq b (cs_Bst_iff (fun w => ?_) hb)) hbn
          (fun q hq y => hG q hq y (al q hq y)) t1 (fun co fr se re y1 y2 y3 => ?_) 9 0 xco xfr xse xre (by omega) (by omega) (hCl c hc) (fun _ _ => ⟨rfl, rfl, rfl⟩) ⟨fun q hq y => (by rw [if_neg (by omega)]; exact (t3 q hq y (al q hq y)).1), fun _ _ => rfl⟩
        · rw [hs w]; exact and_assoc
        · rw [cs_B_up]
          refine cs_yfin (fb := fb) hn hC8 hc hK8 z hP (cs_kf8 hK8 hW) hsb hG (fun q hq w1 w2 => absurd (al q hq w1) w2) (fun _ => ⟨uni, hbn, fun f => ⟨rfl, cs_mk ?_⟩⟩)
          obtain ⟨h0, h1, h2, h3, h4, h5, h6, h7, h8⟩ := cs_Inv_X hI0 y1 y2
          refine ⟨h0, h1, h2, h3, h4, h5, h6, h7, fun p hp => ?_⟩
          obtain ⟨s1, s2, s3⟩ := hTr p hp
          refine ⟨s1, s2, fun q hq w1 w2 => ?_⟩
          by_cases e : p = c
          · subst e
            have e2 : cs_pt G p K (fun k => if Q p k = true then fb k else G p k) p q = fb q := by
              unfold cs_pt; rw [if_pos ⟨rfl, hq⟩]; exact if_pos w1
            rw [e2, y3.1 q hq w1, if_pos hq]
            exact ⟨rfl, hbn q⟩
          · have e2 : cs_pt G c K (fun k => if Q c k = true then fb k else G c k) p q = G p q := if_neg fun y => e y.1
            rw [e2, y3.2 _ (by omega)]
            exact s3 q hq w1 w2
      · refine br_f (by rw [c1]; exact m) ?_
        refine cs_yfin (fb := fb) hn hC8 hc hK8 z hP (cs_kf8 hK8 hW) hsb hG (fun q hq w1 w2 => ⟨rfl, rel⟩) (fun y => absurd (hall.mpr y) m)
end
section
/-! write -/
theorem i_vc_write {k : Nat} {u : SX} {v : SY} (I : i_Rel k u v) (hk : k + 4 ≤ 2052) (v1 : Int32) (v2 : Int32) (v3 : Int32) : wpX_write (fun r u' => wpY_write (fun r' v' => r' = r ∧ i_Rel (k + 4) u' v') v v1 v2 v3) u v1 v2 v3 := by
  refine cs_el (Z := fun u v => wpX_write (fun r u' => wpY_write (fun r' v' => r' = r ∧ i_Rel (k + 4) u' v') v v1 v2 v3) u v1 v2 v3) ?_ I
  intro R K S C n kf tf og hf P A X ob Q F G vo fi xso xpo xno xol xch xar xvi xne xck xst xbl xwa xco xfr xse xaq xfe xre hI
  have rel : i_Rel (k + 4) (nI R, nI K, nI S, nI C, nI n, cs_N kf, vo, cs_N tf, xso, xpo, xno, xol, xch, xar, xvi, xne, xck, xst, xbl, xwa, cs_N hf, xco, xfr, xse, cs_B ob, xaq, xfe, xre) (nI R, nI K, nI S, nI C, nI n, cs_N kf, vo, cs_N og, cs_N tf, cs_M 32 P, cs_M 32 A, cs_M 32 X, cs_N hf, cs_B ob, cs_M 8 Q, cs_M 8 F, cs_O 8 G, fi) := cs_mk hI
  obtain ⟨⟨hR2, hR4, hK2, hK8, hS1, hS4, hC1, hC8, hn⟩, hW, hX, hCh, hRp, hAo, hCl, hhf, hTr⟩ := hI
  rcases cs_ix v1 (m := C) (by omega) with z1 | ⟨c, hc, rfl⟩
  · unfold wpX_write
    refine cs_xcl_f z1 (br_t rfl ?_)
    unfold wpY_write
    exact cs_ycl_f z1 (br_f (by decide) ⟨rfl, rel⟩)
  · rcases cs_ix v2 (m := K) (by omega) with z2 | ⟨q, hq, rfl⟩
    · unfold wpX_write
      refine cs_xcl_t hc (by omega) (br_f (by decide) ?_)
      refine cs_xky_f z2 (br_t rfl ?_)
      unfold wpY_write
      refine cs_ycl_t hc (by omega) (br_t rfl ?_)
      exact cs_yky_f z2 (br_f (by decide) ⟨rfl, rel⟩)
    · have c1 : (nI c).toNatClampNeg = c := nI_clamp (by omega)
      have i1 : vp_in (nI c) 8 := vp_in_nI (by omega) (by omega)
      have eo : cs_B ob (nI c).toNatClampNeg = cs_bI (ob c) := by rw [c1]; rfl
      unfold wpX_write
      refine cs_xcl_t hc (by omega) (br_f (by decide) ?_)
      refine cs_xky_t hq (by omega) (br_f (by decide) (And.intro i1 ?_))
      refine cs_bz eo (fun z => ?_) (fun z => ?_)
      · by_cases hn2 : n < 32
        · have hh := hhf c
          have hP := hW.2.2.2.1
          have hmod : q % S < S := Nat.mod_lt _ (by omega)
          obtain ⟨r1, r2, r3, r4, r5, r6, r7, r8⟩ := hRp (hf c) hh
          obtain ⟨tc, htc, hTc⟩ := r5 (q % S) hmod
          obtain ⟨x0, x1, x2, x3, t, ht, hT⟩ := hCl c hc
          have htn : t ≤ n := by
            rcases hT.2 with y | ⟨w, _, y⟩
            · omega
            · have := hW.2.2.1 w; omega
          have htcn : tc ≤ n := by
            rcases hTc.2 with y | ⟨w, _, y⟩
            · omega
            · have := hW.2.2.1 w; omega
          refine br_t (nI_lt (b := 32) hn2 (by decide)) (nm_r (nI_1 n) ?_)
          refine cs_xdes (t := t) (tc := tc) (q := hf c) hn2 (by omega) (by omega) (by omega) hS1 hS4 rfl ht htc (by omega) (by omega) (fun s s1 s2 => ?_)
          have hTs : cs_Tm tf (fun w => w < n ∧ ((A (hf c) w = true ∧ kf w % S = q % S) ∨ X c w = true)) s := by
            have fl : ∀ w, (X c w = true ∨ (A (hf c) w = true ∧ kf w % S = q % S)) ↔ (w < n ∧ ((A (hf c) w = true ∧ kf w % S = q % S) ∨ X c w = true)) := fun w => by
              constructor
              · rintro (y | y)
                · exact ⟨x0 w y, Or.inr y⟩
                · exact ⟨r1 w y.1, Or.inl y⟩
              · rintro ⟨_, y | y⟩
                · exact Or.inr y
                · exact Or.inl y
            rcases Nat.le_total tc t with y | y
            · rw [s1 y]; exact cs_Tm_iff fl (cs_Tm_l hT hTc y)
            · rw [s2 y]; exact cs_Tm_iff fl (cs_Tm_r hT hTc y)
          have nW := cs_new_W (c := c) (X := X) (A := A) hW hq hh x0 x1 hAo hTs
          have nX := cs_new_X (c := c) (k := q) (q := hf c) (t := s) (kf := kf) (og := og) (X := X) (xso := xso) hP hX (hCl c hc) rfl rfl rfl
          have nsb := cs_sfb hR4 hK8 (show n + 1 ≤ 32 by omega) nW
          have eN1 : upd (cs_N kf) n (nI q) = cs_N (cs_u kf n q) := cs_N_up kf n q
          have eN2 : upd (cs_N tf) n (nI (s + 1)) = cs_N (cs_u tf n (s + 1)) := cs_N_up tf n (s + 1)
          rw [eN1, eN2]
          refine cs_xlink (n := n + 1) (w := n) (kf := cs_u kf n q) (sf := cs_sf (cs_u kf n q) (cs_u tf n (s + 1)) (cs_u og n (hf c))) hn2 hK8 (nW.1 n) rfl (fun w hw => (nX w (by omega)).1) nsb (cs_Ch_cong (fun w hw => cs_un (by omega)) (fun w hw => cs_new_sf hw) hCh)
            (fun w hw e1 e2 => by have := cs_inj hR4 nW (by omega) (by omega) e1 e2; omega) (fun ol ch hCh' => And.intro i1 ?_)
          have eh : cs_N hf (nI c).toNatClampNeg = nI (hf c) := by rw [c1]; rfl
          rw [eh]
          have nR : ∀ p, p < R → cs_Rp (n + 1) K S (cs_u kf n q) (cs_u tf n (s + 1)) (cs_u og n (hf c)) (cs_u P n (X c)) (A p) p xar xvi xne xck (upd xst (hf c * 4 + q % S) (xst (hf c * 4 + q % S) ||| ((1 : Int32) <<< (nI n &&& 31)))) xbl xwa := fun p hp => cs_new_R hn2 hS1 hS4 hP (hRp p hp) rfl
          refine cs_xarr (n := n + 1) (w := n) hh hR4 (by omega) hK8 hS1 hS4 nW (by omega) (fun y => by have := r1 n y; omega) (fun _ => rfl) (fun _ => rfl) (fun w hw => (nX w hw).1) nsb (nX n (by omega)).2.2 (nR (hf c) hh) (fun ar vi ne ck bl wa y1 y2 => ?_)
          refine cs_xtk (n := n + 1) (b := some n) (P := cs_u P n (X c)) (tf := cs_u tf n (s + 1)) (D := X c) (by omega) (by omega) nW.2.2.2.1 nW.2.2.2.2.1 nW.2.2.1 (fun _ => rfl) (fun w hw => (nX w hw).2.1) (fun w e => by cases e; omega) (cs_new_C (hCl c hc)) (fun co fr se y3 y4 => ?_)
          have eD : cs_tko (X c) (cs_u P n (X c)) (some n) = cs_u (X c) n true := by
            funext w
            show cs_tk (X c) (cs_u P n (X c)) n w = _
            unfold cs_tk
            rw [cs_us]
            by_cases e : w = n
            · rw [e, cs_us]; simp
            · rw [cs_un e, decide_eq_false e]; simp
          rw [eD] at y3
          refine cs_ywr hn2 hC8 hK8 hR4 hc hq (Bool.eq_false_iff.mpr z) hh hS1 hS4 (cs_kf8 hK8 hW) (fun w => by have := hW.2.2.1 w; omega) (fun s' hs' => ?_)
          rw [cs_Tm_u hs' hTs]
          have eP : cs_pt P n n (X c) = cs_u P n (X c) := cs_pt_u P n n (X c) (fun w hw => by
            have a1 : X c w = false := Bool.eq_false_iff.mpr fun y => by have := x0 w y; omega
            have a2 : P n w = false := Bool.eq_false_iff.mpr fun y => by have := (hP.1 _ _ y).2; omega
            rw [a1, a2])
          rw [eP]
          refine ⟨rfl, cs_mk ⟨⟨hR2, hR4, hK2, hK8, hS1, hS4, hC1, hC8, by omega⟩, nW, nX, hCh', cs_Rp_all hK8 hS4 nR y1 y2, fun w hw => ?_, fun p hp => ?_, hhf, fun p hp => ?_⟩⟩
          · by_cases e : w = n
            · rw [e, cs_us]; exact if_pos ⟨rfl, rfl⟩
            · rw [cs_un e]
              unfold cs_u2
              rw [if_neg fun y => e y.2]
              exact hAo w (by omega)
          · by_cases e : p = c
            · rw [e, cs_u2r]; exact y3
            · rw [cs_u2n X n true e]; exact cs_Cl_oc e y4 (cs_new_C (hCl p hp))
          · obtain ⟨w1, w2, w3⟩ := hTr p hp
            exact ⟨w1, w2, fun j hj y5 y6 => ⟨(w3 j hj y5 y6).1, fun w e => by have := (w3 j hj y5 y6).2 w e; omega⟩⟩
        · refine br_f (nI_nlt (b := 32) (by omega) (by omega)) ?_
          unfold wpY_write
          refine cs_ycl_t hc (by omega) (br_t rfl ?_)
          refine cs_yky_t hq (by omega) (br_t rfl (And.intro i1 ?_))
          exact cs_bz eo (fun _ => br_f (nI_nlt (b := 32) (by omega) (by omega)) ⟨rfl, rel⟩) (fun y => absurd y z)
      · unfold wpY_write
        refine cs_ycl_t hc (by omega) (br_t rfl ?_)
        refine cs_yky_t hq (by omega) (br_t rfl (And.intro i1 ?_))
        exact cs_bz eo (fun y => absurd z y) (fun _ => ⟨rfl, rel⟩)
end
section
/-! the constructors -/
theorem cs_clamp (x a' b' : Int32) {a b : Nat} (hab : a ≤ b) (hb : b ≤ 32) (ea : a' = nI a := by rfl) (eb : b' = nI b := by rfl) : ∃ m, a ≤ m ∧ m ≤ b ∧
    (∀ (post : Int32 → Prop) (g1 g2 g3 g4 g5 : Int32) (xko xvo xti xso xpo xno xol xch xar xvi xne xck xst xbl xwa xho xco xfr xse xtr xaq xfe xre : Nat → Int32), post (nI m) → wpX_clamp post (g1, g2, g3, g4, g5, xko, xvo, xti, xso, xpo, xno, xol, xch, xar, xvi, xne, xck, xst, xbl, xwa, xho, xco, xfr, xse, xtr, xaq, xfe, xre) x a' b') ∧
    (∀ (post : Int32 → Prop) (g1 g2 g3 g4 g5 : Int32) (h1 h2 h3 h4 h5 h6 h7 h8 h9 h10 h11 h12 h13 : Nat → Int32), post (nI m) → wpY_clamp post (g1, g2, g3, g4, g5, h1, h2, h3, h4, h5, h6, h7, h8, h9, h10, h11, h12, h13) x a' b') := by
  subst ea eb
  by_cases h1 : nI a ≤ x
  · by_cases h2 : x ≤ nI b
    · have nx : ¬ x < 0 := fun z => nI_pos (n := a) (by omega) (Int32.lt_of_le_of_lt h1 z)
      obtain ⟨j, hj, rfl⟩ := nI_of nx
      have e1 := (nI_leI (by omega) hj).mp h1
      have e2 := (nI_leI hj (by omega)).mp h2
      exact ⟨j, e1, e2, fun post _ _ _ _ _ _ _ _ _ _ _ _ _ _ _ _ _ _ _ _ _ _ _ _ _ _ _ _ hp => br_t h1 (br_t h2 hp), fun post _ _ _ _ _ _ _ _ _ _ _ _ _ _ _ _ _ _ hp => br_t h1 (br_t h2 hp)⟩
    · exact ⟨b, hab, Nat.le_refl _, fun post _ _ _ _ _ _ _ _ _ _ _ _ _ _ _ _ _ _ _ _ _ _ _ _ _ _ _ _ hp => br_t h1 (br_f h2 hp), fun post _ _ _ _ _ _ _ _ _ _ _ _ _ _ _ _ _ _ hp => br_t h1 (br_f h2 hp)⟩
  · exact ⟨a, Nat.le_refl _, hab, fun post _ _ _ _ _ _ _ _ _ _ _ _ _ _ _ _ _ _ _ _ _ _ _ _ _ _ _ _ hp => br_f h1 hp, fun post _ _ _ _ _ _ _ _ _ _ _ _ _ _ _ _ _ _ hp => br_f h1 hp⟩
def cs_h0 (R i : Nat) : Nat → Nat := fun c => if c < i then c % R else 0
theorem cs_h0_s (R i : Nat) : cs_u (cs_h0 R i) i (i % R) = cs_h0 R (i + 1) := by
  funext j; unfold cs_u cs_h0
  by_cases e : j = i
  · rw [if_pos e, e, if_pos (by omega)]
  · rw [if_neg e]
    by_cases z : j < i
    · rw [if_pos z, if_pos (by omega)]
    · rw [if_neg z, if_neg (by omega)]
section
variable {R K S C n : Nat} {xko xvo xti xso xpo xno xol xch xar xvi xne xck xst xbl xwa xho xco xfr xse xtr xaq xfe xre : Nat → Int32}
theorem cs_xi3 {post : SX → Prop} (hC : C ≤ 8) (hR1 : 1 ≤ R) (hR : R ≤ 4) (h : post (nI R, nI K, nI S, nI C, nI n, xko, xvo, xti, xso, xpo, xno, xol, xch, xar, xvi, xne, xck, xst, xbl, xwa, cs_N (cs_h0 R C), xco, xfr, xse, xtr, xaq, xfe, xre)) : ∀ m i, i ≤ C → C - i < m → wX_init_294 post (nI R) (nI K) (nI S) (nI C) (nI n) m (nI i) xko xvo xti xso xpo xno xol xch xar xvi xne xck xst xbl xwa (cs_N (cs_h0 R i)) xco xfr xse xtr xaq xfe xre := by
  intro m
  induction m with
  | zero => intro i _ h; omega
  | succ m ih =>
    intro i hi hm
    by_cases hi2 : i < C
    · have c1 : (nI i).toNatClampNeg = i := nI_clamp (by omega)
      exact br_f (nI_ge hi2 (by omega)) (And.intro (nI_ne0 (by omega) (by omega)) (And.intro (vp_in_nI (by omega) (by omega)) (nm_r (e' := cs_N (cs_h0 R (i + 1))) (by rw [c1, pk_rem (by omega) (by omega) (by omega), cs_N_up, cs_h0_s]) (nm_r (nI_1 i) (ih (i + 1) (by omega) (by omega))))))
    · have e : i = C := by omega
      subst e
      exact br_t (nI_le (by omega) (by omega)) h
theorem cs_xi2 {post : SX → Prop} (h : ∀ ch, (∀ j, j < 8 → ch j = -1) → ∃ m : Nat, wX_init_294 post (nI R) (nI K) (nI S) (nI C) (nI n) m 0 xko xvo xti xso xpo xno xol ch xar xvi xne xck xst xbl xwa xho xco xfr xse xtr xaq xfe xre) : ∀ m i ch, i ≤ 8 → 8 - i < m → (∀ j, j < i → ch j = -1) → wX_init_270 post (nI R) (nI K) (nI S) (nI C) (nI n) m (nI i) xko xvo xti xso xpo xno xol ch xar xvi xne xck xst xbl xwa xho xco xfr xse xtr xaq xfe xre := by
  intro m
  induction m with
  | zero => intro i _ _ h; omega
  | succ m ih =>
    intro i ch hi hm hc
    by_cases hi2 : i < 8
    · have c1 : (nI i).toNatClampNeg = i := nI_clamp (by omega)
      refine br_f (nI_ge (b := 8) hi2 (by decide)) (And.intro (vp_in_nI (by omega) (by omega)) (nm_r (e' := upd ch i (-1)) (by rw [c1]) (nm_r (nI_1 i) (ih (i + 1) _ (by omega) (by omega) (fun j hj => ?_)))))
      by_cases e : j = i
      · rw [e, pk_us]
      · rw [pk_un e]; exact hc j (by omega)
    · have e : i = 8 := by omega
      subst e
      exact br_t (nI_le (a := 8) (by omega) (by omega)) (h ch hc)
theorem cs_xi1 {post : SX → Prop} (h : ∀ ne ol, (∀ j, j < 32 → ne j = -1) → ∃ m : Nat, wX_init_270 post (nI R) (nI K) (nI S) (nI C) (nI n) m 0 xko xvo xti xso xpo xno ol xch xar xvi ne xck xst xbl xwa xho xco xfr xse xtr xaq xfe xre) : ∀ m i ne ol, i ≤ 32 → 32 - i < m → (∀ j, j < i → ne j = -1) → wX_init_238 post (nI R) (nI K) (nI S) (nI C) (nI n) m (nI i) xko xvo xti xso xpo xno ol xch xar xvi ne xck xst xbl xwa xho xco xfr xse xtr xaq xfe xre := by
  intro m
  induction m with
  | zero => intro i _ _ _ h; omega
  | succ m ih =>
    intro i ne ol hi hm hc
    by_cases hi2 : i < 32
    · have c1 : (nI i).toNatClampNeg = i := nI_clamp (by omega)
      have i1 : vp_in (nI i) 32 := vp_in_nI (by omega) (by omega)
      refine br_f (nI_ge (b := 32) hi2 (by decide)) (And.intro i1 (nm_r (e' := upd ne i (-1)) (by rw [c1]) (And.intro i1 (nm_r (e' := upd ol i (-1)) (by rw [c1]) (nm_r (nI_1 i) (ih (i + 1) _ _ (by omega) (by omega) (fun j hj => ?_)))))))
      by_cases e : j = i
      · rw [e, pk_us]
      · rw [pk_un e]; exact hc j (by omega)
    · have e : i = 32 := by omega
      subst e
      exact br_t (nI_le (a := 32) (by omega) (by omega)) (h ne ol hc)
end
section
variable {R K S C n : Nat} {kf tf og hf : Nat → Nat} {P A X : Nat → Nat → Bool} {ob : Nat → Bool} {Q F : Nat → Nat → Bool} {G : Nat → Nat → Option Nat} {vo fi : Nat → Int32}
theorem cs_yi {post : SY → Prop} (hC : C ≤ 8) (hR1 : 1 ≤ R) (hR : R ≤ 4) (h : post (nI R, nI K, nI S, nI C, nI n, cs_N kf, vo, cs_N og, cs_N tf, cs_M 32 P, cs_M 32 A, cs_M 32 X, cs_N (cs_h0 R C), cs_B ob, cs_M 8 Q, cs_M 8 F, cs_O 8 G, fi)) : ∀ m i, i ≤ C → C - i < m → wY_init_161 post (nI R) (nI K) (nI S) (nI C) (nI n) m (nI i) (cs_N kf) vo (cs_N og) (cs_N tf) (cs_M 32 P) (cs_M 32 A) (cs_M 32 X) (cs_N (cs_h0 R i)) (cs_B ob) (cs_M 8 Q) (cs_M 8 F) (cs_O 8 G) fi := by
  intro m
  induction m with
  | zero => intro i _ h; omega
  | succ m ih =>
    intro i hi hm
    by_cases hi2 : i < C
    · have c1 : (nI i).toNatClampNeg = i := nI_clamp (by omega)
      exact br_f (nI_ge hi2 (by omega)) (And.intro (nI_ne0 (by omega) (by omega)) (And.intro (vp_in_nI (by omega) (by omega)) (nm_r (e' := cs_N (cs_h0 R (i + 1))) (by rw [c1, pk_rem (by omega) (by omega) (by omega), cs_N_up, cs_h0_s]) (nm_r (nI_1 i) (ih (i + 1) (by omega) (by omega))))))
    · have e : i = C := by omega
      subst e
      exact br_t (nI_le (by omega) (by omega)) h
end
theorem cs_i0 {R K S C : Nat} {xne xol xch : Nat → Int32} (hR2 : 2 ≤ R) (hR4 : R ≤ 4) (hK2 : 2 ≤ K) (hK8 : K ≤ 8) (hS1 : 1 ≤ S) (hS4 : S ≤ 4) (hC1 : 1 ≤ C) (hC8 : C ≤ 8) (hne : ∀ j, j < 32 → xne j = -1) (hch : ∀ j, j < 8 → xch j = -1) :
    cs_Inv R K S C 0 (fun _ => 0) (fun _ => 0) (fun _ => 0) (cs_h0 R C) (fun _ _ => false) (fun _ _ => false) (fun _ _ => false) (fun _ _ => false) (fun _ _ => false) (fun _ _ => some 0) (fun _ => 0) (fun _ => 0) (fun _ => 0) xol xch (fun _ => 0) (fun _ => 0) xne (fun _ => 0) (fun _ => 0) (fun _ => 0) (fun _ => 0) (fun _ => 0) (fun _ => 0) (fun _ => 0) (fun _ => 0) (fun _ => 0) (fun _ => 0) := by
  have ff : ∀ {p : Prop}, (false = true) → p := fun h => absurd h (by decide)
  have h0 : ∀ m, ¬ cs_h 0 m := cs_h_0
  refine ⟨⟨hR2, hR4, hK2, hK8, hS1, hS4, hC1, hC8, by omega⟩, ⟨fun _ => ?_, fun _ => ?_, fun _ => Nat.le_refl _, ⟨fun _ _ h => ff h, fun _ _ _ h => ff h⟩, fun _ _ h => ff h, fun v w _ hw => absurd hw (by omega)⟩, fun w hw => absurd hw (by omega), fun k hk => ⟨[], hch k (by omega), List.Pairwise.nil, fun w => ⟨fun y => (nomatch y), fun y => absurd y.1 (by omega)⟩⟩,
    fun r hr => ⟨fun w h => ff h, fun w => ⟨fun y => absurd y (h0 w), fun y => ff y⟩, fun w => ⟨fun y => absurd y (h0 w), fun y => ff y.1⟩, fun k hk => ⟨none, hne _ (by omega), fun w y => ff y.2.1⟩, fun s hs => ⟨0, rfl, fun w y => ff y.1, Or.inl rfl⟩, fun s hs w => ⟨fun y => absurd y (h0 w), fun y => absurd y.1 (by omega)⟩,
      fun w hw v => ⟨fun y => absurd y (h0 v), fun y => ff y.1⟩, fun d hd w => ⟨fun y => absurd y (h0 w), fun y => ff y.1⟩⟩, fun w hw => absurd hw (by omega),
    fun c hc => ⟨fun w y => ff y, fun w v y => ff y, fun w => ⟨fun y => absurd y (h0 w), fun y => ff y⟩, fun v => ⟨fun y => absurd y (h0 v), fun y => ff y.1⟩, 0, rfl, fun w y => ff y, Or.inl rfl⟩, fun c => ?_,
    fun c hc => ⟨fun k => ⟨fun y => absurd y (h0 k), fun y => ff y.2⟩, fun k hk => ⟨fun y => absurd y (h0 k), fun y => ff y⟩, fun k hk y => ff y⟩⟩
  · show 0 < K; omega
  · show 0 < R; omega
  · unfold cs_h0
    split
    · exact Nat.mod_lt _ (by omega)
    · omega
theorem i_vc0 (k0 : Int32) (k1 : Int32) (k2 : Int32) (k3 : Int32) : wpX_init (fun u => wpY_init (fun v => i_Rel 4 u v) k0 k1 k2 k3) k0 k1 k2 k3 := by
  obtain ⟨R, hR2, hR4, xR, yR⟩ := cs_clamp k0 2 4 (a := 2) (b := 4) (by omega) (by omega)
  obtain ⟨K, hK2, hK8, xK, yK⟩ := cs_clamp k1 2 8 (a := 2) (b := 8) (by omega) (by omega)
  obtain ⟨S, hS1, hS4, xS, yS⟩ := cs_clamp k2 1 4 (a := 1) (b := 4) (by omega) (by omega)
  obtain ⟨C, hC1, hC8, xC, yC⟩ := cs_clamp k3 1 8 (a := 1) (b := 8) (by omega) (by omega)
  have z1 : cs_N (fun _ => 0) = fun _ => 0 := rfl
  have z2 : ∀ R, cs_N (cs_h0 R 0) = fun _ => 0 := fun R => by
    funext j; unfold cs_N cs_h0; rw [if_neg (by omega)]; rfl
  unfold wpX_init
  refine xR _ _ _ _ _ _ _ _ _ _ _ _ _ _ _ _ _ _ _ _ _ _ _ _ _ _ _ _ _ ?_
  refine xK _ _ _ _ _ _ _ _ _ _ _ _ _ _ _ _ _ _ _ _ _ _ _ _ _ _ _ _ _ ?_
  refine xS _ _ _ _ _ _ _ _ _ _ _ _ _ _ _ _ _ _ _ _ _ _ _ _ _ _ _ _ _ ?_
  refine xC _ _ _ _ _ _ _ _ _ _ _ _ _ _ _ _ _ _ _ _ _ _ _ _ _ _ _ _ _ ?_
  refine Exists.intro 33 (cs_xi1 (n := 0) (fun ne ol hne => Exists.intro 9 (cs_xi2 (n := 0) (fun ch hch => Exists.intro 9 ?_) 9 0 _ (by omega) (by omega) (fun j hj => by omega))) 33 0 _ _ (by omega) (by omega) (fun j hj => by omega))
  have key := cs_xi3 (R := R) (K := K) (S := S) (C := C) (n := 0) (xko := fun _ => 0) (xvo := fun _ => 0) (xti := fun _ => 0) (xso := fun _ => 0) (xpo := fun _ => 0) (xno := fun _ => 0) (xol := ol) (xch := ch) (xar := fun _ => 0) (xvi := fun _ => 0) (xne := ne) (xck := fun _ => 0) (xst := fun _ => 0) (xbl := fun _ => 0) (xwa := fun _ => 0) (xco := fun _ => 0) (xfr := fun _ => 0) (xse := fun _ => 0) (xtr := fun _ => 0) (xaq := fun _ => 0) (xfe := fun _ => 0) (xre := fun _ => 0)
    (post := fun u => wpY_init (fun v => i_Rel 4 u v) k0 k1 k2 k3) hC8 (by omega) hR4 (by
      unfold wpY_init
      refine yR _ _ _ _ _ _ _ _ _ _ _ _ _ _ _ _ _ _ _ ?_
      refine yK _ _ _ _ _ _ _ _ _ _ _ _ _ _ _ _ _ _ _ ?_
      refine yS _ _ _ _ _ _ _ _ _ _ _ _ _ _ _ _ _ _ _ ?_
      refine yC _ _ _ _ _ _ _ _ _ _ _ _ _ _ _ _ _ _ _ ?_
      have fin := cs_mk (k := 4) (ob := fun _ => false) (vo := fun _ => 0) (fi := fun _ => 0) (cs_i0 (xol := ol) hR2 hR4 hK2 hK8 hS1 hS4 hC1 hC8 hne hch)
      have key2 := cs_yi (R := R) (K := K) (S := S) (C := C) (n := 0) (kf := fun _ => 0) (tf := fun _ => 0) (og := fun _ => 0) (P := fun _ _ => false) (A := fun _ _ => false) (X := fun _ _ => false) (ob := fun _ => false) (Q := fun _ _ => false) (F := fun _ _ => false) (G := fun _ _ => some 0) (vo := fun _ => 0) (fi := fun _ => 0) hC8 (by omega) hR4 fin 9 0 (by omega) (by omega)
      rw [z2] at key2
      exact Exists.intro 9 key2) 9 0 (by omega) (by omega)
  rw [z2] at key
  exact key
end
