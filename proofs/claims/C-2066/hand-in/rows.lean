section
theorem pk_us {f : Nat → Int32} {k : Nat} {x : Int32} : upd f k x k = x := if_pos rfl
theorem pk_un {f : Nat → Int32} {k j : Nat} {x : Int32} (h : j ≠ k) : upd f k x j = f j := if_neg h
theorem pk_sub {a b : Nat} (h : b ≤ a) : nI a - nI b = nI (a - b) := by
  obtain ⟨c, rfl⟩ : ∃ c, a = c + b := ⟨a - b, by omega⟩
  rw [← nI_add, Int32.add_sub_cancel, Nat.add_sub_cancel]
theorem pk_m1 (n : Nat) : nI (n + 1) + (-1) = nI n := by
  rw [← nI_1, Int32.add_assoc, show (1 : Int32) + (-1) = 0 from rfl, Int32.add_zero]
theorem pk_mul (a b : Nat) : nI a * nI b = nI (a * b) := (Int32.ofNat_mul a b).symm
theorem pk_div {a d : Nat} (ha : a < 2 ^ 31) (h0 : 0 < d) (hd : d < 2 ^ 31) : nI a / nI d = nI (a / d) := by
  apply Int32.toInt_inj.mp
  rw [lg_idiv_nonneg (by rw [nI_toInt ha]; omega) (by rw [nI_toInt hd]; omega), nI_toInt ha, nI_toInt hd, nI_toInt (Nat.lt_of_le_of_lt (Nat.div_le_self a d) ha)]
  first | rfl | exact (Int.natCast_ediv _ _).symm
theorem pk_rem {a d : Nat} (ha : a < 2 ^ 31) (h0 : 0 < d) (hd : d < 2 ^ 31) : nI a - nI a / nI d * nI d = nI (a % d) := by
  rw [pk_div ha h0 hd, pk_mul, pk_sub (Nat.div_mul_le_self a d)]
  exact congrArg nI (by have := Nat.div_add_mod' a d; omega)
theorem pk_sub_toInt {a b : Nat} (ha : a < 2 ^ 30) (hb : b < 2 ^ 30) : (nI a - nI b).toInt = (a : Int) - b := by
  rw [Int32.toInt_sub, nI_toInt (by omega), nI_toInt (by omega)]
  exact Int.bmod_eq_of_le (by omega) (by omega)
theorem pk_sneg {a b : Nat} (hb : b < 2 ^ 30) (h : a < b) : nI a - nI b < 0 := by
  rw [Int32.lt_iff_toInt_lt, pk_sub_toInt (by omega) hb, show (0 : Int32).toInt = 0 from by decide]
  omega
theorem pk_ix (x : Int32) {n : Nat} (hn : n < 2 ^ 31) : x < 0 ∨ nI n ≤ x ∨ ∃ j : Nat, j < n ∧ x = nI j := by
  by_cases h : x < 0
  · exact Or.inl h
  · obtain ⟨j, hj, rfl⟩ := nI_of h
    by_cases h2 : j < n
    · exact Or.inr (Or.inr ⟨j, h2, rfl⟩)
    · exact Or.inr (Or.inl (nI_le (by omega) hj))
theorem pk_le {x y : Int32} {A B : Prop} (a b : Nat) (f : a ≤ b → A) (g : b < a → B) (hx : x = nI a := by rfl) (hy : y = nI b := by rfl) (ha : a < 2 ^ 31 := by omega) (hb : b < 2 ^ 31 := by omega) : (x ≤ y → A) ∧ (¬ x ≤ y → B) := by
  subst hx hy
  rw [nI_leI ha hb]
  exact ⟨f, fun z => g (by omega)⟩
theorem pk_lt {x y : Int32} {A B : Prop} (a b : Nat) (f : a < b → A) (g : b ≤ a → B) (hx : x = nI a := by rfl) (hy : y = nI b := by rfl) (ha : a < 2 ^ 31 := by omega) (hb : b < 2 ^ 31 := by omega) : (x < y → A) ∧ (¬ x < y → B) := by
  subst hx hy
  rw [nI_ltI ha hb]
  exact ⟨f, fun z => g (by omega)⟩
theorem pk_eq {x y : Int32} {A B : Prop} (a b : Nat) (f : a = b → A) (g : a ≠ b → B) (hx : x = nI a := by rfl) (hy : y = nI b := by rfl) (ha : a < 2 ^ 31 := by omega) (hb : b < 2 ^ 31 := by omega) : (x = y → A) ∧ (¬ x = y → B) := by
  subst hx hy
  rw [nI_eq ha hb]
  exact ⟨f, g⟩
theorem pk_in {x : Int32} (n N : Nat) (h : n < N) (hx : x = nI n := by rfl) (hN : N < 2 ^ 31 := by omega) : vp_in x N := by
  subst hx
  exact vp_in_nI h hN
theorem pk_cl {x : Int32} (n : Nat) (hx : x = nI n := by rfl) (h : n < 2 ^ 31 := by omega) : x.toNatClampNeg = n := by
  subst hx
  exact nI_clamp h
theorem pk_tn {n : Nat} (h : n < 2 ^ 32) : (nI n).toBitVec.toNat = n := Nat.mod_eq_of_lt h
theorem pk_and (x : Int32) {m : Int32} (k : Nat) (hm : m.toBitVec.toNat = 2 ^ k - 1) : x &&& m = nI (x.toBitVec.toNat % 2 ^ k) := by
  apply Int32.toBitVec_inj.mp
  apply BitVec.eq_of_toNat_eq
  rw [Int32.toBitVec_and, BitVec.toNat_and, hm, Nat.and_two_pow_sub_one_eq_mod]
  show _ = (BitVec.ofNat 32 _).toNat
  rw [BitVec.toNat_ofNat]
  exact (Nat.mod_eq_of_lt (Nat.lt_of_le_of_lt (Nat.mod_le _ _) x.toBitVec.isLt)).symm
theorem pk_andN {n : Nat} (h : n < 2 ^ 32) {m : Int32} (k : Nat) (hm : m.toBitVec.toNat = 2 ^ k - 1) : nI n &&& m = nI (n % 2 ^ k) := by
  rw [pk_and _ k hm, pk_tn h]
theorem pk_andE (x : Int32) {m : Int32} (k : Nat) (hm : m.toBitVec.toNat = 2 ^ k - 1) : ∃ j : Nat, j < 2 ^ k ∧ x &&& m = nI j := ⟨_, Nat.mod_lt _ (Nat.two_pow_pos k), pk_and x k hm⟩
theorem pk_andIn (x : Int32) {m : Int32} (k : Nat) (hm : m.toBitVec.toNat = 2 ^ k - 1) (hk : k ≤ 30) : vp_in (x &&& m) (2 ^ k) := by
  obtain ⟨j, hj, e⟩ := pk_andE x k hm
  rw [e]
  exact vp_in_nI hj (Nat.lt_of_le_of_lt (Nat.pow_le_pow_right (by decide) hk) (by decide))
theorem pk_shl (a s : Int32) (k : Nat) (hs : (s.toBitVec.smod 32).toNat = k) : (a <<< s).toBitVec.toNat = a.toBitVec.toNat * 2 ^ k % 2 ^ 32 := by
  show (a.toBitVec <<< (s.toBitVec.smod 32).toNat).toNat = _
  rw [hs, BitVec.toNat_shiftLeft, Nat.shiftLeft_eq]
theorem pk_shlN {n : Nat} (s : Int32) (k : Nat) (hs : (s.toBitVec.smod 32).toNat = k) (h : n * 2 ^ k < 2 ^ 32) : nI n <<< s = nI (n * 2 ^ k) := by
  apply Int32.toBitVec_inj.mp
  apply BitVec.eq_of_toNat_eq
  have hn : n < 2 ^ 32 := Nat.lt_of_le_of_lt (Nat.le_mul_of_pos_right n (Nat.two_pow_pos k)) h
  rw [pk_shl _ _ k hs, pk_tn hn, pk_tn h, Nat.mod_eq_of_lt h]
theorem pk_shr (a s : Int32) (k : Nat) (hs : (s.toBitVec.smod 32).toNat = k) : (a >>> s).toInt = a.toInt >>> k := by
  show (a.toBitVec.sshiftRight (s.toBitVec.smod 32).toNat).toInt = _
  rw [hs, BitVec.toInt_sshiftRight]
  rfl
theorem pk_shrN {n : Nat} (h : n < 2 ^ 31) (s : Int32) (k : Nat) (hs : (s.toBitVec.smod 32).toNat = k) : nI n >>> s = nI (n / 2 ^ k) := by
  apply Int32.toInt_inj.mp
  have h2 : n / 2 ^ k ≤ n := Nat.div_le_self _ _
  rw [pk_shr _ _ k hs, nI_toInt h, nI_toInt (by omega), Int.shiftRight_eq_div_pow]
  rfl
theorem pk_vb (z : Int32) : vp_nar .byte z.toInt8.toInt32 = z.toInt8.toInt32 := by rw [vp_nar_byte]; simp
theorem pk_vs (z : Int32) : vp_nar .short z.toInt16.toInt32 = z.toInt16.toInt32 := by rw [vp_nar_short]; simp
/-! ===== Int32 by its bits: bt x i ===== -/
def bt (x : Int32) (i : Nat) : Bool := x.toBitVec.getLsbD i
theorem b_ext {x y : Int32} (h : ∀ i, i < 32 → bt x i = bt y i) : x = y := Int32.toBitVec_inj.mp (BitVec.eq_of_getLsbD_eq (fun i hi => h i hi))
theorem b_or (x y : Int32) (i : Nat) : bt (x ||| y) i = (bt x i || bt y i) := by unfold bt; rw [Int32.toBitVec_or, BitVec.getLsbD_or]
theorem b_and (x y : Int32) (i : Nat) : bt (x &&& y) i = (bt x i && bt y i) := by unfold bt; rw [Int32.toBitVec_and, BitVec.getLsbD_and]
theorem b_xor (x y : Int32) (i : Nat) : bt (x ^^^ y) i = (bt x i ^^ bt y i) := by unfold bt; rw [Int32.toBitVec_xor, BitVec.getLsbD_xor]
theorem b_big {x : Int32} {i : Nat} (h : 32 ≤ i) : bt x i = false := BitVec.getLsbD_of_ge _ _ h
theorem b_255 (i : Nat) : bt 255 i = decide (i < 8) := by
  rcases Nat.lt_or_ge i 32 with h | h
  · exact (by decide +kernel : ∀ i, i < 32 → bt 255 i = decide (i < 8)) i h
  · rw [b_big h, decide_eq_false (by omega)]
theorem b_65535 (i : Nat) : bt 65535 i = decide (i < 16) := by
  rcases Nat.lt_or_ge i 32 with h | h
  · exact (by decide +kernel : ∀ i, i < 32 → bt 65535 i = decide (i < 16)) i h
  · rw [b_big h, decide_eq_false (by omega)]
theorem b_m1 : ∀ i, i < 32 → bt (-1) i = true := by decide +kernel
theorem b_0 (i : Nat) : bt 0 i = false := BitVec.getLsbD_zero
theorem s_l : ∀ n, n < 32 → ((nI n &&& 31).toBitVec.smod 32).toNat = n := by decide +kernel
theorem s_u : ∀ n, n < 32 → (((nI n).toUInt32 &&& Int32.toUInt32 31).toBitVec % 32).toNat = n := by decide +kernel
theorem b_shl (n : Nat) (hn : n < 32) (x : Int32) {i : Nat} (hi : i < 32) : bt (x <<< (nI n &&& 31)) i = (decide (n ≤ i) && bt x (i - n)) := by
  unfold bt
  rw [Int32.toBitVec_shiftLeft]
  show (x.toBitVec <<< ((nI n &&& 31).toBitVec.smod 32).toNat).getLsbD i = _
  rw [s_l n hn, BitVec.getLsbD_shiftLeft]
  rcases Nat.lt_or_ge i n with h | h
  · simp [h, Nat.not_le.mpr h]
  · simp [hi, h, Nat.not_lt.mpr h]
theorem b_ushr (n : Nat) (hn : n < 32) (x : Int32) (i : Nat) : bt ((x.toUInt32 >>> ((nI n).toUInt32 &&& Int32.toUInt32 31)).toInt32) i = bt x (n + i) := by
  show (x.toUInt32 >>> ((nI n).toUInt32 &&& Int32.toUInt32 31)).toBitVec.getLsbD i = x.toUInt32.toBitVec.getLsbD (n + i)
  rw [UInt32.toBitVec_shiftRight]
  show (x.toUInt32.toBitVec >>> (((nI n).toUInt32 &&& Int32.toUInt32 31).toBitVec % 32).toNat).getLsbD i = _
  rw [s_u n hn, BitVec.getLsbD_ushiftRight]
theorem b_sshr (n : Nat) (hn : n < 32) (x : Int32) {i : Nat} (hi : i < 32) : bt (x >>> (nI n &&& 31)) i = if n + i < 32 then bt x (n + i) else bt x 31 := by
  unfold bt
  rw [Int32.toBitVec_shiftRight]
  show (x.toBitVec.sshiftRight ((nI n &&& 31).toBitVec.smod 32).toNat).getLsbD i = _
  rw [s_l n hn, BitVec.getLsbD_sshiftRight, BitVec.msb_eq_getLsbD_last]
  simp [hi]
theorem b_shl8 (x : Int32) {i : Nat} (hi : i < 32) : bt (x <<< ((8 : Int32) &&& 31)) i = (decide (8 ≤ i) && bt x (i - 8)) := b_shl 8 (by omega) x hi
theorem b_shl16 (x : Int32) {i : Nat} (hi : i < 32) : bt (x <<< ((16 : Int32) &&& 31)) i = (decide (16 ≤ i) && bt x (i - 16)) := b_shl 16 (by omega) x hi
theorem b_shl24 (x : Int32) {i : Nat} (hi : i < 32) : bt (x <<< ((24 : Int32) &&& 31)) i = (decide (24 ≤ i) && bt x (i - 24)) := b_shl 24 (by omega) x hi
theorem b_sshr8 (x : Int32) {i : Nat} (hi : i < 32) : bt (x >>> ((8 : Int32) &&& 31)) i = if 8 + i < 32 then bt x (8 + i) else bt x 31 := b_sshr 8 (by omega) x hi
end
section
/-! base: the code mb_c (0 is -1, m + 1 is m), indicators and counts, lists -/
def mb_c (m : Nat) : Int32 := nI m + (-1)
theorem mb_c0 : mb_c 0 = -1 := by decide
theorem mb_cs (m : Nat) : mb_c (m + 1) = nI m := pk_m1 m
theorem mb_cn {m : Nat} (h : m ≠ 0) : mb_c m = nI (m - 1) := by
  obtain ⟨j, rfl⟩ : ∃ j, m = j + 1 := ⟨m - 1, by omega⟩
  exact mb_cs j
theorem mb_p1 (m : Nat) : mb_c m + 1 = nI m := by
  unfold mb_c
  rw [Int32.add_assoc, show (-1 : Int32) + 1 = 0 from rfl, Int32.add_zero]
theorem mb_m1 (m : Nat) : mb_c (m + 1) + (-1) = mb_c m := by rw [mb_cs]; rfl
theorem mb_int {m : Nat} (h : m < 2 ^ 31) : (mb_c m).toInt = (m : Int) - 1 := by
  cases m with
  | zero => decide
  | succ j => rw [mb_cs, nI_toInt (by omega)]; omega
theorem mb_lt {m : Nat} (h : m < 2 ^ 31) : mb_c m < 0 ↔ m = 0 := by
  rw [Int32.lt_iff_toInt_lt, mb_int h, show (0 : Int32).toInt = 0 from by decide]
  omega
theorem mb_ge {m : Nat} (h : m < 2 ^ 31) : 0 ≤ mb_c m ↔ m ≠ 0 := by
  rw [Int32.le_iff_toInt_le, mb_int h, show (0 : Int32).toInt = 0 from by decide]
  omega
theorem mb_eq {m k : Nat} (h : m < 2 ^ 31) (hk : k < 2 ^ 31) : mb_c m = mb_c k ↔ m = k := by
  rw [← Int32.toInt_inj, mb_int h, mb_int hk]
  omega
theorem mb_le {m k : Nat} (h : m < 2 ^ 31) (hk : k < 2 ^ 31) : mb_c m ≤ mb_c k ↔ m ≤ k := by
  rw [Int32.le_iff_toInt_le, mb_int h, mb_int hk]
  omega
theorem mb_nb : ∀ n, n < 128 → (nI n).toInt8.toInt32 = nI n := by decide +kernel
theorem mb_cb : ∀ m, m < 129 → (mb_c m).toInt8.toInt32 = mb_c m := by decide +kernel
theorem mb_ch : ∀ m, m < 300 → (mb_c m).toInt16.toInt32 = mb_c m := by decide +kernel
theorem mb_vn {n : Nat} (h : n < 128) : vp_nar .byte (nI n) = nI n := by rw [vp_nar_byte, mb_nb n h]
theorem mb_vc {m : Nat} (h : m < 129) : vp_nar .byte (mb_c m) = mb_c m := by rw [vp_nar_byte, mb_cb m h]
theorem mb_vh {m : Nat} (h : m < 300) : vp_nar .short (mb_c m) = mb_c m := by rw [vp_nar_short, mb_ch m h]
theorem mb_vn8 {n : Nat} (h : n < 128) : vp_nar .byte (nI n).toInt8.toInt32 = nI n := by rw [mb_nb n h, mb_vn h]
theorem mb_vc8 {m : Nat} (h : m < 129) : vp_nar .byte (mb_c m).toInt8.toInt32 = mb_c m := by rw [mb_cb m h, mb_vc h]
theorem mb_vh16 {m : Nat} (h : m < 300) : vp_nar .short (mb_c m).toInt16.toInt32 = mb_c m := by rw [mb_ch m h, mb_vh h]
theorem mb_vm1 : vp_nar .byte (-1) = -1 := mb_vc (m := 0) (by omega)
theorem mb_vh1 : vp_nar .short (-1) = -1 := mb_vh (m := 0) (by omega)
theorem mb_vz : vp_nar .byte 0 = 0 := mb_vn (n := 0) (by omega)
noncomputable def mb_i (P : Prop) : Nat := @ite Nat P (Classical.propDecidable P) 1 0
theorem mb_i1 {P : Prop} (h : P) : mb_i P = 1 := by unfold mb_i; exact if_pos h
theorem mb_i0 {P : Prop} (h : ¬ P) : mb_i P = 0 := by unfold mb_i; exact if_neg h
theorem mb_ic {P Q : Prop} (h : P ↔ Q) : mb_i P = mb_i Q := by rw [propext h]
theorem mb_il (P : Prop) : mb_i P ≤ 1 := by
  by_cases h : P
  · rw [mb_i1 h]; omega
  · rw [mb_i0 h]; omega
noncomputable def mb_n (P : Nat → Prop) : Nat → Nat
  | 0 => 0
  | n + 1 => mb_n P n + mb_i (P n)
theorem mb_n_c {P Q : Nat → Prop} : ∀ {n : Nat}, (∀ e, e < n → (P e ↔ Q e)) → mb_n P n = mb_n Q n
  | 0, _ => rfl
  | n + 1, h => by
    show mb_n P n + mb_i (P n) = mb_n Q n + mb_i (Q n)
    rw [mb_n_c (n := n) (fun e he => h e (by omega)), mb_ic (h n (by omega))]
theorem mb_n_0 {P : Nat → Prop} : ∀ {n : Nat}, (∀ e, e < n → ¬ P e) → mb_n P n = 0
  | 0, _ => rfl
  | n + 1, h => by
    show mb_n P n + mb_i (P n) = 0
    rw [mb_n_0 (n := n) (fun e he => h e (by omega)), mb_i0 (h n (by omega))]
theorem mb_n_le (P : Nat → Prop) : ∀ n, mb_n P n ≤ n
  | 0 => Nat.le_refl 0
  | n + 1 => by
    show mb_n P n + mb_i (P n) ≤ n + 1
    have h1 := mb_n_le P n
    have h2 := mb_il (P n)
    omega
theorem mb_n_ins {P Q : Nat → Prop} {x : Nat} : ∀ {n : Nat}, x < n → ¬ P x → (∀ e, e < n → (Q e ↔ P e ∨ e = x)) → mb_n Q n = mb_n P n + 1
  | 0, hx, _, _ => by omega
  | n + 1, hx, hp, h => by
    show mb_n Q n + mb_i (Q n) = mb_n P n + mb_i (P n) + 1
    by_cases e : x = n
    · subst e
      rw [mb_n_c (P := Q) (Q := P) (n := x) (fun e he => by rw [h e (by omega)]; exact ⟨fun z => z.elim id (fun z => by omega), Or.inl⟩), mb_i0 hp, mb_i1 ((h x (by omega)).mpr (Or.inr rfl))]
    · rw [mb_n_ins (n := n) (by omega) hp (fun e he => h e (by omega)), mb_ic (P := Q n) (Q := P n) (by rw [h n (by omega)]; exact ⟨fun z => z.elim id (fun z => by omega), Or.inl⟩)]
      omega
theorem mb_n_or {P Q S : Nat → Prop} : ∀ {n : Nat}, (∀ e, e < n → P e → Q e → False) → (∀ e, e < n → (S e ↔ P e ∨ Q e)) → mb_n S n = mb_n P n + mb_n Q n
  | 0, _, _ => rfl
  | n + 1, hd, h => by
    show mb_n S n + mb_i (S n) = mb_n P n + mb_i (P n) + (mb_n Q n + mb_i (Q n))
    have ih := mb_n_or (P := P) (Q := Q) (S := S) (n := n) (fun e he => hd e (by omega)) (fun e he => h e (by omega))
    have hn := h n (by omega)
    by_cases hp : P n
    · have hq : ¬ Q n := fun z => hd n (by omega) hp z
      rw [ih, mb_i1 (hn.mpr (Or.inl hp)), mb_i1 hp, mb_i0 hq]; omega
    · by_cases hq : Q n
      · rw [ih, mb_i1 (hn.mpr (Or.inr hq)), mb_i0 hp, mb_i1 hq]; omega
      · rw [ih, mb_i0 (fun z => (hn.mp z).elim hp hq), mb_i0 hp, mb_i0 hq]; omega
theorem mb_n_bij {f : Nat → Nat} {n : Nat} {P : Nat → Prop} : ∀ {c : Nat}, (∀ i, i < c → f i < n) → (∀ i j, i < c → j < c → f i = f j → i = j) → mb_n (fun e => (∃ i, i < c ∧ f i = e) ∧ P e) n = mb_n (fun i => P (f i)) c
  | 0, _, _ => mb_n_0 (fun e _ z => by obtain ⟨⟨i, hi, _⟩, _⟩ := z; omega)
  | c + 1, hf, hi => by
    show _ = mb_n (fun i => P (f i)) c + mb_i (P (f c))
    have ih := mb_n_bij (f := f) (n := n) (P := P) (c := c) (fun i h => hf i (by omega)) (fun i j h1 h2 => hi i j (by omega) (by omega))
    by_cases hp : P (f c)
    · rw [mb_i1 hp, ← ih]
      refine mb_n_ins (x := f c) (hf c (by omega)) ?_ ?_
      · rintro ⟨⟨i, h1, h2⟩, _⟩
        have := hi i c (by omega) (by omega) h2
        omega
      · intro e he
        constructor
        · rintro ⟨⟨i, h1, h2⟩, h3⟩
          by_cases ec : i = c
          · right; rw [← h2, ec]
          · left; exact ⟨⟨i, by omega, h2⟩, h3⟩
        · rintro (⟨⟨i, h1, h2⟩, h3⟩ | h)
          · exact ⟨⟨i, by omega, h2⟩, h3⟩
          · subst h; exact ⟨⟨c, by omega, rfl⟩, hp⟩
    · rw [mb_i0 hp, ← ih]
      refine mb_n_c ?_
      intro e he
      constructor
      · rintro ⟨⟨i, h1, h2⟩, h3⟩
        by_cases ec : i = c
        · subst ec; subst h2; exact absurd h3 hp
        · exact ⟨⟨i, by omega, h2⟩, h3⟩
      · rintro ⟨⟨i, h1, h2⟩, h3⟩
        exact ⟨⟨i, by omega, h2⟩, h3⟩
theorem mb_n_ge {P : Nat → Prop} {lo : Nat} : ∀ {n m : Nat}, (∀ e, lo ≤ e → e < lo + m → P e) → lo + m ≤ n → m ≤ mb_n P n
  | 0, m, _, h => by omega
  | n + 1, m, hP, h => by
    show m ≤ mb_n P n + mb_i (P n)
    by_cases c : lo + m ≤ n
    · have := mb_n_ge (P := P) (lo := lo) (n := n) (m := m) hP c
      omega
    · cases m with
      | zero => omega
      | succ m =>
        have := mb_n_ge (P := P) (lo := lo) (n := n) (m := m) (fun e h1 h2 => hP e h1 (by omega)) (by omega)
        rw [mb_i1 (hP n (by omega) (by omega))]
        omega
noncomputable def mb_l (P : Nat → Prop) : List Nat → Nat
  | [] => 0
  | a :: t => mb_i (P a) + mb_l P t
theorem mb_l_n {P : Nat → Prop} {n : Nat} : ∀ (L : List Nat), L.Nodup → (∀ a, a ∈ L → a < n) → mb_l P L = mb_n (fun e => e ∈ L ∧ P e) n
  | [], _, _ => (mb_n_0 (fun e _ z => by cases z.1)).symm
  | a :: t, hd, hm => by
    show mb_i (P a) + mb_l P t = _
    have h1 := List.nodup_cons.mp hd
    rw [mb_l_n t h1.2 (fun b hb => hm b (List.mem_cons_of_mem a hb))]
    by_cases hp : P a
    · rw [mb_i1 hp, Nat.add_comm]
      refine (mb_n_ins (x := a) (hm a (List.mem_cons_self)) (fun z => h1.1 z.1) ?_).symm
      intro e he
      rw [List.mem_cons]
      constructor
      · rintro ⟨h | h, h3⟩
        · exact Or.inr h
        · exact Or.inl ⟨h, h3⟩
      · rintro (⟨h, h3⟩ | h)
        · exact ⟨Or.inr h, h3⟩
        · subst h; exact ⟨Or.inl rfl, hp⟩
    · rw [mb_i0 hp, Nat.zero_add]
      refine mb_n_c ?_
      intro e he
      rw [List.mem_cons]
      constructor
      · rintro ⟨h, h3⟩; exact ⟨Or.inr h, h3⟩
      · rintro ⟨h | h, h3⟩
        · subst h; exact absurd h3 hp
        · exact ⟨h, h3⟩
/-- the best of a set of slots: greatest rank, then oldest -/
def mr_bm (U : Nat → Prop) (H R : Nat → Nat) (r : Nat) : Prop :=
  (r = 0 ∧ ∀ e, ¬ U e) ∨ ∃ e, r = e + 1 ∧ U e ∧ ∀ e', U e' → e' ≠ e → R e' < R e ∨ (R e' = R e ∧ H e < H e')
theorem mr_bm_u {U : Nat → Prop} {H R : Nat → Nat} {r s : Nat} (h : mr_bm U H R r) (g : mr_bm U H R s) : r = s := by
  rcases h with ⟨h1, h2⟩ | ⟨e, h1, h2, h3⟩
  · rcases g with ⟨g1, g2⟩ | ⟨e', g1, g2, g3⟩
    · omega
    · exact absurd g2 (h2 e')
  · rcases g with ⟨g1, g2⟩ | ⟨e', g1, g2, g3⟩
    · exact absurd h2 (g2 e)
    · by_cases c : e' = e
      · omega
      · have a := h3 e' g2 c
        have b := g3 e h2 (fun z => c z.symm)
        omega
theorem mr_bm_c {U V : Nat → Prop} {H R : Nat → Nat} {r : Nat} (h : mr_bm U H R r) (e : ∀ a, U a ↔ V a) : mr_bm V H R r := by
  rcases h with ⟨h1, h2⟩ | ⟨a, h1, h2, h3⟩
  · exact Or.inl ⟨h1, fun a z => h2 a ((e a).mpr z)⟩
  · exact Or.inr ⟨a, h1, (e a).mp h2, fun b hb => h3 b ((e b).mpr hb)⟩
/-- the shift of an array's part -/
def mb_sh (f : Nat → Int32) (lo k : Nat) : Nat → Int32 := fun j => if lo ≤ j ∧ j < k then f (j + 1) else f j
theorem mb_sh0 (f : Nat → Int32) (lo : Nat) : mb_sh f lo lo = f := by
  funext j
  unfold mb_sh
  rw [if_neg (by omega)]
theorem mb_shs (f : Nat → Int32) {lo k : Nat} (h : lo ≤ k) : upd (mb_sh f lo k) k (mb_sh f lo k (k + 1)) = mb_sh f lo (k + 1) := by
  funext j
  unfold upd mb_sh
  by_cases c : j = k
  · subst c
    rw [if_pos rfl, if_neg (by omega), if_pos (by omega)]
  · rw [if_neg c]
    by_cases d : lo ≤ j ∧ j < k
    · rw [if_pos d, if_pos (by omega)]
    · rw [if_neg d, if_neg (by omega)]
end
section
/-! the tree: pure -/
def mt_k (v j : Nat) : Nat := (256 + v) / 2 ^ j
theorem mt_j8 {P : Nat → Prop} (h0 : P 0) (h1 : P 1) (h2 : P 2) (h3 : P 3) (h4 : P 4) (h5 : P 5) (h6 : P 6) (h7 : P 7) (h8 : P 8) : ∀ j, j ≤ 8 → P j := by
  intro j hj
  have : j = 0 ∨ j = 1 ∨ j = 2 ∨ j = 3 ∨ j = 4 ∨ j = 5 ∨ j = 6 ∨ j = 7 ∨ j = 8 := by omega
  rcases this with rfl | rfl | rfl | rfl | rfl | rfl | rfl | rfl | rfl <;> assumption
theorem mt_k_in {v : Nat} (hv : v < 256) : ∀ j, j ≤ 8 → 2 ^ (8 - j) ≤ mt_k v j ∧ mt_k v j < 2 ^ (9 - j) := by
  unfold mt_k
  apply mt_j8 <;> (simp only [Nat.reduceSub, Nat.reducePow]; omega)
theorem mt_k_1 {v j : Nat} (hv : v < 256) (hj : j ≤ 8) : 1 ≤ mt_k v j ∧ mt_k v j < 512 := by
  have h := mt_k_in hv j hj
  have a : 0 < 2 ^ (8 - j) := Nat.two_pow_pos _
  have b : 2 ^ (9 - j) ≤ 2 ^ 9 := Nat.pow_le_pow_right (by decide) (by omega)
  have c : 2 ^ 9 = 512 := by decide
  omega
theorem mt_k_8 {v : Nat} (hv : v < 256) : mt_k v 8 = 1 := by
  unfold mt_k
  omega
theorem mt_k_s {v : Nat} (hv : v < 256) : ∀ j, j < 8 → mt_k v j = 2 * mt_k v (j + 1) + v / 2 ^ j % 2 := by
  intro j hj
  unfold mt_k
  have : j = 0 ∨ j = 1 ∨ j = 2 ∨ j = 3 ∨ j = 4 ∨ j = 5 ∨ j = 6 ∨ j = 7 := by omega
  rcases this with rfl | rfl | rfl | rfl | rfl | rfl | rfl | rfl <;> (simp only [Nat.reduceAdd, Nat.reducePow]; omega)
theorem mt_k_h {p q i j : Nat} (hp : p < 256) (hq : q < 256) (hi : i ≤ 8) (hj : j ≤ 8) (h : mt_k p i = mt_k q j) : i = j := by
  have a := mt_k_in hp i hi
  have b := mt_k_in hq j hj
  apply Classical.byContradiction
  intro z
  rcases Nat.lt_or_gt_of_ne z with c | c
  · have : 2 ^ (9 - j) ≤ 2 ^ (8 - i) := Nat.pow_le_pow_right (by decide) (by omega)
    omega
  · have : 2 ^ (9 - i) ≤ 2 ^ (8 - j) := Nat.pow_le_pow_right (by decide) (by omega)
    omega
theorem mt_k_f {p q : Nat} (hp : p < 256) (hq : q < 256) : ∀ j, j ≤ 8 → (p / 2 ^ j = q / 2 ^ j ↔ mt_k p j = mt_k q j) := by
  unfold mt_k
  apply mt_j8 <;> (simp only [Nat.reducePow]; omega)
def mt_E (H K : Nat → Nat) : Nat → Nat → Nat
  | 0, _ => 0
  | e + 1, k => if H e ≠ 0 ∧ K e = k ∧ (mt_E H K e k = 0 ∨ H e < H (mt_E H K e k - 1)) then e + 1 else mt_E H K e k
noncomputable def mt_C (H K : Nat → Nat) (n k : Nat) : Nat := mb_n (fun e => H e ≠ 0 ∧ K e = k) n
theorem mt_E_n {H K : Nat → Nat} {e k : Nat} (h : ¬ (H e ≠ 0 ∧ K e = k)) : mt_E H K (e + 1) k = mt_E H K e k := by
  show (if _ then _ else _) = _
  rw [if_neg (fun z => h ⟨z.1, z.2.1⟩)]
theorem mt_C_n {H K : Nat → Nat} {e k : Nat} (h : ¬ (H e ≠ 0 ∧ K e = k)) : mt_C H K (e + 1) k = mt_C H K e k := by
  show mb_n _ e + mb_i _ = _
  rw [mb_i0 h]
  rfl
theorem mt_C_y {H K : Nat → Nat} {e k : Nat} (h : H e ≠ 0 ∧ K e = k) : mt_C H K (e + 1) k = mt_C H K e k + 1 := by
  show mb_n _ e + mb_i _ = _
  rw [mb_i1 h]
  rfl
theorem mt_C_le (H K : Nat → Nat) (n k : Nat) : mt_C H K n k ≤ n := mb_n_le _ n
theorem mt_E_s (H K : Nat → Nat) (k : Nat) : ∀ n, (mt_E H K n k = 0 ∧ ∀ e, e < n → H e ≠ 0 → K e ≠ k) ∨ (∃ e, mt_E H K n k = e + 1 ∧ e < n ∧ H e ≠ 0 ∧ K e = k ∧ ∀ e', e' < n → H e' ≠ 0 → K e' = k → H e ≤ H e')
  | 0 => Or.inl ⟨rfl, fun e he => by omega⟩
  | n + 1 => by
    by_cases c : H n ≠ 0 ∧ K n = k
    · rcases mt_E_s H K k n with ⟨h1, h2⟩ | ⟨e, h1, h2, h3, h4, h5⟩
      · right
        refine ⟨n, ?_, by omega, c.1, c.2, ?_⟩
        · show (if _ then _ else _) = _
          rw [if_pos ⟨c.1, c.2, Or.inl h1⟩]
        · intro e' he' hu hk
          by_cases en : e' = n
          · rw [en]; exact Nat.le_refl _
          · exact absurd hk (h2 e' (by omega) hu)
      · right
        by_cases d : H n < H e
        · refine ⟨n, ?_, by omega, c.1, c.2, ?_⟩
          · show (if _ then _ else _) = _
            rw [if_pos ⟨c.1, c.2, Or.inr (by rw [h1]; exact d)⟩]
          · intro e' he' hu hk
            by_cases en : e' = n
            · rw [en]; exact Nat.le_refl _
            · have := h5 e' (by omega) hu hk
              omega
        · refine ⟨e, ?_, by omega, h3, h4, ?_⟩
          · show (if _ then _ else _) = _
            rw [if_neg, h1]
            rintro ⟨_, _, z | z⟩
            · omega
            · rw [h1] at z; exact d z
          · intro e' he' hu hk
            by_cases en : e' = n
            · rw [en]; omega
            · exact h5 e' (by omega) hu hk
    · rw [mt_E_n c]
      rcases mt_E_s H K k n with ⟨h1, h2⟩ | ⟨e, h1, h2, h3, h4, h5⟩
      · refine Or.inl ⟨h1, fun e he hu hk => ?_⟩
        by_cases en : e = n
        · subst en; exact c ⟨hu, hk⟩
        · exact h2 e (by omega) hu hk
      · refine Or.inr ⟨e, h1, by omega, h3, h4, fun e' he' hu hk => ?_⟩
        by_cases en : e' = n
        · subst en; exact absurd ⟨hu, hk⟩ c
        · exact h5 e' (by omega) hu hk
theorem mt_E_le (H K : Nat → Nat) (n k : Nat) : mt_E H K n k ≤ n := by
  rcases mt_E_s H K k n with ⟨h1, _⟩ | ⟨e, h1, h2, _⟩ <;> omega
theorem mt_E_c {H K H' K' : Nat → Nat} {k : Nat} : ∀ {n : Nat}, (∀ e, e < n → H e = H' e ∧ (H e ≠ 0 → K e = K' e)) → mt_E H K n k = mt_E H' K' n k
  | 0, _ => rfl
  | n + 1, h => by
    have ih := mt_E_c (k := k) (n := n) (fun e he => h e (by omega))
    have hn := h n (by omega)
    by_cases c : H n ≠ 0 ∧ K n = k
    · have c' : H' n ≠ 0 ∧ K' n = k := ⟨by rw [← hn.1]; exact c.1, by rw [← hn.2 c.1]; exact c.2⟩
      show (if _ then _ else _) = (if _ then _ else _)
      have g : (mt_E H K n k = 0 ∨ H n < H (mt_E H K n k - 1)) ↔ (mt_E H' K' n k = 0 ∨ H' n < H' (mt_E H' K' n k - 1)) := by
        rw [← ih, ← hn.1]
        by_cases z : mt_E H K n k = 0
        · simp [z]
        · have := mt_E_le H K n k
          rw [← (h (mt_E H K n k - 1) (by omega)).1]
      by_cases d : mt_E H K n k = 0 ∨ H n < H (mt_E H K n k - 1)
      · rw [if_pos ⟨c.1, c.2, d⟩, if_pos ⟨c'.1, c'.2, g.mp d⟩]
      · rw [if_neg (fun z => d z.2.2), if_neg (fun z => d (g.mpr z.2.2)), ih]
    · have c' : ¬ (H' n ≠ 0 ∧ K' n = k) := fun z => c ⟨by rw [hn.1]; exact z.1, by rw [hn.2 (by rw [hn.1]; exact z.1)]; exact z.2⟩
      rw [mt_E_n c, mt_E_n c', ih]
theorem mt_C_c {H K H' K' : Nat → Nat} {n k : Nat} (h : ∀ e, e < n → H e = H' e ∧ (H e ≠ 0 → K e = K' e)) : mt_C H K n k = mt_C H' K' n k := by
  refine mb_n_c ?_
  intro e he
  have hn := h e he
  constructor
  · rintro ⟨a, b⟩
    exact ⟨by rw [← hn.1]; exact a, by rw [← hn.2 a]; exact b⟩
  · rintro ⟨a, b⟩
    have a' : H e ≠ 0 := by rw [hn.1]; exact a
    exact ⟨a', by rw [hn.2 a']; exact b⟩
/-- the tree in its arrays: N gives a key's node + 1, E its oldest slot + 1, C its count -/
def mt_T (nc : Nat) (ch eh ec : Nat → Int32) (N E C : Nat → Nat) : Prop :=
  N 1 = 1 ∧ (∀ k, N k ≤ nc) ∧ (∀ k, N k ≠ 0 → 1 ≤ k ∧ k < 512) ∧ (∀ k j, N k = N j → N k ≠ 0 → k = j) ∧
  (∀ k, 1 ≤ k → N k = 0 → N (2 * k) = 0 ∧ N (2 * k + 1) = 0) ∧
  (∀ k x, N k = x + 1 → ch (2 * x) = mb_c (N (2 * k)) ∧ ch (2 * x + 1) = mb_c (N (2 * k + 1))) ∧
  (∀ k x, N k = x + 1 → eh x = mb_c (E k) ∧ ec x = nI (C k)) ∧
  (∀ k, N k = 0 → E k = 0 ∧ C k = 0)
theorem mt_T_ch {nc : Nat} {ch eh ec : Nat → Int32} {N E C : Nat → Nat} (h : mt_T nc ch eh ec N E C) {k x s : Nat} (hk : N k = x + 1) (hs : s < 2) : ch (2 * x + s) = mb_c (N (2 * k + s)) := by
  obtain ⟨_, _, _, _, _, h6, _, _⟩ := h
  have : s = 0 ∨ s = 1 := by omega
  rcases this with rfl | rfl
  · exact (h6 k x hk).1
  · exact (h6 k x hk).2
theorem mt_T_lt {nc : Nat} {ch eh ec : Nat → Int32} {N E C : Nat → Nat} (h : mt_T nc ch eh ec N E C) {k x : Nat} (hk : N k = x + 1) : x < nc := by
  have := h.2.1 k
  omega
theorem mt_T_v {nc : Nat} {ch eh ec : Nat → Int32} {N E C : Nat → Nat} (h : mt_T nc ch eh ec N E C) {k x : Nat} (hk : N k = x + 1) : eh x = mb_c (E k) ∧ ec x = nI (C k) := h.2.2.2.2.2.2.1 k x hk
theorem mt_T_z {nc : Nat} {ch eh ec : Nat → Int32} {N E C : Nat → Nat} (h : mt_T nc ch eh ec N E C) {k : Nat} (hk : N k = 0) : E k = 0 ∧ C k = 0 := h.2.2.2.2.2.2.2 k hk
/-- absent above, absent below -/
theorem mt_T_abs {nc : Nat} {ch eh ec : Nat → Int32} {N E C : Nat → Nat} (h : mt_T nc ch eh ec N E C) {p : Nat} (hp : p < 256) {i : Nat} : ∀ d, i + d ≤ 8 → N (mt_k p (i + d)) = 0 → N (mt_k p i) = 0
  | 0, _, z => z
  | d + 1, hj, z => by
    refine mt_T_abs h hp (i := i) d (by omega) ?_
    have s := mt_k_s hp (i + d) (by omega)
    have z' := h.2.2.2.2.1 (mt_k p (i + d + 1)) (mt_k_1 hp (by omega)).1 z
    have : p / 2 ^ (i + d) % 2 = 0 ∨ p / 2 ^ (i + d) % 2 = 1 := by omega
    rcases this with q | q
    · rw [s, q]; exact z'.1
    · rw [s, q]; exact z'.2
theorem mt_T_0 {ch eh ec : Nat → Int32} (h1 : ch 0 = -1) (h2 : ch 1 = -1) (h3 : eh 0 = -1) (h4 : ec 0 = 0) {E C : Nat → Nat} (hE : ∀ k, E k = 0) (hC : ∀ k, C k = 0) : mt_T 1 ch eh ec (fun k => if k = 1 then 1 else 0) E C := by
  refine ⟨if_pos rfl, ?_, ?_, ?_, ?_, ?_, ?_, ?_⟩
  · intro k
    dsimp only
    split <;> omega
  · intro k
    dsimp only
    split
    · omega
    · intro z; omega
  · intro k j
    dsimp only
    split <;> split <;> omega
  · intro k hk
    dsimp only
    intro z
    rw [if_neg (by omega), if_neg]
    · exact ⟨rfl, rfl⟩
    · intro e
      have : k = 0 := by omega
      omega
  · intro k x
    dsimp only
    by_cases c : k = 1
    · subst c
      rw [if_pos rfl]
      intro hx
      have : x = 0 := by omega
      subst this
      rw [if_neg (by omega), if_neg (by omega), mb_c0]
      exact ⟨h1, h2⟩
    · rw [if_neg c]
      intro hx; omega
  · intro k x
    dsimp only
    by_cases c : k = 1
    · subst c
      rw [if_pos rfl]
      intro hx
      have : x = 0 := by omega
      subst this
      rw [hE, hC, mb_c0]
      exact ⟨h3, h4⟩
    · rw [if_neg c]
      intro hx; omega
  · intro k _
    exact ⟨hE k, hC k⟩
/-- a new node -/
theorem mt_T_new {nc : Nat} {ch eh ec : Nat → Int32} {N E C : Nat → Nat} (h : mt_T nc ch eh ec N E C) {k x s : Nat} (hk : N k = x + 1) (hs : s < 2) (h0 : N (2 * k + s) = 0) (hb : 2 * k + s < 512) : mt_T (nc + 1) (upd (upd (upd ch (2 * nc) (-1)) (2 * nc + 1) (-1)) (2 * x + s) (nI nc)) (upd eh nc (-1)) (upd ec nc 0) (fun j => if j = 2 * k + s then nc + 1 else N j) E C := by
  obtain ⟨h1, h2, h3, h4, h5, h6, h7, h8⟩ := h
  have hx : x < nc := by have := h2 k; omega
  have hk1 := h3 k (by omega)
  refine ⟨?_, ?_, ?_, ?_, ?_, ?_, ?_, ?_⟩
  · dsimp only
    rw [if_neg (by omega)]
    exact h1
  · intro j
    have := h2 j
    dsimp only
    split <;> omega
  · intro j
    dsimp only
    split
    · intro _; omega
    · exact h3 j
  · intro i j
    have hi := h2 i
    have hj := h2 j
    have := h4 i j
    dsimp only
    split <;> split <;> omega
  · intro j hj
    dsimp only
    split
    · intro z; omega
    · intro z
      have hz := h5 j hj z
      have g : ∀ t, t < 2 → ¬ 2 * j + t = 2 * k + s := by
        intro t ht e
        have : j = k := by omega
        subst this
        omega
      rw [if_neg (show ¬ 2 * j = 2 * k + s from g 0 (by omega)), if_neg (g 1 (by omega))]
      exact hz
  · intro j y
    dsimp only
    by_cases c : j = 2 * k + s
    · rw [if_pos c]
      intro hy
      have : y = nc := by omega
      subst this
      have hz := h5 (2 * k + s) (by omega) h0
      rw [pk_un (by omega), pk_un (by omega), pk_us, pk_un (by omega), pk_us, if_neg (by omega), if_neg (by omega), c, hz.1, hz.2, mb_c0]
      exact ⟨rfl, rfl⟩
    · rw [if_neg c]
      intro hy
      have hyn : y < nc := by have := h2 j; omega
      have h6' := h6 j y hy
      by_cases d : j = k
      · subst d
        have : y = x := by omega
        subst this
        have : s = 0 ∨ s = 1 := by omega
        rcases this with rfl | rfl
        · rw [if_pos (by omega), if_neg (by omega), mb_cs]
          refine ⟨?_, ?_⟩
          · rw [show 2 * y = 2 * y + 0 from rfl, pk_us]
          · rw [pk_un (by omega), pk_un (by omega), pk_un (by omega)]; exact h6'.2
        · rw [if_neg (by omega), if_pos (by omega), mb_cs]
          refine ⟨?_, ?_⟩
          · rw [pk_un (by omega), pk_un (by omega), pk_un (by omega)]; exact h6'.1
          · rw [pk_us]
      · have yx : y ≠ x := by
          intro e
          exact d (h4 j k (by omega) (by omega))
        rw [if_neg (by omega), if_neg (by omega), pk_un (by omega), pk_un (by omega), pk_un (by omega), pk_un (by omega), pk_un (by omega), pk_un (by omega)]
        exact h6'
  · intro j y
    dsimp only
    by_cases c : j = 2 * k + s
    · rw [if_pos c]
      intro hy
      have : y = nc := by omega
      subst this
      rw [pk_us, pk_us, c, (h8 _ h0).1, (h8 _ h0).2, mb_c0]
      exact ⟨rfl, rfl⟩
    · rw [if_neg c]
      intro hy
      have hyn : y < nc := by have := h2 j; omega
      rw [pk_un (by omega), pk_un (by omega)]
      exact h7 j y hy
  · intro j
    dsimp only
    split
    · intro z; omega
    · exact h8 j
/-- a node's values -/
theorem mt_T_upd {nc : Nat} {ch eh ec eh' ec' : Nat → Int32} {N E C E' C' : Nat → Nat} (h : mt_T nc ch eh ec N E C) {k x : Nat} (hk : N k = x + 1) (hE : ∀ j, j ≠ k → E' j = E j ∧ C' j = C j) (h1 : eh' x = mb_c (E' k)) (h2 : ec' x = nI (C' k)) (h3 : ∀ y, y ≠ x → eh' y = eh y ∧ ec' y = ec y) : mt_T nc ch eh' ec' N E' C' := by
  obtain ⟨g1, g2, g3, g4, g5, g6, g7, g8⟩ := h
  refine ⟨g1, g2, g3, g4, g5, g6, ?_, ?_⟩
  · intro j y hy
    by_cases c : j = k
    · subst c
      have : y = x := by omega
      subst this
      exact ⟨h1, h2⟩
    · have yx : y ≠ x := by
        intro e
        exact c (g4 j k (by omega) (by omega))
      rw [(h3 y yx).1, (h3 y yx).2, (hE j c).1, (hE j c).2]
      exact g7 j y hy
  · intro j hj
    have c : j ≠ k := by
      intro e
      subst e
      omega
    rw [(hE j c).1, (hE j c).2]
    exact g8 j hj
/-- the tree stands for the slots 0 .. 15 -/
def mt_OK (H K : Nat → Nat) (fn : Int32) (ch eh ec : Nat → Int32) : Prop :=
  ∃ (nc : Nat) (N : Nat → Nat), fn = nI nc ∧ nc ≤ 129 ∧ mt_T nc ch eh ec N (mt_E H K 16) (mt_C H K 16)
theorem mt_OK_c {H K H' K' : Nat → Nat} {fn : Int32} {ch eh ec : Nat → Int32} (h : ∀ e, e < 16 → H e = H' e ∧ (H e ≠ 0 → K e = K' e)) (o : mt_OK H K fn ch eh ec) : mt_OK H' K' fn ch eh ec := by
  obtain ⟨nc, N, h1, h2, h3⟩ := o
  refine ⟨nc, N, h1, h2, ?_⟩
  have a : mt_E H K 16 = mt_E H' K' 16 := funext fun k => mt_E_c h
  have b : mt_C H K 16 = mt_C H' K' 16 := funext fun k => mt_C_c h
  rw [← a, ← b]
  exact h3
/-- what the walk on the bits of p finds: the heights j .. 0, the best so far b -/
def mt_B (E : Nat → Nat) (p : Nat) : Nat → Nat → Nat
  | 0, b => if E (mt_k p 0) = 0 then b else E (mt_k p 0)
  | j + 1, b => mt_B E p j (if E (mt_k p (j + 1)) = 0 then b else E (mt_k p (j + 1)))
theorem mt_B_z {E : Nat → Nat} {p : Nat} : ∀ (j b : Nat), (∀ i, i ≤ j → E (mt_k p i) = 0) → mt_B E p j b = b
  | 0, b, h => by
    show (if _ then _ else _) = _
    rw [if_pos (h 0 (by omega))]
  | j + 1, b, h => by
    show mt_B E p j (if _ then _ else _) = _
    rw [if_pos (h (j + 1) (by omega))]
    exact mt_B_z j b (fun i hi => h i (by omega))
theorem mt_B_s {E : Nat → Nat} {p : Nat} : ∀ (j b : Nat), (mt_B E p j b = b ∧ ∀ i, i ≤ j → E (mt_k p i) = 0) ∨ (∃ i, i ≤ j ∧ mt_B E p j b = E (mt_k p i) ∧ E (mt_k p i) ≠ 0 ∧ ∀ i', i' < i → E (mt_k p i') = 0)
  | 0, b => by
    by_cases c : E (mt_k p 0) = 0
    · left
      refine ⟨?_, ?_⟩
      · show (if _ then _ else _) = _
        rw [if_pos c]
      · intro i hi
        have : i = 0 := by omega
        rw [this]; exact c
    · right
      refine ⟨0, by omega, ?_, c, fun i' hi => by omega⟩
      show (if _ then _ else _) = _
      rw [if_neg c]
  | j + 1, b => by
    rcases mt_B_s (E := E) (p := p) j (if E (mt_k p (j + 1)) = 0 then b else E (mt_k p (j + 1))) with ⟨h1, h2⟩ | ⟨i, h1, h2, h3, h4⟩
    · by_cases c : E (mt_k p (j + 1)) = 0
      · left
        rw [if_pos c] at h1
        refine ⟨?_, ?_⟩
        · show mt_B E p j (if _ then _ else _) = _
          rw [if_pos c]; exact h1
        · intro i hi
          by_cases d : i = j + 1
          · rw [d]; exact c
          · exact h2 i (by omega)
      · right
        rw [if_neg c] at h1
        refine ⟨j + 1, by omega, ?_, c, fun i hi => h2 i (by omega)⟩
        show mt_B E p j (if _ then _ else _) = _
        rw [if_neg c]; exact h1
    · right
      exact ⟨i, by omega, h2, h3, h4⟩
/-- the sum of the counts on the way -/
def mt_S (C : Nat → Nat) (p : Nat) : Nat → Nat
  | 0 => C (mt_k p 0)
  | j + 1 => C (mt_k p (j + 1)) + mt_S C p j
theorem mt_S_z {C : Nat → Nat} {p : Nat} : ∀ (j : Nat), (∀ i, i ≤ j → C (mt_k p i) = 0) → mt_S C p j = 0
  | 0, h => h 0 (by omega)
  | j + 1, h => by
    show C (mt_k p (j + 1)) + mt_S C p j = 0
    rw [h (j + 1) (by omega), mt_S_z j (fun i hi => h i (by omega))]
/-- the part below a key -/
def mt_V (E : Nat → Nat) : Nat → Nat → Nat
  | 0, k => if E k = 0 then 1 else 0
  | j + 1, k => if E k = 0 then mt_V E j (2 * k) + mt_V E j (2 * k + 1) else 0
def mt_W (E : Nat → Nat) : Nat → Nat → Nat
  | 0, _ => 1
  | j + 1, k => mt_V E j (2 * k) + mt_V E j (2 * k + 1)
theorem mt_V_n {E : Nat → Nat} {k : Nat} (h : E k ≠ 0) : ∀ j, mt_V E j k = 0
  | 0 => by
    show (if _ then _ else _) = _
    rw [if_neg h]
  | j + 1 => by
    show (if _ then _ else _) = _
    rw [if_neg h]
theorem mt_V_le {E : Nat → Nat} : ∀ (j k : Nat), mt_V E j k ≤ 2 ^ j
  | 0, k => by
    show (if _ then _ else _) ≤ _
    split <;> decide
  | j + 1, k => by
    show (if E k = 0 then mt_V E j (2 * k) + mt_V E j (2 * k + 1) else 0) ≤ _
    have h1 := mt_V_le (E := E) j (2 * k)
    have h2 := mt_V_le (E := E) j (2 * k + 1)
    have h3 : 2 ^ (j + 1) = 2 ^ j + 2 ^ j := by rw [Nat.pow_succ]; omega
    split <;> omega
theorem mt_V_a {nc : Nat} {ch eh ec : Nat → Int32} {N E C : Nat → Nat} (h : mt_T nc ch eh ec N E C) : ∀ (j k : Nat), 1 ≤ k → N k = 0 → mt_V E j k = 2 ^ j
  | 0, k, hk, z => by
    show (if _ then _ else _) = _
    rw [if_pos (mt_T_z h z).1]
  | j + 1, k, hk, z => by
    show (if _ then _ else _) = _
    have g := h.2.2.2.2.1 k hk z
    rw [if_pos (mt_T_z h z).1, mt_V_a h j (2 * k) (by omega) g.1, mt_V_a h j (2 * k + 1) (by omega) g.2, Nat.pow_succ]
    omega
theorem mt_V_cnt {E : Nat → Nat} : ∀ (j k : Nat), j ≤ 8 → 2 ^ (8 - j) ≤ k → k < 2 ^ (9 - j) → mt_V E j k = mb_n (fun p => mt_k p j = k ∧ ∀ i, i ≤ j → E (mt_k p i) = 0) 256
  | 0, k, hj, h1, h2 => by
    have e1 : (2 : Nat) ^ (8 - 0) = 256 := by decide
    have e2 : (2 : Nat) ^ (9 - 0) = 512 := by decide
    have hk : ∀ p, mt_k p 0 = 256 + p := fun p => by unfold mt_k; rw [Nat.pow_zero, Nat.div_one]
    show (if _ then _ else _) = _
    by_cases c : E k = 0
    · rw [if_pos c]
      refine ((mb_n_ins (P := fun _ => False) (x := k - 256) (by omega) (fun z => z) ?_).trans ?_).symm
      · intro p hp
        rw [hk]
        constructor
        · rintro ⟨a, _⟩
          right; omega
        · rintro (z | z)
          · exact z.elim
          · refine ⟨by omega, fun i hi => ?_⟩
            have : i = 0 := by omega
            rw [this, hk, show 256 + p = k by omega]
            exact c
      · rw [mb_n_0 (fun _ _ z => z)]
    · rw [if_neg c]
      refine (mb_n_0 ?_).symm
      rintro p hp ⟨a, b⟩
      have := b 0 (by omega)
      rw [a] at this
      exact c this
  | j + 1, k, hj, h1, h2 => by
    show (if _ then _ else _) = _
    by_cases c : E k = 0
    · have e1 : (2 : Nat) ^ (8 - j) = 2 * 2 ^ (8 - (j + 1)) := by
        rw [show 8 - j = (8 - (j + 1)) + 1 by omega, Nat.pow_succ]; omega
      have e2 : (2 : Nat) ^ (9 - j) = 2 * 2 ^ (9 - (j + 1)) := by
        rw [show 9 - j = (9 - (j + 1)) + 1 by omega, Nat.pow_succ]; omega
      rw [if_pos c, mt_V_cnt j (2 * k) (by omega) (by omega) (by omega), mt_V_cnt j (2 * k + 1) (by omega) (by omega) (by omega)]
      refine (mb_n_or ?_ ?_).symm
      · rintro p hp ⟨a, _⟩ ⟨b, _⟩
        omega
      · intro p hp
        have s := mt_k_s hp j (by omega)
        constructor
        · rintro ⟨a, b⟩
          have : p / 2 ^ j % 2 = 0 ∨ p / 2 ^ j % 2 = 1 := by omega
          rcases this with q | q
          · exact Or.inl ⟨by omega, fun i hi => b i (by omega)⟩
          · exact Or.inr ⟨by omega, fun i hi => b i (by omega)⟩
        · rintro (⟨a, b⟩ | ⟨a, b⟩)
          · have hk : mt_k p (j + 1) = k := by omega
            refine ⟨hk, fun i hi => ?_⟩
            by_cases d : i = j + 1
            · rw [d, hk]; exact c
            · exact b i (by omega)
          · have hk : mt_k p (j + 1) = k := by omega
            refine ⟨hk, fun i hi => ?_⟩
            by_cases d : i = j + 1
            · rw [d, hk]; exact c
            · exact b i (by omega)
    · rw [if_neg c]
      refine (mb_n_0 ?_).symm
      rintro p hp ⟨a, b⟩
      have := b (j + 1) (by omega)
      rw [a] at this
      exact c this
theorem mt_W_cnt {E : Nat → Nat} {j k : Nat} (hj : j ≤ 8) (h1 : 2 ^ (8 - j) ≤ k) (h2 : k < 2 ^ (9 - j)) : mt_W E j k = mb_n (fun p => mt_k p j = k ∧ ∀ i, i < j → E (mt_k p i) = 0) 256 := by
  cases j with
  | zero =>
    have e1 : (2 : Nat) ^ (8 - 0) = 256 := by decide
    have e2 : (2 : Nat) ^ (9 - 0) = 512 := by decide
    have hk : ∀ p, mt_k p 0 = 256 + p := fun p => by unfold mt_k; rw [Nat.pow_zero, Nat.div_one]
    show 1 = _
    refine ((mb_n_ins (P := fun _ => False) (x := k - 256) (by omega) (fun z => z) ?_).trans ?_).symm
    · intro p hp
      rw [hk]
      constructor
      · rintro ⟨a, _⟩
        right; omega
      · rintro (z | z)
        · exact z.elim
        · exact ⟨by omega, fun i hi => by omega⟩
    · rw [mb_n_0 (fun _ _ z => z)]
  | succ j =>
    have e1 : (2 : Nat) ^ (8 - j) = 2 * 2 ^ (8 - (j + 1)) := by
      rw [show 8 - j = (8 - (j + 1)) + 1 by omega, Nat.pow_succ]; omega
    have e2 : (2 : Nat) ^ (9 - j) = 2 * 2 ^ (9 - (j + 1)) := by
      rw [show 9 - j = (9 - (j + 1)) + 1 by omega, Nat.pow_succ]; omega
    show mt_V E j (2 * k) + mt_V E j (2 * k + 1) = _
    rw [mt_V_cnt j (2 * k) (by omega) (by omega) (by omega), mt_V_cnt j (2 * k + 1) (by omega) (by omega) (by omega)]
    refine (mb_n_or ?_ ?_).symm
    · rintro p hp ⟨a, _⟩ ⟨b, _⟩
      omega
    · intro p hp
      have s := mt_k_s hp j (by omega)
      constructor
      · rintro ⟨a, b⟩
        have : p / 2 ^ j % 2 = 0 ∨ p / 2 ^ j % 2 = 1 := by omega
        rcases this with q | q
        · exact Or.inl ⟨by omega, fun i hi => b i (by omega)⟩
        · exact Or.inr ⟨by omega, fun i hi => b i (by omega)⟩
      · rintro (⟨a, b⟩ | ⟨a, b⟩)
        · exact ⟨by omega, fun i hi => b i (by omega)⟩
        · exact ⟨by omega, fun i hi => b i (by omega)⟩
end
section
/-! table 0: what the tree answers -/
def mt_K (A R : Nat → Nat) (e : Nat) : Nat := mt_k (A e) (8 - R e)
/-- slot e of table 0 is used and fits p -/
def mt_U (H A R : Nat → Nat) (p e : Nat) : Prop := e < 16 ∧ H e ≠ 0 ∧ mt_k p (8 - R e) = mt_K A R e
def mt_D (H A R : Nat → Nat) : Prop := (∀ e, e < 16 → H e ≠ 0 → A e < 256 ∧ R e ≤ 8) ∧ (∀ e e', e < 16 → e' < 16 → H e ≠ 0 → H e = H e' → e = e')
theorem mt_U_i {H A R : Nat → Nat} (hD : mt_D H A R) {p e : Nat} (hp : p < 256) (he : e < 16) (hu : H e ≠ 0) {i : Nat} (hi : i ≤ 8) (hk : mt_K A R e = mt_k p i) : i = 8 - R e ∧ mt_U H A R p e := by
  have a := hD.1 e he hu
  have b : 8 - R e = i := mt_k_h a.1 hp (by omega) hi hk
  refine ⟨b.symm, he, hu, ?_⟩
  rw [b]
  exact hk.symm
theorem mt_best {H A R : Nat → Nat} (hD : mt_D H A R) {p : Nat} (hp : p < 256) : mr_bm (mt_U H A R p) H R (mt_B (mt_E H (mt_K A R) 16) p 8 0) := by
  rcases mt_B_s (E := mt_E H (mt_K A R) 16) (p := p) 8 0 with ⟨h1, h2⟩ | ⟨i, h1, h2, h3, h4⟩
  · left
    refine ⟨h1, ?_⟩
    rintro e ⟨u1, u2, u3⟩
    have g := h2 (8 - R e) (by omega)
    rcases mt_E_s H (mt_K A R) (mt_k p (8 - R e)) 16 with ⟨_, s2⟩ | ⟨e', s1, _⟩
    · exact s2 e u1 u2 u3.symm
    · omega
  · right
    rcases mt_E_s H (mt_K A R) (mt_k p i) 16 with ⟨s1, _⟩ | ⟨e, s1, s2, s3, s4, s5⟩
    · exact absurd s1 h3
    · have hu := mt_U_i hD hp s2 s3 h1 s4
      refine ⟨e, h2.trans s1, hu.2, ?_⟩
      rintro e' ⟨u1, u2, u3⟩ ne
      have a' := hD.1 e' u1 u2
      have a := hD.1 e s2 s3
      by_cases c : 8 - R e' = i
      · right
        have q := s5 e' u1 u2 (by rw [← u3, c])
        refine ⟨by omega, ?_⟩
        have : H e ≠ H e' := fun z => ne (hD.2 e e' s2 u1 s3 z).symm
        omega
      · left
        apply Classical.byContradiction
        intro z
        have z' := h4 (8 - R e') (by omega)
        rcases mt_E_s H (mt_K A R) (mt_k p (8 - R e')) 16 with ⟨_, t2⟩ | ⟨e'', t1, _⟩
        · exact t2 e' u1 u2 u3.symm
        · omega
theorem mt_sum {H A R : Nat → Nat} {p : Nat} (hp : p < 256) : ∀ j, j ≤ 8 → mt_S (mt_C H (mt_K A R) 16) p j = mb_n (fun e => H e ≠ 0 ∧ ∃ i, i ≤ j ∧ mt_K A R e = mt_k p i) 16
  | 0, _ => by
    refine mb_n_c ?_
    intro e he
    constructor
    · rintro ⟨a, b⟩; exact ⟨a, 0, by omega, b⟩
    · rintro ⟨a, i, hi, b⟩
      have : i = 0 := by omega
      subst this
      exact ⟨a, b⟩
  | j + 1, hj => by
    show mt_C H (mt_K A R) 16 (mt_k p (j + 1)) + mt_S _ p j = _
    rw [mt_sum hp j (by omega)]
    refine (mb_n_or ?_ ?_).symm
    · rintro e he ⟨_, a⟩ ⟨_, i, hi, b⟩
      have := mt_k_h hp hp (by omega) (by omega) (a.symm.trans b)
      omega
    · intro e he
      constructor
      · rintro ⟨a, i, hi, b⟩
        by_cases c : i = j + 1
        · left; rw [← c]; exact ⟨a, b⟩
        · right; exact ⟨a, i, by omega, b⟩
      · rintro (⟨a, b⟩ | ⟨a, i, hi, b⟩)
        · exact ⟨a, j + 1, by omega, b⟩
        · exact ⟨a, i, by omega, b⟩
theorem mb_n_ext {P : Nat → Prop} {n : Nat} : ∀ d, (∀ e, n ≤ e → ¬ P e) → mb_n P (n + d) = mb_n P n
  | 0, _ => rfl
  | d + 1, h => by
    show mb_n P (n + d) + mb_i (P (n + d)) = _
    rw [mb_n_ext d h, mb_i0 (h (n + d) (by omega))]
    rfl
theorem mt_count {H A R : Nat → Nat} (hD : mt_D H A R) {p : Nat} (hp : p < 256) : mt_S (mt_C H (mt_K A R) 16) p 8 = mb_n (mt_U H A R p) 32 := by
  rw [mt_sum hp 8 (by omega), mb_n_ext (P := mt_U H A R p) (n := 16) 16 (fun e he u => by have := u.1; omega)]
  refine mb_n_c ?_
  intro e he
  constructor
  · rintro ⟨a, i, hi, b⟩
    exact (mt_U_i hD hp he a hi b).2
  · rintro ⟨_, a, b⟩
    exact ⟨a, 8 - R e, by omega, b.symm⟩
theorem mt_own {H A R : Nat → Nat} (hD : mt_D H A R) {e : Nat} (he : e < 16) (hu : H e ≠ 0) (hE : mt_E H (mt_K A R) 16 (mt_K A R e) = e + 1) : mt_W (mt_E H (mt_K A R) 16) (8 - R e) (mt_K A R e) = mb_n (fun p => mt_B (mt_E H (mt_K A R) 16) p 8 0 = e + 1) 256 := by
  have a := hD.1 e he hu
  have r := mt_k_in a.1 (8 - R e) (by omega)
  rw [mt_W_cnt (k := mt_K A R e) (by omega) r.1 r.2]
  refine mb_n_c ?_
  intro p hp
  constructor
  · rintro ⟨h1, h2⟩
    rcases mt_B_s (E := mt_E H (mt_K A R) 16) (p := p) 8 0 with ⟨g1, g2⟩ | ⟨i, g1, g2, g3, g4⟩
    · have := g2 (8 - R e) (by omega)
      rw [h1] at this
      omega
    · have c : i = 8 - R e := by
        rcases Nat.lt_trichotomy i (8 - R e) with z | z | z
        · exact absurd (h2 i z) g3
        · exact z
        · have := g4 (8 - R e) z
          rw [h1] at this
          omega
      rw [g2, c, h1]
      exact hE
  · intro h
    rcases mt_B_s (E := mt_E H (mt_K A R) 16) (p := p) 8 0 with ⟨g1, g2⟩ | ⟨i, g1, g2, g3, g4⟩
    · omega
    · rcases mt_E_s H (mt_K A R) (mt_k p i) 16 with ⟨s1, _⟩ | ⟨e', s1, s2, s3, s4, s5⟩
      · exact absurd s1 g3
      · have : e' = e := by omega
        subst this
        have q := mt_U_i hD hp he hu g1 s4
        refine ⟨?_, ?_⟩
        · rw [← q.1]; exact s4.symm
        · rw [← q.1]; exact g4
theorem mt_own0 {H A R : Nat → Nat} {e : Nat} (hE : mt_E H (mt_K A R) 16 (mt_K A R e) ≠ e + 1) : mb_n (fun p => mt_B (mt_E H (mt_K A R) 16) p 8 0 = e + 1) 256 = 0 := by
  refine mb_n_0 ?_
  intro p hp h
  rcases mt_B_s (E := mt_E H (mt_K A R) 16) (p := p) 8 0 with ⟨g1, g2⟩ | ⟨i, g1, g2, g3, g4⟩
  · omega
  · rcases mt_E_s H (mt_K A R) (mt_k p i) 16 with ⟨s1, _⟩ | ⟨e', s1, s2, s3, s4, s5⟩
    · exact absurd s1 g3
    · have : e' = e := by omega
      subst this
      rw [s4] at hE
      exact hE s1
end
section
/-! the component's walks: the tree -/
section
variable {f_draft f_nextHandle f_treeReady f_nodeCount f_groupsReady f_groupCount : Int32} {a_defaults a_packet a_entryCount a_handles a_actions a_keys a_widths a_child a_endsHere a_endCount a_partNode a_partDepth a_groupMask a_groupTop a_listFirst a_listNext : Nat → Int32}
theorem mx_side {v x j : Nat} (hv : v < 256) (hj : j < 8) : 2 * nI x + ((nI v >>> (nI j &&& 31)) &&& 1) = nI (2 * x + v / 2 ^ j % 2) := by
  have h1 : nI v >>> (nI j &&& 31) = nI (v / 2 ^ j) := pk_shrN (by omega) _ j (s_l j (by omega))
  have h2 : v / 2 ^ j ≤ v := Nat.div_le_self _ _
  have h3 : nI (v / 2 ^ j) &&& 1 = nI (v / 2 ^ j % 2 ^ 1) := pk_andN (by omega) 1 (by decide)
  have h4 : (2 : Int32) * nI x = nI (2 * x) := pk_mul 2 x
  rw [h1, h3, h4, nI_add, Nat.pow_one]
theorem mx_7 {n : Nat} (hn : n ≤ 8) : (7 : Int32) - nI n = mb_c (8 - n) := by
  have : ∀ n, n < 9 → (7 : Int32) - nI n = mb_c (8 - n) := by decide +kernel
  exact this n (by omega)
theorem mx_newNode {post : Int32 → SX → Prop} {nc : Nat} (hn : nc < 129) (h : post (nI nc) (f_draft, f_nextHandle, f_treeReady, nI (nc + 1), f_groupsReady, f_groupCount, a_defaults, a_packet, a_entryCount, a_handles, a_actions, a_keys, a_widths, upd (upd a_child (2 * nc) (-1)) (2 * nc + 1) (-1), upd a_endsHere nc (-1), upd a_endCount nc 0, a_partNode, a_partDepth, a_groupMask, a_groupTop, a_listFirst, a_listNext)) : wpX_newNode post (f_draft, f_nextHandle, f_treeReady, nI nc, f_groupsReady, f_groupCount, a_defaults, a_packet, a_entryCount, a_handles, a_actions, a_keys, a_widths, a_child, a_endsHere, a_endCount, a_partNode, a_partDepth, a_groupMask, a_groupTop, a_listFirst, a_listNext) := by
  have e1 : (2 : Int32) * nI nc = nI (2 * nc) := pk_mul 2 nc
  simp only [wpX_newNode, forall_eq, e1, nI_1, nI_clamp (show 2 * nc < 2 ^ 31 by omega), nI_clamp (show 2 * nc + 1 < 2 ^ 31 by omega), nI_clamp (show nc < 2 ^ 31 by omega), mb_vm1, mb_vh1, mb_vz]
  exact ⟨vp_in_nI (by omega) (by omega), vp_in_nI (by omega) (by omega), vp_in_nI (by omega) (by omega), vp_in_nI (by omega) (by omega), h⟩
theorem mx_nodeFor_x {post : Int32 → SX → Prop} {x v n j m : Nat} (hn : n ≤ 8) (hj : j ≤ 8 - n) (h : post (nI x) (f_draft, f_nextHandle, f_treeReady, f_nodeCount, f_groupsReady, f_groupCount, a_defaults, a_packet, a_entryCount, a_handles, a_actions, a_keys, a_widths, a_child, a_endsHere, a_endCount, a_partNode, a_partDepth, a_groupMask, a_groupTop, a_listFirst, a_listNext)) : wX_nodeFor_6 post (nI v) (nI n) (m + 1) (nI x) (mb_c j) f_draft f_nextHandle f_treeReady f_nodeCount f_groupsReady f_groupCount a_defaults a_packet a_entryCount a_handles a_actions a_keys a_widths a_child a_endsHere a_endCount a_partNode a_partDepth a_groupMask a_groupTop a_listFirst a_listNext := by
  refine br_t ?_ h
  rw [mx_7 hn, mb_le (by omega) (by omega)]
  exact hj
theorem mx_nodeFor_l {post : Int32 → SX → Prop} {E C : Nat → Nat} {v n B : Nat} (hv : v < 256) (hn : n ≤ 8) (hB : B ≤ 129)
    (hp : ∀ (nc x : Nat) (N : Nat → Nat) (ch eh ec : Nat → Int32), mt_T nc ch eh ec N E C → N (mt_k v (8 - n)) = x + 1 → nc ≤ B → post (nI x) (f_draft, f_nextHandle, f_treeReady, nI nc, f_groupsReady, f_groupCount, a_defaults, a_packet, a_entryCount, a_handles, a_actions, a_keys, a_widths, ch, eh, ec, a_partNode, a_partDepth, a_groupMask, a_groupTop, a_listFirst, a_listNext)) :
    ∀ (j : Nat), 8 - n ≤ j → j ≤ 8 → ∀ (m nc x : Nat) (N : Nat → Nat) (ch eh ec : Nat → Int32), j < m → nc + j ≤ B → mt_T nc ch eh ec N E C → N (mt_k v j) = x + 1 → wX_nodeFor_6 post (nI v) (nI n) m (nI x) (mb_c j) f_draft f_nextHandle f_treeReady (nI nc) f_groupsReady f_groupCount a_defaults a_packet a_entryCount a_handles a_actions a_keys a_widths ch eh ec a_partNode a_partDepth a_groupMask a_groupTop a_listFirst a_listNext := by
  intro j
  induction j with
  | zero =>
    intro h8 hj m nc x N ch eh ec hm hc hT hN
    obtain ⟨m, rfl⟩ : ∃ k, m = k + 1 := ⟨m - 1, by omega⟩
    refine mx_nodeFor_x hn (by omega) ?_
    refine hp nc x N ch eh ec hT ?_ (by omega)
    rw [show 8 - n = 0 by omega]
    exact hN
  | succ j ih =>
    intro h8 hj m nc x N ch eh ec hm hc hT hN
    obtain ⟨m, rfl⟩ : ∃ k, m = k + 1 := ⟨m - 1, by omega⟩
    by_cases c : 8 - n = j + 1
    · refine mx_nodeFor_x hn (by omega) ?_
      refine hp nc x N ch eh ec hT ?_ (by omega)
      rw [c]
      exact hN
    · have hx : x < nc := mt_T_lt hT hN
      have hne : ¬ mb_c (j + 1) ≤ 7 - nI n := by
        rw [mx_7 hn, mb_le (by omega) (by omega)]
        omega
      have hs : 2 * nI x + ((nI v >>> (mb_c (j + 1) &&& 31)) &&& 1) = nI (2 * x + v / 2 ^ j % 2) := by
        rw [mb_cs]
        exact mx_side hv (by omega)
      have hs2 : v / 2 ^ j % 2 < 2 := Nat.mod_lt _ (by omega)
      have hk := mt_k_s hv j (by omega)
      have hch := mt_T_ch hT hN hs2
      rw [← hk] at hch
      have hin : vp_in (nI (2 * x + v / 2 ^ j % 2)) 258 := vp_in_nI (by omega) (by omega)
      have hcl : (nI (2 * x + v / 2 ^ j % 2)).toNatClampNeg = 2 * x + v / 2 ^ j % 2 := nI_clamp (by omega)
      refine br_f hne (nm_r hs ⟨hin, ?_⟩)
      rw [hcl, hch]
      by_cases z : N (mt_k v j) = 0
      · refine br_f ?_ ?_
        · rw [mb_ge (by omega)]
          exact fun y => y z
        · refine mx_newNode (by omega) ?_
          dsimp only
          refine ⟨hin, nm_e ⟨hin, ?_⟩⟩
          rw [pk_us, ← mb_cs nc, mb_vh16 (by omega), mb_m1, mb_cs]
          refine nm_e (nm_e ?_)
          refine ih (by omega) (by omega) m (nc + 1) nc _ _ _ _ (by omega) (by omega) (mt_T_new hT hN hs2 (by rw [← hk]; exact z) ?_) ?_
          · rw [← hk]
            exact (mt_k_1 hv (by omega)).2
          · rw [hk, if_pos rfl]
      · obtain ⟨y, hy⟩ : ∃ y, N (mt_k v j) = y + 1 := ⟨N (mt_k v j) - 1, by omega⟩
        refine br_t ?_ ⟨hin, ?_⟩
        · rw [mb_ge (by have := hT.2.1 (mt_k v j); omega)]
          exact z
        · rw [hy, mb_cs, mb_m1]
          exact nm_e (nm_e (ih (by omega) (by omega) m nc y N ch eh ec (by omega) (by omega) hT hy))
theorem mx_nodeFor {post : Int32 → SX → Prop} {E C N : Nat → Nat} {v n B nc : Nat} (hv : v < 256) (hn : n ≤ 8) (hB : B ≤ 129) (hc : nc + 8 ≤ B) (hT : mt_T nc a_child a_endsHere a_endCount N E C)
    (hp : ∀ (nc x : Nat) (N : Nat → Nat) (ch eh ec : Nat → Int32), mt_T nc ch eh ec N E C → N (mt_k v (8 - n)) = x + 1 → nc ≤ B → post (nI x) (f_draft, f_nextHandle, f_treeReady, nI nc, f_groupsReady, f_groupCount, a_defaults, a_packet, a_entryCount, a_handles, a_actions, a_keys, a_widths, ch, eh, ec, a_partNode, a_partDepth, a_groupMask, a_groupTop, a_listFirst, a_listNext)) : wpX_nodeFor post (f_draft, f_nextHandle, f_treeReady, nI nc, f_groupsReady, f_groupCount, a_defaults, a_packet, a_entryCount, a_handles, a_actions, a_keys, a_widths, a_child, a_endsHere, a_endCount, a_partNode, a_partDepth, a_groupMask, a_groupTop, a_listFirst, a_listNext) (nI v) (nI n) := by
  refine ⟨9, ?_⟩
  have h := mx_nodeFor_l (post := post) hv hn hB hp 8 (by omega) (by omega) 9 nc 0 N a_child a_endsHere a_endCount (by omega) hc hT (by rw [mt_k_8 hv]; exact hT.1)
  rw [mb_cs] at h
  exact h
/-- a node that stands is found, and nothing changes -/
theorem mx_nodeFor_o {post : Int32 → SX → Prop} {E C N : Nat → Nat} {v n nc x0 : Nat} (hv : v < 256) (hn : n ≤ 8) (hc : nc ≤ 129) (hT : mt_T nc a_child a_endsHere a_endCount N E C) (h0 : N (mt_k v (8 - n)) = x0 + 1)
    (hp : post (nI x0) (f_draft, f_nextHandle, f_treeReady, f_nodeCount, f_groupsReady, f_groupCount, a_defaults, a_packet, a_entryCount, a_handles, a_actions, a_keys, a_widths, a_child, a_endsHere, a_endCount, a_partNode, a_partDepth, a_groupMask, a_groupTop, a_listFirst, a_listNext)) :
    ∀ (j : Nat), 8 - n ≤ j → j ≤ 8 → ∀ (m x : Nat), j < m → N (mt_k v j) = x + 1 → wX_nodeFor_6 post (nI v) (nI n) m (nI x) (mb_c j) f_draft f_nextHandle f_treeReady f_nodeCount f_groupsReady f_groupCount a_defaults a_packet a_entryCount a_handles a_actions a_keys a_widths a_child a_endsHere a_endCount a_partNode a_partDepth a_groupMask a_groupTop a_listFirst a_listNext := by
  intro j
  induction j with
  | zero =>
    intro h8 hj m x hm hN
    obtain ⟨m, rfl⟩ : ∃ k, m = k + 1 := ⟨m - 1, by omega⟩
    refine mx_nodeFor_x hn (by omega) ?_
    rw [show 8 - n = 0 by omega, hN] at h0
    have : x = x0 := by omega
    rw [this]
    exact hp
  | succ j ih =>
    intro h8 hj m x hm hN
    obtain ⟨m, rfl⟩ : ∃ k, m = k + 1 := ⟨m - 1, by omega⟩
    by_cases c : 8 - n = j + 1
    · refine mx_nodeFor_x hn (by omega) ?_
      rw [c, hN] at h0
      have : x = x0 := by omega
      rw [this]
      exact hp
    · have hx : x < nc := mt_T_lt hT hN
      have hne : ¬ mb_c (j + 1) ≤ 7 - nI n := by
        rw [mx_7 hn, mb_le (by omega) (by omega)]
        omega
      have hs : 2 * nI x + ((nI v >>> (mb_c (j + 1) &&& 31)) &&& 1) = nI (2 * x + v / 2 ^ j % 2) := by
        rw [mb_cs]
        exact mx_side hv (by omega)
      have hs2 : v / 2 ^ j % 2 < 2 := Nat.mod_lt _ (by omega)
      have hk := mt_k_s hv j (by omega)
      have hch := mt_T_ch hT hN hs2
      rw [← hk] at hch
      have hin : vp_in (nI (2 * x + v / 2 ^ j % 2)) 258 := vp_in_nI (by omega) (by omega)
      have hcl : (nI (2 * x + v / 2 ^ j % 2)).toNatClampNeg = 2 * x + v / 2 ^ j % 2 := nI_clamp (by omega)
      refine br_f hne (nm_r hs ⟨hin, ?_⟩)
      rw [hcl, hch]
      have z : N (mt_k v j) ≠ 0 := by
        intro z
        have := mt_T_abs hT hv (i := 8 - n) (j - (8 - n)) (by omega) (by rw [show 8 - n + (j - (8 - n)) = j by omega]; exact z)
        omega
      obtain ⟨y, hy⟩ : ∃ y, N (mt_k v j) = y + 1 := ⟨N (mt_k v j) - 1, by omega⟩
      refine br_t ?_ ⟨hin, ?_⟩
      · rw [mb_ge (by have := hT.2.1 (mt_k v j); omega)]
        exact z
      · rw [hy, mb_cs, mb_m1]
        exact nm_e (nm_e (ih (by omega) (by omega) m y (by omega) hy))
theorem mx_nodeForO {post : Int32 → SX → Prop} {E C N : Nat → Nat} {v n nc x0 : Nat} (hv : v < 256) (hn : n ≤ 8) (hc : nc ≤ 129) (hT : mt_T nc a_child a_endsHere a_endCount N E C) (h0 : N (mt_k v (8 - n)) = x0 + 1)
    (hp : post (nI x0) (f_draft, f_nextHandle, f_treeReady, f_nodeCount, f_groupsReady, f_groupCount, a_defaults, a_packet, a_entryCount, a_handles, a_actions, a_keys, a_widths, a_child, a_endsHere, a_endCount, a_partNode, a_partDepth, a_groupMask, a_groupTop, a_listFirst, a_listNext)) : wpX_nodeFor post (f_draft, f_nextHandle, f_treeReady, f_nodeCount, f_groupsReady, f_groupCount, a_defaults, a_packet, a_entryCount, a_handles, a_actions, a_keys, a_widths, a_child, a_endsHere, a_endCount, a_partNode, a_partDepth, a_groupMask, a_groupTop, a_listFirst, a_listNext) (nI v) (nI n) := by
  refine ⟨9, ?_⟩
  have h := mx_nodeFor_o (post := post) hv hn hc hT h0 hp 8 (by omega) (by omega) 9 0 (by omega) (by rw [mt_k_8 hv]; exact hT.1)
  rw [mb_cs] at h
  exact h
end
end
section
/-! the component's walks: makeTree, longestPrefix, prefixesOnWay -/
/-- what the component's entries hold: H handle + 1, A and R the two numbers in table 0; R the priority in table 1 -/
def mx_I (nh : Nat) (H A R : Nat → Nat) (hd ky wd : Nat → Int32) : Prop :=
  nh < 2 ^ 20 ∧ (∀ e, e < 32 → hd e = mb_c (H e) ∧ H e ≤ nh) ∧ (∀ e, e < 16 → H e ≠ 0 → ky e = nI (A e) ∧ wd e = nI (R e) ∧ A e < 256 ∧ R e ≤ 8) ∧ (∀ e, 16 ≤ e → e < 32 → H e ≠ 0 → ky e >>> ((16 : Int32) &&& 31) = nI (R e) ∧ R e ≤ 15) ∧ (∀ e e', e < 32 → e' < 32 → H e ≠ 0 → H e = H e' → e = e')
theorem mx_I_D {nh : Nat} {H A R : Nat → Nat} {hd ky wd : Nat → Int32} (h : mx_I nh H A R hd ky wd) : mt_D H A R :=
  ⟨fun e he hu => (h.2.2.1 e he hu).2.2, fun e e' h1 h2 => h.2.2.2.2 e e' (by omega) (by omega)⟩
section
variable {f_draft f_nextHandle f_treeReady f_nodeCount f_groupsReady f_groupCount : Int32} {a_defaults a_packet a_entryCount a_handles a_actions a_keys a_widths a_child a_endsHere a_endCount a_partNode a_partDepth a_groupMask a_groupTop a_listFirst a_listNext : Nat → Int32}
theorem mx_makeTree_l {post : SX → Prop} {nh : Nat} {H A R : Nat → Nat} (hI : mx_I nh H A R a_handles a_keys a_widths)
    (hp : ∀ (nc : Nat) (N : Nat → Nat) (ch eh ec : Nat → Int32), nc ≤ 129 → mt_T nc ch eh ec N (mt_E H (mt_K A R) 16) (mt_C H (mt_K A R) 16) → post (f_draft, f_nextHandle, f_treeReady, nI nc, f_groupsReady, f_groupCount, a_defaults, a_packet, a_entryCount, a_handles, a_actions, a_keys, a_widths, ch, eh, ec, a_partNode, a_partDepth, a_groupMask, a_groupTop, a_listFirst, a_listNext)) :
    ∀ (d e : Nat), e + d = 16 → ∀ (m nc : Nat) (N : Nat → Nat) (ch eh ec : Nat → Int32), d < m → nc ≤ 1 + 8 * e → mt_T nc ch eh ec N (mt_E H (mt_K A R) e) (mt_C H (mt_K A R) e) → wX_makeTree_25 post m (nI e) f_draft f_nextHandle f_treeReady (nI nc) f_groupsReady f_groupCount a_defaults a_packet a_entryCount a_handles a_actions a_keys a_widths ch eh ec a_partNode a_partDepth a_groupMask a_groupTop a_listFirst a_listNext := by
  intro d
  induction d with
  | zero =>
    intro e he m nc N ch eh ec hm hc hT
    obtain ⟨m, rfl⟩ : ∃ k, m = k + 1 := ⟨m - 1, by omega⟩
    have : e = 16 := by omega
    subst this
    exact br_t (nI_le (a := 16) (b := 16) (by omega) (by omega)) (hp nc N ch eh ec (by omega) hT)
  | succ d ih =>
    intro e he m nc N ch eh ec hm hc hT
    obtain ⟨m, rfl⟩ : ∃ k, m = k + 1 := ⟨m - 1, by omega⟩
    have hin : vp_in (nI e) 32 := vp_in_nI (by omega) (by omega)
    have hcl : (nI e).toNatClampNeg = e := nI_clamp (by omega)
    have hh := hI.2.1 e (by omega)
    have hnh := hI.1
    refine br_f (nI_ge (a := e) (b := 16) (by omega) (by omega)) ⟨hin, ?_⟩
    rw [hcl, hh.1]
    by_cases hu : H e = 0
    · refine br_f ?_ (nm_r (nI_1 e) ?_)
      · rw [mb_ge (by omega)]
        exact fun z => z hu
      · refine ih (e + 1) (by omega) m nc N ch eh ec (by omega) (by omega) ?_
        have a : mt_E H (mt_K A R) (e + 1) = mt_E H (mt_K A R) e := funext fun k => mt_E_n (fun z => z.1 hu)
        have b : mt_C H (mt_K A R) (e + 1) = mt_C H (mt_K A R) e := funext fun k => mt_C_n (fun z => z.1 hu)
        rw [a, b]
        exact hT
    · have hd := hI.2.2.1 e (by omega) hu
      refine br_t ?_ ⟨hin, hin, ?_⟩
      · rw [mb_ge (by omega)]
        exact hu
      rw [hd.1, hd.2.1]
      refine mx_nodeFor (B := 1 + 8 * (e + 1)) hd.2.2.1 hd.2.2.2 (by omega) (by omega) hT ?_
      intro nc x N ch eh ec hT hN hB
      dsimp only
      have hx : x < nc := mt_T_lt hT hN
      have hxi : vp_in (nI x) 129 := vp_in_nI (by omega) (by omega)
      have hxc : (nI x).toNatClampNeg = x := nI_clamp (by omega)
      have hv := mt_T_v hT hN
      have hCl := mt_C_le H (mt_K A R) e (mt_k (A e) (8 - R e))
      have hEl := mt_E_le H (mt_K A R) e (mt_k (A e) (8 - R e))
      have hKe : mt_K A R e = mt_k (A e) (8 - R e) := rfl
      have hC' : mt_C H (mt_K A R) (e + 1) (mt_k (A e) (8 - R e)) = mt_C H (mt_K A R) e (mt_k (A e) (8 - R e)) + 1 := mt_C_y ⟨hu, hKe⟩
      have hoth : ∀ j, j ≠ mt_k (A e) (8 - R e) → mt_E H (mt_K A R) (e + 1) j = mt_E H (mt_K A R) e j ∧ mt_C H (mt_K A R) (e + 1) j = mt_C H (mt_K A R) e j := by
        intro j hj
        exact ⟨mt_E_n (fun z => hj z.2.symm), mt_C_n (fun z => hj z.2.symm)⟩
      have hec : vp_nar .byte ((ec x + 1).toInt8.toInt32) = nI (mt_C H (mt_K A R) (e + 1) (mt_k (A e) (8 - R e))) := by
        rw [hv.2, nI_1, mb_vn8 (by omega), hC']
      refine ⟨hxi, hxi, nm_e ⟨hxi, ?_⟩⟩
      rw [hxc, hec, hv.1]
      by_cases z : mt_E H (mt_K A R) e (mt_k (A e) (8 - R e)) = 0
      · refine br_t ?_ ⟨hxi, nm_e (nm_r (nI_1 e) ?_)⟩
        · rw [mb_lt (by omega)]
          exact z
        · rw [hxc, mb_vn8 (by omega)]
          refine ih (e + 1) (by omega) m nc N _ _ _ (by omega) (by omega) ?_
          refine mt_T_upd hT hN hoth ?_ ?_ ?_
          · rw [pk_us, ← mb_cs]
            refine congrArg mb_c ?_
            show _ = (if _ then _ else _)
            rw [if_pos ⟨hu, hKe, Or.inl z⟩]
          · rw [pk_us]
          · intro y hy
            rw [pk_un hy, pk_un hy]
            exact ⟨rfl, rfl⟩
      · obtain ⟨e0, h0⟩ : ∃ e0, mt_E H (mt_K A R) e (mt_k (A e) (8 - R e)) = e0 + 1 := ⟨mt_E H (mt_K A R) e (mt_k (A e) (8 - R e)) - 1, by omega⟩
        have h0i : vp_in (nI e0) 32 := vp_in_nI (by omega) (by omega)
        have h0c : (nI e0).toNatClampNeg = e0 := nI_clamp (by omega)
        have h00 := hI.2.1 e0 (by omega)
        refine br_f ?_ ?_
        · rw [mb_lt (by omega)]
          exact z
        rw [h0, mb_cs, h0c, hh.1, h00.1]
        refine ⟨hin, hxi, h0i, ?_⟩
        by_cases w : H e0 ≤ H e
        · refine br_t ?_ (nm_r (nI_1 e) ?_)
          · rw [mb_le (by omega) (by omega)]
            exact w
          · refine ih (e + 1) (by omega) m nc N _ _ _ (by omega) (by omega) ?_
            refine mt_T_upd hT hN hoth ?_ ?_ ?_
            · rw [hv.1]
              refine congrArg mb_c ?_
              show _ = (if _ then _ else _)
              rw [if_neg]
              rintro ⟨_, _, y | y⟩
              · exact z y
              · rw [h0, Nat.add_sub_cancel] at y
                omega
            · rw [pk_us]
            · intro y hy
              rw [pk_un hy]
              exact ⟨rfl, rfl⟩
        · refine br_f ?_ ⟨hxi, nm_e (nm_r (nI_1 e) ?_)⟩
          · rw [mb_le (by omega) (by omega)]
            exact w
          · rw [hxc, mb_vn8 (by omega)]
            refine ih (e + 1) (by omega) m nc N _ _ _ (by omega) (by omega) ?_
            refine mt_T_upd hT hN hoth ?_ ?_ ?_
            · rw [pk_us, ← mb_cs]
              refine congrArg mb_c ?_
              show _ = (if _ then _ else _)
              rw [if_pos ⟨hu, hKe, Or.inr (by rw [h0, Nat.add_sub_cancel]; omega)⟩]
            · rw [pk_us]
            · intro y hy
              rw [pk_un hy, pk_un hy]
              exact ⟨rfl, rfl⟩
theorem mx_makeTree {post : SX → Prop} {nh : Nat} {H A R : Nat → Nat} (hI : mx_I nh H A R a_handles a_keys a_widths) (ht : ¬ f_treeReady = 0 → mt_OK H (mt_K A R) f_nodeCount a_child a_endsHere a_endCount)
    (hp : ∀ (tr : Int32) (nc : Nat) (N : Nat → Nat) (ch eh ec : Nat → Int32), nc ≤ 129 → mt_T nc ch eh ec N (mt_E H (mt_K A R) 16) (mt_C H (mt_K A R) 16) → post (f_draft, f_nextHandle, tr, nI nc, f_groupsReady, f_groupCount, a_defaults, a_packet, a_entryCount, a_handles, a_actions, a_keys, a_widths, ch, eh, ec, a_partNode, a_partDepth, a_groupMask, a_groupTop, a_listFirst, a_listNext)) : wpX_makeTree post (f_draft, f_nextHandle, f_treeReady, f_nodeCount, f_groupsReady, f_groupCount, a_defaults, a_packet, a_entryCount, a_handles, a_actions, a_keys, a_widths, a_child, a_endsHere, a_endCount, a_partNode, a_partDepth, a_groupMask, a_groupTop, a_listFirst, a_listNext) := by
  by_cases c : f_treeReady = 0
  · refine br_t c ?_
    refine mx_newNode (nc := 0) (by omega) ?_
    dsimp only
    refine ⟨17, ?_⟩
    refine mx_makeTree_l hI (hp 1) 16 0 (by omega) 17 1 (fun k => if k = 1 then 1 else 0) _ _ _ (by omega) (by omega) ?_
    exact mt_T_0 rfl rfl rfl rfl (fun k => rfl) (fun k => rfl)
  · obtain ⟨nc, N, h1, h2, h3⟩ := ht c
    refine br_f c ?_
    have h := hp f_treeReady nc N a_child a_endsHere a_endCount h2 h3
    rw [← h1] at h
    exact h
theorem mx_lp_x {post : Int32 → SX → Prop} {m : Nat} {b x3 : Int32} (h : post b (f_draft, f_nextHandle, f_treeReady, f_nodeCount, f_groupsReady, f_groupCount, a_defaults, a_packet, a_entryCount, a_handles, a_actions, a_keys, a_widths, a_child, a_endsHere, a_endCount, a_partNode, a_partDepth, a_groupMask, a_groupTop, a_listFirst, a_listNext)) : wX_longestPrefix_11 post f_draft f_nextHandle f_treeReady f_nodeCount f_groupsReady f_groupCount a_defaults a_packet a_entryCount a_handles a_actions a_keys a_widths a_child a_endsHere a_endCount a_partNode a_partDepth a_groupMask a_groupTop a_listFirst a_listNext (m + 1) b (-1) x3 := br_t (by decide) h
theorem mx_lp_l {post : Int32 → SX → Prop} {E C N : Nat → Nat} {nc p : Nat} (hc : nc ≤ 129) (hT : mt_T nc a_child a_endsHere a_endCount N E C) (hE : ∀ k, E k ≤ 16) (hp : p < 256) (hk : a_packet 0 = nI p) :
    ∀ (j : Nat), j ≤ 8 → ∀ (m b x : Nat), j + 1 < m → N (mt_k p j) = x + 1 → post (mb_c (mt_B E p j b)) (f_draft, f_nextHandle, f_treeReady, f_nodeCount, f_groupsReady, f_groupCount, a_defaults, a_packet, a_entryCount, a_handles, a_actions, a_keys, a_widths, a_child, a_endsHere, a_endCount, a_partNode, a_partDepth, a_groupMask, a_groupTop, a_listFirst, a_listNext) → wX_longestPrefix_11 post f_draft f_nextHandle f_treeReady f_nodeCount f_groupsReady f_groupCount a_defaults a_packet a_entryCount a_handles a_actions a_keys a_widths a_child a_endsHere a_endCount a_partNode a_partDepth a_groupMask a_groupTop a_listFirst a_listNext m (mb_c b) (nI x) (mb_c j) := by
  intro j
  induction j with
  | zero =>
    intro hj m b x hm hN h
    obtain ⟨m, rfl⟩ : ∃ k, m = k + 2 := ⟨m - 2, by omega⟩
    have hx : x < nc := mt_T_lt hT hN
    have hxi : vp_in (nI x) 129 := vp_in_nI (by omega) (by omega)
    have hxc : (nI x).toNatClampNeg = x := nI_clamp (by omega)
    have hv := mt_T_v hT hN
    have hEk := hE (mt_k p 0)
    refine br_f (nI_pos (by omega)) ⟨hxi, ?_⟩
    rw [hxc, hv.1]
    by_cases z : E (mt_k p 0) = 0
    · refine br_t ((mb_lt (by omega)).mpr z) (br_f (fun y => (mb_ge (by omega)).mp y rfl) (nm_e (mx_lp_x ?_)))
      have e : mt_B E p 0 b = b := by
        show (if _ then _ else _) = _
        rw [if_pos z]
      rw [e] at h
      exact h
    · refine br_f (fun y => z ((mb_lt (by omega)).mp y)) ⟨hxi, nm_e (br_f (fun y => (mb_ge (by omega)).mp y rfl) (nm_e (mx_lp_x ?_)))⟩
      have e : mt_B E p 0 b = E (mt_k p 0) := by
        show (if _ then _ else _) = _
        rw [if_neg z]
      rw [e] at h
      exact h
  | succ j ih =>
    intro hj m b x hm hN h
    obtain ⟨m, rfl⟩ : ∃ k, m = k + 1 := ⟨m - 1, by omega⟩
    have hx : x < nc := mt_T_lt hT hN
    have hxi : vp_in (nI x) 129 := vp_in_nI (by omega) (by omega)
    have hxc : (nI x).toNatClampNeg = x := nI_clamp (by omega)
    have hv := mt_T_v hT hN
    have hEk := hE (mt_k p (j + 1))
    have hs : 2 * nI x + ((a_packet 0 >>> (mb_c (j + 1) &&& 31)) &&& 1) = nI (2 * x + p / 2 ^ j % 2) := by
      rw [mb_cs, hk]
      exact mx_side hp (by omega)
    have hs2 : p / 2 ^ j % 2 < 2 := Nat.mod_lt _ (by omega)
    have hks := mt_k_s hp j (by omega)
    have hch := mt_T_ch hT hN hs2
    rw [← hks] at hch
    have hin : vp_in (nI (2 * x + p / 2 ^ j % 2)) 258 := vp_in_nI (by omega) (by omega)
    have hcl : (nI (2 * x + p / 2 ^ j % 2)).toNatClampNeg = 2 * x + p / 2 ^ j % 2 := nI_clamp (by omega)
    have go : ∀ b', mt_B E p (j + 1) b = mt_B E p j b' → wX_longestPrefix_31 post (wX_longestPrefix_11 post f_draft f_nextHandle f_treeReady f_nodeCount f_groupsReady f_groupCount a_defaults a_packet a_entryCount a_handles a_actions a_keys a_widths a_child a_endsHere a_endCount a_partNode a_partDepth a_groupMask a_groupTop a_listFirst a_listNext m) (mb_c b') (nI x) (mb_c (j + 1)) f_draft f_nextHandle f_treeReady f_nodeCount f_groupsReady f_groupCount a_defaults a_packet a_entryCount a_handles a_actions a_keys a_widths a_child a_endsHere a_endCount a_partNode a_partDepth a_groupMask a_groupTop a_listFirst a_listNext := by
      intro b' hb
      rw [hb] at h
      refine br_t ((mb_ge (by omega)).mpr (by omega)) ?_
      rw [hs]
      refine ⟨hin, ?_⟩
      rw [hcl, hch, mb_m1]
      refine nm_e (nm_e ?_)
      by_cases z : N (mt_k p j) = 0
      · rw [z, mb_c0]
        obtain ⟨m, rfl⟩ : ∃ k, m = k + 1 := ⟨m - 1, by omega⟩
        refine mx_lp_x ?_
        rw [mt_B_z j b' (fun i hi => (mt_T_z hT (mt_T_abs hT hp (i := i) (j - i) (by omega) (by rw [show i + (j - i) = j by omega]; exact z))).1)] at h
        exact h
      · obtain ⟨y, hy⟩ : ∃ y, N (mt_k p j) = y + 1 := ⟨N (mt_k p j) - 1, by omega⟩
        rw [hy, mb_cs]
        exact ih (by omega) m b' y (by omega) hy h
    refine br_f (nI_pos (by omega)) ⟨hxi, ?_⟩
    rw [hxc, hv.1]
    by_cases z : E (mt_k p (j + 1)) = 0
    · refine br_t ((mb_lt (by omega)).mpr z) (go b ?_)
      show mt_B E p j (if _ then _ else _) = _
      rw [if_pos z]
    · refine br_f (fun y => z ((mb_lt (by omega)).mp y)) ⟨hxi, nm_e (go _ ?_)⟩
      show mt_B E p j (if _ then _ else _) = _
      rw [if_neg z]
theorem mx_longestPrefix {post : Int32 → SX → Prop} {nh p : Nat} {H A R : Nat → Nat} (hI : mx_I nh H A R a_handles a_keys a_widths) (ht : ¬ f_treeReady = 0 → mt_OK H (mt_K A R) f_nodeCount a_child a_endsHere a_endCount) (hp : p < 256) (hk : a_packet 0 = nI p)
    (h : ∀ (tr fn : Int32) (ch eh ec : Nat → Int32), mt_OK H (mt_K A R) fn ch eh ec → post (mb_c (mt_B (mt_E H (mt_K A R) 16) p 8 0)) (f_draft, f_nextHandle, tr, fn, f_groupsReady, f_groupCount, a_defaults, a_packet, a_entryCount, a_handles, a_actions, a_keys, a_widths, ch, eh, ec, a_partNode, a_partDepth, a_groupMask, a_groupTop, a_listFirst, a_listNext)) : wpX_longestPrefix post (f_draft, f_nextHandle, f_treeReady, f_nodeCount, f_groupsReady, f_groupCount, a_defaults, a_packet, a_entryCount, a_handles, a_actions, a_keys, a_widths, a_child, a_endsHere, a_endCount, a_partNode, a_partDepth, a_groupMask, a_groupTop, a_listFirst, a_listNext) := by
  refine mx_makeTree hI ht ?_
  intro tr nc N ch eh ec hc hT
  refine ⟨10, ?_⟩
  have g := mx_lp_l (post := post) (f_draft := f_draft) (f_nextHandle := f_nextHandle) (f_treeReady := tr) (f_nodeCount := nI nc) (f_groupsReady := f_groupsReady) (f_groupCount := f_groupCount) (a_defaults := a_defaults) (a_entryCount := a_entryCount) (a_handles := a_handles) (a_actions := a_actions) (a_keys := a_keys) (a_widths := a_widths) (a_partNode := a_partNode) (a_partDepth := a_partDepth) (a_groupMask := a_groupMask) (a_groupTop := a_groupTop) (a_listFirst := a_listFirst) (a_listNext := a_listNext) hc hT (fun k => mt_E_le _ _ _ _) hp hk 8 (by omega) 10 0 0 (by omega) (by rw [mt_k_8 hp]; exact hT.1) (h tr (nI nc) ch eh ec ⟨nc, N, rfl, hc, hT⟩)
  rw [mb_c0, mb_cs] at g
  exact g
theorem mx_pw_x {post : Int32 → SX → Prop} {m : Nat} {b x3 : Int32} (h : post b (f_draft, f_nextHandle, f_treeReady, f_nodeCount, f_groupsReady, f_groupCount, a_defaults, a_packet, a_entryCount, a_handles, a_actions, a_keys, a_widths, a_child, a_endsHere, a_endCount, a_partNode, a_partDepth, a_groupMask, a_groupTop, a_listFirst, a_listNext)) : wX_prefixesOnWay_11 post f_draft f_nextHandle f_treeReady f_nodeCount f_groupsReady f_groupCount a_defaults a_packet a_entryCount a_handles a_actions a_keys a_widths a_child a_endsHere a_endCount a_partNode a_partDepth a_groupMask a_groupTop a_listFirst a_listNext (m + 1) b (-1) x3 := br_t (by decide) h
theorem mx_pw_l {post : Int32 → SX → Prop} {E C N : Nat → Nat} {nc p : Nat} (hc : nc ≤ 129) (hT : mt_T nc a_child a_endsHere a_endCount N E C) (hp : p < 256) (hk : a_packet 0 = nI p) :
    ∀ (j : Nat), j ≤ 8 → ∀ (m b x : Nat), j + 1 < m → N (mt_k p j) = x + 1 → post (nI (b + mt_S C p j)) (f_draft, f_nextHandle, f_treeReady, f_nodeCount, f_groupsReady, f_groupCount, a_defaults, a_packet, a_entryCount, a_handles, a_actions, a_keys, a_widths, a_child, a_endsHere, a_endCount, a_partNode, a_partDepth, a_groupMask, a_groupTop, a_listFirst, a_listNext) → wX_prefixesOnWay_11 post f_draft f_nextHandle f_treeReady f_nodeCount f_groupsReady f_groupCount a_defaults a_packet a_entryCount a_handles a_actions a_keys a_widths a_child a_endsHere a_endCount a_partNode a_partDepth a_groupMask a_groupTop a_listFirst a_listNext m (nI b) (nI x) (mb_c j) := by
  intro j
  induction j with
  | zero =>
    intro hj m b x hm hN h
    obtain ⟨m, rfl⟩ : ∃ k, m = k + 2 := ⟨m - 2, by omega⟩
    have hx : x < nc := mt_T_lt hT hN
    have hxi : vp_in (nI x) 129 := vp_in_nI (by omega) (by omega)
    have hxc : (nI x).toNatClampNeg = x := nI_clamp (by omega)
    have hv := mt_T_v hT hN
    refine br_f (nI_pos (by omega)) ⟨hxi, ?_⟩
    rw [hxc, hv.2, nI_add]
    exact nm_e (br_f (fun y => (mb_ge (by omega)).mp y rfl) (nm_e (mx_pw_x h)))
  | succ j ih =>
    intro hj m b x hm hN h
    obtain ⟨m, rfl⟩ : ∃ k, m = k + 1 := ⟨m - 1, by omega⟩
    have hx : x < nc := mt_T_lt hT hN
    have hxi : vp_in (nI x) 129 := vp_in_nI (by omega) (by omega)
    have hxc : (nI x).toNatClampNeg = x := nI_clamp (by omega)
    have hv := mt_T_v hT hN
    have hs : 2 * nI x + ((a_packet 0 >>> (mb_c (j + 1) &&& 31)) &&& 1) = nI (2 * x + p / 2 ^ j % 2) := by
      rw [mb_cs, hk]
      exact mx_side hp (by omega)
    have hs2 : p / 2 ^ j % 2 < 2 := Nat.mod_lt _ (by omega)
    have hks := mt_k_s hp j (by omega)
    have hch := mt_T_ch hT hN hs2
    rw [← hks] at hch
    have hin : vp_in (nI (2 * x + p / 2 ^ j % 2)) 258 := vp_in_nI (by omega) (by omega)
    have hcl : (nI (2 * x + p / 2 ^ j % 2)).toNatClampNeg = 2 * x + p / 2 ^ j % 2 := nI_clamp (by omega)
    refine br_f (nI_pos (by omega)) ⟨hxi, ?_⟩
    rw [hxc, hv.2, nI_add]
    refine nm_e (br_t ((mb_ge (by omega)).mpr (by omega)) ?_)
    rw [hs]
    refine ⟨hin, ?_⟩
    rw [hcl, hch, mb_m1]
    refine nm_e (nm_e ?_)
    have hb : b + mt_S C p (j + 1) = b + C (mt_k p (j + 1)) + mt_S C p j := by
      show b + (C (mt_k p (j + 1)) + mt_S C p j) = _
      omega
    rw [hb] at h
    by_cases z : N (mt_k p j) = 0
    · rw [z, mb_c0]
      obtain ⟨m, rfl⟩ : ∃ k, m = k + 1 := ⟨m - 1, by omega⟩
      refine mx_pw_x ?_
      rw [mt_S_z j (fun i hi => (mt_T_z hT (mt_T_abs hT hp (i := i) (j - i) (by omega) (by rw [show i + (j - i) = j by omega]; exact z))).2)] at h
      exact h
    · obtain ⟨y, hy⟩ : ∃ y, N (mt_k p j) = y + 1 := ⟨N (mt_k p j) - 1, by omega⟩
      rw [hy, mb_cs]
      exact ih (by omega) m _ y (by omega) hy h
theorem mx_prefixesOnWay {post : Int32 → SX → Prop} {nh p : Nat} {H A R : Nat → Nat} (hI : mx_I nh H A R a_handles a_keys a_widths) (ht : ¬ f_treeReady = 0 → mt_OK H (mt_K A R) f_nodeCount a_child a_endsHere a_endCount) (hp : p < 256) (hk : a_packet 0 = nI p)
    (h : ∀ (tr fn : Int32) (ch eh ec : Nat → Int32), mt_OK H (mt_K A R) fn ch eh ec → post (nI (mt_S (mt_C H (mt_K A R) 16) p 8)) (f_draft, f_nextHandle, tr, fn, f_groupsReady, f_groupCount, a_defaults, a_packet, a_entryCount, a_handles, a_actions, a_keys, a_widths, ch, eh, ec, a_partNode, a_partDepth, a_groupMask, a_groupTop, a_listFirst, a_listNext)) : wpX_prefixesOnWay post (f_draft, f_nextHandle, f_treeReady, f_nodeCount, f_groupsReady, f_groupCount, a_defaults, a_packet, a_entryCount, a_handles, a_actions, a_keys, a_widths, a_child, a_endsHere, a_endCount, a_partNode, a_partDepth, a_groupMask, a_groupTop, a_listFirst, a_listNext) := by
  refine mx_makeTree hI ht ?_
  intro tr nc N ch eh ec hc hT
  refine ⟨10, ?_⟩
  have g := mx_pw_l (post := post) (f_draft := f_draft) (f_nextHandle := f_nextHandle) (f_treeReady := tr) (f_nodeCount := nI nc) (f_groupsReady := f_groupsReady) (f_groupCount := f_groupCount) (a_defaults := a_defaults) (a_entryCount := a_entryCount) (a_handles := a_handles) (a_actions := a_actions) (a_keys := a_keys) (a_widths := a_widths) (a_partNode := a_partNode) (a_partDepth := a_partDepth) (a_groupMask := a_groupMask) (a_groupTop := a_groupTop) (a_listFirst := a_listFirst) (a_listNext := a_listNext) hc hT hp hk 8 (by omega) 10 0 0 (by omega) (by rw [mt_k_8 hp]; exact hT.1) (by rw [Nat.zero_add]; exact h tr (nI nc) ch eh ec ⟨nc, N, rfl, hc, hT⟩)
  rw [nI_0, mb_cs] at g
  exact g
end
end
section
/-! the component's walks: entryWith, owned -/
section
variable {f_draft f_nextHandle f_treeReady f_nodeCount f_groupsReady f_groupCount : Int32} {a_defaults a_packet a_entryCount a_handles a_actions a_keys a_widths a_child a_endsHere a_endCount a_partNode a_partDepth a_groupMask a_groupTop a_listFirst a_listNext : Nat → Int32}
theorem mx_entryWith_l {post : Int32 → Prop} {h : Int32} (h1 : ∀ e, e < 32 → a_handles e = h → post (nI e)) :
    ∀ (d e : Nat), e + d = 32 → (∀ i, i < e → ¬ a_handles i = h) → ((∀ i, i < 32 → ¬ a_handles i = h) → post (-1)) → wX_entryWith_8 post h f_draft f_nextHandle f_treeReady f_nodeCount f_groupsReady f_groupCount a_defaults a_packet a_entryCount a_handles a_actions a_keys a_widths a_child a_endsHere a_endCount a_partNode a_partDepth a_groupMask a_groupTop a_listFirst a_listNext (d + 1) (nI e) := by
  intro d
  induction d with
  | zero =>
    intro e he hn h2
    have : e = 32 := by omega
    subst this
    exact br_t (nI_le (a := 32) (b := 32) (by omega) (by omega)) (h2 hn)
  | succ d ih =>
    intro e he hn h2
    have hcl : (nI e).toNatClampNeg = e := nI_clamp (by omega)
    refine br_f (nI_ge (a := e) (b := 32) (by omega) (by omega)) ⟨vp_in_nI (by omega) (by omega), ?_⟩
    rw [hcl]
    refine br_c (fun z => h1 e (by omega) z) (fun z => nm_r (nI_1 e) (ih (e + 1) (by omega) ?_ h2))
    intro i hi
    by_cases c : i = e
    · rw [c]; exact z
    · exact hn i (by omega)
theorem mx_entryWith {post : Int32 → Prop} {h : Int32} (h1 : ∀ e, e < 32 → 0 ≤ h → a_handles e = h → post (nI e)) (h2 : (0 ≤ h → ∀ e, e < 32 → ¬ a_handles e = h) → post (-1)) : wpX_entryWith post (f_draft, f_nextHandle, f_treeReady, f_nodeCount, f_groupsReady, f_groupCount, a_defaults, a_packet, a_entryCount, a_handles, a_actions, a_keys, a_widths, a_child, a_endsHere, a_endCount, a_partNode, a_partDepth, a_groupMask, a_groupTop, a_listFirst, a_listNext) h := by
  refine br_c (fun z => ⟨33, ?_⟩) (fun z => h2 (fun y => absurd y z))
  exact mx_entryWith_l (fun e he => h1 e he z) 32 0 (by omega) (fun i hi => by omega) (fun y => h2 (fun _ => y))
theorem mx_141_0 {post : Int32 → SX → Prop} {J : Int32 → Int32 → (Nat → Int32) → (Nat → Int32) → (Nat → Int32) → (Nat → Int32) → (Nat → Int32) → (Nat → Int32) → (Nat → Int32) → (Nat → Int32) → (Nat → Int32) → (Nat → Int32) → (Nat → Int32) → (Nat → Int32) → (Nat → Int32) → (Nat → Int32) → (Nat → Int32) → (Nat → Int32) → Prop} {x3 x5 x6 : Int32} {tot : Nat} (h : J (nI (tot + 1)) x5 a_defaults a_packet a_entryCount a_handles a_actions a_keys a_widths a_child a_endsHere a_endCount a_partNode a_partDepth a_groupMask a_groupTop a_listFirst a_listNext) : wX_owned_141 post J x3 (nI tot) x5 x6 (nI 8) f_draft f_nextHandle f_treeReady f_nodeCount f_groupsReady f_groupCount a_defaults a_packet a_entryCount a_handles a_actions a_keys a_widths a_child a_endsHere a_endCount a_partNode a_partDepth a_groupMask a_groupTop a_listFirst a_listNext :=
  br_t rfl (nm_r (nI_1 tot) h)
theorem mx_141_s {post : Int32 → SX → Prop} {J : Int32 → Int32 → (Nat → Int32) → (Nat → Int32) → (Nat → Int32) → (Nat → Int32) → (Nat → Int32) → (Nat → Int32) → (Nat → Int32) → (Nat → Int32) → (Nat → Int32) → (Nat → Int32) → (Nat → Int32) → (Nat → Int32) → (Nat → Int32) → (Nat → Int32) → (Nat → Int32) → (Nat → Int32) → Prop} {E C N : Nat → Nat} {nc k x t j : Nat} {x3 tot : Int32} (hc : nc ≤ 129) (hT : mt_T nc a_child a_endsHere a_endCount N E C) (hN : N k = x + 1) (hj : t + (j + 1) ≤ 8)
    (h : J tot (nI (t + 2)) a_defaults a_packet a_entryCount a_handles a_actions a_keys a_widths a_child a_endsHere a_endCount (upd (upd a_partNode t (mb_c (N (2 * k)))) (t + 1) (mb_c (N (2 * k + 1)))) (upd (upd a_partDepth t (nI (8 - j))) (t + 1) (nI (8 - j))) a_groupMask a_groupTop a_listFirst a_listNext) : wX_owned_141 post J x3 tot (nI t) (nI x) (nI (8 - (j + 1))) f_draft f_nextHandle f_treeReady f_nodeCount f_groupsReady f_groupCount a_defaults a_packet a_entryCount a_handles a_actions a_keys a_widths a_child a_endsHere a_endCount a_partNode a_partDepth a_groupMask a_groupTop a_listFirst a_listNext := by
  have hx : x < nc := mt_T_lt hT hN
  have c0 := mt_T_ch hT hN (s := 0) (by omega)
  have c1 := mt_T_ch hT hN (s := 1) (by omega)
  have n0 := hT.2.1 (2 * k)
  have n1 := hT.2.1 (2 * k + 1)
  rw [Nat.add_zero, Nat.add_zero] at c0
  have e1 : (2 : Int32) * nI x = nI (2 * x) := pk_mul 2 x
  have e2 : nI (8 - (j + 1)) + 1 = nI (8 - j) := by
    rw [nI_1]
    exact congrArg nI (by omega)
  have e3 : nI t + 2 = nI (t + 2) := nI_add t 2
  refine br_f (fun z => by rw [show (8 : Int32) = nI 8 from rfl, nI_eq (by omega) (by omega)] at z; omega) ?_
  rw [e1, e2, nI_1, nI_1, e3, nI_clamp (show 2 * x < 2 ^ 31 by omega), nI_clamp (show 2 * x + 1 < 2 ^ 31 by omega), nI_clamp (show t < 2 ^ 31 by omega), nI_clamp (show t + 1 < 2 ^ 31 by omega), c0, c1, mb_vh (by omega), mb_vh (by omega), mb_vn8 (by omega)]
  exact ⟨vp_in_nI (by omega) (by omega), vp_in_nI (by omega) (by omega), nm_e ⟨vp_in_nI (by omega) (by omega), nm_e ⟨vp_in_nI (by omega) (by omega), vp_in_nI (by omega) (by omega), nm_e ⟨vp_in_nI (by omega) (by omega), nm_e (nm_e h)⟩⟩⟩⟩
/-- a pop -/
theorem mx_79 {post : Int32 → SX → Prop} {x3 tot v6 v7 : Int32} {t m : Nat} (ht : t < 20) (h6 : a_partNode t = v6) (h7 : a_partDepth t = v7)
    (h : (0 ≤ v6 → (v6 = x3 → wX_owned_141 post (wX_owned_79 post x3 f_draft f_nextHandle f_treeReady f_nodeCount f_groupsReady f_groupCount m) x3 tot (nI t) v6 v7 f_draft f_nextHandle f_treeReady f_nodeCount f_groupsReady f_groupCount a_defaults a_packet a_entryCount a_handles a_actions a_keys a_widths a_child a_endsHere a_endCount a_partNode a_partDepth a_groupMask a_groupTop a_listFirst a_listNext) ∧ (¬ v6 = x3 → vp_in v6 129 ∧ (0 ≤ a_endsHere v6.toNatClampNeg → wX_owned_79 post x3 f_draft f_nextHandle f_treeReady f_nodeCount f_groupsReady f_groupCount m tot (nI t) a_defaults a_packet a_entryCount a_handles a_actions a_keys a_widths a_child a_endsHere a_endCount a_partNode a_partDepth a_groupMask a_groupTop a_listFirst a_listNext) ∧ (¬ 0 ≤ a_endsHere v6.toNatClampNeg → wX_owned_141 post (wX_owned_79 post x3 f_draft f_nextHandle f_treeReady f_nodeCount f_groupsReady f_groupCount m) x3 tot (nI t) v6 v7 f_draft f_nextHandle f_treeReady f_nodeCount f_groupsReady f_groupCount a_defaults a_packet a_entryCount a_handles a_actions a_keys a_widths a_child a_endsHere a_endCount a_partNode a_partDepth a_groupMask a_groupTop a_listFirst a_listNext))) ∧ (¬ 0 ≤ v6 → wX_owned_79 post x3 f_draft f_nextHandle f_treeReady f_nodeCount f_groupsReady f_groupCount m (tot + ((1 : Int32) <<< ((8 - v7) &&& 31))) (nI t) a_defaults a_packet a_entryCount a_handles a_actions a_keys a_widths a_child a_endsHere a_endCount a_partNode a_partDepth a_groupMask a_groupTop a_listFirst a_listNext)) :
    wX_owned_79 post x3 f_draft f_nextHandle f_treeReady f_nodeCount f_groupsReady f_groupCount (m + 1) tot (nI (t + 1)) a_defaults a_packet a_entryCount a_handles a_actions a_keys a_widths a_child a_endsHere a_endCount a_partNode a_partDepth a_groupMask a_groupTop a_listFirst a_listNext := by
  have hin : vp_in (nI t) 20 := vp_in_nI (by omega) (by omega)
  have hcl : (nI t).toNatClampNeg = t := nI_clamp (by omega)
  refine br_f (nI_nle (by omega) (by omega)) (nm_r (pk_m1 t) ⟨hin, nm_r (e' := v6) (by rw [hcl]; exact h6) ⟨hin, nm_r (e' := v7) (by rw [hcl]; exact h7) ?_⟩⟩)
  exact ⟨fun z => h.1 z, fun z => nm_e (h.2 z)⟩
theorem mx_shl1 : ∀ j, j < 9 → (1 : Int32) <<< ((8 - nI (8 - j)) &&& 31) = nI (2 ^ j) := by decide +kernel
theorem mx_dfs {post : Int32 → SX → Prop} {E C N : Nat → Nat} {nc k0 x0 : Nat} (hc : nc ≤ 129) (hT : mt_T nc a_child a_endsHere a_endCount N E C) (hE : ∀ k, E k ≤ 16) (h0 : N k0 = x0 + 1) :
    ∀ (j k : Nat), j ≤ 8 → k0 < k → ∃ c : Nat, ∀ (m t tot : Nat) (pn pd : Nat → Int32), t + j ≤ 8 → pn t = mb_c (N k) → pd t = nI (8 - j) →
      (∀ pn' pd' : Nat → Int32, (∀ i, i < t → pn' i = pn i ∧ pd' i = pd i) → wX_owned_79 post (nI x0) f_draft f_nextHandle f_treeReady f_nodeCount f_groupsReady f_groupCount m (nI (tot + mt_V E j k)) (nI t) a_defaults a_packet a_entryCount a_handles a_actions a_keys a_widths a_child a_endsHere a_endCount pn' pd' a_groupMask a_groupTop a_listFirst a_listNext) →
      wX_owned_79 post (nI x0) f_draft f_nextHandle f_treeReady f_nodeCount f_groupsReady f_groupCount (m + c) (nI tot) (nI (t + 1)) a_defaults a_packet a_entryCount a_handles a_actions a_keys a_widths a_child a_endsHere a_endCount pn pd a_groupMask a_groupTop a_listFirst a_listNext := by
  intro j
  induction j with
  | zero =>
    intro k hj hk
    refine ⟨1, ?_⟩
    intro m t tot pn pd ht hpn hpd hW
    have W := hW pn pd (fun i hi => ⟨rfl, rfl⟩)
    refine mx_79 (by omega) hpn hpd ?_
    by_cases z : N k = 0
    · rw [mt_V_a hT 0 k (by omega) z] at W
      rw [z]
      refine br_f (fun y => (mb_ge (by omega)).mp y rfl) ?_
      rw [mx_shl1 0 (by omega), nI_add]
      exact W
    · obtain ⟨x, hx⟩ : ∃ x, N k = x + 1 := ⟨N k - 1, by omega⟩
      have hxn : x < nc := mt_T_lt hT hx
      have hx0 : x0 < nc := mt_T_lt hT h0
      have hEk := hE k
      have hne : x ≠ x0 := fun y => by
        have := hT.2.2.2.1 k k0 (by omega) (by omega)
        omega
      rw [hx, mb_cs]
      refine br_t (nI_pos' (by omega)) (br_f (fun y => hne ((nI_eq (by omega) (by omega)).mp y)) ⟨vp_in_nI (by omega) (by omega), ?_⟩)
      rw [nI_clamp (by omega), (mt_T_v hT hx).1]
      by_cases q : E k = 0
      · refine br_f (fun y => (mb_ge (by omega)).mp y q) (mx_141_0 ?_)
        have : mt_V E 0 k = 1 := by
          show (if _ then _ else _) = _
          rw [if_pos q]
        rw [this] at W
        exact W
      · refine br_t ((mb_ge (by omega)).mpr q) ?_
        rw [mt_V_n q 0] at W
        exact W
  | succ j ih =>
    intro k hj hk
    by_cases z : N k = 0
    · refine ⟨1, ?_⟩
      intro m t tot pn pd ht hpn hpd hW
      have W := hW pn pd (fun i hi => ⟨rfl, rfl⟩)
      refine mx_79 (by omega) hpn hpd ?_
      rw [mt_V_a hT (j + 1) k (by omega) z] at W
      rw [z]
      refine br_f (fun y => (mb_ge (by omega)).mp y rfl) ?_
      rw [mx_shl1 (j + 1) (by omega), nI_add]
      exact W
    · obtain ⟨x, hx⟩ : ∃ x, N k = x + 1 := ⟨N k - 1, by omega⟩
      have hxn : x < nc := mt_T_lt hT hx
      have hx0 : x0 < nc := mt_T_lt hT h0
      have hEk := hE k
      have hne : x ≠ x0 := fun y => by
        have := hT.2.2.2.1 k k0 (by omega) (by omega)
        omega
      by_cases q : E k = 0
      · obtain ⟨c1, H1⟩ := ih (2 * k + 1) (by omega) (by omega)
        obtain ⟨c0, H0⟩ := ih (2 * k) (by omega) (by omega)
        refine ⟨c0 + c1 + 1, ?_⟩
        intro m t tot pn pd ht hpn hpd hW
        have hV : mt_V E (j + 1) k = mt_V E j (2 * k) + mt_V E j (2 * k + 1) := by
          show (if _ then _ else _) = _
          rw [if_pos q]
        rw [hV] at hW
        rw [show m + (c0 + c1 + 1) = m + c0 + c1 + 1 by omega]
        refine mx_79 (by omega) hpn hpd ?_
        rw [hx, mb_cs]
        refine br_t (nI_pos' (by omega)) (br_f (fun y => hne ((nI_eq (by omega) (by omega)).mp y)) ⟨vp_in_nI (by omega) (by omega), ?_⟩)
        rw [nI_clamp (by omega), (mt_T_v hT hx).1]
        refine br_f (fun y => (mb_ge (by omega)).mp y q) (mx_141_s hc hT hx (by omega) ?_)
        refine H1 (m + c0) (t + 1) tot _ _ (by omega) pk_us pk_us ?_
        intro pn1 pd1 hag
        refine H0 m t (tot + mt_V E j (2 * k + 1)) pn1 pd1 (by omega) ?_ ?_ ?_
        · rw [(hag t (by omega)).1, pk_un (by omega), pk_us]
        · rw [(hag t (by omega)).2, pk_un (by omega), pk_us]
        · intro pn2 pd2 hag2
          have W := hW pn2 pd2 ?_
          · rw [show tot + mt_V E j (2 * k + 1) + mt_V E j (2 * k) = tot + (mt_V E j (2 * k) + mt_V E j (2 * k + 1)) by omega]
            exact W
          · intro i hi
            rw [(hag2 i hi).1, (hag2 i hi).2, (hag i (by omega)).1, (hag i (by omega)).2, pk_un (by omega), pk_un (by omega), pk_un (by omega), pk_un (by omega)]
            exact ⟨rfl, rfl⟩
      · refine ⟨1, ?_⟩
        intro m t tot pn pd ht hpn hpd hW
        have W := hW pn pd (fun i hi => ⟨rfl, rfl⟩)
        refine mx_79 (by omega) hpn hpd ?_
        rw [hx, mb_cs]
        refine br_t (nI_pos' (by omega)) (br_f (fun y => hne ((nI_eq (by omega) (by omega)).mp y)) ⟨vp_in_nI (by omega) (by omega), ?_⟩)
        rw [nI_clamp (by omega), (mt_T_v hT hx).1]
        refine br_t ((mb_ge (by omega)).mpr q) ?_
        rw [mt_V_n q (j + 1)] at W
        exact W
theorem mx_dfs0 {post : Int32 → SX → Prop} {E C N : Nat → Nat} {nc k0 x0 j : Nat} (hc : nc ≤ 129) (hT : mt_T nc a_child a_endsHere a_endCount N E C) (hE : ∀ k, E k ≤ 16) (h0 : N k0 = x0 + 1) (hj : j ≤ 8) (h1 : 1 ≤ k0) (hpn : a_partNode 0 = nI x0) (hpd : a_partDepth 0 = nI (8 - j))
    (hp : ∀ pn pd : Nat → Int32, post (nI (mt_W E j k0)) (f_draft, f_nextHandle, f_treeReady, f_nodeCount, f_groupsReady, f_groupCount, a_defaults, a_packet, a_entryCount, a_handles, a_actions, a_keys, a_widths, a_child, a_endsHere, a_endCount, pn, pd, a_groupMask, a_groupTop, a_listFirst, a_listNext)) : ∃ m, wX_owned_79 post (nI x0) f_draft f_nextHandle f_treeReady f_nodeCount f_groupsReady f_groupCount m (nI 0) (nI 1) a_defaults a_packet a_entryCount a_handles a_actions a_keys a_widths a_child a_endsHere a_endCount a_partNode a_partDepth a_groupMask a_groupTop a_listFirst a_listNext := by
  have hx0 : x0 < nc := mt_T_lt hT h0
  have fin : ∀ pn pd : Nat → Int32, wX_owned_79 post (nI x0) f_draft f_nextHandle f_treeReady f_nodeCount f_groupsReady f_groupCount 1 (nI (mt_W E j k0)) (nI 0) a_defaults a_packet a_entryCount a_handles a_actions a_keys a_widths a_child a_endsHere a_endCount pn pd a_groupMask a_groupTop a_listFirst a_listNext := fun pn pd => br_t (nI_le (a := 0) (b := 0) (by omega) (by omega)) (hp pn pd)
  cases j with
  | zero =>
    refine ⟨2, ?_⟩
    refine mx_79 (by omega) hpn hpd ?_
    exact br_t (nI_pos' (by omega)) (br_t rfl (mx_141_0 (fin _ _)))
  | succ j =>
    obtain ⟨c1, H1⟩ := mx_dfs (post := post) (f_draft := f_draft) (f_nextHandle := f_nextHandle) (f_treeReady := f_treeReady) (f_nodeCount := f_nodeCount) (f_groupsReady := f_groupsReady) (f_groupCount := f_groupCount) (a_defaults := a_defaults) (a_packet := a_packet) (a_entryCount := a_entryCount) (a_handles := a_handles) (a_actions := a_actions) (a_keys := a_keys) (a_widths := a_widths) (a_groupMask := a_groupMask) (a_groupTop := a_groupTop) (a_listFirst := a_listFirst) (a_listNext := a_listNext) hc hT hE h0 j (2 * k0 + 1) (by omega) (by omega)
    obtain ⟨c0, H0⟩ := mx_dfs (post := post) (f_draft := f_draft) (f_nextHandle := f_nextHandle) (f_treeReady := f_treeReady) (f_nodeCount := f_nodeCount) (f_groupsReady := f_groupsReady) (f_groupCount := f_groupCount) (a_defaults := a_defaults) (a_packet := a_packet) (a_entryCount := a_entryCount) (a_handles := a_handles) (a_actions := a_actions) (a_keys := a_keys) (a_widths := a_widths) (a_groupMask := a_groupMask) (a_groupTop := a_groupTop) (a_listFirst := a_listFirst) (a_listNext := a_listNext) hc hT hE h0 j (2 * k0) (by omega) (by omega)
    refine ⟨1 + c0 + c1 + 1, ?_⟩
    refine mx_79 (by omega) hpn hpd ?_
    refine br_t (nI_pos' (by omega)) (br_t rfl (mx_141_s hc hT h0 (by omega) ?_))
    refine H1 (1 + c0) 1 0 _ _ (by omega) pk_us pk_us ?_
    intro pn1 pd1 hag
    refine H0 1 0 (0 + mt_V E j (2 * k0 + 1)) pn1 pd1 (by omega) ?_ ?_ ?_
    · rw [(hag 0 (by omega)).1, pk_un (by omega), pk_us]
    · rw [(hag 0 (by omega)).2, pk_un (by omega), pk_us]
    · intro pn2 pd2 _
      have W := fin pn2 pd2
      rw [show mt_W E (j + 1) k0 = 0 + mt_V E j (2 * k0 + 1) + mt_V E j (2 * k0) from by show mt_V E j (2 * k0) + mt_V E j (2 * k0 + 1) = _; omega] at W
      exact W
theorem mx_owned {post : Int32 → SX → Prop} {nh : Nat} {H A R : Nat → Nat} {h : Int32} (hI : mx_I nh H A R a_handles a_keys a_widths) (ht : ¬ f_treeReady = 0 → mt_OK H (mt_K A R) f_nodeCount a_child a_endsHere a_endCount)
    (h1 : (0 ≤ h → ∀ e, e < 32 → ¬ a_handles e = h) → post (-3) (f_draft, f_nextHandle, f_treeReady, f_nodeCount, f_groupsReady, f_groupCount, a_defaults, a_packet, a_entryCount, a_handles, a_actions, a_keys, a_widths, a_child, a_endsHere, a_endCount, a_partNode, a_partDepth, a_groupMask, a_groupTop, a_listFirst, a_listNext)) (h2 : ∀ e, 16 ≤ e → e < 32 → 0 ≤ h → a_handles e = h → post (-3) (f_draft, f_nextHandle, f_treeReady, f_nodeCount, f_groupsReady, f_groupCount, a_defaults, a_packet, a_entryCount, a_handles, a_actions, a_keys, a_widths, a_child, a_endsHere, a_endCount, a_partNode, a_partDepth, a_groupMask, a_groupTop, a_listFirst, a_listNext))
    (h3 : ∀ e, e < 16 → 0 ≤ h → a_handles e = h → ∀ (tr fn : Int32) (ch eh ec pn pd : Nat → Int32), mt_OK H (mt_K A R) fn ch eh ec → post (nI (mb_n (fun p => mt_B (mt_E H (mt_K A R) 16) p 8 0 = e + 1) 256)) (f_draft, f_nextHandle, tr, fn, f_groupsReady, f_groupCount, a_defaults, a_packet, a_entryCount, a_handles, a_actions, a_keys, a_widths, ch, eh, ec, pn, pd, a_groupMask, a_groupTop, a_listFirst, a_listNext)) : wpX_owned post (f_draft, f_nextHandle, f_treeReady, f_nodeCount, f_groupsReady, f_groupCount, a_defaults, a_packet, a_entryCount, a_handles, a_actions, a_keys, a_widths, a_child, a_endsHere, a_endCount, a_partNode, a_partDepth, a_groupMask, a_groupTop, a_listFirst, a_listNext) h := by
  refine mx_entryWith ?_ ?_
  · intro e he hh hx
    refine br_f (nI_pos (by omega)) ?_
    by_cases c : e < 16
    · refine br_t (nI_lt (a := e) (b := 16) c (by omega)) ?_
      refine mx_makeTree hI ht ?_
      intro tr nc N ch eh ec hc hT
      dsimp only
      have hin : vp_in (nI e) 32 := vp_in_nI (by omega) (by omega)
      have hcl : (nI e).toNatClampNeg = e := nI_clamp (by omega)
      have hu : H e ≠ 0 := by
        intro z
        have g := (hI.2.1 e he).1
        rw [hx, z] at g
        rw [g] at hh
        exact (mb_ge (by omega)).mp hh rfl
      have hd := hI.2.2.1 e c hu
      have hCk : mt_C H (mt_K A R) 16 (mt_K A R e) ≠ 0 := by
        have : 1 ≤ mt_C H (mt_K A R) 16 (mt_K A R e) := mb_n_ge (lo := e) (m := 1) (fun i i1 i2 => by rw [show i = e by omega]; exact ⟨hu, rfl⟩) (by omega)
        omega
      have hNk : N (mt_K A R e) ≠ 0 := fun z => hCk (mt_T_z hT z).2
      obtain ⟨x, hN⟩ : ∃ x, N (mt_K A R e) = x + 1 := ⟨N (mt_K A R e) - 1, by omega⟩
      have hxn : x < nc := mt_T_lt hT hN
      have hEl := mt_E_le H (mt_K A R) 16 (mt_K A R e)
      refine ⟨hin, hin, ?_⟩
      rw [hcl, hd.1, hd.2.1]
      refine mx_nodeForO hd.2.2.1 hd.2.2.2 hc hT hN ?_
      dsimp only
      refine ⟨vp_in_nI (by omega) (by omega), ?_⟩
      rw [nI_clamp (show x < 2 ^ 31 by omega), (mt_T_v hT hN).1]
      have hOK : mt_OK H (mt_K A R) (nI nc) ch eh ec := ⟨nc, N, rfl, hc, hT⟩
      by_cases q : mt_E H (mt_K A R) 16 (mt_K A R e) = e + 1
      · refine br_t ?_ (nm_e ⟨hin, nm_e ?_⟩)
        · rw [q, mb_cs]
        · have hK1 : 1 ≤ mt_K A R e := (mt_k_1 hd.2.2.1 (by omega)).1
          rw [hd.2.1, mb_vn8 (by omega), ← mb_cs x, mb_vh16 (by omega), mb_cs]
          refine mx_dfs0 (j := 8 - R e) hc hT (fun k => mt_E_le _ _ _ _) hN (by omega) hK1 pk_us ?_ ?_
          · rw [pk_us]
            exact congrArg nI (by omega)
          · intro pn pd
            rw [mt_own (mx_I_D hI) c hu q]
            exact h3 e c hh hx tr (nI nc) ch eh ec pn pd hOK
      · refine br_f ?_ ?_
        · rw [← mb_cs e, mb_eq (by omega) (by omega)]
          exact q
        · have g := h3 e c hh hx tr (nI nc) ch eh ec a_partNode a_partDepth hOK
          rw [mt_own0 q] at g
          exact g
    · exact br_f (nI_nlt (a := e) (b := 16) (by omega) (by omega)) (h2 e (by omega) he hh hx)
  · intro z
    exact br_t (by decide) (h1 z)
end
end
section
/-! the groups: pure -/
/-- slot a comes before slot b -/
def mg_p (H R : Nat → Nat) (a b : Nat) : Prop := R b < R a ∨ (R b = R a ∧ H a < H b)
theorem mg_bm_l {U V W : Nat → Prop} {H R : Nat → Nat} {b : Nat} (hb : mr_bm U H R b) (hr : mr_bm V H R 0) (hW : ∀ a, W a ↔ U a ∨ V a) : mr_bm W H R b := by
  refine mr_bm_c hb ?_
  intro a
  rw [hW]
  rcases hr with ⟨_, h2⟩ | ⟨e, h1, _⟩
  · exact ⟨Or.inl, fun z => z.elim id (fun z => absurd z (h2 a))⟩
  · omega
theorem mg_bm_r {U V W : Nat → Prop} {H R : Nat → Nat} {r : Nat} (hb : mr_bm U H R 0) (hr : mr_bm V H R r) (hW : ∀ a, W a ↔ U a ∨ V a) : mr_bm W H R r := by
  refine mr_bm_c hr ?_
  intro a
  rw [hW]
  rcases hb with ⟨_, h2⟩ | ⟨e, h1, _⟩
  · exact ⟨Or.inr, fun z => z.elim (fun z => absurd z (h2 a)) id⟩
  · omega
theorem mg_bm_y {U V W : Nat → Prop} {H R : Nat → Nat} {b r : Nat} (hb : mr_bm U H R (b + 1)) (hr : mr_bm V H R (r + 1)) (hp : mg_p H R r b) (hW : ∀ a, W a ↔ U a ∨ V a) : mr_bm W H R (r + 1) := by
  rcases hb with ⟨h1, _⟩ | ⟨e, h1, h2, h3⟩
  · omega
  · rcases hr with ⟨g1, _⟩ | ⟨e', g1, g2, g3⟩
    · omega
    · have eb : e = b := by omega
      have er : e' = r := by omega
      subst eb er
      refine Or.inr ⟨e', rfl, (hW e').mpr (Or.inr g2), ?_⟩
      intro a ha hne
      rcases (hW a).mp ha with u | v
      · by_cases c : a = e
        · subst c; exact hp
        · have := h3 a u c
          unfold mg_p at hp
          omega
      · exact g3 a v hne
theorem mg_bm_n {U V W : Nat → Prop} {H R : Nat → Nat} {b r : Nat} (hb : mr_bm U H R (b + 1)) (hr : mr_bm V H R (r + 1)) (hd : H r = H b → r = b) (hp : ¬ mg_p H R r b) (hW : ∀ a, W a ↔ U a ∨ V a) : mr_bm W H R (b + 1) := by
  rcases hb with ⟨h1, _⟩ | ⟨e, h1, h2, h3⟩
  · omega
  · rcases hr with ⟨g1, _⟩ | ⟨e', g1, g2, g3⟩
    · omega
    · have eb : e = b := by omega
      have er : e' = r := by omega
      subst eb er
      refine Or.inr ⟨e, rfl, (hW e).mpr (Or.inl h2), ?_⟩
      intro a ha hne
      rcases (hW a).mp ha with u | v
      · exact h3 a u hne
      · unfold mg_p at hp
        by_cases c : a = e'
        · subst c
          have : H a ≠ H e := fun z => hne (hd z)
          omega
        · have := g3 a v c
          by_cases d : e' = e
          · subst d; exact this
          · have : H e' ≠ H e := fun z => d (hd z)
            omega
/-- masks M, bounds T of the groups: every used slot below e has its group -/
def mg_G (H R : Nat → Nat) (w : Nat → Int32) (e gc : Nat) (M gt : Nat → Int32) (T : Nat → Nat) : Prop :=
  (∀ g g', g < gc → g' < gc → M g = M g' → g = g') ∧ (∀ a, 16 ≤ a → a < e → H a ≠ 0 → ∃ g, g < gc ∧ M g = w a ∧ R a ≤ T g) ∧ (∀ g, g < gc → gt g = nI (T g) ∧ T g ≤ 15)
theorem mg_G_c {H R : Nat → Nat} {w : Nat → Int32} {e gc : Nat} {M gt M' gt' : Nat → Int32} {T : Nat → Nat} (h : mg_G H R w e gc M gt T) (hc : ∀ g, g < gc → M' g = M g ∧ gt' g = gt g) : mg_G H R w e gc M' gt' T := by
  obtain ⟨h1, h2, h3⟩ := h
  refine ⟨?_, ?_, ?_⟩
  · intro g g' hg hg' q
    rw [(hc g hg).1, (hc g' hg').1] at q
    exact h1 g g' hg hg' q
  · intro a a1 a2 a3
    obtain ⟨g, g1, g2, g3⟩ := h2 a a1 a2 a3
    exact ⟨g, g1, by rw [(hc g g1).1]; exact g2, g3⟩
  · intro g hg
    rw [(hc g hg).2]
    exact h3 g hg
theorem mg_G_ext {H R : Nat → Nat} {w : Nat → Int32} {e gc : Nat} {M gt : Nat → Int32} {T : Nat → Nat} {x : Int32} (h : mg_G H R w e gc M gt T) (hx : ∀ g, g < gc → ¬ M g = x) : mg_G H R w e (gc + 1) (upd M gc x) (upd gt gc 0) (fun g => if g = gc then 0 else T g) := by
  obtain ⟨h1, h2, h3⟩ := h
  refine ⟨?_, ?_, ?_⟩
  · intro g g' hg hg' q
    by_cases c : g = gc
    · by_cases c' : g' = gc
      · omega
      · subst c
        rw [pk_us, pk_un c'] at q
        exact absurd q.symm (hx g' (by omega))
    · by_cases c' : g' = gc
      · subst c'
        rw [pk_us, pk_un c] at q
        exact absurd q (hx g (by omega))
      · rw [pk_un c, pk_un c'] at q
        exact h1 g g' (by omega) (by omega) q
  · intro a a1 a2 a3
    obtain ⟨g, g1, g2, g3⟩ := h2 a a1 a2 a3
    refine ⟨g, by omega, ?_, ?_⟩
    · rw [pk_un (by omega)]; exact g2
    · dsimp only
      rw [if_neg (by omega)]; exact g3
  · intro g hg
    dsimp only
    by_cases c : g = gc
    · subst c
      rw [pk_us, if_pos rfl]
      exact ⟨rfl, by omega⟩
    · rw [pk_un c, if_neg c]
      exact h3 g (by omega)
theorem mg_G_up {H R : Nat → Nat} {w : Nat → Int32} {e gc g : Nat} {M gt gt' : Nat → Int32} {T T' : Nat → Nat} (h : mg_G H R w e gc M gt T) (hg : g < gc) (hm : M g = w e) (hT : ∀ i, i ≠ g → T' i = T i ∧ gt' i = gt i) (h1 : T g ≤ T' g) (h2 : R e ≤ T' g) (h3 : T' g ≤ 15) (h4 : gt' g = nI (T' g)) : mg_G H R w (e + 1) gc M gt' T' := by
  obtain ⟨g1, g2, g3⟩ := h
  refine ⟨g1, ?_, ?_⟩
  · intro a a1 a2 a3
    by_cases c : a = e
    · subst c
      exact ⟨g, hg, hm, h2⟩
    · obtain ⟨i, i1, i2, i3⟩ := g2 a a1 (by omega) a3
      refine ⟨i, i1, i2, ?_⟩
      by_cases d : i = g
      · subst d; omega
      · rw [(hT i d).1]; exact i3
  · intro i hi
    by_cases d : i = g
    · subst d; exact ⟨h4, h3⟩
    · rw [(hT i d).1, (hT i d).2]
      exact g3 i hi
theorem mg_G_skip {H R : Nat → Nat} {w : Nat → Int32} {e gc : Nat} {M gt : Nat → Int32} {T : Nat → Nat} (h : mg_G H R w e gc M gt T) (hu : H e = 0) : mg_G H R w (e + 1) gc M gt T := by
  obtain ⟨g1, g2, g3⟩ := h
  refine ⟨g1, ?_, g3⟩
  intro a a1 a2 a3
  by_cases c : a = e
  · subst c; exact absurd hu a3
  · exact g2 a a1 (by omega) a3
def mg_w (i g : Nat) : Nat := if g = i then i + 1 else if g = i + 1 then i else g
theorem mg_w_w (i g : Nat) : mg_w i (mg_w i g) = g := by
  unfold mg_w
  split
  · rename_i h
    rw [if_neg (by omega), if_pos rfl, h]
  · split
    · rename_i h
      rw [if_pos rfl, h]
    · rfl
theorem mg_w_lt {i g gc : Nat} (hi : i + 1 < gc) (hg : g < gc) : mg_w i g < gc := by
  unfold mg_w
  split
  · omega
  · split <;> omega
theorem mg_G_sw {H R : Nat → Nat} {w : Nat → Int32} {e gc i : Nat} {M gt : Nat → Int32} {T : Nat → Nat} (h : mg_G H R w e gc M gt T) (hi : i + 1 < gc) : mg_G H R w e gc (fun g => M (mg_w i g)) (fun g => gt (mg_w i g)) (fun g => T (mg_w i g)) := by
  obtain ⟨g1, g2, g3⟩ := h
  refine ⟨?_, ?_, ?_⟩
  · intro g g' hg hg' q
    have := g1 _ _ (mg_w_lt hi hg) (mg_w_lt hi hg') q
    rw [← mg_w_w i g, this, mg_w_w]
  · intro a a1 a2 a3
    obtain ⟨g, h1, h2, h3⟩ := g2 a a1 a2 a3
    refine ⟨mg_w i g, mg_w_lt hi h1, ?_, ?_⟩
    · dsimp only
      rw [mg_w_w]; exact h2
    · dsimp only
      rw [mg_w_w]; exact h3
  · intro g hg
    exact g3 _ (mg_w_lt hi hg)
/-- the list L begins at x and is linked by nx -/
def mg_Q (nx : Nat → Int32) : List Nat → Int32 → Prop
  | [], x => x = -1
  | a :: t, x => x = nI a ∧ mg_Q nx t (nx a)
theorem mg_Q_c {nx nx' : Nat → Int32} : ∀ {L : List Nat} {x : Int32}, (∀ a, a ∈ L → nx' a = nx a) → mg_Q nx L x → mg_Q nx' L x
  | [], _, _, h => h
  | a :: t, x, hc, h => by
    refine ⟨h.1, ?_⟩
    rw [hc a List.mem_cons_self]
    exact mg_Q_c (fun b hb => hc b (List.mem_cons_of_mem a hb)) h.2
theorem mg_Q_u {nx : Nat → Int32} : ∀ {L : List Nat} {x y : Int32}, mg_Q nx L x → mg_Q nx L y → x = y
  | [], _, _, h, g => Eq.trans h (Eq.symm g)
  | _ :: _, _, _, h, g => h.1.trans g.1.symm
theorem mg_Q_m {nx : Nat → Int32} {b : Nat} {S : List Nat} : ∀ {P : List Nat} {x : Int32}, mg_Q nx (P ++ b :: S) x → mg_Q nx S (nx b)
  | [], _, h => h.2
  | _ :: P, _, h => mg_Q_m (P := P) h.2
theorem mg_Q_ins {nx nx' : Nat → Int32} {b e : Nat} {S : List Nat} (hb : nx' b = nI e) (he : nx' e = nx b) (hS : ∀ a, a ∈ S → nx' a = nx a) : ∀ {P : List Nat} {x : Int32}, (∀ a, a ∈ P → nx' a = nx a) → mg_Q nx (P ++ b :: S) x → mg_Q nx' (P ++ b :: e :: S) x
  | [], x, _, h => by
    refine ⟨h.1, hb, ?_⟩
    rw [he]
    exact mg_Q_c hS h.2
  | a :: P, x, hP, h => by
    refine ⟨h.1, ?_⟩
    rw [hP a List.mem_cons_self]
    exact mg_Q_ins hb he hS (fun c hc => hP c (List.mem_cons_of_mem a hc)) h.2
/-- the list of a value -/
def mg_s (x : Int32) : Nat := ((((x ^^^ (x >>> ((3 : Int32) &&& 31))) ^^^ (x >>> ((8 : Int32) &&& 31))) ^^^ (x >>> ((11 : Int32) &&& 31))) &&& 7).toNatClampNeg
theorem mg_s_e (x : Int32) : ((((x ^^^ (x >>> ((3 : Int32) &&& 31))) ^^^ (x >>> ((8 : Int32) &&& 31))) ^^^ (x >>> ((11 : Int32) &&& 31))) &&& 7) = nI (mg_s x) ∧ mg_s x < 8 := by
  obtain ⟨j, hj, e⟩ := pk_andE (((x ^^^ (x >>> ((3 : Int32) &&& 31))) ^^^ (x >>> ((8 : Int32) &&& 31))) ^^^ (x >>> ((11 : Int32) &&& 31))) (m := 7) 3 (by decide)
  have h : mg_s x = j := by
    unfold mg_s
    rw [e]
    exact nI_clamp (by omega)
  rw [h]
  exact ⟨e, hj⟩
/-- the lists: Q l holds the used slots below e that belong there, the best first -/
def mg_L (H R : Nat → Nat) (w ky M : Nat → Int32) (e gc : Nat) (lf nx : Nat → Int32) (Q : Nat → List Nat) : Prop :=
  (∀ l, l < 128 → mg_Q nx (Q l) (lf l)) ∧ (∀ l a, l < 128 → (a ∈ Q l ↔ 16 ≤ a ∧ a < e ∧ H a ≠ 0 ∧ ∃ g, g < gc ∧ M g = w a ∧ l = 8 * g + mg_s (ky a &&& 65535))) ∧ (∀ l, l < 128 → (Q l).Pairwise (mg_p H R))
theorem mg_L_0 {H R : Nat → Nat} {w ky M : Nat → Int32} {gc : Nat} {lf nx : Nat → Int32} (h : ∀ l, l < 128 → lf l = -1) : mg_L H R w ky M 16 gc lf nx (fun _ => []) := by
  refine ⟨fun l hl => h l hl, ?_, fun l hl => List.Pairwise.nil⟩
  intro l a hl
  constructor
  · intro z; cases z
  · rintro ⟨h1, h2, _⟩
    omega
theorem mg_L_skip {H R : Nat → Nat} {w ky M : Nat → Int32} {e gc : Nat} {lf nx : Nat → Int32} {Q : Nat → List Nat} (h : mg_L H R w ky M e gc lf nx Q) (hu : H e = 0) : mg_L H R w ky M (e + 1) gc lf nx Q := by
  obtain ⟨h1, h2, h3⟩ := h
  refine ⟨h1, ?_, h3⟩
  intro l a hl
  rw [h2 l a hl]
  constructor
  · rintro ⟨a1, a2, a3, a4⟩
    exact ⟨a1, by omega, a3, a4⟩
  · rintro ⟨a1, a2, a3, a4⟩
    refine ⟨a1, ?_, a3, a4⟩
    by_cases c : a = e
    · subst c; exact absurd hu a3
    · omega
theorem mg_L_ins {H R : Nat → Nat} {w ky M : Nat → Int32} {e gc g l : Nat} {lf nx lf' nx' : Nat → Int32} {Q : Nat → List Nat} {P S : List Nat} (h : mg_L H R w ky M e gc lf nx Q) (hd : ∀ g g', g < gc → g' < gc → M g = M g' → g = g') (hH : ∀ a, a < e → H a ≠ 0 → ¬ H a = H e) (he : 16 ≤ e) (hu : H e ≠ 0) (hg : g < gc) (hm : M g = w e) (hl : l = 8 * g + mg_s (ky e &&& 65535)) (hl8 : l < 128)
    (hQ : Q l = P ++ S) (hP : ∀ a, a ∈ P → mg_p H R a e) (hS : ∀ a t, S = a :: t → ¬ mg_p H R a e)
    (hf : ∀ i, i ≠ l → lf' i = lf i) (hn : ∀ i a, i ≠ l → i < 128 → a ∈ Q i → nx' a = nx a) (hq : mg_Q nx' (P ++ e :: S) (lf' l)) : mg_L H R w ky M (e + 1) gc lf' nx' (fun i => if i = l then P ++ e :: S else Q i) := by
  obtain ⟨h1, h2, h3⟩ := h
  refine ⟨?_, ?_, ?_⟩
  · intro i hi
    dsimp only
    by_cases c : i = l
    · rw [if_pos c, c]; exact hq
    · rw [if_neg c, hf i c]
      exact mg_Q_c (fun a ha => hn i a c hi ha) (h1 i hi)
  · intro i a hi
    dsimp only
    have key : (a ∈ (if i = l then P ++ e :: S else Q i)) ↔ (a ∈ Q i ∨ (i = l ∧ a = e)) := by
      by_cases c : i = l
      · subst c
        rw [if_pos rfl, hQ, List.mem_append, List.mem_append, List.mem_cons]
        constructor
        · rintro (z | z | z)
          · exact Or.inl (Or.inl z)
          · exact Or.inr ⟨rfl, z⟩
          · exact Or.inl (Or.inr z)
        · rintro ((z | z) | ⟨_, z⟩)
          · exact Or.inl z
          · exact Or.inr (Or.inr z)
          · exact Or.inr (Or.inl z)
      · rw [if_neg c]
        exact ⟨Or.inl, fun z => z.elim id (fun z => absurd z.1 c)⟩
    rw [key, h2 i a hi]
    constructor
    · rintro (⟨a1, a2, a3, a4⟩ | ⟨a1, a2⟩)
      · exact ⟨a1, by omega, a3, a4⟩
      · subst a1 a2
        exact ⟨he, by omega, hu, g, hg, hm, hl⟩
    · rintro ⟨a1, a2, a3, g', b1, b2, b3⟩
      by_cases c : a = e
      · subst c
        right
        have : g = g' := hd g g' hg b1 (hm.trans b2.symm)
        subst this
        exact ⟨by omega, rfl⟩
      · left
        exact ⟨a1, by omega, a3, g', b1, b2, b3⟩
  · intro i hi
    dsimp only
    by_cases c : i = l
    · subst c
      rw [if_pos rfl]
      have pw := h3 i hi
      rw [hQ, List.pairwise_append] at pw
      obtain ⟨p1, p2, p3⟩ := pw
      have hm : ∀ a, a ∈ S → a < e ∧ H a ≠ 0 := by
        intro a ha
        have := (h2 i a hi).mp (by rw [hQ]; exact List.mem_append_right P ha)
        exact ⟨this.2.1, this.2.2.1⟩
      have eS : ∀ b, b ∈ S → mg_p H R e b := by
        cases S with
        | nil => intro b hb; cases hb
        | cons a t =>
          have na := hS a t rfl
          have ha := hm a List.mem_cons_self
          have hne := hH a ha.1 ha.2
          have ea : mg_p H R e a := by
            unfold mg_p at na ⊢
            omega
          intro b hb
          rcases List.mem_cons.mp hb with z | z
          · rw [z]; exact ea
          · have ab := (List.pairwise_cons.mp p2).1 b z
            unfold mg_p at ea ab ⊢
            omega
      rw [List.pairwise_append]
      refine ⟨p1, List.pairwise_cons.mpr ⟨eS, p2⟩, ?_⟩
      intro a ha b hb
      rcases List.mem_cons.mp hb with z | z
      · rw [z]; exact hP a ha
      · exact p3 a ha b z
    · rw [if_neg c]
      exact h3 i hi
theorem mg_nd {H R : Nat → Nat} {L : List Nat} (h : L.Pairwise (mg_p H R)) : L.Nodup := by
  refine List.Pairwise.imp ?_ h
  intro a b hab e
  subst e
  unfold mg_p at hab
  omega
/-- slot a of table 1 is used and fits f -/
def mg_U (H : Nat → Nat) (w ky : Nat → Int32) (f : Int32) (a : Nat) : Prop := 16 ≤ a ∧ a < 32 ∧ H a ≠ 0 ∧ f &&& w a = ky a &&& 65535
/-- the groups stand for the slots 16 .. 31 -/
def mg_OK (H R : Nat → Nat) (w ky : Nat → Int32) (fg : Int32) (M gt lf nx : Nat → Int32) : Prop :=
  ∃ (gc : Nat) (T : Nat → Nat) (Q : Nat → List Nat), fg = nI gc ∧ gc ≤ 16 ∧ mg_G H R w 32 gc M gt T ∧ (∀ a b, a < b → b < gc → T b ≤ T a) ∧ mg_L H R w ky M 32 gc lf nx Q
theorem mg_OK_c {H R H' R' : Nat → Nat} {w ky w' ky' : Nat → Int32} {fg : Int32} {M gt lf nx : Nat → Int32} (hc : ∀ a, 16 ≤ a → H a = H' a ∧ R a = R' a ∧ w a = w' a ∧ ky a = ky' a) (h : mg_OK H R w ky fg M gt lf nx) : mg_OK H' R' w' ky' fg M gt lf nx := by
  obtain ⟨gc, T, Q, h1, h2, h3, h4, h5⟩ := h
  obtain ⟨a1, a2, a3⟩ := h3
  obtain ⟨b1, b2, b3⟩ := h5
  refine ⟨gc, T, Q, h1, h2, ⟨a1, ?_, a3⟩, h4, b1, ?_, ?_⟩
  · intro a c1 c2 c3
    have e := hc a c1
    rw [← e.2.1, ← e.2.2.1]
    exact a2 a c1 c2 (by rw [e.1]; exact c3)
  · intro l a hl
    rw [b2 l a hl]
    constructor
    · rintro ⟨c1, c2, c3, c4⟩
      have e := hc a c1
      rw [← e.1, ← e.2.2.1, ← e.2.2.2]
      exact ⟨c1, c2, c3, c4⟩
    · rintro ⟨c1, c2, c3, c4⟩
      have e := hc a c1
      rw [e.1, e.2.2.1, e.2.2.2]
      exact ⟨c1, c2, c3, c4⟩
  · intro l hl
    have m : ∀ a, a ∈ Q l → 16 ≤ a := fun a ha => ((b2 l a hl).mp ha).1
    refine List.Pairwise.imp_of_mem ?_ (b3 l hl)
    intro a b ha hb hab
    have ea := hc a (m a ha)
    have eb := hc b (m b hb)
    unfold mg_p at hab ⊢
    rw [← ea.1, ← ea.2.1, ← eb.1, ← eb.2.1]
    exact hab
end
section
/-! the component's walks: the groups -/
section
variable {f_draft f_nextHandle f_treeReady f_nodeCount f_groupsReady f_groupCount : Int32} {a_defaults a_packet a_entryCount a_handles a_actions a_keys a_widths a_child a_endsHere a_endCount a_partNode a_partDepth a_groupMask a_groupTop a_listFirst a_listNext : Nat → Int32}
theorem mx_groupOf_l {post : Int32 → Prop} {x : Int32} {gc : Nat} (hc : gc ≤ 16) (h1 : ∀ g, g < gc → a_groupMask g = x → post (nI g)) (h2 : (∀ g, g < gc → ¬ a_groupMask g = x) → post (-1)) :
    ∀ (d g : Nat), g + d = gc → (∀ i, i < g → ¬ a_groupMask i = x) → wX_groupOf_2 post x f_draft f_nextHandle f_treeReady f_nodeCount f_groupsReady (nI gc) a_defaults a_packet a_entryCount a_handles a_actions a_keys a_widths a_child a_endsHere a_endCount a_partNode a_partDepth a_groupMask a_groupTop a_listFirst a_listNext (d + 1) (nI g) := by
  intro d
  induction d with
  | zero =>
    intro g hg hn
    have : g = gc := by omega
    subst this
    exact br_t (nI_le (by omega) (by omega)) (h2 hn)
  | succ d ih =>
    intro g hg hn
    refine br_f (nI_ge (by omega) (by omega)) ⟨vp_in_nI (by omega) (by omega), ?_⟩
    rw [nI_clamp (by omega)]
    refine br_c (fun z => h1 g (by omega) z) (fun z => nm_r (nI_1 g) (ih (g + 1) (by omega) ?_))
    intro i hi
    by_cases c : i = g
    · rw [c]; exact z
    · exact hn i (by omega)
theorem mx_groupOf {post : Int32 → Prop} {x : Int32} {gc : Nat} (hc : gc ≤ 16) (h1 : ∀ g, g < gc → a_groupMask g = x → post (nI g)) (h2 : (∀ g, g < gc → ¬ a_groupMask g = x) → post (-1)) : wpX_groupOf post (f_draft, f_nextHandle, f_treeReady, f_nodeCount, f_groupsReady, nI gc, a_defaults, a_packet, a_entryCount, a_handles, a_actions, a_keys, a_widths, a_child, a_endsHere, a_endCount, a_partNode, a_partDepth, a_groupMask, a_groupTop, a_listFirst, a_listNext) x :=
  ⟨gc + 1, mx_groupOf_l hc h1 h2 gc 0 (by omega) (fun i hi => by omega)⟩
theorem mx_priorityOf {post : Int32 → Prop} {nh e : Nat} {H A R : Nat → Nat} (hI : mx_I nh H A R a_handles a_keys a_widths) (h1 : 16 ≤ e) (h2 : e < 32) (hu : H e ≠ 0) (h : post (nI (R e))) : wpX_priorityOf post (f_draft, f_nextHandle, f_treeReady, f_nodeCount, f_groupsReady, f_groupCount, a_defaults, a_packet, a_entryCount, a_handles, a_actions, a_keys, a_widths, a_child, a_endsHere, a_endCount, a_partNode, a_partDepth, a_groupMask, a_groupTop, a_listFirst, a_listNext) (nI e) := by
  refine And.intro (vp_in_nI h2 (by omega)) ?_
  rw [nI_clamp (by omega), (hI.2.2.2.1 e h1 h2 hu).1]
  exact h
theorem mx_precedes {post : Int32 → Prop} {nh a b : Nat} {H A R : Nat → Nat} (hI : mx_I nh H A R a_handles a_keys a_widths) (a1 : 16 ≤ a) (a2 : a < 32) (au : H a ≠ 0) (b1 : 16 ≤ b) (b2 : b < 32) (bu : H b ≠ 0) (h1 : mg_p H R a b → post 1) (h0 : ¬ mg_p H R a b → post 0) : wpX_precedes post (f_draft, f_nextHandle, f_treeReady, f_nodeCount, f_groupsReady, f_groupCount, a_defaults, a_packet, a_entryCount, a_handles, a_actions, a_keys, a_widths, a_child, a_endsHere, a_endCount, a_partNode, a_partDepth, a_groupMask, a_groupTop, a_listFirst, a_listNext) (nI a) (nI b) := by
  have ra := (hI.2.2.2.1 a a1 a2 au).2
  have rb := (hI.2.2.2.1 b b1 b2 bu).2
  have ha := hI.2.1 a a2
  have hb := hI.2.1 b b2
  have hn := hI.1
  unfold mg_p at h1 h0
  unfold wpX_precedes
  dsimp only
  refine mx_priorityOf hI a1 a2 au ?_
  refine mx_priorityOf hI b1 b2 bu ?_
  by_cases c : R b < R a
  · exact br_t (nI_lt c (by omega)) (h1 (Or.inl c))
  · refine br_f (nI_nlt (by omega) (by omega)) ?_
    by_cases d : R a = R b
    · refine br_t (by rw [d]) ⟨vp_in_nI a2 (by omega), vp_in_nI b2 (by omega), ?_⟩
      rw [nI_clamp (by omega), nI_clamp (by omega), ha.1, hb.1]
      by_cases q : H b ≤ H a
      · exact br_t ((mb_le (by omega) (by omega)).mpr q) (h0 (by omega))
      · exact br_f (fun z => q ((mb_le (by omega) (by omega)).mp z)) (h1 (by omega))
    · exact br_f (fun z => d ((nI_eq (by omega) (by omega)).mp z)) (h0 (by omega))
theorem mx_note49 {post : SX → Prop} {nh e gc g : Nat} {H A R T : Nat → Nat} (hI : mx_I nh H A R a_handles a_keys a_widths) (h1 : 16 ≤ e) (h2 : e < 32) (hu : H e ≠ 0) (hc : gc ≤ 16) (hG : mg_G H R a_widths e gc a_groupMask a_groupTop T) (hg : g < gc) (hm : a_groupMask g = a_widths e)
    (hp : ∀ (gt : Nat → Int32) (T : Nat → Nat), mg_G H R a_widths (e + 1) gc a_groupMask gt T → post (f_draft, f_nextHandle, f_treeReady, f_nodeCount, f_groupsReady, f_groupCount, a_defaults, a_packet, a_entryCount, a_handles, a_actions, a_keys, a_widths, a_child, a_endsHere, a_endCount, a_partNode, a_partDepth, a_groupMask, gt, a_listFirst, a_listNext)) : wX_noteGroup_49 post (nI e) (nI g) f_draft f_nextHandle f_treeReady f_nodeCount f_groupsReady f_groupCount a_defaults a_packet a_entryCount a_handles a_actions a_keys a_widths a_child a_endsHere a_endCount a_partNode a_partDepth a_groupMask a_groupTop a_listFirst a_listNext := by
  have hr := hI.2.2.2.1 e h1 h2 hu
  have ht := hG.2.2 g hg
  refine mx_priorityOf hI h1 h2 hu ?_
  refine ⟨vp_in_nI (by omega) (by omega), ?_⟩
  rw [nI_clamp (show g < 2 ^ 31 by omega), nI_clamp (show e < 2 ^ 31 by omega), ht.1, hr.1]
  by_cases c : R e ≤ T g
  · refine br_t (nI_le c (by omega)) (hp a_groupTop T ?_)
    exact mg_G_up hG hg hm (fun i _ => ⟨rfl, rfl⟩) (Nat.le_refl _) c ht.2 ht.1
  · refine br_f (nI_ge (by omega) (by omega)) ⟨vp_in_nI (by omega) (by omega), vp_in_nI (by omega) (by omega), nm_e ?_⟩
    refine hp _ (fun i => if i = g then R e else T i) ?_
    rw [mb_vn8 (by omega)]
    refine mg_G_up hG hg hm ?_ ?_ ?_ ?_ ?_
    · intro i hi
      rw [if_neg hi, pk_un hi]
      exact ⟨rfl, rfl⟩
    · rw [if_pos rfl]; omega
    · rw [if_pos rfl]; omega
    · rw [if_pos rfl]; omega
    · rw [if_pos rfl, pk_us]
theorem mx_noteGroup {post : SX → Prop} {nh e gc : Nat} {H A R T : Nat → Nat} (hI : mx_I nh H A R a_handles a_keys a_widths) (h1 : 16 ≤ e) (h2 : e < 32) (hu : H e ≠ 0) (hc : gc < 16) (hG : mg_G H R a_widths e gc a_groupMask a_groupTop T)
    (hp : ∀ (gc' : Nat) (gm gt : Nat → Int32) (T : Nat → Nat), gc' ≤ gc + 1 → mg_G H R a_widths (e + 1) gc' gm gt T → post (f_draft, f_nextHandle, f_treeReady, f_nodeCount, f_groupsReady, nI gc', a_defaults, a_packet, a_entryCount, a_handles, a_actions, a_keys, a_widths, a_child, a_endsHere, a_endCount, a_partNode, a_partDepth, gm, gt, a_listFirst, a_listNext)) : wpX_noteGroup post (f_draft, f_nextHandle, f_treeReady, f_nodeCount, f_groupsReady, nI gc, a_defaults, a_packet, a_entryCount, a_handles, a_actions, a_keys, a_widths, a_child, a_endsHere, a_endCount, a_partNode, a_partDepth, a_groupMask, a_groupTop, a_listFirst, a_listNext) (nI e) := by
  refine And.intro (vp_in_nI h2 (by omega)) ?_
  rw [nI_clamp (show e < 2 ^ 31 by omega)]
  refine mx_groupOf (by omega) ?_ ?_
  · intro g hg hm
    refine br_t (nI_pos' (by omega)) ?_
    exact mx_note49 hI h1 h2 hu (by omega) hG hg hm (fun gt T h => hp gc a_groupMask gt T (by omega) h)
  · intro hn
    refine br_f (by decide) (nm_r (nI_1 gc) ⟨vp_in_nI h2 (by omega), vp_in_nI (by omega) (by omega), ?_⟩)
    rw [nI_clamp (show gc < 2 ^ 31 by omega), mb_vz]
    refine nm_e ⟨vp_in_nI (by omega) (by omega), nm_e ?_⟩
    refine mx_note49 hI h1 h2 hu (gc := gc + 1) (by omega) (mg_G_ext hG hn) (by omega) pk_us ?_
    intro gt T h
    exact hp (gc + 1) _ gt T (by omega) h
theorem mx_mg43 {post : SX → Prop} {nh : Nat} {H A R : Nat → Nat} (hI : mx_I nh H A R a_handles a_keys a_widths)
    (hp : ∀ (gc : Nat) (gm gt : Nat → Int32) (T : Nat → Nat), gc ≤ 16 → mg_G H R a_widths 32 gc gm gt T → wpX_sortGroups (fun u => match u with | (f_draft, f_nextHandle, f_treeReady, f_nodeCount, f_groupsReady, f_groupCount, a_defaults, a_packet, a_entryCount, a_handles, a_actions, a_keys, a_widths, a_child, a_endsHere, a_endCount, a_partNode, a_partDepth, a_groupMask, a_groupTop, a_listFirst, a_listNext) => (∃ n76 : Nat, wX_makeGroups_76 post n76 16 f_draft f_nextHandle f_treeReady f_nodeCount f_groupsReady f_groupCount a_defaults a_packet a_entryCount a_handles a_actions a_keys a_widths a_child a_endsHere a_endCount a_partNode a_partDepth a_groupMask a_groupTop a_listFirst a_listNext)) (f_draft, f_nextHandle, f_treeReady, f_nodeCount, f_groupsReady, nI gc, a_defaults, a_packet, a_entryCount, a_handles, a_actions, a_keys, a_widths, a_child, a_endsHere, a_endCount, a_partNode, a_partDepth, gm, gt, a_listFirst, a_listNext)) :
    ∀ (d e : Nat), e + d = 32 → 16 ≤ e → ∀ (gc : Nat) (gm gt : Nat → Int32) (T : Nat → Nat), gc + 16 ≤ e → mg_G H R a_widths e gc gm gt T → wX_makeGroups_43 post (d + 1) (nI e) f_draft f_nextHandle f_treeReady f_nodeCount f_groupsReady (nI gc) a_defaults a_packet a_entryCount a_handles a_actions a_keys a_widths a_child a_endsHere a_endCount a_partNode a_partDepth gm gt a_listFirst a_listNext := by
  intro d
  induction d with
  | zero =>
    intro e he h16 gc gm gt T hc hG
    have : e = 32 := by omega
    subst this
    exact br_t (nI_le (a := 32) (b := 32) (by omega) (by omega)) (hp gc gm gt T (by omega) hG)
  | succ d ih =>
    intro e he h16 gc gm gt T hc hG
    have hh := hI.2.1 e (by omega)
    have hn := hI.1
    refine br_f (nI_ge (a := e) (b := 32) (by omega) (by omega)) ⟨vp_in_nI (by omega) (by omega), ?_⟩
    rw [nI_clamp (by omega), hh.1]
    by_cases hu : H e = 0
    · exact br_t ((mb_lt (by omega)).mpr hu) (nm_r (nI_1 e) (ih (e + 1) (by omega) (by omega) gc gm gt T (by omega) (mg_G_skip hG hu)))
    · refine br_f (fun z => hu ((mb_lt (by omega)).mp z)) ?_
      refine mx_noteGroup hI h16 (by omega) hu (by omega) hG ?_
      intro gc' gm' gt' T' hc' hG'
      exact nm_r (nI_1 e) (ih (e + 1) (by omega) (by omega) gc' gm' gt' T' (by omega) hG')
end
end
section
/-! the component's walks: sortGroups -/
def mg_S (T : Nat → Nat) (i q : Nat) : Prop := (∀ a b, a < b → b ≤ i → a ≠ q → b ≠ q → T b ≤ T a) ∧ (∀ b, q < b → b ≤ i → T b ≤ T q)
theorem mg_w1 (t : Nat) : mg_w t t = t + 1 := if_pos rfl
theorem mg_w2 (t : Nat) : mg_w t (t + 1) = t := by
  unfold mg_w
  rw [if_neg (by omega), if_pos rfl]
theorem mg_w3 {t g : Nat} (h1 : g ≠ t) (h2 : g ≠ t + 1) : mg_w t g = g := by
  unfold mg_w
  rw [if_neg h1, if_neg h2]
theorem mg_S_sw {T : Nat → Nat} {i t : Nat} (h : mg_S T i (t + 1)) (hl : T t < T (t + 1)) (hi : t + 1 ≤ i) : mg_S (fun g => T (mg_w t g)) i t := by
  obtain ⟨h1, h2⟩ := h
  refine ⟨?_, ?_⟩
  · intro a b hab hb ha hbt
    dsimp only
    by_cases c : a = t + 1
    · subst c
      rw [mg_w2, mg_w3 (by omega) (by omega)]
      exact h1 t b (by omega) hb (by omega) (by omega)
    · rw [mg_w3 ha c]
      by_cases d : b = t + 1
      · subst d
        rw [mg_w2]
        exact h1 a t (by omega) (by omega) c (by omega)
      · rw [mg_w3 hbt d]
        exact h1 a b hab hb c d
  · intro b hb hi'
    dsimp only
    rw [mg_w1]
    by_cases d : b = t + 1
    · subst d
      rw [mg_w2]; omega
    · rw [mg_w3 (by omega) d]
      exact h2 b (by omega) hi'
theorem mg_S_0 {T : Nat → Nat} {i : Nat} (h : mg_S T i 0) : ∀ a b, a < b → b ≤ i → T b ≤ T a := by
  obtain ⟨h1, h2⟩ := h
  intro a b hab hb
  by_cases c : a = 0
  · subst c; exact h2 b hab hb
  · exact h1 a b hab hb c (by omega)
theorem mg_S_t {T : Nat → Nat} {i t : Nat} (h : mg_S T i (t + 1)) (hl : T (t + 1) ≤ T t) (hi : t + 1 ≤ i) : ∀ a b, a < b → b ≤ i → T b ≤ T a := by
  obtain ⟨h1, h2⟩ := h
  intro a b hab hb
  by_cases c : a = t + 1
  · subst c; exact h2 b hab hb
  · by_cases d : b = t + 1
    · subst d
      by_cases e : a = t
      · rw [e]; exact hl
      · have := h1 a t (by omega) (by omega) c (by omega)
        omega
    · exact h1 a b hab hb c d
section
variable {f_draft f_nextHandle f_treeReady f_nodeCount f_groupsReady f_groupCount : Int32} {a_defaults a_packet a_entryCount a_handles a_actions a_keys a_widths a_child a_endsHere a_endCount a_partNode a_partDepth a_groupMask a_groupTop a_listFirst a_listNext : Nat → Int32}
theorem mx_sort83 {post : SX → Prop} {J : Int32 → (Nat → Int32) → (Nat → Int32) → (Nat → Int32) → (Nat → Int32) → (Nat → Int32) → (Nat → Int32) → (Nat → Int32) → (Nat → Int32) → (Nat → Int32) → (Nat → Int32) → (Nat → Int32) → (Nat → Int32) → (Nat → Int32) → (Nat → Int32) → (Nat → Int32) → (Nat → Int32) → Prop} {i q e gc : Nat} {w M gv : Nat → Int32} {H R T : Nat → Nat} {x2 x3 : Int32} (hc : gc ≤ 16) (hq : q < gc) (hG : mg_G H R w e gc M gv T) (hag : ∀ g, g < gc → g ≠ q → a_groupMask g = M g ∧ a_groupTop g = gv g) (h2 : M q = x2) (h3 : gv q = x3) (hs : ∀ a b, a < b → b ≤ i → T b ≤ T a)
    (hJ : ∀ (gm gt : Nat → Int32) (T : Nat → Nat), mg_G H R w e gc gm gt T → (∀ a b, a < b → b ≤ i → T b ≤ T a) → J (nI (i + 1)) a_defaults a_packet a_entryCount a_handles a_actions a_keys a_widths a_child a_endsHere a_endCount a_partNode a_partDepth gm gt a_listFirst a_listNext) : wX_sortGroups_83 post J (nI i) x2 x3 (nI q) f_draft f_nextHandle f_treeReady f_nodeCount f_groupsReady f_groupCount a_defaults a_packet a_entryCount a_handles a_actions a_keys a_widths a_child a_endsHere a_endCount a_partNode a_partDepth a_groupMask a_groupTop a_listFirst a_listNext := by
  have hT := hG.2.2 q hq
  refine And.intro (vp_in_nI (by omega) (by omega)) ?_
  rw [nI_clamp (show q < 2 ^ 31 by omega), ← h3, hT.1, mb_vn (by omega)]
  refine nm_e ⟨vp_in_nI (by omega) (by omega), nm_e (nm_r (nI_1 i) ?_)⟩
  refine hJ _ _ T (mg_G_c hG ?_) hs
  intro g hg
  by_cases c : g = q
  · subst c
    rw [pk_us, pk_us, h2, hT.1]
    exact ⟨rfl, rfl⟩
  · rw [pk_un c, pk_un c]
    exact hag g hg c
theorem mx_sort27 {post : SX → Prop} {J : Int32 → (Nat → Int32) → (Nat → Int32) → (Nat → Int32) → (Nat → Int32) → (Nat → Int32) → (Nat → Int32) → (Nat → Int32) → (Nat → Int32) → (Nat → Int32) → (Nat → Int32) → (Nat → Int32) → (Nat → Int32) → (Nat → Int32) → (Nat → Int32) → (Nat → Int32) → (Nat → Int32) → Prop} {i e gc : Nat} {w : Nat → Int32} {H R : Nat → Nat} {x2 x3 : Int32} (hc : gc ≤ 16) (hi : i < gc)
    (hJ : ∀ (gm gt : Nat → Int32) (T : Nat → Nat), mg_G H R w e gc gm gt T → (∀ a b, a < b → b ≤ i → T b ≤ T a) → J (nI (i + 1)) a_defaults a_packet a_entryCount a_handles a_actions a_keys a_widths a_child a_endsHere a_endCount a_partNode a_partDepth gm gt a_listFirst a_listNext) :
    ∀ (q : Nat), q ≤ i → ∀ (gm gt M gv : Nat → Int32) (T : Nat → Nat), mg_G H R w e gc M gv T → (∀ g, g < gc → g ≠ q → gm g = M g ∧ gt g = gv g) → M q = x2 → gv q = x3 → mg_S T i q → wX_sortGroups_27 post J (nI i) x2 x3 f_draft f_nextHandle f_treeReady f_nodeCount f_groupsReady f_groupCount (q + 1) (nI q) a_defaults a_packet a_entryCount a_handles a_actions a_keys a_widths a_child a_endsHere a_endCount a_partNode a_partDepth gm gt a_listFirst a_listNext := by
  intro q
  induction q with
  | zero =>
    intro hq gm gt M gv T hG hag h2 h3 hS
    exact br_t (nI_le (a := 0) (b := 0) (by omega) (by omega)) (mx_sort83 hc (by omega) hG hag h2 h3 (mg_S_0 hS) hJ)
  | succ q ih =>
    intro hq gm gt M gv T hG hag h2 h3 hS
    have hT := hG.2.2 q (by omega)
    have hT1 := hG.2.2 (q + 1) (by omega)
    have ha := hag q (by omega) (by omega)
    refine br_f (nI_nle (by omega) (by omega)) ?_
    rw [nI_pred, nI_clamp (show q < 2 ^ 31 by omega), nI_clamp (show q + 1 < 2 ^ 31 by omega), ha.1, ha.2, hT.1, pk_m1]
    refine ⟨vp_in_nI (by omega) (by omega), ?_⟩
    by_cases c : T (q + 1) ≤ T q
    · refine br_t ?_ (mx_sort83 hc (by omega) hG hag h2 h3 (mg_S_t hS c hq) hJ)
      rw [← h3, hT1.1]
      exact nI_le c (by omega)
    · refine br_f ?_ ⟨vp_in_nI (by omega) (by omega), vp_in_nI (by omega) (by omega), nm_e ⟨vp_in_nI (by omega) (by omega), vp_in_nI (by omega) (by omega), nm_e (nm_e ?_)⟩⟩
      · rw [← h3, hT1.1]
        exact nI_ge (by omega) (by omega)
      · rw [mb_vn (by omega)]
        refine ih (by omega) _ _ (fun g => M (mg_w q g)) (fun g => gv (mg_w q g)) (fun g => T (mg_w q g)) (mg_G_sw hG (by omega)) ?_ ?_ ?_ (mg_S_sw hS (by omega) hq)
        · intro g hg hgq
          by_cases d : g = q + 1
          · subst d
            rw [pk_us, pk_us]
            rw [mg_w2, hT.1]
            exact ⟨rfl, rfl⟩
          · rw [pk_un d, pk_un d]
            rw [mg_w3 hgq d]
            exact hag g hg d
        · rw [mg_w1]; exact h2
        · rw [mg_w1]; exact h3
theorem mx_sort2 {post : SX → Prop} {e gc : Nat} {w : Nat → Int32} {H R : Nat → Nat} (hc : gc ≤ 16)
    (hp : ∀ (gm gt : Nat → Int32) (T : Nat → Nat), mg_G H R w e gc gm gt T → (∀ a b, a < b → b < gc → T b ≤ T a) → post (f_draft, f_nextHandle, f_treeReady, f_nodeCount, f_groupsReady, nI gc, a_defaults, a_packet, a_entryCount, a_handles, a_actions, a_keys, a_widths, a_child, a_endsHere, a_endCount, a_partNode, a_partDepth, gm, gt, a_listFirst, a_listNext)) :
    ∀ (d i : Nat), i + d = 17 → 1 ≤ i → ∀ (gm gt : Nat → Int32) (T : Nat → Nat), mg_G H R w e gc gm gt T → (∀ a b, a < b → b < i → T b ≤ T a) → wX_sortGroups_2 post f_draft f_nextHandle f_treeReady f_nodeCount f_groupsReady (nI gc) (d + 1) (nI i) a_defaults a_packet a_entryCount a_handles a_actions a_keys a_widths a_child a_endsHere a_endCount a_partNode a_partDepth gm gt a_listFirst a_listNext := by
  intro d
  induction d with
  | zero =>
    intro i hi h1 gm gt T hG hs
    exact br_t (nI_le (by omega) (by omega)) (hp gm gt T hG (fun a b hab hb => hs a b hab (by omega)))
  | succ d ih =>
    intro i hi h1 gm gt T hG hs
    by_cases c : gc ≤ i
    · exact br_t (nI_le (by omega) (by omega)) (hp gm gt T hG (fun a b hab hb => hs a b hab (by omega)))
    · refine br_f (nI_ge (by omega) (by omega)) ⟨vp_in_nI (by omega) (by omega), nm_e ⟨vp_in_nI (by omega) (by omega), nm_e ⟨i + 1, ?_⟩⟩⟩
      rw [nI_clamp (show i < 2 ^ 31 by omega)]
      refine mx_sort27 hc (by omega) ?_ i (by omega) gm gt gm gt T hG (fun g _ _ => ⟨rfl, rfl⟩) rfl rfl ?_
      · intro gm' gt' T' hG' hs'
        exact ih (i + 1) (by omega) (by omega) gm' gt' T' hG' (fun a b hab hb => hs' a b hab (by omega))
      · refine ⟨fun a b hab hb ha hbi => hs a b hab (by omega), fun b hb hb' => by omega⟩
theorem mx_sortGroups {post : SX → Prop} {e gc : Nat} {w : Nat → Int32} {H R T : Nat → Nat} (hc : gc ≤ 16) (hG : mg_G H R w e gc a_groupMask a_groupTop T)
    (hp : ∀ (gm gt : Nat → Int32) (T : Nat → Nat), mg_G H R w e gc gm gt T → (∀ a b, a < b → b < gc → T b ≤ T a) → post (f_draft, f_nextHandle, f_treeReady, f_nodeCount, f_groupsReady, nI gc, a_defaults, a_packet, a_entryCount, a_handles, a_actions, a_keys, a_widths, a_child, a_endsHere, a_endCount, a_partNode, a_partDepth, gm, gt, a_listFirst, a_listNext)) : wpX_sortGroups post (f_draft, f_nextHandle, f_treeReady, f_nodeCount, f_groupsReady, nI gc, a_defaults, a_packet, a_entryCount, a_handles, a_actions, a_keys, a_widths, a_child, a_endsHere, a_endCount, a_partNode, a_partDepth, a_groupMask, a_groupTop, a_listFirst, a_listNext) :=
  ⟨17, mx_sort2 hc hp 16 1 (by omega) (by omega) a_groupMask a_groupTop T hG (fun a b hab hb => by omega)⟩
end
end
section
/-! the component's walks: hang, makeGroups -/
section
variable {f_draft f_nextHandle f_treeReady f_nodeCount f_groupsReady f_groupCount : Int32} {a_defaults a_packet a_entryCount a_handles a_actions a_keys a_widths a_child a_endsHere a_endCount a_partNode a_partDepth a_groupMask a_groupTop a_listFirst a_listNext : Nat → Int32}
theorem mx_slotOf {post : Int32 → Prop} {x : Int32} (h : post (nI (mg_s x))) : wpX_slotOf post (f_draft, f_nextHandle, f_treeReady, f_nodeCount, f_groupsReady, f_groupCount, a_defaults, a_packet, a_entryCount, a_handles, a_actions, a_keys, a_widths, a_child, a_endsHere, a_endCount, a_partNode, a_partDepth, a_groupMask, a_groupTop, a_listFirst, a_listNext) x := by
  show post _
  rw [(mg_s_e x).1]
  exact h
theorem mx_Qc {nx : Nat → Int32} {S : List Nat} {x : Int32} (h : mg_Q nx S x) (hS : ∀ a, a ∈ S → a < 32) : ∃ r, r ≤ 32 ∧ x = mb_c r := by
  cases S with
  | nil => exact ⟨0, by omega, h.trans mb_c0.symm⟩
  | cons a t => exact ⟨a + 1, by have := hS a List.mem_cons_self; omega, h.1.trans (mb_cs a).symm⟩
/-- the end of hang: e goes between P and S -/
theorem mx_hang68 {post : SX → Prop} {nh e gc g l : Nat} {H A R : Nat → Nat} {Q : Nat → List Nat} {P S : List Nat} {x3 x4 : Int32} (hI : mx_I nh H A R a_handles a_keys a_widths) (h1 : 16 ≤ e) (h2 : e < 32) (hu : H e ≠ 0) (hL : mg_L H R a_widths a_keys a_groupMask e gc a_listFirst a_listNext Q) (hd : ∀ g g', g < gc → g' < gc → a_groupMask g = a_groupMask g' → g = g') (hg : g < gc) (hm : a_groupMask g = a_widths e) (hl : l = 8 * g + mg_s (a_keys e &&& 65535)) (hl8 : l < 128)
    (hQ : Q l = P ++ S) (hx4 : mg_Q a_listNext S x4) (hx3 : (P = [] ∧ x3 = -1) ∨ ∃ P0 b, P = P0 ++ [b] ∧ x3 = nI b) (hP : ∀ a, a ∈ P → mg_p H R a e) (hS : ∀ a t, S = a :: t → ¬ mg_p H R a e)
    (hp : ∀ (lf nx : Nat → Int32) (Q : Nat → List Nat), mg_L H R a_widths a_keys a_groupMask (e + 1) gc lf nx Q → post (f_draft, f_nextHandle, f_treeReady, f_nodeCount, f_groupsReady, f_groupCount, a_defaults, a_packet, a_entryCount, a_handles, a_actions, a_keys, a_widths, a_child, a_endsHere, a_endCount, a_partNode, a_partDepth, a_groupMask, a_groupTop, lf, nx)) : wX_hang_68 post (nI e) (nI l) x3 x4 f_draft f_nextHandle f_treeReady f_nodeCount f_groupsReady f_groupCount a_defaults a_packet a_entryCount a_handles a_actions a_keys a_widths a_child a_endsHere a_endCount a_partNode a_partDepth a_groupMask a_groupTop a_listFirst a_listNext := by
  have hmem : ∀ i a, i < 128 → a ∈ Q i → 16 ≤ a ∧ a < e := fun i a hi ha => ⟨((hL.2.1 i a hi).mp ha).1, ((hL.2.1 i a hi).mp ha).2.1⟩
  have hlt : ∀ a, a ∈ P ++ S → a < e := fun a ha => (hmem l a hl8 (by rw [hQ]; exact ha)).2
  have hH : ∀ a, a < e → H a ≠ 0 → ¬ H a = H e := by
    intro a ha hz q
    have := hI.2.2.2.2 a e (by omega) h2 hz q
    omega
  obtain ⟨r, hr, hxr⟩ := mx_Qc hx4 (fun a ha => by have := hlt a (List.mem_append_right P ha); omega)
  have hx8 : vp_nar .byte x4.toInt8.toInt32 = x4 := by rw [hxr]; exact mb_vc8 (by omega)
  have hq := hL.1 l hl8
  have hnd := mg_nd (hL.2.2 l hl8)
  rw [hQ] at hq hnd
  refine And.intro (vp_in_nI h2 (by omega)) ?_
  rw [nI_clamp (show e < 2 ^ 31 by omega), hx8, mb_vn8 (show e < 128 by omega)]
  refine nm_e ?_
  rcases hx3 with ⟨hP0, h3⟩ | ⟨P0, b, hP0, h3⟩
  · rw [h3]
    refine br_f (by decide) ⟨vp_in_nI (by omega) (by omega), ?_⟩
    rw [nI_clamp (show l < 2 ^ 31 by omega)]
    refine nm_e (hp _ _ _ (mg_L_ins hL hd hH h1 hu hg hm hl hl8 hQ hP hS ?_ ?_ ?_))
    · intro i hi
      exact pk_un hi
    · intro i a hi hi8 ha
      have := (hmem i a hi8 ha).2
      exact pk_un (by omega)
    · rw [pk_us, hP0]
      refine ⟨rfl, ?_⟩
      rw [pk_us]
      refine mg_Q_c ?_ hx4
      intro a ha
      have := hlt a (List.mem_append_right P ha)
      exact pk_un (by omega)
  · have hbm : b ∈ P := by rw [hP0]; exact List.mem_append_right P0 List.mem_cons_self
    have hb := hlt b (List.mem_append_left S hbm)
    have hbQ : b ∈ Q l := by rw [hQ]; exact List.mem_append_left S hbm
    rw [hP0, List.append_assoc, List.singleton_append] at hq hnd
    have hxb : x4 = a_listNext b := mg_Q_u hx4 (mg_Q_m hq)
    rw [h3]
    refine br_t (nI_pos' (by omega)) ⟨vp_in_nI (by omega) (by omega), ?_⟩
    rw [nI_clamp (show b < 2 ^ 31 by omega)]
    refine nm_e (hp _ _ _ (mg_L_ins hL hd hH h1 hu hg hm hl hl8 hQ hP hS (fun i _ => rfl) ?_ ?_))
    · intro i a hi hi8 ha
      have h3 := (hmem i a hi8 ha).2
      have hab : a ≠ b := by
        intro z
        subst z
        obtain ⟨_, _, _, g1, c1, c2, c3⟩ := (hL.2.1 i a hi8).mp ha
        obtain ⟨_, _, _, g2, d1, d2, d3⟩ := (hL.2.1 l a hl8).mp hbQ
        have : g1 = g2 := hd g1 g2 c1 d1 (c2.trans d2.symm)
        subst this
        omega
      rw [pk_un hab, pk_un (by omega)]
    · rw [hP0, List.append_assoc, List.singleton_append]
      rw [List.nodup_append] at hnd
      obtain ⟨n1, n2, n3⟩ := hnd
      have n4 := List.nodup_cons.mp n2
      refine mg_Q_ins pk_us ?_ ?_ ?_ hq
      · rw [pk_un (by omega), pk_us]; exact hxb
      · intro a ha
        have := hlt a (List.mem_append_right P ha)
        rw [pk_un (fun z => n4.1 (by rw [← z]; exact ha)), pk_un (by omega)]
      · intro a ha
        have := hlt a (List.mem_append_left S (by rw [hP0]; exact List.mem_append_left [b] ha))
        rw [pk_un (n3 a ha b List.mem_cons_self), pk_un (by omega)]
theorem mx_hang38 {post : SX → Prop} {nh e gc g l : Nat} {H A R : Nat → Nat} {Q : Nat → List Nat} (hI : mx_I nh H A R a_handles a_keys a_widths) (h1 : 16 ≤ e) (h2 : e < 32) (hu : H e ≠ 0) (hL : mg_L H R a_widths a_keys a_groupMask e gc a_listFirst a_listNext Q) (hd : ∀ g g', g < gc → g' < gc → a_groupMask g = a_groupMask g' → g = g') (hg : g < gc) (hm : a_groupMask g = a_widths e) (hl : l = 8 * g + mg_s (a_keys e &&& 65535)) (hl8 : l < 128)
    (hp : ∀ (lf nx : Nat → Int32) (Q : Nat → List Nat), mg_L H R a_widths a_keys a_groupMask (e + 1) gc lf nx Q → post (f_draft, f_nextHandle, f_treeReady, f_nodeCount, f_groupsReady, f_groupCount, a_defaults, a_packet, a_entryCount, a_handles, a_actions, a_keys, a_widths, a_child, a_endsHere, a_endCount, a_partNode, a_partDepth, a_groupMask, a_groupTop, lf, nx)) :
    ∀ (S P : List Nat) (x3 x4 : Int32), Q l = P ++ S → mg_Q a_listNext S x4 → ((P = [] ∧ x3 = -1) ∨ ∃ P0 b, P = P0 ++ [b] ∧ x3 = nI b) → (∀ a, a ∈ P → mg_p H R a e) → wX_hang_38 post (nI e) (nI l) f_draft f_nextHandle f_treeReady f_nodeCount f_groupsReady f_groupCount a_defaults a_packet a_entryCount a_handles a_actions a_keys a_widths a_child a_endsHere a_endCount a_partNode a_partDepth a_groupMask a_groupTop a_listFirst a_listNext (S.length + 1) x3 x4 := by
  intro S
  induction S with
  | nil =>
    intro P x3 x4 hQ hx4 hx3 hP
    have h4 : x4 = -1 := hx4
    refine br_t (by rw [h4]; decide) ?_
    exact mx_hang68 hI h1 h2 hu hL hd hg hm hl hl8 hQ hx4 hx3 hP (fun a t z => by cases z) hp
  | cons a S ih =>
    intro P x3 x4 hQ hx4 hx3 hP
    have ha := (hL.2.1 l a hl8).mp (by rw [hQ]; exact List.mem_append_right P List.mem_cons_self)
    have h4 : x4 = nI a := hx4.1
    subst h4
    refine br_f (nI_pos (by omega)) ?_
    refine mx_precedes hI ha.1 (by omega) ha.2.2.1 h1 h2 hu ?_ ?_
    · intro hpr
      refine br_f (by decide) ⟨vp_in_nI (by omega) (by omega), ?_⟩
      rw [nI_clamp (by omega)]
      refine nm_e (ih (P ++ [a]) (nI a) (a_listNext a) ?_ hx4.2 (Or.inr ⟨P, a, rfl, rfl⟩) ?_)
      · rw [hQ, List.append_assoc, List.singleton_append]
      · intro b hb
        rcases List.mem_append.mp hb with z | z
        · exact hP b z
        · have : b = a := by simpa using z
          rw [this]; exact hpr
    · intro hpr
      refine br_t rfl ?_
      exact mx_hang68 hI h1 h2 hu hL hd hg hm hl hl8 hQ hx4 hx3 hP (fun b t z => by cases z; exact hpr) hp
theorem mx_hang {post : SX → Prop} {nh e gc : Nat} {H A R T : Nat → Nat} {Q : Nat → List Nat} (hI : mx_I nh H A R a_handles a_keys a_widths) (h1 : 16 ≤ e) (h2 : e < 32) (hu : H e ≠ 0) (hc : gc ≤ 16) (hG : mg_G H R a_widths 32 gc a_groupMask a_groupTop T) (hL : mg_L H R a_widths a_keys a_groupMask e gc a_listFirst a_listNext Q)
    (hp : ∀ (lf nx : Nat → Int32) (Q : Nat → List Nat), mg_L H R a_widths a_keys a_groupMask (e + 1) gc lf nx Q → post (f_draft, f_nextHandle, f_treeReady, f_nodeCount, f_groupsReady, nI gc, a_defaults, a_packet, a_entryCount, a_handles, a_actions, a_keys, a_widths, a_child, a_endsHere, a_endCount, a_partNode, a_partDepth, a_groupMask, a_groupTop, lf, nx)) : wpX_hang post (f_draft, f_nextHandle, f_treeReady, f_nodeCount, f_groupsReady, nI gc, a_defaults, a_packet, a_entryCount, a_handles, a_actions, a_keys, a_widths, a_child, a_endsHere, a_endCount, a_partNode, a_partDepth, a_groupMask, a_groupTop, a_listFirst, a_listNext) (nI e) := by
  refine And.intro (vp_in_nI h2 (by omega)) ?_
  rw [nI_clamp (show e < 2 ^ 31 by omega)]
  refine mx_groupOf hc ?_ ?_
  · intro g hg hm
    refine ⟨vp_in_nI h2 (by omega), ?_⟩
    refine mx_slotOf ?_
    have hs := (mg_s_e (a_keys e &&& 65535)).2
    have e8 : (8 : Int32) * nI g + nI (mg_s (a_keys e &&& 65535)) = nI (8 * g + mg_s (a_keys e &&& 65535)) := by
      rw [show (8 : Int32) * nI g = nI (8 * g) from pk_mul 8 g, nI_add]
    refine nm_r e8 ⟨vp_in_nI (by omega) (by omega), ?_⟩
    rw [nI_clamp (by omega)]
    refine nm_e ⟨_, mx_hang38 hI h1 h2 hu hL hG.1 hg hm rfl (by omega) hp (Q (8 * g + mg_s (a_keys e &&& 65535))) [] (-1) _ rfl (hL.1 _ (by omega)) (Or.inl ⟨rfl, rfl⟩) (fun a ha => by cases ha)⟩
  · intro hn
    obtain ⟨g, g1, g2, _⟩ := hG.2.1 e h1 h2 hu
    exact absurd g2 (hn g g1)
theorem mx_mg76 {post : SX → Prop} {nh gc : Nat} {H A R T : Nat → Nat} (hI : mx_I nh H A R a_handles a_keys a_widths) (hc : gc ≤ 16) (hG : mg_G H R a_widths 32 gc a_groupMask a_groupTop T)
    (hp : ∀ (lf nx : Nat → Int32) (Q : Nat → List Nat), mg_L H R a_widths a_keys a_groupMask 32 gc lf nx Q → post (f_draft, f_nextHandle, f_treeReady, f_nodeCount, f_groupsReady, nI gc, a_defaults, a_packet, a_entryCount, a_handles, a_actions, a_keys, a_widths, a_child, a_endsHere, a_endCount, a_partNode, a_partDepth, a_groupMask, a_groupTop, lf, nx)) :
    ∀ (d e : Nat), e + d = 32 → 16 ≤ e → ∀ (lf nx : Nat → Int32) (Q : Nat → List Nat), mg_L H R a_widths a_keys a_groupMask e gc lf nx Q → wX_makeGroups_76 post (d + 1) (nI e) f_draft f_nextHandle f_treeReady f_nodeCount f_groupsReady (nI gc) a_defaults a_packet a_entryCount a_handles a_actions a_keys a_widths a_child a_endsHere a_endCount a_partNode a_partDepth a_groupMask a_groupTop lf nx := by
  intro d
  induction d with
  | zero =>
    intro e he h16 lf nx Q hL
    have : e = 32 := by omega
    subst this
    exact br_t (nI_le (a := 32) (b := 32) (by omega) (by omega)) (hp lf nx Q hL)
  | succ d ih =>
    intro e he h16 lf nx Q hL
    have hh := hI.2.1 e (by omega)
    have hn := hI.1
    refine br_f (nI_ge (a := e) (b := 32) (by omega) (by omega)) ⟨vp_in_nI (by omega) (by omega), ?_⟩
    rw [nI_clamp (by omega), hh.1]
    by_cases hu : H e = 0
    · exact br_t ((mb_lt (by omega)).mpr hu) (nm_r (nI_1 e) (ih (e + 1) (by omega) (by omega) lf nx Q (mg_L_skip hL hu)))
    · refine br_f (fun z => hu ((mb_lt (by omega)).mp z)) ?_
      refine mx_hang hI h16 (by omega) hu hc hG hL ?_
      intro lf' nx' Q' hL'
      exact nm_r (nI_1 e) (ih (e + 1) (by omega) (by omega) lf' nx' Q' hL')
theorem mx_mg20 {post : SX → Prop} (hp : ∀ lf : Nat → Int32, (∀ l, l < 128 → lf l = -1) → ∃ n43 : Nat, wX_makeGroups_43 post n43 16 f_draft f_nextHandle f_treeReady f_nodeCount f_groupsReady f_groupCount a_defaults a_packet a_entryCount a_handles a_actions a_keys a_widths a_child a_endsHere a_endCount a_partNode a_partDepth a_groupMask a_groupTop lf a_listNext) :
    ∀ (d i : Nat), i + d = 128 → ∀ lf : Nat → Int32, (∀ l, l < i → lf l = -1) → wX_makeGroups_20 post f_draft f_nextHandle f_treeReady f_nodeCount f_groupsReady f_groupCount (d + 1) (nI i) a_defaults a_packet a_entryCount a_handles a_actions a_keys a_widths a_child a_endsHere a_endCount a_partNode a_partDepth a_groupMask a_groupTop lf a_listNext := by
  intro d
  induction d with
  | zero =>
    intro i hi lf hl
    have : i = 128 := by omega
    subst this
    exact br_t (nI_le (a := 128) (b := 128) (by omega) (by omega)) (hp lf hl)
  | succ d ih =>
    intro i hi lf hl
    refine br_f (nI_ge (a := i) (b := 128) (by omega) (by omega)) ⟨vp_in_nI (by omega) (by omega), ?_⟩
    rw [nI_clamp (by omega), mb_vm1]
    refine nm_e (nm_r (nI_1 i) (ih (i + 1) (by omega) _ ?_))
    intro l hl'
    by_cases c : l = i
    · rw [c, pk_us]
    · rw [pk_un c]
      exact hl l (by omega)
theorem mx_makeGroups {post : SX → Prop} {nh : Nat} {H A R : Nat → Nat} (hI : mx_I nh H A R a_handles a_keys a_widths) (ht : ¬ f_groupsReady = 0 → mg_OK H R a_widths a_keys f_groupCount a_groupMask a_groupTop a_listFirst a_listNext)
    (hp : ∀ (gr : Int32) (gc : Nat) (T : Nat → Nat) (Q : Nat → List Nat) (gm gt lf nx : Nat → Int32), gc ≤ 16 → mg_G H R a_widths 32 gc gm gt T → (∀ a b, a < b → b < gc → T b ≤ T a) → mg_L H R a_widths a_keys gm 32 gc lf nx Q → post (f_draft, f_nextHandle, f_treeReady, f_nodeCount, gr, nI gc, a_defaults, a_packet, a_entryCount, a_handles, a_actions, a_keys, a_widths, a_child, a_endsHere, a_endCount, a_partNode, a_partDepth, gm, gt, lf, nx)) : wpX_makeGroups post (f_draft, f_nextHandle, f_treeReady, f_nodeCount, f_groupsReady, f_groupCount, a_defaults, a_packet, a_entryCount, a_handles, a_actions, a_keys, a_widths, a_child, a_endsHere, a_endCount, a_partNode, a_partDepth, a_groupMask, a_groupTop, a_listFirst, a_listNext) := by
  by_cases c : f_groupsReady = 0
  · refine br_t c ⟨129, ?_⟩
    refine mx_mg20 ?_ 128 0 (by omega) a_listFirst (fun l hl => by omega)
    intro lf hlf
    refine ⟨17, ?_⟩
    refine mx_mg43 hI ?_ 16 16 (by omega) (by omega) 0 a_groupMask a_groupTop (fun _ => 0) (by omega) ?_
    · intro gc gm gt T hc hG
      refine mx_sortGroups hc hG ?_
      intro gm gt T hG hs
      refine ⟨17, ?_⟩
      refine mx_mg76 hI hc hG ?_ 16 16 (by omega) (by omega) lf a_listNext (fun _ => []) (mg_L_0 hlf)
      intro lf nx Q hL
      exact hp 1 gc T Q gm gt lf nx hc hG hs hL
    · exact ⟨fun g g' hg => by omega, fun a a1 a2 => by omega, fun g hg => by omega⟩
  · obtain ⟨gc, T, Q, h1, h2, h3, h4, h5⟩ := ht c
    refine br_f c ?_
    have h := hp f_groupsReady gc T Q a_groupMask a_groupTop a_listFirst a_listNext h2 h3 h4 h5
    rw [← h1] at h
    exact h
end
end
section
/-! the component's walks: greatestPriority, maskedMatching -/
theorem mg_V {H R T : Nat → Nat} {w ky M gt lf nx : Nat → Int32} {gc g : Nat} {Q : Nat → List Nat} {f : Int32} (hc : gc ≤ 16) (hG : mg_G H R w 32 gc M gt T) (hL : mg_L H R w ky M 32 gc lf nx Q) (hg : g < gc) (a : Nat) : (a ∈ Q (8 * g + mg_s (f &&& M g)) ∧ ky a &&& 65535 = f &&& M g) ↔ (mg_U H w ky f a ∧ M g = w a) := by
  have hs := (mg_s_e (f &&& M g)).2
  rw [hL.2.1 _ a (by omega)]
  constructor
  · rintro ⟨⟨h1, h2, h3, g', b1, b2, b3⟩, h4⟩
    have hs' := (mg_s_e (ky a &&& 65535)).2
    have : g = g' := by omega
    subst this
    exact ⟨⟨h1, h2, h3, by rw [← b2]; exact h4.symm⟩, b2⟩
  · rintro ⟨⟨h1, h2, h3, h4⟩, h5⟩
    rw [← h5] at h4
    exact ⟨⟨h1, h2, h3, g, hg, h5, by rw [h4]⟩, h4.symm⟩
section
variable {f_draft f_nextHandle f_treeReady f_nodeCount f_groupsReady f_groupCount : Int32} {a_defaults a_packet a_entryCount a_handles a_actions a_keys a_widths a_child a_endsHere a_endCount a_partNode a_partDepth a_groupMask a_groupTop a_listFirst a_listNext : Nat → Int32}
theorem mx_gp113 {post : Int32 → SX → Prop} {J : Int32 → Int32 → Prop} {nh b r g : Nat} {H A R : Nat → Nat} {U V W : Nat → Prop} {x1 : Int32} (hI : mx_I nh H A R a_handles a_keys a_widths) (hU : ∀ a, U a → 16 ≤ a ∧ a < 32 ∧ H a ≠ 0) (hV : ∀ a, V a → 16 ≤ a ∧ a < 32 ∧ H a ≠ 0) (hb : mr_bm U H R b) (hr : mr_bm V H R r) (hW : ∀ a, W a ↔ U a ∨ V a)
    (hJ : ∀ s, mr_bm W H R s → J (mb_c s) (nI (g + 1))) : wX_greatestPriority_113 post J x1 (mb_c b) (nI g) (mb_c r) f_draft f_nextHandle f_treeReady f_nodeCount f_groupsReady f_groupCount a_defaults a_packet a_entryCount a_handles a_actions a_keys a_widths a_child a_endsHere a_endCount a_partNode a_partDepth a_groupMask a_groupTop a_listFirst a_listNext := by
  have hr32 : r ≤ 32 := by
    rcases hr with ⟨z, _⟩ | ⟨e, z, u, _⟩
    · omega
    · have := hV e u; omega
  have hb32 : b ≤ 32 := by
    rcases hb with ⟨z, _⟩ | ⟨e, z, u, _⟩
    · omega
    · have := hU e u; omega
  by_cases zr : r = 0
  · subst zr
    exact br_t ((mb_lt (by omega)).mpr rfl) (nm_r (nI_1 g) (hJ b (mg_bm_l hb hr hW)))
  · refine br_f (fun z => zr ((mb_lt (by omega)).mp z)) ?_
    by_cases zb : b = 0
    · subst zb
      exact br_t ((mb_lt (by omega)).mpr rfl) (nm_r (nI_1 g) (hJ r (mg_bm_r hb hr hW)))
    · obtain ⟨b, rfl⟩ : ∃ k, b = k + 1 := ⟨b - 1, by omega⟩
      obtain ⟨r, rfl⟩ : ∃ k, r = k + 1 := ⟨r - 1, by omega⟩
      have hbu : 16 ≤ b ∧ b < 32 ∧ H b ≠ 0 := by
        rcases hb with ⟨z, _⟩ | ⟨e, z, u, _⟩
        · omega
        · have : e = b := by omega
          subst this
          exact hU e u
      have hru : 16 ≤ r ∧ r < 32 ∧ H r ≠ 0 := by
        rcases hr with ⟨z, _⟩ | ⟨e, z, u, _⟩
        · omega
        · have : e = r := by omega
          subst this
          exact hV e u
      refine br_f (fun z => zb ((mb_lt (by omega)).mp z)) ?_
      rw [mb_cs, mb_cs]
      refine mx_precedes hI hru.1 hru.2.1 hru.2.2 hbu.1 hbu.2.1 hbu.2.2 ?_ ?_
      · intro hp
        refine br_f (by decide) (nm_r (nI_1 g) ?_)
        rw [← mb_cs]
        exact hJ (r + 1) (mg_bm_y hb hr hp hW)
      · intro hp
        refine br_t rfl (nm_r (nI_1 g) ?_)
        rw [← mb_cs]
        exact hJ (b + 1) (mg_bm_n hb hr (fun z => hI.2.2.2.2 r b hru.2.1 hbu.2.1 hru.2.2 z) hp hW)
theorem mx_gp81 {post : Int32 → SX → Prop} {J : Int32 → Int32 → Prop} {H R : Nat → Nat} {x1 x2 x3 wd : Int32} :
    ∀ (L : List Nat) (x : Int32), mg_Q a_listNext L x → (∀ a, a ∈ L → a < 32) → L.Pairwise (mg_p H R) →
      (∀ r, mr_bm (fun a => a ∈ L ∧ a_keys a &&& 65535 = wd) H R r → wX_greatestPriority_113 post J x1 x2 x3 (mb_c r) f_draft f_nextHandle f_treeReady f_nodeCount f_groupsReady f_groupCount a_defaults a_packet a_entryCount a_handles a_actions a_keys a_widths a_child a_endsHere a_endCount a_partNode a_partDepth a_groupMask a_groupTop a_listFirst a_listNext) → wX_greatestPriority_81 post J x1 x2 x3 wd f_draft f_nextHandle f_treeReady f_nodeCount f_groupsReady f_groupCount a_defaults a_packet a_entryCount a_handles a_actions a_keys a_widths a_child a_endsHere a_endCount a_partNode a_partDepth a_groupMask a_groupTop a_listFirst a_listNext (L.length + 1) x := by
  intro L
  induction L with
  | nil =>
    intro x hx hm hp h
    have hx' : x = -1 := hx
    refine br_t (by rw [hx']; decide) ?_
    rw [hx', ← mb_c0]
    exact h 0 (Or.inl ⟨rfl, fun a z => by cases z.1⟩)
  | cons a L ih =>
    intro x hx hm hp h
    have hx' : x = nI a := hx.1
    have ha := hm a List.mem_cons_self
    subst hx'
    have pw := List.pairwise_cons.mp hp
    refine br_f (nI_pos (by omega)) ⟨vp_in_nI (by omega) (by omega), ?_⟩
    rw [nI_clamp (by omega)]
    by_cases c : a_keys a &&& 65535 = wd
    · refine br_t c ?_
      rw [← mb_cs]
      refine h (a + 1) (Or.inr ⟨a, rfl, ⟨List.mem_cons_self, c⟩, ?_⟩)
      rintro b ⟨hb, _⟩ hne
      rcases List.mem_cons.mp hb with z | z
      · exact absurd z hne
      · exact pw.1 b z
    · refine br_f c ⟨vp_in_nI (by omega) (by omega), nm_e (ih (a_listNext a) hx.2 (fun b hb => hm b (List.mem_cons_of_mem a hb)) pw.2 ?_)⟩
      intro r hr
      refine h r (mr_bm_c hr ?_)
      intro b
      rw [List.mem_cons]
      constructor
      · rintro ⟨h1, h2⟩
        exact ⟨Or.inr h1, h2⟩
      · rintro ⟨h1 | h1, h2⟩
        · subst h1; exact absurd h2 c
        · exact ⟨h1, h2⟩
theorem mx_gp25 {post : Int32 → SX → Prop} {nh gc : Nat} {H A R T : Nat → Nat} {Q : Nat → List Nat} {f : Int32} (hI : mx_I nh H A R a_handles a_keys a_widths) (hc : gc ≤ 16) (hG : mg_G H R a_widths 32 gc a_groupMask a_groupTop T) (hs : ∀ a b, a < b → b < gc → T b ≤ T a) (hL : mg_L H R a_widths a_keys a_groupMask 32 gc a_listFirst a_listNext Q)
    (hp : ∀ r, mr_bm (mg_U H a_widths a_keys f) H R r → post (mb_c r) (f_draft, f_nextHandle, f_treeReady, f_nodeCount, f_groupsReady, nI gc, a_defaults, a_packet, a_entryCount, a_handles, a_actions, a_keys, a_widths, a_child, a_endsHere, a_endCount, a_partNode, a_partDepth, a_groupMask, a_groupTop, a_listFirst, a_listNext)) :
    ∀ (d g : Nat), g + d = gc → ∀ b, mr_bm (fun a => mg_U H a_widths a_keys f a ∧ ∃ i, i < g ∧ a_groupMask i = a_widths a) H R b → wX_greatestPriority_25 post f f_draft f_nextHandle f_treeReady f_nodeCount f_groupsReady (nI gc) a_defaults a_packet a_entryCount a_handles a_actions a_keys a_widths a_child a_endsHere a_endCount a_partNode a_partDepth a_groupMask a_groupTop a_listFirst a_listNext (d + 1) (mb_c b) (nI g) := by
  have hcov : ∀ a, mg_U H a_widths a_keys f a → ∃ i, i < gc ∧ a_groupMask i = a_widths a ∧ R a ≤ T i := fun a ha => hG.2.1 a ha.1 ha.2.1 ha.2.2.1
  intro d
  induction d with
  | zero =>
    intro g hg b hb
    have : g = gc := by omega
    subst this
    refine br_t (nI_le (by omega) (by omega)) (hp b (mr_bm_c hb ?_))
    intro a
    constructor
    · exact fun z => z.1
    · intro z
      obtain ⟨i, i1, i2, _⟩ := hcov a z
      exact ⟨z, i, i1, i2⟩
  | succ d ih =>
    intro g hg b hb
    have hgt := hG.2.2 g (by omega)
    have go : wX_greatestPriority_53 post (wX_greatestPriority_25 post f f_draft f_nextHandle f_treeReady f_nodeCount f_groupsReady (nI gc) a_defaults a_packet a_entryCount a_handles a_actions a_keys a_widths a_child a_endsHere a_endCount a_partNode a_partDepth a_groupMask a_groupTop a_listFirst a_listNext (d + 1)) f (mb_c b) (nI g) f_draft f_nextHandle f_treeReady f_nodeCount f_groupsReady (nI gc) a_defaults a_packet a_entryCount a_handles a_actions a_keys a_widths a_child a_endsHere a_endCount a_partNode a_partDepth a_groupMask a_groupTop a_listFirst a_listNext := by
      refine And.intro (vp_in_nI (by omega) (by omega)) ?_
      rw [nI_clamp (by omega)]
      have hs8 := (mg_s_e (f &&& a_groupMask g)).2
      have e8 : (8 : Int32) * nI g + nI (mg_s (f &&& a_groupMask g)) = nI (8 * g + mg_s (f &&& a_groupMask g)) := by
        rw [show (8 : Int32) * nI g = nI (8 * g) from pk_mul 8 g, nI_add]
      refine nm_e (mx_slotOf ?_)
      rw [e8]
      refine ⟨vp_in_nI (by omega) (by omega), ?_⟩
      rw [nI_clamp (by omega)]
      refine nm_e ⟨_, mx_gp81 (Q (8 * g + mg_s (f &&& a_groupMask g))) _ (hL.1 _ (by omega)) (fun a ha => ((hL.2.1 _ a (by omega)).mp ha).2.1) (hL.2.2 _ (by omega)) ?_⟩
      intro r hr
      have hr' := mr_bm_c hr (mg_V (f := f) hc hG hL (show g < gc by omega))
      refine mx_gp113 hI ?_ ?_ hb hr' ?_ (fun s hs => ih (g + 1) (by omega) s hs)
      · intro a ha
        exact ⟨ha.1.1, ha.1.2.1, ha.1.2.2.1⟩
      · intro a ha
        exact ⟨ha.1.1, ha.1.2.1, ha.1.2.2.1⟩
      · intro a
        constructor
        · rintro ⟨h1, i, i1, i2⟩
          by_cases c : i = g
          · subst c; exact Or.inr ⟨h1, i2⟩
          · exact Or.inl ⟨h1, i, by omega, i2⟩
        · rintro (⟨h1, i, i1, i2⟩ | ⟨h1, h2⟩)
          · exact ⟨h1, i, by omega, i2⟩
          · exact ⟨h1, g, by omega, h2⟩
    refine br_f (nI_ge (by omega) (by omega)) ?_
    have hb32 : b ≤ 32 := by
      rcases hb with ⟨z, _⟩ | ⟨e, z, u, _⟩
      · omega
      · have := u.1.2.1; omega
    by_cases zb : b = 0
    · exact br_t ((mb_lt (by omega)).mpr zb) go
    · refine br_f (fun z => zb ((mb_lt (by omega)).mp z)) ⟨vp_in_nI (by omega) (by omega), ?_⟩
      rcases hb with ⟨z, _⟩ | ⟨e, z, u, best⟩
      · exact absurd z zb
      · subst z
        have hr := (hI.2.2.2.1 e u.1.1 u.1.2.1 u.1.2.2.1).2
        rw [mb_cs] at go ⊢
        refine mx_priorityOf hI u.1.1 u.1.2.1 u.1.2.2.1 ?_
        rw [nI_clamp (by omega), hgt.1]
        by_cases c : R e ≤ T g
        · exact br_t (nI_le c (by omega)) go
        · refine br_f (nI_ge (by omega) (by omega)) ?_
          rw [← mb_cs]
          refine hp (e + 1) (Or.inr ⟨e, rfl, u.1, ?_⟩)
          intro a ha hne
          obtain ⟨i, i1, i2, i3⟩ := hcov a ha
          by_cases q : i < g
          · exact best a ⟨ha, i, q, i2⟩ hne
          · left
            by_cases q2 : i = g
            · subst q2; omega
            · have := hs g i (by omega) i1
              omega
theorem mx_greatestPriority {post : Int32 → SX → Prop} {nh : Nat} {H A R : Nat → Nat} (hI : mx_I nh H A R a_handles a_keys a_widths) (ht : ¬ f_groupsReady = 0 → mg_OK H R a_widths a_keys f_groupCount a_groupMask a_groupTop a_listFirst a_listNext)
    (hp : ∀ (gr fg : Int32) (gm gt lf nx : Nat → Int32) (r : Nat), mg_OK H R a_widths a_keys fg gm gt lf nx → mr_bm (mg_U H a_widths a_keys ((a_packet 1 <<< ((8 : Int32) &&& 31)) ||| a_packet 2)) H R r → post (mb_c r) (f_draft, f_nextHandle, f_treeReady, f_nodeCount, gr, fg, a_defaults, a_packet, a_entryCount, a_handles, a_actions, a_keys, a_widths, a_child, a_endsHere, a_endCount, a_partNode, a_partDepth, gm, gt, lf, nx)) : wpX_greatestPriority post (f_draft, f_nextHandle, f_treeReady, f_nodeCount, f_groupsReady, f_groupCount, a_defaults, a_packet, a_entryCount, a_handles, a_actions, a_keys, a_widths, a_child, a_endsHere, a_endCount, a_partNode, a_partDepth, a_groupMask, a_groupTop, a_listFirst, a_listNext) := by
  refine mx_makeGroups hI ht ?_
  intro gr gc T Q gm gt lf nx hc hG hs hL
  refine nm_e ⟨gc + 1, ?_⟩
  have g := mx_gp25 (post := post) (f_draft := f_draft) (f_nextHandle := f_nextHandle) (f_treeReady := f_treeReady) (f_nodeCount := f_nodeCount) (f_groupsReady := gr) (a_defaults := a_defaults) (a_packet := a_packet) (a_entryCount := a_entryCount) (a_actions := a_actions) (a_child := a_child) (a_endsHere := a_endsHere) (a_endCount := a_endCount) (a_partNode := a_partNode) (a_partDepth := a_partDepth) hI hc hG hs hL (fun r hr => hp gr (nI gc) gm gt lf nx r ⟨gc, T, Q, rfl, hc, hG, hs, hL⟩ hr) gc 0 (by omega) 0 (Or.inl ⟨rfl, fun e z => by obtain ⟨_, i, hi, _⟩ := z; omega⟩)
  rw [mb_c0] at g
  exact g
theorem mx_mm61 {post : Int32 → SX → Prop} {J : Int32 → Int32 → Prop} {g : Nat} {x1 wd : Int32} :
    ∀ (L : List Nat) (x : Int32) (b : Nat), mg_Q a_listNext L x → (∀ a, a ∈ L → a < 32) → J (nI (b + mb_l (fun a => a_keys a &&& 65535 = wd) L)) (nI (g + 1)) → wX_maskedMatching_61 post J x1 (nI g) wd f_draft f_nextHandle f_treeReady f_nodeCount f_groupsReady f_groupCount a_defaults a_packet a_entryCount a_handles a_actions a_keys a_widths a_child a_endsHere a_endCount a_partNode a_partDepth a_groupMask a_groupTop a_listFirst a_listNext (L.length + 1) (nI b) x := by
  intro L
  induction L with
  | nil =>
    intro x b hx hm h
    have hx' : x = -1 := hx
    exact br_t (by rw [hx']; decide) (nm_r (nI_1 g) h)
  | cons a L ih =>
    intro x b hx hm h
    have hx' : x = nI a := hx.1
    have ha := hm a List.mem_cons_self
    subst hx'
    refine br_f (nI_pos (by omega)) ⟨vp_in_nI (by omega) (by omega), ?_⟩
    rw [nI_clamp (by omega)]
    have hl : mb_l (fun a => a_keys a &&& 65535 = wd) (a :: L) = mb_i (a_keys a &&& 65535 = wd) + mb_l (fun a => a_keys a &&& 65535 = wd) L := rfl
    rw [hl] at h
    by_cases c : a_keys a &&& 65535 = wd
    · rw [mb_i1 c, ← Nat.add_assoc] at h
      exact br_t c (nm_r (nI_1 b) ⟨vp_in_nI (by omega) (by omega), nm_e (ih (a_listNext a) (b + 1) hx.2 (fun b hb => hm b (List.mem_cons_of_mem a hb)) h)⟩)
    · rw [mb_i0 c, Nat.zero_add] at h
      exact br_f c ⟨vp_in_nI (by omega) (by omega), nm_e (ih (a_listNext a) b hx.2 (fun b hb => hm b (List.mem_cons_of_mem a hb)) h)⟩
theorem mx_mm25 {post : Int32 → SX → Prop} {gc : Nat} {H R T : Nat → Nat} {Q : Nat → List Nat} {f : Int32} (hc : gc ≤ 16) (hG : mg_G H R a_widths 32 gc a_groupMask a_groupTop T) (hL : mg_L H R a_widths a_keys a_groupMask 32 gc a_listFirst a_listNext Q)
    (hp : post (nI (mb_n (mg_U H a_widths a_keys f) 32)) (f_draft, f_nextHandle, f_treeReady, f_nodeCount, f_groupsReady, nI gc, a_defaults, a_packet, a_entryCount, a_handles, a_actions, a_keys, a_widths, a_child, a_endsHere, a_endCount, a_partNode, a_partDepth, a_groupMask, a_groupTop, a_listFirst, a_listNext)) :
    ∀ (d g : Nat), g + d = gc → wX_maskedMatching_25 post f f_draft f_nextHandle f_treeReady f_nodeCount f_groupsReady (nI gc) a_defaults a_packet a_entryCount a_handles a_actions a_keys a_widths a_child a_endsHere a_endCount a_partNode a_partDepth a_groupMask a_groupTop a_listFirst a_listNext (d + 1) (nI (mb_n (fun a => mg_U H a_widths a_keys f a ∧ ∃ i, i < g ∧ a_groupMask i = a_widths a) 32)) (nI g) := by
  intro d
  induction d with
  | zero =>
    intro g hg
    have : g = gc := by omega
    subst this
    refine br_t (nI_le (by omega) (by omega)) ?_
    have e : mb_n (fun a => mg_U H a_widths a_keys f a ∧ ∃ i, i < g ∧ a_groupMask i = a_widths a) 32 = mb_n (mg_U H a_widths a_keys f) 32 := by
      refine mb_n_c ?_
      intro a ha
      constructor
      · exact fun z => z.1
      · intro z
        obtain ⟨i, i1, i2, _⟩ := hG.2.1 a z.1 z.2.1 z.2.2.1
        exact ⟨z, i, i1, i2⟩
    rw [e]
    exact hp
  | succ d ih =>
    intro g hg
    refine br_f (nI_ge (by omega) (by omega)) ⟨vp_in_nI (by omega) (by omega), ?_⟩
    rw [nI_clamp (by omega)]
    have hs8 := (mg_s_e (f &&& a_groupMask g)).2
    have e8 : (8 : Int32) * nI g + nI (mg_s (f &&& a_groupMask g)) = nI (8 * g + mg_s (f &&& a_groupMask g)) := by
      rw [show (8 : Int32) * nI g = nI (8 * g) from pk_mul 8 g, nI_add]
    refine nm_e (mx_slotOf ?_)
    rw [e8]
    refine ⟨vp_in_nI (by omega) (by omega), ?_⟩
    rw [nI_clamp (by omega)]
    have hm : ∀ a, a ∈ Q (8 * g + mg_s (f &&& a_groupMask g)) → a < 32 := fun a ha => ((hL.2.1 _ a (by omega)).mp ha).2.1
    refine nm_e ⟨_, mx_mm61 (Q (8 * g + mg_s (f &&& a_groupMask g))) _ _ (hL.1 _ (by omega)) hm ?_⟩
    rw [mb_l_n _ (mg_nd (hL.2.2 _ (by omega))) hm]
    have e : mb_n (fun a => mg_U H a_widths a_keys f a ∧ ∃ i, i < g + 1 ∧ a_groupMask i = a_widths a) 32 = mb_n (fun a => mg_U H a_widths a_keys f a ∧ ∃ i, i < g ∧ a_groupMask i = a_widths a) 32 + mb_n (fun e => e ∈ Q (8 * g + mg_s (f &&& a_groupMask g)) ∧ a_keys e &&& 65535 = f &&& a_groupMask g) 32 := by
      refine mb_n_or ?_ ?_
      · rintro a ha ⟨_, i, i1, i2⟩ hv
        have := ((mg_V hc hG hL (show g < gc by omega) a).mp hv).2
        have := hG.1 i g (by omega) (by omega) (i2.trans this.symm)
        omega
      · intro a ha
        rw [mg_V hc hG hL (show g < gc by omega) a]
        constructor
        · rintro ⟨h1, i, i1, i2⟩
          by_cases c : i = g
          · subst c; exact Or.inr ⟨h1, i2⟩
          · exact Or.inl ⟨h1, i, by omega, i2⟩
        · rintro (⟨h1, i, i1, i2⟩ | ⟨h1, h2⟩)
          · exact ⟨h1, i, by omega, i2⟩
          · exact ⟨h1, g, by omega, h2⟩
    rw [← e]
    exact ih (g + 1) (by omega)
theorem mx_maskedMatching {post : Int32 → SX → Prop} {nh : Nat} {H A R : Nat → Nat} (hI : mx_I nh H A R a_handles a_keys a_widths) (ht : ¬ f_groupsReady = 0 → mg_OK H R a_widths a_keys f_groupCount a_groupMask a_groupTop a_listFirst a_listNext)
    (hp : ∀ (gr fg : Int32) (gm gt lf nx : Nat → Int32), mg_OK H R a_widths a_keys fg gm gt lf nx → post (nI (mb_n (mg_U H a_widths a_keys ((a_packet 1 <<< ((8 : Int32) &&& 31)) ||| a_packet 2)) 32)) (f_draft, f_nextHandle, f_treeReady, f_nodeCount, gr, fg, a_defaults, a_packet, a_entryCount, a_handles, a_actions, a_keys, a_widths, a_child, a_endsHere, a_endCount, a_partNode, a_partDepth, gm, gt, lf, nx)) : wpX_maskedMatching post (f_draft, f_nextHandle, f_treeReady, f_nodeCount, f_groupsReady, f_groupCount, a_defaults, a_packet, a_entryCount, a_handles, a_actions, a_keys, a_widths, a_child, a_endsHere, a_endCount, a_partNode, a_partDepth, a_groupMask, a_groupTop, a_listFirst, a_listNext) := by
  refine mx_makeGroups hI ht ?_
  intro gr gc T Q gm gt lf nx hc hG hs hL
  refine nm_e ⟨gc + 1, ?_⟩
  have g := mx_mm25 (post := post) (f_draft := f_draft) (f_nextHandle := f_nextHandle) (f_treeReady := f_treeReady) (f_nodeCount := f_nodeCount) (f_groupsReady := gr) (a_defaults := a_defaults) (a_packet := a_packet) (a_entryCount := a_entryCount) (a_handles := a_handles) (a_actions := a_actions) (a_child := a_child) (a_endsHere := a_endsHere) (a_endCount := a_endCount) (a_partNode := a_partNode) (a_partDepth := a_partDepth) hc hG hL (hp gr (nI gc) gm gt lf nx ⟨gc, T, Q, rfl, hc, hG, hs, hL⟩) gc 0 (by omega)
  rw [mb_n_0 (fun e _ z => by obtain ⟨_, i, hi, _⟩ := z; omega), nI_0] at g
  exact g
end
end
section
/-! the reference's walks -/
/-- an action's effect on the packet -/
def mr_f (a b c : Nat) (pk : Nat → Int32) : Nat → Int32 := if a = 0 then upd pk b (nI c) else if a = 1 then upd pk b ((pk b + nI c) &&& 255) else if a = 2 then upd pk b (pk (c % 4)) else pk
def mr_g (a : Nat) : Int32 := if a = 4 then 0 else 1
theorem mr_c3 {c : Nat} (h : c ≤ 255) : nI c &&& 3 = nI (c % 4) := pk_andN (by omega) 2 (by decide)
/-- place q holds an entry -/
def my_v (c : Nat → Nat) (q : Nat) : Prop := q < 32 ∧ q % 16 < c (q / 16)
section
variable {f_kind f_place f_number f_handles : Int32} {a_fields a_count a_handle a_a a_b a_rank a_kinds a_places a_numbers : Nat → Int32}
theorem my_act {post : Int32 → SY → Prop} {q a b c : Nat} (hq : q < 34) (ha : a ≤ 4) (hb : b ≤ 3) (hc : c ≤ 255) (h1 : a_kinds q = nI a) (h2 : a_places q = nI b) (h3 : a_numbers q = nI c) (h : post (mr_g a) (f_kind, f_place, f_number, f_handles, mr_f a b c a_fields, a_count, a_handle, a_a, a_b, a_rank, a_kinds, a_places, a_numbers)) : wpY_act post (f_kind, f_place, f_number, f_handles, a_fields, a_count, a_handle, a_a, a_b, a_rank, a_kinds, a_places, a_numbers) (nI q) := by
  have hin : vp_in (nI q) 34 := vp_in_nI hq (by omega)
  have hib : vp_in (nI b) 4 := vp_in_nI (by omega) (by omega)
  have hi3 : vp_in (nI (c % 4)) 4 := vp_in_nI (by omega) (by omega)
  have hcb : (nI b).toNatClampNeg = b := nI_clamp (by omega)
  have hc4 : (nI (c % 4)).toNatClampNeg = c % 4 := nI_clamp (by omega)
  unfold wpY_act
  dsimp only
  rw [nI_clamp (show q < 2 ^ 31 by omega), h1, h2, h3]
  refine ⟨hin, nm_e ⟨hin, nm_e ⟨hin, ?_⟩⟩⟩
  rw [hcb]
  have fin : ∀ fl : Nat → Int32, fl = mr_f a b c a_fields → wY_act_82 post (nI q) f_kind f_place f_number f_handles fl a_count a_handle a_a a_b a_rank a_kinds a_places a_numbers := by
    intro fl hfl
    refine And.intro hin ?_
    rw [nI_clamp (show q < 2 ^ 31 by omega), h1, hfl]
    by_cases z : a = 4
    · unfold mr_g at h
      rw [if_pos z] at h
      exact br_t (by rw [z]; rfl) h
    · unfold mr_g at h
      rw [if_neg z] at h
      exact br_f (fun y => z ((nI_eq (b := 4) (by omega) (by omega)).mp y)) h
  have s58 : ∀ fl : Nat → Int32, (a = 2 → upd fl b (fl (c % 4)) = mr_f a b c a_fields) → (a ≠ 2 → fl = mr_f a b c a_fields) → wY_act_58 post (nI q) (nI b) (nI c) f_kind f_place f_number f_handles fl a_count a_handle a_a a_b a_rank a_kinds a_places a_numbers := by
    intro fl g1 g2
    refine And.intro hin ?_
    rw [nI_clamp (show q < 2 ^ 31 by omega), h1, mr_c3 hc, hcb, hc4]
    by_cases z : a = 2
    · exact br_t (by rw [z]; rfl) ⟨hi3, hib, nm_e (fin _ (g1 z))⟩
    · exact br_f (fun y => z ((nI_eq (b := 2) (by omega) (by omega)).mp y)) (fin _ (g2 z))
  have s30 : ∀ fl : Nat → Int32, (a = 1 → upd fl b ((fl b + nI c) &&& 255) = mr_f a b c a_fields) → (a = 2 → upd fl b (fl (c % 4)) = mr_f a b c a_fields) → (a ≠ 1 → a ≠ 2 → fl = mr_f a b c a_fields) → wY_act_30 post (nI q) (nI b) (nI c) f_kind f_place f_number f_handles fl a_count a_handle a_a a_b a_rank a_kinds a_places a_numbers := by
    intro fl g0 g1 g2
    refine And.intro hin ?_
    rw [nI_clamp (show q < 2 ^ 31 by omega), h1, hcb]
    by_cases z : a = 1
    · exact br_t (by rw [z]; rfl) ⟨hib, hib, nm_e (s58 _ (fun y => by omega) (fun _ => g0 z))⟩
    · exact br_f (fun y => z ((nI_eq (b := 1) (by omega) (by omega)).mp y)) (s58 _ g1 (g2 z))
  by_cases z : a = 0
  · refine br_t (by rw [z]; rfl) ⟨hib, nm_e (s30 _ (fun y => by omega) (fun y => by omega) (fun _ _ => ?_))⟩
    unfold mr_f
    rw [if_pos z]
  · refine br_f (fun y => z ((nI_eq (b := 0) (by omega) (by omega)).mp y)) (s30 _ (fun y => ?_) (fun y => ?_) (fun y1 y2 => ?_))
    · unfold mr_f
      rw [if_neg z, if_pos y]
    · unfold mr_f
      rw [if_neg z, if_neg (by omega), if_pos y]
    · unfold mr_f
      rw [if_neg z, if_neg y1, if_neg y2]
theorem my_giveAction {post : SY → Prop} {q : Nat} (hq : q < 34) (h : post (f_kind, f_place, f_number, f_handles, a_fields, a_count, a_handle, a_a, a_b, a_rank, upd a_kinds q f_kind, upd a_places q f_place, upd a_numbers q f_number)) : wpY_giveAction post (f_kind, f_place, f_number, f_handles, a_fields, a_count, a_handle, a_a, a_b, a_rank, a_kinds, a_places, a_numbers) (nI q) := by
  have hin : vp_in (nI q) 34 := vp_in_nI hq (by omega)
  unfold wpY_giveAction
  dsimp only
  rw [nI_clamp (show q < 2 ^ 31 by omega)]
  exact ⟨hin, nm_e ⟨hin, nm_e ⟨hin, nm_e h⟩⟩⟩
theorem my_add {post : Int32 → SY → Prop} {t cn nh : Nat} {p1 p2 p3 : Int32} (ht : t < 2) (hc : cn < 16) (hcn : a_count t = nI cn)
    (h : post (nI nh) (f_kind, f_place, f_number, nI (nh + 1), a_fields, upd a_count t (nI (cn + 1)), upd a_handle (16 * t + cn) (nI nh), upd a_a (16 * t + cn) p1, upd a_b (16 * t + cn) p2, upd a_rank (16 * t + cn) p3, upd a_kinds (16 * t + cn) f_kind, upd a_places (16 * t + cn) f_place, upd a_numbers (16 * t + cn) f_number)) : wpY_add post (f_kind, f_place, f_number, nI nh, a_fields, a_count, a_handle, a_a, a_b, a_rank, a_kinds, a_places, a_numbers) (nI t) p1 p2 p3 := by
  have h2 : vp_in (nI t) 2 := vp_in_nI ht (by omega)
  have hin : vp_in (nI (16 * t + cn)) 32 := vp_in_nI (by omega) (by omega)
  have e16 : (16 : Int32) * nI t + nI cn = nI (16 * t + cn) := by
    rw [show (16 : Int32) * nI t = nI (16 * t) from pk_mul 16 t, nI_add]
  unfold wpY_add
  dsimp only
  refine ⟨h2, ?_⟩
  rw [nI_clamp (show t < 2 ^ 31 by omega), hcn]
  refine nm_r e16 ?_
  rw [nI_clamp (show 16 * t + cn < 2 ^ 31 by omega)]
  refine ⟨hin, nm_e ⟨hin, nm_e ⟨hin, nm_e ⟨hin, nm_e ?_⟩⟩⟩⟩
  refine my_giveAction (by omega) ?_
  dsimp only
  refine ⟨h2, h2, ?_⟩
  rw [hcn, nI_1]
  refine nm_e (nm_r (nI_1 nh) ?_)
  rw [nI_pred]
  exact h
theorem my_find_l {post : Int32 → Prop} {c : Nat → Nat} {x : Int32} (h0 : a_count 0 = nI (c 0)) (h1 : a_count 1 = nI (c 1)) (hc : c 0 ≤ 16 ∧ c 1 ≤ 16) (hy : ∀ q, my_v c q → a_handle q = x → post (nI q)) :
    ∀ (d q : Nat), q + d = 32 → (∀ i, i < q → my_v c i → ¬ a_handle i = x) → ((∀ i, my_v c i → ¬ a_handle i = x) → post (-1)) → wY_find_2 post x f_kind f_place f_number f_handles a_fields a_count a_handle a_a a_b a_rank a_kinds a_places a_numbers (d + 1) (nI q) := by
  intro d
  induction d with
  | zero =>
    intro q hq hn h2
    have : q = 32 := by omega
    subst this
    exact br_t (nI_le (a := 32) (b := 32) (by omega) (by omega)) (h2 (fun i hi => hn i hi.1 hi))
  | succ d ih =>
    intro q hq hn h2
    have hq32 : q < 32 := by omega
    have ed : nI q / 16 = nI (q / 16) := pk_div (d := 16) (by omega) (by omega) (by omega)
    have er : nI q - nI (q / 16) * 16 = nI (q % 16) := by
      rw [← ed]
      exact pk_rem (d := 16) (by omega) (by omega) (by omega)
    have hcq : a_count (q / 16) = nI (c (q / 16)) ∧ c (q / 16) ≤ 16 := by
      have : q / 16 = 0 ∨ q / 16 = 1 := by omega
      rcases this with z | z
      · rw [z]; exact ⟨h0, hc.1⟩
      · rw [z]; exact ⟨h1, hc.2⟩
    have next : ¬ (my_v c q ∧ a_handle q = x) → wY_find_2 post x f_kind f_place f_number f_handles a_fields a_count a_handle a_a a_b a_rank a_kinds a_places a_numbers (d + 1) (nI (q + 1)) := by
      intro z
      refine ih (q + 1) (by omega) ?_ h2
      intro i hi hv hx
      by_cases e : i = q
      · subst e; exact z ⟨hv, hx⟩
      · exact hn i (by omega) hv hx
    refine br_f (nI_ge (a := q) (b := 32) (by omega) (by omega)) ⟨by decide, by decide, ?_⟩
    rw [ed, er, nI_clamp (show q / 16 < 2 ^ 31 by omega), nI_clamp (show q < 2 ^ 31 by omega), hcq.1]
    refine ⟨vp_in_nI (by omega) (by omega), ?_⟩
    by_cases z : c (q / 16) ≤ q % 16
    · exact br_t (nI_le z (by omega)) (nm_r (nI_1 q) (next (fun y => by have := y.1.2; omega)))
    · refine br_f (nI_ge (by omega) (by omega)) ⟨vp_in_nI (by omega) (by omega), ?_⟩
      have hv : my_v c q := ⟨hq32, by omega⟩
      exact br_c (fun y => hy q hv y) (fun y => nm_r (nI_1 q) (next (fun w => y w.2)))
theorem my_find {post : Int32 → Prop} {c : Nat → Nat} {x : Int32} (h0 : a_count 0 = nI (c 0)) (h1 : a_count 1 = nI (c 1)) (hc : c 0 ≤ 16 ∧ c 1 ≤ 16) (hy : ∀ q, my_v c q → a_handle q = x → post (nI q)) (hn : (∀ i, my_v c i → ¬ a_handle i = x) → post (-1)) : wpY_find post (f_kind, f_place, f_number, f_handles, a_fields, a_count, a_handle, a_a, a_b, a_rank, a_kinds, a_places, a_numbers) x :=
  ⟨33, my_find_l h0 h1 hc hy 32 0 (by omega) (fun i hi => by omega) hn⟩
theorem my_shift {post : SY → Prop} {q : Nat} (hq : q + 1 < 32) (h : post (f_kind, f_place, f_number, f_handles, a_fields, a_count, upd a_handle q (a_handle (q + 1)), upd a_a q (a_a (q + 1)), upd a_b q (a_b (q + 1)), upd a_rank q (a_rank (q + 1)), upd a_kinds q (a_kinds (q + 1)), upd a_places q (a_places (q + 1)), upd a_numbers q (a_numbers (q + 1)))) : wpY_shift post (f_kind, f_place, f_number, f_handles, a_fields, a_count, a_handle, a_a, a_b, a_rank, a_kinds, a_places, a_numbers) (nI q) := by
  have a1 : vp_in (nI (q + 1)) 32 := vp_in_nI (by omega) (by omega)
  have a0 : vp_in (nI q) 32 := vp_in_nI (by omega) (by omega)
  have b1 : vp_in (nI (q + 1)) 34 := vp_in_nI (by omega) (by omega)
  have b0 : vp_in (nI q) 34 := vp_in_nI (by omega) (by omega)
  unfold wpY_shift
  dsimp only
  rw [nI_1, nI_clamp (show q < 2 ^ 31 by omega), nI_clamp (show q + 1 < 2 ^ 31 by omega)]
  exact ⟨a1, a0, nm_e ⟨a1, a0, nm_e ⟨a1, a0, nm_e ⟨a1, a0, nm_e ⟨b1, b0, nm_e ⟨b1, b0, nm_e ⟨b1, b0, nm_e h⟩⟩⟩⟩⟩⟩⟩
theorem my_remove_l {post : Int32 → SY → Prop} {t cn lo : Nat} (ht : t < 2) (hc : cn < 16) (hcn : a_count t = nI (cn + 1)) (hlo : 16 * t ≤ lo)
    (h : post (nI cn) (f_kind, f_place, f_number, f_handles, a_fields, upd a_count t (nI cn), mb_sh a_handle lo (16 * t + cn), mb_sh a_a lo (16 * t + cn), mb_sh a_b lo (16 * t + cn), mb_sh a_rank lo (16 * t + cn), mb_sh a_kinds lo (16 * t + cn), mb_sh a_places lo (16 * t + cn), mb_sh a_numbers lo (16 * t + cn))) :
    ∀ (d k : Nat), k + d = 16 * t + cn → lo ≤ k → wY_remove_21 post (nI t) (d + 1) (nI k) f_kind f_place f_number f_handles a_fields a_count (mb_sh a_handle lo k) (mb_sh a_a lo k) (mb_sh a_b lo k) (mb_sh a_rank lo k) (mb_sh a_kinds lo k) (mb_sh a_places lo k) (mb_sh a_numbers lo k) := by
  have h2 : vp_in (nI t) 2 := vp_in_nI ht (by omega)
  have ct : (nI t).toNatClampNeg = t := nI_clamp (by omega)
  have e16 : (16 : Int32) * nI t + nI (cn + 1) - 1 = nI (16 * t + cn) := by
    rw [show (16 : Int32) * nI t = nI (16 * t) from pk_mul 16 t, nI_add, ← Nat.add_assoc, nI_pred]
  intro d
  induction d with
  | zero =>
    intro k hk hlk
    have : k = 16 * t + cn := by omega
    subst this
    refine And.intro h2 ?_
    rw [ct, hcn, e16]
    refine br_t (nI_le (by omega) (by omega)) ⟨h2, h2, ?_⟩
    rw [nI_pred]
    refine nm_e ⟨h2, ?_⟩
    rw [pk_us]
    exact h
  | succ d ih =>
    intro k hk hlk
    refine And.intro h2 ?_
    rw [ct, hcn, e16]
    refine br_f (nI_ge (by omega) (by omega)) ?_
    refine my_shift (by omega) ?_
    dsimp only
    rw [mb_shs _ hlk, mb_shs _ hlk, mb_shs _ hlk, mb_shs _ hlk, mb_shs _ hlk, mb_shs _ hlk, mb_shs _ hlk]
    exact nm_r (nI_1 k) (ih (k + 1) (by omega) (by omega))
theorem my_fits0 {post : Int32 → Prop} {q p A R : Nat} (hq : q < 16) (hp : p < 256) (hA : A < 256) (hR : R ≤ 8) (h1 : a_a q = nI A) (h2 : a_b q = nI R) (hy : mt_k p (8 - R) = mt_k A (8 - R) → post 1) (hn : ¬ mt_k p (8 - R) = mt_k A (8 - R) → post 0) : wpY_fits post (f_kind, f_place, f_number, f_handles, a_fields, a_count, a_handle, a_a, a_b, a_rank, a_kinds, a_places, a_numbers) (nI q) (nI p) := by
  have hin : vp_in (nI q) 32 := vp_in_nI (by omega) (by omega)
  have e8 : (8 : Int32) - nI R = nI (8 - R) := pk_sub hR
  refine br_f (nI_ge (a := q) (b := 16) (by omega) (by omega)) ⟨hin, hin, hin, ?_⟩
  have g1 : p / 2 ^ (8 - R) ≤ p := Nat.div_le_self _ _
  have g2 : A / 2 ^ (8 - R) ≤ A := Nat.div_le_self _ _
  rw [nI_clamp (show q < 2 ^ 31 by omega), h1, h2, e8, pk_shrN (n := p) (by omega) _ (8 - R) (s_l (8 - R) (by omega)), pk_shrN (n := A) (by omega) _ (8 - R) (s_l (8 - R) (by omega)), nI_eq (by omega) (by omega), mt_k_f hp hA (8 - R) (by omega)]
  exact br_c hy hn
theorem my_fits1 {post : Int32 → Prop} {q : Nat} {x : Int32} (h16 : 16 ≤ q) (hq : q < 32) (hy : ((a_fields 1 &&& a_a q) &&& 255 = ((a_a q >>> ((8 : Int32) &&& 31)) &&& a_a q) &&& 255 ∧ (a_fields 2 &&& a_b q) &&& 255 = ((a_b q >>> ((8 : Int32) &&& 31)) &&& a_b q) &&& 255) → post 1) (hn : ¬ ((a_fields 1 &&& a_a q) &&& 255 = ((a_a q >>> ((8 : Int32) &&& 31)) &&& a_a q) &&& 255 ∧ (a_fields 2 &&& a_b q) &&& 255 = ((a_b q >>> ((8 : Int32) &&& 31)) &&& a_b q) &&& 255) → post 0) : wpY_fits post (f_kind, f_place, f_number, f_handles, a_fields, a_count, a_handle, a_a, a_b, a_rank, a_kinds, a_places, a_numbers) (nI q) x := by
  have hin : vp_in (nI q) 32 := vp_in_nI (by omega) (by omega)
  have hcl : (nI q).toNatClampNeg = q := nI_clamp (by omega)
  refine br_t (nI_le (a := 16) (b := q) (by omega) (by omega)) ⟨hin, hin, hin, ?_⟩
  rw [hcl]
  refine br_c (fun z => ?_) (fun z => ?_)
  · refine br_f (by decide) ⟨hin, hin, hin, ?_⟩
    rw [hcl]
    exact br_c (fun w => hy ⟨z, w⟩) (fun w => hn (fun v => w v.2))
  · exact br_t rfl (hn (fun v => z v.1))
end
end
section
/-! the reference's walks: taken, matching, owned -/
section
variable {f_kind f_place f_number f_handles : Int32} {a_fields a_count a_handle a_a a_b a_rank a_kinds a_places a_numbers : Nat → Int32}
theorem my_taken_l {U : Nat → Prop} {H R pl : Nat → Nat} {t c : Nat} {x : Int32} (ht : t < 2) (hc : c ≤ 16) (hcn : a_count t = nI c) (hR : ∀ i, i < c → a_rank (16 * t + i) = nI (R (pl (16 * t + i))) ∧ R (pl (16 * t + i)) < 2 ^ 20) (hO : ∀ i j, i < j → j < c → H (pl (16 * t + i)) < H (pl (16 * t + j)))
    (hf : ∀ i, i < c → ∀ post : Int32 → Prop, (U (pl (16 * t + i)) → post 1) → (¬ U (pl (16 * t + i)) → post 0) → wpY_fits post (f_kind, f_place, f_number, f_handles, a_fields, a_count, a_handle, a_a, a_b, a_rank, a_kinds, a_places, a_numbers) (nI (16 * t + i)) x) (hU : ∀ e, U e → ∃ i, i < c ∧ pl (16 * t + i) = e) :
    ∀ (d i : Nat), i + d = c → ∀ s, ((s = 0 ∧ mr_bm (fun e => U e ∧ ∃ j, j < i ∧ pl (16 * t + j) = e) H R 0) ∨ ∃ j, j < i ∧ s = 16 * t + j + 1 ∧ mr_bm (fun e => U e ∧ ∃ j, j < i ∧ pl (16 * t + j) = e) H R (pl (16 * t + j) + 1)) →
      ∃ s', ((s' = 0 ∧ mr_bm U H R 0) ∨ ∃ j, j < c ∧ s' = 16 * t + j + 1 ∧ mr_bm U H R (pl (16 * t + j) + 1)) ∧ ∀ post : Int32 → Prop, post (mb_c s') → wY_taken_8 post (nI t) x f_kind f_place f_number f_handles a_fields a_count a_handle a_a a_b a_rank a_kinds a_places a_numbers (d + 1) (mb_c s) (nI (16 * t + i)) := by
  have h2 : vp_in (nI t) 2 := vp_in_nI ht (by omega)
  have ct : (nI t).toNatClampNeg = t := nI_clamp (by omega)
  have e16 : (16 : Int32) * nI t + nI c = nI (16 * t + c) := by
    rw [show (16 : Int32) * nI t = nI (16 * t) from pk_mul 16 t, nI_add]
  intro d
  induction d with
  | zero =>
    intro i hi s hs
    have : i = c := by omega
    subst this
    have hall : ∀ a, (U a ∧ ∃ j, j < i ∧ pl (16 * t + j) = a) ↔ U a := fun a => ⟨fun z => z.1, fun z => ⟨z, hU a z⟩⟩
    refine ⟨s, ?_, ?_⟩
    · rcases hs with ⟨s0, hb⟩ | ⟨j, hj, sj, hb⟩
      · exact Or.inl ⟨s0, mr_bm_c hb hall⟩
      · exact Or.inr ⟨j, hj, sj, mr_bm_c hb hall⟩
    · intro post hp
      refine And.intro h2 ?_
      rw [ct, hcn, e16]
      exact br_t (nI_le (by omega) (by omega)) hp
  | succ d ih =>
    intro i hi s hs
    have hW : ∀ a, (U a ∧ ∃ j, j < i + 1 ∧ pl (16 * t + j) = a) ↔ (U a ∧ ∃ j, j < i ∧ pl (16 * t + j) = a) ∨ (U a ∧ pl (16 * t + i) = a) := by
      intro a
      constructor
      · rintro ⟨h1, j, hj, h3⟩
        by_cases e : j = i
        · subst e; exact Or.inr ⟨h1, h3⟩
        · exact Or.inl ⟨h1, j, by omega, h3⟩
      · rintro (⟨h1, j, hj, h3⟩ | ⟨h1, h3⟩)
        · exact ⟨h1, j, by omega, h3⟩
        · exact ⟨h1, i, by omega, h3⟩
    have enter : ∀ post : Int32 → Prop, wpY_fits (fun r_4 => (((r_4 = 0 → (∀ x4_19 : Int32, x4_19 = nI (16 * t + i) + 1 → (wY_taken_8 post (nI t) x f_kind f_place f_number f_handles a_fields a_count a_handle a_a a_b a_rank a_kinds a_places a_numbers (d + 1) (mb_c s) x4_19))) ∧ (¬ r_4 = 0 → (((mb_c s < 0 → (∀ x4_21 : Int32, x4_21 = nI (16 * t + i) + 1 → (wY_taken_8 post (nI t) x f_kind f_place f_number f_handles a_fields a_count a_handle a_a a_b a_rank a_kinds a_places a_numbers (d + 1) (nI (16 * t + i)) x4_21))) ∧ (¬ mb_c s < 0 → (vp_in (nI (16 * t + i)) 32 ∧ (vp_in (mb_c s) 32 ∧ ((((a_rank (nI (16 * t + i)).toNatClampNeg) ≤ (a_rank (mb_c s).toNatClampNeg) → (∀ x4_25 : Int32, x4_25 = nI (16 * t + i) + 1 → (wY_taken_8 post (nI t) x f_kind f_place f_number f_handles a_fields a_count a_handle a_a a_b a_rank a_kinds a_places a_numbers (d + 1) (mb_c s) x4_25))) ∧ (¬ (a_rank (nI (16 * t + i)).toNatClampNeg) ≤ (a_rank (mb_c s).toNatClampNeg) → (∀ x4_26 : Int32, x4_26 = nI (16 * t + i) + 1 → (wY_taken_8 post (nI t) x f_kind f_place f_number f_handles a_fields a_count a_handle a_a a_b a_rank a_kinds a_places a_numbers (d + 1) (nI (16 * t + i)) x4_26)))))))))))))) (f_kind, f_place, f_number, f_handles, a_fields, a_count, a_handle, a_a, a_b, a_rank, a_kinds, a_places, a_numbers) (nI (16 * t + i)) x → wY_taken_8 post (nI t) x f_kind f_place f_number f_handles a_fields a_count a_handle a_a a_b a_rank a_kinds a_places a_numbers (d + 1 + 1) (mb_c s) (nI (16 * t + i)) := by
      intro post hp
      refine And.intro h2 ?_
      rw [ct, hcn, e16]
      exact br_f (nI_ge (by omega) (by omega)) hp
    by_cases fit : U (pl (16 * t + i))
    · have hV : mr_bm (fun a => U a ∧ pl (16 * t + i) = a) H R (pl (16 * t + i) + 1) := Or.inr ⟨_, rfl, ⟨fit, rfl⟩, fun e' h1 h2 => absurd h1.2.symm h2⟩
      rcases hs with ⟨s0, hb⟩ | ⟨j, hj, sj, hb⟩
      · obtain ⟨s', g1, g2⟩ := ih (i + 1) (by omega) (16 * t + i + 1) (Or.inr ⟨i, by omega, rfl, mg_bm_r hb hV hW⟩)
        refine ⟨s', g1, fun post hp => enter post (hf i (by omega) _ (fun _ => ?_) (fun z => absurd fit z))⟩
        refine br_f (by decide) (br_t ?_ (nm_r (nI_1 _) ?_))
        · rw [s0, mb_c0]; decide
        · have := g2 post hp
          rw [mb_cs] at this
          exact this
      · subst sj
        have rj := hR j (by omega)
        have ri := hR i (by omega)
        have hO' := hO j i hj (by omega)
        by_cases rk : R (pl (16 * t + i)) ≤ R (pl (16 * t + j))
        · have hn : ¬ mg_p H R (pl (16 * t + i)) (pl (16 * t + j)) := by unfold mg_p; omega
          obtain ⟨s', g1, g2⟩ := ih (i + 1) (by omega) (16 * t + j + 1) (Or.inr ⟨j, by omega, rfl, mg_bm_n hb hV (fun z => by omega) hn hW⟩)
          refine ⟨s', g1, fun post hp => enter post (hf i (by omega) _ (fun _ => ?_) (fun z => absurd fit z))⟩
          refine br_f (by decide) (br_f ?_ ⟨vp_in_nI (by omega) (by omega), ?_⟩)
          · rw [mb_lt (by omega)]; omega
          · rw [mb_cs, nI_clamp (by omega), nI_clamp (by omega), rj.1, ri.1]
            refine ⟨vp_in_nI (by omega) (by omega), br_t (nI_le rk (by omega)) (nm_r (nI_1 _) ?_)⟩
            have := g2 post hp
            rw [mb_cs] at this
            exact this
        · have hy : mg_p H R (pl (16 * t + i)) (pl (16 * t + j)) := by unfold mg_p; omega
          obtain ⟨s', g1, g2⟩ := ih (i + 1) (by omega) (16 * t + i + 1) (Or.inr ⟨i, by omega, rfl, mg_bm_y hb hV hy hW⟩)
          refine ⟨s', g1, fun post hp => enter post (hf i (by omega) _ (fun _ => ?_) (fun z => absurd fit z))⟩
          refine br_f (by decide) (br_f ?_ ⟨vp_in_nI (by omega) (by omega), ?_⟩)
          · rw [mb_lt (by omega)]; omega
          · rw [mb_cs, nI_clamp (by omega), nI_clamp (by omega), rj.1, ri.1]
            refine ⟨vp_in_nI (by omega) (by omega), br_f (nI_ge (by omega) (by omega)) (nm_r (nI_1 _) ?_)⟩
            have := g2 post hp
            rw [mb_cs] at this
            exact this
    · have hV : mr_bm (fun a => U a ∧ pl (16 * t + i) = a) H R 0 := Or.inl ⟨rfl, fun a z => fit (by rw [z.2]; exact z.1)⟩
      have hs' : (s = 0 ∧ mr_bm (fun e => U e ∧ ∃ j, j < i + 1 ∧ pl (16 * t + j) = e) H R 0) ∨ ∃ j, j < i + 1 ∧ s = 16 * t + j + 1 ∧ mr_bm (fun e => U e ∧ ∃ j, j < i + 1 ∧ pl (16 * t + j) = e) H R (pl (16 * t + j) + 1) := by
        rcases hs with ⟨s0, hb⟩ | ⟨j, hj, sj, hb⟩
        · exact Or.inl ⟨s0, mg_bm_l hb hV hW⟩
        · exact Or.inr ⟨j, by omega, sj, mg_bm_l hb hV hW⟩
      obtain ⟨s', g1, g2⟩ := ih (i + 1) (by omega) s hs'
      refine ⟨s', g1, fun post hp => enter post (hf i (by omega) _ (fun z => absurd z fit) (fun _ => ?_))⟩
      exact br_t rfl (nm_r (nI_1 _) (g2 post hp))
theorem my_taken {U : Nat → Prop} {H R pl : Nat → Nat} {t c : Nat} {x : Int32} (ht : t < 2) (hc : c ≤ 16) (hcn : a_count t = nI c) (hR : ∀ i, i < c → a_rank (16 * t + i) = nI (R (pl (16 * t + i))) ∧ R (pl (16 * t + i)) < 2 ^ 20) (hO : ∀ i j, i < j → j < c → H (pl (16 * t + i)) < H (pl (16 * t + j)))
    (hf : ∀ i, i < c → ∀ post : Int32 → Prop, (U (pl (16 * t + i)) → post 1) → (¬ U (pl (16 * t + i)) → post 0) → wpY_fits post (f_kind, f_place, f_number, f_handles, a_fields, a_count, a_handle, a_a, a_b, a_rank, a_kinds, a_places, a_numbers) (nI (16 * t + i)) x) (hU : ∀ e, U e → ∃ i, i < c ∧ pl (16 * t + i) = e) :
    ∃ s, ((s = 0 ∧ mr_bm U H R 0) ∨ ∃ j, j < c ∧ s = 16 * t + j + 1 ∧ mr_bm U H R (pl (16 * t + j) + 1)) ∧ ∀ post : Int32 → Prop, post (mb_c s) → wpY_taken post (f_kind, f_place, f_number, f_handles, a_fields, a_count, a_handle, a_a, a_b, a_rank, a_kinds, a_places, a_numbers) (nI t) x := by
  obtain ⟨s, g1, g2⟩ := my_taken_l ht hc hcn hR hO hf hU c 0 (by omega) 0 (Or.inl ⟨rfl, Or.inl ⟨rfl, fun e z => by obtain ⟨_, j, hj, _⟩ := z; omega⟩⟩)
  refine ⟨s, g1, fun post hp => ?_⟩
  have e16 : (16 : Int32) * nI t = nI (16 * t + 0) := pk_mul 16 t
  refine nm_r e16 ⟨c + 1, ?_⟩
  have := g2 post hp
  rw [mb_c0] at this
  exact this
theorem my_matching_l {post : Int32 → Prop} {U : Nat → Prop} {pl : Nat → Nat} {t c : Nat} (ht : t < 2) (hc : c ≤ 16) (hcn : a_count t = nI c)
    (hf : ∀ i, i < c → ∀ post : Int32 → Prop, (U (pl (16 * t + i)) → post 1) → (¬ U (pl (16 * t + i)) → post 0) → wpY_fits post (f_kind, f_place, f_number, f_handles, a_fields, a_count, a_handle, a_a, a_b, a_rank, a_kinds, a_places, a_numbers) (nI (16 * t + i)) (a_fields 0)) (hp : post (nI (mb_n (fun i => U (pl (16 * t + i))) c))) :
    ∀ (d i : Nat), i + d = c → wY_matching_17 post (nI t) f_kind f_place f_number f_handles a_fields a_count a_handle a_a a_b a_rank a_kinds a_places a_numbers (d + 1) (nI (mb_n (fun i => U (pl (16 * t + i))) i)) (nI (16 * t + i)) := by
  have h2 : vp_in (nI t) 2 := vp_in_nI ht (by omega)
  have ct : (nI t).toNatClampNeg = t := nI_clamp (by omega)
  have e16 : (16 : Int32) * nI t + nI c = nI (16 * t + c) := by
    rw [show (16 : Int32) * nI t = nI (16 * t) from pk_mul 16 t, nI_add]
  intro d
  induction d with
  | zero =>
    intro i hi
    have : i = c := by omega
    subst this
    refine And.intro h2 ?_
    rw [ct, hcn, e16]
    exact br_t (nI_le (by omega) (by omega)) hp
  | succ d ih =>
    intro i hi
    have g := ih (i + 1) (by omega)
    have e : mb_n (fun i => U (pl (16 * t + i))) (i + 1) = mb_n (fun i => U (pl (16 * t + i))) i + mb_i (U (pl (16 * t + i))) := rfl
    rw [e] at g
    refine And.intro h2 ?_
    rw [ct, hcn, e16]
    refine br_f (nI_ge (by omega) (by omega)) (hf i (by omega) _ (fun z => ?_) (fun z => ?_))
    · rw [mb_i1 z] at g
      exact br_f (by decide) (nm_r (nI_1 _) (nm_r (nI_1 _) g))
    · rw [mb_i0 z] at g
      exact br_t rfl (nm_r (nI_1 _) g)
theorem my_owned_l {post : Int32 → Prop} {P : Nat → Prop} {q : Nat} (hq : q < 32) (ht : ∀ v, v < 256 → ∃ s, s < 100 ∧ (s = q + 1 ↔ P v) ∧ ∀ post : Int32 → Prop, post (mb_c s) → wpY_taken post (f_kind, f_place, f_number, f_handles, a_fields, a_count, a_handle, a_a, a_b, a_rank, a_kinds, a_places, a_numbers) 0 (nI v)) (hp : post (nI (mb_n P 256))) :
    ∀ (d v : Nat), v + d = 256 → wY_owned_24 post (nI q) f_kind f_place f_number f_handles a_fields a_count a_handle a_a a_b a_rank a_kinds a_places a_numbers (d + 1) (nI (mb_n P v)) (nI v) := by
  intro d
  induction d with
  | zero =>
    intro v hv
    have : v = 256 := by omega
    subst this
    exact br_t (nI_le (a := 256) (b := 256) (by omega) (by omega)) hp
  | succ d ih =>
    intro v hv
    have g := ih (v + 1) (by omega)
    have e : mb_n P (v + 1) = mb_n P v + mb_i (P v) := rfl
    rw [e] at g
    obtain ⟨s, hs, h1, h2⟩ := ht v (by omega)
    refine br_f (nI_ge (a := v) (b := 256) (by omega) (by omega)) (h2 _ ?_)
    by_cases z : P v
    · rw [mb_i1 z] at g
      refine br_t ?_ (nm_r (nI_1 _) (nm_r (nI_1 _) g))
      rw [h1.mpr z, mb_cs]
    · rw [mb_i0 z] at g
      refine br_f (fun w => z (h1.mp ?_)) (nm_r (nI_1 _) g)
      rw [← mb_cs] at w
      exact (mb_eq (by omega) (by omega)).mp w
end
end
section
/-! actions, masks, and the component's small walks -/
def mr_a (k f n : Int32) : Int32 := (k ||| (f <<< ((3 : Int32) &&& 31))) ||| (n <<< ((5 : Int32) &&& 31))
theorem mr_a_d : ∀ a, a < 5 → ∀ b, b < 4 → ∀ c, c < 256 → mr_a (nI a) (nI b) (nI c) &&& 7 = nI a ∧ (mr_a (nI a) (nI b) (nI c) >>> ((3 : Int32) &&& 31)) &&& 3 = nI b ∧ mr_a (nI a) (nI b) (nI c) >>> ((5 : Int32) &&& 31) = nI c := by decide +kernel
def mr_w (a b : Int32) : Int32 := ((a &&& 255) <<< ((8 : Int32) &&& 31)) ||| (b &&& 255)
def mr_v (a b : Int32) : Int32 := (a &&& 65280) ||| (b >>> ((8 : Int32) &&& 31))
def mr_k (a b p : Int32) : Int32 := (mr_v a b &&& mr_w a b) ||| (p <<< ((16 : Int32) &&& 31))
theorem mr_bz {x k i : Nat} (h : x < 2 ^ k) (hi : k ≤ i) : bt (nI x) i = false := by
  show (BitVec.ofNat 32 x).getLsbD i = false
  rw [BitVec.getLsbD_ofNat, Nat.testBit_lt_two_pow (Nat.lt_of_lt_of_le h (Nat.pow_le_pow_right (by decide) hi)), Bool.and_false]
theorem mr_65280 {i : Nat} (h : i < 32) : bt 65280 i = (decide (8 ≤ i) && decide (i < 16)) := (by decide +kernel : ∀ i, i < 32 → bt 65280 i = (decide (8 ≤ i) && decide (i < 16))) i h
theorem mr_w_0 {a b : Int32} {i : Nat} (h : i < 8) : bt (mr_w a b) i = bt b i := by
  unfold mr_w
  rw [b_or, b_shl8 _ (by omega), b_and b, b_255]
  simp [h, show ¬ 8 ≤ i by omega]
theorem mr_w_1 {a b : Int32} {i : Nat} (h : i < 8) : bt (mr_w a b) (i + 8) = bt a i := by
  unfold mr_w
  rw [b_or, b_shl8 _ (by omega), b_and b, b_255, b_and, b_255]
  simp [h, show ¬ i + 8 < 8 by omega]
theorem mr_w_2 {a b : Int32} {i : Nat} (h : 16 ≤ i) (h2 : i < 32) : bt (mr_w a b) i = false := by
  unfold mr_w
  rw [b_or, b_shl8 _ (by omega), b_and b, b_255, b_and, b_255]
  simp [show ¬ i - 8 < 8 by omega, show ¬ i < 8 by omega]
theorem mr_v_0 {a b : Int32} {i : Nat} (h : i < 8) : bt (mr_v a b) i = bt b (i + 8) := by
  unfold mr_v
  rw [b_or, b_and, mr_65280 (by omega), b_sshr8 _ (by omega), if_pos (by omega), Nat.add_comm 8 i]
  simp [show ¬ 8 ≤ i by omega]
theorem mr_v_1 {a : Int32} {y i : Nat} (hy : y < 65536) (h : i < 8) : bt (mr_v a (nI y)) (i + 8) = bt a (i + 8) := by
  unfold mr_v
  rw [b_or, b_and, mr_65280 (by omega), b_sshr8 _ (by omega), if_pos (by omega), mr_bz (k := 16) (x := y) hy (by omega)]
  simp [show i + 8 < 16 by omega]
/-- key and mask of an entry of table 1 -/
theorem mr_k_lo {x y p : Nat} : mr_k (nI x) (nI y) (nI p) &&& 65535 = mr_v (nI x) (nI y) &&& mr_w (nI x) (nI y) := by
  refine b_ext ?_
  intro i hi
  unfold mr_k
  rw [b_and, b_or, b_65535, b_shl16 _ hi]
  by_cases c : i < 16
  · simp [c, show ¬ 16 ≤ i by omega]
  · rw [b_and, mr_w_2 (by omega) hi]
    simp [c]
theorem mr_k_hi {x y p : Nat} (hp : p ≤ 15) : mr_k (nI x) (nI y) (nI p) >>> ((16 : Int32) &&& 31) = nI p := by
  refine b_ext ?_
  intro i hi
  have hs := b_sshr 16 (by omega) (mr_k (nI x) (nI y) (nI p)) hi
  rw [show (nI 16 &&& 31 : Int32) = (16 : Int32) &&& 31 from rfl] at hs
  rw [hs]
  unfold mr_k
  by_cases c : 16 + i < 32
  · rw [if_pos c, b_or, b_and, mr_w_2 (by omega) c, b_shl16 _ c, Nat.add_sub_cancel_left]
    simp
  · rw [if_neg c, b_or, b_and, mr_w_2 (by omega) (by omega), b_shl16 _ (by omega), mr_bz (x := p) (k := 4) (i := 31 - 16) (by omega) (by omega), mr_bz (x := p) (k := 4) (by omega) (by omega)]
    simp
theorem mr_fit {x y p1 p2 : Nat} (hy : y < 65536) (h1 : p1 < 256) (h2 : p2 < 256) :
    ((nI p1 &&& nI x) &&& 255 = ((nI x >>> ((8 : Int32) &&& 31)) &&& nI x) &&& 255 ∧ (nI p2 &&& nI y) &&& 255 = ((nI y >>> ((8 : Int32) &&& 31)) &&& nI y) &&& 255) ↔ ((nI p1 <<< ((8 : Int32) &&& 31)) ||| nI p2) &&& mr_w (nI x) (nI y) = mr_v (nI x) (nI y) &&& mr_w (nI x) (nI y) := by
  have f0 : ∀ i, i < 8 → bt ((nI p1 <<< ((8 : Int32) &&& 31)) ||| nI p2) i = bt (nI p2) i := by
    intro i hi
    rw [b_or, b_shl8 _ (by omega)]
    simp [show ¬ 8 ≤ i by omega]
  have f1 : ∀ i, i < 8 → bt ((nI p1 <<< ((8 : Int32) &&& 31)) ||| nI p2) (i + 8) = bt (nI p1) i := by
    intro i hi
    rw [b_or, b_shl8 _ (by omega), mr_bz (x := p2) (k := 8) h2 (by omega)]
    simp
  have l : ∀ (p z : Nat) (i : Nat), i < 8 → (bt ((nI p &&& nI z) &&& 255) i = (bt (nI p) i && bt (nI z) i)) ∧ bt (((nI z >>> ((8 : Int32) &&& 31)) &&& nI z) &&& 255) i = (bt (nI z) (i + 8) && bt (nI z) i) := by
    intro p z i hi
    rw [b_and, b_and, b_255, b_and, b_and, b_255, b_sshr8 _ (by omega), if_pos (by omega), Nat.add_comm 8 i]
    simp [hi]
  have lh : ∀ (p z : Nat) (i : Nat), ¬ i < 8 → bt ((nI p &&& nI z) &&& 255) i = bt (((nI z >>> ((8 : Int32) &&& 31)) &&& nI z) &&& 255) i := by
    intro p z i hi
    rw [b_and _ 255, b_and _ 255, b_255]
    simp [hi]
  constructor
  · rintro ⟨e1, e2⟩
    refine b_ext ?_
    intro i hi
    by_cases c : i < 8
    · have g := congrArg (fun t => bt t i) e2
      rw [(l p2 y i c).1, (l p2 y i c).2] at g
      rw [b_and, b_and, f0 i c, mr_w_0 c, mr_v_0 c]
      exact g
    · by_cases d : i < 16
      · obtain ⟨j, rfl⟩ : ∃ j, i = j + 8 := ⟨i - 8, by omega⟩
        have g := congrArg (fun t => bt t j) e1
        rw [(l p1 x j (by omega)).1, (l p1 x j (by omega)).2] at g
        rw [b_and, b_and, f1 j (by omega), mr_w_1 (by omega), mr_v_1 hy (by omega)]
        exact g
      · rw [b_and, b_and, mr_w_2 (by omega) hi, Bool.and_false, Bool.and_false]
  · intro e
    refine ⟨b_ext ?_, b_ext ?_⟩
    · intro i hi
      by_cases c : i < 8
      · have g := congrArg (fun t => bt t (i + 8)) e
        rw [b_and, b_and, f1 i c, mr_w_1 c, mr_v_1 hy c] at g
        rw [(l p1 x i c).1, (l p1 x i c).2]
        exact g
      · exact lh p1 x i c
    · intro i hi
      by_cases c : i < 8
      · have g := congrArg (fun t => bt t i) e
        rw [b_and, b_and, f0 i c, mr_w_0 c, mr_v_0 c] at g
        rw [(l p2 y i c).1, (l p2 y i c).2]
        exact g
      · exact lh p2 y i c
section
variable {f_draft f_nextHandle f_treeReady f_nodeCount f_groupsReady f_groupCount : Int32} {a_defaults a_packet a_entryCount a_handles a_actions a_keys a_widths a_child a_endsHere a_endCount a_partNode a_partDepth a_groupMask a_groupTop a_listFirst a_listNext : Nat → Int32}
theorem mx_perform {post : Int32 → SX → Prop} {a b c : Nat} (ha : a ≤ 4) (hb : b ≤ 3) (hc : c ≤ 255) (h : post (mr_g a) (f_draft, f_nextHandle, f_treeReady, f_nodeCount, f_groupsReady, f_groupCount, a_defaults, mr_f a b c a_packet, a_entryCount, a_handles, a_actions, a_keys, a_widths, a_child, a_endsHere, a_endCount, a_partNode, a_partDepth, a_groupMask, a_groupTop, a_listFirst, a_listNext)) : wpX_perform post (f_draft, f_nextHandle, f_treeReady, f_nodeCount, f_groupsReady, f_groupCount, a_defaults, a_packet, a_entryCount, a_handles, a_actions, a_keys, a_widths, a_child, a_endsHere, a_endCount, a_partNode, a_partDepth, a_groupMask, a_groupTop, a_listFirst, a_listNext) (mr_a (nI a) (nI b) (nI c)) := by
  obtain ⟨d1, d2, d3⟩ := mr_a_d a (by omega) b (by omega) c (by omega)
  have hib : vp_in (nI b) 4 := vp_in_nI (by omega) (by omega)
  have hi3 : vp_in (nI (c % 4)) 4 := vp_in_nI (by omega) (by omega)
  have hcb : (nI b).toNatClampNeg = b := nI_clamp (by omega)
  have hc4 : (nI (c % 4)).toNatClampNeg = c % 4 := nI_clamp (by omega)
  refine nm_r d1 (nm_r d2 (nm_r d3 ?_))
  rw [hcb]
  have fin : ∀ fl : Nat → Int32, fl = mr_f a b c a_packet → wX_perform_72 post (nI a) f_draft f_nextHandle f_treeReady f_nodeCount f_groupsReady f_groupCount a_defaults fl a_entryCount a_handles a_actions a_keys a_widths a_child a_endsHere a_endCount a_partNode a_partDepth a_groupMask a_groupTop a_listFirst a_listNext := by
    intro fl hfl
    rw [hfl]
    by_cases z : a = 4
    · unfold mr_g at h
      rw [if_pos z] at h
      exact br_t (by rw [z]; rfl) h
    · unfold mr_g at h
      rw [if_neg z] at h
      exact br_f (fun y => z ((nI_eq (b := 4) (by omega) (by omega)).mp y)) h
  have s58 : ∀ fl : Nat → Int32, (a = 2 → upd fl b (fl (c % 4)) = mr_f a b c a_packet) → (a ≠ 2 → fl = mr_f a b c a_packet) → wX_perform_52 post (nI a) (nI b) (nI c) f_draft f_nextHandle f_treeReady f_nodeCount f_groupsReady f_groupCount a_defaults fl a_entryCount a_handles a_actions a_keys a_widths a_child a_endsHere a_endCount a_partNode a_partDepth a_groupMask a_groupTop a_listFirst a_listNext := by
    intro fl g1 g2
    unfold wX_perform_52
    rw [mr_c3 hc, hcb, hc4]
    by_cases z : a = 2
    · exact br_t (by rw [z]; rfl) ⟨hi3, hib, nm_e (fin _ (g1 z))⟩
    · exact br_f (fun y => z ((nI_eq (b := 2) (by omega) (by omega)).mp y)) (fin _ (g2 z))
  have s30 : ∀ fl : Nat → Int32, (a = 1 → upd fl b ((fl b + nI c) &&& 255) = mr_f a b c a_packet) → (a = 2 → upd fl b (fl (c % 4)) = mr_f a b c a_packet) → (a ≠ 1 → a ≠ 2 → fl = mr_f a b c a_packet) → wX_perform_28 post (nI a) (nI b) (nI c) f_draft f_nextHandle f_treeReady f_nodeCount f_groupsReady f_groupCount a_defaults fl a_entryCount a_handles a_actions a_keys a_widths a_child a_endsHere a_endCount a_partNode a_partDepth a_groupMask a_groupTop a_listFirst a_listNext := by
    intro fl g0 g1 g2
    unfold wX_perform_28
    rw [hcb]
    by_cases z : a = 1
    · exact br_t (by rw [z]; rfl) ⟨hib, hib, nm_e (s58 _ (fun y => by omega) (fun _ => g0 z))⟩
    · exact br_f (fun y => z ((nI_eq (b := 1) (by omega) (by omega)).mp y)) (s58 _ g1 (g2 z))
  by_cases z : a = 0
  · refine br_t (by rw [z]; rfl) ⟨hib, nm_e (s30 _ (fun y => by omega) (fun y => by omega) (fun _ _ => ?_))⟩
    unfold mr_f
    rw [if_pos z]
  · refine br_f (fun y => z ((nI_eq (b := 0) (by omega) (by omega)).mp y)) (s30 _ (fun y => ?_) (fun y => ?_) (fun y1 y2 => ?_))
    · unfold mr_f
      rw [if_neg z, if_pos y]
    · unfold mr_f
      rw [if_neg z, if_neg (by omega), if_pos y]
    · unfold mr_f
      rw [if_neg z, if_neg y1, if_neg y2]
theorem mx_addEntry_l {post : Int32 → SX → Prop} {H : Nat → Nat} {t nh cn e0 : Nat} {key wd : Int32} (ht : t < 2) (hc : cn < 16) (hcn : a_entryCount t = nI cn) (hh : ∀ e, e < 32 → a_handles e = mb_c (H e) ∧ H e < 2 ^ 30) (h0 : e0 < 16 * t + 16) (hz : H e0 = 0)
    (hp : ∀ e, 16 * t ≤ e → e < 16 * t + 16 → H e = 0 → post (nI nh) (f_draft, nI (nh + 1), f_treeReady, f_nodeCount, f_groupsReady, f_groupCount, a_defaults, a_packet, upd a_entryCount t (nI (cn + 1)), upd a_handles e (nI nh), upd a_actions e f_draft, upd a_keys e key, upd a_widths e wd, a_child, a_endsHere, a_endCount, a_partNode, a_partDepth, a_groupMask, a_groupTop, a_listFirst, a_listNext)) :
    ∀ (d e : Nat), e + d = e0 → 16 * t ≤ e → wX_addEntry_6 post (nI t) key wd f_draft (nI nh) f_treeReady f_nodeCount f_groupsReady f_groupCount a_defaults a_packet a_entryCount a_handles a_actions a_keys a_widths a_child a_endsHere a_endCount a_partNode a_partDepth a_groupMask a_groupTop a_listFirst a_listNext (d + 1) (nI e) := by
  have fin : ∀ (m e : Nat), 16 * t ≤ e → e ≤ e0 → H e = 0 → wX_addEntry_6 post (nI t) key wd f_draft (nI nh) f_treeReady f_nodeCount f_groupsReady f_groupCount a_defaults a_packet a_entryCount a_handles a_actions a_keys a_widths a_child a_endsHere a_endCount a_partNode a_partDepth a_groupMask a_groupTop a_listFirst a_listNext (m + 1) (nI e) := by
    intro m e he he0 hu
    have hin : vp_in (nI e) 32 := vp_in_nI (by omega) (by omega)
    have h2 : vp_in (nI t) 2 := vp_in_nI ht (by omega)
    have hx := hh e (by omega)
    refine And.intro hin ?_
    rw [nI_clamp (show e < 2 ^ 31 by omega), nI_clamp (show t < 2 ^ 31 by omega), hcn, hx.1, nI_1 cn, mb_vn8 (by omega)]
    refine br_t ((mb_lt (by omega)).mpr hu) ⟨hin, nm_e ⟨hin, nm_e ⟨hin, nm_e ⟨hin, nm_e ⟨h2, h2, nm_e (nm_r (nI_1 nh) ?_)⟩⟩⟩⟩⟩
    rw [nI_pred]
    exact hp e he (by omega) hu
  intro d
  induction d with
  | zero =>
    intro e he h16
    have : e = e0 := by omega
    subst this
    exact fin 0 e h16 (by omega) hz
  | succ d ih =>
    intro e he h16
    by_cases hu : H e = 0
    · exact fin (d + 1) e h16 (by omega) hu
    · have hin : vp_in (nI e) 32 := vp_in_nI (by omega) (by omega)
      have hx := hh e (by omega)
      refine And.intro hin ?_
      refine br_f ?_ (nm_r (nI_1 e) (ih (e + 1) (by omega) (by omega)))
      rw [nI_clamp (show e < 2 ^ 31 by omega), hx.1, mb_lt (by omega)]
      exact hu
theorem mx_addEntry {post : Int32 → SX → Prop} {H : Nat → Nat} {t nh cn : Nat} {key wd : Int32} (ht : t < 2) (hc : cn < 16) (hcn : a_entryCount t = nI cn) (hh : ∀ e, e < 32 → a_handles e = mb_c (H e) ∧ H e < 2 ^ 30) (hf : ∃ e, 16 * t ≤ e ∧ e < 16 * t + 16 ∧ H e = 0)
    (hp : ∀ e, 16 * t ≤ e → e < 16 * t + 16 → H e = 0 → post (nI nh) (f_draft, nI (nh + 1), f_treeReady, f_nodeCount, f_groupsReady, f_groupCount, a_defaults, a_packet, upd a_entryCount t (nI (cn + 1)), upd a_handles e (nI nh), upd a_actions e f_draft, upd a_keys e key, upd a_widths e wd, a_child, a_endsHere, a_endCount, a_partNode, a_partDepth, a_groupMask, a_groupTop, a_listFirst, a_listNext)) : wpX_addEntry post (f_draft, nI nh, f_treeReady, f_nodeCount, f_groupsReady, f_groupCount, a_defaults, a_packet, a_entryCount, a_handles, a_actions, a_keys, a_widths, a_child, a_endsHere, a_endCount, a_partNode, a_partDepth, a_groupMask, a_groupTop, a_listFirst, a_listNext) (nI t) key wd := by
  obtain ⟨e0, h1, h2, h3⟩ := hf
  have e16 : (16 : Int32) * nI t = nI (16 * t) := pk_mul 16 t
  exact nm_r e16 ⟨_, mx_addEntry_l ht hc hcn hh h2 h3 hp (e0 - 16 * t) (16 * t) (by omega) (by omega)⟩
end
end
section
/-! the relation, and how it lasts -/
def mb_u (f : Nat → Nat) (k x : Nat) : Nat → Nat := fun j => if j = k then x else f j
theorem mb_us {f : Nat → Nat} {k x : Nat} : mb_u f k x k = x := if_pos rfl
theorem mb_un {f : Nat → Nat} {k x j : Nat} (h : j ≠ k) : mb_u f k x j = f j := if_neg h
def mb_st (lo k j : Nat) : Nat := if lo ≤ j ∧ j < k then j + 1 else j
theorem mb_sh_st (f : Nat → Int32) (lo k j : Nat) : mb_sh f lo k j = f (mb_st lo k j) := by
  unfold mb_sh mb_st
  split <;> rfl
def mr_ar (k f n : Int32) : Prop := ∃ a b c : Nat, a ≤ 4 ∧ b ≤ 3 ∧ c ≤ 255 ∧ k = nI a ∧ f = nI b ∧ n = nI c
def mr_m (a b w k : Int32) : Prop := ∀ p1 p2 : Nat, p1 < 256 → p2 < 256 →
  (((nI p1 &&& a) &&& 255 = ((a >>> ((8 : Int32) &&& 31)) &&& a) &&& 255 ∧ (nI p2 &&& b) &&& 255 = ((b >>> ((8 : Int32) &&& 31)) &&& b) &&& 255) ↔ ((nI p1 <<< ((8 : Int32) &&& 31)) ||| nI p2) &&& w = k &&& 65535)
def mr_E (H A R : Nat → Nat) (ac ky wd hd aa bb rk ki pc nu : Nat → Int32) (q e : Nat) : Prop :=
  e < 32 ∧ e / 16 = q / 16 ∧ H e ≠ 0 ∧ hd q = mb_c (H e) ∧ rk q = nI (R e) ∧ ac e = mr_a (ki q) (pc q) (nu q) ∧ mr_ar (ki q) (pc q) (nu q) ∧ (q < 16 → aa q = nI (A e) ∧ bb q = nI (R e)) ∧ (16 ≤ q → mr_m (aa q) (bb q) (wd e) (ky e))
/-- the reference's places and the component's slots -/
def mr_P (H A R pl c : Nat → Nat) (ac ky wd hd aa bb rk ki pc nu : Nat → Int32) : Prop :=
  (∀ q, my_v c q → mr_E H A R ac ky wd hd aa bb rk ki pc nu q (pl q)) ∧ (∀ e, e < 32 → H e ≠ 0 → ∃ q, my_v c q ∧ pl q = e) ∧ (∀ q q', my_v c q → my_v c q' → q / 16 = q' / 16 → q < q' → H (pl q) < H (pl q'))
def mr_pb (pk : Nat → Int32) : Prop := ∀ j, j < 4 → ∃ b, b < 256 ∧ pk j = nI b
def mr_B (k nh : Nat) (H A R pl c : Nat → Nat) (f_draft f_nextHandle f_treeReady f_nodeCount f_groupsReady f_groupCount : Int32) (a_defaults a_packet a_entryCount a_handles a_actions a_keys a_widths a_child a_endsHere a_endCount a_partNode a_partDepth a_groupMask a_groupTop a_listFirst a_listNext : Nat → Int32) (f_kind f_place f_number f_handles : Int32) (a_fields a_count a_handle a_a a_b a_rank a_kinds a_places a_numbers : Nat → Int32) : Prop :=
  mx_I nh H A R a_handles a_keys a_widths ∧ mr_P H A R pl c a_actions a_keys a_widths a_handle a_a a_b a_rank a_kinds a_places a_numbers ∧
  (f_nextHandle = nI nh ∧ f_handles = nI nh ∧ nh ≤ k) ∧ (a_fields = a_packet ∧ mr_pb a_packet) ∧ (f_draft = mr_a f_kind f_place f_number ∧ mr_ar f_kind f_place f_number) ∧
  (∀ t, t < 2 → a_defaults t = mr_a (a_kinds (32 + t)) (a_places (32 + t)) (a_numbers (32 + t)) ∧ mr_ar (a_kinds (32 + t)) (a_places (32 + t)) (a_numbers (32 + t))) ∧
  (∀ t, t < 2 → a_entryCount t = nI (c t) ∧ a_count t = nI (c t) ∧ c t ≤ 16) ∧
  (¬ f_treeReady = 0 → mt_OK H (mt_K A R) f_nodeCount a_child a_endsHere a_endCount) ∧ (¬ f_groupsReady = 0 → mg_OK H R a_widths a_keys f_groupCount a_groupMask a_groupTop a_listFirst a_listNext)
theorem my_v_i {c : Nat → Nat} {t i : Nat} (ht : t < 2) (hc : c t ≤ 16) (hi : i < c t) : my_v c (16 * t + i) := by
  have e1 : (16 * t + i) / 16 = t := by omega
  have e2 : (16 * t + i) % 16 = i := by omega
  refine ⟨by omega, ?_⟩
  rw [e1, e2]
  exact hi
theorem my_v_q {c : Nat → Nat} {q : Nat} (h : my_v c q) : ∃ t i, t < 2 ∧ i < c t ∧ q = 16 * t + i ∧ q / 16 = t := ⟨q / 16, q % 16, by have := h.1; omega, h.2, by omega, rfl⟩
/-- a new entry: slots -/
theorem mr_I_add {nh e a r : Nat} {H A R : Nat → Nat} {hd ky wd : Nat → Int32} {key w : Int32} (hI : mx_I nh H A R hd ky wd) (he : e < 32) (hz : H e = 0) (hn : nh + 1 < 2 ^ 20) (h0 : e < 16 → key = nI a ∧ w = nI r ∧ a < 256 ∧ r ≤ 8) (h1 : 16 ≤ e → key >>> ((16 : Int32) &&& 31) = nI r ∧ r ≤ 15) :
    mx_I (nh + 1) (mb_u H e (nh + 1)) (mb_u A e a) (mb_u R e r) (upd hd e (nI nh)) (upd ky e key) (upd wd e w) := by
  obtain ⟨i1, i2, i3, i4, i5⟩ := hI
  refine ⟨hn, ?_, ?_, ?_, ?_⟩
  · intro x hx
    by_cases c : x = e
    · subst c
      rw [pk_us, mb_us, mb_cs]
      exact ⟨rfl, by omega⟩
    · rw [pk_un c, mb_un c]
      have := i2 x hx
      exact ⟨this.1, by omega⟩
  · intro x hx
    by_cases c : x = e
    · subst c
      rw [pk_us, pk_us, mb_us, mb_us, mb_us]
      exact fun _ => h0 hx
    · rw [pk_un c, pk_un c, mb_un c, mb_un c, mb_un c]
      exact i3 x hx
  · intro x hx hx2
    by_cases c : x = e
    · subst c
      rw [pk_us, mb_us, mb_us]
      exact fun _ => h1 hx
    · rw [pk_un c, mb_un c, mb_un c]
      exact i4 x hx hx2
  · intro x y hx hy
    by_cases c : x = e
    · by_cases d : y = e
      · intro _ _; omega
      · subst c
        rw [mb_us, mb_un d]
        have := (i2 y hy).2
        intro _ _; omega
    · by_cases d : y = e
      · subst d
        rw [mb_us, mb_un c]
        have := (i2 x hx).2
        intro _ _; omega
      · rw [mb_un c, mb_un d]
        exact i5 x y hx hy
theorem mr_P_add {nh e a r t : Nat} {H A R pl c : Nat → Nat} {ac ky wd hd aa bb rk ki pc nu : Nat → Int32} {key w p1 p2 k f n : Int32} (hP : mr_P H A R pl c ac ky wd hd aa bb rk ki pc nu) (hH : ∀ x, x < 32 → H x ≤ nh) (ht : t < 2) (hc : c t < 16) (he : e < 32) (het : e / 16 = t) (hz : H e = 0) (har : mr_ar k f n) (h0 : e < 16 → p1 = nI a ∧ p2 = nI r) (h1 : 16 ≤ e → mr_m p1 p2 w key) :
    mr_P (mb_u H e (nh + 1)) (mb_u A e a) (mb_u R e r) (mb_u pl (16 * t + c t) e) (mb_u c t (c t + 1)) (upd ac e (mr_a k f n)) (upd ky e key) (upd wd e w) (upd hd (16 * t + c t) (nI nh)) (upd aa (16 * t + c t) p1) (upd bb (16 * t + c t) p2) (upd rk (16 * t + c t) (nI r)) (upd ki (16 * t + c t) k) (upd pc (16 * t + c t) f) (upd nu (16 * t + c t) n) := by
  obtain ⟨i1, i2, i3⟩ := hP
  have hv : ∀ q, my_v (mb_u c t (c t + 1)) q → q ≠ 16 * t + c t → my_v c q := by
    intro q hq hne
    refine ⟨hq.1, ?_⟩
    have h := hq.2
    by_cases z : q / 16 = t
    · rw [z, mb_us] at h
      rw [z]; omega
    · rw [mb_un z] at h
      exact h
  have hv' : ∀ q, my_v c q → my_v (mb_u c t (c t + 1)) q ∧ q ≠ 16 * t + c t := by
    intro q hq
    refine ⟨⟨hq.1, ?_⟩, ?_⟩
    · by_cases z : q / 16 = t
      · have h := hq.2
        rw [z] at h
        rw [z, mb_us]; omega
      · rw [mb_un z]; exact hq.2
    · intro z
      have h := hq.2
      have e1 : q / 16 = t := by omega
      have e2 : q % 16 = c t := by omega
      rw [e1, e2] at h
      omega
  have hpl : ∀ q, my_v c q → pl q ≠ e := by
    intro q hq z
    exact (i1 q hq).2.2.1 (by rw [z]; exact hz)
  refine ⟨?_, ?_, ?_⟩
  · intro q hq
    by_cases z : q = 16 * t + c t
    · subst z
      unfold mr_E
      simp only [mb_us, pk_us, mb_cs]
      refine ⟨he, by omega, by omega, trivial, trivial, trivial, har, fun y => h0 (by omega), fun y => h1 (by omega)⟩
    · have g := i1 q (hv q hq z)
      have ne := hpl q (hv q hq z)
      rw [mb_un z]
      unfold mr_E at g ⊢
      rw [mb_un ne, mb_un ne, mb_un ne, pk_un ne, pk_un ne, pk_un ne, pk_un z, pk_un z, pk_un z, pk_un z, pk_un z, pk_un z, pk_un z]
      exact g
  · intro x hx hu
    by_cases z : x = e
    · subst z
      refine ⟨16 * t + c t, ⟨by omega, ?_⟩, mb_us⟩
      have e1 : (16 * t + c t) / 16 = t := by omega
      have e2 : (16 * t + c t) % 16 = c t := by omega
      rw [e1, e2, mb_us]
      omega
    · rw [mb_un z] at hu
      obtain ⟨q, q1, q2⟩ := i2 x hx hu
      exact ⟨q, (hv' q q1).1, by rw [mb_un (hv' q q1).2]; exact q2⟩
  · intro q q' hq hq' hs hl
    have hz' : q ≠ 16 * t + c t := by
      intro z
      have h := hq'.2
      have e1 : q' / 16 = t := by omega
      rw [e1, mb_us] at h
      omega
    have vq := hv q hq hz'
    rw [mb_un hz', mb_un (hpl q vq)]
    by_cases z : q' = 16 * t + c t
    · rw [z, mb_us, mb_us]
      have := hH (pl q) (i1 q vq).1
      omega
    · have vq' := hv q' hq' z
      rw [mb_un z, mb_un (hpl q' vq')]
      exact i3 q q' vq vq' hs hl
/-- a removal -/
theorem mr_I_rem {nh e : Nat} {H A R : Nat → Nat} {hd ky wd : Nat → Int32} (hI : mx_I nh H A R hd ky wd) : mx_I nh (mb_u H e 0) A R (upd hd e (-1)) ky wd := by
  obtain ⟨i1, i2, i3, i4, i5⟩ := hI
  have hu : ∀ x, mb_u H e 0 x ≠ 0 → x ≠ e ∧ H x ≠ 0 := by
    intro x hx
    by_cases c : x = e
    · subst c; exact absurd mb_us hx
    · rw [mb_un c] at hx
      exact ⟨c, hx⟩
  refine ⟨i1, ?_, ?_, ?_, ?_⟩
  · intro x hx
    by_cases c : x = e
    · subst c
      rw [pk_us, mb_us]
      exact ⟨mb_c0.symm, by omega⟩
    · rw [pk_un c, mb_un c]
      exact i2 x hx
  · intro x hx h
    exact i3 x hx (hu x h).2
  · intro x hx hx2 h
    exact i4 x hx hx2 (hu x h).2
  · intro x y hx hy h hxy
    have a := hu x h
    have b := hu y (by rw [← hxy]; exact h)
    rw [mb_un a.1, mb_un b.1] at hxy
    exact i5 x y hx hy a.2 hxy
theorem mr_P_rem {q0 t cn : Nat} {H A R pl c : Nat → Nat} {ac ky wd hd aa bb rk ki pc nu : Nat → Int32} (hP : mr_P H A R pl c ac ky wd hd aa bb rk ki pc nu) (hinj : ∀ e e', e < 32 → e' < 32 → H e ≠ 0 → H e = H e' → e = e') (h0 : my_v c q0) (ht : q0 / 16 = t) (hc : c t = cn + 1) (hcn : cn < 16) :
    mr_P (mb_u H (pl q0) 0) A R (fun j => pl (mb_st q0 (16 * t + cn) j)) (mb_u c t cn) ac ky wd (mb_sh hd q0 (16 * t + cn)) (mb_sh aa q0 (16 * t + cn)) (mb_sh bb q0 (16 * t + cn)) (mb_sh rk q0 (16 * t + cn)) (mb_sh ki q0 (16 * t + cn)) (mb_sh pc q0 (16 * t + cn)) (mb_sh nu q0 (16 * t + cn)) := by
  obtain ⟨i1, i2, i3⟩ := hP
  have hq0 := h0.2
  rw [ht, hc] at hq0
  have inj : ∀ q q', my_v c q → my_v c q' → pl q = pl q' → q = q' := by
    intro q q' hq hq' z
    have a := i1 q hq
    have b := i1 q' hq'
    have s : q / 16 = q' / 16 := by
      have := a.2.1
      have := b.2.1
      rw [z] at *
      omega
    rcases Nat.lt_trichotomy q q' with w | w | w
    · have := i3 q q' hq hq' s w
      rw [z] at this
      omega
    · exact w
    · have := i3 q' q hq' hq s.symm w
      rw [z] at this
      omega
  have st : ∀ j, my_v (mb_u c t cn) j → my_v c (mb_st q0 (16 * t + cn) j) ∧ mb_st q0 (16 * t + cn) j ≠ q0 ∧ mb_st q0 (16 * t + cn) j / 16 = j / 16 ∧ j / 16 < 2 := by
    intro j hj
    have h1 := hj.1
    have h2 := hj.2
    unfold mb_st
    by_cases z : j / 16 = t
    · rw [z, mb_us] at h2
      split
      · have e1 : (j + 1) / 16 = t := by omega
        refine ⟨⟨by omega, ?_⟩, by omega, by omega, by omega⟩
        rw [e1, hc]; omega
      · refine ⟨⟨h1, ?_⟩, by omega, rfl, by omega⟩
        rw [z, hc]; omega
    · rw [mb_un z] at h2
      rw [if_neg (by omega)]
      refine ⟨⟨h1, h2⟩, ?_, rfl, by omega⟩
      intro y
      rw [y] at z
      exact z ht
  have mono : ∀ j j', my_v (mb_u c t cn) j' → j < j' → mb_st q0 (16 * t + cn) j < mb_st q0 (16 * t + cn) j' := by
    intro j j' hv h
    have hne : j' ≠ 16 * t + cn := by
      intro z
      have h2 := hv.2
      have e1 : j' / 16 = t := by omega
      rw [e1, mb_us] at h2
      omega
    unfold mb_st
    split <;> split <;> omega
  refine ⟨?_, ?_, ?_⟩
  · intro j hj
    obtain ⟨s1, s2, s3, s4⟩ := st j hj
    have g := i1 _ s1
    have ne : pl (mb_st q0 (16 * t + cn) j) ≠ pl q0 := fun z => s2 (inj _ _ s1 h0 z)
    unfold mr_E at g ⊢
    dsimp only
    rw [mb_un ne, mb_sh_st, mb_sh_st, mb_sh_st, mb_sh_st, mb_sh_st, mb_sh_st, mb_sh_st]
    obtain ⟨g1, g2, g3, g4, g5, g6, g7, g8, g9⟩ := g
    exact ⟨g1, by omega, g3, g4, g5, g6, g7, fun y => g8 (by omega), fun y => g9 (by omega)⟩
  · intro x hx hu
    have xne : x ≠ pl q0 := by
      intro z
      rw [z, mb_us] at hu
      exact hu rfl
    rw [mb_un xne] at hu
    obtain ⟨q, q1, q2⟩ := i2 x hx hu
    have qne : q ≠ q0 := by
      intro z
      rw [z] at q2
      exact xne q2.symm
    have hq := q1.2
    by_cases w : q / 16 = t
    · rw [w, hc] at hq
      by_cases y : q < q0
      · refine ⟨q, ⟨q1.1, ?_⟩, ?_⟩
        · rw [w, mb_us]; omega
        · dsimp only
          unfold mb_st
          rw [if_neg (by omega)]
          exact q2
      · have e1 : (q - 1) / 16 = t := by omega
        refine ⟨q - 1, ⟨by have := q1.1; omega, ?_⟩, ?_⟩
        · rw [e1, mb_us]; omega
        · dsimp only
          unfold mb_st
          rw [if_pos (by omega), show q - 1 + 1 = q by omega]
          exact q2
    · refine ⟨q, ⟨q1.1, ?_⟩, ?_⟩
      · rw [mb_un w]; exact q1.2
      · dsimp only
        unfold mb_st
        rw [if_neg (by omega)]
        exact q2
  · intro j j' hj hj' hs hl
    obtain ⟨s1, s2, s3, s4⟩ := st j hj
    obtain ⟨r1, r2, r3, r4⟩ := st j' hj'
    dsimp only
    rw [mb_un (fun z => s2 (inj _ _ s1 h0 z)), mb_un (fun z => r2 (inj _ _ r1 h0 z))]
    exact i3 _ _ s1 r1 (by omega) (mono j j' hj' hl)
/-- a place for a new entry -/
theorem mr_free {t : Nat} {H A R pl c : Nat → Nat} {ac ky wd hd aa bb rk ki pc nu : Nat → Int32} (hP : mr_P H A R pl c ac ky wd hd aa bb rk ki pc nu) (ht : t < 2) (hc : c t < 16) : ∃ e, 16 * t ≤ e ∧ e < 16 * t + 16 ∧ H e = 0 := by
  apply Classical.byContradiction
  intro z
  have hu : ∀ e, 16 * t ≤ e → e < 16 * t + 16 → H e ≠ 0 := fun e h1 h2 h3 => z ⟨e, h1, h2, h3⟩
  have hv : ∀ i, i < c t → my_v c (16 * t + i) := fun i hi => my_v_i ht (by omega) hi
  have inj : ∀ i j, i < c t → j < c t → pl (16 * t + i) = pl (16 * t + j) → i = j := by
    intro i j hi hj e
    rcases Nat.lt_trichotomy i j with w | w | w
    · have := hP.2.2 _ _ (hv i hi) (hv j hj) (by omega) (show 16 * t + i < 16 * t + j by omega)
      rw [e] at this
      omega
    · exact w
    · have := hP.2.2 _ _ (hv j hj) (hv i hi) (by omega) (show 16 * t + j < 16 * t + i by omega)
      rw [e] at this
      omega
  have b := mb_n_bij (f := fun i => pl (16 * t + i)) (n := 32) (P := fun _ => True) (c := c t) (fun i hi => (hP.1 _ (hv i hi)).1) inj
  have g : 16 ≤ mb_n (fun e => (∃ i, i < c t ∧ pl (16 * t + i) = e) ∧ True) 32 := by
    refine mb_n_ge (lo := 16 * t) ?_ (by omega)
    intro e h1 h2
    obtain ⟨q, q1, q2⟩ := hP.2.1 e (by omega) (hu e h1 h2)
    have s := (hP.1 q q1).2.1
    rw [q2] at s
    have q3 := q1.2
    have e1 : q / 16 = t := by omega
    rw [e1] at q3
    exact ⟨⟨q % 16, q3, by rw [show 16 * t + q % 16 = q by omega]; exact q2⟩, trivial⟩
  have l := mb_n_le (fun _ => True) (c t)
  omega
/-- a table's entries, counted on both sides -/
theorem mr_cnt {t : Nat} {H A R pl c : Nat → Nat} {ac ky wd hd aa bb rk ki pc nu : Nat → Int32} {U : Nat → Prop} (hP : mr_P H A R pl c ac ky wd hd aa bb rk ki pc nu) (ht : t < 2) (hc : c t ≤ 16) (hU : ∀ e, U e → e < 32 ∧ e / 16 = t ∧ H e ≠ 0) : mb_n (fun i => U (pl (16 * t + i))) (c t) = mb_n U 32 := by
  have hv : ∀ i, i < c t → my_v c (16 * t + i) := fun i hi => my_v_i ht (by omega) hi
  have inj : ∀ i j, i < c t → j < c t → pl (16 * t + i) = pl (16 * t + j) → i = j := by
    intro i j hi hj e
    rcases Nat.lt_trichotomy i j with w | w | w
    · have := hP.2.2 _ _ (hv i hi) (hv j hj) (by omega) (show 16 * t + i < 16 * t + j by omega)
      rw [e] at this
      omega
    · exact w
    · have := hP.2.2 _ _ (hv j hj) (hv i hi) (by omega) (show 16 * t + j < 16 * t + i by omega)
      rw [e] at this
      omega
  have b := mb_n_bij (f := fun i => pl (16 * t + i)) (n := 32) (P := U) (c := c t) (fun i hi => (hP.1 _ (hv i hi)).1) inj
  refine b.symm.trans (mb_n_c ?_)
  intro e he
  constructor
  · exact fun z => z.2
  · intro u
    obtain ⟨h1, h2, h3⟩ := hU e u
    obtain ⟨q, q1, q2⟩ := hP.2.1 e h1 h3
    have s := (hP.1 q q1).2.1
    rw [q2] at s
    have q3 := q1.2
    have e1 : q / 16 = t := by omega
    rw [e1] at q3
    exact ⟨⟨q % 16, q3, by rw [show 16 * t + q % 16 = q by omega]; exact q2⟩, u⟩
theorem mr_cov {t : Nat} {H A R pl c : Nat → Nat} {ac ky wd hd aa bb rk ki pc nu : Nat → Int32} (hP : mr_P H A R pl c ac ky wd hd aa bb rk ki pc nu) {e : Nat} (h1 : e < 32) (h2 : e / 16 = t) (h3 : H e ≠ 0) : ∃ i, i < c t ∧ pl (16 * t + i) = e := by
  obtain ⟨q, q1, q2⟩ := hP.2.1 e h1 h3
  have s := (hP.1 q q1).2.1
  rw [q2] at s
  have q3 := q1.2
  have e1 : q / 16 = t := by omega
  rw [e1] at q3
  exact ⟨q % 16, q3, by rw [show 16 * t + q % 16 = q by omega]; exact q2⟩
end
section
/-! the relation i_Rel; where the two sides meet -/
section
variable {f_draft f_nextHandle f_treeReady f_nodeCount f_groupsReady f_groupCount : Int32} {a_defaults a_packet a_entryCount a_handles a_actions a_keys a_widths a_child a_endsHere a_endCount a_partNode a_partDepth a_groupMask a_groupTop a_listFirst a_listNext : Nat → Int32}
variable {f_kind f_place f_number f_handles : Int32} {a_fields a_count a_handle a_a a_b a_rank a_kinds a_places a_numbers : Nat → Int32}
theorem mr_fits0 {nh p : Nat} {H A R pl c : Nat → Nat} (hI : mx_I nh H A R a_handles a_keys a_widths) (hP : mr_P H A R pl c a_actions a_keys a_widths a_handle a_a a_b a_rank a_kinds a_places a_numbers) (hc : c 0 ≤ 16) (hp : p < 256) {i : Nat} (hi : i < c 0) {post : Int32 → Prop} (hy : mt_U H A R p (pl (16 * 0 + i)) → post 1) (hn : ¬ mt_U H A R p (pl (16 * 0 + i)) → post 0) : wpY_fits post (f_kind, f_place, f_number, f_handles, a_fields, a_count, a_handle, a_a, a_b, a_rank, a_kinds, a_places, a_numbers) (nI (16 * 0 + i)) (nI p) := by
  have hv := my_v_i (c := c) (t := 0) (i := i) (by omega) hc hi
  obtain ⟨g1, g2, g3, g4, g5, g6, g7, g8, g9⟩ := hP.1 _ hv
  have hd := hI.2.2.1 _ (show pl (16 * 0 + i) < 16 by omega) g3
  have g := g8 (by omega)
  refine my_fits0 (by omega) hp hd.2.2.1 hd.2.2.2 g.1 g.2 (fun z => hy ⟨by omega, g3, z⟩) (fun z => hn (fun w => z w.2.2))
theorem mr_fits1 {p1 p2 : Nat} {x f : Int32} {H A R pl c : Nat → Nat} (hP : mr_P H A R pl c a_actions a_keys a_widths a_handle a_a a_b a_rank a_kinds a_places a_numbers) (hc : c 1 ≤ 16) (h1 : p1 < 256) (h2 : p2 < 256) (f1 : a_fields 1 = nI p1) (f2 : a_fields 2 = nI p2) (hf : f = (nI p1 <<< ((8 : Int32) &&& 31)) ||| nI p2) {i : Nat} (hi : i < c 1) {post : Int32 → Prop} (hy : mg_U H a_widths a_keys f (pl (16 * 1 + i)) → post 1) (hn : ¬ mg_U H a_widths a_keys f (pl (16 * 1 + i)) → post 0) : wpY_fits post (f_kind, f_place, f_number, f_handles, a_fields, a_count, a_handle, a_a, a_b, a_rank, a_kinds, a_places, a_numbers) (nI (16 * 1 + i)) x := by
  have hv := my_v_i (c := c) (t := 1) (i := i) (by omega) hc hi
  obtain ⟨g1, g2, g3, g4, g5, g6, g7, g8, g9⟩ := hP.1 _ hv
  have g := g9 (by omega) p1 p2 h1 h2
  rw [← hf] at g
  refine my_fits1 (by omega) (by omega) ?_ ?_
  · rw [f1, f2]
    exact fun z => hy ⟨by omega, g1, g3, g.mp z⟩
  · rw [f1, f2]
    exact fun z => hn (fun w => z (g.mpr w.2.2.2))
theorem mr_ord {H A R pl c : Nat → Nat} {ac ky wd hd aa bb rk ki pc nu : Nat → Int32} {t : Nat} (hP : mr_P H A R pl c ac ky wd hd aa bb rk ki pc nu) (ht : t < 2) (hc : c t ≤ 16) : ∀ i j, i < j → j < c t → H (pl (16 * t + i)) < H (pl (16 * t + j)) := by
  intro i j hij hj
  exact hP.2.2 _ _ (my_v_i ht hc (by omega)) (my_v_i ht hc hj) (by omega) (by omega)
theorem mr_tk0 {nh p : Nat} {H A R pl c : Nat → Nat} (hI : mx_I nh H A R a_handles a_keys a_widths) (hP : mr_P H A R pl c a_actions a_keys a_widths a_handle a_a a_b a_rank a_kinds a_places a_numbers) (hc : c 0 ≤ 16) (hcn : a_count 0 = nI (c 0)) (hp : p < 256) : ∃ s r, mr_bm (mt_U H A R p) H R r ∧ ((s = 0 ∧ r = 0) ∨ ∃ q, my_v c q ∧ q < 16 ∧ s = q + 1 ∧ r = pl q + 1) ∧ ∀ post : Int32 → Prop, post (mb_c s) → wpY_taken post (f_kind, f_place, f_number, f_handles, a_fields, a_count, a_handle, a_a, a_b, a_rank, a_kinds, a_places, a_numbers) 0 (nI p) := by
  obtain ⟨s, h1, h2⟩ := my_taken (f_kind := f_kind) (f_place := f_place) (f_number := f_number) (f_handles := f_handles) (a_fields := a_fields) (a_handle := a_handle) (a_a := a_a) (a_b := a_b) (a_kinds := a_kinds) (a_places := a_places) (a_numbers := a_numbers) (U := mt_U H A R p) (H := H) (R := R) (pl := pl) (t := 0) (c := c 0) (x := nI p) (a_rank := a_rank) (by omega) hc hcn
    (fun i hi => by
      obtain ⟨g1, g2, g3, g4, g5, _⟩ := hP.1 _ (my_v_i (c := c) (t := 0) (by omega) hc hi)
      have hd := hI.2.2.1 _ (show pl (16 * 0 + i) < 16 by omega) g3
      exact ⟨g5, by omega⟩)
    (mr_ord hP (by omega) hc) (fun i hi post hy hn => mr_fits0 hI hP hc hp hi hy hn) (fun e he => mr_cov hP (by have := he.1; omega) (by have := he.1; omega) he.2.1)
  rcases h1 with ⟨s0, hb⟩ | ⟨j, hj, sj, hb⟩
  · exact ⟨s, 0, hb, Or.inl ⟨s0, rfl⟩, h2⟩
  · exact ⟨s, _, hb, Or.inr ⟨16 * 0 + j, my_v_i (by omega) hc hj, by omega, sj, rfl⟩, h2⟩
theorem mr_tk1 {nh p1 p2 : Nat} {x f : Int32} {H A R pl c : Nat → Nat} (hI : mx_I nh H A R a_handles a_keys a_widths) (hP : mr_P H A R pl c a_actions a_keys a_widths a_handle a_a a_b a_rank a_kinds a_places a_numbers) (hc : c 1 ≤ 16) (hcn : a_count 1 = nI (c 1)) (h1 : p1 < 256) (h2 : p2 < 256) (f1 : a_fields 1 = nI p1) (f2 : a_fields 2 = nI p2) (hf : f = (nI p1 <<< ((8 : Int32) &&& 31)) ||| nI p2) : ∃ s r, mr_bm (mg_U H a_widths a_keys f) H R r ∧ ((s = 0 ∧ r = 0) ∨ ∃ q, my_v c q ∧ 16 ≤ q ∧ s = q + 1 ∧ r = pl q + 1) ∧ ∀ post : Int32 → Prop, post (mb_c s) → wpY_taken post (f_kind, f_place, f_number, f_handles, a_fields, a_count, a_handle, a_a, a_b, a_rank, a_kinds, a_places, a_numbers) 1 x := by
  obtain ⟨s, h1, h2⟩ := my_taken (f_kind := f_kind) (f_place := f_place) (f_number := f_number) (f_handles := f_handles) (a_fields := a_fields) (a_handle := a_handle) (a_a := a_a) (a_b := a_b) (a_kinds := a_kinds) (a_places := a_places) (a_numbers := a_numbers) (U := mg_U H a_widths a_keys f) (H := H) (R := R) (pl := pl) (t := 1) (c := c 1) (x := x) (a_rank := a_rank) (by omega) hc hcn
    (fun i hi => by
      obtain ⟨g1, g2, g3, g4, g5, _⟩ := hP.1 _ (my_v_i (c := c) (t := 1) (by omega) hc hi)
      have hd := hI.2.2.2.1 _ (show 16 ≤ pl (16 * 1 + i) by omega) g1 g3
      exact ⟨g5, by omega⟩)
    (mr_ord hP (by omega) hc) (fun i hi post hy hn => mr_fits1 hP hc h1 h2 f1 f2 hf hi hy hn) (fun e he => mr_cov hP he.2.1 (by have := he.1; have := he.2.1; omega) he.2.2.1)
  rcases h1 with ⟨s0, hb⟩ | ⟨j, hj, sj, hb⟩
  · exact ⟨s, 0, hb, Or.inl ⟨s0, rfl⟩, h2⟩
  · exact ⟨s, _, hb, Or.inr ⟨16 * 1 + j, my_v_i (by omega) hc hj, by omega, sj, rfl⟩, h2⟩
theorem mr_B_up {k nh : Nat} {H A R pl c : Nat → Nat} (h : mr_B k nh H A R pl c f_draft f_nextHandle f_treeReady f_nodeCount f_groupsReady f_groupCount a_defaults a_packet a_entryCount a_handles a_actions a_keys a_widths a_child a_endsHere a_endCount a_partNode a_partDepth a_groupMask a_groupTop a_listFirst a_listNext f_kind f_place f_number f_handles a_fields a_count a_handle a_a a_b a_rank a_kinds a_places a_numbers) : mr_B (k + 4) nh H A R pl c f_draft f_nextHandle f_treeReady f_nodeCount f_groupsReady f_groupCount a_defaults a_packet a_entryCount a_handles a_actions a_keys a_widths a_child a_endsHere a_endCount a_partNode a_partDepth a_groupMask a_groupTop a_listFirst a_listNext f_kind f_place f_number f_handles a_fields a_count a_handle a_a a_b a_rank a_kinds a_places a_numbers := by
  obtain ⟨h1, h2, ⟨h3, h4, h5⟩, h6⟩ := h
  exact ⟨h1, h2, ⟨h3, h4, by omega⟩, h6⟩
theorem mr_B_tree {k nh : Nat} {H A R pl c : Nat → Nat} (h : mr_B k nh H A R pl c f_draft f_nextHandle f_treeReady f_nodeCount f_groupsReady f_groupCount a_defaults a_packet a_entryCount a_handles a_actions a_keys a_widths a_child a_endsHere a_endCount a_partNode a_partDepth a_groupMask a_groupTop a_listFirst a_listNext f_kind f_place f_number f_handles a_fields a_count a_handle a_a a_b a_rank a_kinds a_places a_numbers) {tr fn : Int32} {ch eh ec pn pd : Nat → Int32} (o : mt_OK H (mt_K A R) fn ch eh ec) : mr_B k nh H A R pl c f_draft f_nextHandle tr fn f_groupsReady f_groupCount a_defaults a_packet a_entryCount a_handles a_actions a_keys a_widths ch eh ec pn pd a_groupMask a_groupTop a_listFirst a_listNext f_kind f_place f_number f_handles a_fields a_count a_handle a_a a_b a_rank a_kinds a_places a_numbers := by
  obtain ⟨h1, h2, h3, h4, h5, h6, h7, h8, h9⟩ := h
  exact ⟨h1, h2, h3, h4, h5, h6, h7, fun _ => o, h9⟩
theorem mr_B_group {k nh : Nat} {H A R pl c : Nat → Nat} (h : mr_B k nh H A R pl c f_draft f_nextHandle f_treeReady f_nodeCount f_groupsReady f_groupCount a_defaults a_packet a_entryCount a_handles a_actions a_keys a_widths a_child a_endsHere a_endCount a_partNode a_partDepth a_groupMask a_groupTop a_listFirst a_listNext f_kind f_place f_number f_handles a_fields a_count a_handle a_a a_b a_rank a_kinds a_places a_numbers) {gr fg : Int32} {gm gt lf nx : Nat → Int32} (o : mg_OK H R a_widths a_keys fg gm gt lf nx) : mr_B k nh H A R pl c f_draft f_nextHandle f_treeReady f_nodeCount gr fg a_defaults a_packet a_entryCount a_handles a_actions a_keys a_widths a_child a_endsHere a_endCount a_partNode a_partDepth gm gt lf nx f_kind f_place f_number f_handles a_fields a_count a_handle a_a a_b a_rank a_kinds a_places a_numbers := by
  obtain ⟨h1, h2, h3, h4, h5, h6, h7, h8, h9⟩ := h
  exact ⟨h1, h2, h3, h4, h5, h6, h7, h8, fun _ => o⟩
theorem mr_B_pk {k nh : Nat} {H A R pl c : Nat → Nat} (h : mr_B k nh H A R pl c f_draft f_nextHandle f_treeReady f_nodeCount f_groupsReady f_groupCount a_defaults a_packet a_entryCount a_handles a_actions a_keys a_widths a_child a_endsHere a_endCount a_partNode a_partDepth a_groupMask a_groupTop a_listFirst a_listNext f_kind f_place f_number f_handles a_fields a_count a_handle a_a a_b a_rank a_kinds a_places a_numbers) {pk : Nat → Int32} (o : mr_pb pk) : mr_B k nh H A R pl c f_draft f_nextHandle f_treeReady f_nodeCount f_groupsReady f_groupCount a_defaults pk a_entryCount a_handles a_actions a_keys a_widths a_child a_endsHere a_endCount a_partNode a_partDepth a_groupMask a_groupTop a_listFirst a_listNext f_kind f_place f_number f_handles pk a_count a_handle a_a a_b a_rank a_kinds a_places a_numbers := by
  obtain ⟨h1, h2, h3, h4, h5, h6, h7, h8, h9⟩ := h
  exact ⟨h1, h2, h3, ⟨rfl, o⟩, h5, h6, h7, h8, h9⟩
theorem mr_pb_f {pk : Nat → Int32} {a b c : Nat} (h : mr_pb pk) (hb : b ≤ 3) (hc : c ≤ 255) : mr_pb (mr_f a b c pk) := by
  have u : ∀ x : Int32, (∃ b, b < 256 ∧ x = nI b) → mr_pb (upd pk b x) := by
    intro x hx j hj
    by_cases z : j = b
    · rw [z, pk_us]; exact hx
    · rw [pk_un z]; exact h j hj
  unfold mr_f
  split
  · exact u _ ⟨c, by omega, rfl⟩
  · split
    · exact u _ (pk_andE _ 8 (by decide))
    · split
      · exact u _ (h _ (by omega))
      · exact h
end
/-- the relation at the head of a turn -/
def i_Rel (k : Nat) (u : SX) (v : SY) : Prop := match u with
  | (f_draft, f_nextHandle, f_treeReady, f_nodeCount, f_groupsReady, f_groupCount, a_defaults, a_packet, a_entryCount, a_handles, a_actions, a_keys, a_widths, a_child, a_endsHere, a_endCount, a_partNode, a_partDepth, a_groupMask, a_groupTop, a_listFirst, a_listNext) => match v with
    | (f_kind, f_place, f_number, f_handles, a_fields, a_count, a_handle, a_a, a_b, a_rank, a_kinds, a_places, a_numbers) => ∃ (nh : Nat) (H A R pl c : Nat → Nat), mr_B k nh H A R pl c f_draft f_nextHandle f_treeReady f_nodeCount f_groupsReady f_groupCount a_defaults a_packet a_entryCount a_handles a_actions a_keys a_widths a_child a_endsHere a_endCount a_partNode a_partDepth a_groupMask a_groupTop a_listFirst a_listNext f_kind f_place f_number f_handles a_fields a_count a_handle a_a a_b a_rank a_kinds a_places a_numbers
section
variable {f_draft f_nextHandle f_treeReady f_nodeCount f_groupsReady f_groupCount : Int32} {a_defaults a_packet a_entryCount a_handles a_actions a_keys a_widths a_child a_endsHere a_endCount a_partNode a_partDepth a_groupMask a_groupTop a_listFirst a_listNext : Nat → Int32}
variable {f_kind f_place f_number f_handles : Int32} {a_fields a_count a_handle a_a a_b a_rank a_kinds a_places a_numbers : Nat → Int32}
theorem mr_i {k nh : Nat} {H A R pl c : Nat → Nat} (h : mr_B k nh H A R pl c f_draft f_nextHandle f_treeReady f_nodeCount f_groupsReady f_groupCount a_defaults a_packet a_entryCount a_handles a_actions a_keys a_widths a_child a_endsHere a_endCount a_partNode a_partDepth a_groupMask a_groupTop a_listFirst a_listNext f_kind f_place f_number f_handles a_fields a_count a_handle a_a a_b a_rank a_kinds a_places a_numbers) : i_Rel k (f_draft, f_nextHandle, f_treeReady, f_nodeCount, f_groupsReady, f_groupCount, a_defaults, a_packet, a_entryCount, a_handles, a_actions, a_keys, a_widths, a_child, a_endsHere, a_endCount, a_partNode, a_partDepth, a_groupMask, a_groupTop, a_listFirst, a_listNext) (f_kind, f_place, f_number, f_handles, a_fields, a_count, a_handle, a_a, a_b, a_rank, a_kinds, a_places, a_numbers) := ⟨nh, H, A, R, pl, c, h⟩
end
theorem mr_el {k : Nat} {u : SX} {v : SY} {P : SX → SY → Prop} (I : i_Rel k u v) (h : ∀ (f_draft f_nextHandle f_treeReady f_nodeCount f_groupsReady f_groupCount : Int32) (a_defaults a_packet a_entryCount a_handles a_actions a_keys a_widths a_child a_endsHere a_endCount a_partNode a_partDepth a_groupMask a_groupTop a_listFirst a_listNext : Nat → Int32) (f_kind f_place f_number f_handles : Int32) (a_fields a_count a_handle a_a a_b a_rank a_kinds a_places a_numbers : Nat → Int32) (nh : Nat) (H A R pl c : Nat → Nat), mr_B k nh H A R pl c f_draft f_nextHandle f_treeReady f_nodeCount f_groupsReady f_groupCount a_defaults a_packet a_entryCount a_handles a_actions a_keys a_widths a_child a_endsHere a_endCount a_partNode a_partDepth a_groupMask a_groupTop a_listFirst a_listNext f_kind f_place f_number f_handles a_fields a_count a_handle a_a a_b a_rank a_kinds a_places a_numbers → P (f_draft, f_nextHandle, f_treeReady, f_nodeCount, f_groupsReady, f_groupCount, a_defaults, a_packet, a_entryCount, a_handles, a_actions, a_keys, a_widths, a_child, a_endsHere, a_endCount, a_partNode, a_partDepth, a_groupMask, a_groupTop, a_listFirst, a_listNext) (f_kind, f_place, f_number, f_handles, a_fields, a_count, a_handle, a_a, a_b, a_rank, a_kinds, a_places, a_numbers)) : P u v := by
  obtain ⟨f_draft, f_nextHandle, f_treeReady, f_nodeCount, f_groupsReady, f_groupCount, a_defaults, a_packet, a_entryCount, a_handles, a_actions, a_keys, a_widths, a_child, a_endsHere, a_endCount, a_partNode, a_partDepth, a_groupMask, a_groupTop, a_listFirst, a_listNext⟩ := u
  obtain ⟨f_kind, f_place, f_number, f_handles, a_fields, a_count, a_handle, a_a, a_b, a_rank, a_kinds, a_places, a_numbers⟩ := v
  obtain ⟨nh, H, A, R, pl, c, g⟩ := I
  exact h f_draft f_nextHandle f_treeReady f_nodeCount f_groupsReady f_groupCount a_defaults a_packet a_entryCount a_handles a_actions a_keys a_widths a_child a_endsHere a_endCount a_partNode a_partDepth a_groupMask a_groupTop a_listFirst a_listNext f_kind f_place f_number f_handles a_fields a_count a_handle a_a a_b a_rank a_kinds a_places a_numbers nh H A R pl c g
theorem i_up {k : Nat} {u : SX} {v : SY} (h : i_Rel k u v) : i_Rel (k + 4) u v := by
  refine mr_el (P := fun u v => i_Rel (k + 4) u v) h ?_
  intro f_draft f_nextHandle f_treeReady f_nodeCount f_groupsReady f_groupCount a_defaults a_packet a_entryCount a_handles a_actions a_keys a_widths a_child a_endsHere a_endCount a_partNode a_partDepth a_groupMask a_groupTop a_listFirst a_listNext f_kind f_place f_number f_handles a_fields a_count a_handle a_a a_b a_rank a_kinds a_places a_numbers nh H A R pl c g
  exact mr_i (mr_B_up g)
end
section
/-! the owed statements: init, action, setDefault, field, get -/
section
variable {f_draft f_nextHandle f_treeReady f_nodeCount f_groupsReady f_groupCount : Int32} {a_defaults a_packet a_entryCount a_handles a_actions a_keys a_widths a_child a_endsHere a_endCount a_partNode a_partDepth a_groupMask a_groupTop a_listFirst a_listNext : Nat → Int32}
variable {f_kind f_place f_number f_handles : Int32} {a_fields a_count a_handle a_a a_b a_rank a_kinds a_places a_numbers : Nat → Int32}
theorem my_isByte {post : Int32 → Prop} {x : Int32} (h0 : x < 0 ∨ 255 < x → post 0) (h1 : ¬ x < 0 → ¬ 255 < x → post 1) : wpY_isByte post (f_kind, f_place, f_number, f_handles, a_fields, a_count, a_handle, a_a, a_b, a_rank, a_kinds, a_places, a_numbers) x :=
  br_c (fun z => h0 (Or.inl z)) (fun z => br_c (fun w => h0 (Or.inr w)) (fun w => h1 z w))
theorem my_isTable {post : Int32 → Prop} {x : Int32} (h0 : x = 0 → post 1) (h1 : x = 1 → post 1) (h2 : ¬ x = 0 → ¬ x = 1 → post 0) : wpY_isTable post (f_kind, f_place, f_number, f_handles, a_fields, a_count, a_handle, a_a, a_b, a_rank, a_kinds, a_places, a_numbers) x :=
  br_c h0 (fun z => br_c h1 (h2 z))
theorem mr_tab (x : Int32) : ((x < 0 ∨ (¬ x < 0 ∧ ¬ x ≤ 1)) ∧ ¬ x = 0 ∧ ¬ x = 1) ∨ x = 0 ∨ x = 1 := by
  rcases pk_ix x (n := 2) (by omega) with h | h | ⟨j, hj, rfl⟩
  · left
    refine ⟨Or.inl h, ?_, ?_⟩
    · rintro rfl; exact absurd h (by decide)
    · rintro rfl; exact absurd h (by decide)
  · left
    have h' : (2 : Int32) ≤ x := h
    rw [Int32.le_iff_toInt_le, show (2 : Int32).toInt = 2 from by decide] at h'
    refine ⟨Or.inr ⟨?_, ?_⟩, ?_, ?_⟩
    · rw [Int32.lt_iff_toInt_lt, show (0 : Int32).toInt = 0 from by decide]; omega
    · rw [Int32.le_iff_toInt_le, show (1 : Int32).toInt = 1 from by decide]; omega
    · rintro rfl; exact absurd h (by decide)
    · rintro rfl; exact absurd h (by decide)
  · right
    have : j = 0 ∨ j = 1 := by omega
    rcases this with rfl | rfl
    · exact Or.inl rfl
    · exact Or.inr rfl
theorem mr_P_k {H A R pl c : Nat → Nat} {ac ky wd hd aa bb rk ki pc nu ki' pc' nu' : Nat → Int32} (h : mr_P H A R pl c ac ky wd hd aa bb rk ki pc nu) (e : ∀ q, q < 32 → ki' q = ki q ∧ pc' q = pc q ∧ nu' q = nu q) : mr_P H A R pl c ac ky wd hd aa bb rk ki' pc' nu' := by
  refine ⟨?_, h.2⟩
  intro q hq
  have g := h.1 q hq
  have w := e q hq.1
  unfold mr_E at g ⊢
  rw [w.1, w.2.1, w.2.2]
  exact g
theorem mx_init_l {post : SX → Prop} (hp : ∀ hd : Nat → Int32, (∀ i, i < 32 → hd i = -1) → post (f_draft, f_nextHandle, f_treeReady, f_nodeCount, f_groupsReady, f_groupCount, a_defaults, a_packet, a_entryCount, hd, a_actions, a_keys, a_widths, a_child, a_endsHere, a_endCount, a_partNode, a_partDepth, a_groupMask, a_groupTop, a_listFirst, a_listNext)) : ∀ (d e : Nat), e + d = 32 → ∀ hd : Nat → Int32, (∀ i, i < e → hd i = -1) → wX_init_154 post f_draft f_nextHandle f_treeReady f_nodeCount f_groupsReady f_groupCount (d + 1) (nI e) a_defaults a_packet a_entryCount hd a_actions a_keys a_widths a_child a_endsHere a_endCount a_partNode a_partDepth a_groupMask a_groupTop a_listFirst a_listNext := by
  intro d
  induction d with
  | zero =>
    intro e he hd hh
    have : e = 32 := by omega
    subst this
    exact br_t (nI_le (a := 32) (b := 32) (by omega) (by omega)) (hp hd hh)
  | succ d ih =>
    intro e he hd hh
    refine br_f (nI_ge (a := e) (b := 32) (by omega) (by omega)) ⟨vp_in_nI (by omega) (by omega), ?_⟩
    rw [nI_clamp (by omega)]
    refine nm_e (nm_r (nI_1 e) (ih (e + 1) (by omega) _ ?_))
    intro i hi
    by_cases z : i = e
    · rw [z, pk_us]
    · rw [pk_un z]
      exact hh i (by omega)
end
theorem i_vc0 : wpX_init (fun u => wpY_init (fun v => i_Rel 0 u v)) := by
  refine nm_e (nm_e ⟨33, ?_⟩)
  refine mx_init_l ?_ 32 0 (by omega) (fun _ => 0) (fun i hi => by omega)
  intro hd hh
  refine nm_e (nm_e (mr_i (nh := 0) (H := fun _ => 0) (A := fun _ => 0) (R := fun _ => 0) (pl := fun _ => 0) (c := fun _ => 0) ?_))
  refine ⟨⟨by omega, ?_, ?_, ?_, ?_⟩, ⟨?_, ?_, ?_⟩, ⟨rfl, rfl, by omega⟩, ⟨rfl, ?_⟩, ⟨by decide, 3, 0, 0, by omega, by omega, by omega, rfl, rfl, rfl⟩, ?_, ?_, ?_, ?_⟩
  · intro e he
    exact ⟨(hh e he).trans mb_c0.symm, Nat.zero_le _⟩
  · intro e he z; exact absurd rfl z
  · intro e he he2 z; exact absurd rfl z
  · intro e e' he he' z; exact absurd rfl z
  · intro q hq; exact absurd hq.2 (Nat.not_lt_zero _)
  · intro e he z; exact absurd rfl z
  · intro q q' hq; exact absurd hq.2 (Nat.not_lt_zero _)
  · intro j hj; exact ⟨0, by omega, rfl⟩
  · intro t ht
    have : t = 0 ∨ t = 1 := by omega
    rcases this with rfl | rfl
    · exact ⟨by decide, 3, 0, 0, by omega, by omega, by omega, rfl, rfl, rfl⟩
    · exact ⟨by decide, 3, 0, 0, by omega, by omega, by omega, rfl, rfl, rfl⟩
  · intro t ht; exact ⟨rfl, rfl, Nat.zero_le _⟩
  · intro z; exact absurd rfl z
  · intro z; exact absurd rfl z
theorem i_vc_action {k : Nat} {u : SX} {v : SY} (I : i_Rel k u v) (hk : k + 4 ≤ 2048) (v1 : Int32) (v2 : Int32) (v3 : Int32) : wpX_action (fun r u' => wpY_action (fun r' v' => r' = r ∧ i_Rel (k + 4) u' v') v v1 v2 v3) u v1 v2 v3 := by
  refine mr_el (P := fun u v => wpX_action (fun r u' => wpY_action (fun r' v' => r' = r ∧ i_Rel (k + 4) u' v') v v1 v2 v3) u v1 v2 v3) I ?_
  intro f_draft f_nextHandle f_treeReady f_nodeCount f_groupsReady f_groupCount a_defaults a_packet a_entryCount a_handles a_actions a_keys a_widths a_child a_endsHere a_endCount a_partNode a_partDepth a_groupMask a_groupTop a_listFirst a_listNext f_kind f_place f_number f_handles a_fields a_count a_handle a_a a_b a_rank a_kinds a_places a_numbers nh H A R pl c g0
  have g := mr_B_up g0
  have same := mr_i g
  by_cases a1 : v1 < 0
  · exact br_t a1 (br_t a1 ⟨rfl, same⟩)
  refine br_f a1 ?_
  by_cases a2 : 4 < v1
  · exact br_t a2 (br_f a1 (br_t a2 ⟨rfl, same⟩))
  refine br_f a2 ?_
  by_cases a3 : v2 < 0
  · exact br_t a3 (br_f a1 (br_f a2 (br_t a3 ⟨rfl, same⟩)))
  refine br_f a3 ?_
  by_cases a4 : 3 < v2
  · exact br_t a4 (br_f a1 (br_f a2 (br_f a3 (br_t a4 ⟨rfl, same⟩))))
  refine br_f a4 ?_
  by_cases a5 : v3 < 0
  · exact br_t a5 (br_f a1 (br_f a2 (br_f a3 (br_f a4 (my_isByte (fun _ => br_t rfl ⟨rfl, same⟩) (fun z => absurd a5 z))))))
  refine br_f a5 ?_
  by_cases a6 : v3 ≤ 255
  · refine br_t a6 (nm_e ?_)
    refine br_f a1 (br_f a2 (br_f a3 (br_f a4 (my_isByte (fun z => ?_) (fun _ _ => ?_)))))
    · rcases z with z | z
      · exact absurd z a5
      · exact absurd a6 (Int32.not_le.mpr z)
    · refine br_f (by decide) ⟨rfl, mr_i (nh := nh) (H := H) (A := A) (R := R) (pl := pl) (c := c) ?_⟩
      obtain ⟨a, ha, rfl⟩ := nI_of2 (x := v1) (M := 4) (n := 4) rfl a1 (Int32.not_lt.mp a2)
      obtain ⟨b, hb, rfl⟩ := nI_of2 (x := v2) (M := 3) (n := 3) rfl a3 (Int32.not_lt.mp a4)
      obtain ⟨d, hd, rfl⟩ := nI_of2 (x := v3) (M := 255) (n := 255) rfl a5 a6
      obtain ⟨h1, h2, h3, h4, h5, h6, h7, h8, h9⟩ := g
      exact ⟨h1, h2, h3, h4, ⟨rfl, a, b, d, ha, hb, hd, rfl, rfl, rfl⟩, h6, h7, h8, h9⟩
  · refine br_f a6 (br_f a1 (br_f a2 (br_f a3 (br_f a4 (my_isByte (fun _ => br_t rfl ⟨rfl, same⟩) (fun _ z => absurd (Int32.not_lt.mp z) a6))))))
theorem i_vc_setDefault {k : Nat} {u : SX} {v : SY} (I : i_Rel k u v) (hk : k + 4 ≤ 2048) (v1 : Int32) : wpX_setDefault (fun r u' => wpY_setDefault (fun r' v' => r' = r ∧ i_Rel (k + 4) u' v') v v1) u v1 := by
  refine mr_el (P := fun u v => wpX_setDefault (fun r u' => wpY_setDefault (fun r' v' => r' = r ∧ i_Rel (k + 4) u' v') v v1) u v1) I ?_
  intro f_draft f_nextHandle f_treeReady f_nodeCount f_groupsReady f_groupCount a_defaults a_packet a_entryCount a_handles a_actions a_keys a_widths a_child a_endsHere a_endCount a_partNode a_partDepth a_groupMask a_groupTop a_listFirst a_listNext f_kind f_place f_number f_handles a_fields a_count a_handle a_a a_b a_rank a_kinds a_places a_numbers nh H A R pl c g0
  have g := mr_B_up g0
  have same := mr_i g
  have go : ∀ t : Nat, t < 2 → v1 = nI t → wpX_setDefault (fun r u' => wpY_setDefault (fun r' v' => r' = r ∧ i_Rel (k + 4) u' v') (f_kind, f_place, f_number, f_handles, a_fields, a_count, a_handle, a_a, a_b, a_rank, a_kinds, a_places, a_numbers) v1) (f_draft, f_nextHandle, f_treeReady, f_nodeCount, f_groupsReady, f_groupCount, a_defaults, a_packet, a_entryCount, a_handles, a_actions, a_keys, a_widths, a_child, a_endsHere, a_endCount, a_partNode, a_partDepth, a_groupMask, a_groupTop, a_listFirst, a_listNext) v1 := by
    intro t ht hv
    rw [hv]
    refine br_f (nI_pos (by omega)) (br_t (nI_le (a := t) (b := 1) (by omega) (by omega)) ⟨vp_in_nI ht (by omega), ?_⟩)
    rw [nI_clamp (by omega)]
    refine nm_e ?_
    have fin : wpY_giveAction (fun u => match u with | (f_kind, f_place, f_number, f_handles, a_fields, a_count, a_handle, a_a, a_b, a_rank, a_kinds, a_places, a_numbers) => ((fun r' v' => r' = 1 ∧ i_Rel (k + 4) (f_draft, f_nextHandle, f_treeReady, f_nodeCount, f_groupsReady, f_groupCount, upd a_defaults t f_draft, a_packet, a_entryCount, a_handles, a_actions, a_keys, a_widths, a_child, a_endsHere, a_endCount, a_partNode, a_partDepth, a_groupMask, a_groupTop, a_listFirst, a_listNext) v') (1 : Int32) (f_kind, f_place, f_number, f_handles, a_fields, a_count, a_handle, a_a, a_b, a_rank, a_kinds, a_places, a_numbers))) (f_kind, f_place, f_number, f_handles, a_fields, a_count, a_handle, a_a, a_b, a_rank, a_kinds, a_places, a_numbers) (32 + nI t) := by
      rw [show (32 : Int32) + nI t = nI (32 + t) from nI_add 32 t]
      refine my_giveAction (by omega) ⟨rfl, mr_i (nh := nh) (H := H) (A := A) (R := R) (pl := pl) (c := c) ?_⟩
      obtain ⟨h1, h2, h3, h4, h5, h6, h7, h8, h9⟩ := g
      refine ⟨h1, mr_P_k h2 ?_, h3, h4, h5, ?_, h7, h8, h9⟩
      · intro q hq
        rw [pk_un (by omega), pk_un (by omega), pk_un (by omega)]
        exact ⟨rfl, rfl, rfl⟩
      · intro t' ht'
        by_cases z : t' = t
        · subst z
          rw [pk_us, pk_us, pk_us, pk_us]
          exact h5
        · rw [pk_un z, pk_un (by omega), pk_un (by omega), pk_un (by omega)]
          exact h6 t' ht'
    unfold wpY_setDefault
    dsimp only
    exact my_isTable (fun _ => br_f (by decide) fin) (fun _ => br_f (by decide) fin) (fun z1 z2 => by
      exfalso
      have : t = 0 ∨ t = 1 := by omega
      rcases this with rfl | rfl
      · exact z1 rfl
      · exact z2 rfl)
  rcases mr_tab v1 with ⟨h, n0, n1⟩ | h | h
  · have bad : wpY_setDefault (fun r' v' => r' = 0 ∧ i_Rel (k + 4) (f_draft, f_nextHandle, f_treeReady, f_nodeCount, f_groupsReady, f_groupCount, a_defaults, a_packet, a_entryCount, a_handles, a_actions, a_keys, a_widths, a_child, a_endsHere, a_endCount, a_partNode, a_partDepth, a_groupMask, a_groupTop, a_listFirst, a_listNext) v') (f_kind, f_place, f_number, f_handles, a_fields, a_count, a_handle, a_a, a_b, a_rank, a_kinds, a_places, a_numbers) v1 := by
      unfold wpY_setDefault
      dsimp only
      exact my_isTable (fun z => absurd z n0) (fun z => absurd z n1) (fun _ _ => br_t rfl ⟨rfl, same⟩)
    rcases h with h | ⟨h, h'⟩
    · exact br_t h bad
    · exact br_f h (br_f h' bad)
  · exact go 0 (by omega) h
  · exact go 1 (by omega) h
theorem i_vc_field {k : Nat} {u : SX} {v : SY} (I : i_Rel k u v) (hk : k + 4 ≤ 2048) (v1 : Int32) (v2 : Int32) : wpX_field (fun r u' => wpY_field (fun r' v' => r' = r ∧ i_Rel (k + 4) u' v') v v1 v2) u v1 v2 := by
  refine mr_el (P := fun u v => wpX_field (fun r u' => wpY_field (fun r' v' => r' = r ∧ i_Rel (k + 4) u' v') v v1 v2) u v1 v2) I ?_
  intro f_draft f_nextHandle f_treeReady f_nodeCount f_groupsReady f_groupCount a_defaults a_packet a_entryCount a_handles a_actions a_keys a_widths a_child a_endsHere a_endCount a_partNode a_partDepth a_groupMask a_groupTop a_listFirst a_listNext f_kind f_place f_number f_handles a_fields a_count a_handle a_a a_b a_rank a_kinds a_places a_numbers nh H A R pl c g0
  have g := mr_B_up g0
  have same := mr_i g
  by_cases a1 : v1 < 0
  · exact br_t a1 (br_t a1 ⟨rfl, same⟩)
  refine br_f a1 ?_
  by_cases a2 : 3 < v1
  · exact br_t a2 (br_f a1 (br_t a2 ⟨rfl, same⟩))
  refine br_f a2 ?_
  by_cases a5 : v2 < 0
  · exact br_t a5 (br_f a1 (br_f a2 (my_isByte (fun _ => br_t rfl ⟨rfl, same⟩) (fun z => absurd a5 z))))
  refine br_f a5 ?_
  by_cases a6 : v2 ≤ 255
  · obtain ⟨a, ha, rfl⟩ := nI_of2 (x := v1) (M := 3) (n := 3) rfl a1 (Int32.not_lt.mp a2)
    obtain ⟨b, hb, rfl⟩ := nI_of2 (x := v2) (M := 255) (n := 255) rfl a5 a6
    have hin : vp_in (nI a) 4 := vp_in_nI (by omega) (by omega)
    have hfp : a_fields = a_packet := g.2.2.2.1.1
    have hpb : mr_pb (upd a_packet a (nI b)) := by
      intro j hj
      by_cases z : j = a
      · rw [z, pk_us]; exact ⟨b, by omega, rfl⟩
      · rw [pk_un z]; exact g.2.2.2.1.2 j hj
    refine br_t a6 ⟨hin, ?_⟩
    rw [nI_clamp (by omega)]
    refine nm_e ?_
    refine br_f a1 (br_f a2 (my_isByte (fun z => ?_) (fun _ _ => ?_)))
    · rcases z with z | z
      · exact absurd z a5
      · exact absurd a6 (Int32.not_le.mpr z)
    · refine br_f (by decide) ⟨hin, ?_⟩
      rw [nI_clamp (by omega), hfp]
      exact nm_e ⟨rfl, mr_i (mr_B_pk g hpb)⟩
  · refine br_f a6 (br_f a1 (br_f a2 (my_isByte (fun _ => br_t rfl ⟨rfl, same⟩) (fun _ z => absurd (Int32.not_lt.mp z) a6))))
theorem i_vc_get {k : Nat} {u : SX} {v : SY} (I : i_Rel k u v) (hk : k + 4 ≤ 2048) (v1 : Int32) : wpX_get (fun r => wpY_get (fun r' => r' = r ∧ i_Rel (k + 4) u v) v v1) u v1 := by
  refine mr_el (P := fun u v => wpX_get (fun r => wpY_get (fun r' => r' = r ∧ i_Rel (k + 4) u v) v v1) u v1) I ?_
  intro f_draft f_nextHandle f_treeReady f_nodeCount f_groupsReady f_groupCount a_defaults a_packet a_entryCount a_handles a_actions a_keys a_widths a_child a_endsHere a_endCount a_partNode a_partDepth a_groupMask a_groupTop a_listFirst a_listNext f_kind f_place f_number f_handles a_fields a_count a_handle a_a a_b a_rank a_kinds a_places a_numbers nh H A R pl c g0
  have g := mr_B_up g0
  have same := mr_i g
  by_cases a1 : v1 < 0
  · exact br_t a1 (br_t a1 ⟨rfl, same⟩)
  refine br_f a1 ?_
  by_cases a2 : v1 ≤ 3
  · obtain ⟨a, ha, rfl⟩ := nI_of2 (x := v1) (M := 3) (n := 3) rfl a1 a2
    have hin : vp_in (nI a) 4 := vp_in_nI (by omega) (by omega)
    have hfp : a_fields = a_packet := g.2.2.2.1.1
    refine br_t a2 ⟨hin, br_f a1 (br_f (fun z => absurd a2 (Int32.not_le.mpr z)) ⟨hin, ?_, same⟩)⟩
    rw [hfp]
  · exact br_f a2 (br_f a1 (br_t (Int32.not_le.mp a2) ⟨rfl, same⟩))
end
section
/-! the owed statements: addPrefix, addMasked, remove -/
section
variable {f_draft f_nextHandle f_treeReady f_nodeCount f_groupsReady f_groupCount : Int32} {a_defaults a_packet a_entryCount a_handles a_actions a_keys a_widths a_child a_endsHere a_endCount a_partNode a_partDepth a_groupMask a_groupTop a_listFirst a_listNext : Nat → Int32}
variable {f_kind f_place f_number f_handles : Int32} {a_fields a_count a_handle a_a a_b a_rank a_kinds a_places a_numbers : Nat → Int32}
theorem mr_B_add {k nh t e a r : Nat} {H A R pl c : Nat → Nat} {key w p1 p2 tr gr : Int32} (g : mr_B k nh H A R pl c f_draft f_nextHandle f_treeReady f_nodeCount f_groupsReady f_groupCount a_defaults a_packet a_entryCount a_handles a_actions a_keys a_widths a_child a_endsHere a_endCount a_partNode a_partDepth a_groupMask a_groupTop a_listFirst a_listNext f_kind f_place f_number f_handles a_fields a_count a_handle a_a a_b a_rank a_kinds a_places a_numbers) (hk : k + 4 ≤ 2048) (ht : t < 2) (hc : c t < 16) (h16 : 16 * t ≤ e) (he : e < 16 * t + 16) (hz : H e = 0)
    (h0 : t = 0 → key = nI a ∧ w = nI r ∧ a < 256 ∧ r ≤ 8 ∧ p1 = nI a ∧ p2 = nI r ∧ tr = 0 ∧ gr = f_groupsReady) (h1 : t = 1 → key >>> ((16 : Int32) &&& 31) = nI r ∧ r ≤ 15 ∧ mr_m p1 p2 w key ∧ gr = 0 ∧ tr = f_treeReady) :
    mr_B (k + 4) (nh + 1) (mb_u H e (nh + 1)) (mb_u A e a) (mb_u R e r) (mb_u pl (16 * t + c t) e) (mb_u c t (c t + 1)) f_draft (nI (nh + 1)) tr f_nodeCount gr f_groupCount a_defaults a_packet (upd a_entryCount t (nI (c t + 1))) (upd a_handles e (nI nh)) (upd a_actions e f_draft) (upd a_keys e key) (upd a_widths e w) a_child a_endsHere a_endCount a_partNode a_partDepth a_groupMask a_groupTop a_listFirst a_listNext f_kind f_place f_number (nI (nh + 1)) a_fields (upd a_count t (nI (c t + 1))) (upd a_handle (16 * t + c t) (nI nh)) (upd a_a (16 * t + c t) p1) (upd a_b (16 * t + c t) p2) (upd a_rank (16 * t + c t) (nI r)) (upd a_kinds (16 * t + c t) f_kind) (upd a_places (16 * t + c t) f_place) (upd a_numbers (16 * t + c t) f_number) := by
  obtain ⟨g1, g2, ⟨g3, g3', g3''⟩, g4, ⟨g5, g5'⟩, g6, g7, g8, g9⟩ := g
  have t0 : e < 16 → t = 0 := by omega
  have t1 : 16 ≤ e → t = 1 := by omega
  refine ⟨?_, ?_, ⟨rfl, rfl, by omega⟩, g4, ⟨g5, g5'⟩, ?_, ?_, ?_, ?_⟩
  · exact mr_I_add g1 (by omega) hz (by omega) (fun y => ⟨(h0 (t0 y)).1, (h0 (t0 y)).2.1, (h0 (t0 y)).2.2.1, (h0 (t0 y)).2.2.2.1⟩) (fun y => ⟨(h1 (t1 y)).1, (h1 (t1 y)).2.1⟩)
  · rw [g5]
    exact mr_P_add g2 (fun x hx => (g1.2.1 x hx).2) ht hc (by omega) (by omega) hz g5' (fun y => ⟨(h0 (t0 y)).2.2.2.2.1, (h0 (t0 y)).2.2.2.2.2.1⟩) (fun y => (h1 (t1 y)).2.2.1)
  · intro t' ht'
    rw [pk_un (by omega), pk_un (by omega), pk_un (by omega)]
    exact g6 t' ht'
  · intro t' ht'
    have := g7 t' ht'
    by_cases z : t' = t
    · subst z
      rw [pk_us, pk_us, mb_us]
      exact ⟨rfl, rfl, by omega⟩
    · rw [pk_un z, pk_un z, mb_un z]
      exact this
  · intro z
    have tt : t = 1 := by
      have : t = 0 ∨ t = 1 := by omega
      rcases this with y | y
      · exact absurd (h0 y).2.2.2.2.2.2.1 z
      · exact y
    rw [(h1 tt).2.2.2.2] at z
    refine mt_OK_c ?_ (g8 z)
    intro x hx
    have ne : x ≠ e := by omega
    unfold mt_K
    rw [mb_un ne, mb_un ne, mb_un ne]
    exact ⟨rfl, fun _ => rfl⟩
  · intro z
    have tt : t = 0 := by
      have : t = 0 ∨ t = 1 := by omega
      rcases this with y | y
      · exact y
      · exact absurd (h1 y).2.2.2.1 z
    rw [(h0 tt).2.2.2.2.2.2.2] at z
    refine mg_OK_c ?_ (g9 z)
    intro x hx
    have ne : x ≠ e := by omega
    rw [mb_un ne, mb_un ne, pk_un ne, pk_un ne]
    exact ⟨rfl, rfl, rfl, rfl⟩
theorem mr_B_rem {k nh t q cn : Nat} {H A R pl c : Nat → Nat} (g : mr_B k nh H A R pl c f_draft f_nextHandle f_treeReady f_nodeCount f_groupsReady f_groupCount a_defaults a_packet a_entryCount a_handles a_actions a_keys a_widths a_child a_endsHere a_endCount a_partNode a_partDepth a_groupMask a_groupTop a_listFirst a_listNext f_kind f_place f_number f_handles a_fields a_count a_handle a_a a_b a_rank a_kinds a_places a_numbers) (hq : my_v c q) (ht : q / 16 = t) (hcn : c t = cn + 1) :
    mr_B (k + 4) nh (mb_u H (pl q) 0) A R (fun j => pl (mb_st q (16 * t + cn) j)) (mb_u c t cn) f_draft f_nextHandle 0 f_nodeCount 0 f_groupCount a_defaults a_packet (upd a_entryCount t (nI cn)) (upd a_handles (pl q) (-1)) a_actions a_keys a_widths a_child a_endsHere a_endCount a_partNode a_partDepth a_groupMask a_groupTop a_listFirst a_listNext f_kind f_place f_number f_handles a_fields (upd a_count t (nI cn)) (mb_sh a_handle q (16 * t + cn)) (mb_sh a_a q (16 * t + cn)) (mb_sh a_b q (16 * t + cn)) (mb_sh a_rank q (16 * t + cn)) (mb_sh a_kinds q (16 * t + cn)) (mb_sh a_places q (16 * t + cn)) (mb_sh a_numbers q (16 * t + cn)) := by
  obtain ⟨g1, g2, ⟨g3, g3', g3''⟩, g4, g5, g6, g7, g8, g9⟩ := g
  have t2 : t < 2 := by have := hq.1; omega
  have c16 := (g7 t t2).2.2
  refine ⟨mr_I_rem g1, mr_P_rem g2 g1.2.2.2.2 hq ht hcn (by omega), ⟨g3, g3', by omega⟩, g4, g5, ?_, ?_, fun z => absurd rfl z, fun z => absurd rfl z⟩
  · intro t' ht'
    rw [mb_sh_st, mb_sh_st, mb_sh_st]
    have : mb_st q (16 * t + cn) (32 + t') = 32 + t' := by
      unfold mb_st
      rw [if_neg (by omega)]
    rw [this]
    exact g6 t' ht'
  · intro t' ht'
    have := g7 t' ht'
    by_cases z : t' = t
    · subst z
      rw [pk_us, pk_us, mb_us]
      exact ⟨rfl, rfl, by omega⟩
    · rw [pk_un z, pk_un z, mb_un z]
      exact this
theorem mr_lt16 {x : Int32} {n : Nat} (h : x = nI n) (hn : n < 16) : x < 16 := by
  rw [h]
  exact nI_lt (b := 16) hn (by omega)
theorem mr_ne16 {x : Int32} {n : Nat} (h : x = nI n) (hn : n < 16) : ¬ x = 16 := by
  rw [h]
  exact fun z => by have := (nI_eq (b := 16) (by omega) (by omega)).mp z; omega
end
theorem i_vc_addPrefix {k : Nat} {u : SX} {v : SY} (I : i_Rel k u v) (hk : k + 4 ≤ 2048) (v1 : Int32) (v2 : Int32) : wpX_addPrefix (fun r u' => wpY_addPrefix (fun r' v' => r' = r ∧ i_Rel (k + 4) u' v') v v1 v2) u v1 v2 := by
  refine mr_el (P := fun u v => wpX_addPrefix (fun r u' => wpY_addPrefix (fun r' v' => r' = r ∧ i_Rel (k + 4) u' v') v v1 v2) u v1 v2) I ?_
  intro f_draft f_nextHandle f_treeReady f_nodeCount f_groupsReady f_groupCount a_defaults a_packet a_entryCount a_handles a_actions a_keys a_widths a_child a_endsHere a_endCount a_partNode a_partDepth a_groupMask a_groupTop a_listFirst a_listNext f_kind f_place f_number f_handles a_fields a_count a_handle a_a a_b a_rank a_kinds a_places a_numbers nh H A R pl c g
  have same := mr_i (mr_B_up g)
  have hcc := g.2.2.2.2.2.2.1 0 (by omega)
  by_cases full : c 0 < 16
  · have hx := mr_lt16 hcc.1 full
    have hy := mr_ne16 hcc.2.1 full
    refine br_t hx ?_
    by_cases a1 : v1 < 0
    · exact br_t a1 (br_f hy (my_isByte (fun _ => br_t rfl ⟨rfl, same⟩) (fun z => absurd a1 z)))
    refine br_f a1 ?_
    by_cases a2 : 255 < v1
    · exact br_t a2 (br_f hy (my_isByte (fun _ => br_t rfl ⟨rfl, same⟩) (fun _ z => absurd a2 z)))
    refine br_f a2 ?_
    have isb : ∀ post : Int32 → Prop, post 1 → wpY_isByte post (f_kind, f_place, f_number, f_handles, a_fields, a_count, a_handle, a_a, a_b, a_rank, a_kinds, a_places, a_numbers) v1 := fun post hp => my_isByte (fun z => z.elim (fun z => absurd z a1) (fun z => absurd z a2)) (fun _ _ => hp)
    by_cases a3 : v2 < 0
    · exact br_t a3 (br_f hy (isb _ (br_f (by decide) (br_t a3 ⟨rfl, same⟩))))
    refine br_f a3 ?_
    by_cases a4 : v2 ≤ 8
    · obtain ⟨a, ha, rfl⟩ := nI_of2 (x := v1) (M := 255) (n := 255) rfl a1 (Int32.not_lt.mp a2)
      obtain ⟨r, hr, rfl⟩ := nI_of2 (x := v2) (M := 8) (n := 8) rfl a3 a4
      refine br_t a4 ?_
      have hn := g.2.2.1
      rw [hn.1]
      refine mx_addEntry (H := H) (t := 0) (nh := nh) (cn := c 0) (by omega) full hcc.1 (fun e he => ⟨(g.1.2.1 e he).1, by have := (g.1.2.1 e he).2; have := g.1.1; omega⟩) (mr_free g.2.1 (by omega) full) ?_
      intro e e1 e2 e3
      refine br_f hy (isb _ (br_f (by decide) (br_f a3 (br_t a4 ?_))))
      rw [hn.2.1]
      refine my_add (t := 0) (cn := c 0) (nh := nh) (by omega) full hcc.2.1 ?_
      exact ⟨rfl, mr_i (mr_B_add (t := 0) (a := a) (r := r) g hk (by omega) full e1 e2 e3 (fun _ => ⟨rfl, rfl, by omega, hr, rfl, rfl, rfl, rfl⟩) (fun z => by omega))⟩
    · exact br_f a4 (br_f hy (isb _ (br_f (by decide) (br_f a3 (br_f a4 ⟨rfl, same⟩)))))
  · have e16 : c 0 = 16 := by omega
    rw [e16] at hcc
    refine br_f ?_ (br_t hcc.2.1 ⟨rfl, same⟩)
    rw [hcc.1]
    exact nI_nlt (a := 16) (b := 16) (by omega) (by omega)
theorem i_vc_addMasked {k : Nat} {u : SX} {v : SY} (I : i_Rel k u v) (hk : k + 4 ≤ 2048) (v1 : Int32) (v2 : Int32) (v3 : Int32) : wpX_addMasked (fun r u' => wpY_addMasked (fun r' v' => r' = r ∧ i_Rel (k + 4) u' v') v v1 v2 v3) u v1 v2 v3 := by
  refine mr_el (P := fun u v => wpX_addMasked (fun r u' => wpY_addMasked (fun r' v' => r' = r ∧ i_Rel (k + 4) u' v') v v1 v2 v3) u v1 v2 v3) I ?_
  intro f_draft f_nextHandle f_treeReady f_nodeCount f_groupsReady f_groupCount a_defaults a_packet a_entryCount a_handles a_actions a_keys a_widths a_child a_endsHere a_endCount a_partNode a_partDepth a_groupMask a_groupTop a_listFirst a_listNext f_kind f_place f_number f_handles a_fields a_count a_handle a_a a_b a_rank a_kinds a_places a_numbers nh H A R pl c g
  have same := mr_i (mr_B_up g)
  have hcc := g.2.2.2.2.2.2.1 1 (by omega)
  by_cases full : c 1 < 16
  · have hx := mr_lt16 hcc.1 full
    have hy := mr_ne16 hcc.2.1 full
    refine br_t hx ?_
    by_cases a1 : v1 < 0
    · exact br_t a1 (br_f hy (br_t a1 ⟨rfl, same⟩))
    refine br_f a1 ?_
    by_cases a2 : 65535 < v1
    · exact br_t a2 (br_f hy (br_f a1 (br_t a2 ⟨rfl, same⟩)))
    refine br_f a2 ?_
    by_cases a3 : v2 < 0
    · exact br_t a3 (br_f hy (br_f a1 (br_f a2 (br_t a3 ⟨rfl, same⟩))))
    refine br_f a3 ?_
    by_cases a4 : 65535 < v2
    · exact br_t a4 (br_f hy (br_f a1 (br_f a2 (br_f a3 (br_t a4 ⟨rfl, same⟩)))))
    refine br_f a4 ?_
    by_cases a5 : v3 < 0
    · exact br_t a5 (br_f hy (br_f a1 (br_f a2 (br_f a3 (br_f a4 (br_t a5 ⟨rfl, same⟩))))))
    refine br_f a5 ?_
    by_cases a6 : v3 ≤ 15
    · obtain ⟨a, ha, rfl⟩ := nI_of2 (x := v1) (M := 65535) (n := 65535) rfl a1 (Int32.not_lt.mp a2)
      obtain ⟨b, hb, rfl⟩ := nI_of2 (x := v2) (M := 65535) (n := 65535) rfl a3 (Int32.not_lt.mp a4)
      obtain ⟨r, hr, rfl⟩ := nI_of2 (x := v3) (M := 15) (n := 15) rfl a5 a6
      refine br_t a6 (nm_e (nm_e ?_))
      have hn := g.2.2.1
      rw [hn.1]
      refine mx_addEntry (H := H) (t := 1) (nh := nh) (cn := c 1) (by omega) full hcc.1 (fun e he => ⟨(g.1.2.1 e he).1, by have := (g.1.2.1 e he).2; have := g.1.1; omega⟩) (mr_free g.2.1 (by omega) full) ?_
      intro e e1 e2 e3
      refine br_f hy (br_f a1 (br_f a2 (br_f a3 (br_f a4 (br_f a5 (br_t a6 ?_))))))
      rw [hn.2.1]
      refine my_add (t := 1) (cn := c 1) (nh := nh) (by omega) full hcc.2.1 ?_
      refine ⟨rfl, mr_i (mr_B_add (t := 1) (a := 0) (r := r) (key := mr_k (nI a) (nI b) (nI r)) (w := mr_w (nI a) (nI b)) g hk (by omega) full e1 e2 e3 (fun z => by omega) (fun _ => ⟨mr_k_hi hr, hr, ?_, rfl, rfl⟩))⟩
      intro p1 p2 h1 h2
      rw [mr_k_lo]
      exact mr_fit (by omega) h1 h2
    · exact br_f a6 (br_f hy (br_f a1 (br_f a2 (br_f a3 (br_f a4 (br_f a5 (br_f a6 ⟨rfl, same⟩)))))))
  · have e16 : c 1 = 16 := by omega
    rw [e16] at hcc
    refine br_f ?_ (br_t hcc.2.1 ⟨rfl, same⟩)
    rw [hcc.1]
    exact nI_nlt (a := 16) (b := 16) (by omega) (by omega)
theorem i_vc_remove {k : Nat} {u : SX} {v : SY} (I : i_Rel k u v) (hk : k + 4 ≤ 2048) (v1 : Int32) : wpX_remove (fun r u' => wpY_remove (fun r' v' => r' = r ∧ i_Rel (k + 4) u' v') v v1) u v1 := by
  refine mr_el (P := fun u v => wpX_remove (fun r u' => wpY_remove (fun r' v' => r' = r ∧ i_Rel (k + 4) u' v') v v1) u v1) I ?_
  intro f_draft f_nextHandle f_treeReady f_nodeCount f_groupsReady f_groupCount a_defaults a_packet a_entryCount a_handles a_actions a_keys a_widths a_child a_endsHere a_endCount a_partNode a_partDepth a_groupMask a_groupTop a_listFirst a_listNext f_kind f_place f_number f_handles a_fields a_count a_handle a_a a_b a_rank a_kinds a_places a_numbers nh H A R pl c g
  have same := mr_i (mr_B_up g)
  have c0 := g.2.2.2.2.2.2.1 0 (by omega)
  have c1 := g.2.2.2.2.2.2.1 1 (by omega)
  have hn := g.1.1
  unfold wpX_remove
  dsimp only
  refine mx_entryWith ?_ ?_
  · intro e he hv hh
    have hHe := g.1.2.1 e he
    have hu : H e ≠ 0 := by
      intro z
      rw [hh, z] at hHe
      rw [hHe.1] at hv
      exact (mb_ge (by omega)).mp hv rfl
    have t2 : e / 16 < 2 := by omega
    have ht := g.2.2.2.2.2.2.1 (e / 16) t2
    obtain ⟨q0, hq0, hpl0⟩ := g.2.1.2.1 e he hu
    have hs0 := (g.2.1.1 q0 hq0).2.1
    rw [hpl0] at hs0
    have hc0 := hq0.2
    rw [← hs0] at hc0
    obtain ⟨cn, hcn⟩ : ∃ cn, c (e / 16) = cn + 1 := ⟨c (e / 16) - 1, by omega⟩
    have ed : nI e / 16 = nI (e / 16) := pk_div (d := 16) (by omega) (by omega) (by omega)
    have h2 : vp_in (nI (e / 16)) 2 := vp_in_nI t2 (by omega)
    refine br_t (nI_pos' (by omega)) ⟨by decide, nm_r ed ⟨vp_in_nI he (by omega), ?_⟩⟩
    rw [nI_clamp (show e < 2 ^ 31 by omega), nI_clamp (show e / 16 < 2 ^ 31 by omega), ht.1, hcn, nI_pred, mb_vn8 (by omega)]
    refine nm_e ⟨h2, h2, nm_e ⟨h2, ?_⟩⟩
    rw [pk_us]
    unfold wpY_remove
    dsimp only
    refine my_find (c := c) c0.2.1 c1.2.1 ⟨c0.2.2, c1.2.2⟩ ?_ ?_
    · intro q hq hqx
      obtain ⟨p1, p2, p3, p4, _⟩ := g.2.1.1 q hq
      have hpl : pl q = e := by
        refine g.1.2.2.2.2 (pl q) e p1 he p3 ?_
        have hb := (g.1.2.1 (pl q) p1).2
        rw [← hh, p4, hHe.1] at hqx
        exact (mb_eq (by omega) (by omega)).mp hqx
      rw [hpl] at p2
      have q32 := hq.1
      have eq : nI q / 16 = nI (e / 16) := by
        rw [p2]
        exact pk_div (d := 16) (by omega) (by omega) (by omega)
      refine br_t (nI_pos' (by omega)) ⟨by decide, nm_r eq ⟨(16 * (e / 16) + cn - q) + 1, ?_⟩⟩
      have hqc := hq.2
      rw [← p2, hcn] at hqc
      have W := my_remove_l (post := fun r' v' => r' = nI cn ∧ i_Rel (k + 4) (f_draft, f_nextHandle, 0, f_nodeCount, 0, f_groupCount, a_defaults, a_packet, upd a_entryCount (e / 16) (nI cn), upd a_handles e (-1), a_actions, a_keys, a_widths, a_child, a_endsHere, a_endCount, a_partNode, a_partDepth, a_groupMask, a_groupTop, a_listFirst, a_listNext) v') (f_kind := f_kind) (f_place := f_place) (f_number := f_number) (f_handles := f_handles) (a_fields := a_fields) (a_count := a_count) (a_handle := a_handle) (a_a := a_a) (a_b := a_b) (a_rank := a_rank) (a_kinds := a_kinds) (a_places := a_places) (a_numbers := a_numbers) (t := e / 16) (cn := cn) (lo := q) t2 (by omega) (by rw [ht.2.1, hcn]) (by omega) ⟨rfl, ?_⟩ (16 * (e / 16) + cn - q) q (by omega) (by omega)
      · simp only [mb_sh0] at W
        exact W
      · have B := mr_B_rem g hq p2.symm hcn
        rw [hpl] at B
        exact mr_i B
    · intro z
      have := (g.2.1.1 q0 hq0).2.2.2.1
      rw [hpl0, ← hHe.1, hh] at this
      exact absurd this (z q0 hq0)
  · intro z
    refine br_f (by decide) ?_
    unfold wpY_remove
    dsimp only
    refine my_find (c := c) c0.2.1 c1.2.1 ⟨c0.2.2, c1.2.2⟩ ?_ ?_
    · intro q hq hqx
      exfalso
      obtain ⟨p1, p2, p3, p4, _⟩ := g.2.1.1 q hq
      have hb := g.1.2.1 (pl q) p1
      refine z ?_ (pl q) p1 ?_
      · rw [← hqx, p4]
        exact (mb_ge (by omega)).mpr p3
      · rw [hb.1, ← p4]
        exact hqx
    · intro _
      exact br_f (by decide) ⟨rfl, same⟩
end
section
/-! the owed statements: lookup, matching -/
section
variable {f_draft f_nextHandle f_treeReady f_nodeCount f_groupsReady f_groupCount : Int32} {a_defaults a_packet a_entryCount a_handles a_actions a_keys a_widths a_child a_endsHere a_endCount a_partNode a_partDepth a_groupMask a_groupTop a_listFirst a_listNext : Nat → Int32}
variable {f_kind f_place f_number f_handles : Int32} {a_fields a_count a_handle a_a a_b a_rank a_kinds a_places a_numbers : Nat → Int32}
theorem mx_look26 {post : Int32 → SX → Prop} {r : Nat} (hr : r ≤ 32) (h0 : r = 0 → post (-3) (f_draft, f_nextHandle, f_treeReady, f_nodeCount, f_groupsReady, f_groupCount, a_defaults, a_packet, a_entryCount, a_handles, a_actions, a_keys, a_widths, a_child, a_endsHere, a_endCount, a_partNode, a_partDepth, a_groupMask, a_groupTop, a_listFirst, a_listNext)) (h1 : ∀ e, r = e + 1 → post (a_handles e) (f_draft, f_nextHandle, f_treeReady, f_nodeCount, f_groupsReady, f_groupCount, a_defaults, a_packet, a_entryCount, a_handles, a_actions, a_keys, a_widths, a_child, a_endsHere, a_endCount, a_partNode, a_partDepth, a_groupMask, a_groupTop, a_listFirst, a_listNext)) : wX_lookup_26 post (mb_c r) f_draft f_nextHandle f_treeReady f_nodeCount f_groupsReady f_groupCount a_defaults a_packet a_entryCount a_handles a_actions a_keys a_widths a_child a_endsHere a_endCount a_partNode a_partDepth a_groupMask a_groupTop a_listFirst a_listNext := by
  by_cases z : r = 0
  · exact br_f (fun y => (mb_ge (by omega)).mp y z) (h0 z)
  · obtain ⟨e, rfl⟩ : ∃ e, r = e + 1 := ⟨r - 1, by omega⟩
    refine br_t ((mb_ge (by omega)).mpr z) ?_
    rw [mb_cs, nI_clamp (by omega)]
    exact ⟨vp_in_nI (by omega) (by omega), h1 e rfl⟩
theorem my_look {post : Int32 → Prop} {x : Int32} {s : Nat} (hx : x = 0 ∨ x = 1) (hs : s ≤ 32) (hY : ∀ post : Int32 → Prop, post (mb_c s) → wpY_taken post (f_kind, f_place, f_number, f_handles, a_fields, a_count, a_handle, a_a, a_b, a_rank, a_kinds, a_places, a_numbers) x (a_fields 0)) (h0 : s = 0 → post (-3)) (h1 : ∀ q, s = q + 1 → post (a_handle q)) : wpY_lookup post (f_kind, f_place, f_number, f_handles, a_fields, a_count, a_handle, a_a, a_b, a_rank, a_kinds, a_places, a_numbers) x := by
  have fin : wpY_taken (fun r_16 => (((0 ≤ r_16 → (vp_in r_16 32 ∧ (post (a_handle r_16.toNatClampNeg)))) ∧ (¬ 0 ≤ r_16 → (post (-3)))))) (f_kind, f_place, f_number, f_handles, a_fields, a_count, a_handle, a_a, a_b, a_rank, a_kinds, a_places, a_numbers) x (a_fields 0) := by
    refine hY _ ?_
    by_cases z : s = 0
    · exact br_f (fun y => (mb_ge (by omega)).mp y z) (h0 z)
    · obtain ⟨q, rfl⟩ : ∃ e, s = e + 1 := ⟨s - 1, by omega⟩
      refine br_t ((mb_ge (by omega)).mpr z) ?_
      rw [mb_cs, nI_clamp (by omega)]
      exact ⟨vp_in_nI (by omega) (by omega), h1 q rfl⟩
  unfold wpY_lookup
  dsimp only
  exact my_isTable (fun _ => br_f (by decide) fin) (fun _ => br_f (by decide) fin) (fun z1 z2 => absurd hx (fun z => z.elim z1 z2))
theorem my_look_bad {post : Int32 → Prop} {x : Int32} (n0 : ¬ x = 0) (n1 : ¬ x = 1) (h : post (-1)) : wpY_lookup post (f_kind, f_place, f_number, f_handles, a_fields, a_count, a_handle, a_a, a_b, a_rank, a_kinds, a_places, a_numbers) x := by
  unfold wpY_lookup
  dsimp only
  exact my_isTable (fun z => absurd z n0) (fun z => absurd z n1) (fun _ _ => br_t rfl h)
theorem my_match {post : Int32 → Prop} {x : Int32} (hx : x = 0 ∨ x = 1) (h : ∃ n : Nat, wY_matching_17 post x f_kind f_place f_number f_handles a_fields a_count a_handle a_a a_b a_rank a_kinds a_places a_numbers n 0 (16 * x)) : wpY_matching post (f_kind, f_place, f_number, f_handles, a_fields, a_count, a_handle, a_a, a_b, a_rank, a_kinds, a_places, a_numbers) x := by
  unfold wpY_matching
  dsimp only
  exact my_isTable (fun _ => br_f (by decide) (nm_e h)) (fun _ => br_f (by decide) (nm_e h)) (fun z1 z2 => absurd hx (fun z => z.elim z1 z2))
theorem my_match_bad {post : Int32 → Prop} {x : Int32} (n0 : ¬ x = 0) (n1 : ¬ x = 1) (h : post (-1)) : wpY_matching post (f_kind, f_place, f_number, f_handles, a_fields, a_count, a_handle, a_a, a_b, a_rank, a_kinds, a_places, a_numbers) x := by
  unfold wpY_matching
  dsimp only
  exact my_isTable (fun z => absurd z n0) (fun z => absurd z n1) (fun _ _ => br_t rfl h)
/-- slots and places of an outcome -/
theorem mr_sr {H A R pl c : Nat → Nat} {ac ky wd hd aa bb rk ki pc nu : Nat → Int32} {s r : Nat} (hP : mr_P H A R pl c ac ky wd hd aa bb rk ki pc nu) (h : (s = 0 ∧ r = 0) ∨ ∃ q, my_v c q ∧ s = q + 1 ∧ r = pl q + 1) : s ≤ 32 ∧ r ≤ 32 ∧ (s = 0 ↔ r = 0) ∧ ∀ e q, r = e + 1 → s = q + 1 → my_v c q ∧ pl q = e := by
  rcases h with ⟨h1, h2⟩ | ⟨q, h1, h2, h3⟩
  · exact ⟨by omega, by omega, by omega, fun e q z => by omega⟩
  · have a := h1.1
    have b := (hP.1 q h1).1
    refine ⟨by omega, by omega, by omega, ?_⟩
    intro e q' z1 z2
    have e1 : q' = q := by omega
    have e2 : e = pl q := by omega
    rw [e1, e2]
    exact ⟨h1, rfl⟩
end
theorem i_vc_lookup {k : Nat} {u : SX} {v : SY} (I : i_Rel k u v) (hk : k + 4 ≤ 2048) (v1 : Int32) : wpX_lookup (fun r u' => wpY_lookup (fun r' => r' = r ∧ i_Rel (k + 4) u' v) v v1) u v1 := by
  refine mr_el (P := fun u v => wpX_lookup (fun r u' => wpY_lookup (fun r' => r' = r ∧ i_Rel (k + 4) u' v) v v1) u v1) I ?_
  intro f_draft f_nextHandle f_treeReady f_nodeCount f_groupsReady f_groupCount a_defaults a_packet a_entryCount a_handles a_actions a_keys a_widths a_child a_endsHere a_endCount a_partNode a_partDepth a_groupMask a_groupTop a_listFirst a_listNext f_kind f_place f_number f_handles a_fields a_count a_handle a_a a_b a_rank a_kinds a_places a_numbers nh H A R pl c g0
  have g := mr_B_up g0
  have same := mr_i g
  have c0 := g.2.2.2.2.2.2.1 0 (by omega)
  have c1 := g.2.2.2.2.2.2.1 1 (by omega)
  have hfp : a_fields = a_packet := g.2.2.2.1.1
  have hI := g.1
  have hP := g.2.1
  obtain ⟨p0, hp0, pk0⟩ := g.2.2.2.1.2 0 (by omega)
  obtain ⟨p1, hp1, pk1⟩ := g.2.2.2.1.2 1 (by omega)
  obtain ⟨p2, hp2, pk2⟩ := g.2.2.2.1.2 2 (by omega)
  have ans : ∀ {s r : Nat}, ((s = 0 ∧ r = 0) ∨ ∃ q, my_v c q ∧ s = q + 1 ∧ r = pl q + 1) → ∀ e q, r = e + 1 → s = q + 1 → a_handle q = a_handles e := by
    intro s r h e q h1 h2
    obtain ⟨_, _, _, w⟩ := mr_sr hP h
    obtain ⟨w1, w2⟩ := w e q h1 h2
    have a := hP.1 q w1
    rw [a.2.2.2.1, w2, (hI.2.1 e (by rw [← w2]; exact a.1)).1]
  rcases mr_tab v1 with ⟨h, n0, n1⟩ | h | h
  · rcases h with h | ⟨h, h'⟩
    · exact br_t h (my_look_bad n0 n1 ⟨rfl, same⟩)
    · exact br_f h (br_f h' (my_look_bad n0 n1 ⟨rfl, same⟩))
  · subst h
    obtain ⟨s, r, hb, hsr, hY⟩ := mr_tk0 (f_kind := f_kind) (f_place := f_place) (f_number := f_number) (f_handles := f_handles) (a_fields := a_fields) hI hP c0.2.2 c0.2.1 hp0
    have hsr' : (s = 0 ∧ r = 0) ∨ ∃ q, my_v c q ∧ s = q + 1 ∧ r = pl q + 1 := hsr.imp id (fun ⟨q, a, _, b, d⟩ => ⟨q, a, b, d⟩)
    obtain ⟨s32, r32, sr0, _⟩ := mr_sr hP hsr'
    rw [← pk0, ← hfp] at hY
    refine br_f (by decide) (br_t (by decide) (br_t rfl ?_))
    refine mx_longestPrefix hI g.2.2.2.2.2.2.2.1 hp0 pk0 ?_
    intro tr fn ch eh ec hOK
    rw [mr_bm_u (mt_best (mx_I_D hI) hp0) hb]
    have R' := mr_i (mr_B_tree (tr := tr) (pn := a_partNode) (pd := a_partDepth) g hOK)
    refine mx_look26 r32 ?_ ?_
    · intro z
      exact my_look (Or.inl rfl) s32 hY (fun _ => ⟨rfl, R'⟩) (fun q y => by omega)
    · intro e z
      exact my_look (Or.inl rfl) s32 hY (fun y => by omega) (fun q y => ⟨ans hsr' e q z y, R'⟩)
  · subst h
    obtain ⟨s, r, hb, hsr, hY⟩ := mr_tk1 (f_kind := f_kind) (f_place := f_place) (f_number := f_number) (f_handles := f_handles) (a_fields := a_fields) (x := a_fields 0) hI hP c1.2.2 c1.2.1 hp1 hp2 (by rw [hfp]; exact pk1) (by rw [hfp]; exact pk2) rfl
    have hsr' : (s = 0 ∧ r = 0) ∨ ∃ q, my_v c q ∧ s = q + 1 ∧ r = pl q + 1 := hsr.imp id (fun ⟨q, a, _, b, d⟩ => ⟨q, a, b, d⟩)
    obtain ⟨s32, r32, sr0, _⟩ := mr_sr hP hsr'
    rw [← pk1, ← pk2] at hb
    refine br_f (by decide) (br_t (by decide) (br_f (by decide) ?_))
    refine mx_greatestPriority hI g.2.2.2.2.2.2.2.2 ?_
    intro gr fg gm gt lf nx r' hOK hb'
    rw [mr_bm_u hb' hb]
    have R' := mr_i (mr_B_group (gr := gr) g hOK)
    refine mx_look26 r32 ?_ ?_
    · intro z
      exact my_look (Or.inr rfl) s32 hY (fun _ => ⟨rfl, R'⟩) (fun q y => by omega)
    · intro e z
      exact my_look (Or.inr rfl) s32 hY (fun y => by omega) (fun q y => ⟨ans hsr' e q z y, R'⟩)
theorem i_vc_matching {k : Nat} {u : SX} {v : SY} (I : i_Rel k u v) (hk : k + 4 ≤ 2048) (v1 : Int32) : wpX_matching (fun r u' => wpY_matching (fun r' => r' = r ∧ i_Rel (k + 4) u' v) v v1) u v1 := by
  refine mr_el (P := fun u v => wpX_matching (fun r u' => wpY_matching (fun r' => r' = r ∧ i_Rel (k + 4) u' v) v v1) u v1) I ?_
  intro f_draft f_nextHandle f_treeReady f_nodeCount f_groupsReady f_groupCount a_defaults a_packet a_entryCount a_handles a_actions a_keys a_widths a_child a_endsHere a_endCount a_partNode a_partDepth a_groupMask a_groupTop a_listFirst a_listNext f_kind f_place f_number f_handles a_fields a_count a_handle a_a a_b a_rank a_kinds a_places a_numbers nh H A R pl c g0
  have g := mr_B_up g0
  have same := mr_i g
  have c0 := g.2.2.2.2.2.2.1 0 (by omega)
  have c1 := g.2.2.2.2.2.2.1 1 (by omega)
  have hfp : a_fields = a_packet := g.2.2.2.1.1
  have hI := g.1
  have hP := g.2.1
  obtain ⟨p0, hp0, pk0⟩ := g.2.2.2.1.2 0 (by omega)
  obtain ⟨p1, hp1, pk1⟩ := g.2.2.2.1.2 1 (by omega)
  obtain ⟨p2, hp2, pk2⟩ := g.2.2.2.1.2 2 (by omega)
  rcases mr_tab v1 with ⟨h, n0, n1⟩ | h | h
  · rcases h with h | ⟨h, h'⟩
    · exact br_t h (my_match_bad n0 n1 ⟨rfl, same⟩)
    · exact br_f h (br_f h' (my_match_bad n0 n1 ⟨rfl, same⟩))
  · subst h
    refine br_f (by decide) (br_t (by decide) (br_t rfl ?_))
    refine mx_prefixesOnWay hI g.2.2.2.2.2.2.2.1 hp0 pk0 ?_
    intro tr fn ch eh ec hOK
    have R' := mr_i (mr_B_tree (tr := tr) (pn := a_partNode) (pd := a_partDepth) g hOK)
    rw [mt_count (mx_I_D hI) hp0]
    refine my_match (Or.inl rfl) ⟨c 0 + 1, ?_⟩
    refine my_matching_l (U := mt_U H A R p0) (pl := pl) (t := 0) (by omega) c0.2.2 c0.2.1 ?_ ?_ (c 0) 0 (by omega)
    · intro i hi post hy hn
      rw [hfp, pk0]
      exact mr_fits0 hI hP c0.2.2 hp0 hi hy hn
    · refine ⟨?_, R'⟩
      rw [mr_cnt hP (by omega) c0.2.2 (fun e he => ⟨by have := he.1; omega, by have := he.1; omega, he.2.1⟩)]
  · subst h
    refine br_f (by decide) (br_t (by decide) (br_f (by decide) ?_))
    refine mx_maskedMatching hI g.2.2.2.2.2.2.2.2 ?_
    intro gr fg gm gt lf nx hOK
    have R' := mr_i (mr_B_group (gr := gr) g hOK)
    refine my_match (Or.inr rfl) ⟨c 1 + 1, ?_⟩
    refine my_matching_l (U := mg_U H a_widths a_keys ((a_packet 1 <<< ((8 : Int32) &&& 31)) ||| a_packet 2)) (pl := pl) (t := 1) (by omega) c1.2.2 c1.2.1 ?_ ?_ (c 1) 0 (by omega)
    · intro i hi post hy hn
      exact mr_fits1 hP c1.2.2 hp1 hp2 (by rw [hfp]; exact pk1) (by rw [hfp]; exact pk2) (by rw [pk1, pk2]) hi hy hn
    · refine ⟨?_, R'⟩
      rw [mr_cnt hP (by omega) c1.2.2 (fun e he => ⟨he.2.1, by have := he.1; have := he.2.1; omega, he.2.2.1⟩)]
end
section
/-! the owed statements: process, owned -/
section
variable {f_draft f_nextHandle f_treeReady f_nodeCount f_groupsReady f_groupCount : Int32} {a_defaults a_packet a_entryCount a_handles a_actions a_keys a_widths a_child a_endsHere a_endCount a_partNode a_partDepth a_groupMask a_groupTop a_listFirst a_listNext : Nat → Int32}
variable {f_kind f_place f_number f_handles : Int32} {a_fields a_count a_handle a_a a_b a_rank a_kinds a_places a_numbers : Nat → Int32}
theorem mr_inj {H A R pl c : Nat → Nat} {ac ky wd hd aa bb rk ki pc nu : Nat → Int32} (hP : mr_P H A R pl c ac ky wd hd aa bb rk ki pc nu) {q q' : Nat} (hq : my_v c q) (hq' : my_v c q') (z : pl q = pl q') : q = q' := by
  have a := (hP.1 q hq).2.1
  have b := (hP.1 q' hq').2.1
  rw [z] at a
  have s : q / 16 = q' / 16 := by omega
  rcases Nat.lt_trichotomy q q' with w | w | w
  · have := hP.2.2 q q' hq hq' s w
    rw [z] at this
    omega
  · exact w
  · have := hP.2.2 q' q hq' hq s.symm w
    rw [z] at this
    omega
/-- the action that is taken, on both sides -/
theorem mr_sel {k nh t s r : Nat} {H A R pl c : Nat → Nat} (g : mr_B k nh H A R pl c f_draft f_nextHandle f_treeReady f_nodeCount f_groupsReady f_groupCount a_defaults a_packet a_entryCount a_handles a_actions a_keys a_widths a_child a_endsHere a_endCount a_partNode a_partDepth a_groupMask a_groupTop a_listFirst a_listNext f_kind f_place f_number f_handles a_fields a_count a_handle a_a a_b a_rank a_kinds a_places a_numbers) (ht : t < 2) (h : (s = 0 ∧ r = 0) ∨ ∃ q, my_v c q ∧ s = q + 1 ∧ r = pl q + 1) :
    ∃ z a b d : Nat, z < 34 ∧ a ≤ 4 ∧ b ≤ 3 ∧ d ≤ 255 ∧ a_kinds z = nI a ∧ a_places z = nI b ∧ a_numbers z = nI d ∧
      (∀ P : Int32 → Prop, P (mr_a (nI a) (nI b) (nI d)) → (0 ≤ mb_c r → vp_in (mb_c r) 32 ∧ P (a_actions (mb_c r).toNatClampNeg)) ∧ (¬ 0 ≤ mb_c r → P (a_defaults t))) ∧
      (∀ P : Int32 → Prop, P (nI z) → (0 ≤ mb_c s → P (mb_c s)) ∧ (¬ 0 ≤ mb_c s → P (32 + nI t))) := by
  rcases h with ⟨h1, h2⟩ | ⟨q, h1, h2, h3⟩
  · obtain ⟨d1, a, b, d, ha, hb, hd, e1, e2, e3⟩ := g.2.2.2.2.2.1 t ht
    rw [e1, e2, e3] at d1
    refine ⟨32 + t, a, b, d, by omega, ha, hb, hd, e1, e2, e3, ?_, ?_⟩
    · intro P hp
      refine br_f (fun y => (mb_ge (by omega)).mp y h2) ?_
      rw [d1]; exact hp
    · intro P hp
      refine br_f (fun y => (mb_ge (by omega)).mp y h1) ?_
      rw [show (32 : Int32) + nI t = nI (32 + t) from nI_add 32 t]
      exact hp
  · obtain ⟨p1, p2, p3, p4, p5, p6, ⟨a, b, d, ha, hb, hd, e1, e2, e3⟩, _⟩ := g.2.1.1 q h1
    have q32 := h1.1
    rw [e1, e2, e3] at p6
    refine ⟨q, a, b, d, by omega, ha, hb, hd, e1, e2, e3, ?_, ?_⟩
    · intro P hp
      rw [h3, mb_cs]
      refine br_t (nI_pos' (by omega)) ⟨vp_in_nI p1 (by omega), ?_⟩
      rw [nI_clamp (by omega), p6]
      exact hp
    · intro P hp
      rw [h2, mb_cs]
      exact br_t (nI_pos' (by omega)) hp
theorem my_stage {post : Int32 → SY → Prop} {n t s z a b d : Nat} (ht : t < 2) (hY : ∀ post : Int32 → Prop, post (mb_c s) → wpY_taken post (f_kind, f_place, f_number, f_handles, a_fields, a_count, a_handle, a_a, a_b, a_rank, a_kinds, a_places, a_numbers) (nI t) (a_fields 0)) (sel : ∀ P : Int32 → Prop, P (nI z) → (0 ≤ mb_c s → P (mb_c s)) ∧ (¬ 0 ≤ mb_c s → P (32 + nI t)))
    (hz : z < 34) (ha : a ≤ 4) (hb : b ≤ 3) (hd : d ≤ 255) (e1 : a_kinds z = nI a) (e2 : a_places z = nI b) (e3 : a_numbers z = nI d) (h4 : a = 4 → post 0 (f_kind, f_place, f_number, f_handles, mr_f a b d a_fields, a_count, a_handle, a_a, a_b, a_rank, a_kinds, a_places, a_numbers)) (hn : a ≠ 4 → wY_process_2 post n (nI (t + 1)) f_kind f_place f_number f_handles (mr_f a b d a_fields) a_count a_handle a_a a_b a_rank a_kinds a_places a_numbers) : wY_process_2 post (n + 1) (nI t) f_kind f_place f_number f_handles a_fields a_count a_handle a_a a_b a_rank a_kinds a_places a_numbers := by
  refine br_f (nI_ge (a := t) (b := 2) (by omega) (by omega)) (hY _ ?_)
  refine sel (fun z0 => wY_process_32 post (wY_process_2 post n) (nI t) z0 f_kind f_place f_number f_handles a_fields a_count a_handle a_a a_b a_rank a_kinds a_places a_numbers) ?_
  unfold wY_process_32
  refine my_act hz ha hb hd e1 e2 e3 ?_
  dsimp only
  unfold mr_g
  by_cases w : a = 4
  · rw [if_pos w]
    exact br_t rfl (h4 w)
  · rw [if_neg w]
    exact br_f (by decide) (nm_r (nI_1 t) (hn w))
end
theorem i_vc_process {k : Nat} {u : SX} {v : SY} (I : i_Rel k u v) (hk : k + 4 ≤ 2048) : wpX_process (fun r u' => wpY_process (fun r' v' => r' = r ∧ i_Rel (k + 4) u' v') v) u := by
  refine mr_el (P := fun u v => wpX_process (fun r u' => wpY_process (fun r' v' => r' = r ∧ i_Rel (k + 4) u' v') v) u) I ?_
  intro f_draft f_nextHandle f_treeReady f_nodeCount f_groupsReady f_groupCount a_defaults a_packet a_entryCount a_handles a_actions a_keys a_widths a_child a_endsHere a_endCount a_partNode a_partDepth a_groupMask a_groupTop a_listFirst a_listNext f_kind f_place f_number f_handles a_fields a_count a_handle a_a a_b a_rank a_kinds a_places a_numbers nh H A R pl c g0
  have g := mr_B_up g0
  have c0 := g.2.2.2.2.2.2.1 0 (by omega)
  have c1 := g.2.2.2.2.2.2.1 1 (by omega)
  have hfp : a_fields = a_packet := g.2.2.2.1.1
  have hI := g.1
  have hP := g.2.1
  obtain ⟨p0, hp0, pk0⟩ := g.2.2.2.1.2 0 (by omega)
  obtain ⟨s, r, hb, hsr, hY⟩ := mr_tk0 (f_kind := f_kind) (f_place := f_place) (f_number := f_number) (f_handles := f_handles) (a_fields := a_fields) hI hP c0.2.2 c0.2.1 hp0
  have hsr' : (s = 0 ∧ r = 0) ∨ ∃ q, my_v c q ∧ s = q + 1 ∧ r = pl q + 1 := hsr.imp id (fun ⟨q, a, _, b, d⟩ => ⟨q, a, b, d⟩)
  rw [← pk0, ← hfp] at hY
  obtain ⟨z, a, b, d, hz, ha, hb3, hd, e1, e2, e3, selX, selY⟩ := mr_sel (t := 0) g (by omega) hsr'
  have hpb := mr_pb_f (a := a) g.2.2.2.1.2 hb3 hd
  unfold wpX_process
  dsimp only
  refine mx_longestPrefix hI g.2.2.2.2.2.2.2.1 hp0 pk0 ?_
  intro tr fn ch eh ec hOK
  rw [mr_bm_u (mt_best (mx_I_D hI) hp0) hb]
  dsimp only
  refine selX (fun z0 => wX_process_25 _ z0 f_draft f_nextHandle tr fn f_groupsReady f_groupCount a_defaults a_packet a_entryCount a_handles a_actions a_keys a_widths ch eh ec a_partNode a_partDepth a_groupMask a_groupTop a_listFirst a_listNext) ?_
  unfold wX_process_25
  refine mx_perform ha hb3 hd ?_
  dsimp only
  have gt := mr_B_pk (mr_B_tree (tr := tr) (pn := a_partNode) (pd := a_partDepth) g hOK) hpb
  by_cases w : a = 4
  · have eg : mr_g a = 0 := if_pos w
    rw [eg]
    refine br_t rfl ⟨1, ?_⟩
    refine my_stage (t := 0) (by omega) hY selY hz ha hb3 hd e1 e2 e3 (fun _ => ⟨rfl, ?_⟩) (fun y => absurd w y)
    rw [hfp]
    exact mr_i gt
  · have eg : mr_g a = 1 := if_neg w
    rw [eg]
    refine br_f (by decide) ?_
    obtain ⟨p1, hp1, pk1⟩ := hpb 1 (by omega)
    obtain ⟨p2, hp2, pk2⟩ := hpb 2 (by omega)
    obtain ⟨s1, r1, hb1, hsr1, hY1⟩ := mr_tk1 (f_kind := f_kind) (f_place := f_place) (f_number := f_number) (f_handles := f_handles) (a_fields := mr_f a b d a_packet) (x := mr_f a b d a_packet 0) hI hP c1.2.2 c1.2.1 hp1 hp2 pk1 pk2 rfl
    have hsr1' : (s1 = 0 ∧ r1 = 0) ∨ ∃ q, my_v c q ∧ s1 = q + 1 ∧ r1 = pl q + 1 := hsr1.imp id (fun ⟨q, a, _, b, d⟩ => ⟨q, a, b, d⟩)
    rw [← pk1, ← pk2] at hb1
    obtain ⟨z1, a1, b1, d1, hz1, ha1, hb31, hd1, e11, e21, e31, selX1, selY1⟩ := mr_sel (t := 1) g (by omega) hsr1'
    refine mx_greatestPriority hI gt.2.2.2.2.2.2.2.2 ?_
    intro gr fg gm gtt lf nx r' hOK' hb'
    rw [mr_bm_u hb' hb1]
    dsimp only
    refine selX1 (fun z0 => wX_process_60 _ z0 f_draft f_nextHandle tr fn gr fg a_defaults (mr_f a b d a_packet) a_entryCount a_handles a_actions a_keys a_widths ch eh ec a_partNode a_partDepth gm gtt lf nx) ?_
    unfold wX_process_60
    refine mx_perform ha1 hb31 hd1 ?_
    dsimp only
    have gt2 := mr_B_pk (mr_B_group (gr := gr) gt hOK') (mr_pb_f (a := a1) hpb hb31 hd1)
    have run : ∀ (post : Int32 → SY → Prop), (a1 = 4 → post 0 (f_kind, f_place, f_number, f_handles, mr_f a1 b1 d1 (mr_f a b d a_packet), a_count, a_handle, a_a, a_b, a_rank, a_kinds, a_places, a_numbers)) → (a1 ≠ 4 → post 1 (f_kind, f_place, f_number, f_handles, mr_f a1 b1 d1 (mr_f a b d a_packet), a_count, a_handle, a_a, a_b, a_rank, a_kinds, a_places, a_numbers)) → wpY_process post (f_kind, f_place, f_number, f_handles, a_fields, a_count, a_handle, a_a, a_b, a_rank, a_kinds, a_places, a_numbers) := by
      intro post y1 y2
      refine ⟨3, ?_⟩
      refine my_stage (t := 0) (by omega) hY selY hz ha hb3 hd e1 e2 e3 (fun y => absurd y w) (fun _ => ?_)
      rw [hfp]
      refine my_stage (t := 1) (by omega) hY1 selY1 hz1 ha1 hb31 hd1 e11 e21 e31 y1 (fun y => ?_)
      exact br_t (nI_le (a := 2) (b := 2) (by omega) (by omega)) (y2 y)
    by_cases w1 : a1 = 4
    · have eg1 : mr_g a1 = 0 := if_pos w1
      rw [eg1]
      exact br_t rfl (run _ (fun _ => ⟨rfl, mr_i gt2⟩) (fun y => absurd w1 y))
    · have eg1 : mr_g a1 = 1 := if_neg w1
      rw [eg1]
      exact br_f (by decide) (run _ (fun y => absurd y w1) (fun _ => ⟨rfl, mr_i gt2⟩))
theorem i_vc_owned {k : Nat} {u : SX} {v : SY} (I : i_Rel k u v) (hk : k + 4 ≤ 2048) (v1 : Int32) : wpX_owned (fun r u' => wpY_owned (fun r' => r' = r ∧ i_Rel (k + 4) u' v) v v1) u v1 := by
  refine mr_el (P := fun u v => wpX_owned (fun r u' => wpY_owned (fun r' => r' = r ∧ i_Rel (k + 4) u' v) v v1) u v1) I ?_
  intro f_draft f_nextHandle f_treeReady f_nodeCount f_groupsReady f_groupCount a_defaults a_packet a_entryCount a_handles a_actions a_keys a_widths a_child a_endsHere a_endCount a_partNode a_partDepth a_groupMask a_groupTop a_listFirst a_listNext f_kind f_place f_number f_handles a_fields a_count a_handle a_a a_b a_rank a_kinds a_places a_numbers nh H A R pl c g0
  have g := mr_B_up g0
  have same := mr_i g
  have c0 := g.2.2.2.2.2.2.1 0 (by omega)
  have c1 := g.2.2.2.2.2.2.1 1 (by omega)
  have hI := g.1
  have hP := g.2.1
  have hn := hI.1
  have fnd : ∀ (post : Int32 → Prop) (e : Nat), e < 32 → 0 ≤ v1 → a_handles e = v1 → (∀ q, my_v c q → pl q = e → post (nI q)) → wpY_find post (f_kind, f_place, f_number, f_handles, a_fields, a_count, a_handle, a_a, a_b, a_rank, a_kinds, a_places, a_numbers) v1 := by
    intro post e he hv hh hp
    have hHe := hI.2.1 e he
    have hu : H e ≠ 0 := by
      intro z
      rw [hh, z] at hHe
      rw [hHe.1] at hv
      exact (mb_ge (by omega)).mp hv rfl
    refine my_find (c := c) c0.2.1 c1.2.1 ⟨c0.2.2, c1.2.2⟩ ?_ ?_
    · intro q hq hqx
      obtain ⟨p1, p2, p3, p4, _⟩ := hP.1 q hq
      refine hp q hq (hI.2.2.2.2 (pl q) e p1 he p3 ?_)
      have hb := (hI.2.1 (pl q) p1).2
      rw [← hh, p4, hHe.1] at hqx
      exact (mb_eq (by omega) (by omega)).mp hqx
    · intro z
      obtain ⟨q0, hq0, hpl0⟩ := hP.2.1 e he hu
      have := (hP.1 q0 hq0).2.2.2.1
      rw [hpl0, ← hHe.1, hh] at this
      exact absurd this (z q0 hq0)
  refine mx_owned hI g.2.2.2.2.2.2.2.1 ?_ ?_ ?_
  · intro z
    unfold wpY_owned
    dsimp only
    refine my_find (c := c) c0.2.1 c1.2.1 ⟨c0.2.2, c1.2.2⟩ ?_ ?_
    · intro q hq hqx
      exfalso
      obtain ⟨p1, p2, p3, p4, _⟩ := hP.1 q hq
      have hb := hI.2.1 (pl q) p1
      refine z ?_ (pl q) p1 ?_
      · rw [← hqx, p4]
        exact (mb_ge (by omega)).mpr p3
      · rw [hb.1, ← p4]
        exact hqx
    · intro _
      exact br_t (by decide) ⟨rfl, same⟩
  · intro e e1 e2 hv hh
    unfold wpY_owned
    dsimp only
    refine fnd _ e e2 hv hh ?_
    intro q hq hpl
    have p2 := (hP.1 q hq).2.1
    rw [hpl] at p2
    have q32 := hq.1
    refine br_f (nI_pos (by omega)) (br_f (nI_ge (a := 15) (b := q) (by omega) (by omega)) ⟨rfl, same⟩)
  · intro e e1 hv hh tr fn ch eh ec pn pd hOK
    have R' := mr_i (mr_B_tree (tr := tr) (pn := pn) (pd := pd) g hOK)
    unfold wpY_owned
    dsimp only
    refine fnd _ e (by omega) hv hh ?_
    intro q hq hpl
    have p2 := (hP.1 q hq).2.1
    rw [hpl] at p2
    have q32 := hq.1
    refine br_f (nI_pos (by omega)) (br_t (nI_le (a := q) (b := 15) (by omega) (by omega)) ⟨257, ?_⟩)
    refine my_owned_l (P := fun p => mt_B (mt_E H (mt_K A R) 16) p 8 0 = e + 1) q32 ?_ ⟨rfl, R'⟩ 256 0 (by omega)
    intro v hv
    obtain ⟨s, r, hb, hsr, hY⟩ := mr_tk0 (f_kind := f_kind) (f_place := f_place) (f_number := f_number) (f_handles := f_handles) (a_fields := a_fields) hI hP c0.2.2 c0.2.1 hv
    have er := mr_bm_u (mt_best (mx_I_D hI) hv) hb
    rcases hsr with ⟨h1, h2⟩ | ⟨q', h1, h2, h3, h4⟩
    · refine ⟨s, by omega, ?_, hY⟩
      omega
    · refine ⟨s, by omega, ?_, hY⟩
      rw [er]
      constructor
      · intro y
        have : q' = q := by omega
        rw [h4, this, hpl]
      · intro y
        have : pl q' = pl q := by omega
        have := mr_inj hP h1 hq this
        omega
end
