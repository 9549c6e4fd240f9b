section
/-! pure rows to paste: stores, nI and lN arithmetic, masks, shifts, narrowing, branches by naturals (pk_le, pk_lt, pk_eq), loops (lp1 .. lp16: the measure of the state; rp1 ..: recursion), negatives. Take what you need -/
theorem pk_us {f : Nat → Int32} {k : Nat} {x : Int32} : upd f k x k = x := if_pos rfl
theorem pk_un {f : Nat → Int32} {k j : Nat} {x : Int32} (h : j ≠ k) : upd f k x j = f j := if_neg h
theorem pk_uLs {f : Nat → Int64} {k : Nat} {x : Int64} : vp_updL f k x k = x := if_pos rfl
theorem pk_uLn {f : Nat → Int64} {k j : Nat} {x : Int64} (h : j ≠ k) : vp_updL f k x j = f j := if_neg h
theorem pk_sub {a b : Nat} (h : b ≤ a) : nI a - nI b = nI (a - b) := by
  obtain ⟨c, rfl⟩ : ∃ c, a = c + b := ⟨a - b, by omega⟩
  rw [← nI_add, Int32.add_sub_cancel, Nat.add_sub_cancel]
theorem pk_m1 (n : Nat) : nI (n + 1) + (-1) = nI n := by
  rw [← nI_1, Int32.add_assoc, show (1 : Int32) + (-1) = 0 from rfl, Int32.add_zero]
theorem pk_mul (a b : Nat) : nI a * nI b = nI (a * b) := (Int32.ofNat_mul a b).symm
theorem pk_div {a d : Nat} (ha : a < 2 ^ 31) (h0 : 0 < d) (hd : d < 2 ^ 31) : nI a / nI d = nI (a / d) := by
  apply Int32.toInt_inj.mp
  rw [lg_idiv_nonneg (by rw [nI_toInt ha]; omega) (by rw [nI_toInt hd]; omega), nI_toInt ha, nI_toInt hd, nI_toInt (Nat.lt_of_le_of_lt (Nat.div_le_self a d) ha)]
  first | rfl | exact (Int.natCast_ediv _ _).symm
theorem pk_rem {a d : Nat} (ha : a < 2 ^ 31) (h0 : 0 < d) (hd : d < 2 ^ 31) : nI a - nI a / nI d * nI d = nI (a % d) := by
  rw [pk_div ha h0 hd, pk_mul, pk_sub (Nat.div_mul_le_self a d)]
  exact congrArg nI (by have := Nat.div_add_mod' a d; omega)
theorem pk_sub_toInt {a b : Nat} (ha : a < 2 ^ 30) (hb : b < 2 ^ 30) : (nI a - nI b).toInt = (a : Int) - b := by
  rw [Int32.toInt_sub, nI_toInt (by omega), nI_toInt (by omega)]
  exact Int.bmod_eq_of_le (by omega) (by omega)
theorem pk_sneg {a b : Nat} (hb : b < 2 ^ 30) (h : a < b) : nI a - nI b < 0 := by
  rw [Int32.lt_iff_toInt_lt, pk_sub_toInt (by omega) hb, show (0 : Int32).toInt = 0 from by decide]
  omega
theorem pk_ix (x : Int32) {n : Nat} (hn : n < 2 ^ 31) : x < 0 ∨ nI n ≤ x ∨ ∃ j : Nat, j < n ∧ x = nI j := by
  by_cases h : x < 0
  · exact Or.inl h
  · obtain ⟨j, hj, rfl⟩ := nI_of h
    by_cases h2 : j < n
    · exact Or.inr (Or.inr ⟨j, h2, rfl⟩)
    · exact Or.inr (Or.inl (nI_le (by omega) hj))
theorem pk_le {x y : Int32} {A B : Prop} (a b : Nat) (f : a ≤ b → A) (g : b < a → B) (hx : x = nI a := by rfl) (hy : y = nI b := by rfl) (ha : a < 2 ^ 31 := by omega) (hb : b < 2 ^ 31 := by omega) : (x ≤ y → A) ∧ (¬ x ≤ y → B) := by
  subst hx hy
  rw [nI_leI ha hb]
  exact ⟨f, fun z => g (by omega)⟩
theorem pk_lt {x y : Int32} {A B : Prop} (a b : Nat) (f : a < b → A) (g : b ≤ a → B) (hx : x = nI a := by rfl) (hy : y = nI b := by rfl) (ha : a < 2 ^ 31 := by omega) (hb : b < 2 ^ 31 := by omega) : (x < y → A) ∧ (¬ x < y → B) := by
  subst hx hy
  rw [nI_ltI ha hb]
  exact ⟨f, fun z => g (by omega)⟩
theorem pk_eq {x y : Int32} {A B : Prop} (a b : Nat) (f : a = b → A) (g : a ≠ b → B) (hx : x = nI a := by rfl) (hy : y = nI b := by rfl) (ha : a < 2 ^ 31 := by omega) (hb : b < 2 ^ 31 := by omega) : (x = y → A) ∧ (¬ x = y → B) := by
  subst hx hy
  rw [nI_eq ha hb]
  exact ⟨f, g⟩
theorem pk_in {x : Int32} (n N : Nat) (h : n < N) (hx : x = nI n := by rfl) (hN : N < 2 ^ 31 := by omega) : vp_in x N := by
  subst hx
  exact vp_in_nI h hN
theorem pk_cl {x : Int32} (n : Nat) (hx : x = nI n := by rfl) (h : n < 2 ^ 31 := by omega) : x.toNatClampNeg = n := by
  subst hx
  exact nI_clamp h
theorem pk_tn {n : Nat} (h : n < 2 ^ 32) : (nI n).toBitVec.toNat = n := Nat.mod_eq_of_lt h
theorem pk_and (x : Int32) {m : Int32} (k : Nat) (hm : m.toBitVec.toNat = 2 ^ k - 1) : x &&& m = nI (x.toBitVec.toNat % 2 ^ k) := by
  apply Int32.toBitVec_inj.mp
  apply BitVec.eq_of_toNat_eq
  rw [Int32.toBitVec_and, BitVec.toNat_and, hm, Nat.and_two_pow_sub_one_eq_mod]
  show _ = (BitVec.ofNat 32 _).toNat
  rw [BitVec.toNat_ofNat]
  exact (Nat.mod_eq_of_lt (Nat.lt_of_le_of_lt (Nat.mod_le _ _) x.toBitVec.isLt)).symm
theorem pk_andN {n : Nat} (h : n < 2 ^ 32) {m : Int32} (k : Nat) (hm : m.toBitVec.toNat = 2 ^ k - 1) : nI n &&& m = nI (n % 2 ^ k) := by
  rw [pk_and _ k hm, pk_tn h]
theorem pk_andE (x : Int32) {m : Int32} (k : Nat) (hm : m.toBitVec.toNat = 2 ^ k - 1) : ∃ j : Nat, j < 2 ^ k ∧ x &&& m = nI j := ⟨_, Nat.mod_lt _ (Nat.two_pow_pos k), pk_and x k hm⟩
theorem pk_andIn (x : Int32) {m : Int32} (k : Nat) (hm : m.toBitVec.toNat = 2 ^ k - 1) (hk : k ≤ 30) : vp_in (x &&& m) (2 ^ k) := by
  obtain ⟨j, hj, e⟩ := pk_andE x k hm
  rw [e]
  exact vp_in_nI hj (Nat.lt_of_le_of_lt (Nat.pow_le_pow_right (by decide) hk) (by decide))
theorem pk_shl (a s : Int32) (k : Nat) (hs : (s.toBitVec.smod 32).toNat = k) : (a <<< s).toBitVec.toNat = a.toBitVec.toNat * 2 ^ k % 2 ^ 32 := by
  show (a.toBitVec <<< (s.toBitVec.smod 32).toNat).toNat = _
  rw [hs, BitVec.toNat_shiftLeft, Nat.shiftLeft_eq]
theorem pk_shlN {n : Nat} (s : Int32) (k : Nat) (hs : (s.toBitVec.smod 32).toNat = k) (h : n * 2 ^ k < 2 ^ 32) : nI n <<< s = nI (n * 2 ^ k) := by
  apply Int32.toBitVec_inj.mp
  apply BitVec.eq_of_toNat_eq
  have hn : n < 2 ^ 32 := Nat.lt_of_le_of_lt (Nat.le_mul_of_pos_right n (Nat.two_pow_pos k)) h
  rw [pk_shl _ _ k hs, pk_tn hn, pk_tn h, Nat.mod_eq_of_lt h]
theorem pk_shr (a s : Int32) (k : Nat) (hs : (s.toBitVec.smod 32).toNat = k) : (a >>> s).toInt = a.toInt >>> k := by
  show (a.toBitVec.sshiftRight (s.toBitVec.smod 32).toNat).toInt = _
  rw [hs, BitVec.toInt_sshiftRight]
  rfl
theorem pk_shrN {n : Nat} (h : n < 2 ^ 31) (s : Int32) (k : Nat) (hs : (s.toBitVec.smod 32).toNat = k) : nI n >>> s = nI (n / 2 ^ k) := by
  apply Int32.toInt_inj.mp
  have h2 : n / 2 ^ k ≤ n := Nat.div_le_self _ _
  rw [pk_shr _ _ k hs, nI_toInt h, nI_toInt (by omega), Int.shiftRight_eq_div_pow]
  rfl
theorem pk_ushr (x s : Int32) (k : Nat) (hs : ((s.toUInt32 &&& Int32.toUInt32 31).toBitVec % 32).toNat = k) : (x.toUInt32 >>> (s.toUInt32 &&& Int32.toUInt32 31)).toInt32.toBitVec.toNat = x.toBitVec.toNat / 2 ^ k := by
  have e : (x.toUInt32 >>> (s.toUInt32 &&& Int32.toUInt32 31)).toInt32.toBitVec = x.toBitVec >>> k := by
    rw [← hs]
    exact UInt32.toBitVec_shiftRight _ _
  rw [e, BitVec.toNat_ushiftRight, Nat.shiftRight_eq_div_pow]
theorem pk_ushrN {n : Nat} (hn : n < 2 ^ 32) (s : Int32) (k : Nat) (hs : ((s.toUInt32 &&& Int32.toUInt32 31).toBitVec % 32).toNat = k) : ((nI n).toUInt32 >>> (s.toUInt32 &&& Int32.toUInt32 31)).toInt32 = nI (n / 2 ^ k) := by
  apply Int32.toBitVec_inj.mp
  apply BitVec.eq_of_toNat_eq
  rw [pk_ushr _ s k hs, pk_tn hn, pk_tn (Nat.lt_of_le_of_lt (Nat.div_le_self _ _) hn)]
theorem pk_nb (z : Int32) : narrow .byte (.int z.toInt8.toInt32) = .int z.toInt8.toInt32 := congrArg Value.int (by simp)
theorem pk_ns (z : Int32) : narrow .short (.int z.toInt16.toInt32) = .int z.toInt16.toInt32 := congrArg Value.int (by simp)
theorem pk_fb (r : Int32) : fits .byte (.int r.toInt8.toInt32) = true := by
  have ⟨a, b⟩ := lg_i2b_range r
  have h1 : (-128 : Int32).toInt = -128 := by decide
  have h2 : (127 : Int32).toInt = 127 := by decide
  simp only [fits, Bool.and_eq_true, decide_eq_true_eq, Int32.le_iff_toInt_le, h1, h2]
  omega
theorem pk_fs (r : Int32) : fits .short (.int r.toInt16.toInt32) = true := by
  have ⟨a, b⟩ := lg_i2s_range r
  have h1 : (-32768 : Int32).toInt = -32768 := by decide
  have h2 : (32767 : Int32).toInt = 32767 := by decide
  simp only [fits, Bool.and_eq_true, decide_eq_true_eq, Int32.le_iff_toInt_le, h1, h2]
  omega
theorem pk_charN {q : Nat} (hq : q < 65536) : narrow .char (.int (nI q)) = .int (nI q) ∧ fits .char (.int (nI q)) = true := by
  constructor
  · have e : (nI q).toUInt32.toUInt16.toUInt32.toInt32 = nI q := by
      apply Int32.toBitVec_inj.mp
      apply BitVec.eq_of_toNat_eq
      show (nI q).toUInt32.toUInt16.toUInt32.toNat = q % 2 ^ 32
      rw [UInt16.toNat_toUInt32, UInt32.toNat_toUInt16, show (nI q).toUInt32.toNat = q % 2 ^ 32 from rfl]
      omega
    exact congrArg Value.int e
  · have a : (0 : Int32) ≤ nI q := nI_pos' (by omega)
    have b : nI q ≤ 65535 := nI_le (b := 65535) (by omega) (by decide)
    show (decide ((0 : Int32) ≤ nI q) && decide (nI q ≤ 65535)) = true
    rw [decide_eq_true a, decide_eq_true b]
    rfl
theorem pk_char (x : Int32) : (x.toUInt32 % 65536).toInt32 = nI (x.toBitVec.toNat % 65536) := by
  apply Int32.toBitVec_inj.mp
  apply BitVec.eq_of_toNat_eq
  rw [pk_tn (by omega)]
  show (x.toUInt32 % 65536).toNat = _
  rw [UInt32.toNat_mod]
  rfl
theorem pk_nc (x : Int32) : narrow .char (.int (x.toUInt32 % 65536).toInt32) = .int (x.toUInt32 % 65536).toInt32 := by
  rw [pk_char]
  exact (pk_charN (Nat.mod_lt _ (by decide))).1
theorem pk_fc (x : Int32) : fits .char (.int (x.toUInt32 % 65536).toInt32) = true := by
  rw [pk_char]
  exact (pk_charN (Nat.mod_lt _ (by decide))).2
theorem pk_vb (z : Int32) : vp_nar .byte z.toInt8.toInt32 = z.toInt8.toInt32 := by rw [vp_nar_byte]; simp
theorem pk_vs (z : Int32) : vp_nar .short z.toInt16.toInt32 = z.toInt16.toInt32 := by rw [vp_nar_short]; simp
theorem pk_vc (z : Int32) : vp_nar .char (z.toUInt32 % 65536).toInt32 = (z.toUInt32 % 65536).toInt32 := Value.int.inj (pk_nc z)
end
section
/-! byte lists: the strict difference at a first place -/
def ok_dl : List Nat → List Nat → Bool
  | a :: A, b :: B => decide (a < b) || (decide (a = b) && ok_dl A B)
  | [], _ => false
  | _ :: _, [] => false
theorem ok_dl_c (a b : Nat) (A B : List Nat) : ok_dl (a :: A) (b :: B) = true ↔ a < b ∨ (a = b ∧ ok_dl A B = true) := by
  simp [ok_dl]
theorem ok_dl_nl (B : List Nat) : ok_dl [] B = false := by simp [ok_dl]
theorem ok_dl_nr (A : List Nat) : ok_dl A [] = false := by cases A <;> simp [ok_dl]
theorem ok_dl_app : ∀ (A B C D : List Nat), ok_dl A B = true → ok_dl (A ++ C) (B ++ D) = true
  | [], B, C, D, h => by rw [ok_dl_nl] at h; cases h
  | a :: A, [], C, D, h => by rw [ok_dl_nr] at h; cases h
  | a :: A, b :: B, C, D, h => by
    rw [ok_dl_c] at h
    show ok_dl (a :: (A ++ C)) (b :: (B ++ D)) = true
    rw [ok_dl_c]
    rcases h with h | ⟨h, k⟩
    · exact Or.inl h
    · exact Or.inr ⟨h, ok_dl_app A B C D k⟩
theorem ok_dl_pre (P A B : List Nat) : ok_dl (P ++ A) (P ++ B) = ok_dl A B := by
  induction P with
  | nil => rfl
  | cons p P ih => simp [ok_dl, ih]
theorem ok_dl_irr (A : List Nat) : ok_dl A A = false := by
  induction A with
  | nil => rfl
  | cons a A ih => simp [ok_dl, ih]
theorem ok_dl_tr : ∀ (A B C : List Nat), ok_dl A B = true → ok_dl B C = true → ok_dl A C = true
  | [], B, C, h, _ => by rw [ok_dl_nl] at h; cases h
  | a :: A, [], C, h, _ => by rw [ok_dl_nr] at h; cases h
  | a :: A, b :: B, [], _, h => by rw [ok_dl_nr] at h; cases h
  | a :: A, b :: B, c :: C, h, k => by
    rw [ok_dl_c] at h k ⊢
    rcases h with h | ⟨h, h2⟩
    · rcases k with k | ⟨k, _⟩
      · exact Or.inl (by omega)
      · exact Or.inl (by omega)
    · rcases k with k | ⟨k, k2⟩
      · exact Or.inl (by omega)
      · exact Or.inr ⟨by omega, ok_dl_tr A B C h2 k2⟩
theorem ok_dl_as {A B : List Nat} (h : ok_dl A B = true) : ok_dl B A = false := by
  cases e : ok_dl B A with
  | false => rfl
  | true => have k := ok_dl_tr A B A h e; rw [ok_dl_irr] at k; cases k
/-- the three cases -/
def ok_Tri (A B : List Nat) : Prop := ok_dl A B = true ∨ A = B ∨ ok_dl B A = true
def ok_sg (A B : List Nat) : Int32 := if ok_dl A B = true then -1 else if ok_dl B A = true then 1 else 0
theorem ok_sg_l {A B : List Nat} (h : ok_dl A B = true) : ok_sg A B = -1 := if_pos h
theorem ok_sg_e (A : List Nat) : ok_sg A A = 0 := by unfold ok_sg; rw [ok_dl_irr]; rfl
theorem ok_sg_g {A B : List Nat} (h : ok_dl B A = true) : ok_sg A B = 1 := by
  unfold ok_sg; rw [ok_dl_as h, h]; rfl
theorem ok_Tri_sym {A B : List Nat} (h : ok_Tri A B) : ok_Tri B A := by
  rcases h with h | h | h
  · exact Or.inr (Or.inr h)
  · exact Or.inr (Or.inl h.symm)
  · exact Or.inl h
theorem ok_Tri_app {A B C D : List Nat} (h : ok_Tri A B) (k : ok_Tri C D) : ok_Tri (A ++ C) (B ++ D) := by
  rcases h with h | h | h
  · exact Or.inl (ok_dl_app _ _ _ _ h)
  · subst h
    rcases k with k | k | k
    · exact Or.inl (by rw [ok_dl_pre]; exact k)
    · exact Or.inr (Or.inl (by rw [k]))
    · exact Or.inr (Or.inr (by rw [ok_dl_pre]; exact k))
  · exact Or.inr (Or.inr (ok_dl_app _ _ _ _ h))
theorem ok_sg_pre (P A B : List Nat) : ok_sg (P ++ A) (P ++ B) = ok_sg A B := by
  unfold ok_sg; rw [ok_dl_pre, ok_dl_pre]
theorem ok_sg_app {A B : List Nat} (C D : List Nat) (h : ok_Tri A B) (hn : A ≠ B) : ok_sg (A ++ C) (B ++ D) = ok_sg A B := by
  rcases h with h | h | h
  · rw [ok_sg_l h, ok_sg_l (ok_dl_app _ _ _ _ h)]
  · exact absurd h hn
  · rw [ok_sg_g h, ok_sg_g (ok_dl_app _ _ _ _ h)]
theorem ok_sg_0 {A B : List Nat} (h : ok_Tri A B) : ok_sg A B = 0 ↔ A = B := by
  rcases h with h | h | h
  · rw [ok_sg_l h]
    constructor
    · intro z; exact absurd z (by decide)
    · intro z; subst z; rw [ok_dl_irr] at h; cases h
  · subst h; rw [ok_sg_e]; exact ⟨fun _ => rfl, fun _ => rfl⟩
  · rw [ok_sg_g h]
    constructor
    · intro z; exact absurd z (by decide)
    · intro z; subst z; rw [ok_dl_irr] at h; cases h
theorem ok_sg_n {A B : List Nat} : ok_sg A B < 0 ↔ ok_dl A B = true := by
  unfold ok_sg
  cases h : ok_dl A B with
  | true => simp
  | false => cases k : ok_dl B A <;> simp <;> decide
theorem ok_sg_p {A B : List Nat} : 0 < ok_sg A B ↔ ok_dl B A = true := by
  cases h : ok_dl A B with
  | true => rw [ok_sg_l h, ok_dl_as h]; decide
  | false => unfold ok_sg; rw [h]; cases k : ok_dl B A <;> simp <;> decide
/-- all bits of a byte turned round -/
def ok_tn (d : Bool) (b : Nat) : Nat := if d = true then 255 - b else b
def ok_By (A : List Nat) : Prop := ∀ a, a ∈ A → a < 256
theorem ok_tn_lt {b : Nat} (d : Bool) (h : b < 256) : ok_tn d b < 256 := by
  unfold ok_tn; split <;> omega
theorem ok_tn_tn {b : Nat} (d : Bool) (h : b < 256) : ok_tn d (ok_tn d b) = b := by
  unfold ok_tn; split <;> omega
theorem ok_By_c {a : Nat} {A : List Nat} : ok_By (a :: A) ↔ a < 256 ∧ ok_By A := by
  unfold ok_By; simp
theorem ok_By_0 : ok_By [] := by unfold ok_By; simp
theorem ok_By_app {A B : List Nat} (h : ok_By A) (k : ok_By B) : ok_By (A ++ B) := by
  intro a ha
  rcases List.mem_append.mp ha with z | z
  · exact h a z
  · exact k a z
theorem ok_By_map {A : List Nat} (d : Bool) (h : ok_By A) : ok_By (A.map (ok_tn d)) := by
  intro a ha
  obtain ⟨b, hb, rfl⟩ := List.mem_map.mp ha
  exact ok_tn_lt d (h b hb)
theorem ok_map_f (A : List Nat) : A.map (ok_tn false) = A := by
  induction A with
  | nil => rfl
  | cons a A ih => show ok_tn false a :: A.map (ok_tn false) = _; rw [ih]; rfl
theorem ok_dl_t : ∀ (A B : List Nat), ok_By A → ok_By B → ok_dl (A.map (ok_tn true)) (B.map (ok_tn true)) = ok_dl B A
  | [], B, _, _ => by show ok_dl [] _ = _; rw [ok_dl_nl, ok_dl_nr]
  | a :: A, [], _, _ => by show ok_dl _ [] = _; rw [ok_dl_nl, ok_dl_nr]
  | a :: A, b :: B, h, k => by
    rw [ok_By_c] at h k
    show ok_dl (ok_tn true a :: A.map (ok_tn true)) (ok_tn true b :: B.map (ok_tn true)) = _
    have ih := ok_dl_t A B h.2 k.2
    have h1 := h.1
    have k1 := k.1
    rw [Bool.eq_iff_iff, ok_dl_c, ok_dl_c, ih]
    have e1 : ok_tn true a = 255 - a := rfl
    have e2 : ok_tn true b = 255 - b := rfl
    rw [e1, e2]
    constructor
    · rintro (z | ⟨z, w⟩)
      · exact Or.inl (by omega)
      · exact Or.inr ⟨by omega, w⟩
    · rintro (z | ⟨z, w⟩)
      · exact Or.inl (by omega)
      · exact Or.inr ⟨by omega, w⟩
/-- a field's value in its direction: the sign is turned round -/
theorem ok_sg_t {A B : List Nat} (d : Bool) (hA : ok_By A) (hB : ok_By B) (h : ok_Tri A B) : ok_Tri (A.map (ok_tn d)) (B.map (ok_tn d)) ∧ ok_sg (A.map (ok_tn d)) (B.map (ok_tn d)) = if d = true then - ok_sg A B else ok_sg A B := by
  cases d with
  | false => rw [ok_map_f, ok_map_f]; exact ⟨h, rfl⟩
  | true =>
    rw [if_pos rfl]
    rcases h with h | h | h
    · have e : ok_dl (B.map (ok_tn true)) (A.map (ok_tn true)) = true := by rw [ok_dl_t _ _ hB hA]; exact h
      exact ⟨Or.inr (Or.inr e), by rw [ok_sg_g e, ok_sg_l h]; decide⟩
    · subst h
      exact ⟨Or.inr (Or.inl rfl), by rw [ok_sg_e, ok_sg_e]; decide⟩
    · have e : ok_dl (A.map (ok_tn true)) (B.map (ok_tn true)) = true := by rw [ok_dl_t _ _ hA hB]; exact h
      exact ⟨Or.inl e, by rw [ok_sg_l e, ok_sg_g h]⟩
/-- a text's bytes -/
def ok_tx : List Nat → List Nat
  | [] => [0, 1]
  | c :: A => if c = 0 then 0 :: 255 :: ok_tx A else c :: ok_tx A
theorem ok_tx_By : ∀ (A : List Nat), ok_By A → ok_By (ok_tx A)
  | [], _ => by show ok_By [0, 1]; rw [ok_By_c, ok_By_c]; exact ⟨by decide, by decide, ok_By_0⟩
  | a :: A, h => by
    rw [ok_By_c] at h
    have ih := ok_tx_By A h.2
    unfold ok_tx
    split
    · rw [ok_By_c, ok_By_c]; exact ⟨by decide, by decide, ih⟩
    · rw [ok_By_c]; exact ⟨h.1, ih⟩
theorem ok_tx_len (A : List Nat) : (ok_tx A).length ≤ 2 * A.length + 2 := by
  induction A with
  | nil => decide
  | cons a A ih =>
    unfold ok_tx
    split
    · simp only [List.length_cons]; omega
    · simp only [List.length_cons]; omega
theorem ok_tx_1 (b : Nat) (B : List Nat) : ok_dl (ok_tx []) (ok_tx (b :: B)) = true := by
  show ok_dl [0, 1] (if b = 0 then 0 :: 255 :: ok_tx B else b :: ok_tx B) = true
  split
  · rw [ok_dl_c, ok_dl_c]; exact Or.inr ⟨rfl, Or.inl (by decide)⟩
  · rw [ok_dl_c]; exact Or.inl (by omega)
theorem ok_tx_2 {a b : Nat} (A B : List Nat) (h : a < b) : ok_dl (ok_tx (a :: A)) (ok_tx (b :: B)) = true := by
  show ok_dl (if a = 0 then 0 :: 255 :: ok_tx A else a :: ok_tx A) (if b = 0 then 0 :: 255 :: ok_tx B else b :: ok_tx B) = true
  rw [if_neg (show ¬ b = 0 by omega)]
  split
  · rw [ok_dl_c]; exact Or.inl (by omega)
  · rw [ok_dl_c]; exact Or.inl h
theorem ok_tx_3 (a : Nat) (A B : List Nat) : ok_dl (ok_tx (a :: A)) (ok_tx (a :: B)) = ok_dl (ok_tx A) (ok_tx B) := by
  show ok_dl (if a = 0 then 0 :: 255 :: ok_tx A else a :: ok_tx A) (if a = 0 then 0 :: 255 :: ok_tx B else a :: ok_tx B) = _
  split
  · exact ok_dl_pre [0, 255] (ok_tx A) (ok_tx B)
  · exact ok_dl_pre [a] (ok_tx A) (ok_tx B)
theorem ok_tx_sg3 (a : Nat) (A B : List Nat) : ok_sg (ok_tx (a :: A)) (ok_tx (a :: B)) = ok_sg (ok_tx A) (ok_tx B) := by
  unfold ok_sg; rw [ok_tx_3, ok_tx_3]
theorem ok_tx_Tri : ∀ (A B : List Nat), ok_Tri (ok_tx A) (ok_tx B)
  | [], [] => Or.inr (Or.inl rfl)
  | [], b :: B => Or.inl (ok_tx_1 b B)
  | a :: A, [] => Or.inr (Or.inr (ok_tx_1 a A))
  | a :: A, b :: B => by
    rcases Nat.lt_trichotomy a b with h | h | h
    · exact Or.inl (ok_tx_2 A B h)
    · subst h
      rcases ok_tx_Tri A B with k | k | k
      · exact Or.inl (by rw [ok_tx_3]; exact k)
      · exact Or.inr (Or.inl (by unfold ok_tx; rw [k]))
      · exact Or.inr (Or.inr (by rw [ok_tx_3]; exact k))
    · exact Or.inr (Or.inr (ok_tx_2 B A h))
/-- an int's four bytes -/
def ok_ib (w : Nat) : List Nat := [w / 16777216 % 256, w / 65536 % 256, w / 256 % 256, w % 256]
theorem ok_ib_By (w : Nat) : ok_By (ok_ib w) := by
  unfold ok_ib
  rw [ok_By_c, ok_By_c, ok_By_c, ok_By_c]
  exact ⟨by omega, by omega, by omega, by omega, ok_By_0⟩
theorem ok_ib_dl {a b : Nat} (hb : b < 4294967296) (h : a < b) : ok_dl (ok_ib a) (ok_ib b) = true := by
  unfold ok_ib
  rw [ok_dl_c, ok_dl_c, ok_dl_c, ok_dl_c, ok_dl_nl]
  by_cases h1 : a / 16777216 % 256 = b / 16777216 % 256
  · by_cases h2 : a / 65536 % 256 = b / 65536 % 256
    · by_cases h3 : a / 256 % 256 = b / 256 % 256
      · exact Or.inr ⟨h1, Or.inr ⟨h2, Or.inr ⟨h3, Or.inl (by omega)⟩⟩⟩
      · exact Or.inr ⟨h1, Or.inr ⟨h2, Or.inl (by omega)⟩⟩
    · exact Or.inr ⟨h1, Or.inl (by omega)⟩
  · exact Or.inl (by omega)
theorem ok_ib_Tri {a b : Nat} (ha : a < 4294967296) (hb : b < 4294967296) : ok_Tri (ok_ib a) (ok_ib b) := by
  rcases Nat.lt_trichotomy a b with h | h | h
  · exact Or.inl (ok_ib_dl hb h)
  · exact Or.inr (Or.inl (by rw [h]))
  · exact Or.inr (Or.inr (ok_ib_dl ha h))
/-- an int as an unsigned number in the ints' order -/
def ok_un (v : Int32) : Nat := (v ^^^ (-2147483648)).toBitVec.toNat
theorem ok_un_lt (v : Int32) : ok_un v < 4294967296 := (v ^^^ (-2147483648)).toBitVec.isLt
theorem ok_xor31 {a : Nat} (h : a < 4294967296) : a ^^^ 2 ^ 31 = (a + 2147483648) % 4294967296 := by
  have h1 : (a ^^^ 2 ^ 31) % 2 ^ 31 = a % 2 ^ 31 := by rw [Nat.xor_mod_two_pow, Nat.mod_self, Nat.xor_zero]
  have h2 : (a ^^^ 2 ^ 31) / 2 ^ 31 = (a / 2 ^ 31) ^^^ 1 := by rw [Nat.xor_div_two_pow, Nat.div_self (Nat.two_pow_pos 31)]
  have h3 : a / 2 ^ 31 = 0 ∨ a / 2 ^ 31 = 1 := by omega
  generalize a ^^^ 2 ^ 31 = t at h1 h2
  rcases h3 with h3 | h3
  · rw [h3] at h2
    have h2 : t / 2 ^ 31 = 1 := h2
    omega
  · rw [h3] at h2
    have h2 : t / 2 ^ 31 = 0 := h2
    omega
theorem ok_un_x (v : Int32) : ok_un v = (v.toBitVec.toNat + 2147483648) % 4294967296 := by
  rw [← ok_xor31 v.toBitVec.isLt]
  show (v ^^^ (-2147483648)).toBitVec.toNat = _
  rw [Int32.toBitVec_xor, BitVec.toNat_xor]
  rfl
theorem ok_un_i (v : Int32) : (ok_un v : Int) = v.toInt + 2147483648 := by
  have h := v.toBitVec.isLt
  have e : v.toInt = if 2 * v.toBitVec.toNat < 2 ^ 32 then (v.toBitVec.toNat : Int) else (v.toBitVec.toNat : Int) - (2 ^ 32 : Nat) := BitVec.toInt_eq_toNat_cond _
  rw [ok_un_x, e]
  split <;> omega
theorem ok_un_l {a b : Int32} : a < b ↔ ok_un a < ok_un b := by
  rw [Int32.lt_iff_toInt_lt]
  have := ok_un_i a
  have := ok_un_i b
  omega
theorem ok_un_e {a b : Int32} (h : ok_un a = ok_un b) : a = b := by
  apply Int32.toInt_inj.mp
  have := ok_un_i a
  have := ok_un_i b
  omega
/-- what the reference's comparison of two ints answers -/
theorem ok_ib_sg (a b : Int32) : (a < b → ok_sg (ok_ib (ok_un a)) (ok_ib (ok_un b)) = -1) ∧ (b < a → ok_sg (ok_ib (ok_un a)) (ok_ib (ok_un b)) = 1) ∧ (a = b → ok_sg (ok_ib (ok_un a)) (ok_ib (ok_un b)) = 0) := by
  refine ⟨fun h => ?_, fun h => ?_, fun h => ?_⟩
  · exact ok_sg_l (ok_ib_dl (ok_un_lt b) (ok_un_l.mp h))
  · exact ok_sg_g (ok_ib_dl (ok_un_lt a) (ok_un_l.mp h))
  · subst h; exact ok_sg_e _
end
section
/-! counting, ranks in a strict total order of the numbers below c -/
def ok_cn (p : Nat → Bool) : Nat → Nat
  | 0 => 0
  | n + 1 => ok_cn p n + (p n).toNat
theorem ok_cn_s (p : Nat → Bool) (n : Nat) : ok_cn p (n + 1) = ok_cn p n + (p n).toNat := rfl
theorem ok_tN (b : Bool) : b.toNat ≤ 1 := by cases b <;> decide
theorem ok_cn_le (p : Nat → Bool) (n : Nat) : ok_cn p n ≤ n := by
  induction n with
  | zero => exact Nat.le_refl 0
  | succ n ih => rw [ok_cn_s]; have := ok_tN (p n); omega
theorem ok_cn_eq {p q : Nat → Bool} {n : Nat} (h : ∀ i, i < n → p i = q i) : ok_cn p n = ok_cn q n := by
  induction n with
  | zero => rfl
  | succ n ih => rw [ok_cn_s, ok_cn_s, ih (fun i hi => h i (by omega)), h n (by omega)]
theorem ok_cn_mono {p q : Nat → Bool} {n : Nat} (h : ∀ i, i < n → p i = true → q i = true) : ok_cn p n ≤ ok_cn q n := by
  induction n with
  | zero => exact Nat.le_refl 0
  | succ n ih =>
    rw [ok_cn_s, ok_cn_s]
    have h1 := ih (fun i hi => h i (by omega))
    have h2 := h n (by omega)
    cases e : p n with
    | false => show _ + 0 ≤ _; omega
    | true => rw [h2 e]; omega
theorem ok_cn_lt {p q : Nat → Bool} {n j : Nat} (h : ∀ i, i < n → p i = true → q i = true) (hj : j < n) (hp : p j = false) (hq : q j = true) : ok_cn p n < ok_cn q n := by
  induction n with
  | zero => omega
  | succ n ih =>
    rw [ok_cn_s, ok_cn_s]
    by_cases z : j = n
    · subst z
      have h1 := ok_cn_mono (p := p) (q := q) (n := j) (fun i hi => h i (by omega))
      rw [hp, hq]
      show _ + 0 < _ + 1
      omega
    · have h1 := ih (fun i hi => h i (by omega)) (by omega)
      have h2 := h n (by omega)
      cases e : p n with
      | false => show _ + 0 < _; omega
      | true => rw [h2 e]; omega
theorem ok_cn_add {p q r : Nat → Bool} {n : Nat} (h : ∀ i, i < n → (r i).toNat = (p i).toNat + (q i).toNat) : ok_cn r n = ok_cn p n + ok_cn q n := by
  induction n with
  | zero => rfl
  | succ n ih => rw [ok_cn_s, ok_cn_s, ok_cn_s, ih (fun i hi => h i (by omega)), h n (by omega)]; omega
theorem ok_cn_free {p : Nat → Bool} {n : Nat} (h : ok_cn p n < n) : ∃ j, j < n ∧ p j = false := by
  induction n with
  | zero => omega
  | succ n ih =>
    cases e : p n with
    | false => exact ⟨n, by omega, e⟩
    | true =>
      rw [ok_cn_s, e] at h
      have h : ok_cn p n + 1 < n + 1 := h
      obtain ⟨j, hj, hp⟩ := ih (by omega)
      exact ⟨j, by omega, hp⟩
/-- one place changes -/
theorem ok_cn_upd {p q : Nat → Bool} {n k : Nat} (hk : k < n) (h : ∀ i, i < n → i ≠ k → p i = q i) : ok_cn p n + (q k).toNat = ok_cn q n + (p k).toNat := by
  induction n with
  | zero => omega
  | succ n ih =>
    rw [ok_cn_s, ok_cn_s]
    by_cases z : k = n
    · subst z
      rw [ok_cn_eq (p := p) (q := q) (n := k) (fun i hi => h i (by omega) (by omega))]
      omega
    · have h1 := ih (by omega) (fun i hi => h i (by omega))
      rw [h n (by omega) (by omega)]
      omega
/-- one number left out -/
def ok_sk (e i : Nat) : Nat := if i < e then i else i + 1
theorem ok_sk_l {e i : Nat} (h : i < e) : ok_sk e i = i := if_pos h
theorem ok_sk_g {e i : Nat} (h : e ≤ i) : ok_sk e i = i + 1 := if_neg (by omega)
theorem ok_sk_ne (e i : Nat) : ok_sk e i ≠ e := by unfold ok_sk; split <;> omega
theorem ok_sk_lt (e i j : Nat) : ok_sk e i < ok_sk e j ↔ i < j := by unfold ok_sk; split <;> split <;> omega
theorem ok_sk_b {e i c : Nat} (he : e < c + 1) (hi : i < c) : ok_sk e i < c + 1 := by unfold ok_sk; split <;> omega
theorem ok_cn_sk (p : Nat → Bool) {e n : Nat} (h : e ≤ n) : ok_cn (fun i => p (ok_sk e i)) n + (p e).toNat = ok_cn p (n + 1) := by
  induction n with
  | zero =>
    have z : e = 0 := by omega
    subst z
    rfl
  | succ n ih =>
    by_cases z : e = n + 1
    · subst z
      rw [ok_cn_s p (n + 1)]
      rw [ok_cn_eq (p := fun i => p (ok_sk (n + 1) i)) (q := p) (n := n + 1) (fun i hi => by rw [ok_sk_l hi])]
    · have h1 := ih (by omega)
      rw [ok_cn_s, ok_cn_s p (n + 1), ← h1]
      show _ + (p (ok_sk e n)).toNat + _ = _
      rw [ok_sk_g (by omega)]
      omega
/-- n different numbers below n are all of them -/
theorem ok_sur : ∀ (n : Nat) (f : Nat → Nat), (∀ i, i < n → f i < n) → (∀ i j, i < n → j < n → f i = f j → i = j) → ∀ p, p < n → ∃ i, i < n ∧ f i = p := by
  intro n
  induction n with
  | zero => intro f _ _ p hp; omega
  | succ n ih =>
    intro f hb hi p hp
    by_cases z : p = f n
    · exact ⟨n, by omega, z.symm⟩
    · have hm := hb n (by omega)
      have hg := ih (fun i => if f i = n then f n else f i) (by
        intro i h
        show (if f i = n then f n else f i) < n
        have h1 := hb i (by omega)
        split
        · rename_i e
          have h2 : f n ≠ n := fun w => by have := hi i n (by omega) (by omega) (by omega); omega
          omega
        · omega) (by
        intro i j h1 h2 e
        have e : (if f i = n then f n else f i) = (if f j = n then f n else f j) := e
        split at e <;> split at e
        · exact hi i j (by omega) (by omega) (by omega)
        · have := hi n j (by omega) (by omega) e; omega
        · have := hi i n (by omega) (by omega) e; omega
        · exact hi i j (by omega) (by omega) e)
      by_cases w : p = n
      · obtain ⟨i, h1, e⟩ := hg (f n) (by omega)
        have e : (if f i = n then f n else f i) = f n := e
        split at e
        · exact ⟨i, by omega, by omega⟩
        · have := hi i n (by omega) (by omega) e; omega
      · obtain ⟨i, h1, e⟩ := hg p (by omega)
        have e : (if f i = n then f n else f i) = p := e
        split at e
        · exact absurd e.symm z
        · exact ⟨i, by omega, e⟩
section
variable {R : Nat → Nat → Bool} {c : Nat}
/-- a strict total order of the numbers below c -/
def ok_Or (R : Nat → Nat → Bool) (c : Nat) : Prop := (∀ i, i < c → R i i = false) ∧ (∀ i j k, i < c → j < c → k < c → R i j = true → R j k = true → R i k = true) ∧ (∀ i j, i < c → j < c → i ≠ j → R i j = true ∨ R j i = true)
def ok_rk (R : Nat → Nat → Bool) (c e : Nat) : Nat := ok_cn (fun i => R i e) c
theorem ok_rk_lt (h : ok_Or R c) {i e : Nat} (hi : i < c) (he : e < c) (k : R i e = true) : ok_rk R c i < ok_rk R c e :=
  ok_cn_lt (j := i) (fun j hj hp => h.2.1 j i e hj hi he hp k) hi (h.1 i hi) k
theorem ok_rk_iff (h : ok_Or R c) {i e : Nat} (hi : i < c) (he : e < c) : R i e = true ↔ ok_rk R c i < ok_rk R c e := by
  constructor
  · exact ok_rk_lt h hi he
  · intro k
    by_cases z : i = e
    · subst z; omega
    · rcases h.2.2 i e hi he z with r | r
      · exact r
      · have := ok_rk_lt h he hi r; omega
theorem ok_rk_inj (h : ok_Or R c) {i e : Nat} (hi : i < c) (he : e < c) (k : ok_rk R c i = ok_rk R c e) : i = e := by
  by_cases z : i = e
  · exact z
  · rcases h.2.2 i e hi he z with r | r
    · have := ok_rk_lt h hi he r; omega
    · have := ok_rk_lt h he hi r; omega
/-- a set that is closed downwards is told by the ranks -/
theorem ok_rk_set (h : ok_Or R c) {S : Nat → Bool} (hS : ∀ i e, i < c → e < c → R i e = true → S e = true → S i = true) {e : Nat} (he : e < c) : S e = true ↔ ok_rk R c e < ok_cn S c := by
  constructor
  · intro k
    exact ok_cn_lt (j := e) (fun j hj hp => hS j e hj he hp k) he (h.1 e he) k
  · intro k
    cases s : S e with
    | true => rfl
    | false =>
      have := ok_cn_mono (p := S) (q := fun i => R i e) (n := c) (fun j hj hp => by
        by_cases z : j = e
        · subst z; rw [s] at hp; cases hp
        · rcases h.2.2 j e hj he z with r | r
          · exact r
          · have := hS e j he hj r hp; rw [s] at this; cases this)
      unfold ok_rk at k
      omega
theorem ok_rk_b (h : ok_Or R c) {e : Nat} (he : e < c) : ok_rk R c e < c := by
  have h1 := (ok_rk_set h (S := fun _ => true) (fun _ _ _ _ _ _ => rfl) he).mp rfl
  have h2 := ok_cn_le (fun _ => true) c
  omega
/-- every position is taken -/
theorem ok_rk_sur (h : ok_Or R c) {p : Nat} (hp : p < c) : ∃ e, e < c ∧ ok_rk R c e = p :=
  ok_sur c (ok_rk R c) (fun i hi => ok_rk_b h hi) (fun i j hi hj e => ok_rk_inj h hi hj e) p hp
end
end
section
/-! the keys: fields of a cell, a tuple's key, the order of the entries -/
def ok_bit (sc : Int32) (f : Nat) (m : Int32) : Bool := decide (((sc >>> ((4 * nI f) &&& 31)) &&& m) = m)
def ok_bo (b : Bool) : Int32 := if b = true then 1 else 0
theorem ok_bo_t : ok_bo true = 1 := rfl
theorem ok_bo_f : ok_bo false = 0 := rfl
/-- the characters of a text: l cells from k on -/
def ok_cs (ch : Nat → Int32) : Nat → Nat → List Nat
  | _, 0 => []
  | k, l + 1 => (ch k).toNatClampNeg :: ok_cs ch (k + 1) l
theorem ok_cs_s (ch : Nat → Int32) (k l : Nat) : ok_cs ch k (l + 1) = (ch k).toNatClampNeg :: ok_cs ch (k + 1) l := rfl
theorem ok_cs_0 (ch : Nat → Int32) (k : Nat) : ok_cs ch k 0 = [] := rfl
theorem ok_cs_len (ch : Nat → Int32) (k l : Nat) : (ok_cs ch k l).length = l := by
  induction l generalizing k with
  | zero => rfl
  | succ l ih => rw [ok_cs_s, List.length_cons, ih]
theorem ok_cs_By {ch : Nat → Int32} (k l : Nat) (h : ∀ i, i < l → ∃ x, x < 256 ∧ ch (k + i) = nI x) : ok_By (ok_cs ch k l) := by
  induction l generalizing k with
  | zero => exact ok_By_0
  | succ l ih =>
    rw [ok_cs_s, ok_By_c]
    refine ⟨?_, ih (k + 1) (fun i hi => ?_)⟩
    · obtain ⟨x, hx, e⟩ := h 0 (by omega)
      have e : ch k = nI x := e
      rw [e, nI_clamp (by omega)]
      exact hx
    · have := h (i + 1) (by omega)
      rw [show k + (i + 1) = k + 1 + i by omega] at this
      exact this
theorem ok_cs_eq {ch ch' : Nat → Int32} (k k' l : Nat) (h : ∀ i, i < l → ch (k + i) = ch' (k' + i)) : ok_cs ch k l = ok_cs ch' k' l := by
  induction l generalizing k k' with
  | zero => rfl
  | succ l ih =>
    rw [ok_cs_s, ok_cs_s, ih (k + 1) (k' + 1) (fun i hi => ?_)]
    · rw [show ch k = ch' k' from h 0 (by omega)]
    · have := h (i + 1) (by omega)
      rw [show k + (i + 1) = k + 1 + i by omega, show k' + (i + 1) = k' + 1 + i by omega] at this
      exact this
/-- a value's bytes before they are turned -/
def ok_vb (te : Bool) (v : Int32) (A : List Nat) : List Nat := if te = true then ok_tx A else ok_ib (ok_un v)
/-- a field's bytes -/
def ok_ef (sc : Int32) (f : Nat) (nul v : Int32) (A : List Nat) : List Nat :=
  if nul = 0 then 1 :: (ok_vb (ok_bit sc f 1) v A).map (ok_tn (ok_bit sc f 2)) else [if ok_bit sc f 4 = true then 0 else 2]
theorem ok_ef_v {sc : Int32} {f : Nat} {nul v : Int32} {A : List Nat} (h : nul = 0) : ok_ef sc f nul v A = 1 :: (ok_vb (ok_bit sc f 1) v A).map (ok_tn (ok_bit sc f 2)) := if_pos h
theorem ok_ef_n {sc : Int32} {f : Nat} {nul v : Int32} {A : List Nat} (h : ¬ nul = 0) : ok_ef sc f nul v A = [if ok_bit sc f 4 = true then 0 else 2] := if_neg h
theorem ok_vb_By (te : Bool) (v : Int32) {A : List Nat} (h : ok_By A) : ok_By (ok_vb te v A) := by
  unfold ok_vb; split
  · exact ok_tx_By A h
  · exact ok_ib_By _
theorem ok_vb_len (te : Bool) (v : Int32) {A : List Nat} (h : A.length ≤ 6) : (ok_vb te v A).length ≤ 14 := by
  unfold ok_vb; split
  · have := ok_tx_len A; omega
  · show 4 ≤ 14; decide
theorem ok_vb_Tri (te : Bool) (v w : Int32) (A B : List Nat) : ok_Tri (ok_vb te v A) (ok_vb te w B) := by
  unfold ok_vb; split
  · exact ok_tx_Tri A B
  · exact ok_ib_Tri (ok_un_lt v) (ok_un_lt w)
theorem ok_ef_By {sc : Int32} {f : Nat} {nul v : Int32} {A : List Nat} (h : ok_By A) : ok_By (ok_ef sc f nul v A) := by
  unfold ok_ef; split
  · rw [ok_By_c]; exact ⟨by decide, ok_By_map _ (ok_vb_By _ v h)⟩
  · rw [ok_By_c]; refine ⟨?_, ok_By_0⟩; split <;> decide
theorem ok_ef_len {sc : Int32} {f : Nat} {nul v : Int32} {A : List Nat} (h : A.length ≤ 6) : (ok_ef sc f nul v A).length ≤ 15 := by
  unfold ok_ef; split
  · rw [List.length_cons, List.length_map]; have := ok_vb_len (ok_bit sc f 1) v h; omega
  · show 1 ≤ 15; decide
/-- a field of two cells, as the reference compares it -/
def ok_fc (sc : Int32) (f : Nat) (n1 v1 : Int32) (A : List Nat) (n2 v2 : Int32) (B : List Nat) : Int32 :=
  if n1 = 0 then
    if n2 = 0 then (if ok_bit sc f 2 = true then - ok_sg (ok_vb (ok_bit sc f 1) v1 A) (ok_vb (ok_bit sc f 1) v2 B) else ok_sg (ok_vb (ok_bit sc f 1) v1 A) (ok_vb (ok_bit sc f 1) v2 B))
    else (if ok_bit sc f 4 = true then 1 else -1)
  else if n2 = 0 then (if ok_bit sc f 4 = true then -1 else 1) else 0
theorem ok_ef_sg {sc : Int32} {f : Nat} {n1 v1 n2 v2 : Int32} {A B : List Nat} (hA : ok_By A) (hB : ok_By B) : ok_Tri (ok_ef sc f n1 v1 A) (ok_ef sc f n2 v2 B) ∧ ok_sg (ok_ef sc f n1 v1 A) (ok_ef sc f n2 v2 B) = ok_fc sc f n1 v1 A n2 v2 B := by
  unfold ok_fc
  by_cases h1 : n1 = 0
  · rw [ok_ef_v h1, if_pos h1]
    by_cases h2 : n2 = 0
    · rw [ok_ef_v h2, if_pos h2]
      have h := ok_sg_t (ok_bit sc f 2) (ok_vb_By (ok_bit sc f 1) v1 hA) (ok_vb_By (ok_bit sc f 1) v2 hB) (ok_vb_Tri (ok_bit sc f 1) v1 v2 A B)
      exact ⟨ok_Tri_app (A := [1]) (B := [1]) (Or.inr (Or.inl rfl)) h.1, (ok_sg_pre [1] _ _).trans h.2⟩
    · rw [ok_ef_n h2, if_neg h2]
      cases ok_bit sc f 4 with
      | true =>
        have e : ok_dl [if true = true then 0 else 2] (1 :: (ok_vb (ok_bit sc f 1) v1 A).map (ok_tn (ok_bit sc f 2))) = true := by rw [ok_dl_c]; exact Or.inl (by decide)
        exact ⟨Or.inr (Or.inr e), ok_sg_g e⟩
      | false =>
        have e : ok_dl (1 :: (ok_vb (ok_bit sc f 1) v1 A).map (ok_tn (ok_bit sc f 2))) [if false = true then 0 else 2] = true := by rw [ok_dl_c]; exact Or.inl (by decide)
        exact ⟨Or.inl e, ok_sg_l e⟩
  · rw [ok_ef_n h1, if_neg h1]
    by_cases h2 : n2 = 0
    · rw [ok_ef_v h2, if_pos h2]
      cases ok_bit sc f 4 with
      | true =>
        have e : ok_dl [if true = true then 0 else 2] (1 :: (ok_vb (ok_bit sc f 1) v2 B).map (ok_tn (ok_bit sc f 2))) = true := by rw [ok_dl_c]; exact Or.inl (by decide)
        exact ⟨Or.inl e, ok_sg_l e⟩
      | false =>
        have e : ok_dl (1 :: (ok_vb (ok_bit sc f 1) v2 B).map (ok_tn (ok_bit sc f 2))) [if false = true then 0 else 2] = true := by rw [ok_dl_c]; exact Or.inl (by decide)
        exact ⟨Or.inr (Or.inr e), ok_sg_g e⟩
    · rw [ok_ef_n h2, if_neg h2]
      exact ⟨Or.inr (Or.inl rfl), ok_sg_e _⟩
/-- the first n fields, one behind the other -/
def ok_en (g : Nat → List Nat) : Nat → List Nat
  | 0 => []
  | n + 1 => ok_en g n ++ g n
theorem ok_en_s (g : Nat → List Nat) (n : Nat) : ok_en g (n + 1) = ok_en g n ++ g n := rfl
theorem ok_en_len {g : Nat → List Nat} {n : Nat} (h : ∀ f, f < n → (g f).length ≤ 15) : (ok_en g n).length ≤ 15 * n := by
  induction n with
  | zero => exact Nat.le_refl 0
  | succ n ih =>
    rw [ok_en_s, List.length_append]
    have := ih (fun f hf => h f (by omega))
    have := h n (by omega)
    omega
theorem ok_en_By {g : Nat → List Nat} {n : Nat} (h : ∀ f, f < n → ok_By (g f)) : ok_By (ok_en g n) := by
  induction n with
  | zero => exact ok_By_0
  | succ n ih => exact ok_By_app (ih (fun f hf => h f (by omega))) (h n (by omega))
theorem ok_en_eq {g g' : Nat → List Nat} {n : Nat} (h : ∀ f, f < n → g f = g' f) : ok_en g n = ok_en g' n := by
  induction n with
  | zero => rfl
  | succ n ih => rw [ok_en_s, ok_en_s, ih (fun f hf => h f (by omega)), h n (by omega)]
theorem ok_en_cut (g : Nat → List Nat) {n m : Nat} (h : n ≤ m) : ∃ T, ok_en g m = ok_en g n ++ T := by
  induction m with
  | zero => have : n = 0 := by omega
            subst this; exact ⟨[], rfl⟩
  | succ m ih =>
    by_cases z : n = m + 1
    · subst z; exact ⟨[], (List.append_nil _).symm⟩
    · obtain ⟨T, e⟩ := ih (by omega)
      exact ⟨T ++ g m, by rw [ok_en_s, e, List.append_assoc]⟩
theorem ok_en_Tri {g g' : Nat → List Nat} {n : Nat} (h : ∀ f, f < n → ok_Tri (g f) (g' f)) : ok_Tri (ok_en g n) (ok_en g' n) := by
  induction n with
  | zero => exact Or.inr (Or.inl rfl)
  | succ n ih => exact ok_Tri_app (ih (fun f hf => h f (by omega))) (h n (by omega))
/-- the entries' order: by key, then by number -/
def ok_lt (K : Nat → List Nat) (i e : Nat) : Bool := ok_dl (K i) (K e) || (!ok_dl (K e) (K i) && decide (i < e))
theorem ok_lt_iff (K : Nat → List Nat) (i e : Nat) : ok_lt K i e = true ↔ ok_dl (K i) (K e) = true ∨ (ok_dl (K e) (K i) = false ∧ i < e) := by
  unfold ok_lt; simp
theorem ok_lt_or {K : Nat → List Nat} {c : Nat} (h : ∀ i e, i < c → e < c → ok_Tri (K i) (K e)) : ok_Or (ok_lt K) c := by
  refine ⟨fun i hi => ?_, fun i j k hi hj hk h1 h2 => ?_, fun i j hi hj hn => ?_⟩
  · unfold ok_lt; rw [ok_dl_irr]; simp
  · rw [ok_lt_iff] at h1 h2 ⊢
    rcases h1 with h1 | ⟨h1, g1⟩
    · rcases h2 with h2 | ⟨h2, g2⟩
      · exact Or.inl (ok_dl_tr _ _ _ h1 h2)
      · rcases h j k hj hk with t | t | t
        · exact Or.inl (ok_dl_tr _ _ _ h1 t)
        · rw [← t]; exact Or.inl h1
        · rw [t] at h2; cases h2
    · rcases h i j hi hj with s | s | s
      · rcases h2 with h2 | ⟨h2, g2⟩
        · exact Or.inl (ok_dl_tr _ _ _ s h2)
        · rcases h j k hj hk with t | t | t
          · exact Or.inl (ok_dl_tr _ _ _ s t)
          · rw [← t]; exact Or.inl s
          · rw [t] at h2; cases h2
      · rw [s]
        rcases h2 with h2 | ⟨h2, g2⟩
        · exact Or.inl h2
        · exact Or.inr ⟨h2, by omega⟩
      · rw [s] at h1; cases h1
  · rw [ok_lt_iff, ok_lt_iff]
    rcases h i j hi hj with t | t | t
    · exact Or.inl (Or.inl t)
    · rw [t, ok_dl_irr]
      rcases Nat.lt_or_gt_of_ne hn with g | g
      · exact Or.inl (Or.inr ⟨rfl, g⟩)
      · exact Or.inr (Or.inr ⟨rfl, g⟩)
    · exact Or.inr (Or.inl t)
/-- entries below a probe, and entries not above it, stand first: Q e is the part of K e that the probe P is compared with -/
theorem ok_set_lt {K Q : Nat → List Nat} {P : List Nat} {c : Nat} (hK : ∀ e, e < c → ∃ T, K e = Q e ++ T) (hQ : ∀ i e, i < c → e < c → ok_Tri (Q i) (Q e)) : ∀ i e, i < c → e < c → ok_lt K i e = true → ok_dl (Q e) P = true → ok_dl (Q i) P = true := by
  intro i e hi he h k
  obtain ⟨T, hT⟩ := hK i hi
  obtain ⟨U, hU⟩ := hK e he
  rw [ok_lt_iff, hT, hU] at h
  rcases hQ i e hi he with t | t | t
  · exact ok_dl_tr _ _ _ t k
  · rw [t]; exact k
  · have z := ok_dl_app _ _ U T t
    rcases h with h | ⟨h, _⟩
    · rw [ok_dl_as h] at z; cases z
    · rw [h] at z; cases z
theorem ok_set_le {K Q : Nat → List Nat} {P : List Nat} {c : Nat} (hK : ∀ e, e < c → ∃ T, K e = Q e ++ T) (hQ : ∀ i e, i < c → e < c → ok_Tri (Q i) (Q e)) : ∀ i e, i < c → e < c → ok_lt K i e = true → (!ok_dl P (Q e)) = true → (!ok_dl P (Q i)) = true := by
  intro i e hi he h k
  obtain ⟨T, hT⟩ := hK i hi
  obtain ⟨U, hU⟩ := hK e he
  rw [ok_lt_iff, hT, hU] at h
  cases w : ok_dl P (Q i) with
  | false => rfl
  | true =>
    rcases hQ i e hi he with t | t | t
    · rw [ok_dl_tr _ _ _ w t] at k; cases k
    · rw [← t, w] at k; cases k
    · have z := ok_dl_app _ _ U T t
      rcases h with h | ⟨h, _⟩
      · rw [ok_dl_as h] at z; cases z
      · rw [h] at z; cases z
end
section
/-! reading a list by place; the component's comparison of two byte lists -/
def ok_at : List Nat → Nat → Nat
  | [], _ => 0
  | a :: _, 0 => a
  | _ :: A, i + 1 => ok_at A i
theorem ok_at_l {A : List Nat} (B : List Nat) {i : Nat} (h : i < A.length) : ok_at (A ++ B) i = ok_at A i := by
  induction A generalizing i with
  | nil => exact absurd h (Nat.not_lt_zero _)
  | cons a A ih =>
    cases i with
    | zero => rfl
    | succ i => exact ih (by rw [List.length_cons] at h; omega)
theorem ok_at_m (A : List Nat) (b : Nat) (B : List Nat) : ok_at (A ++ b :: B) A.length = b := by
  induction A with
  | nil => rfl
  | cons a A ih => exact ih
theorem ok_at_d {L : List Nat} {i : Nat} (h : i < L.length) : L.drop i = ok_at L i :: L.drop (i + 1) := by
  induction L generalizing i with
  | nil => exact absurd h (Nat.not_lt_zero _)
  | cons a A ih =>
    cases i with
    | zero => rfl
    | succ i => exact ih (by rw [List.length_cons] at h; omega)
theorem ok_at_By {L : List Nat} (h : ok_By L) (i : Nat) : ok_at L i < 256 := by
  induction L generalizing i with
  | nil => show 0 < 256; decide
  | cons a A ih =>
    rw [ok_By_c] at h
    cases i with
    | zero => exact h.1
    | succ i => exact ih h.2 i
theorem ok_at_cs (ch : Nat → Int32) (k l : Nat) {i : Nat} (h : i < l) : ok_at (ok_cs ch k l) i = (ch (k + i)).toNatClampNeg := by
  induction l generalizing k i with
  | zero => omega
  | succ l ih =>
    cases i with
    | zero => rfl
    | succ i =>
      have := ih (k + 1) (i := i) (by omega)
      rw [show k + (i + 1) = k + 1 + i by omega]
      exact this
def ok_Pr (pb : Nat → Int32) (L : List Nat) : Prop := ∀ i, i < L.length → pb i = nI (ok_at L i)
def ok_Kr (ks : Nat → Int32) (q : Nat) (L : List Nat) : Prop := ∀ i, i < L.length → ks (q * 64 + i) = nI (ok_at L i)
theorem ok_Pr_0 (pb : Nat → Int32) : ok_Pr pb [] := fun i h => absurd h (Nat.not_lt_zero _)
theorem ok_Pr_s {pb : Nat → Int32} {L : List Nat} {b : Nat} (h : ok_Pr pb L) : ok_Pr (upd pb L.length (nI b)) (L ++ [b]) := by
  intro i hi
  rw [List.length_append] at hi
  have hi : i < L.length + 1 := hi
  by_cases z : i = L.length
  · subst z
    rw [pk_us, ok_at_m]
  · rw [pk_un z, ok_at_l _ (by omega)]
    exact h i (by omega)
/-- the component's comparison -/
def ok_xc (pre : Bool) : List Nat → List Nat → Int32
  | [], [] => 0
  | _ :: _, [] => if pre = true then 0 else 1
  | [], _ :: _ => -1
  | k :: K, p :: P => if k = p then ok_xc pre K P else nI k - nI p
theorem ok_xc_lt (pre : Bool) : ∀ (K P : List Nat), ok_By K → ok_By P → ok_dl K P = true → ok_xc pre K P < 0
  | [], P, _, _, h => by rw [ok_dl_nl] at h; cases h
  | k :: K, [], _, _, h => by rw [ok_dl_nr] at h; cases h
  | k :: K, p :: P, hk, hp, h => by
    rw [ok_By_c] at hk hp
    rw [ok_dl_c] at h
    unfold ok_xc
    rcases h with h | ⟨h, g⟩
    · rw [if_neg (by omega)]
      exact pk_sneg (by omega) h
    · rw [if_pos h]
      exact ok_xc_lt pre K P hk.2 hp.2 g
theorem ok_xc_gt (pre : Bool) : ∀ (K P : List Nat), ok_By K → ok_By P → ok_dl P K = true → 0 < ok_xc pre K P
  | [], P, _, _, h => by rw [ok_dl_nr] at h; cases h
  | k :: K, [], _, _, h => by rw [ok_dl_nl] at h; cases h
  | k :: K, p :: P, hk, hp, h => by
    rw [ok_By_c] at hk hp
    rw [ok_dl_c] at h
    unfold ok_xc
    rcases h with h | ⟨h, g⟩
    · rw [if_neg (by omega), pk_sub (by omega)]
      exact nI_lt (a := 0) (by omega) (by omega)
    · rw [if_pos h.symm]
      exact ok_xc_gt pre K P hk.2 hp.2 g
theorem ok_xc_e (pre : Bool) (P T : List Nat) (h : pre = true ∨ T = []) : ok_xc pre (P ++ T) P = 0 := by
  induction P with
  | nil =>
    rcases h with h | h
    · cases T with
      | nil => rfl
      | cons t T => show (if pre = true then (0 : Int32) else 1) = 0; rw [if_pos h]
    · subst h; rfl
  | cons p P ih =>
    show (if p = p then ok_xc pre (P ++ T) P else nI p - nI p) = 0
    rw [if_pos rfl]
    exact ih
theorem ok_xc_iff {pre : Bool} {K Q T P : List Nat} (hK : K = Q ++ T) (hT : pre = true ∨ T = []) (bK : ok_By K) (bP : ok_By P) (t : ok_Tri Q P) : (ok_xc pre K P < 0 ↔ ok_dl Q P = true) ∧ (0 < ok_xc pre K P ↔ ok_dl P Q = true) := by
  have n1 : ¬ (0 : Int32) < 0 := by decide
  rcases t with t | t | t
  · have h : ok_dl K P = true := by
      have := ok_dl_app Q P T [] t
      rw [List.append_nil] at this
      rw [hK]; exact this
    have h1 := ok_xc_lt pre K P bK bP h
    refine ⟨⟨fun _ => t, fun _ => h1⟩, ⟨fun z => ?_, fun z => ?_⟩⟩
    · exact absurd (Int32.lt_trans z h1) n1
    · rw [ok_dl_as t] at z; cases z
  · subst t
    rw [hK, ok_xc_e pre Q T hT, ok_dl_irr]
    exact ⟨⟨fun z => absurd z n1, fun z => by cases z⟩, ⟨fun z => absurd z n1, fun z => by cases z⟩⟩
  · have h : ok_dl P K = true := by
      have := ok_dl_app P Q [] T t
      rw [List.append_nil] at this
      rw [hK]; exact this
    have h1 := ok_xc_gt pre K P bK bP h
    refine ⟨⟨fun z => ?_, fun z => ?_⟩, ⟨fun _ => t, fun _ => h1⟩⟩
    · exact absurd (Int32.lt_trans h1 z) n1
    · rw [ok_dl_as t] at z; cases z
/-- small numbers -/
theorem ok_ix (a b k : Nat) {x : Int32} (hx : x = nI k := by rfl) : nI a * x + nI b = nI (a * k + b) := by
  subst hx
  rw [pk_mul, nI_add]
theorem ok_nar (b : Nat) (hb : b < 256) : vp_nar .short (nI b).toInt16.toInt32 = nI b ∧ vp_nar .short (nI b) = nI b := by
  have h : ∀ b, b < 256 → (nI b).toInt16.toInt32 = nI b := by decide +kernel
  rw [vp_nar_short, vp_nar_short, h b hb, h b hb]
  exact ⟨rfl, rfl⟩
theorem ok_nb1 : vp_nar .boolean 1 = 1 := rfl
theorem ok_nb0 : vp_nar .boolean 0 = 0 := rfl
theorem ok_nb01 {x : Int32} (h : x = 0 ∨ x = 1) : vp_nar .boolean x = x := by
  rcases h with h | h
  · subst h; rfl
  · subst h; rfl
theorem ok_255 {b : Nat} (h : b < 256) : (255 : Int32) - nI b = nI (255 - b) := pk_sub (a := 255) (by omega)
theorem ok_nu (x : Int32) : x = nI x.toBitVec.toNat := by
  apply Int32.toBitVec_inj.mp
  apply BitVec.eq_of_toNat_eq
  rw [pk_tn x.toBitVec.isLt]
theorem ok_un_n (v : Int32) : v ^^^ (-2147483648) = nI (ok_un v) := ok_nu _
theorem ok_un_b (v : Int32) : nI (ok_un v) ^^^ (-2147483648) = v := by
  rw [← ok_un_n, Int32.xor_assoc, Int32.xor_self, Int32.xor_zero]
theorem ok_or (a b : Nat) : nI a ||| nI b = nI (a ||| b) := by
  apply Int32.toBitVec_inj.1
  show BitVec.ofNat 32 a ||| BitVec.ofNat 32 b = BitVec.ofNat 32 (a ||| b)
  apply BitVec.eq_of_getLsbD_eq
  intro i hi
  simp [hi]
theorem ok_shl8 {a b : Nat} (hb : b < 256) (h : a * 256 + b < 4294967296) : (nI a <<< ((8 : Int32) &&& 31)) ||| nI b = nI (a * 256 + b) := by
  rw [pk_shlN ((8 : Int32) &&& 31) 8 (by decide) (by omega), ok_or]
  have := Nat.two_pow_add_eq_or_of_lt (i := 8) (b := b) hb a
  rw [Nat.mul_comm a, ← this]
theorem ok_byte {w : Nat} (hw : w < 4294967296) (s : Nat) (hs : (((nI s).toUInt32 &&& Int32.toUInt32 31).toBitVec % 32).toNat = s) : (((nI w).toUInt32 >>> ((nI s).toUInt32 &&& Int32.toUInt32 31)).toInt32) &&& 255 = nI (w / 2 ^ s % 256) := by
  rw [pk_ushrN hw (nI s) s hs, pk_andN (Nat.lt_of_le_of_lt (Nat.div_le_self _ _) hw) 8 (by decide)]
end
section
/-! the component's keys are made -/
theorem ok_tx_c {c : Nat} (A : List Nat) (z : ¬ c = 0) : ok_tx (c :: A) = c :: ok_tx A := if_neg z
section
variable {xF sc xc pL rA : Int32} {sN sI sL sT od us tg kL ks pb : Nat → Int32}
theorem ok_xde {post : Int32 → Prop} (f : Nat) (h : post (ok_bo (ok_bit sc f 2))) : wpX_descending post (xF, sc, xc, pL, rA, sN, sI, sL, sT, od, us, tg, kL, ks, pb) (nI f) := by
  unfold wpX_descending
  dsimp only
  refine ⟨fun c => ?_, fun c => ?_⟩
  · rw [show ok_bit sc f 2 = true from decide_eq_true c] at h; exact h
  · rw [show ok_bit sc f 2 = false from decide_eq_false c] at h; exact h
theorem ok_xte {post : Int32 → Prop} (f : Nat) (h : post (ok_bo (ok_bit sc f 1))) : wpX_isText post (xF, sc, xc, pL, rA, sN, sI, sL, sT, od, us, tg, kL, ks, pb) (nI f) := by
  unfold wpX_isText
  dsimp only
  refine ⟨fun c => ?_, fun c => ?_⟩
  · rw [show ok_bit sc f 1 = true from decide_eq_true c] at h; exact h
  · rw [show ok_bit sc f 1 = false from decide_eq_false c] at h; exact h
theorem ok_xfi {post : Int32 → Prop} (f : Nat) (h : post (ok_bo (ok_bit sc f 4))) : wpX_nullsFirst post (xF, sc, xc, pL, rA, sN, sI, sL, sT, od, us, tg, kL, ks, pb) (nI f) := by
  unfold wpX_nullsFirst
  dsimp only
  refine ⟨fun c => ?_, fun c => ?_⟩
  · rw [show ok_bit sc f 4 = true from decide_eq_true c] at h; exact h
  · rw [show ok_bit sc f 4 = false from decide_eq_false c] at h; exact h
theorem ok_emit {post : SX → Prop} {L : List Nat} {b : Nat} (hp : ok_Pr pb L) (hL : L.length < 64) (hb : b < 256)
    (k : ∀ pb', ok_Pr pb' (L ++ [b]) → post (xF, sc, xc, nI (L ++ [b]).length, rA, sN, sI, sL, sT, od, us, tg, kL, ks, pb')) : wpX_emit post (xF, sc, xc, nI L.length, rA, sN, sI, sL, sT, od, us, tg, kL, ks, pb) (nI b) := by
  unfold wpX_emit
  dsimp only
  refine br_t (nI_lt (b := 64) hL (by decide)) ⟨vp_in_nI hL (by decide), nm_r (e' := upd pb L.length (nI b)) (by rw [nI_clamp (by omega), (ok_nar b hb).1]) (nm_r (nI_1 _) ?_)⟩
  have := k (upd pb L.length (nI b)) (ok_Pr_s hp)
  rw [List.length_append] at this
  exact this
theorem ok_emT {post : SX → Prop} {L : List Nat} {b f : Nat} (hp : ok_Pr pb L) (hL : L.length < 64) (hb : b < 256)
    (k : ∀ pb', ok_Pr pb' (L ++ [ok_tn (ok_bit sc f 2) b]) → post (xF, sc, xc, nI (L ++ [ok_tn (ok_bit sc f 2) b]).length, rA, sN, sI, sL, sT, od, us, tg, kL, ks, pb')) : wpX_emitTurned post (xF, sc, xc, nI L.length, rA, sN, sI, sL, sT, od, us, tg, kL, ks, pb) (nI b) (nI f) := by
  unfold wpX_emitTurned
  dsimp only
  refine ok_xde f ?_
  cases e : ok_bit sc f 2 with
  | false =>
    rw [e] at k
    refine br_t rfl ?_
    unfold wX_emitTurned_20
    exact ok_emit hp hL hb k
  | true =>
    rw [e] at k
    refine br_f (by decide) ?_
    unfold wX_emitTurned_20
    rw [ok_255 hb]
    exact ok_emit hp hL (by omega) k
theorem ok_emX {post : SX → Prop} {f l : Nat} (hf : f < 4) (hl : sL f = nI l) (hl6 : l ≤ 6) (hc : ∀ i, i < l → ∃ x, x < 256 ∧ sT (f * 6 + i) = nI x) :
    ∀ (d i n : Nat) (L : List Nat) (pb : Nat → Int32), i + d = l → d < n → L.length + 2 * d + 2 ≤ 64 → ok_Pr pb L →
      (∀ M pb', M = L ++ (ok_tx (ok_cs sT (f * 6 + i) d)).map (ok_tn (ok_bit sc f 2)) → ok_Pr pb' M → post (xF, sc, xc, nI M.length, rA, sN, sI, sL, sT, od, us, tg, kL, ks, pb')) →
      wX_emitText_2 post (nI f) n (nI i) xF sc xc (nI L.length) rA sN sI sL sT od us tg kL ks pb := by
  intro d
  induction d with
  | zero =>
    intro i n L pb hi hn hL hp k
    obtain ⟨n, rfl⟩ : ∃ m, n = m + 1 := ⟨n - 1, by omega⟩
    refine And.intro (vp_in_nI hf (by decide)) ?_
    rw [nI_clamp (show f < 2 ^ 31 by omega), hl]
    refine br_t (nI_le (by omega) (by omega)) ?_
    refine ok_emT (b := 0) hp (by omega) (by decide) (fun pb1 h1 => ?_)
    refine ok_emT (b := 1) h1 (by rw [List.length_append]; show L.length + 1 < 64; omega) (by decide) (fun pb2 h2 => ?_)
    exact k _ pb2 (by rw [List.append_assoc]; rfl) h2
  | succ d ih =>
    intro i n L pb hi hn hL hp k
    obtain ⟨n, rfl⟩ : ∃ m, n = m + 1 := ⟨n - 1, by omega⟩
    obtain ⟨x, hx, ex⟩ := hc i (by omega)
    refine And.intro (vp_in_nI hf (by decide)) ?_
    rw [nI_clamp (show f < 2 ^ 31 by omega), hl]
    refine br_f (nI_ge (by omega) (by omega)) ?_
    have e2 : nI f * 6 + nI i = nI (f * 6 + i) := ok_ix f i 6
    rw [e2]
    refine ⟨vp_in_nI (by omega) (by decide), nm_r (e' := nI x) (by rw [nI_clamp (by omega)]; exact ex) ?_⟩
    have e3 : ok_cs sT (f * 6 + i) (d + 1) = x :: ok_cs sT (f * 6 + (i + 1)) d := by
      rw [ok_cs_s, ex, nI_clamp (by omega)]; rfl
    rw [e3] at k
    refine ok_emT hp (by omega) hx (fun pb1 h1 => ?_)
    by_cases z : x = 0
    · subst z
      refine br_t rfl ?_
      refine ok_emT (b := 255) h1 (by rw [List.length_append]; show L.length + 1 < 64; omega) (by decide) (fun pb2 h2 => ?_)
      refine nm_r (nI_1 _) ?_
      refine ih (i + 1) n _ pb2 (by omega) (by omega) (by rw [List.length_append, List.length_append]; show L.length + 1 + 1 + 2 * d + 2 ≤ 64; omega) h2 (fun M pb' hM hp' => k M pb' ?_ hp')
      rw [hM, List.append_assoc, List.append_assoc]
      rfl
    · refine br_f (nI_ne0 (by omega) (by omega)) ?_
      refine nm_r (nI_1 _) ?_
      refine ih (i + 1) n _ pb1 (by omega) (by omega) (by rw [List.length_append]; show L.length + 1 + 2 * d + 2 ≤ 64; omega) h1 (fun M pb' hM hp' => k M pb' ?_ hp')
      rw [hM, List.append_assoc]
      rw [ok_tx_c _ z]
      rfl
theorem ok_emI1 {post : SX → Prop} {f w n s : Nat} (hw : w < 4294967296) (hs : (((nI s).toUInt32 &&& Int32.toUInt32 31).toBitVec % 32).toNat = s) (h31 : s < 32) {L : List Nat} (hp : ok_Pr pb L) (hL : L.length < 64)
    (k : ∀ pb', ok_Pr pb' (L ++ [ok_tn (ok_bit sc f 2) (w / 2 ^ s % 256)]) → wX_emitInt_13 post (nI f) (nI w) n (nI s + (-8)) xF sc xc (nI (L ++ [ok_tn (ok_bit sc f 2) (w / 2 ^ s % 256)]).length) rA sN sI sL sT od us tg kL ks pb') :
    wX_emitInt_13 post (nI f) (nI w) (n + 1) (nI s) xF sc xc (nI L.length) rA sN sI sL sT od us tg kL ks pb := by
  refine br_f (nI_pos (by omega)) ?_
  rw [ok_byte hw s hs]
  refine ok_emT hp hL (by omega) (fun pb1 h1 => ?_)
  exact nm_e (k pb1 h1)
theorem ok_emI {post : SX → Prop} {f : Nat} (hf : f < 4) {L : List Nat} (hp : ok_Pr pb L) (hL : L.length + 4 ≤ 64)
    (k : ∀ M pb', M = L ++ (ok_ib (ok_un (sI f))).map (ok_tn (ok_bit sc f 2)) → ok_Pr pb' M → post (xF, sc, xc, nI M.length, rA, sN, sI, sL, sT, od, us, tg, kL, ks, pb')) : wpX_emitInt post (xF, sc, xc, nI L.length, rA, sN, sI, sL, sT, od, us, tg, kL, ks, pb) (nI f) := by
  unfold wpX_emitInt
  dsimp only
  refine ⟨vp_in_nI hf (by decide), nm_r (e' := nI (ok_un (sI f))) (by rw [nI_clamp (by omega)]; exact ok_un_n _) ⟨5, ?_⟩⟩
  have hw := ok_un_lt (sI f)
  refine ok_emI1 (s := 24) hw (by decide) (by decide) hp (by omega) (fun pb1 h1 => ?_)
  refine ok_emI1 (s := 16) hw (by decide) (by decide) h1 (by rw [List.length_append]; show L.length + 1 < 64; omega) (fun pb2 h2 => ?_)
  refine ok_emI1 (s := 8) hw (by decide) (by decide) h2 (by rw [List.length_append, List.length_append]; show L.length + 1 + 1 < 64; omega) (fun pb3 h3 => ?_)
  refine ok_emI1 (s := 0) hw (by decide) (by decide) h3 (by rw [List.length_append, List.length_append, List.length_append]; show L.length + 1 + 1 + 1 < 64; omega) (fun pb4 h4 => ?_)
  refine br_t (by decide) ?_
  refine k _ pb4 ?_ h4
  rw [List.append_assoc, List.append_assoc, List.append_assoc]
  show _ = L ++ [ok_tn (ok_bit sc f 2) (ok_un (sI f) / 16777216 % 256), ok_tn (ok_bit sc f 2) (ok_un (sI f) / 65536 % 256), ok_tn (ok_bit sc f 2) (ok_un (sI f) / 256 % 256), ok_tn (ok_bit sc f 2) (ok_un (sI f) % 256)]
  rw [Nat.pow_zero, Nat.div_one]
  rfl
/-- what the stage's texts hold -/
def ok_SV (N : Nat) (sc : Int32) (sN sL sT : Nat → Int32) : Prop := ∀ f, f < N → sN f = 0 → ok_bit sc f 1 = true → ∃ l, l ≤ 6 ∧ sL f = nI l ∧ ∀ i, i < l → ∃ x, x < 256 ∧ sT (f * 6 + i) = nI x
/-- a field of the stage -/
def ok_xg (sc : Int32) (sN sI sL sT : Nat → Int32) (f : Nat) : List Nat := ok_ef sc f (sN f) (sI f) (ok_cs sT (f * 6) (sL f).toNatClampNeg)
theorem ok_xg_len {N : Nat} (h : ok_SV N sc sN sL sT) {f : Nat} (hf : f < N) : (ok_xg sc sN sI sL sT f).length ≤ 15 := by
  unfold ok_xg ok_ef
  split
  · rename_i z
    rw [List.length_cons, List.length_map]
    unfold ok_vb
    split
    · rename_i t
      obtain ⟨l, hl, e, _⟩ := h f hf z t
      have := ok_tx_len (ok_cs sT (f * 6) (sL f).toNatClampNeg)
      rw [ok_cs_len, e, nI_clamp (by omega)] at this
      rw [e, nI_clamp (by omega)]
      omega
    · show 4 + 1 ≤ 15; decide
  · show 1 ≤ 15; decide
theorem ok_encL {post : SX → Prop} {N : Nat} (hN : N ≤ 4) (hv : ok_SV N sc sN sL sT)
    (k : ∀ pb', ok_Pr pb' (ok_en (ok_xg sc sN sI sL sT) N) → post (xF, sc, xc, nI (ok_en (ok_xg sc sN sI sL sT) N).length, rA, sN, sI, sL, sT, od, us, tg, kL, ks, pb')) :
    ∀ (d f n : Nat) (pb : Nat → Int32), f + d = N → d < n → ok_Pr pb (ok_en (ok_xg sc sN sI sL sT) f) → wX_encode_7 post (nI N) n (nI f) xF sc xc (nI (ok_en (ok_xg sc sN sI sL sT) f).length) rA sN sI sL sT od us tg kL ks pb := by
  intro d
  induction d with
  | zero =>
    intro f n pb hf hn hp
    obtain ⟨n, rfl⟩ : ∃ m, n = m + 1 := ⟨n - 1, by omega⟩
    have e : f = N := by omega
    subst e
    exact br_t (nI_le (by omega) (by omega)) (k pb hp)
  | succ d ih =>
    intro f n pb hf hn hp
    obtain ⟨n, rfl⟩ : ∃ m, n = m + 1 := ⟨n - 1, by omega⟩
    have hl : (ok_en (ok_xg sc sN sI sL sT) f).length ≤ 15 * f := ok_en_len (fun g hg => ok_xg_len hv (by omega))
    have ih := fun pb' => ih (f + 1) n pb' (by omega) (by omega)
    rw [ok_en_s] at ih
    refine br_f (nI_ge (by omega) (by omega)) ?_
    refine ok_xfi f ?_
    refine ok_xte f ?_
    refine ⟨vp_in_nI (by omega) (by decide), ?_⟩
    rw [nI_clamp (show f < 2 ^ 31 by omega)]
    by_cases z : sN f = 0
    · refine br_t z ?_
      refine ok_emit (b := 1) hp (by omega) (by decide) (fun pb1 h1 => ?_)
      have hl1 : (ok_en (ok_xg sc sN sI sL sT) f ++ [1]).length = (ok_en (ok_xg sc sN sI sL sT) f).length + 1 := by rw [List.length_append]; rfl
      have eg : ok_xg sc sN sI sL sT f = 1 :: (ok_vb (ok_bit sc f 1) (sI f) (ok_cs sT (f * 6) (sL f).toNatClampNeg)).map (ok_tn (ok_bit sc f 2)) := ok_ef_v z
      rw [eg] at ih
      cases t : ok_bit sc f 1 with
      | false =>
        rw [t] at ih
        refine br_t rfl ?_
        refine ok_emI (by omega) h1 (by omega) (fun M pb2 hM h2 => ?_)
        refine nm_r (nI_1 _) ?_
        have e : M = ok_en (ok_xg sc sN sI sL sT) f ++ 1 :: (ok_vb false (sI f) (ok_cs sT (f * 6) (sL f).toNatClampNeg)).map (ok_tn (ok_bit sc f 2)) := by
          rw [hM, List.append_assoc]; rfl
        rw [e] at h2 ⊢
        exact ih pb2 h2
      | true =>
        rw [t] at ih
        refine br_f (by decide) ?_
        obtain ⟨l, hl6, el, hc⟩ := hv f (by omega) z t
        unfold wpX_emitText
        dsimp only
        refine ⟨l + 1, ?_⟩
        refine ok_emX (f := f) (by omega) el hl6 hc l 0 (l + 1) _ pb1 (by omega) (by omega) (by omega) h1 (fun M pb2 hM h2 => ?_)
        refine nm_r (nI_1 _) ?_
        have e : M = ok_en (ok_xg sc sN sI sL sT) f ++ 1 :: (ok_vb true (sI f) (ok_cs sT (f * 6) (sL f).toNatClampNeg)).map (ok_tn (ok_bit sc f 2)) := by
          rw [hM, List.append_assoc, el, nI_clamp (by omega)]; rfl
        rw [e] at h2 ⊢
        exact ih pb2 h2
    · refine br_f z ?_
      have eg : ok_xg sc sN sI sL sT f = [if ok_bit sc f 4 = true then 0 else 2] := ok_ef_n z
      rw [eg] at ih
      cases t : ok_bit sc f 4 with
      | false =>
        rw [t] at ih
        refine br_t rfl ?_
        unfold wX_encode_44
        exact ok_emit (b := 2) hp (by omega) (by decide) (fun pb1 h1 => nm_r (nI_1 _) (ih pb1 h1))
      | true =>
        rw [t] at ih
        refine br_f (by decide) ?_
        unfold wX_encode_44
        exact ok_emit (b := 0) hp (by omega) (by decide) (fun pb1 h1 => nm_r (nI_1 _) (ih pb1 h1))
theorem ok_enc {post : SX → Prop} {N : Nat} (hN : N ≤ 4) (hv : ok_SV N sc sN sL sT)
    (k : ∀ pb', ok_Pr pb' (ok_en (ok_xg sc sN sI sL sT) N) → post (xF, sc, xc, nI (ok_en (ok_xg sc sN sI sL sT) N).length, rA, sN, sI, sL, sT, od, us, tg, kL, ks, pb')) : wpX_encode post (xF, sc, xc, pL, rA, sN, sI, sL, sT, od, us, tg, kL, ks, pb) (nI N) := by
  unfold wpX_encode
  dsimp only
  exact ⟨N + 1, ok_encL hN hv k N 0 (N + 1) pb (by omega) (by omega) (ok_Pr_0 pb)⟩
end
end
section
/-! the component reads its keys -/
section
variable {xF sc xc pL rA : Int32} {sN sI sL sT od us tg kL ks pb : Nat → Int32} {q f : Nat} {K : List Nat}
theorem ok_nb {post : Int32 → SX → Prop} (hq : q < 20) (hK : ok_Kr ks q K) (hl : K.length ≤ 64) {A B : List Nat} {b : Nat} (e : K = A ++ b :: B)
    (k : post (nI b) (xF, sc, xc, pL, nI (A.length + 1), sN, sI, sL, sT, od, us, tg, kL, ks, pb)) : wpX_nextByte post (xF, sc, xc, pL, nI A.length, sN, sI, sL, sT, od, us, tg, kL, ks, pb) (nI q) := by
  have h : A.length < K.length := by rw [e, List.length_append, List.length_cons]; omega
  have h2 := hK A.length h
  rw [e, ok_at_m] at h2
  unfold wpX_nextByte
  dsimp only
  refine br_f (nI_ge (b := 64) (by omega) (by decide)) ?_
  rw [show nI q * 64 + nI A.length = nI (q * 64 + A.length) from ok_ix q A.length 64]
  refine ⟨vp_in_nI (by omega) (by decide), ?_⟩
  rw [nI_clamp (by omega), h2]
  exact nm_r (nI_1 _) k
theorem ok_nt {post : Int32 → SX → Prop} (hq : q < 20) (hK : ok_Kr ks q K) (hl : K.length ≤ 64) {A B : List Nat} {b : Nat} (hb : b < 256) (e : K = A ++ ok_tn (ok_bit sc f 2) b :: B)
    (k : post (nI b) (xF, sc, xc, pL, nI (A.length + 1), sN, sI, sL, sT, od, us, tg, kL, ks, pb)) : wpX_nextTurned post (xF, sc, xc, pL, nI A.length, sN, sI, sL, sT, od, us, tg, kL, ks, pb) (nI q) (nI f) := by
  unfold wpX_nextTurned
  dsimp only
  refine ok_nb hq hK hl e ?_
  refine ok_xde f ?_
  cases t : ok_bit sc f 2 with
  | false => exact br_t rfl k
  | true =>
    refine br_f (by decide) ?_
    have h1 : ok_tn true b = 255 - b := rfl
    rw [h1, ok_255 (by omega), show 255 - (255 - b) = b by omega]
    exact k
theorem ok_ri1 {post : Int32 → SX → Prop} (hq : q < 20) (hK : ok_Kr ks q K) (hl : K.length ≤ 64) {A B : List Nat} {b a i n : Nat} (hb : b < 256) (hi : i < 4) (ha : a * 256 + b < 4294967296) (e : K = A ++ ok_tn (ok_bit sc f 2) b :: B)
    (k : wX_readInt_5 post (nI q) (nI f) n (nI (a * 256 + b)) (nI (i + 1)) xF sc xc pL (nI (A.length + 1)) sN sI sL sT od us tg kL ks pb) : wX_readInt_5 post (nI q) (nI f) (n + 1) (nI a) (nI i) xF sc xc pL (nI A.length) sN sI sL sT od us tg kL ks pb := by
  refine br_f (nI_ge (b := 4) hi (by decide)) ?_
  refine ok_nt hq hK hl hb e ?_
  exact nm_r (ok_shl8 hb ha) (nm_r (nI_1 _) k)
theorem ok_rdI {post : Int32 → SX → Prop} (hq : q < 20) (hK : ok_Kr ks q K) (hl : K.length ≤ 64) {A B : List Nat} {v : Int32} (e : K = A ++ ((ok_ib (ok_un v)).map (ok_tn (ok_bit sc f 2)) ++ B))
    (k : post v (xF, sc, xc, pL, nI (A.length + 4), sN, sI, sL, sT, od, us, tg, kL, ks, pb)) : wpX_readInt post (xF, sc, xc, pL, nI A.length, sN, sI, sL, sT, od, us, tg, kL, ks, pb) (nI q) (nI f) := by
  have hw := ok_un_lt v
  have hv := ok_un_b v
  generalize ok_un v = w at e hw hv
  unfold wpX_readInt
  dsimp only
  refine ⟨5, ?_⟩
  have e1 : K = A ++ ok_tn (ok_bit sc f 2) (w / 16777216 % 256) :: (ok_tn (ok_bit sc f 2) (w / 65536 % 256) :: ok_tn (ok_bit sc f 2) (w / 256 % 256) :: ok_tn (ok_bit sc f 2) (w % 256) :: B) := e
  have e2 : K = (A ++ [ok_tn (ok_bit sc f 2) (w / 16777216 % 256)]) ++ ok_tn (ok_bit sc f 2) (w / 65536 % 256) :: (ok_tn (ok_bit sc f 2) (w / 256 % 256) :: ok_tn (ok_bit sc f 2) (w % 256) :: B) := by rw [e1, List.append_assoc]; rfl
  have e3 : K = (A ++ [ok_tn (ok_bit sc f 2) (w / 16777216 % 256), ok_tn (ok_bit sc f 2) (w / 65536 % 256)]) ++ ok_tn (ok_bit sc f 2) (w / 256 % 256) :: (ok_tn (ok_bit sc f 2) (w % 256) :: B) := by rw [e1, List.append_assoc]; rfl
  have e4 : K = (A ++ [ok_tn (ok_bit sc f 2) (w / 16777216 % 256), ok_tn (ok_bit sc f 2) (w / 65536 % 256), ok_tn (ok_bit sc f 2) (w / 256 % 256)]) ++ ok_tn (ok_bit sc f 2) (w % 256) :: B := by rw [e1, List.append_assoc]; rfl
  have l2 : (A ++ [ok_tn (ok_bit sc f 2) (w / 16777216 % 256)]).length = A.length + 1 := by rw [List.length_append]; rfl
  have l3 : (A ++ [ok_tn (ok_bit sc f 2) (w / 16777216 % 256), ok_tn (ok_bit sc f 2) (w / 65536 % 256)]).length = A.length + 2 := by rw [List.length_append]; rfl
  have l4 : (A ++ [ok_tn (ok_bit sc f 2) (w / 16777216 % 256), ok_tn (ok_bit sc f 2) (w / 65536 % 256), ok_tn (ok_bit sc f 2) (w / 256 % 256)]).length = A.length + 3 := by rw [List.length_append]; rfl
  have m : (((0 * 256 + w / 16777216 % 256) * 256 + w / 65536 % 256) * 256 + w / 256 % 256) * 256 + w % 256 = w := by omega
  refine ok_ri1 (a := 0) (i := 0) hq hK hl (by omega) (by decide) (by omega) e1 ?_
  rw [← l2]
  refine ok_ri1 (i := 1) hq hK hl (by omega) (by decide) (by omega) e2 ?_
  rw [l2, show A.length + 1 + 1 = A.length + 2 from rfl, ← l3]
  refine ok_ri1 (i := 2) hq hK hl (by omega) (by decide) (by omega) e3 ?_
  rw [l3, show A.length + 2 + 1 = A.length + 3 from rfl, ← l4]
  refine ok_ri1 (i := 3) hq hK hl (by omega) (by decide) (by omega) e4 ?_
  refine br_t (nI_le (a := 4) (by omega) (by decide)) ?_
  rw [l4, m, hv]
  exact k
theorem ok_rcE {post : Int32 → SX → Prop} (hq : q < 20) (hK : ok_Kr ks q K) (hl : K.length ≤ 64) {A B : List Nat} (e : K = A ++ ((ok_tx []).map (ok_tn (ok_bit sc f 2)) ++ B))
    (k : ∀ A', K = A' ++ B → post (-1) (xF, sc, xc, pL, nI A'.length, sN, sI, sL, sT, od, us, tg, kL, ks, pb)) : wpX_readChar post (xF, sc, xc, pL, nI A.length, sN, sI, sL, sT, od, us, tg, kL, ks, pb) (nI q) (nI f) := by
  have e1 : K = A ++ ok_tn (ok_bit sc f 2) 0 :: (ok_tn (ok_bit sc f 2) 1 :: B) := e
  have e2 : K = (A ++ [ok_tn (ok_bit sc f 2) 0]) ++ ok_tn (ok_bit sc f 2) 1 :: B := by rw [e1, List.append_assoc]; rfl
  have e3 : K = (A ++ [ok_tn (ok_bit sc f 2) 0, ok_tn (ok_bit sc f 2) 1]) ++ B := by rw [e1, List.append_assoc]; rfl
  have l2 : (A ++ [ok_tn (ok_bit sc f 2) 0]).length = A.length + 1 := by rw [List.length_append]; rfl
  have l3 : (A ++ [ok_tn (ok_bit sc f 2) 0, ok_tn (ok_bit sc f 2) 1]).length = A.length + 1 + 1 := by rw [List.length_append]; rfl
  have k := k _ e3
  rw [l3, ← l2] at k
  unfold wpX_readChar
  dsimp only
  refine ok_nt hq hK hl (by decide) e1 ?_
  rw [← l2]
  refine br_t rfl ?_
  refine ok_nt hq hK hl (by decide) e2 ?_
  exact br_t rfl k
theorem ok_rcC {post : Int32 → SX → Prop} (hq : q < 20) (hK : ok_Kr ks q K) (hl : K.length ≤ 64) {A B C : List Nat} {c : Nat} (hc : c < 256) (e : K = A ++ ((ok_tx (c :: C)).map (ok_tn (ok_bit sc f 2)) ++ B))
    (k : ∀ A', K = A' ++ ((ok_tx C).map (ok_tn (ok_bit sc f 2)) ++ B) → post (nI c) (xF, sc, xc, pL, nI A'.length, sN, sI, sL, sT, od, us, tg, kL, ks, pb)) : wpX_readChar post (xF, sc, xc, pL, nI A.length, sN, sI, sL, sT, od, us, tg, kL, ks, pb) (nI q) (nI f) := by
  unfold wpX_readChar
  dsimp only
  by_cases z : c = 0
  · subst z
    have e1 : K = A ++ ok_tn (ok_bit sc f 2) 0 :: (ok_tn (ok_bit sc f 2) 255 :: ((ok_tx C).map (ok_tn (ok_bit sc f 2)) ++ B)) := e
    have e2 : K = (A ++ [ok_tn (ok_bit sc f 2) 0]) ++ ok_tn (ok_bit sc f 2) 255 :: ((ok_tx C).map (ok_tn (ok_bit sc f 2)) ++ B) := by rw [e1, List.append_assoc]; rfl
    have e3 : K = (A ++ [ok_tn (ok_bit sc f 2) 0, ok_tn (ok_bit sc f 2) 255]) ++ ((ok_tx C).map (ok_tn (ok_bit sc f 2)) ++ B) := by rw [e1, List.append_assoc]; rfl
    have l2 : (A ++ [ok_tn (ok_bit sc f 2) 0]).length = A.length + 1 := by rw [List.length_append]; rfl
    have l3 : (A ++ [ok_tn (ok_bit sc f 2) 0, ok_tn (ok_bit sc f 2) 255]).length = A.length + 1 + 1 := by rw [List.length_append]; rfl
    have k := k _ e3
    rw [l3, ← l2] at k
    refine ok_nt hq hK hl (by decide) e1 ?_
    rw [← l2]
    refine br_t rfl ?_
    refine ok_nt hq hK hl (by decide) e2 ?_
    exact br_f (by decide) k
  · have e0 : ok_tx (c :: C) = c :: ok_tx C := ok_tx_c C z
    rw [e0] at e
    have e1 : K = A ++ ok_tn (ok_bit sc f 2) c :: ((ok_tx C).map (ok_tn (ok_bit sc f 2)) ++ B) := e
    have e3 : K = (A ++ [ok_tn (ok_bit sc f 2) c]) ++ ((ok_tx C).map (ok_tn (ok_bit sc f 2)) ++ B) := by rw [e1, List.append_assoc]; rfl
    have l3 : (A ++ [ok_tn (ok_bit sc f 2) c]).length = A.length + 1 := by rw [List.length_append]; rfl
    have k := k _ e3
    rw [l3] at k
    refine ok_nt hq hK hl hc e1 ?_
    exact br_f (nI_ne0 (by omega) (by omega)) k
theorem ok_skT {post : SX → Prop} (hq : q < 20) (hK : ok_Kr ks q K) (hl : K.length ≤ 64) {B : List Nat} (k : ∀ A', K = A' ++ B → post (xF, sc, xc, pL, nI A'.length, sN, sI, sL, sT, od, us, tg, kL, ks, pb)) :
    ∀ (C : List Nat) (i n x : Nat) (A : List Nat), ok_By C → x < 256 → i + C.length < 8 → C.length + 1 < n → K = A ++ ((ok_tx C).map (ok_tn (ok_bit sc f 2)) ++ B) → wX_skipValue_24 post (nI q) (nI f) n (nI x) (nI i) xF sc xc pL (nI A.length) sN sI sL sT od us tg kL ks pb := by
  intro C
  induction C with
  | nil =>
    intro i n x A _ hx hi hn e
    have hi : i < 8 := hi
    have hn : 1 < n := hn
    obtain ⟨n, rfl⟩ : ∃ m, n = m + 1 + 1 := ⟨n - 2, by omega⟩
    refine br_f (nI_ge (b := 8) hi (by decide)) (br_f (nI_pos (by omega)) ?_)
    refine ok_rcE hq hK hl e (fun A' e' => ?_)
    refine nm_r (nI_1 _) ?_
    by_cases z : i + 1 < 8
    · exact br_f (nI_ge (b := 8) z (by decide)) (br_t (by decide) (k A' e'))
    · exact br_t (nI_le (a := 8) (by omega) (by omega)) (k A' e')
  | cons c C ih =>
    intro i n x A hC hx hi hn e
    rw [ok_By_c] at hC
    rw [List.length_cons] at hi hn
    obtain ⟨n, rfl⟩ : ∃ m, n = m + 1 := ⟨n - 1, by omega⟩
    refine br_f (nI_ge (b := 8) (by omega) (by decide)) (br_f (nI_pos (by omega)) ?_)
    refine ok_rcC hq hK hl hC.1 e (fun A' e' => ?_)
    refine nm_r (nI_1 _) ?_
    exact ih (i + 1) n c A' hC.2 hC.1 (by omega) (by omega) e'
theorem ok_skV {post : SX → Prop} (hq : q < 20) (hK : ok_Kr ks q K) (hl : K.length ≤ 64) {A B C : List Nat} {v : Int32} (hC : ok_By C) (hC6 : C.length ≤ 6) (e : K = A ++ ((ok_vb (ok_bit sc f 1) v C).map (ok_tn (ok_bit sc f 2)) ++ B))
    (k : ∀ A', K = A' ++ B → post (xF, sc, xc, pL, nI A'.length, sN, sI, sL, sT, od, us, tg, kL, ks, pb)) : wpX_skipValue post (xF, sc, xc, pL, nI A.length, sN, sI, sL, sT, od, us, tg, kL, ks, pb) (nI q) (nI f) := by
  unfold wpX_skipValue
  dsimp only
  refine ok_xte f ?_
  cases t : ok_bit sc f 1 with
  | false =>
    rw [t] at e
    refine br_t rfl ?_
    have k := k (A ++ (ok_vb false v C).map (ok_tn (ok_bit sc f 2))) (by rw [e, List.append_assoc])
    rw [List.length_append, List.length_map, show (ok_vb false v C).length = 4 from rfl, ← nI_add] at k
    exact nm_e k
  | true =>
    rw [t] at e
    refine br_f (by decide) ?_
    exact ⟨9, ok_skT (f := f) hq hK hl k C 0 9 0 A hC (by decide) (by omega) (by omega) e⟩
end
end
section
/-! going to a field of a key, and loading -/
section
variable {xF sc xc pL rA : Int32} {sN sI sL sT od us tg kL ks pb : Nat → Int32} {q F : Nat} {nl vl : Nat → Int32} {cc : Nat → List Nat}
/-- the cells of one tuple: what a key of F fields is made of -/
def ok_CV (F : Nat) (nl : Nat → Int32) (cc : Nat → List Nat) : Prop := ∀ f, f < F → (nl f = 0 ∨ nl f = 1) ∧ ok_By (cc f) ∧ (cc f).length ≤ 6
def ok_g (sc : Int32) (nl vl : Nat → Int32) (cc : Nat → List Nat) (f : Nat) : List Nat := ok_ef sc f (nl f) (vl f) (cc f)
theorem ok_g_len (h : ok_CV F nl cc) : (ok_en (ok_g sc nl vl cc) F).length ≤ 15 * F := ok_en_len (fun f hf => ok_ef_len (h f hf).2.2)
theorem ok_g_By (h : ok_CV F nl cc) : ok_By (ok_en (ok_g sc nl vl cc) F) := ok_en_By (fun f hf => ok_ef_By (h f hf).2.1)
theorem ok_g_at {f : Nat} (hf : f < F) : ∃ T, ok_en (ok_g sc nl vl cc) F = ok_en (ok_g sc nl vl cc) f ++ (ok_ef sc f (nl f) (vl f) (cc f) ++ T) := by
  obtain ⟨T, e⟩ := ok_en_cut (ok_g sc nl vl cc) (show f + 1 ≤ F from hf)
  exact ⟨T, by rw [e, ok_en_s, List.append_assoc]; rfl⟩
/-- the head of a field is read -/
theorem ok_hd {post : Int32 → SX → Prop} (hq : q < 20) (h4 : F ≤ 4) (hV : ok_CV F nl cc) (hK : ok_Kr ks q (ok_en (ok_g sc nl vl cc) F)) {f : Nat} (hf : f < F)
    (k0 : nl f = 0 → ∀ A T, ok_en (ok_g sc nl vl cc) F = A ++ ((ok_vb (ok_bit sc f 1) (vl f) (cc f)).map (ok_tn (ok_bit sc f 2)) ++ T) → (∃ U, ok_en (ok_g sc nl vl cc) F = ok_en (ok_g sc nl vl cc) (f + 1) ++ U ∧ T = U) → post 1 (xF, sc, xc, pL, nI A.length, sN, sI, sL, sT, od, us, tg, kL, ks, pb))
    (k1 : nl f = 1 → ∀ b, b ≠ 1 → b < 256 → post (nI b) (xF, sc, xc, pL, nI (ok_en (ok_g sc nl vl cc) (f + 1)).length, sN, sI, sL, sT, od, us, tg, kL, ks, pb)) : wpX_nextByte post (xF, sc, xc, pL, nI (ok_en (ok_g sc nl vl cc) f).length, sN, sI, sL, sT, od, us, tg, kL, ks, pb) (nI q) := by
  obtain ⟨T, e⟩ := ok_en_cut (ok_g sc nl vl cc) (show f + 1 ≤ F from hf)
  have hl := ok_g_len (sc := sc) (vl := vl) hV
  have e2 := e
  rw [ok_en_s, List.append_assoc] at e2
  rcases (hV f hf).1 with z | z
  · have eg : ok_g sc nl vl cc f = 1 :: (ok_vb (ok_bit sc f 1) (vl f) (cc f)).map (ok_tn (ok_bit sc f 2)) := ok_ef_v z
    rw [eg] at e2
    refine ok_nb hq hK (by omega) (b := 1) e2 ?_
    have := k0 z (ok_en (ok_g sc nl vl cc) f ++ [1]) T (by rw [e2, List.append_assoc]; rfl) ⟨T, e, rfl⟩
    rw [List.length_append] at this
    exact this
  · have n0 : ¬ nl f = 0 := by rw [z]; decide
    have eg : ok_g sc nl vl cc f = [if ok_bit sc f 4 = true then 0 else 2] := ok_ef_n n0
    have k1 := k1 z (if ok_bit sc f 4 = true then 0 else 2) (by split <;> decide) (by split <;> decide)
    rw [ok_en_s, List.length_append] at k1
    rw [eg] at e2 k1
    exact ok_nb hq hK (by omega) e2 k1
theorem ok_skL {post : Int32 → SX → Prop} (hq : q < 20) (h4 : F ≤ 4) (hV : ok_CV F nl cc) (hK : ok_Kr ks q (ok_en (ok_g sc nl vl cc) F)) {f : Nat} (hf : f < F)
    (k0 : nl f = 0 → ∀ A T, ok_en (ok_g sc nl vl cc) F = A ++ ((ok_vb (ok_bit sc f 1) (vl f) (cc f)).map (ok_tn (ok_bit sc f 2)) ++ T) → post 0 (xF, sc, xc, pL, nI A.length, sN, sI, sL, sT, od, us, tg, kL, ks, pb))
    (k1 : nl f = 1 → ∀ rA', post 1 (xF, sc, xc, pL, rA', sN, sI, sL, sT, od, us, tg, kL, ks, pb)) :
    ∀ (d i n : Nat), i + d = f → d < n → wX_seek_7 post (nI q) (nI f) n (nI i) xF sc xc pL (nI (ok_en (ok_g sc nl vl cc) i).length) sN sI sL sT od us tg kL ks pb := by
  have hl := ok_g_len (sc := sc) (vl := vl) hV
  intro d
  induction d with
  | zero =>
    intro i n hi hn
    obtain ⟨n, rfl⟩ : ∃ m, n = m + 1 := ⟨n - 1, by omega⟩
    have e : i = f := by omega
    subst e
    refine br_t (nI_le (by omega) (by omega)) ?_
    refine ok_hd hq h4 hV hK hf (fun z A T e _ => ?_) (fun z b hb hb2 => ?_)
    · exact br_t rfl (k0 z A T e)
    · exact br_f (fun w => hb ((nI_eq (b := 1) (by omega) (by decide)).mp w)) (k1 z _)
  | succ d ih =>
    intro i n hi hn
    obtain ⟨n, rfl⟩ : ∃ m, n = m + 1 := ⟨n - 1, by omega⟩
    have ih := ih (i + 1) n (by omega) (by omega)
    refine br_f (nI_ge (by omega) (by omega)) ?_
    refine ok_hd hq h4 hV hK (f := i) (by omega) (fun z A T e w => ?_) (fun z b hb hb2 => ?_)
    · refine br_t rfl ?_
      obtain ⟨U, eU, hT⟩ := w
      subst hT
      refine ok_skV hq hK (by omega) (hV i (by omega)).2.1 (hV i (by omega)).2.2 e (fun A' e' => ?_)
      refine nm_r (nI_1 _) ?_
      have h1 : A'.length = (ok_en (ok_g sc nl vl cc) (i + 1)).length := by
        have h2 := congrArg List.length (e'.symm.trans eU)
        rw [List.length_append, List.length_append] at h2
        omega
      rw [h1]
      exact ih
    · refine br_f (fun w => hb ((nI_eq (b := 1) (by omega) (by decide)).mp w)) ?_
      exact nm_r (nI_1 _) ih
theorem ok_seek {post : Int32 → SX → Prop} (hq : q < 20) (h4 : F ≤ 4) (hV : ok_CV F nl cc) (hK : ok_Kr ks q (ok_en (ok_g sc nl vl cc) F)) {f : Nat} (hf : f < F)
    (k0 : nl f = 0 → ∀ A T, ok_en (ok_g sc nl vl cc) F = A ++ ((ok_vb (ok_bit sc f 1) (vl f) (cc f)).map (ok_tn (ok_bit sc f 2)) ++ T) → post 0 (xF, sc, xc, pL, nI A.length, sN, sI, sL, sT, od, us, tg, kL, ks, pb))
    (k1 : nl f = 1 → ∀ rA', post 1 (xF, sc, xc, pL, rA', sN, sI, sL, sT, od, us, tg, kL, ks, pb)) : wpX_seek post (xF, sc, xc, pL, rA, sN, sI, sL, sT, od, us, tg, kL, ks, pb) (nI q) (nI f) := by
  unfold wpX_seek
  dsimp only
  exact ⟨f + 1, ok_skL hq h4 hV hK hf k0 k1 f 0 (f + 1) (by omega) (by omega)⟩
/-- a text is loaded -/
theorem ok_ldT {post : SX → Prop} {K B D : List Nat} {f : Nat} (hf : f < 4) (hq : q < 20) (hK : ok_Kr ks q K) (hl : K.length ≤ 64) (hD : D.length ≤ 6) :
    ∀ (C : List Nat) (i n : Nat) (A : List Nat) (sL sT : Nat → Int32) (x : Int32), ok_By C → D.drop i = C → i ≤ D.length → C.length < n →
      (C = [] → x = -1) → (∀ c C', C = c :: C' → x = nI c ∧ K = A ++ ((ok_tx C').map (ok_tn (ok_bit sc f 2)) ++ B)) → sL f = nI i → (∀ j, j < i → sT (f * 6 + j) = nI (ok_at D j)) →
      (∀ sL' sT' rA', (∀ g, g ≠ f → sL' g = sL g) → sL' f = nI D.length → (∀ j, j < f * 6 ∨ f * 6 + 6 ≤ j → sT' j = sT j) → (∀ j, j < D.length → sT' (f * 6 + j) = nI (ok_at D j)) → post (xF, sc, xc, pL, rA', sN, sI, sL', sT', od, us, tg, kL, ks, pb)) →
      wX_loadField_38 post (nI q) (nI f) n x (nI i) xF sc xc pL (nI A.length) sN sI sL sT od us tg kL ks pb := by
  intro C
  induction C with
  | nil =>
    intro i n A sL sT x _ hd hi hn hx _ hs ht k
    obtain ⟨n, rfl⟩ : ∃ m, n = m + 1 := ⟨n - 1, by have hn : 0 < n := hn; omega⟩
    have hx := hx rfl
    subst hx
    have e : i = D.length := by
      have h1 := congrArg List.length hd
      rw [List.length_drop] at h1
      have h1 : D.length - i = 0 := h1
      omega
    subst e
    have k := k sL sT (nI A.length) (fun _ _ => rfl) hs (fun _ _ => rfl) ht
    by_cases z : D.length < 6
    · exact br_f (nI_ge (b := 6) z (by decide)) (br_t (by decide) k)
    · exact br_t (nI_le (a := 6) (by omega) (by omega)) k
  | cons c C ih =>
    intro i n A sL sT x hC hd hi hn _ hx hs ht k
    rw [ok_By_c] at hC
    rw [List.length_cons] at hn
    obtain ⟨n, rfl⟩ : ∃ m, n = m + 1 := ⟨n - 1, by omega⟩
    obtain ⟨hx, e⟩ := hx c C rfl
    subst hx
    have hi2 : i < D.length := by
      have h1 := congrArg List.length hd
      rw [List.length_drop, List.length_cons] at h1
      omega
    rw [ok_at_d hi2] at hd
    obtain ⟨hc, hd⟩ := List.cons.inj hd
    refine br_f (nI_ge (b := 6) (by omega) (by decide)) (br_f (nI_pos (by omega)) ?_)
    have e2 : nI f * 6 + nI i = nI (f * 6 + i) := ok_ix f i 6
    rw [e2]
    refine ⟨vp_in_nI (by omega) (by decide), nm_r (e' := upd sT (f * 6 + i) (nI c)) (by rw [nI_clamp (by omega)]) ⟨vp_in_nI hf (by decide), nm_r (e' := upd sL f (nI (i + 1))) (by rw [nI_clamp (by omega), nI_1]) ?_⟩⟩
    have ht' : ∀ j, j < i + 1 → upd sT (f * 6 + i) (nI c) (f * 6 + j) = nI (ok_at D j) := by
      intro j hj
      by_cases z : j = i
      · subst z; rw [pk_us, hc]
      · rw [pk_un (by omega)]; exact ht j (by omega)
    have k' : ∀ sL' sT' rA', (∀ g, g ≠ f → sL' g = upd sL f (nI (i + 1)) g) → sL' f = nI D.length → (∀ j, j < f * 6 ∨ f * 6 + 6 ≤ j → sT' j = upd sT (f * 6 + i) (nI c) j) → (∀ j, j < D.length → sT' (f * 6 + j) = nI (ok_at D j)) → post (xF, sc, xc, pL, rA', sN, sI, sL', sT', od, us, tg, kL, ks, pb) := by
      intro sL' sT' rA' h1 h2 h3 h4
      exact k sL' sT' rA' (fun g hg => by rw [h1 g hg, pk_un hg]) h2 (fun j hj => by rw [h3 j hj, pk_un (by omega)]) h4
    cases C with
    | nil =>
      refine ok_rcE hq hK hl e (fun A' e' => ?_)
      refine nm_r (nI_1 _) ?_
      exact ih (i + 1) n A' _ _ (-1) hC.2 hd (by omega) (by omega) (fun _ => rfl) (fun c' C' z => by cases z) pk_us ht' k'
    | cons c2 C =>
      have hC2 := ok_By_c.mp hC.2
      refine ok_rcC hq hK hl hC2.1 e (fun A' e' => ?_)
      refine nm_r (nI_1 _) ?_
      exact ih (i + 1) n A' _ _ (nI c2) hC.2 hd (by omega) (by omega) (fun z => by cases z) (fun c' C' z => by cases z; exact ⟨rfl, e'⟩) pk_us ht' k'
theorem ok_ldF {post : SX → Prop} {K A B C : List Nat} {f : Nat} {v : Int32} (hf : f < 4) (hq : q < 20) (hK : ok_Kr ks q K) (hl : K.length ≤ 64) (hC : ok_By C) (hC6 : C.length ≤ 6)
    (e : K = A ++ ((ok_vb (ok_bit sc f 1) v C).map (ok_tn (ok_bit sc f 2)) ++ B))
    (k0 : ok_bit sc f 1 = false → ∀ rA', post (xF, sc, xc, pL, rA', sN, upd sI f v, sL, sT, od, us, tg, kL, ks, pb))
    (k1 : ok_bit sc f 1 = true → ∀ sL' sT' rA', (∀ g, g ≠ f → sL' g = sL g) → sL' f = nI C.length → (∀ j, j < f * 6 ∨ f * 6 + 6 ≤ j → sT' j = sT j) → (∀ j, j < C.length → sT' (f * 6 + j) = nI (ok_at C j)) → post (xF, sc, xc, pL, rA', sN, sI, sL', sT', od, us, tg, kL, ks, pb)) :
    wpX_loadField post (xF, sc, xc, pL, nI A.length, sN, sI, sL, sT, od, us, tg, kL, ks, pb) (nI q) (nI f) := by
  unfold wpX_loadField
  dsimp only
  refine ok_xte f ?_
  cases t : ok_bit sc f 1 with
  | false =>
    rw [t] at e
    refine br_t rfl ?_
    refine ok_rdI (v := v) hq hK hl e ?_
    exact ⟨vp_in_nI hf (by decide), nm_r (e' := upd sI f v) (by rw [nI_clamp (by omega)]) (k0 t _)⟩
  | true =>
    rw [t] at e
    refine br_f (by decide) ?_
    refine ⟨vp_in_nI hf (by decide), nm_r (e' := upd sL f 0) (by rw [nI_clamp (by omega)]) ?_⟩
    have k1' : ∀ sL' sT' rA', (∀ g, g ≠ f → sL' g = upd sL f 0 g) → sL' f = nI C.length → (∀ j, j < f * 6 ∨ f * 6 + 6 ≤ j → sT' j = sT j) → (∀ j, j < C.length → sT' (f * 6 + j) = nI (ok_at C j)) → post (xF, sc, xc, pL, rA', sN, sI, sL', sT', od, us, tg, kL, ks, pb) := by
      intro sL' sT' rA' h1 h2 h3 h4
      exact k1 t sL' sT' rA' (fun g hg => by rw [h1 g hg, pk_un hg]) h2 h3 h4
    cases C with
    | nil =>
      refine ok_rcE hq hK hl e (fun A' e' => ?_)
      exact ⟨9, ok_ldT (D := []) (B := B) hf hq hK hl hC6 [] 0 9 A' (upd sL f 0) sT (-1) hC rfl (by decide) (by decide) (fun _ => rfl) (fun c' C' z => by cases z) pk_us (fun j hj => by omega) k1'⟩
    | cons c C =>
      have hC2 := ok_By_c.mp hC
      refine ok_rcC hq hK hl hC2.1 e (fun A' e' => ?_)
      exact ⟨9, ok_ldT (D := c :: C) hf hq hK hl hC6 (c :: C) 0 9 A' (upd sL f 0) sT (nI c) hC rfl (by omega) (by omega) (fun z => by cases z) (fun c' C' z => by cases z; exact ⟨rfl, e'⟩) pk_us (fun j hj => by omega) k1'⟩
/-- what the stage holds once a tuple's first fields are loaded -/
def ok_St (N : Nat) (sc : Int32) (sN sI sL sT nl vl : Nat → Int32) (cc : Nat → List Nat) : Prop := ∀ f, f < N → sN f = nl f ∧ (nl f = 0 → (ok_bit sc f 1 = false → sI f = vl f) ∧ (ok_bit sc f 1 = true → sL f = nI (cc f).length ∧ ∀ j, j < (cc f).length → sT (f * 6 + j) = nI (ok_at (cc f) j)))
theorem ok_ldL {post : Int32 → SX → Prop} (hq : q < 20) (h4 : F ≤ 4) (hV : ok_CV F nl cc) (hK : ok_Kr ks q (ok_en (ok_g sc nl vl cc) F))
    (k : ∀ sN' sI' sL' sT' rA', ok_St F sc sN' sI' sL' sT' nl vl cc → post (tg q) (nI F, sc, xc, pL, rA', sN', sI', sL', sT', od, us, tg, kL, ks, pb)) :
    ∀ (d f n : Nat) (sN sI sL sT : Nat → Int32) (rA : Int32), f + d = F → d < n → ok_St f sc sN sI sL sT nl vl cc → wX_load_20 post (nI q) n (nI f) (nI F) sc xc pL rA sN sI sL sT od us tg kL ks pb := by
  have hl := ok_g_len (sc := sc) (vl := vl) hV
  intro d
  induction d with
  | zero =>
    intro f n sN sI sL sT rA hf hn hs
    obtain ⟨n, rfl⟩ : ∃ m, n = m + 1 := ⟨n - 1, by omega⟩
    have e : f = F := by omega
    subst e
    refine br_t (nI_le (by omega) (by omega)) ⟨vp_in_nI hq (by decide), ?_⟩
    rw [nI_clamp (show q < 2 ^ 31 by omega)]
    exact k sN sI sL sT rA hs
  | succ d ih =>
    intro f n sN sI sL sT rA hf hn hs
    obtain ⟨n, rfl⟩ : ∃ m, n = m + 1 := ⟨n - 1, by omega⟩
    have ih := fun sN sI sL sT rA => ih (f + 1) n sN sI sL sT rA (by omega) (by omega)
    refine br_f (nI_ge (by omega) (by omega)) ?_
    refine ok_seek hq h4 hV hK (f := f) (by omega) (fun z A T e => ?_) (fun z rA' => ?_)
    · refine ⟨vp_in_nI (by omega) (by decide), nm_r (e' := upd sN f 0) (by rw [nI_clamp (by omega)]; rfl) ⟨vp_in_nI (by omega) (by decide), ?_⟩⟩
      rw [nI_clamp (show f < 2 ^ 31 by omega)]
      refine br_t pk_us ?_
      refine ok_ldF (by omega) hq hK (by omega) (hV f (by omega)).2.1 (hV f (by omega)).2.2 e (fun t rA' => ?_) (fun t sL' sT' rA' h1 h2 h3 h4' => ?_)
      · refine nm_r (nI_1 _) (ih _ _ _ _ _ ?_)
        intro g hg
        by_cases w : g = f
        · subst w
          refine ⟨by rw [pk_us, z], fun _ => ⟨fun _ => pk_us, fun t2 => ?_⟩⟩
          rw [t] at t2; cases t2
        · rw [pk_un w, pk_un w]
          exact hs g (by omega)
      · refine nm_r (nI_1 _) (ih _ _ _ _ _ ?_)
        intro g hg
        by_cases w : g = f
        · subst w
          refine ⟨by rw [pk_us, z], fun _ => ⟨fun t2 => ?_, fun _ => ⟨h2, h4'⟩⟩⟩
          rw [t] at t2; cases t2
        · rw [pk_un w]
          have hs := hs g (by omega)
          have h6 := (hV g (by omega)).2.2
          refine ⟨hs.1, fun z2 => ⟨(hs.2 z2).1, fun t2 => ⟨?_, fun j hj => ?_⟩⟩⟩
          · rw [h1 g w]; exact ((hs.2 z2).2 t2).1
          · rw [h3 _ (by omega)]; exact ((hs.2 z2).2 t2).2 j hj
    · refine ⟨vp_in_nI (by omega) (by decide), nm_r (e' := upd sN f 1) (by rw [nI_clamp (by omega)]; rfl) ⟨vp_in_nI (by omega) (by decide), ?_⟩⟩
      rw [nI_clamp (show f < 2 ^ 31 by omega)]
      refine br_f (by rw [pk_us]; decide) ?_
      refine nm_r (nI_1 _) (ih _ _ _ _ _ ?_)
      intro g hg
      by_cases w : g = f
      · subst w
        refine ⟨by rw [pk_us, z], fun z2 => ?_⟩
        rw [z] at z2; exact absurd z2 (by decide)
      · rw [pk_un w]
        exact hs g (by omega)
/-- a character of a text -/
theorem ok_chL {post : Int32 → SX → Prop} {K B D : List Nat} {f p m : Nat} (hp : p < 20) (ho : od p = nI q) (hq : q < 20) (hK : ok_Kr ks q K) (hl : K.length ≤ 64) (hm : m ≤ 5)
    (k : ∀ rA', post (if m < D.length then nI (ok_at D m) else -5) (xF, sc, xc, pL, rA', sN, sI, sL, sT, od, us, tg, kL, ks, pb)) :
    ∀ (C : List Nat) (i n x : Nat) (A : List Nat), ok_By C → D.drop i = C → i ≤ m → x < 256 → C.length + 1 < n → K = A ++ ((ok_tx C).map (ok_tn (ok_bit sc f 2)) ++ B) →
      wX_charAt_66 post (nI p) (nI f) (nI m) n (nI x) (nI i) xF sc xc pL (nI A.length) sN sI sL sT od us tg kL ks pb := by
  intro C
  induction C with
  | nil =>
    intro i n x A _ hd hi hx hn e
    have hn : 1 < n := hn
    obtain ⟨n, rfl⟩ : ∃ m, n = m + 1 + 1 := ⟨n - 2, by omega⟩
    have hz : ¬ m < D.length := by
      have h1 := congrArg List.length hd
      rw [List.length_drop] at h1
      have h1 : D.length - i = 0 := h1
      omega
    rw [if_neg hz] at k
    refine br_f (nI_nlt hi (by omega)) (br_f (nI_pos (by omega)) ⟨vp_in_nI hp (by decide), ?_⟩)
    rw [nI_clamp (show p < 2 ^ 31 by omega), ho]
    refine ok_rcE hq hK hl e (fun A' e' => ?_)
    refine nm_r (nI_1 _) ?_
    have fin : wX_charAt_96 post (-1) xF sc xc pL (nI A'.length) sN sI sL sT od us tg kL ks pb := by
      unfold wX_charAt_96
      exact br_f (by decide) (k _)
    by_cases z : m < i + 1
    · exact br_t (nI_lt z (by omega)) fin
    · exact br_f (nI_nlt (by omega) (by omega)) (br_t (by decide) fin)
  | cons c C ih =>
    intro i n x A hC hd hi hx hn e
    rw [ok_By_c] at hC
    rw [List.length_cons] at hn
    obtain ⟨n, rfl⟩ : ∃ m, n = m + 1 := ⟨n - 1, by omega⟩
    have hi2 : i < D.length := by
      have h1 := congrArg List.length hd
      rw [List.length_drop, List.length_cons] at h1
      omega
    rw [ok_at_d hi2] at hd
    obtain ⟨hc, hd⟩ := List.cons.inj hd
    refine br_f (nI_nlt hi (by omega)) (br_f (nI_pos (by omega)) ⟨vp_in_nI hp (by decide), ?_⟩)
    rw [nI_clamp (show p < 2 ^ 31 by omega), ho]
    refine ok_rcC hq hK hl hC.1 e (fun A' e' => ?_)
    refine nm_r (nI_1 _) ?_
    by_cases z : i = m
    · subst z
      obtain ⟨n, rfl⟩ : ∃ m, n = m + 1 := ⟨n - 1, by omega⟩
      refine br_t (nI_lt (by omega) (by omega)) ?_
      unfold wX_charAt_96
      rw [if_pos hi2, hc] at k
      exact br_t (nI_pos' (by omega)) (k _)
    · exact ih (i + 1) n c A' hC.2 hd (by omega) hC.1 (by omega) e'
end
end
section
/-! the component's comparison, search, insertion and removal -/
section
variable {xF sc xc pL rA : Int32} {sN sI sL sT od us tg kL ks pb : Nat → Int32} {q : Nat} {K P : List Nat}
theorem ok_cmpL {post : Int32 → Prop} {pre : Bool} (hq : q < 20) (hK : ok_Kr ks q K) (hKl : K.length ≤ 64) (bK : ok_By K) (hP : ok_Pr pb P) (hPl : P.length ≤ 64) (bP : ok_By P) :
    ∀ (d i n : Nat), i + d = P.length → d < n → i ≤ K.length → post (ok_xc pre (K.drop i) (P.drop i)) → wX_compare_10 post (nI q) (ok_bo pre) (nI K.length) xF sc xc (nI P.length) rA sN sI sL sT od us tg kL ks pb n (nI i) := by
  intro d
  induction d with
  | zero =>
    intro i n hi hn hk h
    obtain ⟨n, rfl⟩ : ∃ m, n = m + 1 := ⟨n - 1, by omega⟩
    have e : i = P.length := by omega
    subst e
    rw [List.drop_length] at h
    refine br_t (nI_le (by omega) (by omega)) ?_
    by_cases z : P.length < K.length
    · refine br_f (nI_ge z (by omega)) ?_
      rw [ok_at_d z] at h
      have h : post (if pre = true then 0 else 1) := h
      cases pre with
      | true => exact br_f (by decide) h
      | false => exact br_t rfl h
    · refine br_t (nI_le (by omega) (by omega)) ?_
      rw [List.drop_eq_nil_of_le (by omega)] at h
      exact h
  | succ d ih =>
    intro i n hi hn hk h
    obtain ⟨n, rfl⟩ : ∃ m, n = m + 1 := ⟨n - 1, by omega⟩
    have hiP : i < P.length := by omega
    refine br_f (nI_ge (by omega) (by omega)) ?_
    rw [ok_at_d hiP] at h
    by_cases z : i < K.length
    · rw [ok_at_d z] at h
      have h : post (if ok_at K i = ok_at P i then ok_xc pre (K.drop (i + 1)) (P.drop (i + 1)) else nI (ok_at K i) - nI (ok_at P i)) := h
      refine br_t (nI_lt z (by omega)) ?_
      rw [show nI q * 64 + nI i = nI (q * 64 + i) from ok_ix q i 64]
      refine ⟨vp_in_nI (by omega) (by decide), vp_in_nI (by omega) (by decide), nm_r (e' := nI (ok_at K i) - nI (ok_at P i)) (by rw [nI_clamp (by omega), nI_clamp (by omega), hK i z, hP i hiP]) ?_⟩
      have b1 := ok_at_By bK i
      have b2 := ok_at_By bP i
      by_cases w : ok_at K i = ok_at P i
      · rw [if_pos w] at h
        refine br_t (by rw [w]; exact Int32.sub_self _) ?_
        exact nm_r (nI_1 _) (ih (i + 1) n (by omega) (by omega) z h)
      · rw [if_neg w] at h
        refine br_f (fun y => w ?_) h
        have := pk_sub_toInt (a := ok_at K i) (b := ok_at P i) (by omega) (by omega)
        rw [y, show (0 : Int32).toInt = 0 from by decide] at this
        omega
    · rw [List.drop_eq_nil_of_le (by omega)] at h
      exact br_f (nI_nlt (by omega) (by omega)) h
theorem ok_cmp {post : Int32 → Prop} {pre : Bool} (hq : q < 20) (hK : ok_Kr ks q K) (hkl : kL q = nI K.length) (hKl : K.length ≤ 64) (bK : ok_By K) (hP : ok_Pr pb P) (hPl : P.length ≤ 64) (bP : ok_By P)
    (h : post (ok_xc pre K P)) : wpX_compare post (xF, sc, xc, nI P.length, rA, sN, sI, sL, sT, od, us, tg, kL, ks, pb) (nI q) (ok_bo pre) := by
  unfold wpX_compare
  dsimp only
  refine ⟨vp_in_nI hq (by decide), nm_r (e' := nI K.length) (by rw [nI_clamp (by omega)]; exact hkl) ⟨P.length + 1, ?_⟩⟩
  exact ok_cmpL hq hK hKl bK hP hPl bP P.length 0 _ (by omega) (by omega) (by omega) h
theorem ok_bdL {post : Int32 → Prop} {beh pre : Bool} {c m : Nat} (hc : c ≤ 20)
    (hg : ∀ p, p < c → ∃ r : Int32, (∀ po : Int32 → Prop, po r → wpX_compare po (xF, sc, xc, pL, rA, sN, sI, sL, sT, od, us, tg, kL, ks, pb) (od p) (ok_bo pre)) ∧ ((if beh = true then ¬ 0 < r else ¬ 0 ≤ r) ↔ p < m)) (h : post (nI m)) :
    ∀ (d lo hi n : Nat), hi - lo ≤ d → d < n → lo ≤ m → m ≤ hi → hi ≤ c → wX_bound_8 post (ok_bo beh) (ok_bo pre) xF sc xc pL rA sN sI sL sT od us tg kL ks pb n (nI lo) (nI hi) := by
  intro d
  induction d with
  | zero =>
    intro lo hi n hd hn h1 h2 h3
    obtain ⟨n, rfl⟩ : ∃ m, n = m + 1 := ⟨n - 1, by omega⟩
    have e : lo = m := by omega
    subst e
    exact br_t (nI_le (by omega) (by omega)) h
  | succ d ih =>
    intro lo hi n hd hn h1 h2 h3
    obtain ⟨n, rfl⟩ : ∃ m, n = m + 1 := ⟨n - 1, by omega⟩
    by_cases z : lo < hi
    · refine br_f (nI_ge z (by omega)) ⟨by decide, nm_r (e' := nI ((lo + hi) / 2)) (by rw [nI_add]; exact pk_div (d := 2) (by omega) (by decide) (by decide)) ⟨vp_in_nI (by omega) (by decide), ?_⟩⟩
      rw [nI_clamp (by omega)]
      have hp : (lo + hi) / 2 < c := by omega
      obtain ⟨r, hw, hr⟩ := hg _ hp
      refine hw _ ?_
      have ih1 : ((lo + hi) / 2 < m) → wX_bound_8 post (ok_bo beh) (ok_bo pre) xF sc xc pL rA sN sI sL sT od us tg kL ks pb n (nI ((lo + hi) / 2 + 1)) (nI hi) := fun y => ih _ _ _ (by omega) (by omega) (by omega) (by omega) (by omega)
      have ih2 : (¬ (lo + hi) / 2 < m) → wX_bound_8 post (ok_bo beh) (ok_bo pre) xF sc xc pL rA sN sI sL sT od us tg kL ks pb n (nI lo) (nI ((lo + hi) / 2)) := fun y => ih _ _ _ (by omega) (by omega) (by omega) (by omega) (by omega)
      cases beh with
      | false =>
        refine br_t rfl (br_c (fun y => ?_) (fun y => ?_))
        · unfold wX_bound_63
          exact br_t rfl (ih2 (fun w => hr.mpr w y))
        · unfold wX_bound_63
          exact br_f (by decide) (nm_r (nI_1 _) (ih1 (hr.mp y)))
      | true =>
        refine br_f (by decide) (br_c (fun y => ?_) (fun y => ?_))
        · unfold wX_bound_63
          exact br_t rfl (ih2 (fun w => hr.mpr w y))
        · unfold wX_bound_63
          exact br_f (by decide) (nm_r (nI_1 _) (ih1 (hr.mp y)))
    · have e : lo = m := by omega
      subst e
      exact br_t (nI_le (by omega) (by omega)) h
theorem ok_bd {post : Int32 → Prop} {beh pre : Bool} {c m : Nat} (hc : c ≤ 20) (hm : m ≤ c)
    (hg : ∀ p, p < c → ∃ r : Int32, (∀ po : Int32 → Prop, po r → wpX_compare po (xF, sc, nI c, pL, rA, sN, sI, sL, sT, od, us, tg, kL, ks, pb) (od p) (ok_bo pre)) ∧ ((if beh = true then ¬ 0 < r else ¬ 0 ≤ r) ↔ p < m)) (h : post (nI m)) : wpX_bound post (xF, sc, nI c, pL, rA, sN, sI, sL, sT, od, us, tg, kL, ks, pb) (ok_bo beh) (ok_bo pre) := by
  unfold wpX_bound
  dsimp only
  exact ⟨c + 1, ok_bdL hc hg h c 0 c (c + 1) (by omega) (by omega) (by omega) hm (by omega)⟩
/-- the order with a gap -/
def ok_oi (od : Nat → Int32) (i c : Nat) : Nat → Int32 := fun p => if i < p ∧ p ≤ c then od (p - 1) else od p
theorem ok_oi_0 (od : Nat → Int32) (c : Nat) : ok_oi od c c = od := by
  funext p
  exact if_neg (by omega)
theorem ok_oi_s (od : Nat → Int32) {i c : Nat} (h : i < c) : upd (ok_oi od (i + 1) c) (i + 1) (ok_oi od (i + 1) c i) = ok_oi od i c := by
  funext p
  have e : ok_oi od (i + 1) c i = od i := if_neg (by omega)
  rw [e]
  by_cases z : p = i + 1
  · subst z
    rw [pk_us]
    exact (if_pos (show i < i + 1 ∧ i + 1 ≤ c by omega)).symm
  · rw [pk_un z]
    unfold ok_oi
    by_cases w : i + 1 < p ∧ p ≤ c
    · rw [if_pos w, if_pos (by omega)]
    · rw [if_neg w, if_neg (by omega)]
theorem ok_adO {post : Int32 → SX → Prop} {a c : Nat} (hc : c < 20) (ha : a ≤ c) (k : post (nI a) (xF, sc, nI (c + 1), pL, rA, sN, sI, sL, sT, upd (ok_oi od a c) a (nI q), us, tg, kL, ks, pb)) :
    ∀ (d i n : Nat), a + d = i → i ≤ c → d < n → wX_add_117 post (nI a) (nI q) xF sc (nI c) pL rA n (nI i) sN sI sL sT (ok_oi od i c) us tg kL ks pb := by
  intro d
  induction d with
  | zero =>
    intro i n hi hic hn
    obtain ⟨n, rfl⟩ : ∃ m, n = m + 1 := ⟨n - 1, by omega⟩
    have e : i = a := by omega
    subst e
    exact br_t (nI_le (by omega) (by omega)) ⟨vp_in_nI (by omega) (by decide), nm_r (e' := upd (ok_oi od i c) i (nI q)) (by rw [nI_clamp (by omega)]) (nm_r (nI_1 _) k)⟩
  | succ d ih =>
    intro i n hi hic hn
    obtain ⟨n, rfl⟩ : ∃ m, n = m + 1 := ⟨n - 1, by omega⟩
    obtain ⟨i, rfl⟩ : ∃ m, i = m + 1 := ⟨i - 1, by omega⟩
    refine br_f (nI_ge (by omega) (by omega)) ?_
    rw [nI_pred]
    refine ⟨vp_in_nI (by omega) (by decide), vp_in_nI (by omega) (by decide), nm_r (e' := ok_oi od i c) (by rw [nI_clamp (by omega), nI_clamp (by omega)]; exact ok_oi_s od (by omega)) (nm_r (pk_m1 _) ?_)⟩
    exact ih i n (by omega) (by omega) (by omega)
theorem ok_adK {post : Int32 → SX → Prop} {a : Nat} (hq : q < 20) (hP : ok_Pr pb P) (hPl : P.length ≤ 64) (bP : ok_By P)
    (k : ∀ ks', (∀ j, j < q * 64 ∨ q * 64 + 64 ≤ j → ks' j = ks j) → ok_Kr ks' q P → ∃ n, wX_add_117 post (nI a) (nI q) xF sc xc (nI P.length) rA n xc sN sI sL sT od us tg kL ks' pb) :
    ∀ (d i n : Nat) (ks1 : Nat → Int32), i + d = P.length → d < n → (∀ j, j < q * 64 ∨ q * 64 + 64 ≤ j → ks1 j = ks j) → (∀ j, j < i → ks1 (q * 64 + j) = nI (ok_at P j)) →
      wX_add_77 post (nI a) (nI q) xF sc xc (nI P.length) rA n (nI i) sN sI sL sT od us tg kL ks1 pb := by
  intro d
  induction d with
  | zero =>
    intro i n ks1 hi hn h1 h2
    obtain ⟨n, rfl⟩ : ∃ m, n = m + 1 := ⟨n - 1, by omega⟩
    have e : i = P.length := by omega
    subst e
    exact br_t (nI_le (by omega) (by omega)) (k ks1 h1 h2)
  | succ d ih =>
    intro i n ks1 hi hn h1 h2
    obtain ⟨n, rfl⟩ : ∃ m, n = m + 1 := ⟨n - 1, by omega⟩
    refine br_f (nI_ge (by omega) (by omega)) ?_
    rw [show nI q * 64 + nI i = nI (q * 64 + i) from ok_ix q i 64]
    have b := ok_at_By bP i
    refine ⟨vp_in_nI (by omega) (by decide), vp_in_nI (by omega) (by decide), nm_r (e' := upd ks1 (q * 64 + i) (nI (ok_at P i))) (by rw [nI_clamp (by omega), nI_clamp (by omega), hP i (by omega), (ok_nar _ b).2]) (nm_r (nI_1 _) ?_)⟩
    refine ih (i + 1) n _ (by omega) (by omega) (fun j hj => ?_) (fun j hj => ?_)
    · rw [pk_un (by omega)]; exact h1 j hj
    · by_cases z : j = i
      · subst z; exact pk_us
      · rw [pk_un (by omega)]; exact h2 j (by omega)
theorem ok_adF {post : Int32 → SX → Prop} {x1 x2 : Int32} (k : ∀ q, q < 20 → us q = 0 → wX_add_50 post x1 x2 (nI q) xF sc xc pL rA sN sI sL sT od us tg kL ks pb) :
    ∀ (d i n : Nat), i + d = 19 → d < n → (∃ j, i ≤ j ∧ j < 20 ∧ us j = 0) → wX_add_29 post x1 x2 xF sc xc pL rA sN sI sL sT od us tg kL ks pb n (nI i) := by
  intro d
  induction d with
  | zero =>
    intro i n hi hn ⟨j, h1, h2, h3⟩
    obtain ⟨n, rfl⟩ : ∃ m, n = m + 1 := ⟨n - 1, by omega⟩
    have e : j = i := by omega
    subst e
    exact br_t (nI_le (a := 19) (by omega) (by omega)) (k j h2 h3)
  | succ d ih =>
    intro i n hi hn ⟨j, h1, h2, h3⟩
    obtain ⟨n, rfl⟩ : ∃ m, n = m + 1 := ⟨n - 1, by omega⟩
    refine br_f (nI_ge (b := 19) (by omega) (by decide)) ⟨vp_in_nI (by omega) (by decide), ?_⟩
    rw [nI_clamp (show i < 2 ^ 31 by omega)]
    by_cases z : us i = 0
    · exact br_t z (k i (by omega) z)
    · refine br_f z (nm_r (nI_1 _) (ih (i + 1) n (by omega) (by omega) ⟨j, ?_, h2, h3⟩))
      have : j ≠ i := fun w => z (by rw [← w]; exact h3)
      omega
/-- the whole insertion behind the search -/
theorem ok_adA {post : Int32 → SX → Prop} {x1 : Int32} {a c : Nat} (hc : c < 20) (ha : a ≤ c) (hP : ok_Pr pb P) (hPl : P.length ≤ 64) (bP : ok_By P) (hf : ∃ j, j < 20 ∧ us j = 0)
    (k : ∀ q, q < 20 → us q = 0 → ∀ ks', (∀ j, j < q * 64 ∨ q * 64 + 64 ≤ j → ks' j = ks j) → ok_Kr ks' q P → post (nI a) (xF, sc, nI (c + 1), nI P.length, rA, sN, sI, sL, sT, upd (ok_oi od a c) a (nI q), upd us q 1, upd tg q x1, upd kL q (nI P.length), ks', pb)) :
    ∃ n, wX_add_29 post x1 (nI a) xF sc (nI c) (nI P.length) rA sN sI sL sT od us tg kL ks pb n 0 := by
  obtain ⟨j, hj, hu⟩ := hf
  refine ⟨20, ok_adF (fun q hq hz => ?_) 19 0 20 (by omega) (by omega) ⟨j, by omega, hj, hu⟩⟩
  unfold wX_add_50
  refine ⟨vp_in_nI hq (by decide), nm_r (e' := upd us q 1) (by rw [nI_clamp (by omega)]; rfl) ⟨vp_in_nI hq (by decide), nm_r (e' := upd tg q x1) (by rw [nI_clamp (by omega)]) ⟨vp_in_nI hq (by decide), nm_r (e' := upd kL q (nI P.length)) (by rw [nI_clamp (by omega)]) ⟨P.length + 1, ?_⟩⟩⟩⟩
  refine ok_adK hq hP hPl bP (fun ks' h1 h2 => ⟨c - a + 1, ?_⟩) P.length 0 _ ks (by omega) (by omega) (fun _ _ => rfl) (fun j hj => by omega)
  have := ok_adO (q := q) (od := od) hc ha (k q hq hz ks' h1 h2) (c - a) c (c - a + 1) (by omega) (by omega) (by omega)
  rw [ok_oi_0] at this
  exact this
/-- the order without a position -/
def ok_or' (od : Nat → Int32) (p i : Nat) : Nat → Int32 := fun j => if p ≤ j ∧ j < i then od (j + 1) else od j
theorem ok_or_0 (od : Nat → Int32) (p : Nat) : ok_or' od p p = od := by
  funext j
  exact if_neg (by omega)
theorem ok_or_s (od : Nat → Int32) {p i : Nat} (h : p ≤ i) : upd (ok_or' od p i) i (ok_or' od p i (i + 1)) = ok_or' od p (i + 1) := by
  funext j
  have e : ok_or' od p i (i + 1) = od (i + 1) := if_neg (by omega)
  rw [e]
  by_cases z : j = i
  · subst z
    rw [pk_us]
    exact (if_pos (show p ≤ j ∧ j < j + 1 by omega)).symm
  · rw [pk_un z]
    unfold ok_or'
    by_cases w : p ≤ j ∧ j < i
    · rw [if_pos w, if_pos (by omega)]
    · rw [if_neg w, if_neg (by omega)]
theorem ok_rmO {post : Int32 → SX → Prop} {p c : Nat} (hc : c < 20) (k : post (nI c) (xF, sc, nI c, pL, rA, sN, sI, sL, sT, ok_or' od p c, us, tg, kL, ks, pb)) :
    ∀ (d i n : Nat), i + d = c → p ≤ i → d < n → wX_remove_35 post xF sc (nI c) pL rA n (nI i) sN sI sL sT (ok_or' od p i) us tg kL ks pb := by
  intro d
  induction d with
  | zero =>
    intro i n hi hp hn
    obtain ⟨n, rfl⟩ : ∃ m, n = m + 1 := ⟨n - 1, by omega⟩
    have e : i = c := by omega
    subst e
    exact br_t (nI_le (by omega) (by omega)) k
  | succ d ih =>
    intro i n hi hp hn
    obtain ⟨n, rfl⟩ : ∃ m, n = m + 1 := ⟨n - 1, by omega⟩
    refine br_f (nI_ge (by omega) (by omega)) ?_
    rw [nI_1]
    refine ⟨vp_in_nI (by omega) (by decide), vp_in_nI (by omega) (by decide), nm_r (e' := ok_or' od p (i + 1)) (by rw [nI_clamp (by omega), nI_clamp (by omega)]; exact ok_or_s od hp) (nm_e ?_)⟩
    exact ih (i + 1) n (by omega) (by omega) (by omega)
end
end
section
/-! the reference's comparison, ranks and positions -/
/-- what the reference's arrays hold -/
def ok_VY (nu ln ch : Nat → Int32) : Prop := (∀ j, nu j = 0 ∨ nu j = 1) ∧ (∀ j, ∃ l, l ≤ 6 ∧ ln j = nI l) ∧ (∀ j, ∃ x, x < 256 ∧ ch j = nI x)
/-- the text of a cell -/
def ok_cc (ln ch : Nat → Int32) (j : Nat) : List Nat := ok_cs ch (j * 6) (ln j).toNatClampNeg
/-- the key of the first n fields of entry e -/
def ok_K (sc : Int32) (nu it ln ch : Nat → Int32) (n e : Nat) : List Nat := ok_en (ok_g sc (fun f => nu (e * 4 + f)) (fun f => it (e * 4 + f)) (fun f => ok_cc ln ch (e * 4 + f))) n
section
variable {yF sc yc : Int32} {ty nu it ln ch : Nat → Int32}
theorem ok_cc_By (h : ok_VY nu ln ch) (j : Nat) : ok_By (ok_cc ln ch j) := ok_cs_By _ _ (fun i _ => h.2.2 _)
theorem ok_cc_len (h : ok_VY nu ln ch) (j : Nat) : (ok_cc ln ch j).length ≤ 6 ∧ ln j = nI (ok_cc ln ch j).length := by
  obtain ⟨l, hl, e⟩ := h.2.1 j
  unfold ok_cc
  rw [ok_cs_len, e, nI_clamp (by omega)]
  exact ⟨hl, rfl⟩
theorem ok_VY_CV (h : ok_VY nu ln ch) (e F : Nat) : ok_CV F (fun f => nu (e * 4 + f)) (fun f => ok_cc ln ch (e * 4 + f)) := fun f _ => ⟨h.1 _, ok_cc_By h _, (ok_cc_len h _).1⟩
theorem ok_K_By (h : ok_VY nu ln ch) (n e : Nat) : ok_By (ok_K sc nu it ln ch n e) := ok_g_By (ok_VY_CV h e n)
theorem ok_K_len (h : ok_VY nu ln ch) (n e : Nat) : (ok_K sc nu it ln ch n e).length ≤ 15 * n := ok_g_len (ok_VY_CV h e n)
theorem ok_K_Tri (h : ok_VY nu ln ch) (n e e' : Nat) : ok_Tri (ok_K sc nu it ln ch n e) (ok_K sc nu it ln ch n e') := ok_en_Tri (fun f _ => (ok_ef_sg (ok_cc_By h _) (ok_cc_By h _)).1)
theorem ok_K_cut {n m : Nat} (h : n ≤ m) (e : Nat) : ∃ T, ok_K sc nu it ln ch m e = ok_K sc nu it ln ch n e ++ T := ok_en_cut _ h
theorem ok_K_0 (e : Nat) : ok_K sc nu it ln ch 0 e = [] := rfl
theorem ok_yte {post : Int32 → Prop} (f : Nat) (h : post (ok_bo (ok_bit sc f 1))) : wpY_text post (yF, sc, yc, ty, nu, it, ln, ch) (nI f) := by
  unfold wpY_text
  dsimp only
  refine ⟨fun c => ?_, fun c => ?_⟩
  · rw [show ok_bit sc f 1 = true from decide_eq_true c] at h; exact h
  · rw [show ok_bit sc f 1 = false from decide_eq_false c] at h; exact h
theorem ok_yvL {post : Int32 → Prop} {a b la lb : Nat} (ha : a < 84) (hb : b < 84) (h6 : la ≤ 6) (g6 : lb ≤ 6) (hla : ln a = nI la) (hlb : ln b = nI lb) (hch : ∀ j, ∃ x, x < 256 ∧ ch j = nI x) :
    ∀ (d i n : Nat), i + d = 6 → d < n → post (ok_sg (ok_tx (ok_cs ch (a * 6 + i) (la - i))) (ok_tx (ok_cs ch (b * 6 + i) (lb - i)))) → wY_values_47 post (nI a) (nI b) yF sc yc ty nu it ln ch n (nI i) := by
  intro d
  induction d with
  | zero =>
    intro i n hi hn h
    obtain ⟨n, rfl⟩ : ∃ m, n = m + 1 := ⟨n - 1, by omega⟩
    rw [show la - i = 0 by omega, show lb - i = 0 by omega, ok_cs_0, ok_cs_0, ok_sg_e] at h
    exact br_t (nI_le (a := 6) (by omega) (by omega)) h
  | succ d ih =>
    intro i n hi hn h
    obtain ⟨n, rfl⟩ : ∃ m, n = m + 1 := ⟨n - 1, by omega⟩
    have ih := ih (i + 1) n (by omega) (by omega)
    obtain ⟨x, hx, ex⟩ := hch (a * 6 + i)
    obtain ⟨y, hy, ey⟩ := hch (b * 6 + i)
    have ea : nI a * 6 + nI i = nI (a * 6 + i) := ok_ix a i 6
    have eb : nI b * 6 + nI i = nI (b * 6 + i) := ok_ix b i 6
    refine br_f (nI_ge (b := 6) (by omega) (by decide)) ⟨vp_in_nI ha (by decide), ?_⟩
    rw [nI_clamp (show a < 2 ^ 31 by omega), hla, ea]
    by_cases z : la ≤ i
    · refine br_t (nI_le z (by omega)) ?_
      unfold wY_values_81
      refine ⟨vp_in_nI hb (by decide), ?_⟩
      rw [nI_clamp (show b < 2 ^ 31 by omega), hlb, eb]
      rw [show la - i = 0 by omega, ok_cs_0] at h
      rw [show la - (i + 1) = 0 by omega, ok_cs_0] at ih
      by_cases w : lb ≤ i
      · rw [show lb - i = 0 by omega, ok_cs_0] at h
        rw [show lb - (i + 1) = 0 by omega, ok_cs_0] at ih
        refine br_t (nI_le w (by omega)) ?_
        unfold wY_values_110
        exact br_t rfl (nm_r (nI_1 _) (ih h))
      · rw [show lb - i = (lb - (i + 1)) + 1 by omega, ok_cs_s, ok_sg_l (ok_tx_1 _ _)] at h
        refine br_f (nI_ge (by omega) (by omega)) ⟨vp_in_nI (by omega) (by decide), ?_⟩
        unfold wY_values_110
        rw [nI_clamp (by omega), ey]
        have hlt : (-1 : Int32) < nI y := Int32.lt_of_lt_of_le (by decide) (nI_pos' (by omega))
        refine br_f (fun q => ?_) (br_f (fun q => ?_) h)
        · rw [← q] at hlt; exact absurd hlt (by decide)
        · exact absurd (Int32.lt_of_lt_of_le hlt q) (by decide)
    · refine br_f (nI_ge (by omega) (by omega)) ⟨vp_in_nI (by omega) (by decide), ?_⟩
      unfold wY_values_81
      refine ⟨vp_in_nI hb (by decide), ?_⟩
      rw [nI_clamp (show b < 2 ^ 31 by omega), hlb, eb, nI_clamp (show a * 6 + i < 2 ^ 31 by omega), ex]
      rw [show la - i = (la - (i + 1)) + 1 by omega, ok_cs_s, ex, nI_clamp (show x < 2 ^ 31 by omega)] at h
      by_cases w : lb ≤ i
      · rw [show lb - i = 0 by omega, ok_cs_0, ok_sg_g (ok_tx_1 _ _)] at h
        refine br_t (nI_le w (by omega)) ?_
        unfold wY_values_110
        have hlt : (-1 : Int32) < nI x := Int32.lt_of_lt_of_le (by decide) (nI_pos' (by omega))
        refine br_f (fun q => ?_) (br_t (Int32.le_of_lt hlt) h)
        rw [q] at hlt; exact absurd hlt (by decide)
      · rw [show lb - i = (lb - (i + 1)) + 1 by omega, ok_cs_s, ey, nI_clamp (show y < 2 ^ 31 by omega)] at h
        refine br_f (nI_ge (by omega) (by omega)) ⟨vp_in_nI (by omega) (by decide), ?_⟩
        unfold wY_values_110
        rw [nI_clamp (by omega), ey]
        rcases Nat.lt_trichotomy x y with c | c | c
        · rw [ok_sg_l (ok_tx_2 _ _ c)] at h
          exact br_f (fun q => by have := (nI_eq (by omega) (by omega)).mp q; omega) (br_f (nI_ge c (by omega)) h)
        · subst c
          rw [ok_tx_sg3] at h
          exact br_t rfl (nm_r (nI_1 _) (ih h))
        · rw [ok_sg_g (ok_tx_2 _ _ c)] at h
          exact br_f (fun q => by have := (nI_eq (by omega) (by omega)).mp q; omega) (br_t (nI_le (by omega) (by omega)) h)
theorem ok_yv {post : Int32 → Prop} (hV : ok_VY nu ln ch) {a b : Nat} (ha : a < 84) (hb : b < 84) (te : Bool) (h : post (ok_sg (ok_vb te (it a) (ok_cc ln ch a)) (ok_vb te (it b) (ok_cc ln ch b)))) : wpY_values post (yF, sc, yc, ty, nu, it, ln, ch) (nI a) (nI b) (ok_bo te) := by
  unfold wpY_values
  dsimp only
  cases te with
  | true =>
    refine br_f (by decide) ⟨7, ?_⟩
    obtain ⟨la, h6, ea⟩ := hV.2.1 a
    obtain ⟨lb, g6, eb⟩ := hV.2.1 b
    refine ok_yvL ha hb h6 g6 ea eb hV.2.2 6 0 7 (by omega) (by omega) ?_
    have h : post (ok_sg (ok_tx (ok_cs ch (a * 6) (ln a).toNatClampNeg)) (ok_tx (ok_cs ch (b * 6) (ln b).toNatClampNeg))) := h
    rw [ea, eb, nI_clamp (by omega), nI_clamp (by omega)] at h
    exact h
  | false =>
    have h : post (ok_sg (ok_ib (ok_un (it a))) (ok_ib (ok_un (it b)))) := h
    have s := ok_ib_sg (it a) (it b)
    refine br_t rfl ⟨vp_in_nI ha (by decide), vp_in_nI hb (by decide), ?_⟩
    rw [nI_clamp (show a < 2 ^ 31 by omega), nI_clamp (show b < 2 ^ 31 by omega)]
    refine br_c (fun c => ⟨vp_in_nI ha (by decide), vp_in_nI hb (by decide), br_c (fun c2 => ?_) (fun c2 => ?_)⟩) (fun c => ?_)
    · rw [s.2.2 (Int32.le_antisymm c2 c)] at h; exact h
    · rw [s.2.1 (Int32.not_le.mp c2)] at h; exact h
    · rw [s.1 (Int32.not_le.mp c)] at h; exact h
theorem ok_yf78 {post : Int32 → Prop} (hV : ok_VY nu ln ch) {f a b : Nat} (ha : a < 84) (hb : b < 84) (hn : nu a = 0 ∨ nu b = 0) (h : post (ok_fc sc f (nu a) (it a) (ok_cc ln ch a) (nu b) (it b) (ok_cc ln ch b))) :
    wY_field_78 post (nI f) (nI a) (nI b) (ok_bo (ok_bit sc f 2)) (ok_bo (ok_bit sc f 4)) yF sc yc ty nu it ln ch := by
  unfold wY_field_78
  unfold ok_fc at h
  refine ⟨vp_in_nI ha (by decide), ?_⟩
  rw [nI_clamp (show a < 2 ^ 31 by omega), nI_clamp (show b < 2 ^ 31 by omega)]
  by_cases z : nu a = 0
  · rw [if_pos z] at h
    refine br_t z ⟨vp_in_nI hb (by decide), ?_⟩
    by_cases w : nu b = 0
    · rw [if_pos w] at h
      refine br_t w ?_
      refine ok_yte f ?_
      refine ok_yv hV ha hb _ ?_
      cases t : ok_bit sc f 2 with
      | true => rw [t, if_pos rfl] at h; exact br_f (by decide) h
      | false => rw [t, if_neg (by decide)] at h; exact br_t rfl h
    · rw [if_neg w] at h
      refine br_f w ?_
      cases t : ok_bit sc f 4 with
      | true => rw [t, if_pos rfl] at h; exact br_f (by decide) h
      | false => rw [t, if_neg (by decide)] at h; exact br_t rfl h
  · have w : nu b = 0 := hn.resolve_left z
    rw [if_neg z, if_pos w] at h
    refine br_f z ?_
    cases t : ok_bit sc f 4 with
    | true => rw [t, if_pos rfl] at h; exact br_f (by decide) h
    | false => rw [t, if_neg (by decide)] at h; exact br_t rfl h
theorem ok_yf54 {post : Int32 → Prop} (hV : ok_VY nu ln ch) {f a b : Nat} (ha : a < 84) (hb : b < 84) (h : post (ok_fc sc f (nu a) (it a) (ok_cc ln ch a) (nu b) (it b) (ok_cc ln ch b))) :
    wY_field_54 post (nI f) (nI a) (nI b) (ok_bo (ok_bit sc f 2)) (ok_bo (ok_bit sc f 4)) yF sc yc ty nu it ln ch := by
  unfold wY_field_54
  refine ⟨vp_in_nI ha (by decide), ?_⟩
  rw [nI_clamp (show a < 2 ^ 31 by omega), nI_clamp (show b < 2 ^ 31 by omega)]
  by_cases z : nu a = 0
  · exact br_t z (ok_yf78 hV ha hb (Or.inl z) h)
  · refine br_f z ⟨vp_in_nI hb (by decide), ?_⟩
    by_cases w : nu b = 0
    · exact br_t w (ok_yf78 hV ha hb (Or.inr w) h)
    · unfold ok_fc at h
      rw [if_neg z, if_neg w] at h
      exact br_f w h
theorem ok_yf {post : Int32 → Prop} (hV : ok_VY nu ln ch) {x y f : Nat} (hx : x < 21) (hy : y < 21) (hf : f < 4) (h : post (ok_fc sc f (nu (x * 4 + f)) (it (x * 4 + f)) (ok_cc ln ch (x * 4 + f)) (nu (y * 4 + f)) (it (y * 4 + f)) (ok_cc ln ch (y * 4 + f)))) :
    wpY_field post (yF, sc, yc, ty, nu, it, ln, ch) (nI x) (nI y) (nI f) := by
  have k := ok_yf54 (yF := yF) (yc := yc) (ty := ty) hV (show x * 4 + f < 84 by omega) (show y * 4 + f < 84 by omega) h
  unfold wpY_field
  dsimp only
  refine nm_r (ok_ix x f 4) (nm_r (ok_ix y f 4) ?_)
  refine ⟨fun c => ?_, fun c => ?_⟩
  · rw [show ok_bit sc f 2 = true from decide_eq_true c] at k
    unfold wY_field_33
    refine ⟨fun c => ?_, fun c => ?_⟩
    · rw [show ok_bit sc f 4 = true from decide_eq_true c] at k; exact k
    · rw [show ok_bit sc f 4 = false from decide_eq_false c] at k; exact k
  · rw [show ok_bit sc f 2 = false from decide_eq_false c] at k
    unfold wY_field_33
    refine ⟨fun c => ?_, fun c => ?_⟩
    · rw [show ok_bit sc f 4 = true from decide_eq_true c] at k; exact k
    · rw [show ok_bit sc f 4 = false from decide_eq_false c] at k; exact k
theorem ok_ycL {post : Int32 → Prop} (hV : ok_VY nu ln ch) {x y N : Nat} (hx : x < 21) (hy : y < 21) (hN : N ≤ 4) (h : post (ok_sg (ok_K sc nu it ln ch N x) (ok_K sc nu it ln ch N y))) :
    ∀ (d f n : Nat), f + d = N → d < n → ok_K sc nu it ln ch f x = ok_K sc nu it ln ch f y → wY_compare_3 post (nI x) (nI y) (nI N) yF sc yc ty nu it ln ch n (nI f) := by
  intro d
  induction d with
  | zero =>
    intro f n hf hn e
    obtain ⟨n, rfl⟩ : ∃ m, n = m + 1 := ⟨n - 1, by omega⟩
    have z : f = N := by omega
    subst z
    rw [e, ok_sg_e] at h
    exact br_t (nI_le (by omega) (by omega)) h
  | succ d ih =>
    intro f n hf hn e
    obtain ⟨n, rfl⟩ : ∃ m, n = m + 1 := ⟨n - 1, by omega⟩
    refine br_f (nI_ge (by omega) (by omega)) ?_
    refine ok_yf hV hx hy (by omega) ?_
    have s := ok_ef_sg (sc := sc) (f := f) (n1 := nu (x * 4 + f)) (v1 := it (x * 4 + f)) (n2 := nu (y * 4 + f)) (v2 := it (y * 4 + f)) (ok_cc_By hV (x * 4 + f)) (ok_cc_By hV (y * 4 + f))
    rw [← s.2]
    have ex : ok_K sc nu it ln ch (f + 1) x = ok_K sc nu it ln ch f x ++ ok_ef sc f (nu (x * 4 + f)) (it (x * 4 + f)) (ok_cc ln ch (x * 4 + f)) := rfl
    have ey : ok_K sc nu it ln ch (f + 1) y = ok_K sc nu it ln ch f y ++ ok_ef sc f (nu (y * 4 + f)) (it (y * 4 + f)) (ok_cc ln ch (y * 4 + f)) := rfl
    by_cases z : ok_ef sc f (nu (x * 4 + f)) (it (x * 4 + f)) (ok_cc ln ch (x * 4 + f)) = ok_ef sc f (nu (y * 4 + f)) (it (y * 4 + f)) (ok_cc ln ch (y * 4 + f))
    · refine br_t ((ok_sg_0 s.1).mpr z) (nm_r (nI_1 _) ?_)
      exact ih (f + 1) n (by omega) (by omega) (by rw [ex, ey, e, z])
    · refine br_f (fun w => z ((ok_sg_0 s.1).mp w)) ?_
      obtain ⟨T, eT⟩ := ok_K_cut (sc := sc) (nu := nu) (it := it) (ln := ln) (ch := ch) (show f + 1 ≤ N by omega) x
      obtain ⟨U, eU⟩ := ok_K_cut (sc := sc) (nu := nu) (it := it) (ln := ln) (ch := ch) (show f + 1 ≤ N by omega) y
      rw [eT, eU, ok_sg_app _ _ (ok_K_Tri hV (f + 1) x y) (by rw [ex, ey, e]; exact fun w => z (List.append_cancel_left w)), ex, ey, e, ok_sg_pre] at h
      exact h
theorem ok_yc {post : Int32 → Prop} (hV : ok_VY nu ln ch) {x y N : Nat} (hx : x < 21) (hy : y < 21) (hN : N ≤ 4) (h : post (ok_sg (ok_K sc nu it ln ch N x) (ok_K sc nu it ln ch N y))) : wpY_compare post (yF, sc, yc, ty, nu, it, ln, ch) (nI x) (nI y) (nI N) := by
  unfold wpY_compare
  dsimp only
  exact ⟨N + 1, ok_ycL hV hx hy hN h N 0 (N + 1) (by omega) (by omega) ((ok_K_0 x).trans (ok_K_0 y).symm)⟩
theorem ok_ypL {post : Int32 → Prop} (hV : ok_VY nu ln ch) {F c e : Nat} (he : e < 21) (hF : F ≤ 4) (hc : c ≤ 20) (h : post (nI (ok_rk (ok_lt (ok_K sc nu it ln ch F)) c e))) :
    ∀ (d i n : Nat), i + d = c → d < n → wY_place_4 post (nI e) (nI F) sc (nI c) ty nu it ln ch n (nI (ok_cn (fun i => ok_lt (ok_K sc nu it ln ch F) i e) i)) (nI i) := by
  intro d
  induction d with
  | zero =>
    intro i n hi hn
    obtain ⟨n, rfl⟩ : ∃ m, n = m + 1 := ⟨n - 1, by omega⟩
    have z : i = c := by omega
    subst z
    exact br_t (nI_le (by omega) (by omega)) h
  | succ d ih =>
    intro i n hi hn
    obtain ⟨n, rfl⟩ : ∃ m, n = m + 1 := ⟨n - 1, by omega⟩
    have ih := ih (i + 1) n (by omega) (by omega)
    rw [ok_cn_s] at ih
    refine br_f (nI_ge (by omega) (by omega)) ?_
    refine ok_yc hV (by omega) he hF ?_
    have t := ok_K_Tri (sc := sc) (it := it) hV F i e
    cases l : ok_dl (ok_K sc nu it ln ch F i) (ok_K sc nu it ln ch F e) with
    | true =>
      have e1 : ok_lt (ok_K sc nu it ln ch F) i e = true := by rw [ok_lt_iff]; exact Or.inl l
      rw [e1] at ih
      exact br_t (ok_sg_n.mpr l) (nm_r (nI_1 _) (nm_r (nI_1 _) ih))
    | false =>
      refine br_f (fun w => by rw [ok_sg_n.mp w] at l; cases l) ?_
      cases g : ok_dl (ok_K sc nu it ln ch F e) (ok_K sc nu it ln ch F i) with
      | true =>
        have e1 : ok_lt (ok_K sc nu it ln ch F) i e = false := by unfold ok_lt; rw [l, g]; rfl
        rw [e1] at ih
        exact br_f (by rw [ok_sg_g g]; decide) (nm_r (nI_1 _) ih)
      | false =>
        have e2 : ok_sg (ok_K sc nu it ln ch F i) (ok_K sc nu it ln ch F e) = 0 := by unfold ok_sg; rw [l, g]; rfl
        refine br_t e2 ?_
        by_cases z : e ≤ i
        · have e1 : ok_lt (ok_K sc nu it ln ch F) i e = false := by unfold ok_lt; rw [l, g, decide_eq_false (by omega)]; rfl
          rw [e1] at ih
          exact br_t (nI_le z (by omega)) (nm_r (nI_1 _) ih)
        · have e1 : ok_lt (ok_K sc nu it ln ch F) i e = true := by rw [ok_lt_iff]; exact Or.inr ⟨g, by omega⟩
          rw [e1] at ih
          exact br_f (nI_ge (by omega) (by omega)) (nm_r (nI_1 _) (nm_r (nI_1 _) ih))
theorem ok_yp {post : Int32 → Prop} (hV : ok_VY nu ln ch) {F c e : Nat} (he : e < 21) (hF : F ≤ 4) (hc : c ≤ 20) (h : post (nI (ok_rk (ok_lt (ok_K sc nu it ln ch F)) c e))) : wpY_place post (nI F, sc, nI c, ty, nu, it, ln, ch) (nI e) := by
  unfold wpY_place
  dsimp only
  exact ⟨c + 1, ok_ypL hV he hF hc h c 0 (c + 1) (by omega) (by omega)⟩
theorem ok_K_or (hV : ok_VY nu ln ch) (F c : Nat) : ok_Or (ok_lt (ok_K sc nu it ln ch F)) c := ok_lt_or (fun i e _ _ => ok_K_Tri hV F i e)
theorem ok_yaT {post : Int32 → Prop} (hV : ok_VY nu ln ch) {F c e : Nat} (hF : F ≤ 4) (hc : c ≤ 20) (he : e < c) (h : post (nI e)) : wpY_at post (nI F, sc, nI c, ty, nu, it, ln, ch) (nI (ok_rk (ok_lt (ok_K sc nu it ln ch F)) c e)) := by
  have hO := ok_K_or (sc := sc) (it := it) hV F c
  have L : ∀ (d i n : Nat), i + d = e → d < n → wY_at_2 post (nI (ok_rk (ok_lt (ok_K sc nu it ln ch F)) c e)) (nI F) sc (nI c) ty nu it ln ch n (nI i) := by
    intro d
    induction d with
    | zero =>
      intro i n hi hn
      obtain ⟨n, rfl⟩ : ∃ m, n = m + 1 := ⟨n - 1, by omega⟩
      have z : i = e := by omega
      subst z
      refine br_f (nI_ge (by omega) (by omega)) ?_
      exact ok_yp hV (by omega) hF hc (br_t rfl h)
    | succ d ih =>
      intro i n hi hn
      obtain ⟨n, rfl⟩ : ∃ m, n = m + 1 := ⟨n - 1, by omega⟩
      refine br_f (nI_ge (by omega) (by omega)) ?_
      refine ok_yp hV (by omega) hF hc (br_f (fun w => ?_) (nm_r (nI_1 _) (ih (i + 1) n (by omega) (by omega))))
      have b1 := ok_rk_b hO he
      have b2 := ok_rk_b hO (show i < c by omega)
      have := ok_rk_inj hO (show i < c by omega) he ((nI_eq (by omega) (by omega)).mp w)
      omega
  unfold wpY_at
  dsimp only
  exact ⟨e + 1, L e 0 (e + 1) (by omega) (by omega)⟩
theorem ok_yaF {post : Int32 → Prop} (hV : ok_VY nu ln ch) {F c : Nat} (hF : F ≤ 4) (hc : c ≤ 20) {x : Int32} (hx : ∀ j, j < c → x ≠ nI j) (h : post (-1)) : wpY_at post (nI F, sc, nI c, ty, nu, it, ln, ch) x := by
  have hO := ok_K_or (sc := sc) (it := it) hV F c
  have L : ∀ (d i n : Nat), i + d = c → d < n → wY_at_2 post x (nI F) sc (nI c) ty nu it ln ch n (nI i) := by
    intro d
    induction d with
    | zero =>
      intro i n hi hn
      obtain ⟨n, rfl⟩ : ∃ m, n = m + 1 := ⟨n - 1, by omega⟩
      exact br_t (nI_le (by omega) (by omega)) h
    | succ d ih =>
      intro i n hi hn
      obtain ⟨n, rfl⟩ : ∃ m, n = m + 1 := ⟨n - 1, by omega⟩
      refine br_f (nI_ge (by omega) (by omega)) ?_
      exact ok_yp hV (by omega) hF hc (br_f (fun w => hx _ (ok_rk_b hO (show i < c by omega)) w.symm) (nm_r (nI_1 _) (ih (i + 1) n (by omega) (by omega))))
  unfold wpY_at
  dsimp only
  exact ⟨c + 1, L c 0 (c + 1) (by omega) (by omega)⟩
theorem ok_ybl {post : Int32 → Prop} (hV : ok_VY nu ln ch) {F c : Nat} (hF : F ≤ 4) (hc : c ≤ 20) (h : post (nI (ok_cn (fun i => ok_dl (ok_K sc nu it ln ch F i) (ok_K sc nu it ln ch F 20)) c))) : wpY_below post (nI F, sc, nI c, ty, nu, it, ln, ch) := by
  have L : ∀ (d i n : Nat), i + d = c → d < n → wY_below_4 post (nI F) sc (nI c) ty nu it ln ch n (nI (ok_cn (fun i => ok_dl (ok_K sc nu it ln ch F i) (ok_K sc nu it ln ch F 20)) i)) (nI i) := by
    intro d
    induction d with
    | zero =>
      intro i n hi hn
      obtain ⟨n, rfl⟩ : ∃ m, n = m + 1 := ⟨n - 1, by omega⟩
      have z : i = c := by omega
      subst z
      exact br_t (nI_le (by omega) (by omega)) h
    | succ d ih =>
      intro i n hi hn
      obtain ⟨n, rfl⟩ : ∃ m, n = m + 1 := ⟨n - 1, by omega⟩
      have ih := ih (i + 1) n (by omega) (by omega)
      rw [ok_cn_s] at ih
      refine br_f (nI_ge (by omega) (by omega)) ?_
      refine ok_yc (y := 20) hV (by omega) (by decide) hF ?_
      cases l : ok_dl (ok_K sc nu it ln ch F i) (ok_K sc nu it ln ch F 20) with
      | true =>
        rw [l] at ih
        exact br_f (Int32.not_le.mpr (ok_sg_n.mpr l)) (nm_r (nI_1 _) (nm_r (nI_1 _) ih))
      | false =>
        rw [l] at ih
        exact br_t (Int32.not_lt.mp (fun w => by rw [ok_sg_n.mp w] at l; cases l)) (nm_r (nI_1 _) ih)
  unfold wpY_below
  dsimp only
  exact ⟨c + 1, L c 0 (c + 1) (by omega) (by omega)⟩
theorem ok_ymt {post : Int32 → Prop} (hV : ok_VY nu ln ch) {F c N : Nat} (hN : N ≤ F) (hF : F ≤ 4) (hc : c ≤ 20) (h : post (nI (ok_cn (fun i => decide (ok_K sc nu it ln ch N i = ok_K sc nu it ln ch N 20)) c))) : wpY_matching post (nI F, sc, nI c, ty, nu, it, ln, ch) (nI N) := by
  have L : ∀ (d i n : Nat), i + d = c → d < n → wY_matching_18 post (nI N) (nI F) sc (nI c) ty nu it ln ch n (nI (ok_cn (fun i => decide (ok_K sc nu it ln ch N i = ok_K sc nu it ln ch N 20)) i)) (nI i) := by
    intro d
    induction d with
    | zero =>
      intro i n hi hn
      obtain ⟨n, rfl⟩ : ∃ m, n = m + 1 := ⟨n - 1, by omega⟩
      have z : i = c := by omega
      subst z
      exact br_t (nI_le (by omega) (by omega)) h
    | succ d ih =>
      intro i n hi hn
      obtain ⟨n, rfl⟩ : ∃ m, n = m + 1 := ⟨n - 1, by omega⟩
      have ih := ih (i + 1) n (by omega) (by omega)
      rw [ok_cn_s] at ih
      refine br_f (nI_ge (by omega) (by omega)) ?_
      refine ok_yc (y := 20) hV (by omega) (by decide) (by omega) ?_
      have t := ok_K_Tri (sc := sc) (it := it) hV N i 20
      by_cases z : ok_K sc nu it ln ch N i = ok_K sc nu it ln ch N 20
      · rw [decide_eq_true z] at ih
        exact br_t ((ok_sg_0 t).mpr z) (nm_r (nI_1 _) (nm_r (nI_1 _) ih))
      · rw [decide_eq_false z] at ih
        exact br_f (fun w => z ((ok_sg_0 t).mp w)) (nm_r (nI_1 _) ih)
  unfold wpY_matching
  dsimp only
  exact br_f (nI_pos (by omega)) (br_t (nI_le hN (by omega)) ⟨c + 1, L c 0 (c + 1) (by omega) (by omega)⟩)
end
end
section
/-! the reference copies and shifts its cells -/
/-- a block of w cells copied from block a to block b, as far as k -/
def ok_cp (x : Nat → Int32) (w a b k : Nat) : Nat → Int32 := fun j => if b * w ≤ j ∧ j < b * w + k then x (a * w + (j - b * w)) else x j
theorem ok_cp_0 (x : Nat → Int32) (w a b : Nat) : ok_cp x w a b 0 = x := by
  funext j
  exact if_neg (by omega)
theorem ok_blk {w a b : Nat} (h : a ≠ b) : a * w + w ≤ b * w ∨ b * w + w ≤ a * w := by
  rcases Nat.lt_or_gt_of_ne h with g | g
  · have := Nat.mul_le_mul_right w (show a + 1 ≤ b from g)
    rw [Nat.add_mul, Nat.one_mul] at this
    exact Or.inl this
  · have := Nat.mul_le_mul_right w (show b + 1 ≤ a from g)
    rw [Nat.add_mul, Nat.one_mul] at this
    exact Or.inr this
theorem ok_cp_s (x : Nat → Int32) {w a b k : Nat} (h : a ≠ b) (hk : k < w) : upd (ok_cp x w a b k) (b * w + k) (ok_cp x w a b k (a * w + k)) = ok_cp x w a b (k + 1) := by
  have hb := ok_blk (w := w) h
  funext j
  have e : ok_cp x w a b k (a * w + k) = x (a * w + k) := if_neg (by omega)
  rw [e]
  by_cases z : j = b * w + k
  · subst z
    rw [pk_us]
    refine Eq.symm ((if_pos (by omega)).trans ?_)
    exact congrArg x (by omega)
  · rw [pk_un z]
    unfold ok_cp
    by_cases y : b * w ≤ j ∧ j < b * w + k
    · rw [if_pos y, if_pos (by omega)]
    · rw [if_neg y, if_neg (by omega)]
theorem ok_cp_v (x : Nat → Int32) (w a b k j : Nat) : ∃ i, ok_cp x w a b k j = x i := by
  unfold ok_cp
  split
  · exact ⟨_, rfl⟩
  · exact ⟨_, rfl⟩
theorem ok_cp_in (x : Nat → Int32) {w a b f : Nat} (h : f < w) : ok_cp x w a b w (b * w + f) = x (a * w + f) := by
  refine (if_pos (by omega)).trans ?_
  exact congrArg x (by omega)
theorem ok_cp_out (x : Nat → Int32) {w a b e f : Nat} (h : f < w) (hn : e ≠ b) : ok_cp x w a b w (e * w + f) = x (e * w + f) := by
  have := ok_blk (w := w) hn
  exact if_neg (by omega)
/-- the blocks from e to i each filled with the next one -/
def ok_sh (x : Nat → Int32) (w e i : Nat) : Nat → Int32 := fun j => if e * w ≤ j ∧ j < i * w then x (j + w) else x j
theorem ok_sh_0 (x : Nat → Int32) (w e : Nat) : ok_sh x w e e = x := by
  funext j
  exact if_neg (by omega)
theorem ok_sh_s (x : Nat → Int32) {w e i : Nat} (h : e ≤ i) : ok_cp (ok_sh x w e i) w (i + 1) i w = ok_sh x w e (i + 1) := by
  have h1 : (i + 1) * w = i * w + w := Nat.succ_mul i w
  have h2 := Nat.mul_le_mul_right w h
  funext j
  unfold ok_cp
  rw [h1]
  by_cases z : i * w ≤ j ∧ j < i * w + w
  · rw [if_pos z]
    have e1 : ok_sh x w e i (i * w + w + (j - i * w)) = x (i * w + w + (j - i * w)) := if_neg (by omega)
    have e2 : ok_sh x w e (i + 1) j = x (j + w) := if_pos (by rw [h1]; omega)
    rw [e1, e2]
    exact congrArg x (by omega)
  · rw [if_neg z]
    unfold ok_sh
    rw [h1]
    by_cases y : e * w ≤ j ∧ j < i * w
    · rw [if_pos y, if_pos (by omega)]
    · rw [if_neg y, if_neg (by omega)]
theorem ok_sh_1 (x : Nat → Int32) {e i : Nat} (h : e ≤ i) : upd (ok_sh x 1 e i) i (ok_sh x 1 e i (i + 1)) = ok_sh x 1 e (i + 1) := by
  funext j
  have e1 : ok_sh x 1 e i (i + 1) = x (i + 1) := if_neg (by omega)
  rw [e1]
  by_cases z : j = i
  · subst z
    rw [pk_us]
    exact (if_pos (show e * 1 ≤ j ∧ j < (j + 1) * 1 by omega)).symm
  · rw [pk_un z]
    unfold ok_sh
    by_cases y : e * 1 ≤ j ∧ j < i * 1
    · rw [if_pos y, if_pos (by omega)]
    · rw [if_neg y, if_neg (by omega)]
theorem ok_sh_v (x : Nat → Int32) (w e i j : Nat) : ∃ k, ok_sh x w e i j = x k := by
  unfold ok_sh
  split
  · exact ⟨_, rfl⟩
  · exact ⟨_, rfl⟩
theorem ok_sh_at (x : Nat → Int32) {w e c i f : Nat} (h : f < w) (hi : i < c) : ok_sh x w e c (i * w + f) = x (ok_sk e i * w + f) := by
  have h1 := Nat.mul_le_mul_right w (show i + 1 ≤ c from hi)
  rw [Nat.succ_mul] at h1
  by_cases z : i < e
  · have h2 := Nat.mul_le_mul_right w (show i + 1 ≤ e from z)
    rw [Nat.succ_mul] at h2
    rw [ok_sk_l z]
    exact if_neg (by omega)
  · have h2 := Nat.mul_le_mul_right w (show e ≤ i by omega)
    rw [ok_sk_g (by omega), Nat.succ_mul]
    refine (if_pos (by omega)).trans ?_
    exact congrArg x (by omega)
section
variable {yF sc yc : Int32} {ty nu it ln ch : Nat → Int32}
theorem ok_VY_of {nu' ln' ch' : Nat → Int32} (h : ok_VY nu ln ch) (h1 : ∀ j, ∃ i, nu' j = nu i) (h2 : ∀ j, ∃ i, ln' j = ln i) (h3 : ∀ j, ∃ i, ch' j = ch i) : ok_VY nu' ln' ch' := by
  refine ⟨fun j => ?_, fun j => ?_, fun j => ?_⟩
  · obtain ⟨i, e⟩ := h1 j; rw [e]; exact h.1 i
  · obtain ⟨i, e⟩ := h2 j; rw [e]; exact h.2.1 i
  · obtain ⟨i, e⟩ := h3 j; rw [e]; exact h.2.2 i
theorem ok_cpC {post : SY → Prop} {a b : Nat} (ha : a < 21) (hb : b < 21) (hn : a ≠ b) (k : post (yF, sc, yc, ty, nu, it, ln, ok_cp ch 24 a b 24)) :
    ∀ (d i n : Nat), i + d = 24 → d < n → wY_copy_75 post (nI a) (nI b) yF sc yc n (nI i) ty nu it ln (ok_cp ch 24 a b i) := by
  intro d
  induction d with
  | zero =>
    intro i n hi hn'
    obtain ⟨n, rfl⟩ : ∃ m, n = m + 1 := ⟨n - 1, by omega⟩
    have z : i = 24 := by omega
    subst z
    exact br_t (nI_le (a := 24) (by omega) (by decide)) k
  | succ d ih =>
    intro i n hi hn'
    obtain ⟨n, rfl⟩ : ∃ m, n = m + 1 := ⟨n - 1, by omega⟩
    refine br_f (nI_ge (b := 24) (by omega) (by decide)) ?_
    rw [show nI a * 24 + nI i = nI (a * 24 + i) from ok_ix a i 24, show nI b * 24 + nI i = nI (b * 24 + i) from ok_ix b i 24]
    refine ⟨vp_in_nI (by omega) (by decide), vp_in_nI (by omega) (by decide), nm_r (e' := ok_cp ch 24 a b (i + 1)) (by rw [nI_clamp (by omega), nI_clamp (by omega)]; exact ok_cp_s ch hn (by omega)) (nm_r (nI_1 _) ?_)⟩
    exact ih (i + 1) n (by omega) (by omega)
theorem ok_cpL {post : SY → Prop} {a b : Nat} (hv : ∀ j, nu j = 0 ∨ nu j = 1) (ha : a < 21) (hb : b < 21) (hn : a ≠ b) (k : post (yF, sc, yc, ty, ok_cp nu 4 a b 4, ok_cp it 4 a b 4, ok_cp ln 4 a b 4, ok_cp ch 24 a b 24)) :
    ∀ (d i n : Nat), i + d = 4 → d < n → wY_copy_2 post (nI a) (nI b) yF sc yc n (nI i) ty (ok_cp nu 4 a b i) (ok_cp it 4 a b i) (ok_cp ln 4 a b i) ch := by
  intro d
  induction d with
  | zero =>
    intro i n hi hn'
    obtain ⟨n, rfl⟩ : ∃ m, n = m + 1 := ⟨n - 1, by omega⟩
    have z : i = 4 := by omega
    subst z
    refine br_t (nI_le (a := 4) (by omega) (by decide)) ⟨25, ?_⟩
    have := ok_cpC (ch := ch) ha hb hn k 24 0 25 (by omega) (by omega)
    rw [ok_cp_0] at this
    exact this
  | succ d ih =>
    intro i n hi hn'
    obtain ⟨n, rfl⟩ : ∃ m, n = m + 1 := ⟨n - 1, by omega⟩
    refine br_f (nI_ge (b := 4) (by omega) (by decide)) ?_
    rw [show nI a * 4 + nI i = nI (a * 4 + i) from ok_ix a i 4, show nI b * 4 + nI i = nI (b * 4 + i) from ok_ix b i 4]
    rw [nI_clamp (show a * 4 + i < 2 ^ 31 by omega), nI_clamp (show b * 4 + i < 2 ^ 31 by omega)]
    have ia : vp_in (nI (a * 4 + i)) 84 := vp_in_nI (by omega) (by decide)
    have ib : vp_in (nI (b * 4 + i)) 84 := vp_in_nI (by omega) (by decide)
    have hv' : ok_cp nu 4 a b i (a * 4 + i) = 0 ∨ ok_cp nu 4 a b i (a * 4 + i) = 1 := by
      obtain ⟨y, ey⟩ := ok_cp_v nu 4 a b i (a * 4 + i)
      rw [ey]; exact hv y
    refine ⟨ia, ib, nm_r (e' := ok_cp nu 4 a b (i + 1)) (by rw [ok_nb01 hv']; exact ok_cp_s nu hn (by omega)) ⟨ia, ib, nm_r (ok_cp_s it hn (by omega)) ⟨ia, ib, nm_r (ok_cp_s ln hn (by omega)) (nm_r (nI_1 _) ?_)⟩⟩⟩
    exact ih (i + 1) n (by omega) (by omega)
theorem ok_ycp {post : SY → Prop} {a b : Nat} (hv : ∀ j, nu j = 0 ∨ nu j = 1) (ha : a < 21) (hb : b < 21) (hn : a ≠ b) (k : post (yF, sc, yc, ty, ok_cp nu 4 a b 4, ok_cp it 4 a b 4, ok_cp ln 4 a b 4, ok_cp ch 24 a b 24)) : wpY_copy post (yF, sc, yc, ty, nu, it, ln, ch) (nI a) (nI b) := by
  unfold wpY_copy
  dsimp only
  have := ok_cpL hv ha hb hn k 4 0 5 (by omega) (by omega)
  rw [ok_cp_0, ok_cp_0, ok_cp_0] at this
  exact ⟨5, this⟩
theorem ok_yrm {post : Int32 → SY → Prop} {e c : Nat} (hv : ∀ j, nu j = 0 ∨ nu j = 1) (hc : c < 20) (k : post (nI c) (yF, sc, nI c, ok_sh ty 1 e c, ok_sh nu 4 e c, ok_sh it 4 e c, ok_sh ln 4 e c, ok_sh ch 24 e c)) :
    ∀ (d i n : Nat), i + d = c → e ≤ i → d < n → wY_remove_15 post n (nI i) yF sc (nI (c + 1)) (ok_sh ty 1 e i) (ok_sh nu 4 e i) (ok_sh it 4 e i) (ok_sh ln 4 e i) (ok_sh ch 24 e i) := by
  intro d
  induction d with
  | zero =>
    intro i n hi he hn
    obtain ⟨n, rfl⟩ : ∃ m, n = m + 1 := ⟨n - 1, by omega⟩
    have z : i = c := by omega
    subst z
    refine br_t ?_ (nm_r (nI_pred _) k)
    rw [nI_pred]
    exact nI_le (by omega) (by omega)
  | succ d ih =>
    intro i n hi he hn
    obtain ⟨n, rfl⟩ : ∃ m, n = m + 1 := ⟨n - 1, by omega⟩
    refine br_f (by rw [nI_pred]; exact nI_ge (by omega) (by omega)) ?_
    rw [nI_1]
    refine ok_ycp (a := i + 1) (b := i) (fun j => ?_) (by omega) (by omega) (by omega) ?_
    · obtain ⟨y, ey⟩ := ok_sh_v nu 4 e i j
      rw [ey]; exact hv y
    · rw [ok_sh_s nu he, ok_sh_s it he, ok_sh_s ln he, ok_sh_s ch he]
      refine ⟨vp_in_nI (by omega) (by decide), vp_in_nI (by omega) (by decide), nm_r (e' := ok_sh ty 1 e (i + 1)) (by rw [nI_clamp (by omega), nI_clamp (by omega)]; exact ok_sh_1 ty he) (nm_e ?_)⟩
      exact ih (i + 1) n (by omega) (by omega) (by omega)
/-- one tuple in two sets of arrays -/
def ok_same (nu it ln ch : Nat → Int32) (e : Nat) (nu' it' ln' ch' : Nat → Int32) (e' : Nat) : Prop := (∀ f, f < 4 → nu' (e' * 4 + f) = nu (e * 4 + f) ∧ it' (e' * 4 + f) = it (e * 4 + f) ∧ ln' (e' * 4 + f) = ln (e * 4 + f)) ∧ ∀ j, j < 24 → ch' (e' * 24 + j) = ch (e * 24 + j)
theorem ok_same_cc {nu' it' ln' ch' : Nat → Int32} {e e' f : Nat} (hV : ok_VY nu ln ch) (h : ok_same nu it ln ch e nu' it' ln' ch' e') (hf : f < 4) : ok_cc ln' ch' (e' * 4 + f) = ok_cc ln ch (e * 4 + f) := by
  obtain ⟨l, hl, el⟩ := hV.2.1 (e * 4 + f)
  unfold ok_cc
  rw [(h.1 f hf).2.2, el, nI_clamp (by omega)]
  refine ok_cs_eq _ _ _ (fun i hi => ?_)
  have := h.2 (f * 6 + i) (by omega)
  rw [show (e' * 4 + f) * 6 + i = e' * 24 + (f * 6 + i) by omega, show (e * 4 + f) * 6 + i = e * 24 + (f * 6 + i) by omega]
  exact this
theorem ok_same_K {nu' it' ln' ch' : Nat → Int32} {e e' n : Nat} (hV : ok_VY nu ln ch) (h : ok_same nu it ln ch e nu' it' ln' ch' e') (hn : n ≤ 4) : ok_K sc nu' it' ln' ch' n e' = ok_K sc nu it ln ch n e := by
  refine ok_en_eq (fun f hf => ?_)
  show ok_ef sc f (nu' (e' * 4 + f)) (it' (e' * 4 + f)) (ok_cc ln' ch' (e' * 4 + f)) = ok_ef sc f (nu (e * 4 + f)) (it (e * 4 + f)) (ok_cc ln ch (e * 4 + f))
  rw [(h.1 f (by omega)).1, (h.1 f (by omega)).2.1, ok_same_cc hV h (by omega)]
theorem ok_same_cp {a b : Nat} : ok_same nu it ln ch a (ok_cp nu 4 a b 4) (ok_cp it 4 a b 4) (ok_cp ln 4 a b 4) (ok_cp ch 24 a b 24) b := ⟨fun f hf => ⟨ok_cp_in nu hf, ok_cp_in it hf, ok_cp_in ln hf⟩, fun j hj => ok_cp_in ch hj⟩
theorem ok_same_cpo {a b e : Nat} (h : e ≠ b) : ok_same nu it ln ch e (ok_cp nu 4 a b 4) (ok_cp it 4 a b 4) (ok_cp ln 4 a b 4) (ok_cp ch 24 a b 24) e := ⟨fun f hf => ⟨ok_cp_out nu hf h, ok_cp_out it hf h, ok_cp_out ln hf h⟩, fun j hj => ok_cp_out ch hj h⟩
theorem ok_same_sh {e c i : Nat} (hi : i < c) : ok_same nu it ln ch (ok_sk e i) (ok_sh nu 4 e c) (ok_sh it 4 e c) (ok_sh ln 4 e c) (ok_sh ch 24 e c) i := ⟨fun f hf => ⟨ok_sh_at nu hf hi, ok_sh_at it hf hi, ok_sh_at ln hf hi⟩, fun j hj => ok_sh_at ch hj hi⟩
theorem ok_same_sho {e c i : Nat} (hi : c ≤ i) : ok_same nu it ln ch i (ok_sh nu 4 e c) (ok_sh it 4 e c) (ok_sh ln 4 e c) (ok_sh ch 24 e c) i := ⟨fun f hf => ⟨if_neg (by omega), if_neg (by omega), if_neg (by omega)⟩, fun j hj => if_neg (by omega)⟩
theorem ok_VY_cp {a b : Nat} (h : ok_VY nu ln ch) : ok_VY (ok_cp nu 4 a b 4) (ok_cp ln 4 a b 4) (ok_cp ch 24 a b 24) := ok_VY_of h (fun j => ok_cp_v _ _ _ _ _ j) (fun j => ok_cp_v _ _ _ _ _ j) (fun j => ok_cp_v _ _ _ _ _ j)
theorem ok_VY_sh {e c : Nat} (h : ok_VY nu ln ch) : ok_VY (ok_sh nu 4 e c) (ok_sh ln 4 e c) (ok_sh ch 24 e c) := ok_VY_of h (fun j => ok_sh_v _ _ _ _ j) (fun j => ok_sh_v _ _ _ _ j) (fun j => ok_sh_v _ _ _ _ j)
end
end
section
/-! the relation, and how it is kept -/
/-- the entries: pl e is the place of entry e; positions are ranks -/
def ok_En (c : Nat) (pl : Nat → Nat) (od us tg kL ks ty : Nat → Int32) (K : Nat → List Nat) : Prop :=
  (∀ e, e < c → pl e < 20 ∧ us (pl e) ≠ 0 ∧ tg (pl e) = ty e ∧ kL (pl e) = nI (K e).length ∧ ok_Kr ks (pl e) (K e) ∧ od (ok_rk (ok_lt K) c e) = nI (pl e)) ∧ (∀ e e', e < c → e' < c → pl e = pl e' → e = e') ∧ ok_cn (fun q => decide (us q ≠ 0)) 20 = c
section
variable {xF sc xc pL rA : Int32} {sN sI sL sT od us tg kL ks pb ty nu it ln ch : Nat → Int32} {c : Nat} {pl : Nat → Nat} {K K' : Nat → List Nat}
theorem ok_lt_eq (h : ∀ e, e < c → K' e = K e) {i e : Nat} (hi : i < c) (he : e < c) : ok_lt K' i e = ok_lt K i e := by
  unfold ok_lt; rw [h i hi, h e he]
theorem ok_En_K (h : ∀ e, e < c → K' e = K e) (hE : ok_En c pl od us tg kL ks ty K) : ok_En c pl od us tg kL ks ty K' := by
  refine ⟨fun e he => ?_, hE.2.1, hE.2.2⟩
  have := hE.1 e he
  rw [h e he]
  have e1 : ok_rk (ok_lt K') c e = ok_rk (ok_lt K) c e := ok_cn_eq (fun i hi => ok_lt_eq h hi he)
  rw [e1]
  exact this
theorem ok_En_od (hE : ok_En c pl od us tg kL ks ty K) (hO : ok_Or (ok_lt K) c) {p : Nat} (hp : p < c) : ∃ e, e < c ∧ ok_rk (ok_lt K) c e = p ∧ od p = nI (pl e) := by
  obtain ⟨e, he, r⟩ := ok_rk_sur hO hp
  refine ⟨e, he, r, ?_⟩
  have := (hE.1 e he).2.2.2.2.2
  rw [r] at this
  exact this
theorem ok_En_free (hE : ok_En c pl od us tg kL ks ty K) (hc : c < 20) : ∃ j, j < 20 ∧ us j = 0 := by
  obtain ⟨j, hj, e⟩ := ok_cn_free (p := fun q => decide (us q ≠ 0)) (n := 20) (by rw [hE.2.2]; exact hc)
  refine ⟨j, hj, ?_⟩
  by_cases z : us j = 0
  · exact z
  · rw [show decide (us j ≠ 0) = true from decide_eq_true z] at e; cases e
/-- the component's search -/
theorem ok_xb {post : Int32 → Prop} {beh pre : Bool} {P : List Nat} {Q : Nat → List Nat} {m : Nat} (hc : c ≤ 20) (hE : ok_En c pl od us tg kL ks ty K) (hO : ok_Or (ok_lt K) c) (hKl : ∀ e, (K e).length ≤ 64) (bK : ∀ e, ok_By (K e)) (hP : ok_Pr pb P) (hPl : P.length ≤ 64) (bP : ok_By P)
    (hQ : ∀ e, e < c → ∃ T, K e = Q e ++ T ∧ (pre = true ∨ T = [])) (hT : ∀ e, ok_Tri (Q e) P) (hQQ : ∀ i e, ok_Tri (Q i) (Q e))
    (hm : m = if beh = true then ok_cn (fun e => !ok_dl P (Q e)) c else ok_cn (fun e => ok_dl (Q e) P) c) (h : post (nI m)) : wpX_bound post (xF, sc, nI c, nI P.length, rA, sN, sI, sL, sT, od, us, tg, kL, ks, pb) (ok_bo beh) (ok_bo pre) := by
  have hKQ : ∀ e, e < c → ∃ T, K e = Q e ++ T := fun e he => by obtain ⟨T, e1, _⟩ := hQ e he; exact ⟨T, e1⟩
  refine ok_bd hc ?_ (fun p hp => ?_) h
  · rw [hm]; split <;> exact ok_cn_le _ _
  · obtain ⟨e, he, r, ho⟩ := ok_En_od hE hO hp
    obtain ⟨h1, h2, h3, h4, h5, h6⟩ := hE.1 e he
    obtain ⟨T, e1, e2⟩ := hQ e he
    have hx := ok_xc_iff (P := P) e1 e2 (bK e) bP (hT e)
    refine ⟨ok_xc pre (K e) P, fun po hpo => ?_, ?_⟩
    · rw [ho]
      exact ok_cmp h1 h5 h4 (hKl e) (bK e) hP hPl bP hpo
    · cases beh with
      | true =>
        rw [if_pos rfl] at hm ⊢
        have := ok_rk_set hO (ok_set_le (P := P) hKQ (fun i e _ _ => hQQ i e)) he
        rw [hm, ← r, ← this, hx.2]
        simp
      | false =>
        rw [if_neg (by decide)] at hm ⊢
        have := ok_rk_set hO (ok_set_lt (P := P) hKQ (fun i e _ _ => hQQ i e)) he
        rw [hm, ← r, ← this, Int32.not_le, hx.1]
theorem ok_En_add {P : List Nat} {q a : Nat} {x1 : Int32} {ks' : Nat → Int32} (hc : c < 20) (hE : ok_En c pl od us tg kL ks ty K) (hO : ok_Or (ok_lt K) c) (hKl : ∀ e, (K e).length ≤ 64) (hQQ : ∀ i e, ok_Tri (K i) (K e))
    (hK : ∀ e, e < c → K' e = K e) (hKc : K' c = P) (ha : a = ok_cn (fun e => !ok_dl P (K e)) c) (hq : q < 20) (hu : us q = 0) (hk : ∀ j, j < q * 64 ∨ q * 64 + 64 ≤ j → ks' j = ks j) (hk2 : ok_Kr ks' q P) :
    ok_En (c + 1) (fun e => if e = c then q else pl e) (upd (ok_oi od a c) a (nI q)) (upd us q 1) (upd tg q x1) (upd kL q (nI P.length)) ks' (upd ty c x1) K' ∧ ok_rk (ok_lt K') (c + 1) c = a := by
  have hS : ∀ e, e < c → ((!ok_dl P (K e)) = true ↔ ok_rk (ok_lt K) c e < a) := fun e he => by
    rw [ha]
    exact ok_rk_set hO (ok_set_le (K := K) (Q := K) (P := P) (fun e _ => ⟨[], (List.append_nil _).symm⟩) (fun i e _ _ => hQQ i e)) he
  have r1 : ok_rk (ok_lt K') (c + 1) c = a := by
    unfold ok_rk
    rw [ok_cn_s, ha]
    have e1 : ok_lt K' c c = false := by unfold ok_lt; rw [ok_dl_irr]; simp
    rw [e1]
    show ok_cn _ c + 0 = _
    rw [Nat.add_zero]
    refine ok_cn_eq (fun i hi => ?_)
    show ok_lt K' i c = !ok_dl P (K i)
    unfold ok_lt
    rw [hK i hi, hKc, decide_eq_true hi]
    cases l : ok_dl (K i) P with
    | true => rw [ok_dl_as l]; rfl
    | false => simp
  have r2 : ∀ e, e < c → ok_rk (ok_lt K') (c + 1) e = ok_rk (ok_lt K) c e + (ok_dl P (K e)).toNat := fun e he => by
    unfold ok_rk
    rw [ok_cn_s, ok_cn_eq (p := fun i => ok_lt K' i e) (q := fun i => ok_lt K i e) (n := c) (fun i hi => ok_lt_eq hK hi he)]
    have e1 : ok_lt K' c e = ok_dl P (K e) := by
      unfold ok_lt; rw [hK e he, hKc, decide_eq_false (show ¬ c < e by omega)]; simp
    rw [e1]
  refine ⟨⟨fun e he => ?_, fun e e' he he' => ?_, ?_⟩, r1⟩
  · dsimp only
    by_cases z : e = c
    · subst z
      rw [if_pos rfl, pk_us, pk_us, pk_us, pk_us, hKc, r1, pk_us]
      exact ⟨hq, by decide, rfl, rfl, hk2, rfl⟩
    · have he : e < c := by omega
      obtain ⟨h1, h2, h3, h4, h5, h6⟩ := hE.1 e he
      have n : pl e ≠ q := fun w => h2 (by rw [w]; exact hu)
      rw [if_neg z, pk_un n, pk_un n, pk_un n, pk_un z, hK e he]
      refine ⟨h1, h2, h3, h4, fun i hi => ?_, ?_⟩
      · have := hKl e
        rw [hk _ (by omega)]
        exact h5 i hi
      · have hb := ok_rk_b hO he
        have hs := hS e he
        rw [r2 e he]
        cases l : ok_dl P (K e) with
        | false =>
          rw [l] at hs
          have hs := hs.mp rfl
          show upd (ok_oi od a c) a (nI q) (ok_rk (ok_lt K) c e + 0) = _
          rw [pk_un (by omega)]
          refine Eq.trans ?_ h6
          exact if_neg (by omega)
        | true =>
          rw [l] at hs
          have hs : ¬ ok_rk (ok_lt K) c e < a := fun w => by have := hs.mpr w; cases this
          show upd (ok_oi od a c) a (nI q) (ok_rk (ok_lt K) c e + 1) = _
          rw [pk_un (by omega)]
          refine Eq.trans ?_ h6
          exact if_pos (by omega)
  · have hne : ∀ i, i < c → pl i ≠ q := fun i hi w => (hE.1 i hi).2.1 (by rw [w]; exact hu)
    show (if e = c then q else pl e) = (if e' = c then q else pl e') → e = e'
    intro w
    split at w <;> split at w
    · omega
    · exact absurd w.symm (hne e' (by omega))
    · exact absurd w (hne e (by omega))
    · exact hE.2.1 e e' (by omega) (by omega) w
  · have := ok_cn_upd (p := fun j => decide (upd us q 1 j ≠ 0)) (q := fun j => decide (us j ≠ 0)) (n := 20) (k := q) hq (fun i _ hi => by rw [pk_un hi])
    rw [hE.2.2] at this
    rw [show decide (us q ≠ 0) = false from decide_eq_false (fun w => w hu), show decide (upd us q 1 q ≠ 0) = true from decide_eq_true (by rw [pk_us]; decide)] at this
    exact this
theorem ok_En_rm {e0 : Nat} (he0 : e0 < c + 1) (hE : ok_En (c + 1) pl od us tg kL ks ty K) (hO : ok_Or (ok_lt K) (c + 1)) (hK : ∀ i, i < c → K' i = K (ok_sk e0 i)) :
    ok_En c (fun i => pl (ok_sk e0 i)) (ok_or' od (ok_rk (ok_lt K) (c + 1) e0) c) (upd us (pl e0) 0) tg kL ks (ok_sh ty 1 e0 c) K' := by
  have hsk : ∀ i, i < c → ok_sk e0 i < c + 1 := fun i hi => ok_sk_b he0 hi
  have hne : ∀ i, i < c → pl (ok_sk e0 i) ≠ pl e0 := fun i hi w => ok_sk_ne e0 i (hE.2.1 _ _ (hsk i hi) he0 w)
  have hlt : ∀ j i, j < c → i < c → ok_lt K' j i = ok_lt K (ok_sk e0 j) (ok_sk e0 i) := fun j i hj hi => by
    unfold ok_lt
    rw [hK j hj, hK i hi, Bool.eq_iff_iff.mpr (show (decide (j < i) = true ↔ decide (ok_sk e0 j < ok_sk e0 i) = true) by rw [decide_eq_true_iff, decide_eq_true_iff, ok_sk_lt])]
  have hr : ∀ i, i < c → ok_rk (ok_lt K') c i + (ok_lt K e0 (ok_sk e0 i)).toNat = ok_rk (ok_lt K) (c + 1) (ok_sk e0 i) := fun i hi => by
    unfold ok_rk
    rw [← ok_cn_sk (fun m => ok_lt K m (ok_sk e0 i)) (show e0 ≤ c by omega)]
    rw [ok_cn_eq (p := fun j => ok_lt K' j i) (q := fun j => ok_lt K (ok_sk e0 j) (ok_sk e0 i)) (n := c) (fun j hj => hlt j i hj hi)]
  refine ⟨fun i hi => ?_, fun i i' hi hi' w => ?_, ?_⟩
  · obtain ⟨h1, h2, h3, h4, h5, h6⟩ := hE.1 _ (hsk i hi)
    have e1 : ok_sh ty 1 e0 c i = ty (ok_sk e0 i) := by
      have := ok_sh_at ty (w := 1) (e := e0) (f := 0) (by decide) hi
      rw [Nat.mul_one, Nat.mul_one] at this
      exact this
    rw [pk_un (hne i hi), e1, hK i hi]
    refine ⟨h1, h2, h3, h4, h5, ?_⟩
    have hr := hr i hi
    have hb := ok_rk_b hO (hsk i hi)
    have hi0 := ok_rk_iff hO he0 (hsk i hi)
    have hinj : ok_rk (ok_lt K) (c + 1) (ok_sk e0 i) ≠ ok_rk (ok_lt K) (c + 1) e0 := fun w => ok_sk_ne e0 i (ok_rk_inj hO (hsk i hi) he0 w)
    refine Eq.trans ?_ h6
    cases l : ok_lt K e0 (ok_sk e0 i) with
    | true =>
      have := hi0.mp l
      rw [l] at hr
      have hr : ok_rk (ok_lt K') c i + 1 = ok_rk (ok_lt K) (c + 1) (ok_sk e0 i) := hr
      refine (if_pos (by omega)).trans ?_
      rw [hr]
    | false =>
      have : ¬ ok_rk (ok_lt K) (c + 1) e0 < ok_rk (ok_lt K) (c + 1) (ok_sk e0 i) := fun w => by rw [hi0.mpr w] at l; cases l
      rw [l] at hr
      have hr : ok_rk (ok_lt K') c i = ok_rk (ok_lt K) (c + 1) (ok_sk e0 i) := hr
      refine (if_neg (by omega)).trans ?_
      rw [hr]
  · have := hE.2.1 _ _ (hsk i hi) (hsk i' hi') w
    have h1 := ok_sk_lt e0 i i'
    have h2 := ok_sk_lt e0 i' i
    omega
  · have h1 := hE.1 e0 he0
    have := ok_cn_upd (p := fun j => decide (upd us (pl e0) 0 j ≠ 0)) (q := fun j => decide (us j ≠ 0)) (n := 20) (k := pl e0) h1.1 (fun i _ hi => by rw [pk_un hi])
    rw [hE.2.2] at this
    rw [show decide (us (pl e0) ≠ 0) = true from decide_eq_true h1.2.1, show decide (upd us (pl e0) 0 (pl e0) ≠ 0) = false from decide_eq_false (fun w => w pk_us)] at this
    have this : ok_cn (fun j => decide (upd us (pl e0) 0 j ≠ 0)) 20 + 1 = c + 1 + 0 := this
    omega
/-- the stage's fields are those of the reference's stage -/
theorem ok_cs_at {sT : Nat → Int32} : ∀ (C : List Nat) (k : Nat), ok_By C → (∀ j, j < C.length → sT (k + j) = nI (ok_at C j)) → ok_cs sT k C.length = C
  | [], _, _, _ => rfl
  | a :: C, k, bC, h => by
    rw [ok_By_c] at bC
    rw [List.length_cons, ok_cs_s]
    have h0 : sT k = nI a := h 0 (by rw [List.length_cons]; omega)
    rw [h0, nI_clamp (by omega), ok_cs_at C (k + 1) bC.2 (fun j hj => ?_)]
    have := h (j + 1) (by rw [List.length_cons]; omega)
    rw [show k + 1 + j = k + (j + 1) by omega]
    exact this
theorem ok_St_g {N : Nat} {nl vl : Nat → Int32} {cc : Nat → List Nat} (hS : ok_St N sc sN sI sL sT nl vl cc) (hV : ok_CV N nl cc) {f : Nat} (hf : f < N) : ok_xg sc sN sI sL sT f = ok_g sc nl vl cc f := by
  obtain ⟨h1, h2⟩ := hS f hf
  obtain ⟨_, b, l6⟩ := hV f hf
  unfold ok_xg ok_g
  rw [h1]
  by_cases z : nl f = 0
  · rw [ok_ef_v z, ok_ef_v z]
    cases t : ok_bit sc f 1 with
    | false =>
      have := (h2 z).1 t
      rw [this]
      rfl
    | true =>
      obtain ⟨e1, e2⟩ := (h2 z).2 t
      rw [e1, nI_clamp (by omega), ok_cs_at (cc f) (f * 6) b e2]
      rfl
  · rw [ok_ef_n z, ok_ef_n z]
theorem ok_St_SV {N : Nat} {nl vl : Nat → Int32} {cc : Nat → List Nat} (hS : ok_St N sc sN sI sL sT nl vl cc) (hV : ok_CV N nl cc) : ok_SV N sc sN sL sT := by
  intro f hf z t
  obtain ⟨h1, h2⟩ := hS f hf
  obtain ⟨_, b, l6⟩ := hV f hf
  obtain ⟨e1, e2⟩ := (h2 (by rw [← h1]; exact z)).2 t
  exact ⟨(cc f).length, l6, e1, fun i hi => ⟨ok_at (cc f) i, ok_at_By b i, e2 i hi⟩⟩
/-- the key of the stage -/
theorem ok_xK {post : SX → Prop} {N F : Nat} (hN : N ≤ F) (hF : F ≤ 4) (hV : ok_VY nu ln ch) (hS : ok_St F sc sN sI sL sT (fun f => nu (80 + f)) (fun f => it (80 + f)) (fun f => ok_cc ln ch (80 + f)))
    (k : ∀ pb', ok_Pr pb' (ok_K sc nu it ln ch N 20) → post (xF, sc, xc, nI (ok_K sc nu it ln ch N 20).length, rA, sN, sI, sL, sT, od, us, tg, kL, ks, pb')) : wpX_encode post (xF, sc, xc, pL, rA, sN, sI, sL, sT, od, us, tg, kL, ks, pb) (nI N) := by
  have hS : ok_St N sc sN sI sL sT (fun f => nu (80 + f)) (fun f => it (80 + f)) (fun f => ok_cc ln ch (80 + f)) := fun f hf => hS f (by omega)
  have hC : ok_CV N (fun f => nu (80 + f)) (fun f => ok_cc ln ch (80 + f)) := ok_VY_CV hV 20 N
  have e : ok_en (ok_xg sc sN sI sL sT) N = ok_K sc nu it ln ch N 20 := ok_en_eq (fun f hf => ok_St_g hS hC hf)
  rw [← e] at k
  exact ok_enc (by omega) (ok_St_SV hS hC) k
end
end
section
/-! the owed relation; the constructors; the stage's calls -/
def ok_Fa (F c : Nat) (pl : Nat → Nat) (sc : Int32) (sN sI sL sT od us tg kL ks ty nu it ln ch : Nat → Int32) : Prop :=
  1 ≤ F ∧ F ≤ 4 ∧ c ≤ 20 ∧ ok_VY nu ln ch ∧ ok_St F sc sN sI sL sT (fun f => nu (80 + f)) (fun f => it (80 + f)) (fun f => ok_cc ln ch (80 + f)) ∧ ok_En c pl od us tg kL ks ty (ok_K sc nu it ln ch F)
def ok_R (xF sc xc : Int32) (sN sI sL sT od us tg kL ks : Nat → Int32) (yF sc' yc : Int32) (ty nu it ln ch : Nat → Int32) : Prop :=
  ∃ (F c : Nat) (pl : Nat → Nat), xF = nI F ∧ yF = nI F ∧ sc' = sc ∧ xc = nI c ∧ yc = nI c ∧ ok_Fa F c pl sc sN sI sL sT od us tg kL ks ty nu it ln ch
/-- the relation: the same fields, schema and count; the stages hold the same tuple; the component's places hold the keys of the reference's entries, in the order of their ranks -/
def i_Rel (_ : Nat) (u : SX) (v : SY) : Prop :=
  match u with
  | (xF, sc, xc, _, _, sN, sI, sL, sT, od, us, tg, kL, ks, _) => match v with
    | (yF, sc', yc, ty, nu, it, ln, ch) => ok_R xF sc xc sN sI sL sT od us tg kL ks yF sc' yc ty nu it ln ch
section
variable {sc pL rA : Int32} {sN sI sL sT od us tg kL ks pb ty nu it ln ch : Nat → Int32} {F c : Nat} {pl : Nat → Nat}
theorem ok_mk {k : Nat} (h : ok_Fa F c pl sc sN sI sL sT od us tg kL ks ty nu it ln ch) : i_Rel k (nI F, sc, nI c, pL, rA, sN, sI, sL, sT, od, us, tg, kL, ks, pb) (nI F, sc, nI c, ty, nu, it, ln, ch) := ⟨F, c, pl, rfl, rfl, rfl, rfl, rfl, h⟩
theorem ok_el {k : Nat} {u : SX} {v : SY} {P : SX → SY → Prop} (I : i_Rel k u v)
    (h : ∀ (F c : Nat) (pl : Nat → Nat) (sc pL rA : Int32) (sN sI sL sT od us tg kL ks pb ty nu it ln ch : Nat → Int32), ok_Fa F c pl sc sN sI sL sT od us tg kL ks ty nu it ln ch → P (nI F, sc, nI c, pL, rA, sN, sI, sL, sT, od, us, tg, kL, ks, pb) (nI F, sc, nI c, ty, nu, it, ln, ch)) : P u v := by
  obtain ⟨xF, sc, xc, pL, rA, sN, sI, sL, sT, od, us, tg, kL, ks, pb⟩ := u
  obtain ⟨yF, sc', yc, ty, nu, it, ln, ch⟩ := v
  have I : ok_R xF sc xc sN sI sL sT od us tg kL ks yF sc' yc ty nu it ln ch := I
  obtain ⟨F, c, pl, e1, e2, e3, e4, e5, H⟩ := I
  subst e1 e2 e3 e4 e5
  exact h F c pl _ pL rA sN sI sL sT od us tg kL ks pb ty nu it ln ch H
end
section
variable {xF sc xc pL rA yF yc : Int32} {sN sI sL sT od us tg kL ks pb ty nu it ln ch : Nat → Int32} {F c : Nat} {pl : Nat → Nat}
theorem ok_ixn (x : Int32) {n : Nat} (hn : n ≤ 20) : (x < 0 ∨ nI n ≤ x) ∨ ∃ j : Nat, j < n ∧ x = nI j := by
  rcases pk_ix x (n := n) (by omega) with h | h | h
  · exact Or.inl (Or.inl h)
  · exact Or.inl (Or.inr h)
  · exact Or.inr h
theorem ok_xbT {post : Int32 → Prop} {x : Int32} (h : x < 0 ∨ nI F ≤ x) (k : post 1) : wpX_badField post (nI F, sc, xc, pL, rA, sN, sI, sL, sT, od, us, tg, kL, ks, pb) x := by
  unfold wpX_badField
  dsimp only
  by_cases z : x < 0
  · exact br_t z k
  · exact br_f z (br_f (Int32.not_lt.mpr (h.resolve_left z)) k)
theorem ok_xbF {post : Int32 → Prop} {j : Nat} (hF : F ≤ 4) (hj : j < F) (k : post 0) : wpX_badField post (nI F, sc, xc, pL, rA, sN, sI, sL, sT, od, us, tg, kL, ks, pb) (nI j) := by
  unfold wpX_badField
  dsimp only
  exact br_f (nI_pos (by omega)) (br_t (nI_lt hj (by omega)) k)
theorem ok_xnT {post : Int32 → Prop} {x : Int32} (h : x < 0 ∨ nI c ≤ x) (k : post 1) : wpX_noEntry post (xF, sc, nI c, pL, rA, sN, sI, sL, sT, od, us, tg, kL, ks, pb) x := by
  unfold wpX_noEntry
  dsimp only
  by_cases z : x < 0
  · exact br_t z k
  · exact br_f z (br_f (Int32.not_lt.mpr (h.resolve_left z)) k)
theorem ok_xnF {post : Int32 → Prop} {j : Nat} (hc : c ≤ 20) (hj : j < c) (k : post 0) : wpX_noEntry post (xF, sc, nI c, pL, rA, sN, sI, sL, sT, od, us, tg, kL, ks, pb) (nI j) := by
  unfold wpX_noEntry
  dsimp only
  exact br_f (nI_pos (by omega)) (br_t (nI_lt hj (by omega)) k)
theorem ok_ybT {post : Int32 → Prop} {x : Int32} (h : x < 0 ∨ nI F ≤ x) (k : post 1) : wpY_bad post (nI F, sc, yc, ty, nu, it, ln, ch) x := by
  unfold wpY_bad
  dsimp only
  by_cases z : x < 0
  · exact br_t z k
  · exact br_f z (br_f (Int32.not_lt.mpr (h.resolve_left z)) k)
theorem ok_ybF {post : Int32 → Prop} {j : Nat} (hF : F ≤ 4) (hj : j < F) (k : post 0) : wpY_bad post (nI F, sc, yc, ty, nu, it, ln, ch) (nI j) := by
  unfold wpY_bad
  dsimp only
  exact br_f (nI_pos (by omega)) (br_t (nI_lt hj (by omega)) k)
theorem ok_80 (j : Nat) : (80 : Int32) + nI j = nI (80 + j) := nI_add 80 j
/-- only the reference's stage is touched -/
theorem ok_En_st {nu' it' ln' ch' : Nat → Int32} (hF : F ≤ 4) (hV : ok_VY nu ln ch) (hc : c ≤ 20) (h1 : ∀ j, j < 80 → nu' j = nu j ∧ it' j = it j ∧ ln' j = ln j) (h2 : ∀ j, j < 480 → ch' j = ch j)
    (hE : ok_En c pl od us tg kL ks ty (ok_K sc nu it ln ch F)) : ok_En c pl od us tg kL ks ty (ok_K sc nu' it' ln' ch' F) :=
  ok_En_K (fun e he => ok_same_K hV ⟨fun f hf => h1 _ (by omega), fun j hj => h2 _ (by omega)⟩ hF) hE
theorem ok_VY_nu {k : Nat} {x : Int32} (h : ok_VY nu ln ch) (hx : x = 0 ∨ x = 1) : ok_VY (upd nu k x) ln ch := by
  refine ⟨fun j => ?_, h.2⟩
  by_cases z : j = k
  · subst z; rw [pk_us]; exact hx
  · rw [pk_un z]; exact h.1 j
theorem ok_VY_ln {k l : Nat} (h : ok_VY nu ln ch) (hx : l ≤ 6) : ok_VY nu (upd ln k (nI l)) ch := by
  refine ⟨h.1, fun j => ?_, h.2.2⟩
  by_cases z : j = k
  · subst z; rw [pk_us]; exact ⟨l, hx, rfl⟩
  · rw [pk_un z]; exact h.2.1 j
theorem ok_VY_ch {k x : Nat} (h : ok_VY nu ln ch) (hx : x < 256) : ok_VY nu ln (upd ch k (nI x)) := by
  refine ⟨h.1, h.2.1, fun j => ?_⟩
  by_cases z : j = k
  · subst z; rw [pk_us]; exact ⟨x, hx, rfl⟩
  · rw [pk_un z]; exact h.2.2 j
theorem ok_cc_ln {k j : Nat} {x : Int32} (h : j ≠ k) : ok_cc (upd ln k x) ch j = ok_cc ln ch j := by
  unfold ok_cc; rw [pk_un h]
theorem ok_cc_ch {k j : Nat} {x : Int32} (hV : ok_VY nu ln ch) (h : k < j * 6 ∨ j * 6 + 6 ≤ k) : ok_cc ln (upd ch k x) j = ok_cc ln ch j := by
  obtain ⟨l, hl, e⟩ := hV.2.1 j
  unfold ok_cc
  rw [e, nI_clamp (by omega)]
  exact ok_cs_eq _ _ _ (fun i hi => pk_un (by omega))
/-- one field of the stage is set anew -/
theorem ok_St_1 {N j : Nat} {sN sI sL sT sN' sI' sL' sT' nl vl nl' vl' : Nat → Int32} {cc cc' : Nat → List Nat} (hS : ok_St N sc sN sI sL sT nl vl cc) (hV : ok_CV N nl cc)
    (h : ∀ f, f < N → f ≠ j → sN' f = sN f ∧ sI' f = sI f ∧ sL' f = sL f ∧ nl' f = nl f ∧ vl' f = vl f ∧ cc' f = cc f ∧ ∀ i, i < 6 → sT' (f * 6 + i) = sT (f * 6 + i))
    (hj : sN' j = nl' j ∧ (nl' j = 0 → (ok_bit sc j 1 = false → sI' j = vl' j) ∧ (ok_bit sc j 1 = true → sL' j = nI (cc' j).length ∧ ∀ i, i < (cc' j).length → sT' (j * 6 + i) = nI (ok_at (cc' j) i)))) : ok_St N sc sN' sI' sL' sT' nl' vl' cc' := by
  intro f hf
  by_cases z : f = j
  · subst z; exact hj
  · obtain ⟨h1, h2, h3, h4, h5, h6, h7⟩ := h f hf z
    have l6 := (hV f hf).2.2
    obtain ⟨g1, g2⟩ := hS f hf
    rw [h1, h2, h3, h4, h5, h6]
    refine ⟨g1, fun z => ⟨(g2 z).1, fun t => ⟨((g2 z).2 t).1, fun i hi => ?_⟩⟩⟩
    rw [h7 i (by omega)]
    exact ((g2 z).2 t).2 i hi
theorem ok_setNull (k : Nat) (H : ok_Fa F c pl sc sN sI sL sT od us tg kL ks ty nu it ln ch) (v1 : Int32) : wpX_setNull (fun r u' => wpY_setNull (fun r' v' => r' = r ∧ i_Rel (k + 4) u' v') (nI F, sc, nI c, ty, nu, it, ln, ch) v1) (nI F, sc, nI c, pL, rA, sN, sI, sL, sT, od, us, tg, kL, ks, pb) v1 := by
  have H0 := H
  obtain ⟨h1, hF, hc, hV, hS, hE⟩ := H
  unfold wpX_setNull
  dsimp only
  rcases ok_ixn v1 (n := F) (by omega) with h | ⟨j, hj, rfl⟩
  · refine ok_xbT h (br_f (by decide) ?_)
    unfold wpY_setNull
    dsimp only
    exact ok_ybT h (br_f (by decide) ⟨rfl, ok_mk H0⟩)
  · refine ok_xbF hF hj (br_t rfl ⟨vp_in_nI (by omega) (by decide), nm_r (e' := upd sN j 1) (by rw [nI_clamp (by omega)]; rfl) ?_⟩)
    unfold wpY_setNull
    dsimp only
    rw [ok_80]
    refine ok_ybF hF hj (br_t rfl ⟨vp_in_nI (by omega) (by decide), nm_r (e' := upd nu (80 + j) 1) (by rw [nI_clamp (by omega)]; rfl) ⟨rfl, ok_mk (pl := pl) ?_⟩⟩)
    refine ⟨h1, hF, hc, ok_VY_nu hV (Or.inr rfl), ok_St_1 (j := j) hS (ok_VY_CV hV 20 F) (fun f hf hn => ?_) ?_, ok_En_st hF hV hc (fun i hi => ⟨pk_un (by omega), rfl, rfl⟩) (fun _ _ => rfl) hE⟩
    · exact ⟨pk_un hn, rfl, rfl, pk_un (by omega), rfl, rfl, fun _ _ => rfl⟩
    · refine ⟨pk_us.trans pk_us.symm, fun z => ?_⟩
      have z : upd nu (80 + j) 1 (80 + j) = 0 := z
      rw [pk_us] at z
      exact absurd z (by decide)
theorem ok_setInt (k : Nat) (H : ok_Fa F c pl sc sN sI sL sT od us tg kL ks ty nu it ln ch) (v1 v2 : Int32) : wpX_setInt (fun r u' => wpY_setInt (fun r' v' => r' = r ∧ i_Rel (k + 4) u' v') (nI F, sc, nI c, ty, nu, it, ln, ch) v1 v2) (nI F, sc, nI c, pL, rA, sN, sI, sL, sT, od, us, tg, kL, ks, pb) v1 v2 := by
  have H0 := H
  obtain ⟨h1, hF, hc, hV, hS, hE⟩ := H
  unfold wpX_setInt
  dsimp only
  rcases ok_ixn v1 (n := F) (by omega) with h | ⟨j, hj, rfl⟩
  · refine ok_xbT h (br_f (by decide) ?_)
    unfold wpY_setInt
    dsimp only
    exact ok_ybT h (br_f (by decide) ⟨rfl, ok_mk H0⟩)
  · refine ok_xbF hF hj (br_t rfl (ok_xte j ?_))
    cases t : ok_bit sc j 1 with
    | true =>
      refine br_f (by decide) ?_
      unfold wpY_setInt
      dsimp only
      refine ok_ybF hF hj (br_t rfl (ok_yte j ?_))
      rw [t]
      exact br_f (by decide) ⟨rfl, ok_mk H0⟩
    | false =>
      refine br_t rfl ⟨vp_in_nI (by omega) (by decide), nm_r (e' := upd sN j 0) (by rw [nI_clamp (by omega)]; rfl) ⟨vp_in_nI (by omega) (by decide), nm_r (e' := upd sI j v2) (by rw [nI_clamp (by omega)]) ?_⟩⟩
      unfold wpY_setInt
      dsimp only
      rw [ok_80]
      refine ok_ybF hF hj (br_t rfl (ok_yte j ?_))
      rw [t]
      refine br_t rfl ⟨vp_in_nI (by omega) (by decide), nm_r (e' := upd nu (80 + j) 0) (by rw [nI_clamp (by omega)]; rfl) ⟨vp_in_nI (by omega) (by decide), nm_r (e' := upd it (80 + j) v2) (by rw [nI_clamp (by omega)]) ⟨rfl, ok_mk (pl := pl) ?_⟩⟩⟩
      refine ⟨h1, hF, hc, ok_VY_nu hV (Or.inl rfl), ok_St_1 (j := j) hS (ok_VY_CV hV 20 F) (fun f hf hn => ?_) ?_, ok_En_st hF hV hc (fun i hi => ⟨pk_un (by omega), pk_un (by omega), rfl⟩) (fun _ _ => rfl) hE⟩
      · exact ⟨pk_un hn, pk_un hn, rfl, pk_un (by omega), pk_un (by omega), rfl, fun _ _ => rfl⟩
      · refine ⟨pk_us.trans pk_us.symm, fun _ => ⟨fun _ => pk_us.trans pk_us.symm, fun t2 => ?_⟩⟩
        rw [t] at t2; cases t2
theorem ok_setText (k : Nat) (H : ok_Fa F c pl sc sN sI sL sT od us tg kL ks ty nu it ln ch) (v1 : Int32) : wpX_setText (fun r u' => wpY_setText (fun r' v' => r' = r ∧ i_Rel (k + 4) u' v') (nI F, sc, nI c, ty, nu, it, ln, ch) v1) (nI F, sc, nI c, pL, rA, sN, sI, sL, sT, od, us, tg, kL, ks, pb) v1 := by
  have H0 := H
  obtain ⟨h1, hF, hc, hV, hS, hE⟩ := H
  unfold wpX_setText
  dsimp only
  rcases ok_ixn v1 (n := F) (by omega) with h | ⟨j, hj, rfl⟩
  · refine ok_xbT h (br_f (by decide) ?_)
    unfold wpY_setText
    dsimp only
    exact ok_ybT h (br_f (by decide) ⟨rfl, ok_mk H0⟩)
  · refine ok_xbF hF hj (br_t rfl (ok_xte j ?_))
    cases t : ok_bit sc j 1 with
    | false =>
      refine br_t rfl ?_
      unfold wpY_setText
      dsimp only
      refine ok_ybF hF hj (br_t rfl (ok_yte j ?_))
      rw [t]
      exact br_t rfl ⟨rfl, ok_mk H0⟩
    | true =>
      refine br_f (by decide) ⟨vp_in_nI (by omega) (by decide), nm_r (e' := upd sN j 0) (by rw [nI_clamp (by omega)]; rfl) ⟨vp_in_nI (by omega) (by decide), nm_r (e' := upd sL j 0) (by rw [nI_clamp (by omega)]) ?_⟩⟩
      unfold wpY_setText
      dsimp only
      rw [ok_80]
      refine ok_ybF hF hj (br_t rfl (ok_yte j ?_))
      rw [t]
      refine br_f (by decide) ⟨vp_in_nI (by omega) (by decide), nm_r (e' := upd nu (80 + j) 0) (by rw [nI_clamp (by omega)]; rfl) ⟨vp_in_nI (by omega) (by decide), nm_r (e' := upd ln (80 + j) (nI 0)) (by rw [nI_clamp (by omega)]; rfl) ⟨rfl, ok_mk (pl := pl) ?_⟩⟩⟩
      have e0 : ok_cc (upd ln (80 + j) (nI 0)) ch (80 + j) = [] := by
        unfold ok_cc; rw [pk_us]; rfl
      refine ⟨h1, hF, hc, ok_VY_ln (ok_VY_nu hV (Or.inl rfl)) (by decide), ok_St_1 (j := j) hS (ok_VY_CV hV 20 F) (fun f hf hn => ?_) ?_, ok_En_st hF hV hc (fun i hi => ⟨pk_un (by omega), rfl, pk_un (by omega)⟩) (fun _ _ => rfl) hE⟩
      · exact ⟨pk_un hn, rfl, pk_un hn, pk_un (by omega), rfl, ok_cc_ln (by omega), fun _ _ => rfl⟩
      · refine ⟨pk_us.trans pk_us.symm, fun _ => ⟨fun t2 => ?_, fun _ => ⟨?_, fun i hi => ?_⟩⟩⟩
        · rw [t] at t2; cases t2
        · show upd sL j 0 j = nI (ok_cc (upd ln (80 + j) (nI 0)) ch (80 + j)).length
          rw [e0, pk_us]; rfl
        · have hi : i < (ok_cc (upd ln (80 + j) (nI 0)) ch (80 + j)).length := hi
          rw [e0] at hi
          exact absurd hi (Nat.not_lt_zero _)
theorem ok_append (k : Nat) (H : ok_Fa F c pl sc sN sI sL sT od us tg kL ks ty nu it ln ch) (v1 v2 : Int32) : wpX_append (fun r u' => wpY_append (fun r' v' => r' = r ∧ i_Rel (k + 4) u' v') (nI F, sc, nI c, ty, nu, it, ln, ch) v1 v2) (nI F, sc, nI c, pL, rA, sN, sI, sL, sT, od, us, tg, kL, ks, pb) v1 v2 := by
  have H0 := H
  obtain ⟨h1, hF, hc, hV, hS, hE⟩ := H
  unfold wpX_append
  dsimp only
  rcases ok_ixn v1 (n := F) (by omega) with h | ⟨j, hj, rfl⟩
  · refine ok_xbT h (br_f (by decide) ?_)
    unfold wpY_append
    dsimp only
    exact ok_ybT h (br_f (by decide) ⟨rfl, ok_mk H0⟩)
  · refine ok_xbF hF hj (br_t rfl (ok_xte j ?_))
    have ix : vp_in (nI j) 4 := vp_in_nI (by omega) (by decide)
    have iy : vp_in (nI (80 + j)) 84 := vp_in_nI (by omega) (by decide)
    have cx : (nI j).toNatClampNeg = j := nI_clamp (by omega)
    have cy : (nI (80 + j)).toNatClampNeg = 80 + j := nI_clamp (by omega)
    cases t : ok_bit sc j 1 with
    | false =>
      refine br_t rfl ?_
      unfold wpY_append
      dsimp only
      refine ok_ybF hF hj (br_t rfl (ok_yte j ?_))
      rw [t]
      exact br_t rfl ⟨rfl, ok_mk H0⟩
    | true =>
      refine br_f (by decide) ⟨ix, ?_⟩
      rw [cx]
      obtain ⟨g1, g2⟩ := hS j hj
      have g1 : sN j = nu (80 + j) := g1
      by_cases z : nu (80 + j) = 0
      · refine br_t (by rw [g1]; exact z) ?_
        by_cases n0 : v2 < 0
        · refine br_t n0 ?_
          unfold wpY_append
          dsimp only
          rw [ok_80]
          refine ok_ybF hF hj (br_t rfl (ok_yte j ?_))
          rw [t]
          refine br_f (by decide) ⟨iy, ?_⟩
          rw [cy]
          exact br_t z (br_t n0 ⟨rfl, ok_mk H0⟩)
        · refine br_f n0 ?_
          by_cases n1 : v2 ≤ 255
          · refine br_t n1 ⟨ix, ?_⟩
            obtain ⟨x, hx, rfl⟩ := nI_of2 (M := 255) (n := 255) (by decide) n0 n1
            obtain ⟨l6, el⟩ := ok_cc_len hV (80 + j)
            have ecl : (ln (80 + j)).toNatClampNeg = (ok_cc ln ch (80 + j)).length := by rw [el, nI_clamp (by omega)]
            obtain ⟨s1, s2⟩ := (g2 z).2 t
            have s1 : sL j = nI (ok_cc ln ch (80 + j)).length := s1
            have s2 : ∀ i, i < (ok_cc ln ch (80 + j)).length → sT (j * 6 + i) = nI (ok_at (ok_cc ln ch (80 + j)) i) := s2
            have hat : ∀ i, i < (ok_cc ln ch (80 + j)).length → ok_at (ok_cc ln ch (80 + j)) i = (ch ((80 + j) * 6 + i)).toNatClampNeg := by
              intro i hi
              rw [← ecl] at hi
              exact ok_at_cs ch ((80 + j) * 6) _ hi
            generalize (ok_cc ln ch (80 + j)).length = l at l6 el s1 s2 hat
            refine nm_r (e' := nI l) s1 ?_
            by_cases w : l < 6
            · refine br_t (nI_lt (b := 6) w (by decide)) ?_
              rw [show nI j * 6 + nI l = nI (j * 6 + l) from ok_ix j l 6]
              refine ⟨vp_in_nI (by omega) (by decide), nm_r (e' := upd sT (j * 6 + l) (nI x)) (by rw [nI_clamp (by omega)]) ⟨ix, nm_r (e' := upd sL j (nI (l + 1))) (by rw [nI_1]) ?_⟩⟩
              unfold wpY_append
              dsimp only
              rw [ok_80]
              refine ok_ybF hF hj (br_t rfl (ok_yte j ?_))
              rw [t]
              refine br_f (by decide) ⟨iy, ?_⟩
              rw [cy]
              refine br_t z (br_f n0 (br_t n1 ⟨iy, nm_r el (br_f (fun q => by have := (nI_eq (b := 6) (by omega) (by decide)).mp q; omega) ?_)⟩))
              rw [show nI (80 + j) * 6 + nI l = nI ((80 + j) * 6 + l) from ok_ix (80 + j) l 6]
              refine ⟨vp_in_nI (by omega) (by decide), nm_r (e' := upd ch ((80 + j) * 6 + l) (nI x)) (by rw [nI_clamp (by omega)]) ⟨iy, nm_r (e' := upd ln (80 + j) (nI (l + 1))) (by rw [nI_1]) ⟨rfl, ok_mk (pl := pl) ?_⟩⟩⟩
              have ec : ok_cc (upd ln (80 + j) (nI (l + 1))) (upd ch ((80 + j) * 6 + l) (nI x)) (80 + j) = ok_cs (upd ch ((80 + j) * 6 + l) (nI x)) ((80 + j) * 6) (l + 1) := by
                unfold ok_cc; rw [pk_us, nI_clamp (by omega)]
              refine ⟨h1, hF, hc, ok_VY_ln (ok_VY_ch hV (by omega)) (by omega), ok_St_1 (j := j) hS (ok_VY_CV hV 20 F) (fun f hf hn => ?_) ?_, ok_En_st hF hV hc (fun i hi => ⟨rfl, rfl, pk_un (by omega)⟩) (fun i hi => pk_un (by omega)) hE⟩
              · refine ⟨rfl, rfl, pk_un hn, rfl, rfl, ?_, fun i hi => pk_un (by omega)⟩
                exact (ok_cc_ln (by omega)).trans (ok_cc_ch hV (by omega))
              · refine ⟨g1, fun _ => ⟨fun t2 => ?_, fun _ => ?_⟩⟩
                · rw [t] at t2; cases t2
                · show upd sL j (nI (l + 1)) j = nI (ok_cc (upd ln (80 + j) (nI (l + 1))) (upd ch ((80 + j) * 6 + l) (nI x)) (80 + j)).length ∧ ∀ i, i < (ok_cc (upd ln (80 + j) (nI (l + 1))) (upd ch ((80 + j) * 6 + l) (nI x)) (80 + j)).length → upd sT (j * 6 + l) (nI x) (j * 6 + i) = nI (ok_at (ok_cc (upd ln (80 + j) (nI (l + 1))) (upd ch ((80 + j) * 6 + l) (nI x)) (80 + j)) i)
                  rw [ec, ok_cs_len, pk_us]
                  refine ⟨rfl, fun i hi => ?_⟩
                  rw [ok_at_cs _ _ _ hi]
                  by_cases y : i = l
                  · subst y
                    rw [pk_us, pk_us, nI_clamp (by omega)]
                  · rw [pk_un (by omega), pk_un (by omega), s2 i (by omega), hat i (by omega)]
            · have l6' : l = 6 := by omega
              subst l6'
              refine br_f (nI_nlt (b := 6) (by omega) (by decide)) ?_
              unfold wpY_append
              dsimp only
              rw [ok_80]
              refine ok_ybF hF hj (br_t rfl (ok_yte j ?_))
              rw [t]
              refine br_f (by decide) ⟨iy, ?_⟩
              rw [cy]
              exact br_t z (br_f n0 (br_t n1 ⟨iy, nm_r el (br_t rfl ⟨rfl, ok_mk H0⟩)⟩))
          · refine br_f n1 ?_
            unfold wpY_append
            dsimp only
            rw [ok_80]
            refine ok_ybF hF hj (br_t rfl (ok_yte j ?_))
            rw [t]
            refine br_f (by decide) ⟨iy, ?_⟩
            rw [cy]
            exact br_t z (br_f n0 (br_f n1 ⟨rfl, ok_mk H0⟩))
      · refine br_f (by rw [g1]; exact z) ?_
        unfold wpY_append
        dsimp only
        rw [ok_80]
        refine ok_ybF hF hj (br_t rfl (ok_yte j ?_))
        rw [t]
        refine br_f (by decide) ⟨iy, ?_⟩
        rw [cy]
        exact br_f z ⟨rfl, ok_mk H0⟩
end
end
section
/-! the constructors, the entries' calls and the questions -/
section
variable {sc pL rA : Int32} {sN sI sL sT od us tg kL ks pb ty nu it ln ch : Nat → Int32} {F c : Nat} {pl : Nat → Nat}
theorem ok_x0L {post : SX → Prop} {xF xc : Int32} : ∀ (d i n : Nat) (sN : Nat → Int32), i + d = 4 → d < n → (∀ j, j < i → sN j = 1) → (∀ sN', (∀ j, j < 4 → sN' j = 1) → post (xF, sc, xc, pL, rA, sN', sI, sL, sT, od, us, tg, kL, ks, pb)) → wX_init_111 post xF sc xc pL rA n (nI i) sN sI sL sT od us tg kL ks pb := by
  intro d
  induction d with
  | zero =>
    intro i n sN hi hn h k
    obtain ⟨n, rfl⟩ : ∃ m, n = m + 1 := ⟨n - 1, by omega⟩
    exact br_t (nI_le (a := 4) (by omega) (by omega)) (k sN (fun j hj => h j (by omega)))
  | succ d ih =>
    intro i n sN hi hn h k
    obtain ⟨n, rfl⟩ : ∃ m, n = m + 1 := ⟨n - 1, by omega⟩
    refine br_f (nI_ge (b := 4) (by omega) (by decide)) ⟨vp_in_nI (by omega) (by decide), nm_r (e' := upd sN i 1) (by rw [nI_clamp (by omega)]; rfl) (nm_r (nI_1 _) ?_)⟩
    refine ih (i + 1) n _ (by omega) (by omega) (fun j hj => ?_) k
    by_cases z : j = i
    · subst z; exact pk_us
    · rw [pk_un z]; exact h j (by omega)
theorem ok_y0L {post : SY → Prop} {yF yc : Int32} : ∀ (d i n : Nat) (nu : Nat → Int32), i + d = 84 → d < n → (∀ j, j < i → nu j = 1) → (∀ j, nu j = 0 ∨ nu j = 1) → (∀ nu', (∀ j, j < 84 → nu' j = 1) → (∀ j, nu' j = 0 ∨ nu' j = 1) → post (yF, sc, yc, ty, nu', it, ln, ch)) → wY_init_74 post yF sc yc n (nI i) ty nu it ln ch := by
  intro d
  induction d with
  | zero =>
    intro i n nu hi hn h h2 k
    obtain ⟨n, rfl⟩ : ∃ m, n = m + 1 := ⟨n - 1, by omega⟩
    exact br_t (nI_le (a := 84) (by omega) (by omega)) (k nu (fun j hj => h j (by omega)) h2)
  | succ d ih =>
    intro i n nu hi hn h h2 k
    obtain ⟨n, rfl⟩ : ∃ m, n = m + 1 := ⟨n - 1, by omega⟩
    refine br_f (nI_ge (b := 84) (by omega) (by decide)) ⟨vp_in_nI (by omega) (by decide), nm_r (e' := upd nu i 1) (by rw [nI_clamp (by omega)]; rfl) (nm_r (nI_1 _) ?_)⟩
    refine ih (i + 1) n _ (by omega) (by omega) (fun j hj => ?_) (fun j => ?_) k
    · by_cases z : j = i
      · subst z; exact pk_us
      · rw [pk_un z]; exact h j (by omega)
    · by_cases z : j = i
      · subst z; exact Or.inr pk_us
      · rw [pk_un z]; exact h2 j
theorem ok_cn_zero : ok_cn (fun q => decide ((fun _ : Nat => (0 : Int32)) q ≠ 0)) 20 = 0 := by decide
theorem ok_Fa0 (hF : 1 ≤ F) (hF4 : F ≤ 4) {sN' nu' : Nat → Int32} (h1 : ∀ j, j < 4 → sN' j = 1) (h2 : ∀ j, j < 84 → nu' j = 1) (h3 : ∀ j, nu' j = 0 ∨ nu' j = 1) :
    ok_Fa F 0 (fun _ => 0) sc sN' (fun _ => 0) (fun _ => 0) (fun _ => 0) (fun _ => 0) (fun _ => 0) (fun _ => 0) (fun _ => 0) (fun _ => 0) (fun _ => 0) nu' (fun _ => 0) (fun _ => 0) (fun _ => 0) := by
  refine ⟨hF, hF4, by decide, ⟨h3, fun _ => ⟨0, by decide, rfl⟩, fun _ => ⟨0, by decide, rfl⟩⟩, fun f hf => ?_, fun e he => absurd he (Nat.not_lt_zero _), fun e e' he => absurd he (Nat.not_lt_zero _), ok_cn_zero⟩
  have e1 := h1 f (by omega)
  have e2 := h2 (80 + f) (by omega)
  refine ⟨by rw [e1]; exact e2.symm, fun z => ?_⟩
  have z : nu' (80 + f) = 0 := z
  rw [e2] at z
  exact absurd z (by decide)
theorem ok_vc0 (k0 k1 : Int32) : wpX_init (fun u => wpY_init (fun v => i_Rel 2 u v) k0 k1) k0 k1 := by
  unfold wpX_init
  have fin : ∀ (F : Nat) (sN' : Nat → Int32), 1 ≤ F → F ≤ 4 → (∀ j, j < 4 → sN' j = 1) → wY_init_61 (fun v => i_Rel 2 (nI F, k1, 0, 0, 0, sN', (fun _ => 0), (fun _ => 0), (fun _ => 0), (fun _ => 0), (fun _ => 0), (fun _ => 0), (fun _ => 0), (fun _ => 0), (fun _ => 0)) v) k1 (nI F) 0 0 0 (fun _ => 0) (fun _ => 0) (fun _ => 0) (fun _ => 0) (fun _ => 0) := by
    intro F sN' h1 h4 hs
    unfold wY_init_61
    refine ⟨85, ok_y0L 84 0 85 (fun _ => 0) (by omega) (by omega) (fun j hj => absurd hj (Nat.not_lt_zero _)) (fun _ => Or.inl rfl) (fun nu' a1 a2 => ?_)⟩
    exact ok_mk (c := 0) (ok_Fa0 h1 h4 hs a1 a2)
  by_cases a : (1 : Int32) ≤ k0
  · by_cases b : k0 ≤ 4
    · obtain ⟨F, hF, e⟩ := nI_of2 (x := k0) (M := 4) (n := 4) (by decide) (fun w => absurd (Int32.lt_of_le_of_lt a w) (by decide)) b
      subst e
      have h1 : 1 ≤ F := (nI_leI (a := 1) (by decide) (by omega)).mp a
      refine br_t a ?_
      unfold wX_init_91
      refine br_t b ?_
      unfold wX_init_98
      refine ⟨5, ok_x0L 4 0 5 (fun _ => 0) (by omega) (by omega) (fun j hj => absurd hj (Nat.not_lt_zero _)) (fun sN' hs => ?_)⟩
      unfold wpY_init
      refine br_t a ?_
      unfold wY_init_54
      exact br_t b (fin F sN' h1 hF hs)
    · refine br_t a ?_
      unfold wX_init_91
      refine br_f b ?_
      unfold wX_init_98
      refine ⟨5, ok_x0L 4 0 5 (fun _ => 0) (by omega) (by omega) (fun j hj => absurd hj (Nat.not_lt_zero _)) (fun sN' hs => ?_)⟩
      unfold wpY_init
      refine br_t a ?_
      unfold wY_init_54
      exact br_f b (fin 4 sN' (by decide) (by decide) hs)
  · have b : (1 : Int32) ≤ 4 := by decide
    refine br_f a ?_
    unfold wX_init_91
    refine br_t b ?_
    unfold wX_init_98
    refine ⟨5, ok_x0L 4 0 5 (fun _ => 0) (by omega) (by omega) (fun j hj => absurd hj (Nat.not_lt_zero _)) (fun sN' hs => ?_)⟩
    unfold wpY_init
    refine br_f a ?_
    unfold wY_init_54
    exact br_t b (fin 1 sN' (by decide) (by decide) hs)
/-- a position that is none -/
theorem ok_bad {x : Int32} (hc : c ≤ 20) (h : x < 0 ∨ nI c ≤ x) : ∀ j, j < c → x ≠ nI j := by
  intro j hj e
  subst e
  rcases h with h | h
  · exact nI_pos (by omega) h
  · exact nI_ge hj (by omega) h
theorem ok_K64 (hV : ok_VY nu ln ch) (hF : F ≤ 4) (e : Nat) : (ok_K sc nu it ln ch F e).length ≤ 64 := by
  have := ok_K_len (sc := sc) (it := it) hV F e
  omega
theorem ok_St_same {nu' it' ln' ch' : Nat → Int32} {e e' : Nat} (hF : F ≤ 4) (hV : ok_VY nu ln ch) (h : ok_same nu it ln ch e nu' it' ln' ch' e') (hS : ok_St F sc sN sI sL sT (fun f => nu (e * 4 + f)) (fun f => it (e * 4 + f)) (fun f => ok_cc ln ch (e * 4 + f))) :
    ok_St F sc sN sI sL sT (fun f => nu' (e' * 4 + f)) (fun f => it' (e' * 4 + f)) (fun f => ok_cc ln' ch' (e' * 4 + f)) := by
  intro f hf
  have a := hS f hf
  dsimp only at a ⊢
  rw [(h.1 f (by omega)).1, (h.1 f (by omega)).2.1, ok_same_cc hV h (by omega)]
  exact a
theorem ok_tag (k : Nat) (H : ok_Fa F c pl sc sN sI sL sT od us tg kL ks ty nu it ln ch) (v1 : Int32) : wpX_tag (fun r => wpY_tag (fun r' => r' = r ∧ i_Rel (k + 4) (nI F, sc, nI c, pL, rA, sN, sI, sL, sT, od, us, tg, kL, ks, pb) (nI F, sc, nI c, ty, nu, it, ln, ch)) (nI F, sc, nI c, ty, nu, it, ln, ch) v1) (nI F, sc, nI c, pL, rA, sN, sI, sL, sT, od, us, tg, kL, ks, pb) v1 := by
  have H0 := H
  obtain ⟨h1, hF, hc, hV, hS, hE⟩ := H
  have hO := ok_K_or (sc := sc) (it := it) hV F c
  unfold wpX_tag
  dsimp only
  rcases ok_ixn v1 (n := c) (by omega) with h | ⟨j, hj, rfl⟩
  · refine ok_xnT h (br_f (by decide) ?_)
    unfold wpY_tag
    dsimp only
    exact ok_yaF hV hF hc (ok_bad hc h) (br_f (by decide) ⟨rfl, ok_mk H0⟩)
  · obtain ⟨e, he, rfl, ho⟩ := ok_En_od hE hO hj
    obtain ⟨g1, g2, g3, g4, g5, g6⟩ := hE.1 e he
    refine ok_xnF hc hj (br_t rfl ⟨vp_in_nI (by omega) (by decide), ?_⟩)
    rw [nI_clamp (by omega), ho, nI_clamp (by omega), g3]
    refine ⟨vp_in_nI g1 (by decide), ?_⟩
    unfold wpY_tag
    dsimp only
    refine ok_yaT hV hF hc he (br_t (nI_pos' (by omega)) ⟨vp_in_nI (by omega) (by decide), ?_⟩)
    rw [nI_clamp (by omega)]
    exact ⟨rfl, ok_mk H0⟩
theorem ok_remove (k : Nat) (H : ok_Fa F c pl sc sN sI sL sT od us tg kL ks ty nu it ln ch) (v1 : Int32) : wpX_remove (fun r u' => wpY_remove (fun r' v' => r' = r ∧ i_Rel (k + 4) u' v') (nI F, sc, nI c, ty, nu, it, ln, ch) v1) (nI F, sc, nI c, pL, rA, sN, sI, sL, sT, od, us, tg, kL, ks, pb) v1 := by
  have H0 := H
  obtain ⟨h1, hF, hc, hV, hS, hE⟩ := H
  have hO := ok_K_or (sc := sc) (it := it) hV F c
  unfold wpX_remove
  dsimp only
  rcases ok_ixn v1 (n := c) (by omega) with h | ⟨j, hj, rfl⟩
  · refine ok_xnT h (br_f (by decide) ?_)
    unfold wpY_remove
    dsimp only
    exact ok_yaF hV hF hc (ok_bad hc h) (br_f (by decide) ⟨rfl, ok_mk H0⟩)
  · obtain ⟨e, he, rfl, ho⟩ := ok_En_od hE hO hj
    obtain ⟨g1, g2, g3, g4, g5, g6⟩ := hE.1 e he
    obtain ⟨c, rfl⟩ : ∃ m, c = m + 1 := ⟨c - 1, by omega⟩
    refine ok_xnF hc hj (br_t rfl ⟨vp_in_nI (by omega) (by decide), ?_⟩)
    rw [nI_clamp (by omega), ho, nI_clamp (show pl e < 2 ^ 31 by omega)]
    refine ⟨vp_in_nI g1 (by decide), nm_r (e' := upd us (pl e) 0) rfl (nm_r (nI_pred _) ⟨21, ?_⟩)⟩
    have X := fun post k => ok_rmO (xF := nI F) (sc := sc) (pL := pL) (rA := rA) (sN := sN) (sI := sI) (sL := sL) (sT := sT) (us := upd us (pl e) 0) (tg := tg) (kL := kL) (ks := ks) (pb := pb) (od := od) (post := post) (p := ok_rk (ok_lt (ok_K sc nu it ln ch F)) (c + 1) e) (c := c) (by omega) k (c - ok_rk (ok_lt (ok_K sc nu it ln ch F)) (c + 1) e) (ok_rk (ok_lt (ok_K sc nu it ln ch F)) (c + 1) e) 21 (by omega) (by omega) (by omega)
    rw [ok_or_0] at X
    refine X _ ?_
    unfold wpY_remove
    dsimp only
    refine ok_yaT hV hF hc he (br_t (nI_pos' (by omega)) ⟨21, ?_⟩)
    have Y := fun post k => ok_yrm (yF := nI F) (sc := sc) (ty := ty) (nu := nu) (it := it) (ln := ln) (ch := ch) (post := post) (e := e) (c := c) hV.1 (by omega) k (c - e) e 21 (by omega) (by omega) (by omega)
    rw [ok_sh_0, ok_sh_0, ok_sh_0, ok_sh_0, ok_sh_0] at Y
    refine Y _ ⟨rfl, ok_mk (pl := fun i => pl (ok_sk e i)) ?_⟩
    refine ⟨h1, hF, by omega, ok_VY_sh hV, ?_, ?_⟩
    · exact ok_St_same (e := 20) (e' := 20) hF hV (ok_same_sho (by omega)) hS
    · exact ok_En_rm he hE hO (fun i hi => ok_same_K hV (ok_same_sh hi) hF)
theorem ok_load (k : Nat) (H : ok_Fa F c pl sc sN sI sL sT od us tg kL ks ty nu it ln ch) (v1 : Int32) : wpX_load (fun r u' => wpY_load (fun r' v' => r' = r ∧ i_Rel (k + 4) u' v') (nI F, sc, nI c, ty, nu, it, ln, ch) v1) (nI F, sc, nI c, pL, rA, sN, sI, sL, sT, od, us, tg, kL, ks, pb) v1 := by
  have H0 := H
  obtain ⟨h1, hF, hc, hV, hS, hE⟩ := H
  have hO := ok_K_or (sc := sc) (it := it) hV F c
  unfold wpX_load
  dsimp only
  rcases ok_ixn v1 (n := c) (by omega) with h | ⟨j, hj, rfl⟩
  · refine ok_xnT h (br_f (by decide) ?_)
    unfold wpY_load
    dsimp only
    exact ok_yaF hV hF hc (ok_bad hc h) (br_f (by decide) ⟨rfl, ok_mk H0⟩)
  · obtain ⟨e, he, rfl, ho⟩ := ok_En_od hE hO hj
    obtain ⟨g1, g2, g3, g4, g5, g6⟩ := hE.1 e he
    refine ok_xnF hc hj (br_t rfl ⟨vp_in_nI (by omega) (by decide), nm_r (e' := nI (pl e)) (by rw [nI_clamp (by omega)]; exact ho) ⟨F + 1, ?_⟩⟩)
    refine ok_ldL (F := F) (nl := fun f => nu (e * 4 + f)) (vl := fun f => it (e * 4 + f)) (cc := fun f => ok_cc ln ch (e * 4 + f)) g1 hF (ok_VY_CV hV e F) g5 (fun sN' sI' sL' sT' rA' hS' => ?_) F 0 (F + 1) sN sI sL sT rA (by omega) (by omega) (fun f hf => absurd hf (Nat.not_lt_zero _))
    unfold wpY_load
    dsimp only
    refine ok_yaT hV hF hc he (br_t (nI_pos' (by omega)) ?_)
    refine ok_ycp (a := e) (b := 20) hV.1 (by omega) (by decide) (by omega) ⟨vp_in_nI (by omega) (by decide), ?_⟩
    rw [nI_clamp (by omega), g3]
    refine ⟨rfl, ok_mk (pl := pl) ⟨h1, hF, hc, ok_VY_cp hV, ?_, ?_⟩⟩
    · exact ok_St_same (e := e) (e' := 20) hF hV ok_same_cp hS'
    · exact ok_En_K (fun i hi => ok_same_K hV (ok_same_cpo (by omega)) hF) hE
theorem ok_add (k : Nat) (H : ok_Fa F c pl sc sN sI sL sT od us tg kL ks ty nu it ln ch) (v1 : Int32) : wpX_add (fun r u' => wpY_add (fun r' v' => r' = r ∧ i_Rel (k + 4) u' v') (nI F, sc, nI c, ty, nu, it, ln, ch) v1) (nI F, sc, nI c, pL, rA, sN, sI, sL, sT, od, us, tg, kL, ks, pb) v1 := by
  have H0 := H
  obtain ⟨h1, hF, hc, hV, hS, hE⟩ := H
  have hO := ok_K_or (sc := sc) (it := it) hV F c
  unfold wpX_add
  dsimp only
  by_cases h : c < 20
  · refine br_t (nI_lt (b := 20) h (by decide)) ?_
    refine ok_xK (Nat.le_refl F) hF hV hS (fun pb1 hp => ?_)
    refine ok_xb (beh := true) (pre := false) (Q := ok_K sc nu it ln ch F) hc hE hO (ok_K64 hV hF) (ok_K_By hV F) hp (ok_K64 hV hF 20) (ok_K_By hV F 20) (fun e _ => ⟨[], (List.append_nil _).symm, Or.inr rfl⟩) (fun e => ok_K_Tri hV F e 20) (fun i e => ok_K_Tri hV F i e) rfl ?_
    refine ok_adA h (ok_cn_le _ _) hp (ok_K64 hV hF 20) (ok_K_By hV F 20) (ok_En_free hE h) (fun q hq hu ks' hk hk2 => ?_)
    have A := ok_En_add (x1 := v1) (K' := ok_K sc (ok_cp nu 4 20 c 4) (ok_cp it 4 20 c 4) (ok_cp ln 4 20 c 4) (ok_cp ch 24 20 c 24) F) h hE hO (ok_K64 hV hF) (fun i e => ok_K_Tri hV F i e) (fun e he => ok_same_K hV (ok_same_cpo (by omega)) hF) (ok_same_K hV ok_same_cp hF) rfl hq hu hk hk2
    unfold wpY_add
    dsimp only
    refine br_f (fun w => by have := (nI_eq (b := 20) (by omega) (by decide)).mp w; omega) ?_
    refine ok_ycp (a := 20) (b := c) hV.1 (by decide) (by omega) (by omega) ⟨vp_in_nI h (by decide), nm_r (e' := upd ty c v1) (by rw [nI_clamp (by omega)]) (nm_r (nI_1 _) ?_)⟩
    rw [nI_pred]
    refine ok_yp (ok_VY_cp hV) (by omega) hF (by omega) ⟨congrArg nI A.2, ok_mk ⟨h1, hF, by omega, ok_VY_cp hV, ?_, A.1⟩⟩
    exact ok_St_same (e := 20) (e' := 20) hF hV (ok_same_cpo (by omega)) hS
  · refine br_f (nI_nlt (b := 20) (by omega) (by omega)) ?_
    unfold wpY_add
    dsimp only
    have e : c = 20 := by omega
    subst e
    exact br_t rfl ⟨rfl, ok_mk H0⟩
theorem ok_below (k : Nat) (H : ok_Fa F c pl sc sN sI sL sT od us tg kL ks ty nu it ln ch) : wpX_below (fun r u' => wpY_below (fun r' => r' = r ∧ i_Rel (k + 4) u' (nI F, sc, nI c, ty, nu, it, ln, ch)) (nI F, sc, nI c, ty, nu, it, ln, ch)) (nI F, sc, nI c, pL, rA, sN, sI, sL, sT, od, us, tg, kL, ks, pb) := by
  have H0 := H
  obtain ⟨h1, hF, hc, hV, hS, hE⟩ := H
  have hO := ok_K_or (sc := sc) (it := it) hV F c
  unfold wpX_below
  dsimp only
  refine ok_xK (Nat.le_refl F) hF hV hS (fun pb1 hp => ?_)
  refine ok_xb (beh := false) (pre := false) (Q := ok_K sc nu it ln ch F) hc hE hO (ok_K64 hV hF) (ok_K_By hV F) hp (ok_K64 hV hF 20) (ok_K_By hV F 20) (fun e _ => ⟨[], (List.append_nil _).symm, Or.inr rfl⟩) (fun e => ok_K_Tri hV F e 20) (fun i e => ok_K_Tri hV F i e) rfl ?_
  exact ok_ybl hV hF hc ⟨rfl, ok_mk H0⟩
theorem ok_matching (k : Nat) (H : ok_Fa F c pl sc sN sI sL sT od us tg kL ks ty nu it ln ch) (v1 : Int32) : wpX_matching (fun r u' => wpY_matching (fun r' => r' = r ∧ i_Rel (k + 4) u' (nI F, sc, nI c, ty, nu, it, ln, ch)) (nI F, sc, nI c, ty, nu, it, ln, ch) v1) (nI F, sc, nI c, pL, rA, sN, sI, sL, sT, od, us, tg, kL, ks, pb) v1 := by
  have H0 := H
  obtain ⟨h1, hF, hc, hV, hS, hE⟩ := H
  have hO := ok_K_or (sc := sc) (it := it) hV F c
  unfold wpX_matching
  dsimp only
  by_cases n0 : v1 < 0
  · refine br_t n0 ?_
    unfold wpY_matching
    dsimp only
    exact br_t n0 ⟨rfl, ok_mk H0⟩
  · refine br_f n0 ?_
    by_cases n1 : v1 ≤ nI F
    · refine br_t n1 ?_
      obtain ⟨N, hN, rfl⟩ := nI_of2 (M := nI F) (n := F) (nI_toInt (by omega)) n0 n1
      refine ok_xK hN hF hV hS (fun pb1 hp => ?_)
      have hl : (ok_K sc nu it ln ch N 20).length ≤ 64 := ok_K64 hV (by omega) 20
      have hQ : ∀ e, e < c → ∃ T, ok_K sc nu it ln ch F e = ok_K sc nu it ln ch N e ++ T ∧ (true = true ∨ T = []) := fun e _ => by
        obtain ⟨T, eT⟩ := ok_K_cut (sc := sc) (nu := nu) (it := it) (ln := ln) (ch := ch) hN e
        exact ⟨T, eT, Or.inl rfl⟩
      refine ok_xb (beh := false) (pre := true) (Q := ok_K sc nu it ln ch N) hc hE hO (ok_K64 hV hF) (ok_K_By hV F) hp hl (ok_K_By hV N 20) hQ (fun e => ok_K_Tri hV N e 20) (fun i e => ok_K_Tri hV N i e) rfl ?_
      refine ok_xb (beh := true) (pre := true) (Q := ok_K sc nu it ln ch N) hc hE hO (ok_K64 hV hF) (ok_K_By hV F) hp hl (ok_K_By hV N 20) hQ (fun e => ok_K_Tri hV N e 20) (fun i e => ok_K_Tri hV N i e) rfl ?_
      refine ok_ymt hV hN hF hc ⟨?_, ok_mk H0⟩
      rw [if_pos rfl, if_neg (by decide)]
      have s := ok_cn_add (p := fun e => ok_dl (ok_K sc nu it ln ch N e) (ok_K sc nu it ln ch N 20)) (q := fun i => decide (ok_K sc nu it ln ch N i = ok_K sc nu it ln ch N 20)) (r := fun e => !ok_dl (ok_K sc nu it ln ch N 20) (ok_K sc nu it ln ch N e)) (n := c) (fun i hi => by
        show (!ok_dl (ok_K sc nu it ln ch N 20) (ok_K sc nu it ln ch N i)).toNat = (ok_dl (ok_K sc nu it ln ch N i) (ok_K sc nu it ln ch N 20)).toNat + (decide (ok_K sc nu it ln ch N i = ok_K sc nu it ln ch N 20)).toNat
        rcases ok_K_Tri (sc := sc) (it := it) hV N i 20 with t | t | t
        · have nq : ¬ ok_K sc nu it ln ch N i = ok_K sc nu it ln ch N 20 := fun w => by rw [w, ok_dl_irr] at t; cases t
          rw [t, ok_dl_as t, decide_eq_false nq]; rfl
        · rw [t, ok_dl_irr, decide_eq_true rfl]; rfl
        · have nq : ¬ ok_K sc nu it ln ch N i = ok_K sc nu it ln ch N 20 := fun w => by rw [w, ok_dl_irr] at t; cases t
          rw [t, ok_dl_as t, decide_eq_false nq]; rfl)
      rw [s, pk_sub (by omega)]
      exact congrArg nI (by omega)
    · refine br_f n1 ?_
      unfold wpY_matching
      dsimp only
      exact br_f n0 (br_f n1 ⟨rfl, ok_mk H0⟩)
theorem ok_intAt (k : Nat) (H : ok_Fa F c pl sc sN sI sL sT od us tg kL ks ty nu it ln ch) (v1 v2 : Int32) : wpX_intAt (fun r u' => wpY_intAt (fun r' => r' = r ∧ i_Rel (k + 4) u' (nI F, sc, nI c, ty, nu, it, ln, ch)) (nI F, sc, nI c, ty, nu, it, ln, ch) v1 v2) (nI F, sc, nI c, pL, rA, sN, sI, sL, sT, od, us, tg, kL, ks, pb) v1 v2 := by
  have H0 := H
  obtain ⟨h1, hF, hc, hV, hS, hE⟩ := H
  have hO := ok_K_or (sc := sc) (it := it) hV F c
  unfold wpX_intAt
  dsimp only
  rcases ok_ixn v1 (n := c) (by omega) with h | ⟨j, hj, rfl⟩
  · refine ok_xnT h (br_f (by decide) ?_)
    unfold wpY_intAt
    dsimp only
    exact ok_yaF hV hF hc (ok_bad hc h) (br_t (by decide) ⟨rfl, ok_mk H0⟩)
  · obtain ⟨e, he, rfl, ho⟩ := ok_En_od hE hO hj
    obtain ⟨g1, g2, g3, g4, g5, g6⟩ := hE.1 e he
    have ip : vp_in (nI (ok_rk (ok_lt (ok_K sc nu it ln ch F)) c e)) 20 := vp_in_nI (by omega) (by decide)
    refine ok_xnF hc hj (br_t rfl ?_)
    rcases ok_ixn v2 (n := F) (by omega) with h | ⟨f, hf, rfl⟩
    · refine ok_xbT h (br_f (by decide) ?_)
      unfold wpY_intAt
      dsimp only
      exact ok_yaT hV hF hc he (br_f (nI_pos (by omega)) (ok_ybT h (br_f (by decide) ⟨rfl, ok_mk H0⟩)))
    · refine ok_xbF hF hf (br_t rfl (ok_xte f ?_))
      have iy : vp_in (nI (e * 4 + f)) 84 := vp_in_nI (by omega) (by decide)
      have ey : nI e * 4 + nI f = nI (e * 4 + f) := ok_ix e f 4
      have cy : (nI (e * 4 + f)).toNatClampNeg = e * 4 + f := nI_clamp (by omega)
      cases t : ok_bit sc f 1 with
      | true =>
        refine br_f (by decide) ?_
        unfold wpY_intAt
        dsimp only
        refine ok_yaT hV hF hc he (br_f (nI_pos (by omega)) (ok_ybF hF hf (br_t rfl (ok_yte f ?_))))
        rw [t]
        exact br_f (by decide) ⟨rfl, ok_mk H0⟩
      | false =>
        refine br_t rfl ⟨ip, ?_⟩
        rw [nI_clamp (show ok_rk (ok_lt (ok_K sc nu it ln ch F)) c e < 2 ^ 31 by omega), ho]
        refine ok_seek (F := F) (nl := fun f => nu (e * 4 + f)) (vl := fun f => it (e * 4 + f)) (cc := fun f => ok_cc ln ch (e * 4 + f)) g1 hF (ok_VY_CV hV e F) g5 hf (fun z A T eK => ?_) (fun z rA' => ?_)
        · refine br_t rfl ⟨ip, ?_⟩
          dsimp only
          rw [ho]
          rw [t] at eK
          refine ok_rdI (v := it (e * 4 + f)) g1 g5 (ok_K64 hV hF e) eK ?_
          unfold wpY_intAt
          dsimp only
          refine ok_yaT hV hF hc he (br_f (nI_pos (by omega)) (ok_ybF hF hf (br_t rfl (ok_yte f ?_))))
          rw [t, ey]
          refine br_t rfl ⟨iy, ?_⟩
          rw [cy]
          exact br_t z ⟨iy, rfl, ok_mk H0⟩
        · refine br_f (by decide) ?_
          unfold wpY_intAt
          dsimp only
          refine ok_yaT hV hF hc he (br_f (nI_pos (by omega)) (ok_ybF hF hf (br_t rfl (ok_yte f ?_))))
          rw [t, ey]
          refine br_t rfl ⟨iy, ?_⟩
          rw [cy]
          have z : nu (e * 4 + f) = 1 := z
          exact br_f (by rw [z]; decide) ⟨rfl, ok_mk H0⟩
theorem ok_nullAt (k : Nat) (H : ok_Fa F c pl sc sN sI sL sT od us tg kL ks ty nu it ln ch) (v1 v2 : Int32) : wpX_nullAt (fun r u' => wpY_nullAt (fun r' => r' = r ∧ i_Rel (k + 4) u' (nI F, sc, nI c, ty, nu, it, ln, ch)) (nI F, sc, nI c, ty, nu, it, ln, ch) v1 v2) (nI F, sc, nI c, pL, rA, sN, sI, sL, sT, od, us, tg, kL, ks, pb) v1 v2 := by
  have H0 := H
  obtain ⟨h1, hF, hc, hV, hS, hE⟩ := H
  have hO := ok_K_or (sc := sc) (it := it) hV F c
  unfold wpX_nullAt
  dsimp only
  rcases ok_ixn v1 (n := c) (by omega) with h | ⟨j, hj, rfl⟩
  · refine ok_xnT h (br_f (by decide) ?_)
    unfold wpY_nullAt
    dsimp only
    exact ok_yaF hV hF hc (ok_bad hc h) (br_t (by decide) ⟨rfl, ok_mk H0⟩)
  · obtain ⟨e, he, rfl, ho⟩ := ok_En_od hE hO hj
    obtain ⟨g1, g2, g3, g4, g5, g6⟩ := hE.1 e he
    have ip : vp_in (nI (ok_rk (ok_lt (ok_K sc nu it ln ch F)) c e)) 20 := vp_in_nI (by omega) (by decide)
    refine ok_xnF hc hj (br_t rfl ?_)
    rcases ok_ixn v2 (n := F) (by omega) with h | ⟨f, hf, rfl⟩
    · refine ok_xbT h (br_f (by decide) ?_)
      unfold wpY_nullAt
      dsimp only
      exact ok_yaT hV hF hc he (br_f (nI_pos (by omega)) (ok_ybT h (br_f (by decide) ⟨rfl, ok_mk H0⟩)))
    · refine ok_xbF hF hf (br_t rfl ⟨ip, ?_⟩)
      have iy : vp_in (nI (e * 4 + f)) 84 := vp_in_nI (by omega) (by decide)
      have ey : nI e * 4 + nI f = nI (e * 4 + f) := ok_ix e f 4
      have cy : (nI (e * 4 + f)).toNatClampNeg = e * 4 + f := nI_clamp (by omega)
      rw [nI_clamp (show ok_rk (ok_lt (ok_K sc nu it ln ch F)) c e < 2 ^ 31 by omega), ho]
      refine ok_seek (F := F) (nl := fun f => nu (e * 4 + f)) (vl := fun f => it (e * 4 + f)) (cc := fun f => ok_cc ln ch (e * 4 + f)) g1 hF (ok_VY_CV hV e F) g5 hf (fun z A T eK => ?_) (fun z rA' => ?_)
      · refine ⟨rfl, ?_⟩
        unfold wpY_nullAt
        dsimp only
        refine ok_yaT hV hF hc he (br_f (nI_pos (by omega)) (ok_ybF hF hf (br_t rfl ?_)))
        rw [ey]
        refine ⟨iy, ?_⟩
        rw [cy]
        exact br_t z ⟨rfl, ok_mk H0⟩
      · refine ⟨rfl, ?_⟩
        unfold wpY_nullAt
        dsimp only
        refine ok_yaT hV hF hc he (br_f (nI_pos (by omega)) (ok_ybF hF hf (br_t rfl ?_)))
        rw [ey]
        refine ⟨iy, ?_⟩
        rw [cy]
        have z : nu (e * 4 + f) = 1 := z
        exact br_f (by rw [z]; decide) ⟨rfl, ok_mk H0⟩
/-- what the reference answers of a character -/
theorem ok_ych {post : Int32 → Prop} {e f : Nat} {v3 r : Int32} (hF : F ≤ 4) (hc : c ≤ 20) (hV : ok_VY nu ln ch) (he : e < c) (hf : f < F)
    (a1 : ok_bit sc f 1 = false → r = -5) (a2 : ¬ nu (e * 4 + f) = 0 → r = -5) (a3 : v3 < 0 → r = -5) (a4 : ∀ m : Nat, v3 = nI m → m < 2 ^ 31 → (ok_cc ln ch (e * 4 + f)).length ≤ m → r = -5)
    (a5 : ok_bit sc f 1 = true → nu (e * 4 + f) = 0 → ∀ m : Nat, v3 = nI m → m < (ok_cc ln ch (e * 4 + f)).length → r = nI (ok_at (ok_cc ln ch (e * 4 + f)) m)) (h : post r) :
    wpY_charAt post (nI F, sc, nI c, ty, nu, it, ln, ch) (nI (ok_rk (ok_lt (ok_K sc nu it ln ch F)) c e)) (nI f) v3 := by
  have iy : vp_in (nI (e * 4 + f)) 84 := vp_in_nI (by omega) (by decide)
  have cy : (nI (e * 4 + f)).toNatClampNeg = e * 4 + f := nI_clamp (by omega)
  obtain ⟨l6, el⟩ := ok_cc_len hV (e * 4 + f)
  unfold wpY_charAt
  dsimp only
  refine ok_yaT hV hF hc he (br_f (nI_pos (by omega)) (ok_ybF hF hf (br_t rfl (nm_r (ok_ix e f 4) (ok_yte f ?_)))))
  cases t : ok_bit sc f 1 with
  | false => rw [a1 t] at h; exact br_t rfl h
  | true =>
    refine br_f (by decide) ⟨iy, ?_⟩
    rw [cy]
    by_cases z : nu (e * 4 + f) = 0
    · refine br_t z ?_
      by_cases n0 : v3 < 0
      · rw [a3 n0] at h; exact br_t n0 h
      · obtain ⟨m, hm, rfl⟩ := nI_of n0
        refine br_f n0 ⟨iy, ?_⟩
        rw [el]
        by_cases w : m < (ok_cc ln ch (e * 4 + f)).length
        · refine br_t (nI_lt w (by omega)) ?_
          rw [show nI (e * 4 + f) * 6 + nI m = nI ((e * 4 + f) * 6 + m) from ok_ix _ m 6]
          refine ⟨vp_in_nI (by omega) (by decide), ?_⟩
          rw [nI_clamp (by omega)]
          have e5 := a5 t z m rfl w
          have ecl : (ln (e * 4 + f)).toNatClampNeg = (ok_cc ln ch (e * 4 + f)).length := by
            have := ok_cs_len ch ((e * 4 + f) * 6) (ln (e * 4 + f)).toNatClampNeg
            exact this.symm
          have e6 : ok_at (ok_cc ln ch (e * 4 + f)) m = (ch ((e * 4 + f) * 6 + m)).toNatClampNeg := ok_at_cs ch _ _ (by rw [ecl]; exact w)
          obtain ⟨x, hx, ex⟩ := hV.2.2 ((e * 4 + f) * 6 + m)
          rw [e6, ex, nI_clamp (by omega)] at e5
          rw [ex, ← e5]
          exact h
        · rw [a4 m rfl hm (by omega)] at h
          exact br_f (nI_nlt (by omega) hm) h
    · rw [a2 z] at h; exact br_f z h
theorem ok_charAt (k : Nat) (H : ok_Fa F c pl sc sN sI sL sT od us tg kL ks ty nu it ln ch) (v1 v2 v3 : Int32) : wpX_charAt (fun r u' => wpY_charAt (fun r' => r' = r ∧ i_Rel (k + 4) u' (nI F, sc, nI c, ty, nu, it, ln, ch)) (nI F, sc, nI c, ty, nu, it, ln, ch) v1 v2 v3) (nI F, sc, nI c, pL, rA, sN, sI, sL, sT, od, us, tg, kL, ks, pb) v1 v2 v3 := by
  have H0 := H
  obtain ⟨h1, hF, hc, hV, hS, hE⟩ := H
  have hO := ok_K_or (sc := sc) (it := it) hV F c
  unfold wpX_charAt
  dsimp only
  rcases ok_ixn v1 (n := c) (by omega) with h | ⟨j, hj, rfl⟩
  · refine ok_xnT h (br_f (by decide) ?_)
    unfold wpY_charAt
    dsimp only
    exact ok_yaF hV hF hc (ok_bad hc h) (br_t (by decide) ⟨rfl, ok_mk H0⟩)
  · obtain ⟨e, he, rfl, ho⟩ := ok_En_od hE hO hj
    obtain ⟨g1, g2, g3, g4, g5, g6⟩ := hE.1 e he
    have ip : vp_in (nI (ok_rk (ok_lt (ok_K sc nu it ln ch F)) c e)) 20 := vp_in_nI (by omega) (by decide)
    refine ok_xnF hc hj (br_t rfl ?_)
    rcases ok_ixn v2 (n := F) (by omega) with h | ⟨f, hf, rfl⟩
    · refine ok_xbT h (br_f (by decide) ?_)
      unfold wpY_charAt
      dsimp only
      exact ok_yaT hV hF hc he (br_f (nI_pos (by omega)) (ok_ybT h (br_f (by decide) ⟨rfl, ok_mk H0⟩)))
    · refine ok_xbF hF hf (br_t rfl ?_)
      obtain ⟨l6, el⟩ := ok_cc_len hV (e * 4 + f)
      by_cases n0 : v3 < 0
      · refine br_t n0 ?_
        refine ok_ych (r := -5) hF hc hV he hf (fun _ => rfl) (fun _ => rfl) (fun _ => rfl) (fun _ _ _ _ => rfl) (fun _ _ m em hm => ?_) ⟨rfl, ok_mk H0⟩
        rw [em] at n0
        exact absurd n0 (nI_pos (by omega))
      · refine br_f n0 ?_
        by_cases n5 : v3 ≤ 5
        · obtain ⟨m, hm, rfl⟩ := nI_of2 (M := 5) (n := 5) (by decide) n0 n5
          refine br_t n5 (ok_xte f ?_)
          cases t : ok_bit sc f 1 with
          | false =>
            refine br_t rfl ?_
            refine ok_ych (r := -5) hF hc hV he hf (fun _ => rfl) (fun _ => rfl) (fun _ => rfl) (fun _ _ _ _ => rfl) (fun t2 => ?_) ⟨rfl, ok_mk H0⟩
            rw [t] at t2; cases t2
          | true =>
            refine br_f (by decide) ⟨ip, ?_⟩
            rw [nI_clamp (show ok_rk (ok_lt (ok_K sc nu it ln ch F)) c e < 2 ^ 31 by omega), ho]
            refine ok_seek (F := F) (nl := fun f => nu (e * 4 + f)) (vl := fun f => it (e * 4 + f)) (cc := fun f => ok_cc ln ch (e * 4 + f)) g1 hF (ok_VY_CV hV e F) g5 hf (fun z A T eK => ?_) (fun z rA' => ?_)
            · have z : nu (e * 4 + f) = 0 := z
              rw [t] at eK
              refine br_t rfl ⟨8, ?_⟩
              refine ok_chL (D := ok_cc ln ch (e * 4 + f)) (by omega) ho g1 g5 (ok_K64 hV hF e) hm (fun rA' => ?_) (ok_cc ln ch (e * 4 + f)) 0 8 0 A (ok_cc_By hV _) rfl (by omega) (by decide) (by omega) eK
              refine ok_ych hF hc hV he hf (fun t2 => ?_) (fun z2 => absurd z z2) (fun n2 => absurd n2 n0) (fun m2 e2 b2 l2 => ?_) (fun _ _ m2 e2 l2 => ?_) ⟨rfl, ok_mk H0⟩
              · rw [t] at t2; cases t2
              · have e3 := (nI_eq (by omega) b2).mp e2
                subst e3
                exact if_neg (by omega)
              · have e3 := (nI_eq (by omega) (by omega)).mp e2
                subst e3
                exact if_pos l2
            · have z : nu (e * 4 + f) = 1 := z
              refine br_f (by decide) ?_
              refine ok_ych (r := -5) hF hc hV he hf (fun _ => rfl) (fun _ => rfl) (fun _ => rfl) (fun _ _ _ _ => rfl) (fun _ z2 => ?_) ⟨rfl, ok_mk H0⟩
              rw [z] at z2
              exact absurd z2 (by decide)
        · refine br_f n5 ?_
          refine ok_ych (r := -5) hF hc hV he hf (fun _ => rfl) (fun _ => rfl) (fun _ => rfl) (fun _ _ _ _ => rfl) (fun _ _ m em hm => ?_) ⟨rfl, ok_mk H0⟩
          rw [em] at n5
          exact absurd (nI_le (b := 5) (by omega) (by decide)) n5
end
end
section
/-! what is owed (the statements are those of claim/defs.txt) -/
theorem i_up {k : Nat} {u : SX} {v : SY} (h : i_Rel k u v) : i_Rel (k + 4) u v :=
  h
theorem i_vc0 (k0 : Int32) (k1 : Int32) : wpX_init (fun u => wpY_init (fun v => i_Rel 2 u v) k0 k1) k0 k1 :=
  ok_vc0 k0 k1
theorem i_vc_setNull {k : Nat} {u : SX} {v : SY} (I : i_Rel k u v) (hk : k + 4 ≤ 2050) (v1 : Int32) : wpX_setNull (fun r u' => wpY_setNull (fun r' v' => r' = r ∧ i_Rel (k + 4) u' v') v v1) u v1 :=
  ok_el (P := fun u v => wpX_setNull (fun r u' => wpY_setNull (fun r' v' => r' = r ∧ i_Rel (k + 4) u' v') v v1) u v1) I (fun F c pl sc pL rA sN sI sL sT od us tg kL ks pb ty nu it ln ch H => ok_setNull k H v1)
theorem i_vc_setInt {k : Nat} {u : SX} {v : SY} (I : i_Rel k u v) (hk : k + 4 ≤ 2050) (v1 : Int32) (v2 : Int32) : wpX_setInt (fun r u' => wpY_setInt (fun r' v' => r' = r ∧ i_Rel (k + 4) u' v') v v1 v2) u v1 v2 :=
  ok_el (P := fun u v => wpX_setInt (fun r u' => wpY_setInt (fun r' v' => r' = r ∧ i_Rel (k + 4) u' v') v v1 v2) u v1 v2) I (fun F c pl sc pL rA sN sI sL sT od us tg kL ks pb ty nu it ln ch H => ok_setInt k H v1 v2)
theorem i_vc_setText {k : Nat} {u : SX} {v : SY} (I : i_Rel k u v) (hk : k + 4 ≤ 2050) (v1 : Int32) : wpX_setText (fun r u' => wpY_setText (fun r' v' => r' = r ∧ i_Rel (k + 4) u' v') v v1) u v1 :=
  ok_el (P := fun u v => wpX_setText (fun r u' => wpY_setText (fun r' v' => r' = r ∧ i_Rel (k + 4) u' v') v v1) u v1) I (fun F c pl sc pL rA sN sI sL sT od us tg kL ks pb ty nu it ln ch H => ok_setText k H v1)
theorem i_vc_append {k : Nat} {u : SX} {v : SY} (I : i_Rel k u v) (hk : k + 4 ≤ 2050) (v1 : Int32) (v2 : Int32) : wpX_append (fun r u' => wpY_append (fun r' v' => r' = r ∧ i_Rel (k + 4) u' v') v v1 v2) u v1 v2 :=
  ok_el (P := fun u v => wpX_append (fun r u' => wpY_append (fun r' v' => r' = r ∧ i_Rel (k + 4) u' v') v v1 v2) u v1 v2) I (fun F c pl sc pL rA sN sI sL sT od us tg kL ks pb ty nu it ln ch H => ok_append k H v1 v2)
theorem i_vc_add {k : Nat} {u : SX} {v : SY} (I : i_Rel k u v) (hk : k + 4 ≤ 2050) (v1 : Int32) : wpX_add (fun r u' => wpY_add (fun r' v' => r' = r ∧ i_Rel (k + 4) u' v') v v1) u v1 :=
  ok_el (P := fun u v => wpX_add (fun r u' => wpY_add (fun r' v' => r' = r ∧ i_Rel (k + 4) u' v') v v1) u v1) I (fun F c pl sc pL rA sN sI sL sT od us tg kL ks pb ty nu it ln ch H => ok_add k H v1)
theorem i_vc_remove {k : Nat} {u : SX} {v : SY} (I : i_Rel k u v) (hk : k + 4 ≤ 2050) (v1 : Int32) : wpX_remove (fun r u' => wpY_remove (fun r' v' => r' = r ∧ i_Rel (k + 4) u' v') v v1) u v1 :=
  ok_el (P := fun u v => wpX_remove (fun r u' => wpY_remove (fun r' v' => r' = r ∧ i_Rel (k + 4) u' v') v v1) u v1) I (fun F c pl sc pL rA sN sI sL sT od us tg kL ks pb ty nu it ln ch H => ok_remove k H v1)
theorem i_vc_load {k : Nat} {u : SX} {v : SY} (I : i_Rel k u v) (hk : k + 4 ≤ 2050) (v1 : Int32) : wpX_load (fun r u' => wpY_load (fun r' v' => r' = r ∧ i_Rel (k + 4) u' v') v v1) u v1 :=
  ok_el (P := fun u v => wpX_load (fun r u' => wpY_load (fun r' v' => r' = r ∧ i_Rel (k + 4) u' v') v v1) u v1) I (fun F c pl sc pL rA sN sI sL sT od us tg kL ks pb ty nu it ln ch H => ok_load k H v1)
theorem i_vc_size {k : Nat} {u : SX} {v : SY} (I : i_Rel k u v) (hk : k + 4 ≤ 2050) : wpX_size (fun r => wpY_size (fun r' => r' = r ∧ i_Rel (k + 4) u v) v) u :=
  ok_el (P := fun u v => wpX_size (fun r => wpY_size (fun r' => r' = r ∧ i_Rel (k + 4) u v) v) u) I (fun F c pl sc pL rA sN sI sL sT od us tg kL ks pb ty nu it ln ch H => ⟨rfl, ok_mk H⟩)
theorem i_vc_tag {k : Nat} {u : SX} {v : SY} (I : i_Rel k u v) (hk : k + 4 ≤ 2050) (v1 : Int32) : wpX_tag (fun r => wpY_tag (fun r' => r' = r ∧ i_Rel (k + 4) u v) v v1) u v1 :=
  ok_el (P := fun u v => wpX_tag (fun r => wpY_tag (fun r' => r' = r ∧ i_Rel (k + 4) u v) v v1) u v1) I (fun F c pl sc pL rA sN sI sL sT od us tg kL ks pb ty nu it ln ch H => ok_tag k H v1)
theorem i_vc_below {k : Nat} {u : SX} {v : SY} (I : i_Rel k u v) (hk : k + 4 ≤ 2050) : wpX_below (fun r u' => wpY_below (fun r' => r' = r ∧ i_Rel (k + 4) u' v) v) u :=
  ok_el (P := fun u v => wpX_below (fun r u' => wpY_below (fun r' => r' = r ∧ i_Rel (k + 4) u' v) v) u) I (fun F c pl sc pL rA sN sI sL sT od us tg kL ks pb ty nu it ln ch H => ok_below k H)
theorem i_vc_matching {k : Nat} {u : SX} {v : SY} (I : i_Rel k u v) (hk : k + 4 ≤ 2050) (v1 : Int32) : wpX_matching (fun r u' => wpY_matching (fun r' => r' = r ∧ i_Rel (k + 4) u' v) v v1) u v1 :=
  ok_el (P := fun u v => wpX_matching (fun r u' => wpY_matching (fun r' => r' = r ∧ i_Rel (k + 4) u' v) v v1) u v1) I (fun F c pl sc pL rA sN sI sL sT od us tg kL ks pb ty nu it ln ch H => ok_matching k H v1)
theorem i_vc_intAt {k : Nat} {u : SX} {v : SY} (I : i_Rel k u v) (hk : k + 4 ≤ 2050) (v1 : Int32) (v2 : Int32) : wpX_intAt (fun r u' => wpY_intAt (fun r' => r' = r ∧ i_Rel (k + 4) u' v) v v1 v2) u v1 v2 :=
  ok_el (P := fun u v => wpX_intAt (fun r u' => wpY_intAt (fun r' => r' = r ∧ i_Rel (k + 4) u' v) v v1 v2) u v1 v2) I (fun F c pl sc pL rA sN sI sL sT od us tg kL ks pb ty nu it ln ch H => ok_intAt k H v1 v2)
theorem i_vc_charAt {k : Nat} {u : SX} {v : SY} (I : i_Rel k u v) (hk : k + 4 ≤ 2050) (v1 : Int32) (v2 : Int32) (v3 : Int32) : wpX_charAt (fun r u' => wpY_charAt (fun r' => r' = r ∧ i_Rel (k + 4) u' v) v v1 v2 v3) u v1 v2 v3 :=
  ok_el (P := fun u v => wpX_charAt (fun r u' => wpY_charAt (fun r' => r' = r ∧ i_Rel (k + 4) u' v) v v1 v2 v3) u v1 v2 v3) I (fun F c pl sc pL rA sN sI sL sT od us tg kL ks pb ty nu it ln ch H => ok_charAt k H v1 v2 v3)
theorem i_vc_nullAt {k : Nat} {u : SX} {v : SY} (I : i_Rel k u v) (hk : k + 4 ≤ 2050) (v1 : Int32) (v2 : Int32) : wpX_nullAt (fun r u' => wpY_nullAt (fun r' => r' = r ∧ i_Rel (k + 4) u' v) v v1 v2) u v1 v2 :=
  ok_el (P := fun u v => wpX_nullAt (fun r u' => wpY_nullAt (fun r' => r' = r ∧ i_Rel (k + 4) u' v) v v1 v2) u v1 v2) I (fun F c pl sc pL rA sN sI sL sT od us tg kL ks pb ty nu it ln ch H => ok_nullAt k H v1 v2)
end
