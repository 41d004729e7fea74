section
theorem pk_us {f : Nat → Int32} {k : Nat} {x : Int32} : upd f k x k = x := if_pos rfl
theorem pk_un {f : Nat → Int32} {k j : Nat} {x : Int32} (h : j ≠ k) : upd f k x j = f j := if_neg h
theorem pk_uLs {f : Nat → Int64} {k : Nat} {x : Int64} : vp_updL f k x k = x := if_pos rfl
theorem pk_uLn {f : Nat → Int64} {k j : Nat} {x : Int64} (h : j ≠ k) : vp_updL f k x j = f j := if_neg h
theorem pk_sub {a b : Nat} (h : b ≤ a) : nI a - nI b = nI (a - b) := by
  obtain ⟨c, rfl⟩ : ∃ c, a = c + b := ⟨a - b, by omega⟩
  rw [← nI_add, Int32.add_sub_cancel, Nat.add_sub_cancel]
theorem pk_m1 (n : Nat) : nI (n + 1) + (-1) = nI n := by
  rw [← nI_1, Int32.add_assoc, show (1 : Int32) + (-1) = 0 from rfl, Int32.add_zero]
theorem pk_mul (a b : Nat) : nI a * nI b = nI (a * b) := (Int32.ofNat_mul a b).symm
theorem pk_div {a d : Nat} (ha : a < 2 ^ 31) (h0 : 0 < d) (hd : d < 2 ^ 31) : nI a / nI d = nI (a / d) := by
  apply Int32.toInt_inj.mp
  rw [lg_idiv_nonneg (by rw [nI_toInt ha]; omega) (by rw [nI_toInt hd]; omega), nI_toInt ha, nI_toInt hd, nI_toInt (Nat.lt_of_le_of_lt (Nat.div_le_self a d) ha)]
  first | rfl | exact (Int.natCast_ediv _ _).symm
theorem pk_rem {a d : Nat} (ha : a < 2 ^ 31) (h0 : 0 < d) (hd : d < 2 ^ 31) : nI a - nI a / nI d * nI d = nI (a % d) := by
  rw [pk_div ha h0 hd, pk_mul, pk_sub (Nat.div_mul_le_self a d)]
  exact congrArg nI (by have := Nat.div_add_mod' a d; omega)
theorem pk_sub_toInt {a b : Nat} (ha : a < 2 ^ 30) (hb : b < 2 ^ 30) : (nI a - nI b).toInt = (a : Int) - b := by
  rw [Int32.toInt_sub, nI_toInt (by omega), nI_toInt (by omega)]
  exact Int.bmod_eq_of_le (by omega) (by omega)
theorem pk_sneg {a b : Nat} (hb : b < 2 ^ 30) (h : a < b) : nI a - nI b < 0 := by
  rw [Int32.lt_iff_toInt_lt, pk_sub_toInt (by omega) hb, show (0 : Int32).toInt = 0 from by decide]
  omega
theorem pk_ix (x : Int32) {n : Nat} (hn : n < 2 ^ 31) : x < 0 ∨ nI n ≤ x ∨ ∃ j : Nat, j < n ∧ x = nI j := by
  by_cases h : x < 0
  · exact Or.inl h
  · obtain ⟨j, hj, rfl⟩ := nI_of h
    by_cases h2 : j < n
    · exact Or.inr (Or.inr ⟨j, h2, rfl⟩)
    · exact Or.inr (Or.inl (nI_le (by omega) hj))
theorem pk_le {x y : Int32} {A B : Prop} (a b : Nat) (f : a ≤ b → A) (g : b < a → B) (hx : x = nI a := by rfl) (hy : y = nI b := by rfl) (ha : a < 2 ^ 31 := by omega) (hb : b < 2 ^ 31 := by omega) : (x ≤ y → A) ∧ (¬ x ≤ y → B) := by
  subst hx hy
  rw [nI_leI ha hb]
  exact ⟨f, fun z => g (by omega)⟩
theorem pk_lt {x y : Int32} {A B : Prop} (a b : Nat) (f : a < b → A) (g : b ≤ a → B) (hx : x = nI a := by rfl) (hy : y = nI b := by rfl) (ha : a < 2 ^ 31 := by omega) (hb : b < 2 ^ 31 := by omega) : (x < y → A) ∧ (¬ x < y → B) := by
  subst hx hy
  rw [nI_ltI ha hb]
  exact ⟨f, fun z => g (by omega)⟩
theorem pk_eq {x y : Int32} {A B : Prop} (a b : Nat) (f : a = b → A) (g : a ≠ b → B) (hx : x = nI a := by rfl) (hy : y = nI b := by rfl) (ha : a < 2 ^ 31 := by omega) (hb : b < 2 ^ 31 := by omega) : (x = y → A) ∧ (¬ x = y → B) := by
  subst hx hy
  rw [nI_eq ha hb]
  exact ⟨f, g⟩
theorem pk_in {x : Int32} (n N : Nat) (h : n < N) (hx : x = nI n := by rfl) (hN : N < 2 ^ 31 := by omega) : vp_in x N := by
  subst hx
  exact vp_in_nI h hN
theorem pk_cl {x : Int32} (n : Nat) (hx : x = nI n := by rfl) (h : n < 2 ^ 31 := by omega) : x.toNatClampNeg = n := by
  subst hx
  exact nI_clamp h
theorem pk_tn {n : Nat} (h : n < 2 ^ 32) : (nI n).toBitVec.toNat = n := Nat.mod_eq_of_lt h
theorem pk_and (x : Int32) {m : Int32} (k : Nat) (hm : m.toBitVec.toNat = 2 ^ k - 1) : x &&& m = nI (x.toBitVec.toNat % 2 ^ k) := by
  apply Int32.toBitVec_inj.mp
  apply BitVec.eq_of_toNat_eq
  rw [Int32.toBitVec_and, BitVec.toNat_and, hm, Nat.and_two_pow_sub_one_eq_mod]
  show _ = (BitVec.ofNat 32 _).toNat
  rw [BitVec.toNat_ofNat]
  exact (Nat.mod_eq_of_lt (Nat.lt_of_le_of_lt (Nat.mod_le _ _) x.toBitVec.isLt)).symm
theorem pk_andN {n : Nat} (h : n < 2 ^ 32) {m : Int32} (k : Nat) (hm : m.toBitVec.toNat = 2 ^ k - 1) : nI n &&& m = nI (n % 2 ^ k) := by
  rw [pk_and _ k hm, pk_tn h]
theorem pk_andE (x : Int32) {m : Int32} (k : Nat) (hm : m.toBitVec.toNat = 2 ^ k - 1) : ∃ j : Nat, j < 2 ^ k ∧ x &&& m = nI j := ⟨_, Nat.mod_lt _ (Nat.two_pow_pos k), pk_and x k hm⟩
theorem pk_andIn (x : Int32) {m : Int32} (k : Nat) (hm : m.toBitVec.toNat = 2 ^ k - 1) (hk : k ≤ 30) : vp_in (x &&& m) (2 ^ k) := by
  obtain ⟨j, hj, e⟩ := pk_andE x k hm
  rw [e]
  exact vp_in_nI hj (Nat.lt_of_le_of_lt (Nat.pow_le_pow_right (by decide) hk) (by decide))
theorem pk_shl (a s : Int32) (k : Nat) (hs : (s.toBitVec.smod 32).toNat = k) : (a <<< s).toBitVec.toNat = a.toBitVec.toNat * 2 ^ k % 2 ^ 32 := by
  show (a.toBitVec <<< (s.toBitVec.smod 32).toNat).toNat = _
  rw [hs, BitVec.toNat_shiftLeft, Nat.shiftLeft_eq]
theorem pk_shlN {n : Nat} (s : Int32) (k : Nat) (hs : (s.toBitVec.smod 32).toNat = k) (h : n * 2 ^ k < 2 ^ 32) : nI n <<< s = nI (n * 2 ^ k) := by
  apply Int32.toBitVec_inj.mp
  apply BitVec.eq_of_toNat_eq
  have hn : n < 2 ^ 32 := Nat.lt_of_le_of_lt (Nat.le_mul_of_pos_right n (Nat.two_pow_pos k)) h
  rw [pk_shl _ _ k hs, pk_tn hn, pk_tn h, Nat.mod_eq_of_lt h]
theorem pk_shr (a s : Int32) (k : Nat) (hs : (s.toBitVec.smod 32).toNat = k) : (a >>> s).toInt = a.toInt >>> k := by
  show (a.toBitVec.sshiftRight (s.toBitVec.smod 32).toNat).toInt = _
  rw [hs, BitVec.toInt_sshiftRight]
  rfl
theorem pk_shrN {n : Nat} (h : n < 2 ^ 31) (s : Int32) (k : Nat) (hs : (s.toBitVec.smod 32).toNat = k) : nI n >>> s = nI (n / 2 ^ k) := by
  apply Int32.toInt_inj.mp
  have h2 : n / 2 ^ k ≤ n := Nat.div_le_self _ _
  rw [pk_shr _ _ k hs, nI_toInt h, nI_toInt (by omega), Int.shiftRight_eq_div_pow]
  rfl
theorem pk_lT {n : Nat} (h : n < 2 ^ 63) : (lN n).toInt = (n : Int) := lg_ofNat_toInt h
theorem pk_lLT {a b : Nat} (ha : a < 2 ^ 63) (hb : b < 2 ^ 63) : lN a < lN b ↔ a < b := by
  rw [Int64.lt_iff_toInt_lt, pk_lT ha, pk_lT hb]; omega
theorem pk_lLE {a b : Nat} (ha : a < 2 ^ 63) (hb : b < 2 ^ 63) : lN a ≤ lN b ↔ a ≤ b := by
  rw [Int64.le_iff_toInt_le, pk_lT ha, pk_lT hb]; omega
theorem pk_lEQ {a b : Nat} (ha : a < 2 ^ 63) (hb : b < 2 ^ 63) : lN a = lN b ↔ a = b := by
  rw [← Int64.toInt_inj, pk_lT ha, pk_lT hb]; omega
theorem pk_lOf {x : Int64} (h : ¬ x < 0) : ∃ k : Nat, k < 2 ^ 63 ∧ x = lN k := by
  rw [Int64.lt_iff_toInt_lt] at h
  have h0 : (0 : Int64).toInt = 0 := by decide
  have hx := Int64.toInt_lt x
  refine ⟨x.toInt.toNat, by omega, Int64.toInt_inj.mp ?_⟩
  rw [pk_lT (by omega)]
  omega
theorem pk_lDiv {a b : Nat} (ha : a < 2 ^ 63) (h0 : 0 < b) (hb : b < 2 ^ 63) : lN a / lN b = lN (a / b) := by
  apply Int64.toInt_inj.mp
  rw [lg_ldiv_nonneg (by rw [pk_lT ha]; omega) (by rw [pk_lT hb]; omega), pk_lT ha, pk_lT hb, pk_lT (Nat.lt_of_le_of_lt (Nat.div_le_self a b) ha)]
  rfl
theorem pk_lRem {a b : Nat} (ha : a < 2 ^ 63) (h0 : 0 < b) (hb : b < 2 ^ 63) : lN a - lN a / lN b * lN b = lN (a % b) := by
  rw [pk_lDiv ha h0 hb, lN_mul, lN_sub (Nat.div_mul_le_self a b)]
  exact congrArg lN (by have := Nat.div_add_mod' a b; omega)
theorem nx_and (a b : Nat) : nI a &&& nI b = nI (a &&& b) := by
  apply Int32.toBitVec_inj.1
  show BitVec.ofNat 32 a &&& BitVec.ofNat 32 b = BitVec.ofNat 32 (a &&& b)
  apply BitVec.eq_of_getLsbD_eq
  intro i hi
  simp [hi]
theorem nx_xor (a b : Nat) : nI a ^^^ nI b = nI (a ^^^ b) := by
  apply Int32.toBitVec_inj.1
  show BitVec.ofNat 32 a ^^^ BitVec.ofNat 32 b = BitVec.ofNat 32 (a ^^^ b)
  apply BitVec.eq_of_getLsbD_eq
  intro i hi
  simp [hi]
theorem s_l : ∀ n, n < 32 → ((nI n &&& 31).toBitVec.smod 32).toNat = n := by decide +kernel
theorem wb_tb (n : Nat) : (lN n).toBitVec = BitVec.ofNat 64 n := rfl
theorem wb_inj {a b : Int64} (h : a.toBitVec = b.toBitVec) : a = b := Int64.toBitVec_inj.mp h
theorem wb_tn {n : Nat} (h : n < 2 ^ 64) : (lN n).toBitVec.toNat = n := by rw [wb_tb, BitVec.toNat_ofNat, Nat.mod_eq_of_lt h]
theorem wb_of (x : Int64) : ∃ n, n < 2 ^ 64 ∧ x = lN n := ⟨x.toBitVec.toNat, x.toBitVec.isLt, wb_inj (by rw [wb_tb]; simp)⟩
theorem wb_of32 (x : Int32) : ∃ n, n < 2 ^ 32 ∧ x = nI n := ⟨x.toBitVec.toNat, x.toBitVec.isLt, Int32.toBitVec_inj.mp (by show _ = BitVec.ofNat 32 _; simp)⟩
theorem wb_c : ∀ k, k < 64 → ((nI k).toInt64 &&& 63) = lN k := by decide +kernel
theorem wb_cu : ∀ k, k < 64 → ((nI k).toInt64.toUInt64 &&& Int64.toUInt64 63) = UInt64.ofNat k := by decide +kernel
theorem wb_sm : ∀ k, k < 64 → (BitVec.ofNat 64 k).smod 64 = BitVec.ofNat 64 k := by decide +kernel
theorem wb_pw {a b : Nat} (h : a ≤ b) : 2 ^ b = 2 ^ a * 2 ^ (b - a) := by rw [← Nat.pow_add]; congr 1; omega
theorem wb_lt2 {a b : Nat} (h : a < b) : 2 ^ a < 2 ^ b := Nat.pow_lt_pow_right (by decide) h
theorem wb_mod (n : Nat) : lN n = lN (n % 2 ^ 64) := wb_inj (by rw [wb_tb, wb_tb]; apply BitVec.eq_of_toNat_eq; rw [BitVec.toNat_ofNat, BitVec.toNat_ofNat, Nat.mod_mod])
theorem wb_shl (n : Nat) {k : Nat} (hk : k < 64) : lN n <<< ((nI k).toInt64 &&& 63) = lN (n * 2 ^ k) := by
  rw [wb_c k hk]
  apply wb_inj
  rw [Int64.toBitVec_shiftLeft, wb_tb, wb_tb, wb_tb, wb_sm k hk]
  apply BitVec.eq_of_toNat_eq
  rw [BitVec.shiftLeft_eq', BitVec.toNat_shiftLeft, BitVec.toNat_ofNat, BitVec.toNat_ofNat, BitVec.toNat_ofNat, Nat.mod_eq_of_lt (show k < 2 ^ 64 by omega), Nat.shiftLeft_eq, Nat.mul_mod, Nat.mod_mod, ← Nat.mul_mod]
theorem wb_and {a b : Nat} (ha : a < 2 ^ 64) (hb : b < 2 ^ 64) : lN a &&& lN b = lN (a &&& b) := by
  apply wb_inj
  rw [Int64.toBitVec_and, wb_tb, wb_tb, wb_tb]
  apply BitVec.eq_of_toNat_eq
  rw [BitVec.toNat_and, BitVec.toNat_ofNat, BitVec.toNat_ofNat, BitVec.toNat_ofNat, Nat.mod_eq_of_lt ha, Nat.mod_eq_of_lt hb, Nat.mod_eq_of_lt (Nat.and_lt_two_pow _ hb)]
theorem wb_or {a b : Nat} (ha : a < 2 ^ 64) (hb : b < 2 ^ 64) : lN a ||| lN b = lN (a ||| b) := by
  apply wb_inj
  rw [Int64.toBitVec_or, wb_tb, wb_tb, wb_tb]
  apply BitVec.eq_of_toNat_eq
  rw [BitVec.toNat_or, BitVec.toNat_ofNat, BitVec.toNat_ofNat, BitVec.toNat_ofNat, Nat.mod_eq_of_lt ha, Nat.mod_eq_of_lt hb, Nat.mod_eq_of_lt (Nat.or_lt_two_pow ha hb)]
theorem wb_mask {n k : Nat} (hn : n < 2 ^ 64) (hk : k < 64) : lN n &&& lN (2 ^ k - 1) = lN (n % 2 ^ k) := by
  rw [wb_and hn (by have := wb_lt2 hk; omega), Nat.and_two_pow_sub_one_eq_mod]
theorem wb_a1 {n : Nat} (hn : n < 2 ^ 64) : lN n &&& 1 = lN (n % 2) := wb_mask (k := 1) hn (by decide)
theorem pf_lI {a : Nat} (h : a < 2 ^ 63) : (lN a).toInt = (a : Int) := lg_ofNat_toInt h
theorem pf_shr {a d : Nat} {D : Int64} (hD : (D.toBitVec.smod 64).toNat = d) (h : a < 2 ^ 62) : lN a >>> D = lN (a / 2 ^ d) := by
  have hd : a / 2 ^ d ≤ a := Nat.div_le_self _ _
  apply Int64.toInt_inj.mp
  have e : (lN a >>> D).toInt = (lN a).toInt >>> d := by
    rw [← hD]
    exact BitVec.toInt_sshiftRight ..
  rw [e, Int.shiftRight_eq_div_pow, pf_lI (by omega), pf_lI (by omega)]
  rfl
end
section
/-! 02: codes of types: ty_e l e, l the wrappers (BOX false, TAG true) from outside in, e the end (1 INT, 2 BOOL, 3 the variable; 0 the argument of a closed instance) -/
def ty_e : List Bool → Nat → Nat
  | [], e => e
  | b :: l, e => (if b then 5 else 4) + 8 * ty_e l e
theorem ty_en (e : Nat) : ty_e [] e = e := rfl
theorem ty_ef (l : List Bool) (e : Nat) : ty_e (false :: l) e = 4 + 8 * ty_e l e := rfl
theorem ty_et (l : List Bool) (e : Nat) : ty_e (true :: l) e = 5 + 8 * ty_e l e := rfl
def ty_h (b : Bool) : Nat := if b then 5 else 4
theorem ty_ec (b : Bool) (l : List Bool) (e : Nat) : ty_e (b :: l) e = ty_h b + 8 * ty_e l e := rfl
theorem ty_h45 (b : Bool) : ty_h b = 4 ∨ ty_h b = 5 := by cases b <;> simp [ty_h]
theorem ty_ea (l m : List Bool) (e : Nat) : ty_e (l ++ m) e = ty_e l (ty_e m e) := by
  induction l with
  | nil => rfl
  | cons b l ih => rw [List.cons_append, ty_ec, ty_ec, ih]
theorem ty_el (l : List Bool) (e : Nat) (h : e < 8) : ty_e l e < 8 ^ (l.length + 1) := by
  induction l with
  | nil => rw [ty_en]; exact h
  | cons b l ih =>
    rw [List.length_cons, Nat.pow_succ, ty_ec]
    have := ty_h45 b
    generalize 8 ^ (l.length + 1) = q at *
    omega
theorem ty_e21 {l : List Bool} {e : Nat} (hl : l.length ≤ 6) (h : e < 8) : ty_e l e < 2097152 := by
  have h1 := ty_el l e h
  have h2 : 8 ^ (l.length + 1) ≤ 8 ^ 7 := Nat.pow_le_pow_right (by decide) (by omega)
  have h3 : (8 : Nat) ^ 7 = 2097152 := by decide
  omega
theorem ty_inj : ∀ (l m : List Bool) (e f : Nat), e ≤ 3 → f ≤ 3 → ty_e l e = ty_e m f → l = m ∧ e = f := by
  intro l
  induction l with
  | nil =>
    intro m e f he hf h
    cases m with
    | nil => exact ⟨rfl, h⟩
    | cons c m => rw [ty_en, ty_ec] at h; have := ty_h45 c; omega
  | cons b l ih =>
    intro m e f he hf h
    cases m with
    | nil => rw [ty_en, ty_ec] at h; have := ty_h45 b; omega
    | cons c m =>
      rw [ty_ec, ty_ec] at h
      have h1 : ty_e l e = ty_e m f := by have := ty_h45 b; have := ty_h45 c; omega
      have h2 : ty_h b = ty_h c := by omega
      obtain ⟨r1, r2⟩ := ih m e f he hf h1
      have h3 : b = c := by cases b <;> cases c <;> simp [ty_h] at h2 <;> rfl
      exact ⟨by rw [h3, r1], r2⟩
def ty_g : List Bool → Nat
  | [] => 0
  | b :: l => (if b then 1 else 0) + ty_g l
theorem ty_gf (l : List Bool) : ty_g (false :: l) = ty_g l := Nat.zero_add _
theorem ty_gt (l : List Bool) : ty_g (true :: l) = ty_g l + 1 := Nat.add_comm _ _
theorem ty_ga (l m : List Bool) : ty_g (l ++ m) = ty_g l + ty_g m := by
  induction l with
  | nil => exact (Nat.zero_add _).symm
  | cons b l ih => cases b <;> simp only [List.cons_append, ty_gf, ty_gt, ih] <;> omega
theorem ty_gl (l : List Bool) : ty_g l ≤ l.length := by
  induction l with
  | nil => exact Nat.le_refl _
  | cons b l ih => cases b <;> simp only [ty_gf, ty_gt, List.length_cons] <;> omega
/-- the end of p{s} -/
def ty_s (e s : Nat) : Nat := if e = 3 then s else e
theorem ty_s3 (s : Nat) : ty_s 3 s = s := rfl
theorem ty_sn {e : Nat} (h : e ≠ 3) (s : Nat) : ty_s e s = e := if_neg h
/-- p{s} on codes -/
def ty_b : Nat → Nat → Nat → Nat
  | 0, p, _ => p
  | n + 1, p, s => if p < 8 then ty_s p s else p % 8 + 8 * ty_b n (p / 8) s
theorem ty_sb : ∀ (n : Nat) (l : List Bool) (e s : Nat), 1 ≤ e → e ≤ 3 → l.length < n → ty_b n (ty_e l e) s = ty_e l (ty_s e s) := by
  intro n
  induction n with
  | zero => intro l e s h1 h3 h; omega
  | succ n ih =>
    intro l e s h1 h3 h
    cases l with
    | nil => rw [ty_en, ty_en]; exact if_pos (by omega)
    | cons b l =>
      rw [List.length_cons] at h
      have hb := ty_h45 b
      have he : 1 ≤ ty_e l e := by
        cases l with
        | nil => exact h1
        | cons c l => rw [ty_ec]; have := ty_h45 c; omega
      have e1 : ty_b (n + 1) (ty_e (b :: l) e) s = (ty_e (b :: l) e) % 8 + 8 * ty_b n (ty_e (b :: l) e / 8) s := if_neg (by rw [ty_ec]; omega)
      rw [e1, ty_ec, ty_ec, show (ty_h b + 8 * ty_e l e) % 8 = ty_h b by omega, show (ty_h b + 8 * ty_e l e) / 8 = ty_e l e by omega, ih l e s h1 h3 (by omega)]
/-- a type of at most k + 1 symbols -/
def ty_T (k : Nat) (t : Int32) : Prop := ∃ (l : List Bool) (e : Nat), 1 ≤ e ∧ e ≤ 3 ∧ l.length ≤ k ∧ t = nI (ty_e l e)
theorem ty_r8 {a : Nat} (h : a < 2 ^ 31) : nI a - nI a / 8 * 8 = nI (a % 8) := pk_rem (d := 8) h (by omega) (by omega)
theorem ty_d8 {a : Nat} (h : a < 2 ^ 31) : nI a / 8 = nI (a / 8) := pk_div (d := 8) h (by omega) (by omega)
theorem ty_rK {a : Nat} (h : a < 2 ^ 31) : nI a - nI a / 2097152 * 2097152 = nI (a % 2097152) := pk_rem (d := 2097152) h (by omega) (by omega)
theorem ty_dK {a : Nat} (h : a < 2 ^ 31) : nI a / 2097152 = nI (a / 2097152) := pk_div (d := 2097152) h (by omega) (by omega)
theorem ty_8 : ¬ (8 : Int32) = 0 := by decide
theorem ty_K : ¬ (2097152 : Int32) = 0 := by decide
theorem ty_cr {b : Bool} {l : List Bool} {e : Nat} (h : ty_e (b :: l) e < 2 ^ 31) : nI (ty_e (b :: l) e) - nI (ty_e (b :: l) e) / 8 * 8 = nI (ty_h b) := by
  rw [ty_r8 h, ty_ec]
  have := ty_h45 b
  exact congrArg nI (by omega)
theorem ty_cd {b : Bool} {l : List Bool} {e : Nat} (h : ty_e (b :: l) e < 2 ^ 31) : nI (ty_e (b :: l) e) / 8 = nI (ty_e l e) := by
  rw [ty_d8 h, ty_ec]
  have := ty_h45 b
  exact congrArg nI (by omega)
theorem ty_c4 (b : Bool) (l : List Bool) (e : Nat) : 4 ≤ ty_e (b :: l) e := by
  rw [ty_ec]; have := ty_h45 b; omega
theorem ty_c1 {l : List Bool} {e : Nat} (h : 1 ≤ e) : 1 ≤ ty_e l e := by
  cases l with
  | nil => exact h
  | cons b l => have := ty_c4 b l e; omega
end
section
/-! 03: the small walks over types, X and Y -/
theorem tx_i {P : SX → Prop} (h : ∀ (fDL fCL fPL fNC fND fCK fED fEP fH fO fHP fNK fRC fTD fTT : Int32) (fAX fAY : Int64) (fRS : Int32) (fLV : Int64) (fLT fDP fEN : Int32) (fAN : Int64) (aSup aCpx aCpy aCr aIns aCls aHd aCtx aPx aPy aR aSz aWd aTk aTn aTt aTj aTs aFl aEl aOt aOk aKd aKt aCal aFd aFt aFc aFp aFh : Nat → Int32) (aFx aFy aVl : Nat → Int64), P (fDL, fCL, fPL, fNC, fND, fCK, fED, fEP, fH, fO, fHP, fNK, fRC, fTD, fTT, fAX, fAY, fRS, fLV, fLT, fDP, fEN, fAN, aSup, aCpx, aCpy, aCr, aIns, aCls, aHd, aCtx, aPx, aPy, aR, aSz, aWd, aTk, aTn, aTt, aTj, aTs, aFl, aEl, aOt, aOk, aKd, aKt, aCal, aFd, aFt, aFc, aFp, aFh, aFx, aFy, aVl)) (u : SX) : P u := h u.1 u.2.1 u.2.2.1 u.2.2.2.1 u.2.2.2.2.1 u.2.2.2.2.2.1 u.2.2.2.2.2.2.1 u.2.2.2.2.2.2.2.1 u.2.2.2.2.2.2.2.2.1 u.2.2.2.2.2.2.2.2.2.1 u.2.2.2.2.2.2.2.2.2.2.1 u.2.2.2.2.2.2.2.2.2.2.2.1 u.2.2.2.2.2.2.2.2.2.2.2.2.1 u.2.2.2.2.2.2.2.2.2.2.2.2.2.1 u.2.2.2.2.2.2.2.2.2.2.2.2.2.2.1 u.2.2.2.2.2.2.2.2.2.2.2.2.2.2.2.1 u.2.2.2.2.2.2.2.2.2.2.2.2.2.2.2.2.1 u.2.2.2.2.2.2.2.2.2.2.2.2.2.2.2.2.2.1 u.2.2.2.2.2.2.2.2.2.2.2.2.2.2.2.2.2.2.1 u.2.2.2.2.2.2.2.2.2.2.2.2.2.2.2.2.2.2.2.1 u.2.2.2.2.2.2.2.2.2.2.2.2.2.2.2.2.2.2.2.2.1 u.2.2.2.2.2.2.2.2.2.2.2.2.2.2.2.2.2.2.2.2.2.1 u.2.2.2.2.2.2.2.2.2.2.2.2.2.2.2.2.2.2.2.2.2.2.1 u.2.2.2.2.2.2.2.2.2.2.2.2.2.2.2.2.2.2.2.2.2.2.2.1 u.2.2.2.2.2.2.2.2.2.2.2.2.2.2.2.2.2.2.2.2.2.2.2.2.1 u.2.2.2.2.2.2.2.2.2.2.2.2.2.2.2.2.2.2.2.2.2.2.2.2.2.1 u.2.2.2.2.2.2.2.2.2.2.2.2.2.2.2.2.2.2.2.2.2.2.2.2.2.2.1 u.2.2.2.2.2.2.2.2.2.2.2.2.2.2.2.2.2.2.2.2.2.2.2.2.2.2.2.1 u.2.2.2.2.2.2.2.2.2.2.2.2.2.2.2.2.2.2.2.2.2.2.2.2.2.2.2.2.1 u.2.2.2.2.2.2.2.2.2.2.2.2.2.2.2.2.2.2.2.2.2.2.2.2.2.2.2.2.2.1 u.2.2.2.2.2.2.2.2.2.2.2.2.2.2.2.2.2.2.2.2.2.2.2.2.2.2.2.2.2.2.1 u.2.2.2.2.2.2.2.2.2.2.2.2.2.2.2.2.2.2.2.2.2.2.2.2.2.2.2.2.2.2.2.1 u.2.2.2.2.2.2.2.2.2.2.2.2.2.2.2.2.2.2.2.2.2.2.2.2.2.2.2.2.2.2.2.2.1 u.2.2.2.2.2.2.2.2.2.2.2.2.2.2.2.2.2.2.2.2.2.2.2.2.2.2.2.2.2.2.2.2.2.1 u.2.2.2.2.2.2.2.2.2.2.2.2.2.2.2.2.2.2.2.2.2.2.2.2.2.2.2.2.2.2.2.2.2.2.1 u.2.2.2.2.2.2.2.2.2.2.2.2.2.2.2.2.2.2.2.2.2.2.2.2.2.2.2.2.2.2.2.2.2.2.2.1 u.2.2.2.2.2.2.2.2.2.2.2.2.2.2.2.2.2.2.2.2.2.2.2.2.2.2.2.2.2.2.2.2.2.2.2.2.1 u.2.2.2.2.2.2.2.2.2.2.2.2.2.2.2.2.2.2.2.2.2.2.2.2.2.2.2.2.2.2.2.2.2.2.2.2.2.1 u.2.2.2.2.2.2.2.2.2.2.2.2.2.2.2.2.2.2.2.2.2.2.2.2.2.2.2.2.2.2.2.2.2.2.2.2.2.2.1 u.2.2.2.2.2.2.2.2.2.2.2.2.2.2.2.2.2.2.2.2.2.2.2.2.2.2.2.2.2.2.2.2.2.2.2.2.2.2.2.1 u.2.2.2.2.2.2.2.2.2.2.2.2.2.2.2.2.2.2.2.2.2.2.2.2.2.2.2.2.2.2.2.2.2.2.2.2.2.2.2.2.1 u.2.2.2.2.2.2.2.2.2.2.2.2.2.2.2.2.2.2.2.2.2.2.2.2.2.2.2.2.2.2.2.2.2.2.2.2.2.2.2.2.2.1 u.2.2.2.2.2.2.2.2.2.2.2.2.2.2.2.2.2.2.2.2.2.2.2.2.2.2.2.2.2.2.2.2.2.2.2.2.2.2.2.2.2.2.1 u.2.2.2.2.2.2.2.2.2.2.2.2.2.2.2.2.2.2.2.2.2.2.2.2.2.2.2.2.2.2.2.2.2.2.2.2.2.2.2.2.2.2.2.1 u.2.2.2.2.2.2.2.2.2.2.2.2.2.2.2.2.2.2.2.2.2.2.2.2.2.2.2.2.2.2.2.2.2.2.2.2.2.2.2.2.2.2.2.2.1 u.2.2.2.2.2.2.2.2.2.2.2.2.2.2.2.2.2.2.2.2.2.2.2.2.2.2.2.2.2.2.2.2.2.2.2.2.2.2.2.2.2.2.2.2.2.1 u.2.2.2.2.2.2.2.2.2.2.2.2.2.2.2.2.2.2.2.2.2.2.2.2.2.2.2.2.2.2.2.2.2.2.2.2.2.2.2.2.2.2.2.2.2.2.1 u.2.2.2.2.2.2.2.2.2.2.2.2.2.2.2.2.2.2.2.2.2.2.2.2.2.2.2.2.2.2.2.2.2.2.2.2.2.2.2.2.2.2.2.2.2.2.2.1 u.2.2.2.2.2.2.2.2.2.2.2.2.2.2.2.2.2.2.2.2.2.2.2.2.2.2.2.2.2.2.2.2.2.2.2.2.2.2.2.2.2.2.2.2.2.2.2.2.1 u.2.2.2.2.2.2.2.2.2.2.2.2.2.2.2.2.2.2.2.2.2.2.2.2.2.2.2.2.2.2.2.2.2.2.2.2.2.2.2.2.2.2.2.2.2.2.2.2.2.1 u.2.2.2.2.2.2.2.2.2.2.2.2.2.2.2.2.2.2.2.2.2.2.2.2.2.2.2.2.2.2.2.2.2.2.2.2.2.2.2.2.2.2.2.2.2.2.2.2.2.2.1 u.2.2.2.2.2.2.2.2.2.2.2.2.2.2.2.2.2.2.2.2.2.2.2.2.2.2.2.2.2.2.2.2.2.2.2.2.2.2.2.2.2.2.2.2.2.2.2.2.2.2.2.1 u.2.2.2.2.2.2.2.2.2.2.2.2.2.2.2.2.2.2.2.2.2.2.2.2.2.2.2.2.2.2.2.2.2.2.2.2.2.2.2.2.2.2.2.2.2.2.2.2.2.2.2.2.1 u.2.2.2.2.2.2.2.2.2.2.2.2.2.2.2.2.2.2.2.2.2.2.2.2.2.2.2.2.2.2.2.2.2.2.2.2.2.2.2.2.2.2.2.2.2.2.2.2.2.2.2.2.2.1 u.2.2.2.2.2.2.2.2.2.2.2.2.2.2.2.2.2.2.2.2.2.2.2.2.2.2.2.2.2.2.2.2.2.2.2.2.2.2.2.2.2.2.2.2.2.2.2.2.2.2.2.2.2.2.1 u.2.2.2.2.2.2.2.2.2.2.2.2.2.2.2.2.2.2.2.2.2.2.2.2.2.2.2.2.2.2.2.2.2.2.2.2.2.2.2.2.2.2.2.2.2.2.2.2.2.2.2.2.2.2.2
theorem tx_j {P : SY → Prop} (h : ∀ (fDL fCL fPL fNC fND fCK fED fEP yAt fH fO : Int32) (fAX fAY fLV : Int64) (fRS fLT ySp yDp yEn fNK yRk : Int32) (aSup aCpx aCpy aCr aPx aPy aR aCtx aCls aHd aSz yWd aTk aTn aTt aTs aFl aOt : Nat → Int32) (yVl yFx yFy : Nat → Int64) (yFk yFp yKl : Nat → Int32), P (fDL, fCL, fPL, fNC, fND, fCK, fED, fEP, yAt, fH, fO, fAX, fAY, fLV, fRS, fLT, ySp, yDp, yEn, fNK, yRk, aSup, aCpx, aCpy, aCr, aPx, aPy, aR, aCtx, aCls, aHd, aSz, yWd, aTk, aTn, aTt, aTs, aFl, aOt, yVl, yFx, yFy, yFk, yFp, yKl)) (v : SY) : P v := h v.1 v.2.1 v.2.2.1 v.2.2.2.1 v.2.2.2.2.1 v.2.2.2.2.2.1 v.2.2.2.2.2.2.1 v.2.2.2.2.2.2.2.1 v.2.2.2.2.2.2.2.2.1 v.2.2.2.2.2.2.2.2.2.1 v.2.2.2.2.2.2.2.2.2.2.1 v.2.2.2.2.2.2.2.2.2.2.2.1 v.2.2.2.2.2.2.2.2.2.2.2.2.1 v.2.2.2.2.2.2.2.2.2.2.2.2.2.1 v.2.2.2.2.2.2.2.2.2.2.2.2.2.2.1 v.2.2.2.2.2.2.2.2.2.2.2.2.2.2.2.1 v.2.2.2.2.2.2.2.2.2.2.2.2.2.2.2.2.1 v.2.2.2.2.2.2.2.2.2.2.2.2.2.2.2.2.2.1 v.2.2.2.2.2.2.2.2.2.2.2.2.2.2.2.2.2.2.1 v.2.2.2.2.2.2.2.2.2.2.2.2.2.2.2.2.2.2.2.1 v.2.2.2.2.2.2.2.2.2.2.2.2.2.2.2.2.2.2.2.2.1 v.2.2.2.2.2.2.2.2.2.2.2.2.2.2.2.2.2.2.2.2.2.1 v.2.2.2.2.2.2.2.2.2.2.2.2.2.2.2.2.2.2.2.2.2.2.1 v.2.2.2.2.2.2.2.2.2.2.2.2.2.2.2.2.2.2.2.2.2.2.2.1 v.2.2.2.2.2.2.2.2.2.2.2.2.2.2.2.2.2.2.2.2.2.2.2.2.1 v.2.2.2.2.2.2.2.2.2.2.2.2.2.2.2.2.2.2.2.2.2.2.2.2.2.1 v.2.2.2.2.2.2.2.2.2.2.2.2.2.2.2.2.2.2.2.2.2.2.2.2.2.2.1 v.2.2.2.2.2.2.2.2.2.2.2.2.2.2.2.2.2.2.2.2.2.2.2.2.2.2.2.1 v.2.2.2.2.2.2.2.2.2.2.2.2.2.2.2.2.2.2.2.2.2.2.2.2.2.2.2.2.1 v.2.2.2.2.2.2.2.2.2.2.2.2.2.2.2.2.2.2.2.2.2.2.2.2.2.2.2.2.2.1 v.2.2.2.2.2.2.2.2.2.2.2.2.2.2.2.2.2.2.2.2.2.2.2.2.2.2.2.2.2.2.1 v.2.2.2.2.2.2.2.2.2.2.2.2.2.2.2.2.2.2.2.2.2.2.2.2.2.2.2.2.2.2.2.1 v.2.2.2.2.2.2.2.2.2.2.2.2.2.2.2.2.2.2.2.2.2.2.2.2.2.2.2.2.2.2.2.2.1 v.2.2.2.2.2.2.2.2.2.2.2.2.2.2.2.2.2.2.2.2.2.2.2.2.2.2.2.2.2.2.2.2.2.1 v.2.2.2.2.2.2.2.2.2.2.2.2.2.2.2.2.2.2.2.2.2.2.2.2.2.2.2.2.2.2.2.2.2.2.1 v.2.2.2.2.2.2.2.2.2.2.2.2.2.2.2.2.2.2.2.2.2.2.2.2.2.2.2.2.2.2.2.2.2.2.2.1 v.2.2.2.2.2.2.2.2.2.2.2.2.2.2.2.2.2.2.2.2.2.2.2.2.2.2.2.2.2.2.2.2.2.2.2.2.1 v.2.2.2.2.2.2.2.2.2.2.2.2.2.2.2.2.2.2.2.2.2.2.2.2.2.2.2.2.2.2.2.2.2.2.2.2.2.1 v.2.2.2.2.2.2.2.2.2.2.2.2.2.2.2.2.2.2.2.2.2.2.2.2.2.2.2.2.2.2.2.2.2.2.2.2.2.2.1 v.2.2.2.2.2.2.2.2.2.2.2.2.2.2.2.2.2.2.2.2.2.2.2.2.2.2.2.2.2.2.2.2.2.2.2.2.2.2.2.1 v.2.2.2.2.2.2.2.2.2.2.2.2.2.2.2.2.2.2.2.2.2.2.2.2.2.2.2.2.2.2.2.2.2.2.2.2.2.2.2.2.1 v.2.2.2.2.2.2.2.2.2.2.2.2.2.2.2.2.2.2.2.2.2.2.2.2.2.2.2.2.2.2.2.2.2.2.2.2.2.2.2.2.2.1 v.2.2.2.2.2.2.2.2.2.2.2.2.2.2.2.2.2.2.2.2.2.2.2.2.2.2.2.2.2.2.2.2.2.2.2.2.2.2.2.2.2.2.1 v.2.2.2.2.2.2.2.2.2.2.2.2.2.2.2.2.2.2.2.2.2.2.2.2.2.2.2.2.2.2.2.2.2.2.2.2.2.2.2.2.2.2.2.1 v.2.2.2.2.2.2.2.2.2.2.2.2.2.2.2.2.2.2.2.2.2.2.2.2.2.2.2.2.2.2.2.2.2.2.2.2.2.2.2.2.2.2.2.2
theorem tx_up {a r x : Nat} (h : a % 8 = r) (q : nI (a / 8) = nI x) : nI a = nI (r + 8 * x) := by
  have e1 : nI a = nI (r + 8 * (a / 8)) := congrArg nI (by omega)
  rw [e1, ← nI_add, ← pk_mul, q, pk_mul, nI_add]
theorem tx_pos (x : Int32) : (¬ 0 < x ∧ x ≤ 0 ∧ x < 1) ∨ ∃ a : Nat, 1 ≤ a ∧ a < 2 ^ 31 ∧ x = nI a := by
  have z0 : (0 : Int32).toInt = 0 := by decide
  have z1 : (1 : Int32).toInt = 1 := by decide
  by_cases h : x < 0
  · left
    rw [Int32.lt_iff_toInt_lt, Int32.lt_iff_toInt_lt, Int32.le_iff_toInt_le] at *
    omega
  · obtain ⟨a, ha, rfl⟩ := nI_of h
    by_cases h0 : a = 0
    · subst h0; left; decide
    · right; exact ⟨a, by omega, ha, rfl⟩
theorem tx_ln {l : List Bool} {b : Bool} : (b :: l).length = l.length + 1 := rfl
theorem tx_shl {n k : Nat} (hk : k < 32) (h : n * 2 ^ k < 2 ^ 32) : nI n <<< (nI k &&& 31) = nI (n * 2 ^ k) := pk_shlN (nI k &&& 31) k (s_l k hk) h
section
variable {fDL fCL fPL fNC fND fCK fED fEP fH fO fHP fNK fRC fTD fTT : Int32} {fAX fAY : Int64} {fRS : Int32} {fLV : Int64} {fLT fDP fEN : Int32} {fAN : Int64} {aSup aCpx aCpy aCr aIns aCls aHd aCtx aPx aPy aR aSz aWd aTk aTn aTt aTj aTs aFl aEl aOt aOk aKd aKt aCal aFd aFt aFc aFp aFh : Nat → Int32} {aFx aFy aVl : Nat → Int64} {post : Int32 → Prop}
theorem tx_s1 : ∀ (l : List Bool) (e k n : Nat), 1 ≤ e → e ≤ 3 → 1 ≤ k → l.length + k ≤ 7 → l.length < n → post (nI (l.length + k)) → wX_symbols_4 post fDL fCL fPL fNC fND fCK fED fEP fH fO fHP fNK fRC fTD fTT fAX fAY fRS fLV fLT fDP fEN fAN aSup aCpx aCpy aCr aIns aCls aHd aCtx aPx aPy aR aSz aWd aTk aTn aTt aTj aTs aFl aEl aOt aOk aKd aKt aCal aFd aFt aFc aFp aFh aFx aFy aVl n (nI (ty_e l e)) (nI k) := by
  intro l
  induction l with
  | nil =>
    intro e k n h1 h3 k1 hk hn hp
    obtain ⟨m, rfl⟩ : ∃ m, n = m + 1 := ⟨n - 1, by omega⟩
    rw [List.length_nil, Nat.zero_add] at hk hp
    exact br_f (nI_nlt (a := 7) (b := k) hk (by decide)) (br_t (nI_lt (a := 0) (b := e) (by omega) (by omega)) (br_f (nI_nlt (a := 3) (b := e) h3 (by decide)) hp))
  | cons b l ih =>
    intro e k n h1 h3 k1 hk hn hp
    obtain ⟨m, rfl⟩ : ∃ m, n = m + 1 := ⟨n - 1, by omega⟩
    rw [tx_ln] at hk hn hp
    have hb : ty_e (b :: l) e < 2 ^ 31 := by
      have := ty_e21 (l := b :: l) (e := e) (by rw [tx_ln]; omega) (by omega)
      omega
    have h4 := ty_c4 b l e
    have K := ih e (k + 1) m h1 h3 (by omega) (by omega) (by omega) (by rw [show l.length + (k + 1) = l.length + 1 + k by omega]; exact hp)
    refine br_f (nI_nlt (a := 7) (b := k) (by omega) (by decide)) (br_t (nI_lt (a := 0) (by omega) hb) (br_t (nI_lt (a := 3) (by omega) hb) ⟨ty_8, nm_r (ty_cr hb) ?_⟩))
    cases b
    · exact br_t rfl ⟨ty_8, nm_r (ty_cd hb) (nm_r (nI_1 k) K)⟩
    · exact br_f (by decide) (br_t rfl ⟨ty_8, nm_r (ty_cd hb) (nm_r (nI_1 k) K)⟩)
theorem tx_s0 : ∀ (n k : Nat) (x : Int32), (¬ ∃ (l : List Bool) (e : Nat), 1 ≤ e ∧ e ≤ 3 ∧ l.length + k ≤ 7 ∧ x = nI (ty_e l e)) → k ≤ 8 → 8 - k < n → post 0 → wX_symbols_4 post fDL fCL fPL fNC fND fCK fED fEP fH fO fHP fNK fRC fTD fTT fAX fAY fRS fLV fLT fDP fEN fAN aSup aCpx aCpy aCr aIns aCls aHd aCtx aPx aPy aR aSz aWd aTk aTn aTt aTj aTs aFl aEl aOt aOk aKd aKt aCal aFd aFt aFc aFp aFh aFx aFy aVl n x (nI k) := by
  intro n
  induction n with
  | zero => intro k x hx hk hn hp; omega
  | succ n ih =>
    intro k x hx hk hn hp
    by_cases h8 : k = 8
    · subst h8
      exact br_t (show (7 : Int32) < nI 8 by decide) hp
    · refine br_f (nI_nlt (a := 7) (b := k) (by omega) (by decide)) ?_
      rcases tx_pos x with h0 | ⟨a, h1, ha, rfl⟩
      · exact br_f h0.1 hp
      · refine br_t (nI_lt (a := 0) (by omega) ha) ?_
        by_cases h3 : 3 < a
        · refine br_t (nI_lt (a := 3) (by omega) ha) ⟨ty_8, nm_r (ty_r8 ha) ?_⟩
          by_cases h4 : a % 8 = 4
          · refine br_t (by rw [h4]; rfl) ⟨ty_8, nm_r (ty_d8 ha) (nm_r (nI_1 k) (ih (k + 1) _ ?_ (by omega) (by omega) hp))⟩
            rintro ⟨l, e, q1, q2, q3, q4⟩
            exact hx ⟨false :: l, e, q1, q2, by rw [tx_ln]; omega, tx_up h4 q4⟩
          · refine br_f (fun z => h4 ((nI_eq (b := 4) (by omega) (by omega)).mp z)) ?_
            by_cases h5 : a % 8 = 5
            · refine br_t (by rw [h5]; rfl) ⟨ty_8, nm_r (ty_d8 ha) (nm_r (nI_1 k) (ih (k + 1) _ ?_ (by omega) (by omega) hp))⟩
              rintro ⟨l, e, q1, q2, q3, q4⟩
              exact hx ⟨true :: l, e, q1, q2, by rw [tx_ln]; omega, tx_up h5 q4⟩
            · exact br_f (fun z => h5 ((nI_eq (b := 5) (by omega) (by omega)).mp z)) hp
        · exact absurd ⟨[], a, h1, by omega, by rw [List.length_nil]; omega, rfl⟩ hx
theorem tx_v1 : ∀ (l : List Bool) (e k n : Nat), 1 ≤ e → e ≤ 3 → l.length + k ≤ 6 → l.length < n → (e = 3 → post 1) → (e ≠ 3 → post 0) → wX_endsInVar_4 post fDL fCL fPL fNC fND fCK fED fEP fH fO fHP fNK fRC fTD fTT fAX fAY fRS fLV fLT fDP fEN fAN aSup aCpx aCpy aCr aIns aCls aHd aCtx aPx aPy aR aSz aWd aTk aTn aTt aTj aTs aFl aEl aOt aOk aKd aKt aCal aFd aFt aFc aFp aFh aFx aFy aVl n (nI (ty_e l e)) (nI k) := by
  intro l
  induction l with
  | nil =>
    intro e k n h1 h3 hk hn p1 p0
    obtain ⟨m, rfl⟩ : ∃ m, n = m + 1 := ⟨n - 1, by omega⟩
    rw [List.length_nil, Nat.zero_add] at hk
    exact br_f (nI_ge (a := k) (b := 7) (by omega) (by decide)) (br_f (nI_ge (a := e) (b := 8) (by omega) (by decide)) (br_c (fun z => p1 ((nI_eq (b := 3) (by omega) (by omega)).mp z)) (fun z => p0 (fun y => z (by rw [ty_en, y]; rfl)))))
  | cons b l ih =>
    intro e k n h1 h3 hk hn p1 p0
    obtain ⟨m, rfl⟩ : ∃ m, n = m + 1 := ⟨n - 1, by omega⟩
    rw [tx_ln] at hk hn
    have hb : ty_e (b :: l) e < 2 ^ 31 := by
      have := ty_e21 (l := b :: l) (e := e) (by rw [tx_ln]; omega) (by omega)
      omega
    have h8 : 8 ≤ ty_e (b :: l) e := by
      rw [ty_ec]
      have := ty_c1 (l := l) h1
      omega
    exact br_f (nI_ge (a := k) (b := 7) (by omega) (by decide)) (br_t (nI_le (a := 8) h8 hb) ⟨ty_8, nm_r (ty_cd hb) (nm_r (nI_1 k) (ih e (k + 1) m h1 h3 (by omega) (by omega) p1 p0))⟩)
theorem tx_u1 {P : Int32} {s : Nat} : ∀ (l : List Bool) (k A n : Nat), l.length + k ≤ 6 → l.length < n → A + ty_e l s * 8 ^ k < 2 ^ 31 → post (nI (A + ty_e l s * 8 ^ k)) → wX_subst_11 post P (nI s) fDL fCL fPL fNC fND fCK fED fEP fH fO fHP fNK fRC fTD fTT fAX fAY fRS fLV fLT fDP fEN fAN aSup aCpx aCpy aCr aIns aCls aHd aCtx aPx aPy aR aSz aWd aTk aTn aTt aTj aTs aFl aEl aOt aOk aKd aKt aCal aFd aFt aFc aFp aFh aFx aFy aVl n (nI (ty_e l 3)) (nI A) (nI (3 * k)) (nI k) := by
  intro l
  induction l with
  | nil =>
    intro k A n hk hn hA hp
    obtain ⟨m, rfl⟩ : ∃ m, n = m + 1 := ⟨n - 1, by omega⟩
    rw [List.length_nil, Nat.zero_add] at hk
    rw [ty_en] at hA hp
    have e8 : 8 ^ k = 2 ^ (3 * k) := by rw [Nat.pow_mul]
    rw [e8] at hA hp
    refine br_f (nI_ge (a := k) (b := 7) (by omega) (by decide)) ⟨ty_8, nm_r (ty_r8 (a := 3) (by decide)) (br_t rfl ?_)⟩
    rw [tx_shl (by omega) (by omega), nI_add]
    exact hp
  | cons b l ih =>
    intro k A n hk hn hA hp
    obtain ⟨m, rfl⟩ : ∃ m, n = m + 1 := ⟨n - 1, by omega⟩
    rw [tx_ln] at hk hn
    have hb : ty_e (b :: l) 3 < 2 ^ 31 := by
      have := ty_e21 (l := b :: l) (e := 3) (by rw [tx_ln]; omega) (by omega)
      omega
    have h45 := ty_h45 b
    have e8 : 8 ^ k = 2 ^ (3 * k) := by rw [Nat.pow_mul]
    have b8 : 8 ^ k ≤ 8 ^ 6 := Nat.pow_le_pow_right (by decide) (by omega)
    have b9 : (8 : Nat) ^ 6 = 262144 := by decide
    have hh : ty_h b * 8 ^ k ≤ 5 * 8 ^ k := Nat.mul_le_mul_right _ (by omega)
    have eq : A + ty_e (b :: l) s * 8 ^ k = A + ty_h b * 8 ^ k + ty_e l s * 8 ^ (k + 1) := by
      rw [ty_ec, Nat.add_mul, Nat.pow_succ, Nat.mul_comm (8 ^ k) 8, ← Nat.mul_assoc, Nat.mul_comm (ty_e l s) 8, Nat.add_assoc]
    rw [eq] at hA hp
    have K := ih (k + 1) (A + ty_h b * 8 ^ k) m (by omega) (by omega) hA hp
    have e1 : nI A + (nI (ty_h b) <<< (nI (3 * k) &&& 31)) = nI (A + ty_h b * 8 ^ k) := by
      rw [tx_shl (by omega) (by rw [← e8]; omega), nI_add, ← e8]
    refine br_f (nI_ge (a := k) (b := 7) (by omega) (by decide)) ⟨ty_8, nm_r (ty_cr hb) (br_f (fun z => ?_) (br_t (nI_le (a := 4) (by omega) (by omega)) (nm_r e1 (nm_r (nI_add (3 * k) 3) ⟨ty_8, nm_r (ty_cd hb) (nm_r (nI_1 k) K)⟩))))⟩
    have := (nI_eq (b := 3) (by omega) (by omega)).mp z
    omega
theorem tx_u2 {P s : Int32} {e : Nat} (h1 : 1 ≤ e) (h2 : e ≤ 2) : ∀ (l : List Bool) (k n : Nat) (x4 x5 : Int32), l.length + k ≤ 6 → l.length < n → post P → wX_subst_11 post P s fDL fCL fPL fNC fND fCK fED fEP fH fO fHP fNK fRC fTD fTT fAX fAY fRS fLV fLT fDP fEN fAN aSup aCpx aCpy aCr aIns aCls aHd aCtx aPx aPy aR aSz aWd aTk aTn aTt aTj aTs aFl aEl aOt aOk aKd aKt aCal aFd aFt aFc aFp aFh aFx aFy aVl n (nI (ty_e l e)) x4 x5 (nI k) := by
  intro l
  induction l with
  | nil =>
    intro k n x4 x5 hk hn hp
    obtain ⟨m, rfl⟩ : ∃ m, n = m + 1 := ⟨n - 1, by omega⟩
    rw [List.length_nil, Nat.zero_add] at hk
    refine br_f (nI_ge (a := k) (b := 7) (by omega) (by decide)) ⟨ty_8, nm_r (e' := nI e) (by rw [ty_en, ty_r8 (by omega), Nat.mod_eq_of_lt (by omega)]) (br_f (fun z => ?_) (br_f (nI_ge (a := e) (b := 4) (by omega) (by decide)) hp))⟩
    have := (nI_eq (b := 3) (by omega) (by omega)).mp z
    omega
  | cons b l ih =>
    intro k n x4 x5 hk hn hp
    obtain ⟨m, rfl⟩ : ∃ m, n = m + 1 := ⟨n - 1, by omega⟩
    rw [tx_ln] at hk hn
    have hb : ty_e (b :: l) e < 2 ^ 31 := by
      have := ty_e21 (l := b :: l) (e := e) (by rw [tx_ln]; omega) (by omega)
      omega
    have h45 := ty_h45 b
    refine br_f (nI_ge (a := k) (b := 7) (by omega) (by decide)) ⟨ty_8, nm_r (ty_cr hb) (br_f (fun z => ?_) (br_t (nI_le (a := 4) (by omega) (by omega)) (nm_e (nm_e ⟨ty_8, nm_r (ty_cd hb) (nm_r (nI_1 k) (ih (k + 1) m _ _ (by omega) (by omega) hp))⟩))))⟩
    have := (nI_eq (b := 3) (by omega) (by omega)).mp z
    omega
end
section
variable {post : Int32 → Prop}
theorem tx_symT (u : SX) {l : List Bool} {e : Nat} (h1 : 1 ≤ e) (h3 : e ≤ 3) (hl : l.length ≤ 6) (hp : post (nI (l.length + 1))) : wpX_symbols post u (nI (ty_e l e)) :=
  tx_i (P := fun u => wpX_symbols post u (nI (ty_e l e))) (fun fDL fCL fPL fNC fND fCK fED fEP fH fO fHP fNK fRC fTD fTT fAX fAY fRS fLV fLT fDP fEN fAN aSup aCpx aCpy aCr aIns aCls aHd aCtx aPx aPy aR aSz aWd aTk aTn aTt aTj aTs aFl aEl aOt aOk aKd aKt aCal aFd aFt aFc aFp aFh aFx aFy aVl => Exists.intro 8 (tx_s1 l e 1 8 h1 h3 (by omega) (by omega) (by omega) hp)) u
theorem tx_symN (u : SX) {t : Int32} (h : ¬ ty_T 6 t) (hp : post 0) : wpX_symbols post u t :=
  tx_i (P := fun u => wpX_symbols post u t) (fun fDL fCL fPL fNC fND fCK fED fEP fH fO fHP fNK fRC fTD fTT fAX fAY fRS fLV fLT fDP fEN fAN aSup aCpx aCpy aCr aIns aCls aHd aCtx aPx aPy aR aSz aWd aTk aTn aTt aTj aTs aFl aEl aOt aOk aKd aKt aCal aFd aFt aFc aFp aFh aFx aFy aVl => Exists.intro 9 (tx_s0 9 1 t (fun ⟨l, e, a, b, c, d⟩ => h ⟨l, e, a, b, by omega, d⟩) (by omega) (by omega) hp)) u
theorem tx_var (u : SX) {l : List Bool} {e : Nat} (h1 : 1 ≤ e) (h3 : e ≤ 3) (hl : l.length ≤ 6) (p1 : e = 3 → post 1) (p0 : e ≠ 3 → post 0) : wpX_endsInVar post u (nI (ty_e l e)) :=
  tx_i (P := fun u => wpX_endsInVar post u (nI (ty_e l e))) (fun fDL fCL fPL fNC fND fCK fED fEP fH fO fHP fNK fRC fTD fTT fAX fAY fRS fLV fLT fDP fEN fAN aSup aCpx aCpy aCr aIns aCls aHd aCtx aPx aPy aR aSz aWd aTk aTn aTt aTj aTs aFl aEl aOt aOk aKd aKt aCal aFd aFt aFc aFp aFh aFx aFy aVl => Exists.intro 8 (tx_v1 l e 0 8 h1 h3 (by omega) (by omega) p1 p0)) u
theorem tx_sub (u : SX) {l : List Bool} {e s : Nat} (h1 : 1 ≤ e) (h3 : e ≤ 3) (hl : l.length ≤ 6) (hb : e = 3 → ty_e l s < 2 ^ 31) (hp : post (nI (ty_e l (ty_s e s)))) : wpX_subst post u (nI (ty_e l e)) (nI s) := by
  refine tx_i (P := fun u => wpX_subst post u (nI (ty_e l e)) (nI s)) (fun fDL fCL fPL fNC fND fCK fED fEP fH fO fHP fNK fRC fTD fTT fAX fAY fRS fLV fLT fDP fEN fAN aSup aCpx aCpy aCr aIns aCls aHd aCtx aPx aPy aR aSz aWd aTk aTn aTt aTj aTs aFl aEl aOt aOk aKd aKt aCal aFd aFt aFc aFp aFh aFx aFy aVl => Exists.intro 8 ?_) u
  by_cases h : e = 3
  · subst h
    rw [ty_s3] at hp
    exact tx_u1 l 0 0 8 (by omega) (by omega) (by rw [Nat.pow_zero, Nat.mul_one, Nat.zero_add]; exact hb rfl) (by rw [Nat.pow_zero, Nat.mul_one, Nat.zero_add]; exact hp)
  · rw [ty_sn h] at hp
    exact tx_u2 h1 (by omega) l 0 8 _ _ (by omega) (by omega) hp
end
def tx_E (k : Nat) (x : Int32) : Prop := ∃ (l : List Bool) (e : Nat), 1 ≤ e ∧ e ≤ 3 ∧ l.length + k ≤ 12 ∧ ty_e l e < 2 ^ 31 ∧ x = nI (ty_e l e)
section
variable {fDL fCL fPL fNC fND fCK fED fEP fH fO fHP fNK fRC fTD fTT : Int32} {fAX fAY : Int64} {fRS : Int32} {fLV : Int64} {fLT fDP fEN : Int32} {fAN : Int64} {aSup aCpx aCpy aCr aIns aCls aHd aCtx aPx aPy aR aSz aWd aTk aTn aTt aTj aTs aFl aEl aOt aOk aKd aKt aCal aFd aFt aFc aFp aFh : Nat → Int32} {aFx aFy aVl : Nat → Int64} {yAt ySp yDp yEn yRk : Int32} {yWd : Nat → Int32} {yVl yFx yFy : Nat → Int64} {yFk yFp yKl : Nat → Int32} {post : Int32 → Prop}
theorem tx_t1 : ∀ (n k : Nat) (x : Int32), k ≤ 13 → 13 - k < n → (∀ (l : List Bool) (e : Nat), 1 ≤ e → e ≤ 3 → l.length + k ≤ 12 → ty_e l e < 2 ^ 31 → x = nI (ty_e l e) → post (nI (l.length + k))) → (¬ tx_E k x → post 0) → wY_symbols_4 post fDL fCL fPL fNC fND fCK fED fEP yAt fH fO fAX fAY fLV fRS fLT ySp yDp yEn fNK yRk aSup aCpx aCpy aCr aPx aPy aR aCtx aCls aHd aSz yWd aTk aTn aTt aTs aFl aOt yVl yFx yFy yFk yFp yKl n x (nI k) := by
  intro n
  induction n with
  | zero => intro k x hk hn; omega
  | succ n ih =>
    intro k x hk hn hp h0
    by_cases h13 : k = 13
    · subst h13
      exact br_t (show (12 : Int32) < nI 13 by decide) (h0 (fun ⟨l, e, _, _, q, _⟩ => by omega))
    · refine br_f (nI_nlt (a := 12) (b := k) (by omega) (by decide)) ?_
      rcases tx_pos x with hz | ⟨a, h1, ha, rfl⟩
      · refine br_t hz.2.2 (br_t hz.2.1 (h0 ?_))
        rintro ⟨l, e, q1, q2, q3, q4, rfl⟩
        exact hz.1 (nI_lt (a := 0) (ty_c1 q1) q4)
      · refine br_f (nI_nlt (b := 1) h1 ha) ?_
        by_cases h3 : 3 < a
        · refine br_t (nI_lt (a := 3) (by omega) ha) (br_f (nI_nle h1 ha) ⟨ty_8, ?_⟩)
          have B : ∀ b : Bool, a % 8 = ty_h b → wY_symbols_4 post fDL fCL fPL fNC fND fCK fED fEP yAt fH fO fAX fAY fLV fRS fLT ySp yDp yEn fNK yRk aSup aCpx aCpy aCr aPx aPy aR aCtx aCls aHd aSz yWd aTk aTn aTt aTs aFl aOt yVl yFx yFy yFk yFp yKl n (nI (a / 8)) (nI (k + 1)) := by
            intro b hb
            refine ih (k + 1) _ (by omega) (by omega) ?_ ?_
            · intro l e q1 q2 q3 q4 q5
              have q6 : a / 8 = ty_e l e := (nI_eq (by omega) q4).mp q5
              have q7 : a = ty_e (b :: l) e := by rw [ty_ec]; omega
              have := hp (b :: l) e q1 q2 (by rw [tx_ln]; omega) (by omega) (congrArg nI q7)
              rw [tx_ln, show l.length + 1 + k = l.length + (k + 1) by omega] at this
              exact this
            · intro hx
              refine h0 ?_
              rintro ⟨l, e, q1, q2, q3, q4, q5⟩
              have q6 : a = ty_e l e := (nI_eq ha q4).mp q5
              cases l with
              | nil => rw [ty_en] at q6; omega
              | cons c l =>
                rw [ty_ec] at q6
                rw [tx_ln] at q3
                have := ty_h45 c
                exact hx ⟨l, e, q1, q2, by omega, by omega, congrArg nI (by omega)⟩
          rw [ty_r8 ha]
          by_cases h4 : a % 8 = 4
          · exact br_t (by rw [h4]; rfl) ⟨ty_8, nm_r (ty_d8 ha) (nm_r (nI_1 k) (B false h4))⟩
          · refine br_f (fun z => h4 ((nI_eq (b := 4) (by omega) (by omega)).mp z)) ⟨ty_8, ?_⟩
            by_cases h5 : a % 8 = 5
            · exact br_t (by rw [h5]; rfl) ⟨ty_8, nm_r (ty_d8 ha) (nm_r (nI_1 k) (B true h5))⟩
            · refine br_f (fun z => h5 ((nI_eq (b := 5) (by omega) (by omega)).mp z)) (h0 ?_)
              rintro ⟨l, e, q1, q2, q3, q4, q5⟩
              have q6 : a = ty_e l e := (nI_eq ha q4).mp q5
              cases l with
              | nil => rw [ty_en] at q6; omega
              | cons c l =>
                rw [ty_ec] at q6
                have := ty_h45 c
                omega
        · refine br_f (nI_nlt (a := 3) (b := a) (by omega) (by decide)) ?_
          have := hp [] a h1 (by omega) (by rw [List.length_nil]; omega) (by rw [ty_en]; exact ha) rfl
          rw [List.length_nil, Nat.zero_add] at this
          exact this
theorem tx_g1 : ∀ (l : List Bool) (e k n : Nat), 1 ≤ e → e ≤ 3 → l.length + k ≤ 11 → l.length < n → ty_e l e < 2 ^ 31 → (e = 3 → post 0) → (e ≠ 3 → post 1) → wY_ground_4 post fDL fCL fPL fNC fND fCK fED fEP yAt fH fO fAX fAY fLV fRS fLT ySp yDp yEn fNK yRk aSup aCpx aCpy aCr aPx aPy aR aCtx aCls aHd aSz yWd aTk aTn aTt aTs aFl aOt yVl yFx yFy yFk yFp yKl n (nI (ty_e l e)) (nI k) := by
  intro l
  induction l with
  | nil =>
    intro e k n h1 h3 hk hn hb p1 p0
    obtain ⟨m, rfl⟩ : ∃ m, n = m + 1 := ⟨n - 1, by omega⟩
    rw [List.length_nil, Nat.zero_add] at hk
    exact br_f (nI_ge (a := k) (b := 12) (by omega) (by decide)) (br_t (nI_le (a := e) (b := 3) h3 (by decide)) (br_c (fun z => p1 ((nI_eq (b := 3) (by omega) (by omega)).mp z)) (fun z => p0 (fun y => z (by rw [ty_en, y]; rfl)))))
  | cons b l ih =>
    intro e k n h1 h3 hk hn hb p1 p0
    obtain ⟨m, rfl⟩ : ∃ m, n = m + 1 := ⟨n - 1, by omega⟩
    rw [tx_ln] at hk hn
    have h4 := ty_c4 b l e
    have h5 : ty_e l e < 2 ^ 31 := by rw [ty_ec] at hb; omega
    exact br_f (nI_ge (a := k) (b := 12) (by omega) (by decide)) (br_f (nI_ge (b := ty_e (b :: l) e) (a := 3) (by omega) hb) ⟨ty_8, nm_r (ty_cd hb) (nm_r (nI_1 k) (ih e (k + 1) m h1 h3 (by omega) (by omega) h5 p1 p0))⟩)
theorem tx_w1 {P s : Int32} : ∀ (l : List Bool) (k n : Nat), l.length + k ≤ 6 → l.length < n → post (P + (s - 3) * nI (8 ^ (l.length + k))) → wY_subst_18 post P s fDL fCL fPL fNC fND fCK fED fEP yAt fH fO fAX fAY fLV fRS fLT ySp yDp yEn fNK yRk aSup aCpx aCpy aCr aPx aPy aR aCtx aCls aHd aSz yWd aTk aTn aTt aTs aFl aOt yVl yFx yFy yFk yFp yKl n (nI (8 ^ k)) (nI (ty_e l 3)) (nI k) := by
  intro l
  induction l with
  | nil =>
    intro k n hk hn hp
    obtain ⟨m, rfl⟩ : ∃ m, n = m + 1 := ⟨n - 1, by omega⟩
    rw [List.length_nil, Nat.zero_add] at hk hp
    exact br_f (nI_ge (a := k) (b := 7) (by omega) (by decide)) (br_t (nI_le (a := 3) (b := 3) (by decide) (by decide)) hp)
  | cons b l ih =>
    intro k n hk hn hp
    obtain ⟨m, rfl⟩ : ∃ m, n = m + 1 := ⟨n - 1, by omega⟩
    rw [tx_ln] at hk hn hp
    have hb : ty_e (b :: l) 3 < 2 ^ 31 := by
      have := ty_e21 (l := b :: l) (e := 3) (by rw [tx_ln]; omega) (by omega)
      omega
    have h4 := ty_c4 b l 3
    have e1 : nI (8 ^ k) * 8 = nI (8 ^ (k + 1)) := by rw [Nat.pow_succ]; exact pk_mul (8 ^ k) 8
    refine br_f (nI_ge (a := k) (b := 7) (by omega) (by decide)) (br_f (nI_ge (b := ty_e (b :: l) 3) (a := 3) (by omega) hb) ⟨ty_8, nm_r (ty_cd hb) (nm_r e1 (nm_r (nI_1 k) (ih (k + 1) m (by omega) (by omega) ?_)))⟩)
    rw [show l.length + (k + 1) = l.length + 1 + k by omega]
    exact hp
end
theorem tx_e8 (a b : Nat) : ∀ l : List Bool, ty_e l a + b * 8 ^ l.length = ty_e l b + a * 8 ^ l.length := by
  intro l
  induction l with
  | nil => rw [List.length_nil, Nat.pow_zero, Nat.mul_one, Nat.mul_one, ty_en, ty_en, Nat.add_comm]
  | cons c l ih =>
    rw [tx_ln, ty_ec, ty_ec, Nat.pow_succ, ← Nat.mul_assoc, ← Nat.mul_assoc]
    omega
theorem tx_y8 (l : List Bool) (s : Nat) : nI (ty_e l 3) + (nI s - 3) * nI (8 ^ l.length) = nI (ty_e l s) := by
  have h : nI (ty_e l 3) + nI s * nI (8 ^ l.length) = nI (ty_e l s) + 3 * nI (8 ^ l.length) := by
    have e3 : (3 : Int32) * nI (8 ^ l.length) = nI (3 * 8 ^ l.length) := pk_mul 3 _
    rw [e3, pk_mul, nI_add, nI_add, tx_e8]
  grind
section
variable {post : Int32 → Prop}
theorem tx_tyT (v : SY) {l : List Bool} {e : Nat} (h1 : 1 ≤ e) (h3 : e ≤ 3) (hl : l.length ≤ 6) (hp : post (nI (l.length + 1))) : wpY_symbols post v (nI (ty_e l e)) := by
  refine tx_j (P := fun v => wpY_symbols post v (nI (ty_e l e))) (fun fDL fCL fPL fNC fND fCK fED fEP yAt fH fO fAX fAY fLV fRS fLT ySp yDp yEn fNK yRk aSup aCpx aCpy aCr aPx aPy aR aCtx aCls aHd aSz yWd aTk aTn aTt aTs aFl aOt yVl yFx yFy yFk yFp yKl => Exists.intro 14 ?_) v
  have hb := ty_e21 hl (show e < 8 by omega)
  refine tx_t1 14 1 _ (by omega) (by omega) ?_ ?_
  · intro m f q1 q2 q3 q4 q5
    obtain ⟨rfl, rfl⟩ := ty_inj l m e f h3 q2 ((nI_eq (by omega) q4).mp q5)
    exact hp
  · intro hx
    exact absurd ⟨l, e, h1, h3, by omega, by omega, rfl⟩ hx
theorem tx_tyN (v : SY) {t : Int32} (h : ¬ ty_T 6 t) (hp : ∀ r : Nat, r = 0 ∨ (8 ≤ r ∧ r ≤ 12) → post (nI r)) : wpY_symbols post v t := by
  refine tx_j (P := fun v => wpY_symbols post v t) (fun fDL fCL fPL fNC fND fCK fED fEP yAt fH fO fAX fAY fLV fRS fLT ySp yDp yEn fNK yRk aSup aCpx aCpy aCr aPx aPy aR aCtx aCls aHd aSz yWd aTk aTn aTt aTs aFl aOt yVl yFx yFy yFk yFp yKl => Exists.intro 14 ?_) v
  refine tx_t1 14 1 _ (by omega) (by omega) ?_ ?_
  · intro l e q1 q2 q3 q4 q5
    refine hp _ (Or.inr ⟨?_, q3⟩)
    rcases Nat.lt_or_ge l.length 7 with z | z
    · exact absurd ⟨l, e, q1, q2, by omega, q5⟩ h
    · omega
  · intro hx
    exact hp 0 (Or.inl rfl)
theorem tx_ty0 (v : SY) (hp : post 0) : wpY_symbols post v 0 := by
  refine tx_j (P := fun v => wpY_symbols post v 0) (fun fDL fCL fPL fNC fND fCK fED fEP yAt fH fO fAX fAY fLV fRS fLT ySp yDp yEn fNK yRk aSup aCpx aCpy aCr aPx aPy aR aCtx aCls aHd aSz yWd aTk aTn aTt aTs aFl aOt yVl yFx yFy yFk yFp yKl => Exists.intro 14 ?_) v
  refine tx_t1 14 1 _ (by omega) (by omega) ?_ (fun _ => hp)
  intro l e q1 q2 q3 q4 q5
  have q6 : 0 = ty_e l e := (nI_eq (a := 0) (by omega) q4).mp q5
  have := ty_c1 (l := l) q1
  omega
theorem tx_sx0 (u : SX) (hp : post 0) : wpX_symbols post u 0 := by
  refine tx_symN u ?_ hp
  rintro ⟨l, e, q1, q2, q3, q5⟩
  have := ty_e21 q3 (show e < 8 by omega)
  have q6 : 0 = ty_e l e := (nI_eq (a := 0) (by omega) (by omega)).mp q5
  have := ty_c1 (l := l) q1
  omega
theorem tx_gr (v : SY) {l : List Bool} {e : Nat} (h1 : 1 ≤ e) (h3 : e ≤ 3) (hl : l.length ≤ 6) (p1 : e = 3 → post 0) (p0 : e ≠ 3 → post 1) : wpY_ground post v (nI (ty_e l e)) := by
  have hb := ty_e21 hl (show e < 8 by omega)
  exact tx_j (P := fun v => wpY_ground post v (nI (ty_e l e))) (fun fDL fCL fPL fNC fND fCK fED fEP yAt fH fO fAX fAY fLV fRS fLT ySp yDp yEn fNK yRk aSup aCpx aCpy aCr aPx aPy aR aCtx aCls aHd aSz yWd aTk aTn aTt aTs aFl aOt yVl yFx yFy yFk yFp yKl => Exists.intro 8 (tx_g1 l e 0 8 h1 h3 (by omega) (by omega) (by omega) p1 p0)) v
theorem tx_sby (v : SY) {l : List Bool} {e s : Nat} (h1 : 1 ≤ e) (h3 : e ≤ 3) (hl : l.length ≤ 6) (hp : post (nI (ty_e l (ty_s e s)))) : wpY_subst post v (nI (ty_e l e)) (nI s) := by
  refine tx_j (P := fun v => wpY_subst post v (nI (ty_e l e)) (nI s)) (fun fDL fCL fPL fNC fND fCK fED fEP yAt fH fO fAX fAY fLV fRS fLT ySp yDp yEn fNK yRk aSup aCpx aCpy aCr aPx aPy aR aCtx aCls aHd aSz yWd aTk aTn aTt aTs aFl aOt yVl yFx yFy yFk yFp yKl => ?_) v
  unfold wpY_subst
  dsimp only
  refine tx_gr _ h1 h3 hl ?_ ?_
  · intro h
    subst h
    rw [ty_s3] at hp
    refine br_t rfl (Exists.intro 8 (tx_w1 l 0 8 (by omega) (by omega) ?_))
    rw [Nat.add_zero, tx_y8]
    exact hp
  · intro h
    rw [ty_sn h] at hp
    exact br_f (by decide) hp
end
end
section
/-! 04: masks of classes, the source's tables, HOLDS -/
theorem mk_x : ∀ m, m < 16 → ∀ k, k < 4 → ((nI m &&& ((1 : Int32) <<< (nI k &&& 31))) = 0 ↔ m.testBit k = false) := by decide +kernel
theorem mk_y : ∀ m, m < 16 → ∀ k, k < 4 → (((nI m >>> (nI k &&& 31)) &&& 1) = 1 ↔ m.testBit k = true) := by decide +kernel
theorem mk_o : ∀ a, a < 16 → ∀ b, b < 16 → nI a ||| nI b = nI (a ||| b) := by decide +kernel
theorem mk_s : ∀ a, a < 16 → ∀ b, b < 16 → (nI a &&& nI b = nI a ↔ ∀ k, k < 4 → a.testBit k = true → b.testBit k = true) := by decide +kernel
theorem mk_t : ∀ a, a < 16 → ∀ b, b < 16 → ((nI a &&& (nI b ^^^ (-1))) = 0 ↔ ∀ k, k < 4 → a.testBit k = true → b.testBit k = true) := by decide +kernel
theorem mk_1 : ∀ k, k < 4 → (1 : Int32) <<< (nI k &&& 31) = nI (2 ^ k) := by decide +kernel
theorem mk_5 : ∀ k, k ≤ 4 → (1 : Int32) <<< (nI k &&& 31) = nI (2 ^ k) := by decide +kernel
theorem mk_16 {nc m : Nat} (hc : nc ≤ 4) (h : m < 2 ^ nc) : m < 16 := Nat.lt_of_lt_of_le h (Nat.pow_le_pow_right (n := 2) (by decide) hc)
theorem mk_b {nc m k : Nat} (h : m < 2 ^ nc) (hk : m.testBit k = true) : k < nc := by
  rcases Nat.lt_or_ge k nc with z | z
  · exact z
  · rw [Nat.testBit_lt_two_pow (Nat.lt_of_lt_of_le h (Nat.pow_le_pow_right (by decide) z))] at hk
    exact absurd hk (by decide)
theorem mk_n {b : Bool} (h : ¬ b = true) : b = false := by cases b <;> first | rfl | exact absurd rfl h
theorem mk_or {a b k : Nat} : (a ||| b).testBit k = true ↔ a.testBit k = true ∨ b.testBit k = true := by
  rw [Nat.testBit_or, Bool.or_eq_true]
def mk_v (x : Int32) : Nat := x.toNatClampNeg
theorem mk_vn {n : Nat} (h : n < 2 ^ 31) : mk_v (nI n) = n := nI_clamp h
/-- the closure's pass over the classes below k -/
def mk_cl (sup : Nat → Int32) : Nat → Nat → Nat
  | 0, m => m
  | k + 1, m => mk_cl sup k (if m.testBit k = true then m ||| mk_v (sup k) else m)
/-- the union of the contexts over the classes below k of the mask -/
def mk_un (ins ctx : Nat → Int32) (m h : Nat) : Nat → Nat
  | 0 => 0
  | k + 1 => if m.testBit k = true ∧ ins (8 * k + h) ≠ -1 then mk_un ins ctx m h k ||| mk_v (ctx (mk_v (ins (8 * k + h)))) else mk_un ins ctx m h k
/-- HOLDS(m, k, t) for a class k -/
def mk_h (ins ctx sup : Nat → Int32) (m : Nat) : List Bool → Nat → Nat → Prop
  | [], e, k => if e = 3 then (mk_cl sup 4 m).testBit k = true else ins (8 * k + e) ≠ -1
  | b :: l, e, k => ins (8 * k + ty_h b) ≠ -1 ∧ ∀ j, (mk_v (ctx (mk_v (ins (8 * k + ty_h b))))).testBit j = true → mk_h ins ctx sup m l e j
def mk_H (ins ctx sup : Nat → Int32) (m w : Nat) (l : List Bool) (e : Nat) : Prop := ∀ k, w.testBit k = true → mk_h ins ctx sup m l e k
def sr_A (nc : Nat) (aSup aCpx aCpy aCr : Nat → Int32) : Prop := ∀ c, c < nc → (∃ m, m < 2 ^ c ∧ aSup c = nI m) ∧ ty_T 5 (aCpx c) ∧ ty_T 5 (aCpy c) ∧ ty_T 5 (aCr c)
def sr_I (nd : Nat) (aIns aCls aHd : Nat → Int32) : Prop := ∀ c h, c < 4 → h < 8 → aIns (8 * c + h) = -1 ∨ ∃ d, d < nd ∧ aIns (8 * c + h) = nI d ∧ aCls d = nI c ∧ aHd d = nI h
def sr_J (nc nd : Nat) (aIns aCls aHd aCtx : Nat → Int32) : Prop := ∀ d, d < nd → (aCls d = -1 ∧ aHd d = -1) ∨ ∃ c h, c < nc ∧ (h = 1 ∨ h = 2 ∨ h = 4 ∨ h = 5) ∧ aCls d = nI c ∧ aHd d = nI h ∧ aIns (8 * c + h) = nI d ∧ (h ≤ 2 → aCtx d = 0)
def sr_M (nc nd : Nat) (aCtx : Nat → Int32) : Prop := ∀ d, d < nd → ∃ m, m < 2 ^ nc ∧ aCtx d = nI m
/-- what HOLDS rests on -/
def sr_H (nc nd : Nat) (aSup aIns aCls aHd aCtx : Nat → Int32) : Prop := nc ≤ 4 ∧ nd ≤ 12 ∧ (∀ c, c < nc → ∃ m, m < 2 ^ c ∧ aSup c = nI m) ∧ sr_I nd aIns aCls aHd ∧ sr_J nc nd aIns aCls aHd aCtx ∧ sr_M nc nd aCtx
section
variable {nc nd : Nat} {aSup aIns aCls aHd aCtx : Nat → Int32}
theorem mk_sup (H : sr_H nc nd aSup aIns aCls aHd aCtx) {c : Nat} (h : c < nc) : aSup c = nI (mk_v (aSup c)) ∧ mk_v (aSup c) < 2 ^ nc := by
  obtain ⟨m, hm, e⟩ := H.2.2.1 c h
  have h1 : m < 2 ^ nc := Nat.lt_of_lt_of_le hm (Nat.pow_le_pow_right (by decide) (by omega))
  have h2 := mk_16 H.1 h1
  rw [e, mk_vn (by omega)]
  exact ⟨rfl, h1⟩
theorem mk_ctx (H : sr_H nc nd aSup aIns aCls aHd aCtx) {d : Nat} (h : d < nd) : aCtx d = nI (mk_v (aCtx d)) ∧ mk_v (aCtx d) < 2 ^ nc := by
  obtain ⟨m, hm, e⟩ := H.2.2.2.2.2 d h
  have h2 := mk_16 H.1 hm
  rw [e, mk_vn (by omega)]
  exact ⟨rfl, hm⟩
/-- an entry of the table: none, or a definition -/
theorem mk_iv (H : sr_H nc nd aSup aIns aCls aHd aCtx) {c h : Nat} (hc : c < 4) (hh : h < 8) : aIns (8 * c + h) = -1 ∨ ∃ d, d < nd ∧ aIns (8 * c + h) = nI d ∧ mk_v (aIns (8 * c + h)) = d := by
  rcases H.2.2.2.1 c h hc hh with z | ⟨d, hd, e, _⟩
  · exact Or.inl z
  · have := H.2.1
    exact Or.inr ⟨d, hd, e, by rw [e]; exact mk_vn (by omega)⟩
theorem mk_un_lt (H : sr_H nc nd aSup aIns aCls aHd aCtx) {m h : Nat} (hh : h < 8) : ∀ k, k ≤ 4 → mk_un aIns aCtx m h k < 2 ^ nc := by
  intro k
  induction k with
  | zero => intro _; exact Nat.two_pow_pos nc
  | succ k ih =>
    intro hk
    have i1 := ih (by omega)
    unfold mk_un
    split
    · next z =>
      rcases mk_iv H (c := k) (by omega) hh with y | ⟨d, hd, e, ev⟩
      · exact absurd y z.2
      · rw [ev]
        exact Nat.or_lt_two_pow i1 (mk_ctx H hd).2
    · exact i1
theorem mk_un_t {m h : Nat} : ∀ k j, (mk_un aIns aCtx m h k).testBit j = true ↔ ∃ i, i < k ∧ m.testBit i = true ∧ aIns (8 * i + h) ≠ -1 ∧ (mk_v (aCtx (mk_v (aIns (8 * i + h))))).testBit j = true := by
  intro k
  induction k with
  | zero =>
    intro j
    unfold mk_un
    rw [Nat.zero_testBit]
    exact ⟨fun z => absurd z (by decide), fun ⟨i, hi, _⟩ => absurd hi (by omega)⟩
  | succ k ih =>
    intro j
    unfold mk_un
    split
    · next z =>
      rw [mk_or, ih]
      constructor
      · rintro (⟨i, hi, r⟩ | r)
        · exact ⟨i, by omega, r⟩
        · exact ⟨k, by omega, z.1, z.2, r⟩
      · rintro ⟨i, hi, r1, r2, r3⟩
        rcases Nat.lt_or_ge i k with y | y
        · exact Or.inl ⟨i, y, r1, r2, r3⟩
        · have : i = k := by omega
          subst this
          exact Or.inr r3
    · next z =>
      rw [ih]
      constructor
      · rintro ⟨i, hi, r⟩
        exact ⟨i, by omega, r⟩
      · rintro ⟨i, hi, r1, r2, r3⟩
        rcases Nat.lt_or_ge i k with y | y
        · exact ⟨i, y, r1, r2, r3⟩
        · have : i = k := by omega
          subst this
          exact absurd ⟨r1, r2⟩ z
theorem mk_cl_lt (H : sr_H nc nd aSup aIns aCls aHd aCtx) : ∀ k m, m < 2 ^ nc → mk_cl aSup k m < 2 ^ nc := by
  intro k
  induction k with
  | zero => intro m h; exact h
  | succ k ih =>
    intro m h
    unfold mk_cl
    split
    · next z => exact ih _ (Nat.or_lt_two_pow h (mk_sup H (mk_b h z)).2)
    · exact ih _ h
/-- a set of classes that holds the superclasses of its members holds a mask's closure with the mask -/
theorem mk_cl_in (H : sr_H nc nd aSup aIns aCls aHd aCtx) {S : Nat → Prop} (hS : ∀ c, c < nc → S c → ∀ j, (mk_v (aSup c)).testBit j = true → S j) : ∀ k m, m < 2 ^ nc → (∀ j, m.testBit j = true → S j) → ∀ j, (mk_cl aSup k m).testBit j = true → S j := by
  intro k
  induction k with
  | zero => intro m h hm; exact hm
  | succ k ih =>
    intro m h hm
    unfold mk_cl
    split
    · next z =>
      refine ih _ (Nat.or_lt_two_pow h (mk_sup H (mk_b h z)).2) ?_
      intro j hj
      rcases mk_or.mp hj with y | y
      · exact hm j y
      · exact hS k (mk_b h z) (hm k z) j y
    · exact ih _ h hm
theorem mk_h3 {m k : Nat} : mk_h aIns aCtx aSup m [] 3 k ↔ (mk_cl aSup 4 m).testBit k = true := Iff.rfl
theorem mk_hn {m k e : Nat} (he : e ≠ 3) : mk_h aIns aCtx aSup m [] e k ↔ aIns (8 * k + e) ≠ -1 := by
  unfold mk_h
  rw [if_neg he]
theorem mk_hc {m k e : Nat} {b : Bool} {l : List Bool} : mk_h aIns aCtx aSup m (b :: l) e k ↔ aIns (8 * k + ty_h b) ≠ -1 ∧ mk_H aIns aCtx aSup m (mk_v (aCtx (mk_v (aIns (8 * k + ty_h b))))) l e := Iff.rfl
theorem mk_Hn {m w e : Nat} (he : e ≠ 3) : mk_H aIns aCtx aSup m w [] e ↔ ∀ k, w.testBit k = true → aIns (8 * k + e) ≠ -1 := by
  constructor
  · intro h k hk; exact (mk_hn he).mp (h k hk)
  · intro h k hk; exact (mk_hn he).mpr (h k hk)
theorem mk_Hc {m w e : Nat} {b : Bool} {l : List Bool} (hw : w < 2 ^ nc) : mk_H aIns aCtx aSup m w (b :: l) e ↔ (∀ k, w.testBit k = true → aIns (8 * k + ty_h b) ≠ -1) ∧ mk_H aIns aCtx aSup m (mk_un aIns aCtx w (ty_h b) nc) l e := by
  constructor
  · intro h
    refine ⟨fun k hk => (h k hk).1, fun j hj => ?_⟩
    obtain ⟨i, hi, r1, r2, r3⟩ := (mk_un_t nc j).mp hj
    exact (h i r1).2 j r3
  · rintro ⟨h1, h2⟩ k hk
    exact ⟨h1 k hk, fun j hj => h2 j ((mk_un_t nc j).mpr ⟨k, mk_b hw hk, hk, h1 k hk, hj⟩)⟩
/-- with no variable the context doesn't count -/
theorem mk_h0 {e : Nat} (he : e ≠ 3) {m m' : Nat} : ∀ (l : List Bool) (k : Nat), mk_h aIns aCtx aSup m l e k → mk_h aIns aCtx aSup m' l e k := by
  intro l
  induction l with
  | nil => intro k h; exact (mk_hn he).mpr ((mk_hn he).mp h)
  | cons b l ih => intro k h; exact ⟨h.1, fun j hj => ih j (h.2 j hj)⟩
/-- the superclass law: what check asks of every definition of a class -/
def mk_S (nc nd : Nat) (aSup aIns aCls aHd aCtx : Nat → Int32) : Prop := ∀ d c h, d < nd → c < nc → aCls d = nI c → aHd d = nI h → aIns (8 * c + h) = nI d → (h ≤ 2 → mk_H aIns aCtx aSup (mk_v (aCtx d)) (mk_v (aSup c)) [] h) ∧ (∀ b, h = ty_h b → mk_H aIns aCtx aSup (mk_v (aCtx d)) (mk_v (aSup c)) [b] 3)
theorem mk_sl (H : sr_H nc nd aSup aIns aCls aHd aCtx) (S : mk_S nc nd aSup aIns aCls aHd aCtx) {e : Nat} (h1 : 1 ≤ e) (h2 : e ≤ 2) : ∀ (l : List Bool) (c : Nat), c < nc → mk_h aIns aCtx aSup 0 l e c → ∀ j, (mk_v (aSup c)).testBit j = true → mk_h aIns aCtx aSup 0 l e j := by
  intro l
  induction l with
  | nil =>
    intro c hc h j hj
    have hi := (mk_hn (show e ≠ 3 by omega)).mp h
    have h4 := H.1
    rcases H.2.2.2.1 c e (by omega) (by omega) with z | ⟨d, hd, e1, e2, e3⟩
    · exact absurd z hi
    · exact mk_h0 (show e ≠ 3 by omega) [] j ((S d c e hd hc e2 e3 e1).1 h2 j hj)
  | cons b l ih =>
    intro c hc h j hj
    have h4 := H.1
    have h12 := H.2.1
    have hb := ty_h45 b
    rcases H.2.2.2.1 c (ty_h b) (by omega) (by omega) with z | ⟨d, hd, e1, e2, e3⟩
    · exact absurd z h.1
    · have q := (S d c (ty_h b) hd hc e2 e3 e1).2 b rfl j hj
      refine ⟨q.1, fun i hi => ?_⟩
      have q2 : (mk_cl aSup 4 (mk_v (aCtx d))).testBit i = true := q.2 i hi
      refine mk_cl_in H (S := fun i => mk_h aIns aCtx aSup 0 l e i) (fun c hc hs => ih c hc hs) 4 _ (mk_ctx H hd).2 ?_ i q2
      intro x hx
      have := h.2 x
      rw [e1, mk_vn (by omega)] at this
      exact this hx
theorem mk_cl0 (H : sr_H nc nd aSup aIns aCls aHd aCtx) (S : mk_S nc nd aSup aIns aCls aHd aCtx) {e m k : Nat} {l : List Bool} (h1 : 1 ≤ e) (h2 : e ≤ 2) (hm : m < 2 ^ nc) (h : mk_H aIns aCtx aSup 0 m l e) : mk_H aIns aCtx aSup 0 (mk_cl aSup k m) l e :=
  mk_cl_in H (S := fun i => mk_h aIns aCtx aSup 0 l e i) (fun c hc hs => mk_sl H S h1 h2 l c hc hs) k m hm h
/-- the substitution law -/
theorem mk_sb (H : sr_H nc nd aSup aIns aCls aHd aCtx) (S : mk_S nc nd aSup aIns aCls aHd aCtx) {e m : Nat} {s : List Bool} (h1 : 1 ≤ e) (h2 : e ≤ 2) (hm : m < 2 ^ nc) (hs : mk_H aIns aCtx aSup 0 m s e) : ∀ (l : List Bool) (k : Nat), mk_h aIns aCtx aSup m l 3 k → mk_h aIns aCtx aSup 0 (l ++ s) e k := by
  intro l
  induction l with
  | nil => intro k h; exact mk_cl0 H S h1 h2 hm hs k h
  | cons b l ih => intro k h; exact ⟨h.1, fun j hj => ih j (h.2 j hj)⟩
end
end
section
/-! 05: walks: closure, tables, contexts, HOLDS, X and Y -/
section
variable {nc nd : Nat} {aSup aIns aCls aHd aCtx : Nat → Int32}
theorem wh_so (H : sr_H nc nd aSup aIns aCls aHd aCtx) {m j : Nat} (hm : m < 2 ^ nc) (hj : j < nc) : nI m ||| aSup j = nI (m ||| mk_v (aSup j)) :=
  have h := mk_sup H hj
  (congrArg (fun x => nI m ||| x) h.1).trans (mk_o m (mk_16 H.1 hm) _ (mk_16 H.1 h.2))
theorem wh_co (H : sr_H nc nd aSup aIns aCls aHd aCtx) {m d : Nat} (hm : m < 2 ^ nc) (hd : d < nd) : nI m ||| aCtx d = nI (m ||| mk_v (aCtx d)) :=
  have h := mk_ctx H hd
  (congrArg (fun x => nI m ||| x) h.1).trans (mk_o m (mk_16 H.1 hm) _ (mk_16 H.1 h.2))
theorem wh_cy {m j : Nat} (hb : m.testBit j = true) : mk_cl aSup (j + 1) m = mk_cl aSup j (m ||| mk_v (aSup j)) := by
  show mk_cl aSup j (if m.testBit j = true then m ||| mk_v (aSup j) else m) = _
  rw [if_pos hb]
theorem wh_cn {m j : Nat} (hb : ¬ m.testBit j = true) : mk_cl aSup (j + 1) m = mk_cl aSup j m := by
  show mk_cl aSup j (if m.testBit j = true then m ||| mk_v (aSup j) else m) = _
  rw [if_neg hb]
theorem wh_un {w h k : Nat} (hb : ¬ w.testBit k = true) : mk_un aIns aCtx w h (k + 1) = mk_un aIns aCtx w h k := if_neg (fun z => hb z.1)
theorem wh_um {w h k : Nat} (hi : aIns (8 * k + h) = -1) : mk_un aIns aCtx w h (k + 1) = mk_un aIns aCtx w h k := if_neg (fun z => z.2 hi)
theorem wh_uy {w h k d : Nat} (hb : w.testBit k = true) (hi : aIns (8 * k + h) = nI d) (hd : d < 2 ^ 31) : mk_un aIns aCtx w h (k + 1) = (mk_un aIns aCtx w h k ||| mk_v (aCtx d)) := by
  have h1 : aIns (8 * k + h) ≠ -1 := by
    rw [hi]
    intro z
    have := nI_pos (n := d) hd
    rw [z] at this
    exact this (by decide)
  have h2 : mk_un aIns aCtx w h (k + 1) = (mk_un aIns aCtx w h k ||| mk_v (aCtx (mk_v (aIns (8 * k + h))))) := if_pos ⟨hb, h1⟩
  rw [h2, hi, mk_vn hd]
theorem wh_ue {w h : Nat} (hw : w < 2 ^ nc) : ∀ k, mk_un aIns aCtx w h (nc + k) = mk_un aIns aCtx w h nc := by
  intro k
  induction k with
  | zero => rfl
  | succ k ih =>
    rw [← Nat.add_assoc, wh_un, ih]
    intro z
    have := mk_b hw z
    omega
theorem wh_in {c h : Nat} : (8 : Int32) * nI c + nI h = nI (8 * c + h) := by
  rw [show (8 : Int32) * nI c = nI (8 * c) from pk_mul 8 c, nI_add]
end
section
variable {dl cl pl nc nd : Nat} {fCK fED fEP fH fO fHP fNK fRC fTD fTT : Int32} {fAX fAY : Int64} {fRS : Int32} {fLV : Int64} {fLT fDP fEN : Int32} {fAN : Int64} {aSup aCpx aCpy aCr aIns aCls aHd aCtx aPx aPy aR aSz aWd aTk aTn aTt aTj aTs aFl aEl aOt aOk aKd aKt aCal aFd aFt aFc aFp aFh : Nat → Int32} {aFx aFy aVl : Nat → Int64} {yAt ySp yDp yEn yRk : Int32} {yWd : Nat → Int32} {yVl yFx yFy : Nat → Int64} {yFk yFp yKl : Nat → Int32} {post : Int32 → Prop}
theorem wh_x1 (H : sr_H nc nd aSup aIns aCls aHd aCtx) : ∀ (j m n : Nat), j ≤ 4 → j < n → m < 2 ^ nc → post (nI (mk_cl aSup j m)) → wX_closure_4 post (nI dl) (nI cl) (nI pl) (nI nc) (nI nd) fCK fED fEP fH fO fHP fNK fRC fTD fTT fAX fAY fRS fLV fLT fDP fEN fAN aSup aCpx aCpy aCr aIns aCls aHd aCtx aPx aPy aR aSz aWd aTk aTn aTt aTj aTs aFl aEl aOt aOk aKd aKt aCal aFd aFt aFc aFp aFh aFx aFy aVl n (nI m) (nI j + (-1)) := by
  intro j
  induction j with
  | zero =>
    intro m n hj hn hm hp
    obtain ⟨k, rfl⟩ : ∃ k, n = k + 1 := ⟨n - 1, by omega⟩
    exact br_t (show nI 0 + (-1) < 0 by decide) hp
  | succ j ih =>
    intro m n hj hn hm hp
    obtain ⟨k, rfl⟩ : ∃ k, n = k + 1 := ⟨n - 1, by omega⟩
    rw [pk_m1]
    have hc := H.1
    have h16 := mk_16 hc hm
    refine br_f (nI_pos (by omega)) ?_
    by_cases hjn : j < nc
    · refine br_f (nI_ge hjn (by omega)) ?_
      by_cases hb : m.testBit j = true
      · refine br_f (fun z => ?_) ⟨vp_in_nI (by omega) (by decide), nm_r (e' := nI (m ||| mk_v (aSup j))) (by rw [nI_clamp (by omega), wh_so H hm hjn]) (nm_e (ih _ k (by omega) (by omega) (Nat.or_lt_two_pow hm (mk_sup H hjn).2) (by rw [← wh_cy hb]; exact hp)))⟩
        rw [(mk_x m h16 j (by omega)).mp z] at hb
        exact absurd hb (by decide)
      · exact br_t ((mk_x m h16 j (by omega)).mpr (mk_n hb)) (nm_e (ih _ k (by omega) (by omega) hm (by rw [← wh_cn hb]; exact hp)))
    · have hb : ¬ m.testBit j = true := fun z => hjn (mk_b hm z)
      exact br_t (nI_le (by omega) (by omega)) (nm_e (ih _ k (by omega) (by omega) hm (by rw [← wh_cn hb]; exact hp)))
theorem wh_xc (H : sr_H nc nd aSup aIns aCls aHd aCtx) {m : Nat} (hm : m < 2 ^ nc) (hp : post (nI (mk_cl aSup 4 m))) : wpX_closure post (nI dl, nI cl, nI pl, nI nc, nI nd, fCK, fED, fEP, fH, fO, fHP, fNK, fRC, fTD, fTT, fAX, fAY, fRS, fLV, fLT, fDP, fEN, fAN, aSup, aCpx, aCpy, aCr, aIns, aCls, aHd, aCtx, aPx, aPy, aR, aSz, aWd, aTk, aTn, aTt, aTj, aTs, aFl, aEl, aOt, aOk, aKd, aKt, aCal, aFd, aFt, aFc, aFp, aFh, aFx, aFy, aVl) (nI m) := by
  refine Exists.intro 5 ?_
  rw [show (3 : Int32) = nI 4 + (-1) by decide]
  exact wh_x1 H 4 m 5 (by omega) (by omega) hm hp
theorem wh_y1 (H : sr_H nc nd aSup aIns aCls aHd aCtx) : ∀ (j m n : Nat), j ≤ 4 → j < n → m < 2 ^ nc → post (nI (mk_cl aSup j m)) → wY_closure_4 post (nI dl) (nI cl) (nI pl) (nI nc) (nI nd) fCK fED fEP yAt fH fO fAX fAY fLV fRS fLT ySp yDp yEn fNK yRk aSup aCpx aCpy aCr aPx aPy aR aCtx aCls aHd aSz yWd aTk aTn aTt aTs aFl aOt yVl yFx yFy yFk yFp yKl n (nI m) (nI j + (-1)) := by
  intro j
  induction j with
  | zero =>
    intro m n hj hn hm hp
    obtain ⟨k, rfl⟩ : ∃ k, n = k + 1 := ⟨n - 1, by omega⟩
    exact br_t (show nI 0 + (-1) < 0 by decide) hp
  | succ j ih =>
    intro m n hj hn hm hp
    obtain ⟨k, rfl⟩ : ∃ k, n = k + 1 := ⟨n - 1, by omega⟩
    rw [pk_m1]
    have hc := H.1
    have h16 := mk_16 hc hm
    refine br_f (nI_pos (by omega)) ?_
    by_cases hb : m.testBit j = true
    · have hjn := mk_b hm hb
      exact br_t ((mk_y m h16 j (by omega)).mpr hb) ⟨vp_in_nI (by omega) (by decide), nm_r (e' := nI (m ||| mk_v (aSup j))) (by rw [nI_clamp (by omega), wh_so H hm hjn]) (nm_e (ih _ k (by omega) (by omega) (Nat.or_lt_two_pow hm (mk_sup H hjn).2) (by rw [← wh_cy hb]; exact hp)))⟩
    · exact br_f (fun z => hb ((mk_y m h16 j (by omega)).mp z)) (nm_e (ih _ k (by omega) (by omega) hm (by rw [← wh_cn hb]; exact hp)))
theorem wh_yc (H : sr_H nc nd aSup aIns aCls aHd aCtx) {m : Nat} (hm : m < 2 ^ nc) (hp : post (nI (mk_cl aSup 4 m))) : wpY_closure post (nI dl, nI cl, nI pl, nI nc, nI nd, fCK, fED, fEP, yAt, fH, fO, fAX, fAY, fLV, fRS, fLT, ySp, yDp, yEn, fNK, yRk, aSup, aCpx, aCpy, aCr, aPx, aPy, aR, aCtx, aCls, aHd, aSz, yWd, aTk, aTn, aTt, aTs, aFl, aOt, yVl, yFx, yFy, yFk, yFp, yKl) (nI m) := by
  refine Exists.intro 5 ?_
  rw [show (3 : Int32) = nI 4 + (-1) by decide]
  exact wh_y1 H 4 m 5 (by omega) (by omega) hm hp
theorem wh_fi {k h : Nat} (hc : nc ≤ 4) (hk : k < nc) (hh : h ≤ 5) (hp : post (aIns (8 * k + h))) : wpX_findInstance post (nI dl, nI cl, nI pl, nI nc, nI nd, fCK, fED, fEP, fH, fO, fHP, fNK, fRC, fTD, fTT, fAX, fAY, fRS, fLV, fLT, fDP, fEN, fAN, aSup, aCpx, aCpy, aCr, aIns, aCls, aHd, aCtx, aPx, aPy, aR, aSz, aWd, aTk, aTn, aTt, aTj, aTs, aFl, aEl, aOt, aOk, aKd, aKt, aCal, aFd, aFt, aFc, aFp, aFh, aFx, aFy, aVl) (nI k) (nI h) := by
  refine br_f (nI_pos (by omega)) (br_f (nI_ge hk (by omega)) (br_f (nI_pos (by omega)) (br_t (nI_le (b := 5) hh (by decide)) ?_)))
  rw [wh_in, nI_clamp (by omega)]
  exact ⟨vp_in_nI (by omega) (by decide), hp⟩
theorem wh_yi1 (H : sr_H nc nd aSup aIns aCls aHd aCtx) {c h : Nat} (hc : c < 4) (hh : h < 8) (hp : post (aIns (8 * c + h))) : ∀ (n k : Nat), k ≤ nd → nd - k < n → (∀ j, j < k → ¬ (aCls j = nI c ∧ aHd j = nI h)) → wY_instance_2 post (nI c) (nI h) (nI dl) (nI cl) (nI pl) (nI nc) (nI nd) fCK fED fEP yAt fH fO fAX fAY fLV fRS fLT ySp yDp yEn fNK yRk aSup aCpx aCpy aCr aPx aPy aR aCtx aCls aHd aSz yWd aTk aTn aTt aTs aFl aOt yVl yFx yFy yFk yFp yKl n (nI k) := by
  intro n
  induction n with
  | zero => intro k hk hn; omega
  | succ n ih =>
    intro k hk hn hj
    have h12 := H.2.1
    have h4 := H.1
    by_cases hkn : k = nd
    · subst hkn
      refine br_t (nI_le (by omega) (by omega)) ?_
      rcases H.2.2.2.1 c h hc hh with z | ⟨d, hd, _, e2, e3⟩
      · rw [← z]; exact hp
      · exact absurd ⟨e2, e3⟩ (hj d hd)
    · refine br_f (nI_ge (by omega) (by omega)) ⟨vp_in_nI (by omega) (by decide), ?_⟩
      rw [nI_clamp (by omega)]
      have N : ¬ (aCls k = nI c ∧ aHd k = nI h) → wY_instance_2 post (nI c) (nI h) (nI dl) (nI cl) (nI pl) (nI nc) (nI nd) fCK fED fEP yAt fH fO fAX fAY fLV fRS fLT ySp yDp yEn fNK yRk aSup aCpx aCpy aCr aPx aPy aR aCtx aCls aHd aSz yWd aTk aTn aTt aTs aFl aOt yVl yFx yFy yFk yFp yKl n (nI (k + 1)) := fun z =>
        ih (k + 1) (by omega) (by omega) (fun j hj' => by
          rcases Nat.lt_or_ge j k with y | y
          · exact hj j y
          · have : j = k := by omega
            rw [this]; exact z)
      by_cases e1 : aCls k = nI c
      · refine br_t e1 ⟨vp_in_nI (by omega) (by decide), ?_⟩
        by_cases e2 : aHd k = nI h
        · refine br_t e2 ?_
          rcases H.2.2.2.2.1 k (by omega) with ⟨z, _⟩ | ⟨c', h', q1, q2, q3, q4, q5, _⟩
          · rw [e1] at z
            have := nI_pos (n := c) (by omega)
            rw [z] at this
            exact absurd (show (-1 : Int32) < 0 by decide) this
          · have r1 : c' = c := (nI_eq (by omega) (by omega)).mp (q3.symm.trans e1)
            have r2 : h' = h := (nI_eq (by omega) (by omega)).mp (q4.symm.trans e2)
            rw [r1, r2] at q5
            rw [← q5]; exact hp
        · exact br_f e2 (nm_r (nI_1 k) (N (fun z => e2 z.2)))
      · exact br_f e1 (nm_r (nI_1 k) (N (fun z => e1 z.1)))
theorem wh_yi (H : sr_H nc nd aSup aIns aCls aHd aCtx) {c h : Nat} (hc : c < 4) (hh : h < 8) (hp : post (aIns (8 * c + h))) : wpY_instance post (nI dl, nI cl, nI pl, nI nc, nI nd, fCK, fED, fEP, yAt, fH, fO, fAX, fAY, fLV, fRS, fLT, ySp, yDp, yEn, fNK, yRk, aSup, aCpx, aCpy, aCr, aPx, aPy, aR, aCtx, aCls, aHd, aSz, yWd, aTk, aTn, aTt, aTs, aFl, aOt, yVl, yFx, yFy, yFk, yFp, yKl) (nI c) (nI h) :=
  Exists.intro 13 (wh_yi1 H hc hh hp 13 0 (by omega) (by have := H.2.1; omega) (fun j hj => absurd hj (by omega)))
theorem wh_hi (H : sr_H nc nd aSup aIns aCls aHd aCtx) {w h : Nat} (hw : w < 2 ^ nc) (hh : h ≤ 5) : ∀ (n k : Nat), k ≤ nc → nc - k < n → ((∀ j, k ≤ j → w.testBit j = true → aIns (8 * j + h) ≠ -1) → post 1) → ((∃ j, w.testBit j = true ∧ aIns (8 * j + h) = -1) → post 0) → wX_haveInstances_2 post (nI w) (nI h) (nI dl) (nI cl) (nI pl) (nI nc) (nI nd) fCK fED fEP fH fO fHP fNK fRC fTD fTT fAX fAY fRS fLV fLT fDP fEN fAN aSup aCpx aCpy aCr aIns aCls aHd aCtx aPx aPy aR aSz aWd aTk aTn aTt aTj aTs aFl aEl aOt aOk aKd aKt aCal aFd aFt aFc aFp aFh aFx aFy aVl n (nI k) := by
  intro n
  induction n with
  | zero => intro k hk hn; omega
  | succ n ih =>
    intro k hk hn p1 p0
    have h4 := H.1
    have h12 := H.2.1
    have h16 := mk_16 h4 hw
    by_cases hkn : k = nc
    · exact br_t (nI_le (by omega) (by omega)) (p1 (fun j hj hb => by have := mk_b hw hb; omega))
    · refine br_f (nI_ge (by omega) (by omega)) ?_
      have N : (w.testBit k = true → aIns (8 * k + h) ≠ -1) → wX_haveInstances_2 post (nI w) (nI h) (nI dl) (nI cl) (nI pl) (nI nc) (nI nd) fCK fED fEP fH fO fHP fNK fRC fTD fTT fAX fAY fRS fLV fLT fDP fEN fAN aSup aCpx aCpy aCr aIns aCls aHd aCtx aPx aPy aR aSz aWd aTk aTn aTt aTj aTs aFl aEl aOt aOk aKd aKt aCal aFd aFt aFc aFp aFh aFx aFy aVl n (nI (k + 1)) := fun z =>
        ih (k + 1) (by omega) (by omega) (fun q => p1 (fun j hj hb => by
          rcases Nat.lt_or_ge k j with y | y
          · exact q j y hb
          · have : j = k := by omega
            subst this
            exact z hb)) p0
      by_cases hb : w.testBit k = true
      · refine br_f (fun z => ?_) (wh_fi h4 (by omega) hh ?_)
        · rw [(mk_x w h16 k (by omega)).mp z] at hb
          exact absurd hb (by decide)
        · rcases mk_iv H (c := k) (h := h) (by omega) (by omega) with z | ⟨d, hd, e, _⟩
          · rw [z]
            exact br_f (by decide) (p0 ⟨k, hb, z⟩)
          · have N' := N (fun _ => by
              rw [e]; intro z
              have := nI_pos (n := d) (by omega)
              rw [z] at this
              exact this (by decide))
            rw [e]
            exact br_t (nI_pos' (by omega)) (nm_r (nI_1 k) N')
      · exact br_t ((mk_x w h16 k (by omega)).mpr (mk_n hb)) (nm_r (nI_1 k) (N (fun z => absurd z hb)))
theorem wh_hI (H : sr_H nc nd aSup aIns aCls aHd aCtx) {w h : Nat} (hw : w < 2 ^ nc) (hh : h ≤ 5) (p1 : (∀ j, w.testBit j = true → aIns (8 * j + h) ≠ -1) → post 1) (p0 : (∃ j, w.testBit j = true ∧ aIns (8 * j + h) = -1) → post 0) : wpX_haveInstances post (nI dl, nI cl, nI pl, nI nc, nI nd, fCK, fED, fEP, fH, fO, fHP, fNK, fRC, fTD, fTT, fAX, fAY, fRS, fLV, fLT, fDP, fEN, fAN, aSup, aCpx, aCpy, aCr, aIns, aCls, aHd, aCtx, aPx, aPy, aR, aSz, aWd, aTk, aTn, aTt, aTj, aTs, aFl, aEl, aOt, aOk, aKd, aKt, aCal, aFd, aFt, aFc, aFp, aFh, aFx, aFy, aVl) (nI w) (nI h) :=
  Exists.intro 5 (wh_hi H hw hh 5 0 (by omega) (by have := H.1; omega) (fun q => p1 (fun j => q j (Nat.zero_le _))) p0)
theorem wh_xo1 (H : sr_H nc nd aSup aIns aCls aHd aCtx) {w h : Nat} (hw : w < 2 ^ nc) (hh : h ≤ 5) (hp : post (nI (mk_un aIns aCtx w h nc))) : ∀ (n k : Nat), k ≤ nc → nc - k < n → wX_contextsOf_5 post (nI w) (nI h) (nI dl) (nI cl) (nI pl) (nI nc) (nI nd) fCK fED fEP fH fO fHP fNK fRC fTD fTT fAX fAY fRS fLV fLT fDP fEN fAN aSup aCpx aCpy aCr aIns aCls aHd aCtx aPx aPy aR aSz aWd aTk aTn aTt aTj aTs aFl aEl aOt aOk aKd aKt aCal aFd aFt aFc aFp aFh aFx aFy aVl n (nI (mk_un aIns aCtx w h k)) (nI k) := by
  intro n
  induction n with
  | zero => intro k hk hn; omega
  | succ n ih =>
    intro k hk hn
    have h4 := H.1
    have h12 := H.2.1
    have h16 := mk_16 h4 hw
    by_cases hkn : k = nc
    · subst hkn
      exact br_t (nI_le (by omega) (by omega)) hp
    · refine br_f (nI_ge (by omega) (by omega)) ?_
      have K := ih (k + 1) (by omega) (by omega)
      by_cases hb : w.testBit k = true
      · refine br_f (fun z => ?_) (wh_fi h4 (by omega) hh ?_)
        · rw [(mk_x w h16 k (by omega)).mp z] at hb
          exact absurd hb (by decide)
        · rcases mk_iv H (c := k) (h := h) (by omega) (by omega) with z | ⟨d, hd, e, _⟩
          · rw [wh_um z] at K
            rw [z]
            exact br_t (by decide) (nm_r (nI_1 k) K)
          · rw [wh_uy hb e (by omega)] at K
            rw [e]
            exact br_f (nI_pos (by omega)) ⟨vp_in_nI (by omega) (by decide), nm_r (e' := nI (mk_un aIns aCtx w h k ||| mk_v (aCtx d))) (by rw [nI_clamp (by omega), wh_co H (mk_un_lt H (by omega) k (by omega)) hd]) (nm_r (nI_1 k) K)⟩
      · rw [wh_un hb] at K
        exact br_t ((mk_x w h16 k (by omega)).mpr (mk_n hb)) (nm_r (nI_1 k) K)
theorem wh_xo (H : sr_H nc nd aSup aIns aCls aHd aCtx) {w h : Nat} (hw : w < 2 ^ nc) (hh : h ≤ 5) (hp : post (nI (mk_un aIns aCtx w h nc))) : wpX_contextsOf post (nI dl, nI cl, nI pl, nI nc, nI nd, fCK, fED, fEP, fH, fO, fHP, fNK, fRC, fTD, fTT, fAX, fAY, fRS, fLV, fLT, fDP, fEN, fAN, aSup, aCpx, aCpy, aCr, aIns, aCls, aHd, aCtx, aPx, aPy, aR, aSz, aWd, aTk, aTn, aTt, aTj, aTs, aFl, aEl, aOt, aOk, aKd, aKt, aCal, aFd, aFt, aFc, aFp, aFh, aFx, aFy, aVl) (nI w) (nI h) :=
  Exists.intro 5 (wh_xo1 H hw hh hp 5 0 (by omega) (by have := H.1; omega))
theorem wh_yo1 (H : sr_H nc nd aSup aIns aCls aHd aCtx) {w h : Nat} (hw : w < 2 ^ nc) (hh : h ≤ 5) : ∀ (n k : Nat), k ≤ 4 → 4 - k < n → ((∀ j, k ≤ j → w.testBit j = true → aIns (8 * j + h) ≠ -1) → post (nI (mk_un aIns aCtx w h 4))) → ((∃ j, w.testBit j = true ∧ aIns (8 * j + h) = -1) → post (-1)) → wY_contexts_5 post (nI w) (nI h) (nI dl) (nI cl) (nI pl) (nI nc) (nI nd) fCK fED fEP yAt fH fO fAX fAY fLV fRS fLT ySp yDp yEn fNK yRk aSup aCpx aCpy aCr aPx aPy aR aCtx aCls aHd aSz yWd aTk aTn aTt aTs aFl aOt yVl yFx yFy yFk yFp yKl n (nI (mk_un aIns aCtx w h k)) (nI k) := by
  intro n
  induction n with
  | zero => intro k hk hn; omega
  | succ n ih =>
    intro k hk hn p1 p0
    have h4 := H.1
    have h12 := H.2.1
    have h16 := mk_16 h4 hw
    by_cases hkn : k = 4
    · subst hkn
      exact br_t (nI_le (a := 4) (b := 4) (by omega) (by omega)) (p1 (fun j hj hb => by have := mk_b hw hb; omega))
    · refine br_f (nI_ge (b := 4) (by omega) (by omega)) ?_
      have K : (w.testBit k = true → aIns (8 * k + h) ≠ -1) → wY_contexts_5 post (nI w) (nI h) (nI dl) (nI cl) (nI pl) (nI nc) (nI nd) fCK fED fEP yAt fH fO fAX fAY fLV fRS fLT ySp yDp yEn fNK yRk aSup aCpx aCpy aCr aPx aPy aR aCtx aCls aHd aSz yWd aTk aTn aTt aTs aFl aOt yVl yFx yFy yFk yFp yKl n (nI (mk_un aIns aCtx w h (k + 1))) (nI (k + 1)) := fun z =>
        ih (k + 1) (by omega) (by omega) (fun q => p1 (fun j hj hb => by
          rcases Nat.lt_or_ge k j with y | y
          · exact q j y hb
          · have : j = k := by omega
            subst this
            exact z hb)) p0
      by_cases hb : w.testBit k = true
      · refine br_t ((mk_y w h16 k (by omega)).mpr hb) (wh_yi H (by omega) (by omega) ?_)
        rcases mk_iv H (c := k) (h := h) (by omega) (by omega) with z | ⟨d, hd, e, _⟩
        · rw [z]
          exact br_f (by decide) (p0 ⟨k, hb, z⟩)
        · have K' := K (fun _ => by
            rw [e]; intro z
            have := nI_pos (n := d) (by omega)
            rw [z] at this
            exact this (by decide))
          rw [wh_uy hb e (by omega)] at K'
          rw [e]
          exact br_t (nI_pos' (by omega)) ⟨vp_in_nI (by omega) (by decide), nm_r (e' := nI (mk_un aIns aCtx w h k ||| mk_v (aCtx d))) (by rw [nI_clamp (by omega), wh_co H (mk_un_lt H (by omega) k (by omega)) hd]) (nm_r (nI_1 k) K')⟩
      · have K' := K (fun z => absurd z hb)
        rw [wh_un hb] at K'
        exact br_f (fun z => hb ((mk_y w h16 k (by omega)).mp z)) (nm_r (nI_1 k) K')
theorem wh_yo (H : sr_H nc nd aSup aIns aCls aHd aCtx) {w h : Nat} (hw : w < 2 ^ nc) (hh : h ≤ 5) (p1 : (∀ j, w.testBit j = true → aIns (8 * j + h) ≠ -1) → post (nI (mk_un aIns aCtx w h nc))) (p0 : (∃ j, w.testBit j = true ∧ aIns (8 * j + h) = -1) → post (-1)) : wpY_contexts post (nI dl, nI cl, nI pl, nI nc, nI nd, fCK, fED, fEP, yAt, fH, fO, fAX, fAY, fLV, fRS, fLT, ySp, yDp, yEn, fNK, yRk, aSup, aCpx, aCpy, aCr, aPx, aPy, aR, aCtx, aCls, aHd, aSz, yWd, aTk, aTn, aTt, aTs, aFl, aOt, yVl, yFx, yFy, yFk, yFp, yKl) (nI w) (nI h) := by
  have e := wh_ue (aIns := aIns) (aCtx := aCtx) (h := h) hw (4 - nc)
  have h4 := H.1
  rw [show nc + (4 - nc) = 4 by omega] at e
  rw [← e] at p1
  exact Exists.intro 5 (wh_yo1 H hw hh 5 0 (by omega) (by omega) (fun q => p1 (fun j => q j (Nat.zero_le _))) p0)
theorem wh_sb {w c : Nat} (hw : w < 2 ^ nc) (hc : nc ≤ 4) : (∀ k, k < 4 → w.testBit k = true → c.testBit k = true) ↔ ∀ k, w.testBit k = true → c.testBit k = true :=
  ⟨fun h k hk => h k (by have := mk_b hw hk; omega) hk, fun h k _ hk => h k hk⟩
theorem wh_x2 (H : sr_H nc nd aSup aIns aCls aHd aCtx) {m e : Nat} (hm : m < 2 ^ nc) (h1 : 1 ≤ e) (h3 : e ≤ 3) : ∀ (l : List Bool) (w i n : Nat), l.length + i ≤ 6 → l.length < n → w < 2 ^ nc → (mk_H aIns aCtx aSup m w l e → post 1) → (¬ mk_H aIns aCtx aSup m w l e → post 0) → wX_holds_9 post (nI m) (nI dl) (nI cl) (nI pl) (nI nc) (nI nd) fCK fED fEP fH fO fHP fNK fRC fTD fTT fAX fAY fRS fLV fLT fDP fEN fAN aSup aCpx aCpy aCr aIns aCls aHd aCtx aPx aPy aR aSz aWd aTk aTn aTt aTj aTs aFl aEl aOt aOk aKd aKt aCal aFd aFt aFc aFp aFh aFx aFy aVl n (nI w) (nI (ty_e l e)) (nI i) := by
  intro l
  induction l with
  | nil =>
    intro w i n hi hn hw p1 p0
    obtain ⟨k, rfl⟩ : ∃ k, n = k + 1 := ⟨n - 1, by omega⟩
    rw [List.length_nil, Nat.zero_add] at hi
    have h4 := H.1
    refine br_f (nI_ge (a := i) (b := 7) (by omega) (by decide)) ⟨ty_8, nm_r (e' := nI e) (by rw [ty_en, ty_r8 (by omega), Nat.mod_eq_of_lt (by omega)]) ?_⟩
    by_cases he : e = 3
    · subst he
      refine br_t rfl (wh_xc H hm ?_)
      have q := (mk_s w (mk_16 h4 hw) _ (mk_16 h4 (mk_cl_lt H 4 m hm))).trans (wh_sb hw h4)
      exact br_c (fun z => p1 (q.mp z)) (fun z => p0 (fun y => z (q.mpr y)))
    · refine br_f (fun z => he ((nI_eq (b := 3) (by omega) (by omega)).mp z)) (wh_hI H hw (by omega) ?_ ?_)
      · intro q
        exact br_f (by decide) (wh_xo H hw (by omega) (br_f (nI_nlt (a := 2) (b := e) (by omega) (by decide)) (p1 ((mk_Hn he).mpr q))))
      · rintro ⟨j, q1, q2⟩
        exact br_t rfl (p0 (fun z => (mk_Hn he).mp z j q1 q2))
  | cons b l ih =>
    intro w i n hi hn hw p1 p0
    obtain ⟨k, rfl⟩ : ∃ k, n = k + 1 := ⟨n - 1, by omega⟩
    rw [tx_ln] at hi hn
    have h4 := H.1
    have hb : ty_e (b :: l) e < 2 ^ 31 := by
      have := ty_e21 (l := b :: l) (e := e) (by rw [tx_ln]; omega) (by omega)
      omega
    have h45 := ty_h45 b
    refine br_f (nI_ge (a := i) (b := 7) (by omega) (by decide)) ⟨ty_8, nm_r (ty_cr hb) (br_f (fun z => ?_) (wh_hI H hw (by omega) ?_ ?_))⟩
    · have := (nI_eq (b := 3) (by omega) (by omega)).mp z
      omega
    · intro q
      refine br_f (by decide) (wh_xo H hw (by omega) (br_t (nI_lt (a := 2) (by omega) (by omega)) ⟨ty_8, nm_r (ty_cd hb) (nm_r (nI_1 i) (ih _ (i + 1) k (by omega) (by omega) (mk_un_lt H (by omega) nc h4) ?_ ?_))⟩))
      · intro z; exact p1 ((mk_Hc hw).mpr ⟨q, z⟩)
      · intro z; exact p0 (fun y => z ((mk_Hc hw).mp y).2)
    · rintro ⟨j, q1, q2⟩
      exact br_t rfl (p0 (fun z => ((mk_Hc hw).mp z).1 j q1 q2))
theorem wh_X (H : sr_H nc nd aSup aIns aCls aHd aCtx) {m e w : Nat} {l : List Bool} (hm : m < 2 ^ nc) (hw : w < 2 ^ nc) (h1 : 1 ≤ e) (h3 : e ≤ 3) (hl : l.length ≤ 6) (p1 : mk_H aIns aCtx aSup m w l e → post 1) (p0 : ¬ mk_H aIns aCtx aSup m w l e → post 0) : wpX_holds post (nI dl, nI cl, nI pl, nI nc, nI nd, fCK, fED, fEP, fH, fO, fHP, fNK, fRC, fTD, fTT, fAX, fAY, fRS, fLV, fLT, fDP, fEN, fAN, aSup, aCpx, aCpy, aCr, aIns, aCls, aHd, aCtx, aPx, aPy, aR, aSz, aWd, aTk, aTn, aTt, aTj, aTs, aFl, aEl, aOt, aOk, aKd, aKt, aCal, aFd, aFt, aFc, aFp, aFh, aFx, aFy, aVl) (nI m) (nI w) (nI (ty_e l e)) :=
  Exists.intro 8 (wh_x2 H hm h1 h3 l w 0 8 (by omega) (by omega) hw p1 p0)
theorem wh_y2 (H : sr_H nc nd aSup aIns aCls aHd aCtx) {m e : Nat} (hm : m < 2 ^ nc) (h1 : 1 ≤ e) (h3 : e ≤ 3) : ∀ (l : List Bool) (w i n : Nat), l.length + i ≤ 6 → l.length < n → w < 2 ^ nc → (mk_H aIns aCtx aSup m w l e → post 1) → (¬ mk_H aIns aCtx aSup m w l e → post 0) → wY_holds_9 post (nI m) (nI dl) (nI cl) (nI pl) (nI nc) (nI nd) fCK fED fEP yAt fH fO fAX fAY fLV fRS fLT ySp yDp yEn fNK yRk aSup aCpx aCpy aCr aPx aPy aR aCtx aCls aHd aSz yWd aTk aTn aTt aTs aFl aOt yVl yFx yFy yFk yFp yKl n (nI w) (nI (ty_e l e)) (nI i) := by
  intro l
  induction l with
  | nil =>
    intro w i n hi hn hw p1 p0
    obtain ⟨k, rfl⟩ : ∃ k, n = k + 1 := ⟨n - 1, by omega⟩
    rw [List.length_nil, Nat.zero_add] at hi
    have h4 := H.1
    refine br_f (nI_ge (a := i) (b := 7) (by omega) (by decide)) ?_
    by_cases he : e = 3
    · subst he
      refine br_t rfl (wh_yc H hm ?_)
      have q := (mk_t w (mk_16 h4 hw) _ (mk_16 h4 (mk_cl_lt H 4 m hm))).trans (wh_sb hw h4)
      exact br_c (fun z => p1 (q.mp z)) (fun z => p0 (fun y => z (q.mpr y)))
    · refine br_f (fun z => he ((nI_eq (b := 3) (by omega) (by omega)).mp z)) ⟨ty_8, ?_⟩
      rw [ty_en, ty_r8 (by omega), Nat.mod_eq_of_lt (show e < 8 by omega)]
      refine wh_yo H hw (by omega) ?_ ?_
      · intro q
        have := mk_un_lt H (m := w) (h := e) (by omega) nc h4
        have := mk_16 h4 this
        exact br_t (nI_pos' (by omega)) (br_f (nI_nlt (a := 2) (b := e) (by omega) (by decide)) (p1 ((mk_Hn he).mpr q)))
      · rintro ⟨j, q1, q2⟩
        exact br_f (by decide) (p0 (fun z => (mk_Hn he).mp z j q1 q2))
  | cons b l ih =>
    intro w i n hi hn hw p1 p0
    obtain ⟨k, rfl⟩ : ∃ k, n = k + 1 := ⟨n - 1, by omega⟩
    rw [tx_ln] at hi hn
    have h4 := H.1
    have hb : ty_e (b :: l) e < 2 ^ 31 := by
      have := ty_e21 (l := b :: l) (e := e) (by rw [tx_ln]; omega) (by omega)
      omega
    have h45 := ty_h45 b
    have c4 := ty_c4 b l e
    refine br_f (nI_ge (a := i) (b := 7) (by omega) (by decide)) (br_f (fun z => ?_) ⟨ty_8, ?_⟩)
    · have := (nI_eq (b := 3) hb (by omega)).mp z
      omega
    · rw [ty_cr hb]
      have U := mk_un_lt H (m := w) (h := ty_h b) (by omega) nc h4
      have U6 := mk_16 h4 U
      refine wh_yo H hw (by omega) ?_ ?_
      · intro q
        refine br_t (nI_pos' (by omega)) (br_t (nI_lt (a := 2) (by omega) hb) ⟨ty_8, nm_r (ty_cd hb) (nm_r (nI_1 i) (ih _ (i + 1) k (by omega) (by omega) U ?_ ?_))⟩)
        · intro z; exact p1 ((mk_Hc hw).mpr ⟨q, z⟩)
        · intro z; exact p0 (fun y => z ((mk_Hc hw).mp y).2)
      · rintro ⟨j, q1, q2⟩
        exact br_f (by decide) (p0 (fun z => ((mk_Hc hw).mp z).1 j q1 q2))
theorem wh_Y (H : sr_H nc nd aSup aIns aCls aHd aCtx) {m e w : Nat} {l : List Bool} (hm : m < 2 ^ nc) (hw : w < 2 ^ nc) (h1 : 1 ≤ e) (h3 : e ≤ 3) (hl : l.length ≤ 6) (p1 : mk_H aIns aCtx aSup m w l e → post 1) (p0 : ¬ mk_H aIns aCtx aSup m w l e → post 0) : wpY_holds post (nI dl, nI cl, nI pl, nI nc, nI nd, fCK, fED, fEP, yAt, fH, fO, fAX, fAY, fLV, fRS, fLT, ySp, yDp, yEn, fNK, yRk, aSup, aCpx, aCpy, aCr, aPx, aPy, aR, aCtx, aCls, aHd, aSz, yWd, aTk, aTn, aTt, aTs, aFl, aOt, yVl, yFx, yFy, yFk, yFp, yKl) (nI m) (nI w) (nI (ty_e l e)) :=
  Exists.intro 8 (wh_y2 H hm h1 h3 l w 0 8 (by omega) (by omega) hw p1 p0)
end
end
section
/-! 06: the source's facts, and that every change keeps them -/
def sr_o (h : Nat) : Nat := if h ≤ 2 then h else h + 24
theorem sr_o1 {h : Nat} (hh : h ≤ 2) : sr_o h = h := if_pos hh
theorem sr_o2 (b : Bool) : sr_o (ty_h b) = ty_e [b] 3 := by cases b <;> rfl
/-- q is p{own h} -/
def sr_O (h : Nat) (p q : Int32) : Prop := ∃ (l : List Bool) (e : Nat), 1 ≤ e ∧ e ≤ 3 ∧ l.length ≤ 5 ∧ p = nI (ty_e l e) ∧ q = nI (ty_e l (ty_s e (sr_o h)))
def sr_Q (nc : Nat) (aCpx aCpy aCr : Nat → Int32) : Prop := ∀ c, c < nc → ty_T 5 (aCpx c) ∧ ty_T 5 (aCpy c) ∧ ty_T 5 (aCr c)
def sr_P (nc nd : Nat) (aCpx aCpy aCr aCls aHd aPx aPy aR : Nat → Int32) : Prop := ∀ d, d < nd → (ty_T 6 (aPx d) ∧ ty_T 6 (aPy d) ∧ ty_T 6 (aR d)) ∧ ∀ c h, c < nc → h < 8 → aCls d = nI c → aHd d = nI h → sr_O h (aCpx c) (aPx d) ∧ sr_O h (aCpy c) (aPy d) ∧ sr_O h (aCr c) (aR d)
def sr_t (aTk aTn : Nat → Int32) (p : Nat) : Prop := ∃ k, k ≤ 18 ∧ aTk p = nI k ∧ (k = 0 → ∃ x, x < 256 ∧ aTn p = nI x) ∧ (k = 1 → ∃ x, x < 2 ∧ aTn p = nI x)
def sr_T (nd : Nat) (aSz aTk aTn : Nat → Int32) : Prop := ∀ d, d < nd → ∃ n, n ≤ 20 ∧ aSz d = nI n ∧ ∀ i, i < n → sr_t aTk aTn (20 * d + i)
def sr (nc : Nat) (nd : Nat) (aSup : Nat → Int32) (aCpx : Nat → Int32) (aCpy : Nat → Int32) (aCr : Nat → Int32) (aIns : Nat → Int32) (aCls : Nat → Int32) (aHd : Nat → Int32) (aCtx : Nat → Int32) (aPx : Nat → Int32) (aPy : Nat → Int32) (aR : Nat → Int32) (aSz : Nat → Int32) (aTk : Nat → Int32) (aTn : Nat → Int32) : Prop := (sr_H nc nd aSup aIns aCls aHd aCtx) ∧ sr_Q nc aCpx aCpy aCr ∧ sr_P nc nd aCpx aCpy aCr aCls aHd aPx aPy aR ∧ sr_T nd aSz aTk aTn
section
variable {nc nd : Nat} {aSup aCpx aCpy aCr aIns aCls aHd aCtx aPx aPy aR aSz aTk aTn : Nat → Int32}
theorem sr_ne {n : Nat} (h : n < 2 ^ 31) : ¬ nI n = -1 := by
  intro e
  have := nI_pos (n := n) h
  rw [e] at this
  exact this (by decide)
theorem sr_pw {a b : Nat} (h : a ≤ b) : 2 ^ a ≤ 2 ^ b := Nat.pow_le_pow_right (by decide) h
/-- nothing there -/
theorem sr_0 (hI : ∀ c h, c < 4 → h < 8 → aIns (8 * c + h) = -1) : (sr 0 0 aSup aCpx aCpy aCr aIns aCls aHd aCtx aPx aPy aR aSz aTk aTn) :=
  ⟨⟨by omega, by omega, fun c h => absurd h (by omega), fun c h hc hh => Or.inl (hI c h hc hh), fun d h => absurd h (by omega), fun d h => absurd h (by omega)⟩, fun c h => absurd h (by omega), fun d h => absurd h (by omega), fun d h => absurd h (by omega)⟩
theorem sr_cl (S : (sr nc nd aSup aCpx aCpy aCr aIns aCls aHd aCtx aPx aPy aR aSz aTk aTn)) {m : Nat} {px py r : Int32} (hn : nc < 4) (hm : m < 2 ^ nc) (h1 : ty_T 5 px) (h2 : ty_T 5 py) (h3 : ty_T 5 r) : (sr (nc + 1) nd (upd aSup nc (nI m)) (upd aCpx nc px) (upd aCpy nc py) (upd aCr nc r) aIns aCls aHd aCtx aPx aPy aR aSz aTk aTn) := by
  obtain ⟨⟨a1, a2, a3, a4, a5, a6⟩, b, c, d⟩ := S
  refine ⟨⟨by omega, a2, ?_, a4, ?_, ?_⟩, ?_, ?_, d⟩
  · intro x hx
    by_cases e : x = nc
    · subst e
      exact ⟨m, hm, pk_us⟩
    · rw [pk_un e]
      exact a3 x (by omega)
  · intro x hx
    rcases a5 x hx with z | ⟨p, q, z1, z2⟩
    · exact Or.inl z
    · exact Or.inr ⟨p, q, by omega, z2⟩
  · intro x hx
    obtain ⟨w, hw, e⟩ := a6 x hx
    exact ⟨w, Nat.lt_of_lt_of_le hw (sr_pw (by omega)), e⟩
  · intro x hx
    by_cases e : x = nc
    · subst e
      rw [pk_us, pk_us, pk_us]
      exact ⟨h1, h2, h3⟩
    · rw [pk_un e, pk_un e, pk_un e]
      exact b x (by omega)
  · intro x hx
    refine ⟨(c x hx).1, fun p q hp hq e1 e2 => ?_⟩
    by_cases e : p = nc
    · subst e
      rcases a5 x hx with z | ⟨p', q', z1, _, z3, _⟩
      · rw [z.1] at e1
        exact absurd e1.symm (sr_ne (by omega))
      · have := (nI_eq (by omega) (by omega)).mp (z3.symm.trans e1)
        omega
    · rw [pk_un e, pk_un e, pk_un e]
      exact (c x hx).2 p q (by omega) hq e1 e2
theorem sr_fn (S : (sr nc nd aSup aCpx aCpy aCr aIns aCls aHd aCtx aPx aPy aR aSz aTk aTn)) {m : Nat} {px py r : Int32} (hn : nd < 12) (hm : m < 2 ^ nc) (h1 : ty_T 6 px) (h2 : ty_T 6 py) (h3 : ty_T 6 r) : (sr nc (nd + 1) aSup aCpx aCpy aCr aIns (upd aCls nd (-1)) (upd aHd nd (-1)) (upd aCtx nd (nI m)) (upd aPx nd px) (upd aPy nd py) (upd aR nd r) (upd aSz nd 0) aTk aTn) := by
  obtain ⟨⟨a1, a2, a3, a4, a5, a6⟩, b, c, d⟩ := S
  refine ⟨⟨a1, by omega, a3, ?_, ?_, ?_⟩, b, ?_, ?_⟩
  · intro x y hx hy
    rcases a4 x y hx hy with z | ⟨q, z1, z2, z3, z4⟩
    · exact Or.inl z
    · have e : q ≠ nd := by omega
      exact Or.inr ⟨q, by omega, z2, by rw [pk_un e]; exact z3, by rw [pk_un e]; exact z4⟩
  · intro x hx
    by_cases e : x = nd
    · subst e
      exact Or.inl ⟨pk_us, pk_us⟩
    · rw [pk_un e, pk_un e, pk_un e]
      exact a5 x (by omega)
  · intro x hx
    by_cases e : x = nd
    · subst e
      exact ⟨m, hm, pk_us⟩
    · rw [pk_un e]
      exact a6 x (by omega)
  · intro x hx
    by_cases e : x = nd
    · subst e
      rw [pk_us, pk_us, pk_us, pk_us, pk_us]
      exact ⟨⟨h1, h2, h3⟩, fun p q hp hq e1 e2 => absurd e1.symm (sr_ne (by omega))⟩
    · rw [pk_un e, pk_un e, pk_un e, pk_un e, pk_un e]
      exact c x (by omega)
  · intro x hx
    by_cases e : x = nd
    · subst e
      exact ⟨0, by omega, pk_us, fun i hi => absurd hi (by omega)⟩
    · rw [pk_un e]
      exact d x (by omega)
theorem sr_is (S : (sr nc nd aSup aCpx aCpy aCr aIns aCls aHd aCtx aPx aPy aR aSz aTk aTn)) {m p q : Nat} {px py r : Int32} (hn : nd < 12) (hm : m < 2 ^ nc) (h1 : ty_T 6 px) (h2 : ty_T 6 py) (h3 : ty_T 6 r) (hp : p < nc) (hq : q = 1 ∨ q = 2 ∨ q = 4 ∨ q = 5) (hz : q ≤ 2 → m = 0) (hi : aIns (8 * p + q) = -1) (o1 : sr_O q (aCpx p) px) (o2 : sr_O q (aCpy p) py) (o3 : sr_O q (aCr p) r) : (sr nc (nd + 1) aSup aCpx aCpy aCr (upd aIns (8 * p + q) (nI nd)) (upd aCls nd (nI p)) (upd aHd nd (nI q)) (upd aCtx nd (nI m)) (upd aPx nd px) (upd aPy nd py) (upd aR nd r) (upd aSz nd 0) aTk aTn) := by
  obtain ⟨⟨a1, a2, a3, a4, a5, a6⟩, b, c, d⟩ := S
  refine ⟨⟨a1, by omega, a3, ?_, ?_, ?_⟩, b, ?_, ?_⟩
  · intro x y hx hy
    by_cases e : 8 * x + y = 8 * p + q
    · have e1 : x = p := by omega
      have e2 : y = q := by omega
      subst e1 e2
      exact Or.inr ⟨nd, by omega, pk_us, pk_us, pk_us⟩
    · rw [pk_un e]
      rcases a4 x y hx hy with z | ⟨q, z1, z2, z3, z4⟩
      · exact Or.inl z
      · have e : q ≠ nd := by omega
        exact Or.inr ⟨q, by omega, z2, by rw [pk_un e]; exact z3, by rw [pk_un e]; exact z4⟩
  · intro x hx
    by_cases e : x = nd
    · subst e
      rw [pk_us, pk_us, pk_us]
      exact Or.inr ⟨p, q, hp, hq, rfl, rfl, pk_us, fun z => by rw [hz z]; rfl⟩
    · rw [pk_un e, pk_un e, pk_un e]
      rcases a5 x (by omega) with z | ⟨p', q', z1, z2, z3, z4, z5, z6⟩
      · exact Or.inl z
      · refine Or.inr ⟨p', q', z1, z2, z3, z4, ?_, z6⟩
        rw [pk_un]
        · exact z5
        · intro y
          rw [y, hi] at z5
          exact absurd z5.symm (sr_ne (by omega))
  · intro x hx
    by_cases e : x = nd
    · subst e
      exact ⟨m, hm, pk_us⟩
    · rw [pk_un e]
      exact a6 x (by omega)
  · intro x hx
    by_cases e : x = nd
    · subst e
      rw [pk_us, pk_us, pk_us, pk_us, pk_us]
      refine ⟨⟨h1, h2, h3⟩, fun p' q' hp hq' e1 e2 => ?_⟩
      have r1 : p = p' := (nI_eq (by omega) (by omega)).mp e1
      have r2 : q = q' := (nI_eq (by omega) (by omega)).mp e2
      subst r1 r2
      exact ⟨o1, o2, o3⟩
    · rw [pk_un e, pk_un e, pk_un e, pk_un e, pk_un e]
      exact c x (by omega)
  · intro x hx
    by_cases e : x = nd
    · subst e
      exact ⟨0, by omega, pk_us, fun i hi => absurd hi (by omega)⟩
    · rw [pk_un e]
      exact d x (by omega)
theorem sr_tk (S : (sr nc nd aSup aCpx aCpy aCr aIns aCls aHd aCtx aPx aPy aR aSz aTk aTn)) {x n k : Nat} {N : Int32} (hx : x < nd) (he : aSz x = nI n) (hn : n < 20) (hk : k ≤ 18) (z0 : k = 0 → ∃ x, x < 256 ∧ N = nI x) (z1 : k = 1 → ∃ x, x < 2 ∧ N = nI x) : (sr nc nd aSup aCpx aCpy aCr aIns aCls aHd aCtx aPx aPy aR (upd aSz x (nI (n + 1))) (upd aTk (20 * x + n) (nI k)) (upd aTn (20 * x + n) N)) := by
  obtain ⟨a, b, c, d⟩ := S
  refine ⟨a, b, c, ?_⟩
  intro y hy
  obtain ⟨n', q1, q2, q3⟩ := d y hy
  by_cases e : y = x
  · subst e
    rw [pk_us]
    refine ⟨n + 1, by omega, rfl, fun i hi => ?_⟩
    have r : n' = n := (nI_eq (by omega) (by omega)).mp (q2.symm.trans he)
    subst r
    by_cases f : i = n'
    · subst f
      unfold sr_t
      rw [pk_us, pk_us]
      exact ⟨k, hk, rfl, z0, z1⟩
    · unfold sr_t
      rw [pk_un (by omega), pk_un (by omega)]
      exact q3 i (by omega)
  · rw [pk_un e]
    refine ⟨n', q1, q2, fun i hi => ?_⟩
    unfold sr_t
    rw [pk_un (by omega), pk_un (by omega)]
    exact q3 i hi
theorem sr_dt (S : (sr nc nd aSup aCpx aCpy aCr aIns aCls aHd aCtx aPx aPy aR aSz aTk aTn)) {x n : Nat} (hx : x < nd) (he : aSz x = nI (n + 1)) (hn : n < 20) : (sr nc nd aSup aCpx aCpy aCr aIns aCls aHd aCtx aPx aPy aR (upd aSz x (nI n)) aTk aTn) := by
  obtain ⟨a, b, c, d⟩ := S
  refine ⟨a, b, c, ?_⟩
  intro y hy
  obtain ⟨n', q1, q2, q3⟩ := d y hy
  by_cases e : y = x
  · subst e
    rw [pk_us]
    have r : n' = n + 1 := (nI_eq (by omega) (by omega)).mp (q2.symm.trans he)
    exact ⟨n, by omega, rfl, fun i hi => q3 i (by omega)⟩
  · rw [pk_un e]
    exact ⟨n', q1, q2, q3⟩
end
end
section
/-! 07: what check establishes (WT), keys, the relation -/
/-- a definition with no variable of its own -/
def wt_c (aHd : Nat → Int32) (d : Nat) : Prop := aHd d = 1 ∨ aHd d = 2
/-- a type that may stand in d, of at most w + 1 symbols if it has the variable -/
def wt_t (aHd : Nat → Int32) (d w : Nat) (t : Int32) : Prop := ∃ (l : List Bool) (e : Nat), 1 ≤ e ∧ e ≤ 3 ∧ l.length ≤ 6 ∧ (e = 3 → l.length ≤ w ∧ ¬ wt_c aHd d) ∧ t = nI (ty_e l e)
/-- b is px{lt et}, of at most 7 symbols -/
def wt_a (px : Int32) (lt : List Bool) (et : Nat) (b : Int32) : Prop := ∃ (l : List Bool) (e : Nat), 1 ≤ e ∧ e ≤ 3 ∧ l.length ≤ 6 ∧ px = nI (ty_e l e) ∧ (e = 3 → l.length + lt.length ≤ 6) ∧ b = nI (ty_e l (ty_s e (ty_e lt et)))
/-- a CALL of n at T, a METHOD of class n at T: takes b, a, gives t -/
def wt_C (nd : Nat) (aSup aIns aCls aHd aCtx aPx aPy aR : Nat → Int32) (d : Nat) (N T b a t : Int32) : Prop := ∃ (n : Nat) (lt : List Bool) (et : Nat), n < nd ∧ N = nI n ∧ aCls n = -1 ∧ 1 ≤ et ∧ et ≤ 3 ∧ lt.length ≤ 6 ∧ T = nI (ty_e lt et) ∧ (et = 3 → ¬ wt_c aHd d) ∧ mk_H aIns aCtx aSup (mk_v (aCtx d)) (mk_v (aCtx n)) lt et ∧ wt_a (aPx n) lt et b ∧ wt_a (aPy n) lt et a ∧ wt_a (aR n) lt et t
def wt_M (nc : Nat) (aSup aIns aHd aCtx aCpx aCpy aCr : Nat → Int32) (d : Nat) (N T b a t : Int32) : Prop := ∃ (n : Nat) (lt : List Bool) (et : Nat), n < nc ∧ N = nI n ∧ 1 ≤ et ∧ et ≤ 3 ∧ lt.length ≤ 6 ∧ T = nI (ty_e lt et) ∧ (et = 3 → ¬ wt_c aHd d) ∧ mk_h aIns aCtx aSup (mk_v (aCtx d)) lt et n ∧ wt_a (aCpx n) lt et b ∧ wt_a (aCpy n) lt et a ∧ wt_a (aCr n) lt et t
/-- a token k that only puts: it takes p types, b below a on top, and puts t -/
def wt_K (nc nd : Nat) (aSup aCpx aCpy aCr aIns aCls aHd aCtx aPx aPy aR : Nat → Int32) (d k : Nat) (N T : Int32) (p : Nat) (b a t : Int32) : Prop :=
  (k = 0 ∧ p = 0 ∧ t = 1) ∨ (k = 1 ∧ p = 0 ∧ t = 2) ∨ (k = 2 ∧ p = 0 ∧ t = aPx d) ∨ (k = 3 ∧ p = 0 ∧ t = aPy d) ∨
  (4 ≤ k ∧ k ≤ 6 ∧ p = 2 ∧ b = 1 ∧ a = 1 ∧ t = 1) ∨ (7 ≤ k ∧ k ≤ 8 ∧ p = 2 ∧ b = 1 ∧ a = 1 ∧ t = 2) ∨
  (k = 9 ∧ p = 1 ∧ ∃ (l : List Bool) (e : Nat), 1 ≤ e ∧ e ≤ 3 ∧ l.length ≤ 5 ∧ a = nI (ty_e l e) ∧ t = nI (ty_e (false :: l) e)) ∨
  (k = 10 ∧ p = 1 ∧ ∃ (l : List Bool) (e : Nat), 1 ≤ e ∧ e ≤ 3 ∧ l.length ≤ 5 ∧ a = nI (ty_e (false :: l) e) ∧ t = nI (ty_e l e)) ∨
  (k = 11 ∧ p = 2 ∧ b = 1 ∧ ∃ (l : List Bool) (e : Nat), 1 ≤ e ∧ e ≤ 3 ∧ l.length ≤ 5 ∧ a = nI (ty_e l e) ∧ t = nI (ty_e (true :: l) e)) ∨
  (k = 12 ∧ p = 1 ∧ t = 1 ∧ ∃ (l : List Bool) (e : Nat), 1 ≤ e ∧ e ≤ 3 ∧ l.length ≤ 5 ∧ a = nI (ty_e (true :: l) e)) ∨
  (k = 13 ∧ p = 1 ∧ ∃ (l : List Bool) (e : Nat), 1 ≤ e ∧ e ≤ 3 ∧ l.length ≤ 5 ∧ a = nI (ty_e (true :: l) e) ∧ t = nI (ty_e l e)) ∨
  (k = 17 ∧ p = 2 ∧ wt_C nd aSup aIns aCls aHd aCtx aPx aPy aR d N T b a t) ∨
  (k = 18 ∧ p = 2 ∧ wt_M nc aSup aIns aHd aCtx aCpx aCpy aCr d N T b a t)
/-- the kind of token q of d -/
def wt_k (aTk : Nat → Int32) (d q : Nat) : Nat := mk_v (aTk (20 * d + q))
/-- one step of check over the ghosts: heights Ht, types Ty, open conditionals Op at each place -/
def wt_q (nc nd : Nat) (aSup aCpx aCpy aCr aIns aCls aHd aCtx aPx aPy aR aTk aTn aTt : Nat → Int32) (d : Nat) (Ht : Nat → Nat) (Ty : Nat → Nat → Int32) (Op : Nat → Nat) (q : Nat) : Prop :=
  (wt_k aTk d q ≠ 14 → wt_k aTk d q ≠ 15 → wt_k aTk d q ≠ 16 → ∃ (p : Nat) (t : Int32), p ≤ Ht q ∧ Ht (q + 1) + p = Ht q + 1 ∧ wt_K nc nd aSup aCpx aCpy aCr aIns aCls aHd aCtx aPx aPy aR d (wt_k aTk d q) (aTn (20 * d + q)) (aTt (20 * d + q)) p (Ty q (Ht q - 2)) (Ty q (Ht q - 1)) t ∧ Ty (q + 1) (Ht q - p) = t ∧ (∀ j, j < Ht q - p → Ty (q + 1) j = Ty q j) ∧ Op (q + 1) = Op q) ∧
  (wt_k aTk d q = 14 → Ht q = Ht (q + 1) + 1 ∧ Ty q (Ht (q + 1)) = 2 ∧ (∀ j, j < Ht (q + 1) → Ty (q + 1) j = Ty q j) ∧ Op (q + 1) = Op q + 1) ∧
  (wt_k aTk d q = 15 → 1 ≤ Ht q ∧ Op (q + 1) = Op q) ∧
  (wt_k aTk d q = 16 → Ht (q + 1) = Ht q ∧ (∀ j, j < Ht q → Ty (q + 1) j = Ty q j) ∧ Op q = Op (q + 1) + 1)
def wt_R (nc nd : Nat) (aSup aCpx aCpy aCr aIns aCls aHd aCtx aPx aPy aR aTk aTn aTt : Nat → Int32) (d w i : Nat) (Ht : Nat → Nat) (Ty : Nat → Nat → Int32) (Op : Nat → Nat) : Prop :=
  Ht 0 = 0 ∧ Op 0 = 0 ∧ (∀ q, q < i → wt_q nc nd aSup aCpx aCpy aCr aIns aCls aHd aCtx aPx aPy aR aTk aTn aTt d Ht Ty Op q) ∧
  (∀ q, q ≤ i → Ht q ≤ 8 ∧ ∀ j, j < Ht q → wt_t aHd d w (Ty q j)) ∧ (∀ q, q < i → 17 ≤ wt_k aTk d q → wt_t aHd d w (aTt (20 * d + q)))
/-- J is the place of the token z that belongs to the one at q -/
def wt_p (aTk : Nat → Int32) (d : Nat) (Op : Nat → Nat) (q z J : Nat) : Prop := q < J ∧ wt_k aTk d J = z ∧ Op J = Op (q + 1) ∧ ∀ j, q < j → j < J → Op (q + 1) ≤ Op j ∧ ¬ (wt_k aTk d j = z ∧ Op j = Op (q + 1))
/-- the jump of the IF or ELSE at q, below i -/
def wt_J (aTk aTj : Nat → Int32) (d i : Nat) (Ht : Nat → Nat) (Ty : Nat → Nat → Int32) (Op : Nat → Nat) (q : Nat) : Prop :=
  (wt_k aTk d q = 14 → ∃ J, J < i ∧ aTj (20 * d + q) = nI (J + 1) ∧ Ht (J + 1) + 1 = Ht q ∧ (∀ j, j < Ht (J + 1) → Ty (J + 1) j = Ty q j) ∧ wt_p aTk d Op q 15 J) ∧
  (wt_k aTk d q = 15 → ∃ J, J < i ∧ aTj (20 * d + q) = nI (J + 1) ∧ Ht (J + 1) = Ht q ∧ (∀ j, j < Ht (J + 1) → Ty (J + 1) j = Ty q j) ∧ wt_p aTk d Op q 16 J)
def wt_W (nc nd : Nat) (aSup aCpx aCpy aCr aIns aCls aHd aCtx aPx aPy aR aSz aTk aTn aTt aTj : Nat → Int32) (d w : Nat) : Prop := ∃ (Ht : Nat → Nat) (Ty : Nat → Nat → Int32) (Op : Nat → Nat),
  wt_R nc nd aSup aCpx aCpy aCr aIns aCls aHd aCtx aPx aPy aR aTk aTn aTt d w (mk_v (aSz d)) Ht Ty Op ∧ (∀ q, q < mk_v (aSz d) → wt_J aTk aTj d (mk_v (aSz d)) Ht Ty Op q) ∧ Ht (mk_v (aSz d)) = 1 ∧ Ty (mk_v (aSz d)) 0 = aR d ∧ wt_t aHd d w (aPx d) ∧ wt_t aHd d w (aPy d) ∧ wt_t aHd d w (aR d)
/-- all definitions are checked -/
def ck (nc : Nat) (nd : Nat) (aSup : Nat → Int32) (aCpx : Nat → Int32) (aCpy : Nat → Int32) (aCr : Nat → Int32) (aIns : Nat → Int32) (aCls : Nat → Int32) (aHd : Nat → Int32) (aCtx : Nat → Int32) (aPx : Nat → Int32) (aPy : Nat → Int32) (aR : Nat → Int32) (aSz : Nat → Int32) (aWd : Nat → Int32) (yWd : Nat → Int32) (aTk : Nat → Int32) (aTn : Nat → Int32) (aTt : Nat → Int32) (aTj : Nat → Int32) : Prop := mk_S nc nd aSup aIns aCls aHd aCtx ∧ ∀ d, d < nd → ∃ w, w ≤ 6 ∧ aWd d = nI w ∧ yWd d = nI w ∧ wt_W nc nd aSup aCpx aCpy aCr aIns aCls aHd aCtx aPx aPy aR aSz aTk aTn aTt aTj d w
/-- the type argument ls es of a key of d -/
def kq_k (aSup aIns aHd aCtx : Nat → Int32) (d : Nat) (ls : List Bool) (es : Nat) : Prop := (wt_c aHd d ∧ ls = [] ∧ es = 0) ∨ (¬ wt_c aHd d ∧ 1 ≤ es ∧ es ≤ 2 ∧ ls.length ≤ 6 ∧ mk_H aIns aCtx aSup 0 (mk_v (aCtx d)) ls es)
def kq_K (nd : Nat) (aSup aIns aHd aCtx : Nat → Int32) (d s : Nat) : Prop := d < nd ∧ ∃ (ls : List Bool) (es : Nat), s = ty_e ls es ∧ kq_k aSup aIns aHd aCtx d ls es
/-- the symbols of a type argument -/
def kq_n : Nat → Nat → Nat
  | 0, _ => 0
  | n + 1, s => if s = 0 then 0 else if s < 8 then 1 else 1 + kq_n n (s / 8)
/-- the target of token q of the key (d, s) -/
def kq_u (aTt : Nat → Int32) (d s q : Nat) : Nat := ty_b 7 (mk_v (aTt (20 * d + q))) s
def kq_t (aIns aTk aTn aTt : Nat → Int32) (d s q : Nat) : Nat × Nat := if wt_k aTk d q = 17 then (mk_v (aTn (20 * d + q)), kq_u aTt d s q) else (mk_v (aIns (8 * mk_v (aTn (20 * d + q)) + kq_u aTt d s q % 8)), kq_u aTt d s q / 8)
/-- the specialised program -/
def pg (cl : Nat) (nc : Nat) (nd : Nat) (aSup : Nat → Int32) (aCpx : Nat → Int32) (aCpy : Nat → Int32) (aCr : Nat → Int32) (aIns : Nat → Int32) (aCls : Nat → Int32) (aHd : Nat → Int32) (aCtx : Nat → Int32) (aPx : Nat → Int32) (aPy : Nat → Int32) (aR : Nat → Int32) (aSz : Nat → Int32) (aWd : Nat → Int32) (aTk : Nat → Int32) (aTn : Nat → Int32) (aTt : Nat → Int32) (fNK : Int32) (fRC : Int32) (yRk : Int32) (aKd : Nat → Int32) (aKt : Nat → Int32) (aCal : Nat → Int32) (yKl : Nat → Int32) : Prop := ∃ nk rk, nk ≤ cl ∧ rk < nk ∧ fNK = nI nk ∧ fRC = nI rk ∧ yRk = nI (mk_v (aKd rk) * 2097152 + mk_v (aKt rk)) ∧ aCls (mk_v (aKd rk)) = -1 ∧
  (∀ k, k < nk → aKd k = nI (mk_v (aKd k)) ∧ aKt k = nI (mk_v (aKt k)) ∧ yKl k = nI (mk_v (aKd k) * 2097152 + mk_v (aKt k)) ∧ kq_K nd aSup aIns aHd aCtx (mk_v (aKd k)) (mk_v (aKt k)) ∧ mk_v (aWd (mk_v (aKd k))) + kq_n 7 (mk_v (aKt k)) ≤ 7) ∧
  (∀ j k, j < nk → k < nk → mk_v (aKd j) = mk_v (aKd k) → mk_v (aKt j) = mk_v (aKt k) → j = k) ∧
  (∀ k i, k < nk → i < mk_v (aSz (mk_v (aKd k))) → (wt_k aTk (mk_v (aKd k)) i < 17 → aCal (20 * k + i) = -1) ∧ (17 ≤ wt_k aTk (mk_v (aKd k)) i → ∃ j, j < nk ∧ aCal (20 * k + i) = nI j ∧ (mk_v (aKd j), mk_v (aKt j)) = kq_t aIns aTk aTn aTt (mk_v (aKd k)) (mk_v (aKt k)) i))
def rl_L (dl cl pl nd : Nat) : Prop := 4 ≤ dl ∧ dl ≤ 12 ∧ 1 ≤ cl ∧ cl ≤ 24 ∧ 2 ≤ pl ∧ pl ≤ 16 ∧ nd ≤ dl
def rl (dl : Nat) (cl : Nat) (pl : Nat) (nc : Nat) (nd : Nat) (fCK : Int32) (fHP : Int32) (fNK : Int32) (fRC : Int32) (yRk : Int32) (aSup : Nat → Int32) (aCpx : Nat → Int32) (aCpy : Nat → Int32) (aCr : Nat → Int32) (aIns : Nat → Int32) (aCls : Nat → Int32) (aHd : Nat → Int32) (aCtx : Nat → Int32) (aPx : Nat → Int32) (aPy : Nat → Int32) (aR : Nat → Int32) (aSz : Nat → Int32) (aWd : Nat → Int32) (aTk : Nat → Int32) (aTn : Nat → Int32) (aTt : Nat → Int32) (aTj : Nat → Int32) (aKd : Nat → Int32) (aKt : Nat → Int32) (aCal : Nat → Int32) (yWd : Nat → Int32) (yKl : Nat → Int32) : Prop := rl_L dl cl pl nd ∧ (sr nc nd aSup aCpx aCpy aCr aIns aCls aHd aCtx aPx aPy aR aSz aTk aTn) ∧ (fCK = 0 ∨ fCK = 1) ∧ (fCK = 1 → (ck nc nd aSup aCpx aCpy aCr aIns aCls aHd aCtx aPx aPy aR aSz aWd yWd aTk aTn aTt aTj)) ∧ ((fHP = 0 ∧ fNK = 0) ∨ (fHP = 1 ∧ fCK = 1 ∧ (pg cl nc nd aSup aCpx aCpy aCr aIns aCls aHd aCtx aPx aPy aR aSz aWd aTk aTn aTt fNK fRC yRk aKd aKt aCal yKl)))
def i_Rel (_ : Nat) (u : SX) (v : SY) : Prop := ∃ (dl cl pl nc nd : Nat) (fCK fED fEP fH fO fHP fNK fRC fTD fTT : Int32) (fAX fAY : Int64) (fRS : Int32) (fLV : Int64) (fLT fDP fEN : Int32) (fAN : Int64) (aSup aCpx aCpy aCr aIns aCls aHd aCtx aPx aPy aR aSz aWd aTk aTn aTt aTj aTs aFl aEl aOt aOk aKd aKt aCal aFd aFt aFc aFp aFh : Nat → Int32) (aFx aFy aVl : Nat → Int64) (yAt ySp yDp yEn yRk : Int32) (yWd : Nat → Int32) (yVl yFx yFy : Nat → Int64) (yFk yFp yKl : Nat → Int32), u = (nI dl, nI cl, nI pl, nI nc, nI nd, fCK, fED, fEP, fH, fO, fHP, fNK, fRC, fTD, fTT, fAX, fAY, fRS, fLV, fLT, fDP, fEN, fAN, aSup, aCpx, aCpy, aCr, aIns, aCls, aHd, aCtx, aPx, aPy, aR, aSz, aWd, aTk, aTn, aTt, aTj, aTs, aFl, aEl, aOt, aOk, aKd, aKt, aCal, aFd, aFt, aFc, aFp, aFh, aFx, aFy, aVl) ∧ v = (nI dl, nI cl, nI pl, nI nc, nI nd, fCK, fED, fEP, yAt, fH, fO, fAX, fAY, fLV, fRS, fLT, ySp, yDp, yEn, fNK, yRk, aSup, aCpx, aCpy, aCr, aPx, aPy, aR, aCtx, aCls, aHd, aSz, yWd, aTk, aTn, aTt, aTs, aFl, aOt, yVl, yFx, yFy, yFk, yFp, yKl) ∧ (rl dl cl pl nc nd fCK fHP fNK fRC yRk aSup aCpx aCpy aCr aIns aCls aHd aCtx aPx aPy aR aSz aWd aTk aTn aTt aTj aKd aKt aCal yWd yKl)
theorem i_up {k : Nat} {u : SX} {v : SY} (h : i_Rel k u v) : i_Rel (k + 5) u v := h
theorem rl_fin {P : SX → SY → Prop} {u a : SX} {v b : SY} {F : Prop} (h : F → P a b) (I : u = a ∧ v = b ∧ F) : P u v := by
  obtain ⟨rfl, rfl, f⟩ := I
  exact h f
theorem rl_el {P : SX → SY → Prop} {k : Nat} {u : SX} {v : SY} (h : ∀ (dl cl pl nc nd : Nat) (fCK fED fEP fH fO fHP fNK fRC fTD fTT : Int32) (fAX fAY : Int64) (fRS : Int32) (fLV : Int64) (fLT fDP fEN : Int32) (fAN : Int64) (aSup aCpx aCpy aCr aIns aCls aHd aCtx aPx aPy aR aSz aWd aTk aTn aTt aTj aTs aFl aEl aOt aOk aKd aKt aCal aFd aFt aFc aFp aFh : Nat → Int32) (aFx aFy aVl : Nat → Int64) (yAt ySp yDp yEn yRk : Int32) (yWd : Nat → Int32) (yVl yFx yFy : Nat → Int64) (yFk yFp yKl : Nat → Int32), (rl dl cl pl nc nd fCK fHP fNK fRC yRk aSup aCpx aCpy aCr aIns aCls aHd aCtx aPx aPy aR aSz aWd aTk aTn aTt aTj aKd aKt aCal yWd yKl) → P (nI dl, nI cl, nI pl, nI nc, nI nd, fCK, fED, fEP, fH, fO, fHP, fNK, fRC, fTD, fTT, fAX, fAY, fRS, fLV, fLT, fDP, fEN, fAN, aSup, aCpx, aCpy, aCr, aIns, aCls, aHd, aCtx, aPx, aPy, aR, aSz, aWd, aTk, aTn, aTt, aTj, aTs, aFl, aEl, aOt, aOk, aKd, aKt, aCal, aFd, aFt, aFc, aFp, aFh, aFx, aFy, aVl) (nI dl, nI cl, nI pl, nI nc, nI nd, fCK, fED, fEP, yAt, fH, fO, fAX, fAY, fLV, fRS, fLT, ySp, yDp, yEn, fNK, yRk, aSup, aCpx, aCpy, aCr, aPx, aPy, aR, aCtx, aCls, aHd, aSz, yWd, aTk, aTn, aTt, aTs, aFl, aOt, yVl, yFx, yFy, yFk, yFp, yKl)) (I : i_Rel k u v) : P u v :=
  Exists.elim I fun dl I => Exists.elim I fun cl I => Exists.elim I fun pl I => Exists.elim I fun nc I => Exists.elim I fun nd I => Exists.elim I fun fCK I => Exists.elim I fun fED I => Exists.elim I fun fEP I => Exists.elim I fun fH I => Exists.elim I fun fO I => Exists.elim I fun fHP I => Exists.elim I fun fNK I => Exists.elim I fun fRC I => Exists.elim I fun fTD I => Exists.elim I fun fTT I => Exists.elim I fun fAX I => Exists.elim I fun fAY I => Exists.elim I fun fRS I => Exists.elim I fun fLV I => Exists.elim I fun fLT I => Exists.elim I fun fDP I => Exists.elim I fun fEN I => Exists.elim I fun fAN I => Exists.elim I fun aSup I => Exists.elim I fun aCpx I => Exists.elim I fun aCpy I => Exists.elim I fun aCr I => Exists.elim I fun aIns I => Exists.elim I fun aCls I => Exists.elim I fun aHd I => Exists.elim I fun aCtx I => Exists.elim I fun aPx I => Exists.elim I fun aPy I => Exists.elim I fun aR I => Exists.elim I fun aSz I => Exists.elim I fun aWd I => Exists.elim I fun aTk I => Exists.elim I fun aTn I => Exists.elim I fun aTt I => Exists.elim I fun aTj I => Exists.elim I fun aTs I => Exists.elim I fun aFl I => Exists.elim I fun aEl I => Exists.elim I fun aOt I => Exists.elim I fun aOk I => Exists.elim I fun aKd I => Exists.elim I fun aKt I => Exists.elim I fun aCal I => Exists.elim I fun aFd I => Exists.elim I fun aFt I => Exists.elim I fun aFc I => Exists.elim I fun aFp I => Exists.elim I fun aFh I => Exists.elim I fun aFx I => Exists.elim I fun aFy I => Exists.elim I fun aVl I => Exists.elim I fun yAt I => Exists.elim I fun ySp I => Exists.elim I fun yDp I => Exists.elim I fun yEn I => Exists.elim I fun yRk I => Exists.elim I fun yWd I => Exists.elim I fun yVl I => Exists.elim I fun yFx I => Exists.elim I fun yFy I => Exists.elim I fun yFk I => Exists.elim I fun yFp I => Exists.elim I fun yKl I => rl_fin (P := P) (h dl cl pl nc nd fCK fED fEP fH fO fHP fNK fRC fTD fTT fAX fAY fRS fLV fLT fDP fEN fAN aSup aCpx aCpy aCr aIns aCls aHd aCtx aPx aPy aR aSz aWd aTk aTn aTt aTj aTs aFl aEl aOt aOk aKd aKt aCal aFd aFt aFc aFp aFh aFx aFy aVl yAt ySp yDp yEn yRk yWd yVl yFx yFy yFk yFp yKl) I
theorem rl_in {k : Nat} {dl cl pl nc nd : Nat} {fCK fED fEP fH fO fHP fNK fRC fTD fTT : Int32} {fAX fAY : Int64} {fRS : Int32} {fLV : Int64} {fLT fDP fEN : Int32} {fAN : Int64} {aSup aCpx aCpy aCr aIns aCls aHd aCtx aPx aPy aR aSz aWd aTk aTn aTt aTj aTs aFl aEl aOt aOk aKd aKt aCal aFd aFt aFc aFp aFh : Nat → Int32} {aFx aFy aVl : Nat → Int64} {yAt ySp yDp yEn yRk : Int32} {yWd : Nat → Int32} {yVl yFx yFy : Nat → Int64} {yFk yFp yKl : Nat → Int32} (h : (rl dl cl pl nc nd fCK fHP fNK fRC yRk aSup aCpx aCpy aCr aIns aCls aHd aCtx aPx aPy aR aSz aWd aTk aTn aTt aTj aKd aKt aCal yWd yKl)) : i_Rel k (nI dl, nI cl, nI pl, nI nc, nI nd, fCK, fED, fEP, fH, fO, fHP, fNK, fRC, fTD, fTT, fAX, fAY, fRS, fLV, fLT, fDP, fEN, fAN, aSup, aCpx, aCpy, aCr, aIns, aCls, aHd, aCtx, aPx, aPy, aR, aSz, aWd, aTk, aTn, aTt, aTj, aTs, aFl, aEl, aOt, aOk, aKd, aKt, aCal, aFd, aFt, aFc, aFp, aFh, aFx, aFy, aVl) (nI dl, nI cl, nI pl, nI nc, nI nd, fCK, fED, fEP, yAt, fH, fO, fAX, fAY, fLV, fRS, fLT, ySp, yDp, yEn, fNK, yRk, aSup, aCpx, aCpy, aCr, aPx, aPy, aR, aCtx, aCls, aHd, aSz, yWd, aTk, aTn, aTt, aTs, aFl, aOt, yVl, yFx, yFy, yFk, yFp, yKl) := ⟨dl, cl, pl, nc, nd, fCK, fED, fEP, fH, fO, fHP, fNK, fRC, fTD, fTT, fAX, fAY, fRS, fLV, fLT, fDP, fEN, fAN, aSup, aCpx, aCpy, aCr, aIns, aCls, aHd, aCtx, aPx, aPy, aR, aSz, aWd, aTk, aTn, aTt, aTj, aTs, aFl, aEl, aOt, aOk, aKd, aKt, aCal, aFd, aFt, aFc, aFp, aFh, aFx, aFy, aVl, yAt, ySp, yDp, yEn, yRk, yWd, yVl, yFx, yFy, yFk, yFp, yKl, rfl, rfl, h⟩
section
variable {dl cl pl nc nd : Nat} {fCK fED fEP fH fO fHP fNK fRC fTD fTT : Int32} {fAX fAY : Int64} {fRS : Int32} {fLV : Int64} {fLT fDP fEN : Int32} {fAN : Int64} {aSup aCpx aCpy aCr aIns aCls aHd aCtx aPx aPy aR aSz aWd aTk aTn aTt aTj aTs aFl aEl aOt aOk aKd aKt aCal aFd aFt aFc aFp aFh : Nat → Int32} {aFx aFy aVl : Nat → Int64} {yAt ySp yDp yEn yRk : Int32} {yWd : Nat → Int32} {yVl yFx yFy : Nat → Int64} {yFk yFp yKl : Nat → Int32}
theorem rl_c (L : rl_L dl cl pl nd) (S : (sr nc nd aSup aCpx aCpy aCr aIns aCls aHd aCtx aPx aPy aR aSz aTk aTn)) : (rl dl cl pl nc nd 0 0 0 fRC yRk aSup aCpx aCpy aCr aIns aCls aHd aCtx aPx aPy aR aSz aWd aTk aTn aTt aTj aKd aKt aCal yWd yKl) := ⟨L, S, Or.inl rfl, fun h => absurd h (by decide), Or.inl ⟨rfl, rfl⟩⟩
end
end
section
/-! 08: small walks: masks and types asked by X and by Y -/
section
variable {fDL fCL fPL fNC fND fCK fED fEP fH fO fHP fNK fRC fTD fTT : Int32} {fAX fAY : Int64} {fRS : Int32} {fLV : Int64} {fLT fDP fEN : Int32} {fAN : Int64} {aSup aCpx aCpy aCr aIns aCls aHd aCtx aPx aPy aR aSz aWd aTk aTn aTt aTj aTs aFl aEl aOt aOk aKd aKt aCal aFd aFt aFc aFp aFh : Nat → Int32} {aFx aFy aVl : Nat → Int64} {yAt ySp yDp yEn yRk : Int32} {yWd : Nat → Int32} {yVl yFx yFy : Nat → Int64} {yFk yFp yKl : Nat → Int32}
theorem sm_sc {post : SX → Prop} (h : post (fDL, fCL, fPL, fNC, fND, 0, fED, fEP, fH, fO, 0, 0, -1, fTD, fTT, fAX, fAY, fRS, fLV, fLT, fDP, fEN, fAN, aSup, aCpx, aCpy, aCr, aIns, aCls, aHd, aCtx, aPx, aPy, aR, aSz, aWd, aTk, aTn, aTt, aTj, aTs, aFl, aEl, aOt, aOk, aKd, aKt, aCal, aFd, aFt, aFc, aFp, aFh, aFx, aFy, aVl)) : wpX_sourceChanged post (fDL, fCL, fPL, fNC, fND, fCK, fED, fEP, fH, fO, fHP, fNK, fRC, fTD, fTT, fAX, fAY, fRS, fLV, fLT, fDP, fEN, fAN, aSup, aCpx, aCpy, aCr, aIns, aCls, aHd, aCtx, aPx, aPy, aR, aSz, aWd, aTk, aTn, aTt, aTj, aTs, aFl, aEl, aOt, aOk, aKd, aKt, aCal, aFd, aFt, aFc, aFp, aFh, aFx, aFy, aVl) := h
theorem sm_dp {post : SX → Prop} (h : post (fDL, fCL, fPL, fNC, fND, fCK, fED, fEP, fH, fO, 0, 0, -1, fTD, fTT, fAX, fAY, fRS, fLV, fLT, fDP, fEN, fAN, aSup, aCpx, aCpy, aCr, aIns, aCls, aHd, aCtx, aPx, aPy, aR, aSz, aWd, aTk, aTn, aTt, aTj, aTs, aFl, aEl, aOt, aOk, aKd, aKt, aCal, aFd, aFt, aFc, aFp, aFh, aFx, aFy, aVl)) : wpX_dropProgram post (fDL, fCL, fPL, fNC, fND, fCK, fED, fEP, fH, fO, fHP, fNK, fRC, fTD, fTT, fAX, fAY, fRS, fLV, fLT, fDP, fEN, fAN, aSup, aCpx, aCpy, aCr, aIns, aCls, aHd, aCtx, aPx, aPy, aR, aSz, aWd, aTk, aTn, aTt, aTj, aTs, aFl, aEl, aOt, aOk, aKd, aKt, aCal, aFd, aFt, aFc, aFp, aFh, aFx, aFy, aVl) := h
theorem sm_ch {post : SY → Prop} (h : post (fDL, fCL, fPL, fNC, fND, 0, fED, fEP, yAt, fH, fO, fAX, fAY, fLV, fRS, fLT, ySp, yDp, yEn, 0, yRk, aSup, aCpx, aCpy, aCr, aPx, aPy, aR, aCtx, aCls, aHd, aSz, yWd, aTk, aTn, aTt, aTs, aFl, aOt, yVl, yFx, yFy, yFk, yFp, yKl)) : wpY_changed post (fDL, fCL, fPL, fNC, fND, fCK, fED, fEP, yAt, fH, fO, fAX, fAY, fLV, fRS, fLT, ySp, yDp, yEn, fNK, yRk, aSup, aCpx, aCpy, aCr, aPx, aPy, aR, aCtx, aCls, aHd, aSz, yWd, aTk, aTn, aTt, aTs, aFl, aOt, yVl, yFx, yFy, yFk, yFp, yKl) := h
theorem sm_rs {post : SX → Prop} (hp : ∀ ins : Nat → Int32, (∀ j, j < 32 → ins j = -1) → post (fDL, fCL, fPL, fNC, fND, 0, -1, -1, fH, fO, 0, 0, -1, fTD, fTT, 0, 0, -1, 0, 0, fDP, fEN, fAN, aSup, aCpx, aCpy, aCr, ins, aCls, aHd, aCtx, aPx, aPy, aR, aSz, aWd, aTk, aTn, aTt, aTj, aTs, aFl, aEl, aOt, aOk, aKd, aKt, aCal, aFd, aFt, aFc, aFp, aFh, aFx, aFy, aVl)) : ∀ (n i : Nat) (ins : Nat → Int32), i ≤ 32 → 32 - i < n → (∀ j, j < i → ins j = -1) → wX_reset_12 post fDL fCL fPL fNC fND fCK fED fEP fH fO fHP fNK fRC fTD fTT fAX fAY fRS fLV fLT fDP fEN fAN n (nI i) aSup aCpx aCpy aCr ins aCls aHd aCtx aPx aPy aR aSz aWd aTk aTn aTt aTj aTs aFl aEl aOt aOk aKd aKt aCal aFd aFt aFc aFp aFh aFx aFy aVl := by
  intro n
  induction n with
  | zero => intro i ins hi hn; omega
  | succ n ih =>
    intro i ins hi hn hj
    by_cases h : i = 32
    · subst h
      exact br_t (nI_le (a := 32) (b := 32) (by omega) (by omega)) (sm_sc (hp ins hj))
    · refine br_f (nI_ge (b := 32) (by omega) (by omega)) ⟨vp_in_nI (by omega) (by decide), ?_⟩
      rw [nI_clamp (by omega)]
      refine nm_e (nm_r (nI_1 i) (ih (i + 1) _ (by omega) (by omega) ?_))
      intro j hj'
      by_cases e : j = i
      · subst e; exact pk_us
      · rw [pk_un e]; exact hj j (by omega)
end
theorem sm_mk {nc : Nat} (hc : nc ≤ 4) (x : Int32) : (∃ m, m < 2 ^ nc ∧ x = nI m ∧ ¬ x < 0 ∧ x < ((1 : Int32) <<< (nI nc &&& 31)) ∧ ¬ ((1 : Int32) <<< (nI nc &&& 31)) ≤ x) ∨ ((¬ ∃ m, m < 2 ^ nc ∧ x = nI m) ∧ (x < 0 ∨ (¬ x < 0 ∧ ¬ x < ((1 : Int32) <<< (nI nc &&& 31)) ∧ ((1 : Int32) <<< (nI nc &&& 31)) ≤ x))) := by
  rw [mk_5 nc hc]
  have h16 : 2 ^ nc ≤ 2 ^ 4 := Nat.pow_le_pow_right (by decide) hc
  have h17 : (2 : Nat) ^ 4 = 16 := by decide
  by_cases h : x < 0
  · refine Or.inr ⟨?_, Or.inl h⟩
    rintro ⟨m, hm, rfl⟩
    exact nI_pos (by omega) h
  · obtain ⟨j, hj, rfl⟩ := nI_of h
    by_cases z : j < 2 ^ nc
    · exact Or.inl ⟨j, z, rfl, h, nI_lt z (by omega), nI_ge z (by omega)⟩
    · refine Or.inr ⟨?_, Or.inr ⟨h, nI_nlt (by omega) hj, nI_le (by omega) hj⟩⟩
      rintro ⟨m, hm, e⟩
      have := (nI_eq hj (by omega)).mp e
      omega
section
variable {post : Int32 → Prop}
theorem sm_T56 {t : Int32} (h : ty_T 5 t) : ty_T 6 t := by
  obtain ⟨l, e, a, b, c, d⟩ := h
  exact ⟨l, e, a, b, by omega, d⟩
theorem sm_ctT (u : SX) {t : Int32} (h : ty_T 5 t) (hp : post 1) : wpX_isClassType post u t := by
  obtain ⟨l, e, h1, h3, hl, rfl⟩ := h
  refine tx_i (P := fun u => wpX_isClassType post u (nI (ty_e l e))) (fun fDL fCL fPL fNC fND fCK fED fEP fH fO fHP fNK fRC fTD fTT fAX fAY fRS fLV fLT fDP fEN fAN aSup aCpx aCpy aCr aIns aCls aHd aCtx aPx aPy aR aSz aWd aTk aTn aTt aTj aTs aFl aEl aOt aOk aKd aKt aCal aFd aFt aFc aFp aFh aFx aFy aVl => ?_) u
  unfold wpX_isClassType
  dsimp only
  exact tx_symT _ h1 h3 (by omega) (br_f (nI_nlt (b := 1) (by omega) (by omega)) (br_f (nI_ge (b := 7) (by omega) (by decide)) hp))
theorem sm_ctN (u : SX) {t : Int32} (h : ¬ ty_T 5 t) (hp : post 0) : wpX_isClassType post u t := by
  refine tx_i (P := fun u => wpX_isClassType post u t) (fun fDL fCL fPL fNC fND fCK fED fEP fH fO fHP fNK fRC fTD fTT fAX fAY fRS fLV fLT fDP fEN fAN aSup aCpx aCpy aCr aIns aCls aHd aCtx aPx aPy aR aSz aWd aTk aTn aTt aTj aTs aFl aEl aOt aOk aKd aKt aCal aFd aFt aFc aFp aFh aFx aFy aVl => ?_) u
  unfold wpX_isClassType
  dsimp only
  by_cases h6 : ty_T 6 t
  · obtain ⟨l, e, h1, h3, hl, rfl⟩ := h6
    have h7 : l.length = 6 := by
      rcases Nat.lt_or_ge l.length 6 with z | z
      · exact absurd ⟨l, e, h1, h3, by omega, rfl⟩ h
      · omega
    exact tx_symT _ h1 h3 (by omega) (br_f (nI_nlt (b := 1) (by omega) (by omega)) (br_t (nI_le (a := 7) (by omega) (by omega)) hp))
  · exact tx_symN _ h6 (br_t (by decide) hp)
theorem sm_itT (u : SX) {t : Int32} (h : ty_T 6 t) (hp : post 1) : wpX_isType post u t := by
  obtain ⟨l, e, h1, h3, hl, rfl⟩ := h
  refine tx_i (P := fun u => wpX_isType post u (nI (ty_e l e))) (fun fDL fCL fPL fNC fND fCK fED fEP fH fO fHP fNK fRC fTD fTT fAX fAY fRS fLV fLT fDP fEN fAN aSup aCpx aCpy aCr aIns aCls aHd aCtx aPx aPy aR aSz aWd aTk aTn aTt aTj aTs aFl aEl aOt aOk aKd aKt aCal aFd aFt aFc aFp aFh aFx aFy aVl => ?_) u
  unfold wpX_isType
  dsimp only
  exact tx_symT _ h1 h3 (by omega) (br_f (nI_nle (by omega) (by omega)) hp)
theorem sm_itN (u : SX) {t : Int32} (h : ¬ ty_T 6 t) (hp : post 0) : wpX_isType post u t := by
  refine tx_i (P := fun u => wpX_isType post u t) (fun fDL fCL fPL fNC fND fCK fED fEP fH fO fHP fNK fRC fTD fTT fAX fAY fRS fLV fLT fDP fEN fAN aSup aCpx aCpy aCr aIns aCls aHd aCtx aPx aPy aR aSz aWd aTk aTn aTt aTj aTs aFl aEl aOt aOk aKd aKt aCal aFd aFt aFc aFp aFh aFx aFy aVl => ?_) u
  unfold wpX_isType
  dsimp only
  exact tx_symN _ h (br_t (by decide) hp)
theorem sm_tuT (v : SY) {t : Int32} {k : Nat} (hk : k ≤ 6) (h : ty_T k t) (hp : post 1) : wpY_typeUpTo post v t (nI (k + 1)) := by
  obtain ⟨l, e, h1, h3, hl, rfl⟩ := h
  refine tx_j (P := fun v => wpY_typeUpTo post v (nI (ty_e l e)) (nI (k + 1))) (fun fDL fCL fPL fNC fND fCK fED fEP yAt fH fO fAX fAY fLV fRS fLT ySp yDp yEn fNK yRk aSup aCpx aCpy aCr aPx aPy aR aCtx aCls aHd aSz yWd aTk aTn aTt aTs aFl aOt yVl yFx yFy yFk yFp yKl => ?_) v
  unfold wpY_typeUpTo
  dsimp only
  exact tx_tyT _ h1 h3 (by omega) (br_f (nI_nlt (b := 1) (by omega) (by omega)) (br_f (nI_nlt (by omega) (by omega)) hp))
theorem sm_tuN (v : SY) {t : Int32} {k : Nat} (hk : k ≤ 6) (h : ¬ ty_T k t) (hp : post 0) : wpY_typeUpTo post v t (nI (k + 1)) := by
  refine tx_j (P := fun v => wpY_typeUpTo post v t (nI (k + 1))) (fun fDL fCL fPL fNC fND fCK fED fEP yAt fH fO fAX fAY fLV fRS fLT ySp yDp yEn fNK yRk aSup aCpx aCpy aCr aPx aPy aR aCtx aCls aHd aSz yWd aTk aTn aTt aTs aFl aOt yVl yFx yFy yFk yFp yKl => ?_) v
  unfold wpY_typeUpTo
  dsimp only
  by_cases h6 : ty_T 6 t
  · obtain ⟨l, e, h1, h3, hl, rfl⟩ := h6
    have h7 : k < l.length := by
      rcases Nat.lt_or_ge k l.length with z | z
      · exact z
      · exact absurd ⟨l, e, h1, h3, z, rfl⟩ h
    exact tx_tyT _ h1 h3 (by omega) (br_f (nI_nlt (b := 1) (by omega) (by omega)) (br_t (nI_lt (by omega) (by omega)) hp))
  · refine tx_tyN _ h6 ?_
    intro r hr
    rcases hr with rfl | ⟨z1, z2⟩
    · exact br_t (by decide) hp
    · exact br_f (nI_nlt (b := 1) (by omega) (by omega)) (br_t (nI_lt (by omega) (by omega)) hp)
end
end
section
/-! 09: the simple methods -/
theorem sm_clX {a b : Nat} (hab : a ≤ b) (hb : b < 2 ^ 31) (x : Int32) : ∃ n, a ≤ n ∧ n ≤ b ∧ (∀ (u : SX) (post : Int32 → Prop), post (nI n) → wpX_clamp post u x (nI a) (nI b)) ∧ (∀ (v : SY) (post : Int32 → Prop), post (nI n) → wpY_clamp post v x (nI a) (nI b)) := by
  by_cases h1 : nI a ≤ x
  · by_cases h2 : x ≤ nI b
    · have h0 : ¬ x < 0 := by
        rw [Int32.le_iff_toInt_le, nI_toInt (by omega)] at h1
        rw [Int32.lt_iff_toInt_lt, show (0 : Int32).toInt = 0 by decide]
        omega
      obtain ⟨j, hj, rfl⟩ := nI_of h0
      refine ⟨j, (nI_leI (by omega) hj).mp h1, (nI_leI hj hb).mp h2, fun u post hp => ?_, fun v post hp => ?_⟩
      · exact tx_i (P := fun u => wpX_clamp post u (nI j) (nI a) (nI b)) (fun fDL fCL fPL fNC fND fCK fED fEP fH fO fHP fNK fRC fTD fTT fAX fAY fRS fLV fLT fDP fEN fAN aSup aCpx aCpy aCr aIns aCls aHd aCtx aPx aPy aR aSz aWd aTk aTn aTt aTj aTs aFl aEl aOt aOk aKd aKt aCal aFd aFt aFc aFp aFh aFx aFy aVl => br_t h1 (br_t h2 hp)) u
      · exact tx_j (P := fun v => wpY_clamp post v (nI j) (nI a) (nI b)) (fun fDL fCL fPL fNC fND fCK fED fEP yAt fH fO fAX fAY fLV fRS fLT ySp yDp yEn fNK yRk aSup aCpx aCpy aCr aPx aPy aR aCtx aCls aHd aSz yWd aTk aTn aTt aTs aFl aOt yVl yFx yFy yFk yFp yKl => br_t h1 (br_t h2 hp)) v
    · refine ⟨b, hab, Nat.le_refl _, fun u post hp => ?_, fun v post hp => ?_⟩
      · exact tx_i (P := fun u => wpX_clamp post u x (nI a) (nI b)) (fun fDL fCL fPL fNC fND fCK fED fEP fH fO fHP fNK fRC fTD fTT fAX fAY fRS fLV fLT fDP fEN fAN aSup aCpx aCpy aCr aIns aCls aHd aCtx aPx aPy aR aSz aWd aTk aTn aTt aTj aTs aFl aEl aOt aOk aKd aKt aCal aFd aFt aFc aFp aFh aFx aFy aVl => br_t h1 (br_f h2 hp)) u
      · exact tx_j (P := fun v => wpY_clamp post v x (nI a) (nI b)) (fun fDL fCL fPL fNC fND fCK fED fEP yAt fH fO fAX fAY fLV fRS fLT ySp yDp yEn fNK yRk aSup aCpx aCpy aCr aPx aPy aR aCtx aCls aHd aSz yWd aTk aTn aTt aTs aFl aOt yVl yFx yFy yFk yFp yKl => br_t h1 (br_f h2 hp)) v
  · refine ⟨a, Nat.le_refl _, hab, fun u post hp => ?_, fun v post hp => ?_⟩
    · exact tx_i (P := fun u => wpX_clamp post u x (nI a) (nI b)) (fun fDL fCL fPL fNC fND fCK fED fEP fH fO fHP fNK fRC fTD fTT fAX fAY fRS fLV fLT fDP fEN fAN aSup aCpx aCpy aCr aIns aCls aHd aCtx aPx aPy aR aSz aWd aTk aTn aTt aTj aTs aFl aEl aOt aOk aKd aKt aCal aFd aFt aFc aFp aFh aFx aFy aVl => br_f h1 hp) u
    · exact tx_j (P := fun v => wpY_clamp post v x (nI a) (nI b)) (fun fDL fCL fPL fNC fND fCK fED fEP yAt fH fO fAX fAY fLV fRS fLT ySp yDp yEn fNK yRk aSup aCpx aCpy aCr aPx aPy aR aCtx aCls aHd aSz yWd aTk aTn aTt aTs aFl aOt yVl yFx yFy yFk yFp yKl => br_f h1 hp) v
section
variable {fDL fCL fPL fNC fND fCK fED fEP fH fO fHP fNK fRC fTD fTT : Int32} {fAX fAY : Int64} {fRS : Int32} {fLV : Int64} {fLT fDP fEN : Int32} {fAN : Int64} {aSup aCpx aCpy aCr aIns aCls aHd aCtx aPx aPy aR aSz aWd aTk aTn aTt aTj aTs aFl aEl aOt aOk aKd aKt aCal aFd aFt aFc aFp aFh : Nat → Int32} {aFx aFy aVl : Nat → Int64} {yAt ySp yDp yEn yRk : Int32} {yWd : Nat → Int32} {yVl yFx yFy : Nat → Int64} {yFk yFp yKl : Nat → Int32}
theorem sm_clr {post : SY → Prop} (h : post (fDL, fCL, fPL, 0, 0, 0, -1, -1, yAt, fH, fO, 0, 0, 0, -1, 0, ySp, yDp, yEn, 0, yRk, aSup, aCpx, aCpy, aCr, aPx, aPy, aR, aCtx, aCls, aHd, aSz, yWd, aTk, aTn, aTt, aTs, aFl, aOt, yVl, yFx, yFy, yFk, yFp, yKl)) : wpY_clear post (fDL, fCL, fPL, fNC, fND, fCK, fED, fEP, yAt, fH, fO, fAX, fAY, fLV, fRS, fLT, ySp, yDp, yEn, fNK, yRk, aSup, aCpx, aCpy, aCr, aPx, aPy, aR, aCtx, aCls, aHd, aSz, yWd, aTk, aTn, aTt, aTs, aFl, aOt, yVl, yFx, yFy, yFk, yFp, yKl) := h
theorem sm_rsx {post : SX → Prop} (hp : ∀ ins : Nat → Int32, (∀ j, j < 32 → ins j = -1) → post (fDL, fCL, fPL, 0, 0, 0, -1, -1, fH, fO, 0, 0, -1, fTD, fTT, 0, 0, -1, 0, 0, fDP, fEN, fAN, aSup, aCpx, aCpy, aCr, ins, aCls, aHd, aCtx, aPx, aPy, aR, aSz, aWd, aTk, aTn, aTt, aTj, aTs, aFl, aEl, aOt, aOk, aKd, aKt, aCal, aFd, aFt, aFc, aFp, aFh, aFx, aFy, aVl)) : wpX_reset post (fDL, fCL, fPL, fNC, fND, fCK, fED, fEP, fH, fO, fHP, fNK, fRC, fTD, fTT, fAX, fAY, fRS, fLV, fLT, fDP, fEN, fAN, aSup, aCpx, aCpy, aCr, aIns, aCls, aHd, aCtx, aPx, aPy, aR, aSz, aWd, aTk, aTn, aTt, aTj, aTs, aFl, aEl, aOt, aOk, aKd, aKt, aCal, aFd, aFt, aFc, aFp, aFh, aFx, aFy, aVl) :=
  Exists.intro 33 (sm_rs hp 33 0 aIns (by omega) (by omega) (fun j hj => absurd hj (by omega)))
theorem sm_clx {post : SX → Prop} (hp : ∀ ins : Nat → Int32, (∀ j, j < 32 → ins j = -1) → post (fDL, fCL, fPL, 0, 0, 0, -1, -1, fH, fO, 0, 0, -1, fTD, fTT, 0, 0, -1, 0, 0, fDP, fEN, fAN, aSup, aCpx, aCpy, aCr, ins, aCls, aHd, aCtx, aPx, aPy, aR, aSz, aWd, aTk, aTn, aTt, aTj, aTs, aFl, aEl, aOt, aOk, aKd, aKt, aCal, aFd, aFt, aFc, aFp, aFh, aFx, aFy, aVl)) : wpX_clear post (fDL, fCL, fPL, fNC, fND, fCK, fED, fEP, fH, fO, fHP, fNK, fRC, fTD, fTT, fAX, fAY, fRS, fLV, fLT, fDP, fEN, fAN, aSup, aCpx, aCpy, aCr, aIns, aCls, aHd, aCtx, aPx, aPy, aR, aSz, aWd, aTk, aTn, aTt, aTj, aTs, aFl, aEl, aOt, aOk, aKd, aKt, aCal, aFd, aFt, aFc, aFp, aFh, aFx, aFy, aVl) :=
  sm_rsx (fNC := fNC) (fND := fND) hp
end
theorem sm_8 {ins : Nat → Int32} (h : ∀ j, j < 32 → ins j = -1) : ∀ c h, c < 4 → h < 8 → ins (8 * c + h) = -1 := fun c x hc hx => h _ (by omega)
theorem i_vc0 (k0 : Int32) (k1 : Int32) (k2 : Int32) : wpX_init (fun u => wpY_init (fun v => i_Rel 3 u v) k0 k1 k2) k0 k1 k2 := by
  obtain ⟨dl, d1, d2, dx, dy⟩ := sm_clX (a := 4) (b := 12) (by omega) (by omega) k0
  obtain ⟨cl, c1, c2, cx, cy⟩ := sm_clX (a := 1) (b := 24) (by omega) (by omega) k1
  obtain ⟨pl, p1, p2, px, py⟩ := sm_clX (a := 2) (b := 16) (by omega) (by omega) k2
  unfold wpX_init
  refine dx _ _ ?_
  refine cx _ _ ?_
  refine px _ _ ?_
  refine sm_rsx ?_
  intro ins hins
  show wpY_init _ _ _ _
  unfold wpY_init
  refine dy _ _ ?_
  refine cy _ _ ?_
  refine py _ _ ?_
  refine sm_clr ?_
  exact rl_in (dl := dl) (cl := cl) (pl := pl) (nc := 0) (nd := 0) (rl_c ⟨d1, d2, c1, c2, p1, p2, by omega⟩ (sr_0 (sm_8 hins)))
theorem i_vc_clear {k : Nat} {u : SX} {v : SY} (I : i_Rel k u v) (hk : k + 5 ≤ 2563) : wpX_clear (fun u' => wpY_clear (fun v' => i_Rel (k + 5) u' v') v) u := by
  refine rl_el (P := fun u v => wpX_clear (fun u' => wpY_clear (fun v' => i_Rel (k + 5) u' v') v) u) ?_ I
  intro dl cl pl nc nd fCK fED fEP fH fO fHP fNK fRC fTD fTT fAX fAY fRS fLV fLT fDP fEN fAN aSup aCpx aCpy aCr aIns aCls aHd aCtx aPx aPy aR aSz aWd aTk aTn aTt aTj aTs aFl aEl aOt aOk aKd aKt aCal aFd aFt aFc aFp aFh aFx aFy aVl yAt ySp yDp yEn yRk yWd yVl yFx yFy yFk yFp yKl R
  refine sm_clx ?_
  intro ins hins
  refine sm_clr ?_
  obtain ⟨d1, d2, c1, c2, p1, p2, _⟩ := R.1
  exact rl_in (dl := dl) (cl := cl) (pl := pl) (nc := 0) (nd := 0) (rl_c ⟨d1, d2, c1, c2, p1, p2, by omega⟩ (sr_0 (sm_8 hins)))
theorem i_vc_setArguments {k : Nat} {u : SX} {v : SY} (I : i_Rel k u v) (hk : k + 5 ≤ 2563) (a0 : Int64) (a1 : Int64) : wpX_setArguments (fun u' => wpY_setArguments (fun v' => i_Rel (k + 5) u' v') v a0 a1) u a0 a1 := by
  refine rl_el (P := fun u v => wpX_setArguments (fun u' => wpY_setArguments (fun v' => i_Rel (k + 5) u' v') v a0 a1) u a0 a1) ?_ I
  intro dl cl pl nc nd fCK fED fEP fH fO fHP fNK fRC fTD fTT fAX fAY fRS fLV fLT fDP fEN fAN aSup aCpx aCpy aCr aIns aCls aHd aCtx aPx aPy aR aSz aWd aTk aTn aTt aTj aTs aFl aEl aOt aOk aKd aKt aCal aFd aFt aFc aFp aFh aFx aFy aVl yAt ySp yDp yEn yRk yWd yVl yFx yFy yFk yFp yKl R
  unfold wpX_setArguments wpY_setArguments
  dsimp only
  exact rl_in R
theorem i_vc_argument {k : Nat} {u : SX} {v : SY} (I : i_Rel k u v) (hk : k + 5 ≤ 2563) (v1 : Int32) : wpX_argument (fun r => wpY_argument (fun r' => r' = r ∧ i_Rel (k + 5) u v) v v1) u v1 := by
  refine rl_el (P := fun u v => wpX_argument (fun r => wpY_argument (fun r' => r' = r ∧ i_Rel (k + 5) u v) v v1) u v1) ?_ I
  intro dl cl pl nc nd fCK fED fEP fH fO fHP fNK fRC fTD fTT fAX fAY fRS fLV fLT fDP fEN fAN aSup aCpx aCpy aCr aIns aCls aHd aCtx aPx aPy aR aSz aWd aTk aTn aTt aTj aTs aFl aEl aOt aOk aKd aKt aCal aFd aFt aFc aFp aFh aFx aFy aVl yAt ySp yDp yEn yRk yWd yVl yFx yFy yFk yFp yKl R
  by_cases h0 : v1 = 0
  · exact br_t h0 (br_t h0 ⟨rfl, rl_in R⟩)
  · by_cases h1 : v1 = 1
    · exact br_f h0 (br_t h1 (br_f h0 (br_t h1 ⟨rfl, rl_in R⟩)))
    · exact br_f h0 (br_f h1 (br_f h0 (br_f h1 ⟨rfl, rl_in R⟩)))
theorem i_vc_resultValue {k : Nat} {u : SX} {v : SY} (I : i_Rel k u v) (hk : k + 5 ≤ 2563) : wpX_resultValue (fun r => wpY_resultValue (fun r' => r' = r ∧ i_Rel (k + 5) u v) v) u := by
  refine rl_el (P := fun u v => wpX_resultValue (fun r => wpY_resultValue (fun r' => r' = r ∧ i_Rel (k + 5) u v) v) u) ?_ I
  intro dl cl pl nc nd fCK fED fEP fH fO fHP fNK fRC fTD fTT fAX fAY fRS fLV fLT fDP fEN fAN aSup aCpx aCpy aCr aIns aCls aHd aCtx aPx aPy aR aSz aWd aTk aTn aTt aTj aTs aFl aEl aOt aOk aKd aKt aCal aFd aFt aFc aFp aFh aFx aFy aVl yAt ySp yDp yEn yRk yWd yVl yFx yFy yFk yFp yKl R
  unfold wpX_resultValue wpY_resultValue
  dsimp only
  exact ⟨by trivial, rl_in R⟩
theorem i_vc_addClass {k : Nat} {u : SX} {v : SY} (I : i_Rel k u v) (hk : k + 5 ≤ 2563) (v1 : Int32) (v2 : Int32) (v3 : Int32) (v4 : Int32) : wpX_addClass (fun r u' => wpY_addClass (fun r' v' => r' = r ∧ i_Rel (k + 5) u' v') v v1 v2 v3 v4) u v1 v2 v3 v4 := by
  refine rl_el (P := fun u v => wpX_addClass (fun r u' => wpY_addClass (fun r' v' => r' = r ∧ i_Rel (k + 5) u' v') v v1 v2 v3 v4) u v1 v2 v3 v4) ?_ I
  intro dl cl pl nc nd fCK fED fEP fH fO fHP fNK fRC fTD fTT fAX fAY fRS fLV fLT fDP fEN fAN aSup aCpx aCpy aCr aIns aCls aHd aCtx aPx aPy aR aSz aWd aTk aTn aTt aTj aTs aFl aEl aOt aOk aKd aKt aCal aFd aFt aFc aFp aFh aFx aFy aVl yAt ySp yDp yEn yRk yWd yVl yFx yFy yFk yFp yKl R
  have h4 : nc ≤ 4 := R.2.1.1.1
  by_cases hn : nc < 4
  · refine br_t (nI_lt (b := 4) hn (by decide)) ?_
    have hn4 : ¬ nI nc = 4 := fun z => by
      have := (nI_eq (b := 4) (by omega) (by omega)).mp z
      omega
    rcases sm_mk h4 v1 with ⟨m, hm, rfl, z1, z2, z3⟩ | ⟨_, z | ⟨z1, z2, z3⟩⟩
    · refine br_f z1 (br_f z3 (br_f (by decide) ?_))
      by_cases t2 : ty_T 5 v2
      · refine sm_ctT _ t2 (br_f (by decide) ?_)
        by_cases t3 : ty_T 5 v3
        · refine sm_ctT _ t3 (br_f (by decide) ?_)
          by_cases t4 : ty_T 5 v4
          · refine sm_ctT _ t4 (br_f (by decide) ?_)
            rw [nI_clamp (by omega)]
            have hv := vp_in_nI (n := nc) (N := 4) hn (by decide)
            refine ⟨hv, nm_e ⟨hv, nm_e ⟨hv, nm_e ⟨hv, nm_e (nm_r (nI_1 nc) (sm_sc ?_))⟩⟩⟩⟩
            refine br_f hn4 (br_f z1 (br_t z2 (sm_tuT _ (by omega) t2 (br_f (by decide) (sm_tuT _ (by omega) t3 (br_f (by decide) (sm_tuT _ (by omega) t4 (br_f (by decide) ?_))))))))
            rw [nI_clamp (by omega)]
            refine ⟨hv, nm_e ⟨hv, nm_e ⟨hv, nm_e ⟨hv, nm_e (nm_r (nI_1 nc) (sm_ch ⟨nI_pred nc, ?_⟩))⟩⟩⟩⟩
            exact rl_in (nc := nc + 1) (rl_c R.1 (sr_cl R.2.1 hn hm t2 t3 t4))
          · refine sm_ctN _ t4 (br_t rfl ?_)
            exact br_f hn4 (br_f z1 (br_t z2 (sm_tuT _ (by omega) t2 (br_f (by decide) (sm_tuT _ (by omega) t3 (br_f (by decide) (sm_tuN _ (by omega) t4 (br_t rfl ⟨rfl, rl_in R⟩))))))))
        · refine sm_ctN _ t3 (br_t rfl ?_)
          exact br_f hn4 (br_f z1 (br_t z2 (sm_tuT _ (by omega) t2 (br_f (by decide) (sm_tuN _ (by omega) t3 (br_t rfl ⟨rfl, rl_in R⟩))))))
      · refine sm_ctN _ t2 (br_t rfl ?_)
        exact br_f hn4 (br_f z1 (br_t z2 (sm_tuN _ (by omega) t2 (br_t rfl ⟨rfl, rl_in R⟩))))
    · exact br_t z (br_t rfl (br_f hn4 (br_t z ⟨rfl, rl_in R⟩)))
    · exact br_f z1 (br_t z3 (br_t rfl (br_f hn4 (br_f z1 (br_f z2 ⟨rfl, rl_in R⟩)))))
  · have e : nc = 4 := by omega
    subst e
    exact br_f (by decide) (br_t rfl ⟨rfl, rl_in R⟩)
end
section
/-! 10: addFunction, addInstance, token, dropToken -/
theorem sm_20x (d i : Nat) : (20 : Int32) * nI d + nI i = nI (20 * d + i) := by
  rw [show (20 : Int32) * nI d = nI (20 * d) from pk_mul 20 d, nI_add]
theorem sm_20y (d i : Nat) : nI d * 20 + nI i = nI (20 * d + i) := by
  rw [show nI d * 20 = nI (d * 20) from pk_mul d 20, nI_add, Nat.mul_comm d 20]
section
variable {dl cl pl nc nd : Nat} {fCK fED fEP fH fO fHP fNK fRC fTD fTT : Int32} {fAX fAY : Int64} {fRS : Int32} {fLV : Int64} {fLT fDP fEN : Int32} {fAN : Int64} {aSup aCpx aCpy aCr aIns aCls aHd aCtx aPx aPy aR aSz aWd aTk aTn aTt aTj aTs aFl aEl aOt aOk aKd aKt aCal aFd aFt aFc aFp aFh : Nat → Int32} {aFx aFy aVl : Nat → Int64} {yAt ySp yDp yEn yRk : Int32} {yWd : Nat → Int32} {yVl yFx yFy : Nat → Int64} {yFk yFp yKl : Nat → Int32}
theorem sm_adX {post : Int32 → SX → Prop} {p0 p1 p2 p3 p4 p5 : Int32} (hn : nd < 12) (h : post (nI nd) (nI dl, nI cl, nI pl, nI nc, nI (nd + 1), 0, fED, fEP, fH, fO, 0, 0, -1, fTD, fTT, fAX, fAY, fRS, fLV, fLT, fDP, fEN, fAN, aSup, aCpx, aCpy, aCr, aIns, upd aCls nd p0, upd aHd nd p1, upd aCtx nd p2, upd aPx nd p3, upd aPy nd p4, upd aR nd p5, upd aSz nd 0, upd aWd nd 0, aTk, aTn, aTt, aTj, aTs, aFl, aEl, aOt, aOk, aKd, aKt, aCal, aFd, aFt, aFc, aFp, aFh, aFx, aFy, aVl)) : wpX_addDefinition post (nI dl, nI cl, nI pl, nI nc, nI nd, fCK, fED, fEP, fH, fO, fHP, fNK, fRC, fTD, fTT, fAX, fAY, fRS, fLV, fLT, fDP, fEN, fAN, aSup, aCpx, aCpy, aCr, aIns, aCls, aHd, aCtx, aPx, aPy, aR, aSz, aWd, aTk, aTn, aTt, aTj, aTs, aFl, aEl, aOt, aOk, aKd, aKt, aCal, aFd, aFt, aFc, aFp, aFh, aFx, aFy, aVl) p0 p1 p2 p3 p4 p5 := by
  unfold wpX_addDefinition
  dsimp only
  rw [nI_clamp (by omega)]
  have hv := vp_in_nI (n := nd) (N := 12) hn (by decide)
  exact ⟨hv, nm_e ⟨hv, nm_e ⟨hv, nm_e ⟨hv, nm_e ⟨hv, nm_e ⟨hv, nm_e ⟨hv, nm_e ⟨hv, nm_e (nm_r (nI_1 nd) (sm_sc h))⟩⟩⟩⟩⟩⟩⟩⟩
theorem sm_adY {post : Int32 → SY → Prop} {p0 p1 p2 p3 p4 p5 : Int32} (hn : nd < 12) (h : post (nI nd) (nI dl, nI cl, nI pl, nI nc, nI (nd + 1), 0, fED, fEP, yAt, fH, fO, fAX, fAY, fLV, fRS, fLT, ySp, yDp, yEn, 0, yRk, aSup, aCpx, aCpy, aCr, upd aPx nd p3, upd aPy nd p4, upd aR nd p5, upd aCtx nd p2, upd aCls nd p0, upd aHd nd p1, upd aSz nd 0, yWd, aTk, aTn, aTt, aTs, aFl, aOt, yVl, yFx, yFy, yFk, yFp, yKl)) : wpY_addDef post (nI dl, nI cl, nI pl, nI nc, nI nd, fCK, fED, fEP, yAt, fH, fO, fAX, fAY, fLV, fRS, fLT, ySp, yDp, yEn, fNK, yRk, aSup, aCpx, aCpy, aCr, aPx, aPy, aR, aCtx, aCls, aHd, aSz, yWd, aTk, aTn, aTt, aTs, aFl, aOt, yVl, yFx, yFy, yFk, yFp, yKl) p0 p1 p2 p3 p4 p5 := by
  unfold wpY_addDef
  dsimp only
  rw [nI_clamp (by omega)]
  have hv := vp_in_nI (n := nd) (N := 12) hn (by decide)
  refine ⟨hv, nm_e ⟨hv, nm_e ⟨hv, nm_e ⟨hv, nm_e ⟨hv, nm_e ⟨hv, nm_e ⟨hv, nm_e (nm_r (nI_1 nd) (sm_ch ?_))⟩⟩⟩⟩⟩⟩⟩
  dsimp only
  rw [nI_pred]
  exact h
end
theorem i_vc_addFunction {k : Nat} {u : SX} {v : SY} (I : i_Rel k u v) (hk : k + 5 ≤ 2563) (v1 : Int32) (v2 : Int32) (v3 : Int32) (v4 : Int32) : wpX_addFunction (fun r u' => wpY_addFunction (fun r' v' => r' = r ∧ i_Rel (k + 5) u' v') v v1 v2 v3 v4) u v1 v2 v3 v4 := by
  refine rl_el (P := fun u v => wpX_addFunction (fun r u' => wpY_addFunction (fun r' v' => r' = r ∧ i_Rel (k + 5) u' v') v v1 v2 v3 v4) u v1 v2 v3 v4) ?_ I
  intro dl cl pl nc nd fCK fED fEP fH fO fHP fNK fRC fTD fTT fAX fAY fRS fLV fLT fDP fEN fAN aSup aCpx aCpy aCr aIns aCls aHd aCtx aPx aPy aR aSz aWd aTk aTn aTt aTj aTs aFl aEl aOt aOk aKd aKt aCal aFd aFt aFc aFp aFh aFx aFy aVl yAt ySp yDp yEn yRk yWd yVl yFx yFy yFk yFp yKl R
  have h4 : nc ≤ 4 := R.2.1.1.1
  obtain ⟨d1, d2, c1, c2, p1, p2, d3⟩ := R.1
  by_cases hn : nd < dl
  · have hlt := nI_lt hn (by omega)
    refine br_t hlt ?_
    rcases sm_mk h4 v1 with ⟨m, hm, rfl, z1, z2, z3⟩ | ⟨_, z | ⟨z1, z2, z3⟩⟩
    · refine br_f z1 (br_f z3 (br_f (by decide) ?_))
      by_cases t2 : ty_T 6 v2
      · refine sm_itT _ t2 (br_f (by decide) ?_)
        by_cases t3 : ty_T 6 v3
        · refine sm_itT _ t3 (br_f (by decide) ?_)
          by_cases t4 : ty_T 6 v4
          · refine sm_itT _ t4 (br_f (by decide) (sm_adX (by omega) ?_))
            refine br_t hlt (br_f z1 (br_t z2 (sm_tuT _ (k := 6) (by omega) t2 (br_f (by decide) (sm_tuT _ (k := 6) (by omega) t3 (br_f (by decide) (sm_tuT _ (k := 6) (by omega) t4 (br_f (by decide) (sm_adY (by omega) ⟨rfl, ?_⟩)))))))))
            exact rl_in (nd := nd + 1) (rl_c ⟨d1, d2, c1, c2, p1, p2, by omega⟩ (sr_fn R.2.1 (by omega) hm t2 t3 t4))
          · refine sm_itN _ t4 (br_t rfl ?_)
            exact br_t hlt (br_f z1 (br_t z2 (sm_tuT _ (k := 6) (by omega) t2 (br_f (by decide) (sm_tuT _ (k := 6) (by omega) t3 (br_f (by decide) (sm_tuN _ (k := 6) (by omega) t4 (br_t rfl ⟨rfl, rl_in R⟩))))))))
        · refine sm_itN _ t3 (br_t rfl ?_)
          exact br_t hlt (br_f z1 (br_t z2 (sm_tuT _ (k := 6) (by omega) t2 (br_f (by decide) (sm_tuN _ (k := 6) (by omega) t3 (br_t rfl ⟨rfl, rl_in R⟩))))))
      · refine sm_itN _ t2 (br_t rfl ?_)
        exact br_t hlt (br_f z1 (br_t z2 (sm_tuN _ (k := 6) (by omega) t2 (br_t rfl ⟨rfl, rl_in R⟩))))
    · exact br_t z (br_t rfl (br_t hlt (br_t z ⟨rfl, rl_in R⟩)))
    · exact br_f z1 (br_t z3 (br_t rfl (br_t hlt (br_f z1 (br_f z2 ⟨rfl, rl_in R⟩)))))
  · have hlt := nI_nlt (a := nd) (b := dl) (by omega) (by omega)
    exact br_f hlt (br_f hlt ⟨rfl, rl_in R⟩)
/-! addInstance -/
theorem ai_o {q : Nat} (hq : q = 1 ∨ q = 2 ∨ q = 4 ∨ q = 5) : ∃ (lo : List Bool) (eo : Nat), sr_o q = ty_e lo eo ∧ 1 ≤ eo ∧ eo ≤ 3 ∧ lo.length ≤ 1 := by
  rcases hq with rfl | rfl | rfl | rfl
  · exact ⟨[], 1, rfl, by omega, by omega, by decide⟩
  · exact ⟨[], 2, rfl, by omega, by omega, by decide⟩
  · exact ⟨[false], 3, rfl, by omega, by omega, by decide⟩
  · exact ⟨[true], 3, rfl, by omega, by omega, by decide⟩
theorem ai_ow {post : Int32 → Prop} (u : SX) {q : Nat} (hq : q = 1 ∨ q = 2 ∨ q = 4 ∨ q = 5) (hp : post (nI (sr_o q))) : wpX_ownType post u (nI q) := by
  refine tx_i (P := fun u => wpX_ownType post u (nI q)) (fun fDL fCL fPL fNC fND fCK fED fEP fH fO fHP fNK fRC fTD fTT fAX fAY fRS fLV fLT fDP fEN fAN aSup aCpx aCpy aCr aIns aCls aHd aCtx aPx aPy aR aSz aWd aTk aTn aTt aTj aTs aFl aEl aOt aOk aKd aKt aCal aFd aFt aFc aFp aFh aFx aFy aVl => ?_) u
  rcases hq with rfl | rfl | rfl | rfl
  · exact br_f (by decide) hp
  · exact br_f (by decide) hp
  · exact br_t (by decide) (show post (nI 4 + 24) from (by decide : nI 4 + 24 = nI 28) ▸ hp)
  · exact br_t (by decide) (show post (nI 5 + 24) from (by decide : nI 5 + 24 = nI 29) ▸ hp)
theorem ai_oy {post : Int32 → Prop} (v : SY) {q : Nat} (hq : q = 1 ∨ q = 2 ∨ q = 4 ∨ q = 5) (hp : post (nI (sr_o q))) : wpY_own post v (nI q) := by
  refine tx_j (P := fun v => wpY_own post v (nI q)) (fun fDL fCL fPL fNC fND fCK fED fEP yAt fH fO fAX fAY fLV fRS fLT ySp yDp yEn fNK yRk aSup aCpx aCpy aCr aPx aPy aR aCtx aCls aHd aSz yWd aTk aTn aTt aTs aFl aOt yVl yFx yFy yFk yFp yKl => ?_) v
  rcases hq with rfl | rfl | rfl | rfl
  · exact br_f (by decide) hp
  · exact br_f (by decide) hp
  · exact br_t (by decide) (show post (nI 4 + 24) from (by decide : nI 4 + 24 = nI 28) ▸ hp)
  · exact br_t (by decide) (show post (nI 5 + 24) from (by decide : nI 5 + 24 = nI 29) ▸ hp)
/-- a class type with the own type put in: the same answer on both sides -/
theorem ai_s {q : Nat} (hq : q = 1 ∨ q = 2 ∨ q = 4 ∨ q = 5) {p : Int32} (hp : ty_T 5 p) : ∃ r : Int32, ty_T 6 r ∧ sr_O q p r ∧ (∀ (u : SX) (post : Int32 → Prop), post r → wpX_subst post u p (nI (sr_o q))) ∧ (∀ (v : SY) (post : Int32 → Prop), post r → wpY_subst post v p (nI (sr_o q))) := by
  obtain ⟨l, e, h1, h3, hl, rfl⟩ := hp
  obtain ⟨lo, eo, o1, o2, o3, o4⟩ := ai_o hq
  have hb : ty_e l (sr_o q) < 2097152 := by
    rw [o1, ← ty_ea]
    exact ty_e21 (by rw [List.length_append]; omega) (by omega)
  refine ⟨nI (ty_e l (ty_s e (sr_o q))), ?_, ⟨l, e, h1, h3, hl, rfl, rfl⟩, fun u post h => ?_, fun v post h => ?_⟩
  · by_cases h : e = 3
    · subst h
      rw [ty_s3, o1, ← ty_ea]
      exact ⟨l ++ lo, eo, o2, o3, by rw [List.length_append]; omega, rfl⟩
    · rw [ty_sn h]
      exact ⟨l, e, h1, h3, by omega, rfl⟩
  · exact tx_sub u h1 h3 (by omega) (fun _ => by omega) h
  · exact tx_sby v h1 h3 (by omega) h
section
variable {dl cl pl nc nd : Nat} {fCK fED fEP fH fO fHP fNK fRC fTD fTT : Int32} {fAX fAY : Int64} {fRS : Int32} {fLV : Int64} {fLT fDP fEN : Int32} {fAN : Int64} {aSup aCpx aCpy aCr aIns aCls aHd aCtx aPx aPy aR aSz aWd aTk aTn aTt aTj aTs aFl aEl aOt aOk aKd aKt aCal aFd aFt aFc aFp aFh : Nat → Int32} {aFx aFy aVl : Nat → Int64} {yAt ySp yDp yEn yRk : Int32} {yWd : Nat → Int32} {yVl yFx yFy : Nat → Int64} {yFk yFp yKl : Nat → Int32}
theorem ai_X {post : Int32 → SX → Prop} {c q : Nat} {x : Int32} (hc : c < nc) (h4 : nc ≤ 4) (hq : q = 1 ∨ q = 2 ∨ q = 4 ∨ q = 5) (hlt : nI nd < nI dl) (h : wX_addInstance_47 post (nI c) (nI q) x (nI dl) (nI cl) (nI pl) (nI nc) (nI nd) fCK fED fEP fH fO fHP fNK fRC fTD fTT fAX fAY fRS fLV fLT fDP fEN fAN aSup aCpx aCpy aCr aIns aCls aHd aCtx aPx aPy aR aSz aWd aTk aTn aTt aTj aTs aFl aEl aOt aOk aKd aKt aCal aFd aFt aFc aFp aFh aFx aFy aVl) : wpX_addInstance post (nI dl, nI cl, nI pl, nI nc, nI nd, fCK, fED, fEP, fH, fO, fHP, fNK, fRC, fTD, fTT, fAX, fAY, fRS, fLV, fLT, fDP, fEN, fAN, aSup, aCpx, aCpy, aCr, aIns, aCls, aHd, aCtx, aPx, aPy, aR, aSz, aWd, aTk, aTn, aTt, aTj, aTs, aFl, aEl, aOt, aOk, aKd, aKt, aCal, aFd, aFt, aFc, aFp, aFh, aFx, aFy, aVl) (nI c) (nI q) x := by
  refine br_t hlt (br_f (nI_pos (by omega)) (br_f (nI_ge hc (by omega)) (br_f (by decide) ?_)))
  rcases hq with rfl | rfl | rfl | rfl
  · exact br_t rfl h
  · exact br_f (by decide) (br_t rfl h)
  · exact br_f (by decide) (br_f (by decide) (br_t rfl h))
  · exact br_f (by decide) (br_f (by decide) (br_f (by decide) (br_t rfl h)))
theorem ai_Y {post : Int32 → SY → Prop} {c q : Nat} {x : Int32} (hc : c < nc) (h4 : nc ≤ 4) (hq : q = 1 ∨ q = 2 ∨ q = 4 ∨ q = 5) (hlt : nI nd < nI dl) (h : wY_addInstance_51 post (nI c) (nI q) x (nI dl) (nI cl) (nI pl) (nI nc) (nI nd) fCK fED fEP yAt fH fO fAX fAY fLV fRS fLT ySp yDp yEn fNK yRk aSup aCpx aCpy aCr aPx aPy aR aCtx aCls aHd aSz yWd aTk aTn aTt aTs aFl aOt yVl yFx yFy yFk yFp yKl) : wpY_addInstance post (nI dl, nI cl, nI pl, nI nc, nI nd, fCK, fED, fEP, yAt, fH, fO, fAX, fAY, fLV, fRS, fLT, ySp, yDp, yEn, fNK, yRk, aSup, aCpx, aCpy, aCr, aPx, aPy, aR, aCtx, aCls, aHd, aSz, yWd, aTk, aTn, aTt, aTs, aFl, aOt, yVl, yFx, yFy, yFk, yFp, yKl) (nI c) (nI q) x := by
  refine br_t hlt (br_f (nI_pos (by omega)) (br_t (nI_lt hc (by omega)) ?_))
  rcases hq with rfl | rfl | rfl | rfl
  · exact br_t rfl h
  · exact br_f (by decide) (br_t rfl h)
  · exact br_f (by decide) (br_f (by decide) (br_t rfl h))
  · exact br_f (by decide) (br_f (by decide) (br_f (by decide) (br_t rfl h)))
end
theorem i_vc_addInstance {k : Nat} {u : SX} {v : SY} (I : i_Rel k u v) (hk : k + 5 ≤ 2563) (v1 : Int32) (v2 : Int32) (v3 : Int32) : wpX_addInstance (fun r u' => wpY_addInstance (fun r' v' => r' = r ∧ i_Rel (k + 5) u' v') v v1 v2 v3) u v1 v2 v3 := by
  refine rl_el (P := fun u v => wpX_addInstance (fun r u' => wpY_addInstance (fun r' v' => r' = r ∧ i_Rel (k + 5) u' v') v v1 v2 v3) u v1 v2 v3) ?_ I
  intro dl cl pl nc nd fCK fED fEP fH fO fHP fNK fRC fTD fTT fAX fAY fRS fLV fLT fDP fEN fAN aSup aCpx aCpy aCr aIns aCls aHd aCtx aPx aPy aR aSz aWd aTk aTn aTt aTj aTs aFl aEl aOt aOk aKd aKt aCal aFd aFt aFc aFp aFh aFx aFy aVl yAt ySp yDp yEn yRk yWd yVl yFx yFy yFk yFp yKl R
  have H : (sr_H nc nd aSup aIns aCls aHd aCtx) := R.2.1.1
  have h4 : nc ≤ 4 := R.2.1.1.1
  obtain ⟨d1, d2, c1, c2, p1, p2, d3⟩ := R.1
  by_cases hn : nd < dl
  · have hlt := nI_lt hn (by omega)
    rcases pk_ix v1 (n := nc) (by omega) with z | z | ⟨c, hc, rfl⟩
    · exact br_t hlt (br_t z (br_t rfl (br_t hlt (br_t z ⟨rfl, rl_in R⟩))))
    · by_cases y : v1 < 0
      · exact br_t hlt (br_t y (br_t rfl (br_t hlt (br_t y ⟨rfl, rl_in R⟩))))
      · exact br_t hlt (br_f y (br_t z (br_t rfl (br_t hlt (br_f y (br_f (Int32.not_lt.mpr z) ⟨rfl, rl_in R⟩))))))
    · by_cases hq : ∃ q, (q = 1 ∨ q = 2 ∨ q = 4 ∨ q = 5) ∧ v2 = nI q
      · obtain ⟨q, hq, rfl⟩ := hq
        refine ai_X hc h4 hq hlt ?_
        have e8 := wh_in (c := c) (h := q)
        unfold wX_addInstance_47
        rw [e8, nI_clamp (by omega)]
        refine ⟨vp_in_nI (by omega) (by decide), ?_⟩
        by_cases hi : aIns (8 * c + q) = -1
        · refine br_t hi ?_
          rcases sm_mk h4 v3 with ⟨m, hm, rfl, z1, z2, z3⟩ | ⟨_, z | ⟨z1, z2, z3⟩⟩
          · refine br_f z1 (br_f z3 (br_f (by decide) ?_))
            by_cases hz : q ≤ 2 → m = 0
            · obtain ⟨r1, t1, o1, x1, y1⟩ := ai_s hq (R.2.1.2.1 c hc).1
              obtain ⟨r2, t2, o2, x2, y2⟩ := ai_s hq (R.2.1.2.1 c hc).2.1
              obtain ⟨r3, t3, o3, x3, y3⟩ := ai_s hq (R.2.1.2.1 c hc).2.2
              have hv := vp_in_nI (n := c) (N := 4) (by omega) (by decide)
              have K : wX_addInstance_85 (fun r u' => wpY_addInstance (fun r' v' => r' = r ∧ i_Rel (k + 5) u' v') (nI dl, nI cl, nI pl, nI nc, nI nd, fCK, fED, fEP, yAt, fH, fO, fAX, fAY, fLV, fRS, fLT, ySp, yDp, yEn, fNK, yRk, aSup, aCpx, aCpy, aCr, aPx, aPy, aR, aCtx, aCls, aHd, aSz, yWd, aTk, aTn, aTt, aTs, aFl, aOt, yVl, yFx, yFy, yFk, yFp, yKl) (nI c) (nI q) (nI m)) (nI c) (nI q) (nI m) (nI dl) (nI cl) (nI pl) (nI nc) (nI nd) fCK fED fEP fH fO fHP fNK fRC fTD fTT fAX fAY fRS fLV fLT fDP fEN fAN aSup aCpx aCpy aCr aIns aCls aHd aCtx aPx aPy aR aSz aWd aTk aTn aTt aTj aTs aFl aEl aOt aOk aKd aKt aCal aFd aFt aFc aFp aFh aFx aFy aVl := by
                unfold wX_addInstance_85
                refine ai_ow _ hq ?_
                rw [nI_clamp (by omega)]
                refine ⟨hv, x1 _ _ ⟨hv, x2 _ _ ⟨hv, x3 _ _ (sm_adX (by omega) ?_)⟩⟩⟩
                dsimp only
                rw [e8, nI_clamp (by omega)]
                refine ⟨vp_in_nI (by omega) (by decide), nm_e ?_⟩
                refine ai_Y hc h4 hq hlt (wh_yi H (by omega) (by omega) ?_)
                rw [hi]
                have K2 : wY_addInstance_89 (fun r' v' => r' = nI nd ∧ i_Rel (k + 5) (nI dl, nI cl, nI pl, nI nc, nI (nd + 1), 0, fED, fEP, fH, fO, 0, 0, -1, fTD, fTT, fAX, fAY, fRS, fLV, fLT, fDP, fEN, fAN, aSup, aCpx, aCpy, aCr, upd aIns (8 * c + q) (nI nd), upd aCls nd (nI c), upd aHd nd (nI q), upd aCtx nd (nI m), upd aPx nd r1, upd aPy nd r2, upd aR nd r3, upd aSz nd 0, upd aWd nd 0, aTk, aTn, aTt, aTj, aTs, aFl, aEl, aOt, aOk, aKd, aKt, aCal, aFd, aFt, aFc, aFp, aFh, aFx, aFy, aVl) v') (nI c) (nI q) (nI m) (nI dl) (nI cl) (nI pl) (nI nc) (nI nd) fCK fED fEP yAt fH fO fAX fAY fLV fRS fLT ySp yDp yEn fNK yRk aSup aCpx aCpy aCr aPx aPy aR aCtx aCls aHd aSz yWd aTk aTn aTt aTs aFl aOt yVl yFx yFy yFk yFp yKl := by
                  unfold wY_addInstance_89
                  refine ai_oy _ hq ?_
                  rw [nI_clamp (by omega)]
                  refine ⟨hv, y1 _ _ ⟨hv, y2 _ _ ⟨hv, y3 _ _ (sm_adY (by omega) ⟨rfl, ?_⟩)⟩⟩⟩
                  exact rl_in (nd := nd + 1) (rl_c ⟨d1, d2, c1, c2, p1, p2, by omega⟩ (sr_is R.2.1 (by omega) hm t1 t2 t3 hc hq hz hi o1 o2 o3))
                refine br_t (by decide) (br_f z1 (br_f z3 ?_))
                by_cases q2 : 2 < q
                · exact br_t (nI_lt (a := 2) q2 (by omega)) K2
                · exact br_f (nI_nlt (a := 2) (by omega) (by omega)) (br_t (by rw [hz (by omega)]; rfl) K2)
              by_cases q2 : 2 < q
              · exact br_t (nI_lt (a := 2) q2 (by omega)) K
              · exact br_f (nI_nlt (a := 2) (by omega) (by omega)) (br_t (by rw [hz (by omega)]; rfl) K)
            · have q2 : q ≤ 2 := by omega
              have m0 : ¬ nI m = 0 := nI_ne0 (by omega) (by have := mk_16 h4 hm; omega)
              have qq := nI_nlt (a := 2) (b := q) q2 (by omega)
              refine br_f qq (br_f m0 ?_)
              refine ai_Y hc h4 hq hlt (wh_yi H (by omega) (by omega) ?_)
              rw [hi]
              exact br_t (by decide) (br_f z1 (br_f z3 (br_f qq (br_f m0 ⟨rfl, rl_in R⟩))))
          · refine br_t z (br_t rfl ?_)
            refine ai_Y hc h4 hq hlt (wh_yi H (by omega) (by omega) ?_)
            rw [hi]
            exact br_t (by decide) (br_t z ⟨rfl, rl_in R⟩)
          · refine br_f z1 (br_t z3 (br_t rfl ?_))
            refine ai_Y hc h4 hq hlt (wh_yi H (by omega) (by omega) ?_)
            rw [hi]
            exact br_t (by decide) (br_f z1 (br_t z3 ⟨rfl, rl_in R⟩))
        · refine br_f hi ?_
          refine ai_Y hc h4 hq hlt (wh_yi H (by omega) (by omega) ?_)
          rcases mk_iv H (c := c) (h := q) (by omega) (by omega) with z | ⟨d, hd, e, _⟩
          · exact absurd z hi
          · rw [e]
            exact br_f (nI_pos (by have := H.2.1; omega)) ⟨rfl, rl_in R⟩
      · have q1 : ¬ v2 = 1 := fun z => hq ⟨1, by omega, z⟩
        have q2 : ¬ v2 = 2 := fun z => hq ⟨2, by omega, z⟩
        have q4 : ¬ v2 = 4 := fun z => hq ⟨4, by omega, z⟩
        have q5 : ¬ v2 = 5 := fun z => hq ⟨5, by omega, z⟩
        refine br_t hlt (br_f (nI_pos (by omega)) (br_f (nI_ge hc (by omega)) (br_f (by decide) (br_f q1 (br_f q2 (br_f q4 (br_f q5 ?_)))))))
        exact br_t hlt (br_f (nI_pos (by omega)) (br_t (nI_lt hc (by omega)) (br_f q1 (br_f q2 (br_f q4 (br_f q5 ⟨rfl, rl_in R⟩))))))
  · have hlt := nI_nlt (a := nd) (b := dl) (by omega) (by omega)
    exact br_f hlt (br_f hlt ⟨rfl, rl_in R⟩)
/-! token, dropToken -/
section
variable {dl cl pl nc nd : Nat} {fCK fED fEP fH fO fHP fNK fRC fTD fTT : Int32} {fAX fAY : Int64} {fRS : Int32} {fLV : Int64} {fLT fDP fEN : Int32} {fAN : Int64} {aSup aCpx aCpy aCr aIns aCls aHd aCtx aPx aPy aR aSz aWd aTk aTn aTt aTj aTs aFl aEl aOt aOk aKd aKt aCal aFd aFt aFc aFp aFh : Nat → Int32} {aFx aFy aVl : Nat → Int64} {yAt ySp yDp yEn yRk : Int32} {yWd : Nat → Int32} {yVl yFx yFy : Nat → Int64} {yFk yFp yKl : Nat → Int32}
theorem tk_X {post : Int32 → SX → Prop} {d n : Nat} {K N T : Int32} (hd : d < 12) (hn : n < 20) (h : post (nI n) (nI dl, nI cl, nI pl, nI nc, nI nd, 0, fED, fEP, fH, fO, 0, 0, -1, fTD, fTT, fAX, fAY, fRS, fLV, fLT, fDP, fEN, fAN, aSup, aCpx, aCpy, aCr, aIns, aCls, aHd, aCtx, aPx, aPy, aR, upd aSz d (nI (n + 1)), aWd, upd aTk (20 * d + n) K, upd aTn (20 * d + n) N, upd aTt (20 * d + n) T, upd aTj (20 * d + n) 0, aTs, aFl, aEl, aOt, aOk, aKd, aKt, aCal, aFd, aFt, aFc, aFp, aFh, aFx, aFy, aVl)) : wX_token_87 post (nI d) K (nI n) N T (nI dl) (nI cl) (nI pl) (nI nc) (nI nd) fCK fED fEP fH fO fHP fNK fRC fTD fTT fAX fAY fRS fLV fLT fDP fEN fAN aSup aCpx aCpy aCr aIns aCls aHd aCtx aPx aPy aR aSz aWd aTk aTn aTt aTj aTs aFl aEl aOt aOk aKd aKt aCal aFd aFt aFc aFp aFh aFx aFy aVl := by
  unfold wX_token_87
  refine nm_r (sm_20x d n) ?_
  rw [nI_clamp (n := 20 * d + n) (by omega), nI_clamp (n := d) (by omega), nI_1]
  have hv := vp_in_nI (n := 20 * d + n) (N := 240) (by omega) (by decide)
  exact ⟨hv, nm_e ⟨hv, nm_e ⟨hv, nm_e ⟨hv, nm_e ⟨vp_in_nI hd (by decide), nm_e (sm_sc h)⟩⟩⟩⟩⟩
theorem tk_Y {post : Int32 → SY → Prop} {d n : Nat} {T : Int32} (hd : d < 12) (hn : n < 20) (he : aSz d = nI n) (h : post (nI n) (nI dl, nI cl, nI pl, nI nc, nI nd, 0, fED, fEP, yAt, fH, fO, fAX, fAY, fLV, fRS, fLT, ySp, yDp, yEn, 0, yRk, aSup, aCpx, aCpy, aCr, aPx, aPy, aR, aCtx, aCls, aHd, upd aSz d (nI (n + 1)), yWd, aTk, aTn, upd aTt (20 * d + n) T, aTs, aFl, aOt, yVl, yFx, yFy, yFk, yFp, yKl)) : wY_token_121 post (nI d) T (nI (20 * d + n)) (nI dl) (nI cl) (nI pl) (nI nc) (nI nd) fCK fED fEP yAt fH fO fAX fAY fLV fRS fLT ySp yDp yEn fNK yRk aSup aCpx aCpy aCr aPx aPy aR aCtx aCls aHd aSz yWd aTk aTn aTt aTs aFl aOt yVl yFx yFy yFk yFp yKl := by
  unfold wY_token_121
  rw [nI_clamp (n := 20 * d + n) (by omega), nI_clamp (n := d) (by omega), he, nI_1]
  have hv := vp_in_nI (n := 20 * d + n) (N := 240) (by omega) (by decide)
  have hw := vp_in_nI (n := d) (N := 12) hd (by decide)
  refine ⟨hv, nm_e ⟨hw, hw, nm_e (sm_ch ⟨hw, ?_⟩)⟩⟩
  rw [pk_us, nI_pred]
  exact h
theorem tk_Z {post : Int32 → SY → Prop} {d n k : Nat} {N t : Int32} (hd : d < 12) (hn : n < 20) (hk : k ≤ 18) (he : aSz d = nI n) (h : post (nI n) (nI dl, nI cl, nI pl, nI nc, nI nd, 0, fED, fEP, yAt, fH, fO, fAX, fAY, fLV, fRS, fLT, ySp, yDp, yEn, 0, yRk, aSup, aCpx, aCpy, aCr, aPx, aPy, aR, aCtx, aCls, aHd, upd aSz d (nI (n + 1)), yWd, aTk, upd aTn (20 * d + n) N, upd aTt (20 * d + n) (if k < 17 then 0 else t), aTs, aFl, aOt, yVl, yFx, yFy, yFk, yFp, yKl)) : wY_token_102 post (nI d) (nI k) t (nI (20 * d + n)) N (nI (20 * d + n)) (nI dl) (nI cl) (nI pl) (nI nc) (nI nd) fCK fED fEP yAt fH fO fAX fAY fLV fRS fLT ySp yDp yEn fNK yRk aSup aCpx aCpy aCr aPx aPy aR aCtx aCls aHd aSz yWd aTk aTn aTt aTs aFl aOt yVl yFx yFy yFk yFp yKl := by
  unfold wY_token_102
  rw [nI_clamp (n := 20 * d + n) (by omega)]
  have hv := vp_in_nI (n := 20 * d + n) (N := 240) (by omega) (by decide)
  refine ⟨hv, nm_e ?_⟩
  by_cases h17 : k < 17
  · rw [if_pos h17] at h
    exact br_t (nI_lt (b := 17) h17 (by decide)) (tk_Y hd hn he h)
  · rw [if_neg h17] at h
    exact br_f (nI_nlt (b := 17) (by omega) (by omega)) (tk_Y hd hn he h)
end
theorem tk_0 (x : Int32) : ∃ j, j < 256 ∧ x &&& 255 = nI j := pk_andE x 8 (by decide)
theorem tk_1 (x : Int32) : ∃ j, j < 2 ∧ x &&& 1 = nI j := pk_andE x 1 (by decide)
theorem i_vc_token {k : Nat} {u : SX} {v : SY} (I : i_Rel k u v) (hk : k + 5 ≤ 2563) (v1 : Int32) (v2 : Int32) (v3 : Int32) (v4 : Int32) : wpX_token (fun r u' => wpY_token (fun r' v' => r' = r ∧ i_Rel (k + 5) u' v') v v1 v2 v3 v4) u v1 v2 v3 v4 := by
  refine rl_el (P := fun u v => wpX_token (fun r u' => wpY_token (fun r' v' => r' = r ∧ i_Rel (k + 5) u' v') v v1 v2 v3 v4) u v1 v2 v3 v4) ?_ I
  intro dl cl pl nc nd fCK fED fEP fH fO fHP fNK fRC fTD fTT fAX fAY fRS fLV fLT fDP fEN fAN aSup aCpx aCpy aCr aIns aCls aHd aCtx aPx aPy aR aSz aWd aTk aTn aTt aTj aTs aFl aEl aOt aOk aKd aKt aCal aFd aFt aFc aFp aFh aFx aFy aVl yAt ySp yDp yEn yRk yWd yVl yFx yFy yFk yFp yKl R
  have H : (sr_H nc nd aSup aIns aCls aHd aCtx) := R.2.1.1
  have h12 : nd ≤ 12 := H.2.1
  rcases pk_ix v1 (n := nd) (by omega) with z | z | ⟨d, hd, rfl⟩
  · exact br_t z (br_t rfl (br_t z ⟨rfl, rl_in R⟩))
  · by_cases y : v1 < 0
    · exact br_t y (br_t rfl (br_t y ⟨rfl, rl_in R⟩))
    · exact br_f y (br_t z (br_t rfl (br_f y (br_f (Int32.not_lt.mpr z) ⟨rfl, rl_in R⟩))))
  · have d0 : ¬ nI d < 0 := nI_pos (by omega)
    have d1 : ¬ nI nd ≤ nI d := nI_ge hd (by omega)
    have d2 : nI d < nI nd := nI_lt hd (by omega)
    refine br_f d0 (br_f d1 (br_f (by decide) ?_))
    by_cases z : v2 < 0
    · exact br_t z (br_f d0 (br_t d2 (br_t z ⟨rfl, rl_in R⟩)))
    · by_cases y : v2 ≤ 18
      · obtain ⟨q, hq, rfl⟩ := nI_of2 (x := v2) (M := 18) (n := 18) (by decide) z y
        have hv := vp_in_nI (n := d) (N := 12) (by omega) (by decide)
        obtain ⟨n, n20, en, _⟩ := R.2.1.2.2.2 d hd
        refine br_f z (br_t y ⟨hv, ?_⟩)
        rw [nI_clamp (n := d) (by omega)]
        refine nm_r en ?_
        by_cases hn : n < 20
        · refine br_t (nI_lt (b := 20) hn (by decide)) ?_
          have F : ∀ N : Int32, (q = 0 → ∃ x, x < 256 ∧ N = nI x) → (q = 1 → ∃ x, x < 2 ∧ N = nI x) → i_Rel (k + 5) (nI dl, nI cl, nI pl, nI nc, nI nd, 0, fED, fEP, fH, fO, 0, 0, -1, fTD, fTT, fAX, fAY, fRS, fLV, fLT, fDP, fEN, fAN, aSup, aCpx, aCpy, aCr, aIns, aCls, aHd, aCtx, aPx, aPy, aR, upd aSz d (nI (n + 1)), aWd, upd aTk (20 * d + n) (nI q), upd aTn (20 * d + n) N, upd aTt (20 * d + n) (if q < 17 then 0 else v4), upd aTj (20 * d + n) 0, aTs, aFl, aEl, aOt, aOk, aKd, aKt, aCal, aFd, aFt, aFc, aFp, aFh, aFx, aFy, aVl) (nI dl, nI cl, nI pl, nI nc, nI nd, 0, fED, fEP, yAt, fH, fO, fAX, fAY, fLV, fRS, fLT, ySp, yDp, yEn, 0, yRk, aSup, aCpx, aCpy, aCr, aPx, aPy, aR, aCtx, aCls, aHd, upd aSz d (nI (n + 1)), yWd, upd aTk (20 * d + n) (nI q), upd aTn (20 * d + n) N, upd aTt (20 * d + n) (if q < 17 then 0 else v4), aTs, aFl, aOt, yVl, yFx, yFy, yFk, yFp, yKl) :=
            fun N z0 z1 => rl_in (rl_c R.1 (sr_tk R.2.1 hd en hn hq z0 z1))
          have y1 : ∀ {A B : Prop}, A → (aSz (nI d).toNatClampNeg < 20 → A) ∧ (¬ aSz (nI d).toNatClampNeg < 20 → B) := fun a => br_t (by rw [nI_clamp (n := d) (by omega), en]; exact nI_lt (b := 20) hn (by decide)) a
          have hw := vp_in_nI (n := 20 * d + n) (N := 240) (by omega) (by decide)
          have ey : nI d * 20 + aSz (nI d).toNatClampNeg = nI (20 * d + n) := by rw [nI_clamp (n := d) (by omega), en, sm_20y]
          have ek : upd aTk (nI (20 * d + n)).toNatClampNeg (nI q) = upd aTk (20 * d + n) (nI q) := by rw [nI_clamp (n := 20 * d + n) (by omega)]
          by_cases q0 : q = 0
          · subst q0
            refine br_t rfl (nm_e (tk_X (by omega) hn ?_))
            refine br_f d0 (br_t d2 (br_f z (br_t y ⟨hv, y1 ⟨hv, nm_r ey ⟨hw, nm_r ek (br_t (by decide) (br_t rfl ?_))⟩⟩⟩)))
            exact tk_Z (by omega) hn hq en ⟨rfl, F _ (fun _ => tk_0 v3) (fun z => absurd z (by decide))⟩
          · have q0' : ¬ nI q = 0 := nI_ne0 (by omega) (by omega)
            by_cases q1 : q = 1
            · subst q1
              refine br_f q0' (br_t rfl (nm_e (tk_X (by omega) hn ?_)))
              refine br_f d0 (br_t d2 (br_f z (br_t y ⟨hv, y1 ⟨hv, nm_r ey ⟨hw, nm_r ek (br_t (by decide) (br_f q0' (br_t rfl ?_)))⟩⟩⟩)))
              exact tk_Z (by omega) hn hq en ⟨rfl, F _ (fun z => absurd z (by decide)) (fun _ => tk_1 v3)⟩
            · have q1' : ¬ nI q = 1 := fun z => q1 ((nI_eq (b := 1) (by omega) (by omega)).mp z)
              by_cases q17 : q < 17
              · have q17' := nI_lt (b := 17) q17 (by decide)
                have G := F 0 (fun z => absurd z q0) (fun z => absurd z q1)
                refine br_f q0' (br_f q1' (br_t q17' (tk_X (by omega) hn ?_)))
                refine br_f d0 (br_t d2 (br_f z (br_t y ⟨hv, y1 ⟨hv, nm_r ey ⟨hw, nm_r ek (br_t q17' (br_f q0' (br_f q1' ?_)))⟩⟩⟩)))
                refine tk_Z (by omega) hn hq en ⟨rfl, ?_⟩
                rw [if_pos q17] at G ⊢
                exact G
              · have q17' := nI_nlt (a := q) (b := 17) (by omega) (by omega)
                have G := F v3 (fun z => absurd z q0) (fun z => absurd z q1)
                refine br_f q0' (br_f q1' (br_f q17' (tk_X (by omega) hn ?_)))
                refine br_f d0 (br_t d2 (br_f z (br_t y ⟨hv, y1 ⟨hv, nm_r ey ⟨hw, nm_r ek (br_f q17' ?_)⟩⟩⟩)))
                refine tk_Z (by omega) hn hq en ⟨rfl, ?_⟩
                rw [if_neg q17] at G ⊢
                exact G
        · have hn' := nI_nlt (a := n) (b := 20) (by omega) (by omega)
          refine br_f hn' ?_
          refine br_f d0 (br_t d2 (br_f z (br_t y ⟨hv, br_f ?_ ⟨rfl, rl_in R⟩⟩)))
          rw [nI_clamp (n := d) (by omega), en]
          exact hn'
      · exact br_f z (br_f y (br_f d0 (br_t d2 (br_f z (br_f y ⟨rfl, rl_in R⟩)))))
theorem i_vc_dropToken {k : Nat} {u : SX} {v : SY} (I : i_Rel k u v) (hk : k + 5 ≤ 2563) (v1 : Int32) : wpX_dropToken (fun r u' => wpY_dropToken (fun r' v' => r' = r ∧ i_Rel (k + 5) u' v') v v1) u v1 := by
  refine rl_el (P := fun u v => wpX_dropToken (fun r u' => wpY_dropToken (fun r' v' => r' = r ∧ i_Rel (k + 5) u' v') v v1) u v1) ?_ I
  intro dl cl pl nc nd fCK fED fEP fH fO fHP fNK fRC fTD fTT fAX fAY fRS fLV fLT fDP fEN fAN aSup aCpx aCpy aCr aIns aCls aHd aCtx aPx aPy aR aSz aWd aTk aTn aTt aTj aTs aFl aEl aOt aOk aKd aKt aCal aFd aFt aFc aFp aFh aFx aFy aVl yAt ySp yDp yEn yRk yWd yVl yFx yFy yFk yFp yKl R
  have H : (sr_H nc nd aSup aIns aCls aHd aCtx) := R.2.1.1
  have h12 : nd ≤ 12 := H.2.1
  rcases pk_ix v1 (n := nd) (by omega) with z | z | ⟨d, hd, rfl⟩
  · exact br_t z (br_t rfl (br_t z ⟨rfl, rl_in R⟩))
  · by_cases y : v1 < 0
    · exact br_t y (br_t rfl (br_t y ⟨rfl, rl_in R⟩))
    · exact br_f y (br_t z (br_t rfl (br_f y (br_t z ⟨rfl, rl_in R⟩))))
  · have d0 : ¬ nI d < 0 := nI_pos (by omega)
    have d1 : ¬ nI nd ≤ nI d := nI_ge hd (by omega)
    have hv := vp_in_nI (n := d) (N := 12) (by omega) (by decide)
    have ed := nI_clamp (n := d) (by omega)
    obtain ⟨n, n20, en, _⟩ := R.2.1.2.2.2 d hd
    refine br_f d0 (br_f d1 (br_f (by decide) ⟨hv, ?_⟩))
    rw [ed, en]
    cases n with
    | zero =>
      refine br_t rfl (br_f d0 (br_f d1 ⟨hv, ?_⟩))
      rw [ed, en]
      exact br_t rfl ⟨rfl, rl_in R⟩
    | succ n =>
      have n0 : ¬ nI (n + 1) = 0 := nI_ne0 (by omega) (by omega)
      rw [nI_pred]
      refine br_f n0 ⟨hv, hv, nm_e (sm_sc ⟨hv, ?_⟩)⟩
      rw [pk_us]
      refine br_f d0 (br_f d1 ⟨hv, ?_⟩)
      rw [ed, en, nI_pred]
      refine br_f n0 ⟨hv, hv, nm_e (sm_ch ⟨hv, ?_⟩)⟩
      exact ⟨pk_us, rl_in (rl_c R.1 (sr_dt R.2.1 hd en (by omega)))⟩
end
section
/-! 11: classField, defField, tokenField, isAllowed, entails -/
theorem i_vc_classField {k : Nat} {u : SX} {v : SY} (I : i_Rel k u v) (hk : k + 5 ≤ 2563) (v1 : Int32) (v2 : Int32) : wpX_classField (fun r => wpY_classField (fun r' => r' = r ∧ i_Rel (k + 5) u v) v v1 v2) u v1 v2 := by
  refine rl_el (P := fun u v => wpX_classField (fun r => wpY_classField (fun r' => r' = r ∧ i_Rel (k + 5) u v) v v1 v2) u v1 v2) ?_ I
  intro dl cl pl nc nd fCK fED fEP fH fO fHP fNK fRC fTD fTT fAX fAY fRS fLV fLT fDP fEN fAN aSup aCpx aCpy aCr aIns aCls aHd aCtx aPx aPy aR aSz aWd aTk aTn aTt aTj aTs aFl aEl aOt aOk aKd aKt aCal aFd aFt aFc aFp aFh aFx aFy aVl yAt ySp yDp yEn yRk yWd yVl yFx yFy yFk yFp yKl R
  have h4 : nc ≤ 4 := R.2.1.1.1
  have R' : i_Rel (k + 5) (nI dl, nI cl, nI pl, nI nc, nI nd, fCK, fED, fEP, fH, fO, fHP, fNK, fRC, fTD, fTT, fAX, fAY, fRS, fLV, fLT, fDP, fEN, fAN, aSup, aCpx, aCpy, aCr, aIns, aCls, aHd, aCtx, aPx, aPy, aR, aSz, aWd, aTk, aTn, aTt, aTj, aTs, aFl, aEl, aOt, aOk, aKd, aKt, aCal, aFd, aFt, aFc, aFp, aFh, aFx, aFy, aVl) (nI dl, nI cl, nI pl, nI nc, nI nd, fCK, fED, fEP, yAt, fH, fO, fAX, fAY, fLV, fRS, fLT, ySp, yDp, yEn, fNK, yRk, aSup, aCpx, aCpy, aCr, aPx, aPy, aR, aCtx, aCls, aHd, aSz, yWd, aTk, aTn, aTt, aTs, aFl, aOt, yVl, yFx, yFy, yFk, yFp, yKl) := rl_in R
  rcases pk_ix v1 (n := nc) (by omega) with z | z | ⟨c, hc, rfl⟩
  · exact br_t z (br_t rfl (br_t z ⟨rfl, R'⟩))
  · by_cases y : v1 < 0
    · exact br_t y (br_t rfl (br_t y ⟨rfl, R'⟩))
    · exact br_f y (br_t z (br_t rfl (br_f y (br_f (Int32.not_lt.mpr z) ⟨rfl, R'⟩))))
  · have d0 : ¬ nI c < 0 := nI_pos (by omega)
    have d1 : ¬ nI nc ≤ nI c := nI_ge hc (by omega)
    have d2 : nI c < nI nc := nI_lt hc (by omega)
    have hv := vp_in_nI (n := c) (N := 4) (by omega) (by decide)
    refine br_f d0 (br_f d1 (br_f (by decide) ?_))
    rcases pk_ix v2 (n := 4) (by omega) with z | z | ⟨j, hj, rfl⟩
    · have e : ∀ n, n < 4 → ¬ v2 = nI n := fun n hn e => nI_pos (n := n) (by omega) (e ▸ z)
      exact br_t z (br_f d0 (br_t d2 (br_f (e 0 (by omega)) (br_f (e 1 (by omega)) (br_f (e 2 (by omega)) (br_f (e 3 (by omega)) ⟨rfl, R'⟩))))))
    · have e : ∀ n, n < 4 → ¬ v2 = nI n := fun n hn e => nI_ge (a := n) (b := 4) hn (by omega) (e ▸ z)
      have z0 : ¬ v2 < 0 := fun y => by
        rw [Int32.lt_iff_toInt_lt, show (0 : Int32).toInt = 0 by decide] at y
        rw [Int32.le_iff_toInt_le, nI_toInt (by omega)] at z
        omega
      have z1 : 3 < v2 := by
        rw [Int32.lt_iff_toInt_lt, show (3 : Int32).toInt = 3 by decide]
        rw [Int32.le_iff_toInt_le, nI_toInt (by omega)] at z
        omega
      exact br_f z0 (br_t z1 (br_f d0 (br_t d2 (br_f (e 0 (by omega)) (br_f (e 1 (by omega)) (br_f (e 2 (by omega)) (br_f (e 3 (by omega)) ⟨rfl, R'⟩)))))))
    · rcases (show j = 0 ∨ j = 1 ∨ j = 2 ∨ j = 3 by omega) with rfl | rfl | rfl | rfl
      · exact br_f (by decide) (br_f (by decide) (br_t rfl ⟨hv, br_f d0 (br_t d2 (br_t rfl ⟨hv, rfl, R'⟩))⟩))
      · exact br_f (by decide) (br_f (by decide) (br_f (by decide) (br_t rfl ⟨hv, br_f d0 (br_t d2 (br_f (by decide) (br_t rfl ⟨hv, rfl, R'⟩)))⟩)))
      · exact br_f (by decide) (br_f (by decide) (br_f (by decide) (br_f (by decide) (br_t rfl ⟨hv, br_f d0 (br_t d2 (br_f (by decide) (br_f (by decide) (br_t rfl ⟨hv, rfl, R'⟩))))⟩))))
      · exact br_f (by decide) (br_f (by decide) (br_f (by decide) (br_f (by decide) (br_f (by decide) (br_t rfl ⟨hv, br_f d0 (br_t d2 (br_f (by decide) (br_f (by decide) (br_f (by decide) (br_t rfl ⟨hv, rfl, R'⟩)))))⟩)))))
theorem fd_ge {x : Int32} {n : Nat} (hn : n < 2 ^ 31) (z : nI n ≤ x) : ∀ m, m ≤ n → 0 < m → ¬ x < 0 ∧ nI (m - 1) < x ∧ ¬ x ≤ nI (m - 1) ∧ ∀ j, j < m → ¬ x = nI j := by
  intro m hm h0
  rw [Int32.le_iff_toInt_le, nI_toInt hn] at z
  refine ⟨fun y => ?_, ?_, fun y => ?_, fun j hj y => ?_⟩
  · rw [Int32.lt_iff_toInt_lt, show (0 : Int32).toInt = 0 by decide] at y
    omega
  · rw [Int32.lt_iff_toInt_lt, nI_toInt (by omega)]
    omega
  · rw [Int32.le_iff_toInt_le, nI_toInt (by omega)] at y
    omega
  · rw [y, nI_toInt (by omega)] at z
    omega
theorem fd_lt {x : Int32} (z : x < 0) : ∀ j : Nat, j < 2 ^ 31 → ¬ x = nI j ∧ ¬ nI j < x := by
  intro j hj
  refine ⟨fun y => nI_pos hj (y ▸ z), fun y => ?_⟩
  rw [Int32.lt_iff_toInt_lt, show (0 : Int32).toInt = 0 by decide] at z
  rw [Int32.lt_iff_toInt_lt, nI_toInt hj] at y
  omega
theorem i_vc_defField {k : Nat} {u : SX} {v : SY} (I : i_Rel k u v) (hk : k + 5 ≤ 2563) (v1 : Int32) (v2 : Int32) : wpX_defField (fun r => wpY_defField (fun r' => r' = r ∧ i_Rel (k + 5) u v) v v1 v2) u v1 v2 := by
  refine rl_el (P := fun u v => wpX_defField (fun r => wpY_defField (fun r' => r' = r ∧ i_Rel (k + 5) u v) v v1 v2) u v1 v2) ?_ I
  intro dl cl pl nc nd fCK fED fEP fH fO fHP fNK fRC fTD fTT fAX fAY fRS fLV fLT fDP fEN fAN aSup aCpx aCpy aCr aIns aCls aHd aCtx aPx aPy aR aSz aWd aTk aTn aTt aTj aTs aFl aEl aOt aOk aKd aKt aCal aFd aFt aFc aFp aFh aFx aFy aVl yAt ySp yDp yEn yRk yWd yVl yFx yFy yFk yFp yKl R
  have H : (sr_H nc nd aSup aIns aCls aHd aCtx) := R.2.1.1
  have h12 : nd ≤ 12 := H.2.1
  have R' : i_Rel (k + 5) (nI dl, nI cl, nI pl, nI nc, nI nd, fCK, fED, fEP, fH, fO, fHP, fNK, fRC, fTD, fTT, fAX, fAY, fRS, fLV, fLT, fDP, fEN, fAN, aSup, aCpx, aCpy, aCr, aIns, aCls, aHd, aCtx, aPx, aPy, aR, aSz, aWd, aTk, aTn, aTt, aTj, aTs, aFl, aEl, aOt, aOk, aKd, aKt, aCal, aFd, aFt, aFc, aFp, aFh, aFx, aFy, aVl) (nI dl, nI cl, nI pl, nI nc, nI nd, fCK, fED, fEP, yAt, fH, fO, fAX, fAY, fLV, fRS, fLT, ySp, yDp, yEn, fNK, yRk, aSup, aCpx, aCpy, aCr, aPx, aPy, aR, aCtx, aCls, aHd, aSz, yWd, aTk, aTn, aTt, aTs, aFl, aOt, yVl, yFx, yFy, yFk, yFp, yKl) := rl_in R
  rcases pk_ix v1 (n := nd) (by omega) with z | z | ⟨c, hc, rfl⟩
  · exact br_t z (br_t rfl (br_t z ⟨rfl, R'⟩))
  · by_cases y : v1 < 0
    · exact br_t y (br_t rfl (br_t y ⟨rfl, R'⟩))
    · exact br_f y (br_t z (br_t rfl (br_f y (br_f (Int32.not_lt.mpr z) ⟨rfl, R'⟩))))
  · have d0 : ¬ nI c < 0 := nI_pos (by omega)
    have d1 : ¬ nI nd ≤ nI c := nI_ge hc (by omega)
    have d2 : nI c < nI nd := nI_lt hc (by omega)
    have hv := vp_in_nI (n := c) (N := 12) (by omega) (by decide)
    have ec := nI_clamp (n := c) (by omega)
    refine br_f d0 (br_f d1 (br_f (by decide) ?_))
    rcases pk_ix v2 (n := 9) (by omega) with z | z | ⟨j, hj, rfl⟩
    · have e := fd_lt z
      exact br_t z (br_f d0 (br_t d2 (br_f (e 0 (by omega)).1 (br_f (e 3 (by omega)).2 (br_f (e 1 (by omega)).1 (br_f (e 2 (by omega)).1 (br_f (e 3 (by omega)).1 ⟨rfl, R'⟩)))))))
    · have e := fd_ge (by omega) z 9 (by omega) (by omega)
      have e4 := fd_ge (by omega) z 4 (by omega) (by omega)
      have e7 := fd_ge (by omega) z 7 (by omega) (by omega)
      exact br_f e.1 (br_t e.2.1 (br_f d0 (br_t d2 (br_f (e.2.2.2 0 (by omega)) (br_t e4.2.1 (br_t e7.2.1 (br_f (e.2.2.2 7 (by omega)) (br_f (e.2.2.2 8 (by omega)) ⟨rfl, R'⟩))))))))
    · rcases (show j = 0 ∨ j = 1 ∨ j = 2 ∨ j = 3 ∨ j = 4 ∨ j = 5 ∨ j = 6 ∨ j = 7 ∨ j = 8 by omega) with rfl | rfl | rfl | rfl | rfl | rfl | rfl | rfl | rfl
      · refine br_f (by decide) (br_f (by decide) (br_t rfl ⟨hv, ?_⟩))
        have E : aCls c = -1 ↔ aHd c = -1 := by
          rcases H.2.2.2.2.1 c hc with ⟨a, b⟩ | ⟨p, q, q1, q2, q3, q4, _⟩
          · rw [a, b]
          · rw [q3, q4]
            exact ⟨fun z => absurd z (sr_ne (by have := H.1; omega)), fun z => absurd z (sr_ne (by omega))⟩
        rw [ec]
        by_cases z : aCls c = -1
        · refine br_t z (br_f d0 (br_t d2 (br_t rfl ⟨hv, ?_⟩)))
          rw [ec]
          exact br_t (E.mp z) ⟨rfl, R'⟩
        · refine br_f z (br_f d0 (br_t d2 (br_t rfl ⟨hv, ?_⟩)))
          rw [ec]
          exact br_f (fun y => z (E.mpr y)) ⟨rfl, R'⟩
      · exact br_f (by decide) (br_f (by decide) (br_f (by decide) (br_t rfl ⟨hv, br_f d0 (br_t d2 (br_f (by decide) (br_f (by decide) (br_t rfl ⟨hv, rfl, R'⟩))))⟩)))
      · exact br_f (by decide) (br_f (by decide) (br_f (by decide) (br_f (by decide) (br_t rfl ⟨hv, br_f d0 (br_t d2 (br_f (by decide) (br_f (by decide) (br_f (by decide) (br_t rfl ⟨hv, rfl, R'⟩)))))⟩))))
      · exact br_f (by decide) (br_f (by decide) (br_f (by decide) (br_f (by decide) (br_f (by decide) (br_t rfl ⟨hv, br_f d0 (br_t d2 (br_f (by decide) (br_f (by decide) (br_f (by decide) (br_f (by decide) (br_t rfl ⟨hv, rfl, R'⟩))))))⟩)))))
      · exact br_f (by decide) (br_f (by decide) (br_f (by decide) (br_f (by decide) (br_f (by decide) (br_f (by decide) (br_t rfl ⟨hv, br_f d0 (br_t d2 (br_f (by decide) (br_t (by decide) (br_f (by decide) (br_t rfl ⟨hv, rfl, R'⟩)))))⟩))))))
      · exact br_f (by decide) (br_f (by decide) (br_f (by decide) (br_f (by decide) (br_f (by decide) (br_f (by decide) (br_f (by decide) (br_t rfl ⟨hv, br_f d0 (br_t d2 (br_f (by decide) (br_t (by decide) (br_f (by decide) (br_f (by decide) (br_t rfl ⟨hv, rfl, R'⟩))))))⟩)))))))
      · exact br_f (by decide) (br_f (by decide) (br_f (by decide) (br_f (by decide) (br_f (by decide) (br_f (by decide) (br_f (by decide) (br_f (by decide) (br_t rfl ⟨hv, br_f d0 (br_t d2 (br_f (by decide) (br_t (by decide) (br_f (by decide) (br_f (by decide) (br_f (by decide) ⟨hv, rfl, R'⟩))))))⟩))))))))
      · exact br_f (by decide) (br_f (by decide) (br_f (by decide) (br_f (by decide) (br_f (by decide) (br_f (by decide) (br_f (by decide) (br_f (by decide) (br_f (by decide) (br_t rfl ⟨hv, br_f d0 (br_t d2 (br_f (by decide) (br_t (by decide) (br_t (by decide) (br_t rfl ⟨hv, rfl, R'⟩)))))⟩)))))))))
      · refine br_f (by decide) (br_f (by decide) (br_f (by decide) (br_f (by decide) (br_f (by decide) (br_f (by decide) (br_f (by decide) (br_f (by decide) (br_f (by decide) (br_f (by decide) (br_t rfl ?_))))))))))
        by_cases z : fCK = 0
        · exact br_t z (br_f d0 (br_t d2 (br_f (by decide) (br_t (by decide) (br_t (by decide) (br_f (by decide) (br_t rfl (br_t z ⟨rfl, R'⟩))))))))
        · refine br_f z ⟨hv, br_f d0 (br_t d2 (br_f (by decide) (br_t (by decide) (br_t (by decide) (br_f (by decide) (br_t rfl (br_f z ⟨hv, ?_, R'⟩)))))))⟩
          rw [ec]
          have z1 : fCK = 1 := R.2.2.1.resolve_left z
          obtain ⟨w, _, e1, e2, _⟩ := (R.2.2.2.1 z1).2 c hc
          rw [e1, e2]
theorem i_vc_tokenField {k : Nat} {u : SX} {v : SY} (I : i_Rel k u v) (hk : k + 5 ≤ 2563) (v1 : Int32) (v2 : Int32) (v3 : Int32) : wpX_tokenField (fun r => wpY_tokenField (fun r' => r' = r ∧ i_Rel (k + 5) u v) v v1 v2 v3) u v1 v2 v3 := by
  refine rl_el (P := fun u v => wpX_tokenField (fun r => wpY_tokenField (fun r' => r' = r ∧ i_Rel (k + 5) u v) v v1 v2 v3) u v1 v2 v3) ?_ I
  intro dl cl pl nc nd fCK fED fEP fH fO fHP fNK fRC fTD fTT fAX fAY fRS fLV fLT fDP fEN fAN aSup aCpx aCpy aCr aIns aCls aHd aCtx aPx aPy aR aSz aWd aTk aTn aTt aTj aTs aFl aEl aOt aOk aKd aKt aCal aFd aFt aFc aFp aFh aFx aFy aVl yAt ySp yDp yEn yRk yWd yVl yFx yFy yFk yFp yKl R
  have H : (sr_H nc nd aSup aIns aCls aHd aCtx) := R.2.1.1
  have h12 : nd ≤ 12 := H.2.1
  have R' : i_Rel (k + 5) (nI dl, nI cl, nI pl, nI nc, nI nd, fCK, fED, fEP, fH, fO, fHP, fNK, fRC, fTD, fTT, fAX, fAY, fRS, fLV, fLT, fDP, fEN, fAN, aSup, aCpx, aCpy, aCr, aIns, aCls, aHd, aCtx, aPx, aPy, aR, aSz, aWd, aTk, aTn, aTt, aTj, aTs, aFl, aEl, aOt, aOk, aKd, aKt, aCal, aFd, aFt, aFc, aFp, aFh, aFx, aFy, aVl) (nI dl, nI cl, nI pl, nI nc, nI nd, fCK, fED, fEP, yAt, fH, fO, fAX, fAY, fLV, fRS, fLT, ySp, yDp, yEn, fNK, yRk, aSup, aCpx, aCpy, aCr, aPx, aPy, aR, aCtx, aCls, aHd, aSz, yWd, aTk, aTn, aTt, aTs, aFl, aOt, yVl, yFx, yFy, yFk, yFp, yKl) := rl_in R
  rcases pk_ix v1 (n := nd) (by omega) with z | z | ⟨c, hc, rfl⟩
  · exact br_t z (br_t rfl (br_t z ⟨rfl, R'⟩))
  · by_cases y : v1 < 0
    · exact br_t y (br_t rfl (br_t y ⟨rfl, R'⟩))
    · exact br_f y (br_t z (br_t rfl (br_f y (br_t z ⟨rfl, R'⟩))))
  · have d0 : ¬ nI c < 0 := nI_pos (by omega)
    have d1 : ¬ nI nd ≤ nI c := nI_ge hc (by omega)
    have hv := vp_in_nI (n := c) (N := 12) (by omega) (by decide)
    have ec := nI_clamp (n := c) (by omega)
    obtain ⟨n, n20, en, _⟩ := R.2.1.2.2.2 c hc
    refine br_f d0 (br_f d1 (br_f (by decide) ?_))
    by_cases z : v2 < 0
    · exact br_t z (br_f d0 (br_f d1 (br_t z ⟨rfl, R'⟩)))
    · obtain ⟨i, hi31, rfl⟩ := nI_of z
      refine br_f z ⟨hv, ?_⟩
      rw [ec, en]
      by_cases hi : i < n
      · have h1 := nI_lt hi (by omega)
        have hw := vp_in_nI (n := 20 * c + i) (N := 240) (by omega) (by decide)
        have ew := nI_clamp (n := 20 * c + i) (by omega)
        refine br_t h1 (nm_r (sm_20x c i) ?_)
        have Y : ∀ {r : Int32}, ((v3 = 0 → (vp_in (nI (20 * c + i)) 240 ∧ (aTk (nI (20 * c + i)).toNatClampNeg = r ∧ i_Rel (k + 5) (nI dl, nI cl, nI pl, nI nc, nI nd, fCK, fED, fEP, fH, fO, fHP, fNK, fRC, fTD, fTT, fAX, fAY, fRS, fLV, fLT, fDP, fEN, fAN, aSup, aCpx, aCpy, aCr, aIns, aCls, aHd, aCtx, aPx, aPy, aR, aSz, aWd, aTk, aTn, aTt, aTj, aTs, aFl, aEl, aOt, aOk, aKd, aKt, aCal, aFd, aFt, aFc, aFp, aFh, aFx, aFy, aVl) (nI dl, nI cl, nI pl, nI nc, nI nd, fCK, fED, fEP, yAt, fH, fO, fAX, fAY, fLV, fRS, fLT, ySp, yDp, yEn, fNK, yRk, aSup, aCpx, aCpy, aCr, aPx, aPy, aR, aCtx, aCls, aHd, aSz, yWd, aTk, aTn, aTt, aTs, aFl, aOt, yVl, yFx, yFy, yFk, yFp, yKl)))) ∧ (¬ v3 = 0 → ((v3 = 1 → (vp_in (nI (20 * c + i)) 240 ∧ (aTn (nI (20 * c + i)).toNatClampNeg = r ∧ i_Rel (k + 5) (nI dl, nI cl, nI pl, nI nc, nI nd, fCK, fED, fEP, fH, fO, fHP, fNK, fRC, fTD, fTT, fAX, fAY, fRS, fLV, fLT, fDP, fEN, fAN, aSup, aCpx, aCpy, aCr, aIns, aCls, aHd, aCtx, aPx, aPy, aR, aSz, aWd, aTk, aTn, aTt, aTj, aTs, aFl, aEl, aOt, aOk, aKd, aKt, aCal, aFd, aFt, aFc, aFp, aFh, aFx, aFy, aVl) (nI dl, nI cl, nI pl, nI nc, nI nd, fCK, fED, fEP, yAt, fH, fO, fAX, fAY, fLV, fRS, fLT, ySp, yDp, yEn, fNK, yRk, aSup, aCpx, aCpy, aCr, aPx, aPy, aR, aCtx, aCls, aHd, aSz, yWd, aTk, aTn, aTt, aTs, aFl, aOt, yVl, yFx, yFy, yFk, yFp, yKl)))) ∧ (¬ v3 = 1 → ((v3 = 2 → (vp_in (nI (20 * c + i)) 240 ∧ (aTt (nI (20 * c + i)).toNatClampNeg = r ∧ i_Rel (k + 5) (nI dl, nI cl, nI pl, nI nc, nI nd, fCK, fED, fEP, fH, fO, fHP, fNK, fRC, fTD, fTT, fAX, fAY, fRS, fLV, fLT, fDP, fEN, fAN, aSup, aCpx, aCpy, aCr, aIns, aCls, aHd, aCtx, aPx, aPy, aR, aSz, aWd, aTk, aTn, aTt, aTj, aTs, aFl, aEl, aOt, aOk, aKd, aKt, aCal, aFd, aFt, aFc, aFp, aFh, aFx, aFy, aVl) (nI dl, nI cl, nI pl, nI nc, nI nd, fCK, fED, fEP, yAt, fH, fO, fAX, fAY, fLV, fRS, fLT, ySp, yDp, yEn, fNK, yRk, aSup, aCpx, aCpy, aCr, aPx, aPy, aR, aCtx, aCls, aHd, aSz, yWd, aTk, aTn, aTt, aTs, aFl, aOt, yVl, yFx, yFy, yFk, yFp, yKl)))) ∧ (¬ v3 = 2 → (-1 = r ∧ i_Rel (k + 5) (nI dl, nI cl, nI pl, nI nc, nI nd, fCK, fED, fEP, fH, fO, fHP, fNK, fRC, fTD, fTT, fAX, fAY, fRS, fLV, fLT, fDP, fEN, fAN, aSup, aCpx, aCpy, aCr, aIns, aCls, aHd, aCtx, aPx, aPy, aR, aSz, aWd, aTk, aTn, aTt, aTj, aTs, aFl, aEl, aOt, aOk, aKd, aKt, aCal, aFd, aFt, aFc, aFp, aFh, aFx, aFy, aVl) (nI dl, nI cl, nI pl, nI nc, nI nd, fCK, fED, fEP, yAt, fH, fO, fAX, fAY, fLV, fRS, fLT, ySp, yDp, yEn, fNK, yRk, aSup, aCpx, aCpy, aCr, aPx, aPy, aR, aCtx, aCls, aHd, aSz, yWd, aTk, aTn, aTt, aTs, aFl, aOt, yVl, yFx, yFy, yFk, yFp, yKl)))))))) → wpY_tokenField (fun r' => r' = r ∧ i_Rel (k + 5) (nI dl, nI cl, nI pl, nI nc, nI nd, fCK, fED, fEP, fH, fO, fHP, fNK, fRC, fTD, fTT, fAX, fAY, fRS, fLV, fLT, fDP, fEN, fAN, aSup, aCpx, aCpy, aCr, aIns, aCls, aHd, aCtx, aPx, aPy, aR, aSz, aWd, aTk, aTn, aTt, aTj, aTs, aFl, aEl, aOt, aOk, aKd, aKt, aCal, aFd, aFt, aFc, aFp, aFh, aFx, aFy, aVl) (nI dl, nI cl, nI pl, nI nc, nI nd, fCK, fED, fEP, yAt, fH, fO, fAX, fAY, fLV, fRS, fLT, ySp, yDp, yEn, fNK, yRk, aSup, aCpx, aCpy, aCr, aPx, aPy, aR, aCtx, aCls, aHd, aSz, yWd, aTk, aTn, aTt, aTs, aFl, aOt, yVl, yFx, yFy, yFk, yFp, yKl)) (nI dl, nI cl, nI pl, nI nc, nI nd, fCK, fED, fEP, yAt, fH, fO, fAX, fAY, fLV, fRS, fLT, ySp, yDp, yEn, fNK, yRk, aSup, aCpx, aCpy, aCr, aPx, aPy, aR, aCtx, aCls, aHd, aSz, yWd, aTk, aTn, aTt, aTs, aFl, aOt, yVl, yFx, yFy, yFk, yFp, yKl) (nI c) (nI i) v3 := by
          intro r h
          refine br_f d0 (br_f d1 (br_f z ⟨hv, ?_⟩))
          rw [ec, en]
          exact br_t h1 (nm_r (sm_20y c i) h)
        rcases pk_ix v3 (n := 3) (by omega) with z | z | ⟨j, hj, rfl⟩
        · have e := fd_lt z
          exact br_t z (Y (br_f (e 0 (by omega)).1 (br_f (e 1 (by omega)).1 (br_f (e 2 (by omega)).1 ⟨rfl, R'⟩))))
        · have e := fd_ge (by omega) z 3 (by omega) (by omega)
          exact br_f e.1 (br_t e.2.1 (Y (br_f (e.2.2.2 0 (by omega)) (br_f (e.2.2.2 1 (by omega)) (br_f (e.2.2.2 2 (by omega)) ⟨rfl, R'⟩)))))
        · rcases (show j = 0 ∨ j = 1 ∨ j = 2 by omega) with rfl | rfl | rfl
          · exact br_f (by decide) (br_f (by decide) (br_t rfl ⟨hw, Y (br_t rfl ⟨hw, rfl, R'⟩)⟩))
          · exact br_f (by decide) (br_f (by decide) (br_f (by decide) (br_t rfl ⟨hw, Y (br_f (by decide) (br_t rfl ⟨hw, rfl, R'⟩))⟩)))
          · exact br_f (by decide) (br_f (by decide) (br_f (by decide) (br_f (by decide) (br_t rfl ⟨hw, Y (br_f (by decide) (br_f (by decide) (br_t rfl ⟨hw, rfl, R'⟩)))⟩))))
      · have h1 := nI_nlt (a := i) (b := n) (by omega) (by omega)
        refine br_f h1 (br_f d0 (br_f d1 (br_f z ⟨hv, ?_⟩)))
        rw [ec, en]
        exact br_f h1 ⟨rfl, R'⟩

/-! isAllowed -/
def al_T (aHd : Nat → Int32) (d : Nat) (t : Int32) : Prop := ∃ (l : List Bool) (e : Nat), 1 ≤ e ∧ e ≤ 3 ∧ l.length ≤ 6 ∧ (e = 3 → ¬ wt_c aHd d) ∧ t = nI (ty_e l e)
section
variable {dl cl pl nc nd : Nat} {fCK fED fEP fH fO fHP fNK fRC fTD fTT : Int32} {fAX fAY : Int64} {fRS : Int32} {fLV : Int64} {fLT fDP fEN : Int32} {fAN : Int64} {aSup aCpx aCpy aCr aIns aCls aHd aCtx aPx aPy aR aSz aWd aTk aTn aTt aTj aTs aFl aEl aOt aOk aKd aKt aCal aFd aFt aFc aFp aFh : Nat → Int32} {aFx aFy aVl : Nat → Int64} {yAt ySp yDp yEn yRk : Int32} {yWd : Nat → Int32} {yVl yFx yFy : Nat → Int64} {yFk yFp yKl : Nat → Int32} {post : Int32 → Prop}
theorem al_X {d : Nat} {t : Int32} (hd : d < 12) (p1 : al_T aHd d t → post 1) (p0 : ¬ al_T aHd d t → post 0) : wpX_isAllowed post (nI dl, nI cl, nI pl, nI nc, nI nd, fCK, fED, fEP, fH, fO, fHP, fNK, fRC, fTD, fTT, fAX, fAY, fRS, fLV, fLT, fDP, fEN, fAN, aSup, aCpx, aCpy, aCr, aIns, aCls, aHd, aCtx, aPx, aPy, aR, aSz, aWd, aTk, aTn, aTt, aTj, aTs, aFl, aEl, aOt, aOk, aKd, aKt, aCal, aFd, aFt, aFc, aFp, aFh, aFx, aFy, aVl) (nI d) t := by
  unfold wpX_isAllowed
  dsimp only
  have hv := vp_in_nI (n := d) (N := 12) hd (by decide)
  have ed := nI_clamp (n := d) (by omega)
  by_cases h6 : ty_T 6 t
  · refine sm_itT _ h6 (br_f (by decide) ⟨hv, ?_⟩)
    rw [ed]
    obtain ⟨l, e, h1, h3, hl, rfl⟩ := h6
    have A : wt_c aHd d → wX_isAllowed_35 post (nI (ty_e l e)) 1 (nI dl) (nI cl) (nI pl) (nI nc) (nI nd) fCK fED fEP fH fO fHP fNK fRC fTD fTT fAX fAY fRS fLV fLT fDP fEN fAN aSup aCpx aCpy aCr aIns aCls aHd aCtx aPx aPy aR aSz aWd aTk aTn aTt aTj aTs aFl aEl aOt aOk aKd aKt aCal aFd aFt aFc aFp aFh aFx aFy aVl := fun hc =>
      br_f (by decide) (tx_var _ h1 h3 hl (fun e3 => br_f (by decide) (p0 (fun ⟨l', e', a1, a2, a3, a4, a5⟩ => by
        have q1 := ty_e21 hl (show e < 8 by omega)
        have q2 := ty_e21 a3 (show e' < 8 by omega)
        have q := ty_inj l l' e e' h3 a2 ((nI_eq (by omega) (by omega)).mp a5)
        exact a4 (by omega) hc))) (fun e3 => br_t rfl (p1 ⟨l, e, h1, h3, hl, fun z => absurd z e3, rfl⟩)))
    by_cases z1 : aHd d = 1
    · exact br_t z1 (A (Or.inl z1))
    · refine br_f z1 ⟨hv, ?_⟩
      by_cases z2 : aHd d = 2
      · exact br_t z2 (A (Or.inr z2))
      · exact br_f z2 (br_t rfl (p1 ⟨l, e, h1, h3, hl, fun _ z => z.elim z1 z2, rfl⟩))
  · exact sm_itN _ h6 (br_t rfl (p0 (fun ⟨l, e, a1, a2, a3, a4, a5⟩ => h6 ⟨l, e, a1, a2, a3, a5⟩)))
theorem al_Y {d : Nat} {t : Int32} (hd : d < 12) (p1 : al_T aHd d t → post 1) (p0 : ¬ al_T aHd d t → post 0) : wpY_allowed post (nI dl, nI cl, nI pl, nI nc, nI nd, fCK, fED, fEP, yAt, fH, fO, fAX, fAY, fLV, fRS, fLT, ySp, yDp, yEn, fNK, yRk, aSup, aCpx, aCpy, aCr, aPx, aPy, aR, aCtx, aCls, aHd, aSz, yWd, aTk, aTn, aTt, aTs, aFl, aOt, yVl, yFx, yFy, yFk, yFp, yKl) (nI d) t := by
  unfold wpY_allowed
  dsimp only
  have hv := vp_in_nI (n := d) (N := 12) hd (by decide)
  have ed := nI_clamp (n := d) (by omega)
  by_cases h6 : ty_T 6 t
  · refine sm_tuT _ (k := 6) (by omega) h6 (br_f (by decide) ⟨hv, ?_⟩)
    rw [ed]
    obtain ⟨l, e, h1, h3, hl, rfl⟩ := h6
    have A : wt_c aHd d → wY_allowed_32 post (nI (ty_e l e)) (nI dl) (nI cl) (nI pl) (nI nc) (nI nd) fCK fED fEP yAt fH fO fAX fAY fLV fRS fLT ySp yDp yEn fNK yRk aSup aCpx aCpy aCr aPx aPy aR aCtx aCls aHd aSz yWd aTk aTn aTt aTs aFl aOt yVl yFx yFy yFk yFp yKl := fun hc =>
      tx_gr _ h1 h3 hl (fun e3 => br_t rfl (p0 (fun ⟨l', e', a1, a2, a3, a4, a5⟩ => by
        have q1 := ty_e21 hl (show e < 8 by omega)
        have q2 := ty_e21 a3 (show e' < 8 by omega)
        have q := ty_inj l l' e e' h3 a2 ((nI_eq (by omega) (by omega)).mp a5)
        exact a4 (by omega) hc))) (fun e3 => br_f (by decide) (p1 ⟨l, e, h1, h3, hl, fun z => absurd z e3, rfl⟩))
    by_cases z1 : aHd d = 1
    · exact br_t z1 (A (Or.inl z1))
    · refine br_f z1 ⟨hv, ?_⟩
      by_cases z2 : aHd d = 2
      · exact br_t z2 (A (Or.inr z2))
      · exact br_f z2 (p1 ⟨l, e, h1, h3, hl, fun _ z => z.elim z1 z2, rfl⟩)
  · exact sm_tuN _ (k := 6) (by omega) h6 (br_t rfl (p0 (fun ⟨l, e, a1, a2, a3, a4, a5⟩ => h6 ⟨l, e, a1, a2, a3, a5⟩)))
end
theorem mk_p16 {nc c : Nat} (hc : c < nc) : 2 ^ c < 2 ^ nc := Nat.pow_lt_pow_right (by decide) hc
theorem i_vc_entails {k : Nat} {u : SX} {v : SY} (I : i_Rel k u v) (hk : k + 5 ≤ 2563) (v1 : Int32) (v2 : Int32) (v3 : Int32) : wpX_entails (fun r => wpY_entails (fun r' => r' = r ∧ i_Rel (k + 5) u v) v v1 v2 v3) u v1 v2 v3 := by
  refine rl_el (P := fun u v => wpX_entails (fun r => wpY_entails (fun r' => r' = r ∧ i_Rel (k + 5) u v) v v1 v2 v3) u v1 v2 v3) ?_ I
  intro dl cl pl nc nd fCK fED fEP fH fO fHP fNK fRC fTD fTT fAX fAY fRS fLV fLT fDP fEN fAN aSup aCpx aCpy aCr aIns aCls aHd aCtx aPx aPy aR aSz aWd aTk aTn aTt aTj aTs aFl aEl aOt aOk aKd aKt aCal aFd aFt aFc aFp aFh aFx aFy aVl yAt ySp yDp yEn yRk yWd yVl yFx yFy yFk yFp yKl R
  have H : (sr_H nc nd aSup aIns aCls aHd aCtx) := R.2.1.1
  have h12 : nd ≤ 12 := H.2.1
  have h4 : nc ≤ 4 := H.1
  have R' : i_Rel (k + 5) (nI dl, nI cl, nI pl, nI nc, nI nd, fCK, fED, fEP, fH, fO, fHP, fNK, fRC, fTD, fTT, fAX, fAY, fRS, fLV, fLT, fDP, fEN, fAN, aSup, aCpx, aCpy, aCr, aIns, aCls, aHd, aCtx, aPx, aPy, aR, aSz, aWd, aTk, aTn, aTt, aTj, aTs, aFl, aEl, aOt, aOk, aKd, aKt, aCal, aFd, aFt, aFc, aFp, aFh, aFx, aFy, aVl) (nI dl, nI cl, nI pl, nI nc, nI nd, fCK, fED, fEP, yAt, fH, fO, fAX, fAY, fLV, fRS, fLT, ySp, yDp, yEn, fNK, yRk, aSup, aCpx, aCpy, aCr, aPx, aPy, aR, aCtx, aCls, aHd, aSz, yWd, aTk, aTn, aTt, aTs, aFl, aOt, yVl, yFx, yFy, yFk, yFp, yKl) := rl_in R
  rcases pk_ix v1 (n := nd) (by omega) with z | z | ⟨d, hd, rfl⟩
  · exact br_t z (br_t rfl (br_t z ⟨rfl, R'⟩))
  · by_cases y : v1 < 0
    · exact br_t y (br_t rfl (br_t y ⟨rfl, R'⟩))
    · exact br_f y (br_t z (br_t rfl (br_f y (br_t z ⟨rfl, R'⟩))))
  · have d0 : ¬ nI d < 0 := nI_pos (by omega)
    have d1 : ¬ nI nd ≤ nI d := nI_ge hd (by omega)
    have hv := vp_in_nI (n := d) (N := 12) (by omega) (by decide)
    have ed := nI_clamp (n := d) (by omega)
    refine br_f d0 (br_f d1 (br_f (by decide) ?_))
    rcases pk_ix v2 (n := nc) (by omega) with z | z | ⟨c, hc, rfl⟩
    · exact br_t z (br_t rfl (br_f d0 (br_f d1 (br_t z ⟨rfl, R'⟩))))
    · by_cases y : v2 < 0
      · exact br_t y (br_t rfl (br_f d0 (br_f d1 (br_t y ⟨rfl, R'⟩))))
      · exact br_f y (br_t z (br_t rfl (br_f d0 (br_f d1 (br_f y (br_f (Int32.not_lt.mpr z) ⟨rfl, R'⟩))))))
    · have c0 : ¬ nI c < 0 := nI_pos (by omega)
      have c1 : ¬ nI nc ≤ nI c := nI_ge hc (by omega)
      have c2 : nI c < nI nc := nI_lt hc (by omega)
      refine br_f c0 (br_f c1 (br_f (by decide) (al_X (by omega) ?_ ?_)))
      · intro hal
        have hal' := hal
        obtain ⟨l, e, h1, h3, hl, _, rfl⟩ := hal'
        refine br_f (by decide) ⟨hv, ?_⟩
        rw [ed, (mk_ctx H hd).1, mk_1 c (by omega)]
        have Y : ∀ r : Int32, wpY_holds (fun r_53 => (r_53 = 0 → 0 = r ∧ i_Rel (k + 5) (nI dl, nI cl, nI pl, nI nc, nI nd, fCK, fED, fEP, fH, fO, fHP, fNK, fRC, fTD, fTT, fAX, fAY, fRS, fLV, fLT, fDP, fEN, fAN, aSup, aCpx, aCpy, aCr, aIns, aCls, aHd, aCtx, aPx, aPy, aR, aSz, aWd, aTk, aTn, aTt, aTj, aTs, aFl, aEl, aOt, aOk, aKd, aKt, aCal, aFd, aFt, aFc, aFp, aFh, aFx, aFy, aVl) (nI dl, nI cl, nI pl, nI nc, nI nd, fCK, fED, fEP, yAt, fH, fO, fAX, fAY, fLV, fRS, fLT, ySp, yDp, yEn, fNK, yRk, aSup, aCpx, aCpy, aCr, aPx, aPy, aR, aCtx, aCls, aHd, aSz, yWd, aTk, aTn, aTt, aTs, aFl, aOt, yVl, yFx, yFy, yFk, yFp, yKl)) ∧ (¬ r_53 = 0 → 1 = r ∧ i_Rel (k + 5) (nI dl, nI cl, nI pl, nI nc, nI nd, fCK, fED, fEP, fH, fO, fHP, fNK, fRC, fTD, fTT, fAX, fAY, fRS, fLV, fLT, fDP, fEN, fAN, aSup, aCpx, aCpy, aCr, aIns, aCls, aHd, aCtx, aPx, aPy, aR, aSz, aWd, aTk, aTn, aTt, aTj, aTs, aFl, aEl, aOt, aOk, aKd, aKt, aCal, aFd, aFt, aFc, aFp, aFh, aFx, aFy, aVl) (nI dl, nI cl, nI pl, nI nc, nI nd, fCK, fED, fEP, yAt, fH, fO, fAX, fAY, fLV, fRS, fLT, ySp, yDp, yEn, fNK, yRk, aSup, aCpx, aCpy, aCr, aPx, aPy, aR, aCtx, aCls, aHd, aSz, yWd, aTk, aTn, aTt, aTs, aFl, aOt, yVl, yFx, yFy, yFk, yFp, yKl))) (nI dl, nI cl, nI pl, nI nc, nI nd, fCK, fED, fEP, yAt, fH, fO, fAX, fAY, fLV, fRS, fLT, ySp, yDp, yEn, fNK, yRk, aSup, aCpx, aCpy, aCr, aPx, aPy, aR, aCtx, aCls, aHd, aSz, yWd, aTk, aTn, aTt, aTs, aFl, aOt, yVl, yFx, yFy, yFk, yFp, yKl) (nI (mk_v (aCtx d))) (nI (2 ^ c)) (nI (ty_e l e)) → wpY_entails (fun r' => r' = r ∧ i_Rel (k + 5) (nI dl, nI cl, nI pl, nI nc, nI nd, fCK, fED, fEP, fH, fO, fHP, fNK, fRC, fTD, fTT, fAX, fAY, fRS, fLV, fLT, fDP, fEN, fAN, aSup, aCpx, aCpy, aCr, aIns, aCls, aHd, aCtx, aPx, aPy, aR, aSz, aWd, aTk, aTn, aTt, aTj, aTs, aFl, aEl, aOt, aOk, aKd, aKt, aCal, aFd, aFt, aFc, aFp, aFh, aFx, aFy, aVl) (nI dl, nI cl, nI pl, nI nc, nI nd, fCK, fED, fEP, yAt, fH, fO, fAX, fAY, fLV, fRS, fLT, ySp, yDp, yEn, fNK, yRk, aSup, aCpx, aCpy, aCr, aPx, aPy, aR, aCtx, aCls, aHd, aSz, yWd, aTk, aTn, aTt, aTs, aFl, aOt, yVl, yFx, yFy, yFk, yFp, yKl)) (nI dl, nI cl, nI pl, nI nc, nI nd, fCK, fED, fEP, yAt, fH, fO, fAX, fAY, fLV, fRS, fLT, ySp, yDp, yEn, fNK, yRk, aSup, aCpx, aCpy, aCr, aPx, aPy, aR, aCtx, aCls, aHd, aSz, yWd, aTk, aTn, aTt, aTs, aFl, aOt, yVl, yFx, yFy, yFk, yFp, yKl) (nI d) (nI c) (nI (ty_e l e)) := by
          intro r h
          refine br_f d0 (br_f d1 (br_f c0 (br_t c2 (al_Y (by omega) (fun _ => br_f (by decide) ⟨hv, ?_⟩) (fun z => absurd hal z)))))
          rw [ed, (mk_ctx H hd).1, mk_1 c (by omega)]
          exact h
        exact wh_X H (mk_ctx H hd).2 (mk_p16 hc) h1 h3 hl (fun z => br_f (by decide) (Y 1 (wh_Y H (mk_ctx H hd).2 (mk_p16 hc) h1 h3 hl (fun _ => br_f (by decide) ⟨rfl, R'⟩) (fun y => absurd z y)))) (fun z => br_t rfl (Y 0 (wh_Y H (mk_ctx H hd).2 (mk_p16 hc) h1 h3 hl (fun y => absurd y z) (fun _ => br_t rfl ⟨rfl, R'⟩))))
      · intro hal
        exact br_t rfl (br_f d0 (br_f d1 (br_f c0 (br_t c2 (al_Y (by omega) (fun z => absurd z hal) (fun _ => br_t rfl ⟨rfl, R'⟩))))))
end
section
/-! 12: check: widths, sizes, the open floor, putting a type -/
def ck_w (W : Nat) (l : List Bool) (e : Nat) : Nat := if e = 3 ∧ W < l.length then l.length else W
def ck_a (a : Nat → Int32) (d W : Nat) (l : List Bool) (e : Nat) : Nat → Int32 := if e = 3 ∧ W < l.length then upd a d (nI l.length) else a
theorem ck_ad {a : Nat → Int32} {d W : Nat} (h : a d = nI W) (l : List Bool) (e : Nat) : ck_a a d W l e d = nI (ck_w W l e) := by
  unfold ck_a ck_w
  split
  · exact pk_us
  · exact h
theorem ck_aj {a : Nat → Int32} {d W j : Nat} (h : j ≠ d) (l : List Bool) (e : Nat) : ck_a a d W l e j = a j := by
  unfold ck_a
  split
  · exact pk_un h
  · rfl
theorem ck_w1 (W : Nat) (l : List Bool) (e : Nat) : W ≤ ck_w W l e ∧ (e = 3 → l.length ≤ ck_w W l e) ∧ (W ≤ 6 → l.length ≤ 6 → ck_w W l e ≤ 6) := by
  unfold ck_w
  split
  · next h => exact ⟨by omega, fun _ => Nat.le_refl _, fun _ h => h⟩
  · next h => exact ⟨Nat.le_refl _, fun z => by omega, fun h _ => h⟩
theorem ck_wc (W : Nat) (l m : List Bool) (e f : Nat) : ck_w (ck_w W l e) m f = ck_w (ck_w W m f) l e := by
  unfold ck_w
  by_cases h1 : e = 3 <;> by_cases h2 : f = 3 <;> simp only [h1, h2, true_and, false_and, if_false] <;> (repeat' split) <;> omega
section
variable {dl cl pl nc nd : Nat} {fCK fED fEP fH fO fHP fNK fRC fTD fTT : Int32} {fAX fAY : Int64} {fRS : Int32} {fLV : Int64} {fLT fDP fEN : Int32} {fAN : Int64} {aSup aCpx aCpy aCr aIns aCls aHd aCtx aPx aPy aR aSz aWd aTk aTn aTt aTj aTs aFl aEl aOt aOk aKd aKt aCal aFd aFt aFc aFp aFh : Nat → Int32} {aFx aFy aVl : Nat → Int64} {yAt ySp yDp yEn yRk : Int32} {yWd : Nat → Int32} {yVl yFx yFy : Nat → Int64} {yFk yFp yKl : Nat → Int32}
theorem ck_wx {post : SX → Prop} {d W e : Nat} {l : List Bool} (hd : d < 12) (hW : aWd d = nI W) (W6 : W ≤ 6) (h1 : 1 ≤ e) (h3 : e ≤ 3) (hl : l.length ≤ 6) (h : post (nI dl, nI cl, nI pl, nI nc, nI nd, fCK, fED, fEP, fH, fO, fHP, fNK, fRC, fTD, fTT, fAX, fAY, fRS, fLV, fLT, fDP, fEN, fAN, aSup, aCpx, aCpy, aCr, aIns, aCls, aHd, aCtx, aPx, aPy, aR, aSz, ck_a aWd d W l e, aTk, aTn, aTt, aTj, aTs, aFl, aEl, aOt, aOk, aKd, aKt, aCal, aFd, aFt, aFc, aFp, aFh, aFx, aFy, aVl)) : wpX_widen post (nI dl, nI cl, nI pl, nI nc, nI nd, fCK, fED, fEP, fH, fO, fHP, fNK, fRC, fTD, fTT, fAX, fAY, fRS, fLV, fLT, fDP, fEN, fAN, aSup, aCpx, aCpy, aCr, aIns, aCls, aHd, aCtx, aPx, aPy, aR, aSz, aWd, aTk, aTn, aTt, aTj, aTs, aFl, aEl, aOt, aOk, aKd, aKt, aCal, aFd, aFt, aFc, aFp, aFh, aFx, aFy, aVl) (nI d) (nI (ty_e l e)) := by
  unfold wpX_widen
  dsimp only
  have hv := vp_in_nI (n := d) (N := 12) hd (by decide)
  refine tx_var _ h1 h3 hl (fun e3 => br_f (by decide) (tx_symT _ h1 h3 hl (nm_r (nI_pred l.length) ⟨hv, ?_⟩))) (fun e3 => br_t rfl ?_)
  · rw [nI_clamp (n := d) (by omega), hW]
    by_cases z : W < l.length
    · unfold ck_a at h
      rw [if_pos ⟨e3, z⟩] at h
      exact br_f (nI_ge z (by omega)) ⟨hv, nm_e h⟩
    · unfold ck_a at h
      rw [if_neg (fun y => z y.2)] at h
      exact br_t (nI_le (by omega) (by omega)) h
  · unfold ck_a at h
    rw [if_neg (fun y => e3 y.1)] at h
    exact h
theorem ck_wy {post : SY → Prop} {d W e : Nat} {l : List Bool} (hd : d < 12) (hW : yWd d = nI W) (W6 : W ≤ 6) (h1 : 1 ≤ e) (h3 : e ≤ 3) (hl : l.length ≤ 6) (h : post (nI dl, nI cl, nI pl, nI nc, nI nd, fCK, fED, fEP, yAt, fH, fO, fAX, fAY, fLV, fRS, fLT, ySp, yDp, yEn, fNK, yRk, aSup, aCpx, aCpy, aCr, aPx, aPy, aR, aCtx, aCls, aHd, aSz, ck_a yWd d W l e, aTk, aTn, aTt, aTs, aFl, aOt, yVl, yFx, yFy, yFk, yFp, yKl)) : wpY_widen post (nI dl, nI cl, nI pl, nI nc, nI nd, fCK, fED, fEP, yAt, fH, fO, fAX, fAY, fLV, fRS, fLT, ySp, yDp, yEn, fNK, yRk, aSup, aCpx, aCpy, aCr, aPx, aPy, aR, aCtx, aCls, aHd, aSz, yWd, aTk, aTn, aTt, aTs, aFl, aOt, yVl, yFx, yFy, yFk, yFp, yKl) (nI d) (nI (ty_e l e)) := by
  unfold wpY_widen
  dsimp only
  have hv := vp_in_nI (n := d) (N := 12) hd (by decide)
  refine tx_tyT _ h1 h3 hl (nm_r (nI_pred l.length) (tx_gr _ h1 h3 hl (fun e3 => br_t rfl ⟨hv, ?_⟩) (fun e3 => br_f (by decide) ?_)))
  · rw [nI_clamp (n := d) (by omega), hW]
    by_cases z : W < l.length
    · unfold ck_a at h
      rw [if_pos ⟨e3, z⟩] at h
      exact br_f (nI_ge z (by omega)) ⟨hv, nm_e h⟩
    · unfold ck_a at h
      rw [if_neg (fun y => z y.2)] at h
      exact br_t (nI_le (by omega) (by omega)) h
  · unfold ck_a at h
    rw [if_neg (fun y => e3 y.1)] at h
    exact h
theorem ck_tb {post : Int32 → Prop} (u : SX) {l lt : List Bool} {e et : Nat} (h1 : 1 ≤ e) (h3 : e ≤ 3) (hl : l.length ≤ 6) (t1 : 1 ≤ et) (t3 : et ≤ 3) (tl : lt.length ≤ 6) (p0 : (e = 3 → l.length + lt.length ≤ 6) → post 0) (p1 : ¬ (e = 3 → l.length + lt.length ≤ 6) → post 1) : wpX_tooBig post u (nI (ty_e l e)) (nI (ty_e lt et)) := by
  refine tx_i (P := fun u => wpX_tooBig post u (nI (ty_e l e)) (nI (ty_e lt et))) (fun fDL fCL fPL fNC fND fCK fED fEP fH fO fHP fNK fRC fTD fTT fAX fAY fRS fLV fLT fDP fEN fAN aSup aCpx aCpy aCr aIns aCls aHd aCtx aPx aPy aR aSz aWd aTk aTn aTt aTj aTs aFl aEl aOt aOk aKd aKt aCal aFd aFt aFc aFp aFh aFx aFy aVl => ?_) u
  unfold wpX_tooBig
  dsimp only
  refine tx_var _ h1 h3 hl (fun e3 => br_f (by decide) (tx_symT _ h1 h3 hl (tx_symT _ t1 t3 tl (nm_r (e' := nI (l.length + (lt.length + 1))) (by rw [nI_pred, nI_add]) ?_)))) (fun e3 => br_t rfl (p0 (fun z => absurd z e3)))
  by_cases z : l.length + lt.length ≤ 6
  · exact br_t (nI_le (b := 7) (by omega) (by decide)) (p0 (fun _ => z))
  · exact br_f (nI_ge (a := 7) (by omega) (by omega)) (p1 (fun y => z (y e3)))
theorem ck_sz {post : Int32 → Prop} (v : SY) {l lt : List Bool} {e et : Nat} (h1 : 1 ≤ e) (h3 : e ≤ 3) (hl : l.length ≤ 6) (t1 : 1 ≤ et) (t3 : et ≤ 3) (tl : lt.length ≤ 6) (p0 : (e = 3 → l.length + lt.length ≤ 6) → ∀ n, n ≤ 7 → post (nI n)) (p1 : ¬ (e = 3 → l.length + lt.length ≤ 6) → ∀ n, 7 < n → n ≤ 13 → post (nI n)) : wpY_size post v (nI (ty_e l e)) (nI (ty_e lt et)) := by
  refine tx_j (P := fun v => wpY_size post v (nI (ty_e l e)) (nI (ty_e lt et))) (fun fDL fCL fPL fNC fND fCK fED fEP yAt fH fO fAX fAY fLV fRS fLT ySp yDp yEn fNK yRk aSup aCpx aCpy aCr aPx aPy aR aCtx aCls aHd aSz yWd aTk aTn aTt aTs aFl aOt yVl yFx yFy yFk yFp yKl => ?_) v
  unfold wpY_size
  dsimp only
  refine tx_tyT _ h1 h3 hl (tx_gr _ h1 h3 hl (fun e3 => br_t rfl (tx_tyT _ t1 t3 tl ?_)) (fun e3 => br_f (by decide) (p0 (fun z => absurd z e3) _ (by omega))))
  rw [nI_pred, nI_add]
  by_cases z : l.length + lt.length ≤ 6
  · exact p0 (fun _ => z) _ (by omega)
  · exact p1 (fun y => z (y e3)) _ (by omega) (by omega)
/-- the floor of the innermost open conditional -/
def ck_f (aFl : Nat → Int32) (h o f : Nat) : Prop := f ≤ h ∧ h ≤ 8 ∧ o ≤ 20 ∧ ((o = 0 ∧ f = 0) ∨ (0 < o ∧ aFl (o - 1) = nI f))
theorem ck_av {post : Int32 → Prop} {h o f : Nat} (F : ck_f aFl h o f) (hp : post (nI (h - f))) : wpX_available post (nI dl, nI cl, nI pl, nI nc, nI nd, fCK, fED, fEP, nI h, nI o, fHP, fNK, fRC, fTD, fTT, fAX, fAY, fRS, fLV, fLT, fDP, fEN, fAN, aSup, aCpx, aCpy, aCr, aIns, aCls, aHd, aCtx, aPx, aPy, aR, aSz, aWd, aTk, aTn, aTt, aTj, aTs, aFl, aEl, aOt, aOk, aKd, aKt, aCal, aFd, aFt, aFc, aFp, aFh, aFx, aFy, aVl) := by
  obtain ⟨f1, f2, f3, ⟨rfl, rfl⟩ | ⟨f4, f5⟩⟩ := F
  · exact br_t (by decide) hp
  · refine br_f (nI_nle f4 (by omega)) ?_
    rw [show nI o - 1 = nI (o - 1) from pk_sub (b := 1) f4, nI_clamp (n := o - 1) (by omega), f5, pk_sub f1]
    exact ⟨vp_in_nI (by omega) (by decide), hp⟩
/-- the top and the one below, as Y reads them -/
def ck_1 (aTs : Nat → Int32) (h : Nat) : Int32 := if h = 0 then 0 else aTs (h - 1)
def ck_2 (aTs : Nat → Int32) (h : Nat) : Int32 := if h ≤ 1 then 0 else aTs (h - 2)
theorem ck_y {post : Int32 → SY → Prop} {h o f d k : Nat} (F : ck_f aFl h o f) (hp : wY_checkToken_78 post (nI d) (nI k) (nI (h - f)) (ck_1 aTs h) (ck_2 aTs h) (nI dl) (nI cl) (nI pl) (nI nc) (nI nd) fCK fED fEP yAt (nI h) (nI o) fAX fAY fLV fRS fLT ySp yDp yEn fNK yRk aSup aCpx aCpy aCr aPx aPy aR aCtx aCls aHd aSz yWd aTk aTn aTt aTs aFl aOt yVl yFx yFy yFk yFp yKl) : wpY_checkToken post (nI dl, nI cl, nI pl, nI nc, nI nd, fCK, fED, fEP, yAt, nI h, nI o, fAX, fAY, fLV, fRS, fLT, ySp, yDp, yEn, fNK, yRk, aSup, aCpx, aCpy, aCr, aPx, aPy, aR, aCtx, aCls, aHd, aSz, yWd, aTk, aTn, aTt, aTs, aFl, aOt, yVl, yFx, yFy, yFk, yFp, yKl) (nI d) (nI k) := by
  have h8 := F.2.1
  have B : wY_checkToken_53 post (nI d) (nI k) (nI (h - f)) (ck_1 aTs h) (nI dl) (nI cl) (nI pl) (nI nc) (nI nd) fCK fED fEP yAt (nI h) (nI o) fAX fAY fLV fRS fLT ySp yDp yEn fNK yRk aSup aCpx aCpy aCr aPx aPy aR aCtx aCls aHd aSz yWd aTk aTn aTt aTs aFl aOt yVl yFx yFy yFk yFp yKl := by
    by_cases z : h ≤ 1
    · rw [show ck_2 aTs h = 0 from if_pos z] at hp
      exact br_t (nI_le (b := 1) z (by decide)) hp
    · rw [show ck_2 aTs h = aTs (h - 2) from if_neg z] at hp
      refine br_f (nI_ge (a := 1) (by omega) (by omega)) ?_
      rw [show nI h - 2 = nI (h - 2) from pk_sub (b := 2) (by omega), nI_clamp (n := h - 2) (by omega)]
      exact ⟨vp_in_nI (by omega) (by decide), hp⟩
  have A : wY_checkToken_30 post (nI d) (nI k) (nI (h - f)) (nI dl) (nI cl) (nI pl) (nI nc) (nI nd) fCK fED fEP yAt (nI h) (nI o) fAX fAY fLV fRS fLT ySp yDp yEn fNK yRk aSup aCpx aCpy aCr aPx aPy aR aCtx aCls aHd aSz yWd aTk aTn aTt aTs aFl aOt yVl yFx yFy yFk yFp yKl := by
    by_cases z : h = 0
    · rw [show ck_1 aTs h = 0 from if_pos z] at B
      exact br_t (nI_le (b := 0) (by omega) (by decide)) B
    · rw [show ck_1 aTs h = aTs (h - 1) from if_neg z] at B
      refine br_f (nI_nle (by omega) (by omega)) ?_
      rw [show nI h - 1 = nI (h - 1) from pk_sub (b := 1) (by omega), nI_clamp (n := h - 1) (by omega)]
      exact ⟨vp_in_nI (by omega) (by decide), B⟩
  obtain ⟨f1, f2, f3, ⟨rfl, rfl⟩ | ⟨f4, f5⟩⟩ := F
  · exact br_t (by decide) A
  · refine br_f (nI_nle f4 (by omega)) ?_
    rw [show nI o - 1 = nI (o - 1) from pk_sub (b := 1) f4, nI_clamp (n := o - 1) (by omega), f5, pk_sub f1]
    exact ⟨vp_in_nI (by omega) (by decide), A⟩
theorem ck_put {post : Int32 → SY → Prop} {h p h' : Nat} {t : Int32} (hp : p ≤ h) (h8 : h - p < 8) (hh : h - p + 1 = h') (hpost : post 0 (nI dl, nI cl, nI pl, nI nc, nI nd, fCK, fED, fEP, yAt, nI h', fO, fAX, fAY, fLV, fRS, fLT, ySp, yDp, yEn, fNK, yRk, aSup, aCpx, aCpy, aCr, aPx, aPy, aR, aCtx, aCls, aHd, aSz, yWd, aTk, aTn, aTt, upd aTs (h - p) t, aFl, aOt, yVl, yFx, yFy, yFk, yFp, yKl)) : wpY_put post (nI dl, nI cl, nI pl, nI nc, nI nd, fCK, fED, fEP, yAt, nI h, fO, fAX, fAY, fLV, fRS, fLT, ySp, yDp, yEn, fNK, yRk, aSup, aCpx, aCpy, aCr, aPx, aPy, aR, aCtx, aCls, aHd, aSz, yWd, aTk, aTn, aTt, aTs, aFl, aOt, yVl, yFx, yFy, yFk, yFp, yKl) (nI p) t := by
  unfold wpY_put
  dsimp only
  refine nm_r (pk_sub hp) ?_
  subst hh
  rw [nI_clamp (n := h - p) (by omega), nI_1]
  exact ⟨vp_in_nI h8 (by decide), nm_e (nm_e hpost)⟩
end
end
section
/-! 13: check: one token, X and Y in step -/
def ck_S (nc nd : Nat) (aSup aCpx aCpy aCr aIns aCls aHd aCtx aPx aPy aR : Nat → Int32) (d i k : Nat) (N T : Int32) (h o f : Nat) (aTs aFl aOt aEl aOk aTj : Nat → Int32) (h' o' : Nat) (ts' fl' ot' el' ok' tj' : Nat → Int32) : Prop :=
  (k ≠ 14 ∧ k ≠ 15 ∧ k ≠ 16 ∧ ∃ (p : Nat) (t : Int32), p ≤ h - f ∧ h' + p = h + 1 ∧ h' ≤ 8 ∧ wt_K nc nd aSup aCpx aCpy aCr aIns aCls aHd aCtx aPx aPy aR d k N T p (aTs (h - 2)) (aTs (h - 1)) t ∧ o' = o ∧ ts' = upd aTs (h - p) t ∧ fl' = aFl ∧ ot' = aOt ∧ el' = aEl ∧ ok' = aOk ∧ tj' = aTj) ∨
  (k = 14 ∧ h = h' + 1 ∧ f ≤ h' ∧ aTs h' = 2 ∧ o' = o + 1 ∧ ts' = aTs ∧ fl' = upd aFl o (nI h') ∧ ot' = upd aOt o 0 ∧ el' = upd aEl o 0 ∧ ok' = upd aOk o (nI i) ∧ tj' = aTj) ∨
  (k = 15 ∧ ∃ o1, o = o1 + 1 ∧ aEl o1 = 0 ∧ h = f + 1 ∧ h' = f ∧ o' = o ∧ ts' = aTs ∧ fl' = aFl ∧ ot' = upd aOt o1 (aTs f) ∧ el' = upd aEl o1 1 ∧ ok' = upd aOk o1 (nI i) ∧ tj' = upd aTj (20 * d + mk_v (aOk o1)) (nI (i + 1))) ∨
  (k = 16 ∧ ∃ o1, o = o1 + 1 ∧ aEl o1 = 1 ∧ h = f + 1 ∧ aTs f = aOt o1 ∧ h' = h ∧ o' = o1 ∧ ts' = aTs ∧ fl' = aFl ∧ ot' = aOt ∧ el' = aEl ∧ ok' = aOk ∧ tj' = upd aTj (20 * d + mk_v (aOk o1)) (nI (i + 1)))
theorem ck_4 (x : Nat) : (4 : Int32) + 8 * nI x = nI (4 + 8 * x) := by
  rw [show (8 : Int32) * nI x = nI (8 * x) from pk_mul 8 x]
  exact nI_add 4 (8 * x)
theorem ck_5 (x : Nat) : (5 : Int32) + 8 * nI x = nI (5 + 8 * x) := by
  rw [show (8 : Int32) * nI x = nI (8 * x) from pk_mul 8 x]
  exact nI_add 5 (8 * x)
section
variable {dl cl pl nc nd : Nat} {fCK fED fEP fH fO fHP fNK fRC fTD fTT : Int32} {fAX fAY : Int64} {fRS : Int32} {fLV : Int64} {fLT fDP fEN : Int32} {fAN : Int64} {aSup aCpx aCpy aCr aIns aCls aHd aCtx aPx aPy aR aSz aWd aTk aTn aTt aTj aTs aFl aEl aOt aOk aKd aKt aCal aFd aFt aFc aFp aFh : Nat → Int32} {aFx aFy aVl : Nat → Int64} {yAt ySp yDp yEn yRk : Int32} {yWd : Nat → Int32} {yVl yFx yFy : Nat → Int64} {yFk yFp yKl : Nat → Int32} {yEp : Int32} {d i k h o f : Nat}
/-! X's ways to each kind -/
theorem ck_dl {post : Int32 → SX → Prop} (hd : d < 12) (hi : i < 20) (hk : aTk (20 * d + i) = nI k) (k3 : k ≤ 3) (H : wpX_checkLeaf post (nI dl, nI cl, nI pl, nI nc, nI nd, fCK, fED, fEP, fH, fO, fHP, fNK, fRC, fTD, fTT, fAX, fAY, fRS, fLV, fLT, fDP, fEN, fAN, aSup, aCpx, aCpy, aCr, aIns, aCls, aHd, aCtx, aPx, aPy, aR, aSz, aWd, aTk, aTn, aTt, aTj, aTs, aFl, aEl, aOt, aOk, aKd, aKt, aCal, aFd, aFt, aFc, aFp, aFh, aFx, aFy, aVl) (nI d) (nI k)) : wpX_checkToken post (nI dl, nI cl, nI pl, nI nc, nI nd, fCK, fED, fEP, fH, fO, fHP, fNK, fRC, fTD, fTT, fAX, fAY, fRS, fLV, fLT, fDP, fEN, fAN, aSup, aCpx, aCpy, aCr, aIns, aCls, aHd, aCtx, aPx, aPy, aR, aSz, aWd, aTk, aTn, aTt, aTj, aTs, aFl, aEl, aOt, aOk, aKd, aKt, aCal, aFd, aFt, aFc, aFp, aFh, aFx, aFy, aVl) (nI d) (nI i) := by
  unfold wpX_checkToken
  dsimp only
  refine nm_r (sm_20x d i) ⟨vp_in_nI (by omega) (by decide), ?_⟩
  rw [nI_clamp (n := 20 * d + i) (by omega)]
  refine nm_r hk ?_
  exact br_f (nI_nlt (a := 3) k3 (by decide)) H
theorem ck_da {post : Int32 → SX → Prop} (hd : d < 12) (hi : i < 20) (hk : aTk (20 * d + i) = nI k) (k4 : 3 < k) (k8 : k ≤ 8) (H : wpX_checkArithmetic post (nI dl, nI cl, nI pl, nI nc, nI nd, fCK, fED, fEP, fH, fO, fHP, fNK, fRC, fTD, fTT, fAX, fAY, fRS, fLV, fLT, fDP, fEN, fAN, aSup, aCpx, aCpy, aCr, aIns, aCls, aHd, aCtx, aPx, aPy, aR, aSz, aWd, aTk, aTn, aTt, aTj, aTs, aFl, aEl, aOt, aOk, aKd, aKt, aCal, aFd, aFt, aFc, aFp, aFh, aFx, aFy, aVl) (nI k)) : wpX_checkToken post (nI dl, nI cl, nI pl, nI nc, nI nd, fCK, fED, fEP, fH, fO, fHP, fNK, fRC, fTD, fTT, fAX, fAY, fRS, fLV, fLT, fDP, fEN, fAN, aSup, aCpx, aCpy, aCr, aIns, aCls, aHd, aCtx, aPx, aPy, aR, aSz, aWd, aTk, aTn, aTt, aTj, aTs, aFl, aEl, aOt, aOk, aKd, aKt, aCal, aFd, aFt, aFc, aFp, aFh, aFx, aFy, aVl) (nI d) (nI i) := by
  unfold wpX_checkToken
  dsimp only
  refine nm_r (sm_20x d i) ⟨vp_in_nI (by omega) (by decide), ?_⟩
  rw [nI_clamp (n := 20 * d + i) (by omega)]
  refine nm_r hk ?_
  exact br_t (nI_lt (a := 3) k4 (by omega)) (br_f (nI_nlt (a := 8) k8 (by decide)) H)
theorem ck_db {post : Int32 → SX → Prop} (hd : d < 12) (hi : i < 20) (hk : aTk (20 * d + i) = nI k) (k9 : k = 9 ∨ k = 10) (H : wpX_checkBox post (nI dl, nI cl, nI pl, nI nc, nI nd, fCK, fED, fEP, fH, fO, fHP, fNK, fRC, fTD, fTT, fAX, fAY, fRS, fLV, fLT, fDP, fEN, fAN, aSup, aCpx, aCpy, aCr, aIns, aCls, aHd, aCtx, aPx, aPy, aR, aSz, aWd, aTk, aTn, aTt, aTj, aTs, aFl, aEl, aOt, aOk, aKd, aKt, aCal, aFd, aFt, aFc, aFp, aFh, aFx, aFy, aVl) (nI k)) : wpX_checkToken post (nI dl, nI cl, nI pl, nI nc, nI nd, fCK, fED, fEP, fH, fO, fHP, fNK, fRC, fTD, fTT, fAX, fAY, fRS, fLV, fLT, fDP, fEN, fAN, aSup, aCpx, aCpy, aCr, aIns, aCls, aHd, aCtx, aPx, aPy, aR, aSz, aWd, aTk, aTn, aTt, aTj, aTs, aFl, aEl, aOt, aOk, aKd, aKt, aCal, aFd, aFt, aFc, aFp, aFh, aFx, aFy, aVl) (nI d) (nI i) := by
  unfold wpX_checkToken
  dsimp only
  refine nm_r (sm_20x d i) ⟨vp_in_nI (by omega) (by decide), ?_⟩
  rw [nI_clamp (n := 20 * d + i) (by omega)]
  refine nm_r hk ?_
  rcases k9 with rfl | rfl
  · exact br_t (by decide) (br_t (by decide) (br_t rfl H))
  · exact br_t (by decide) (br_t (by decide) (br_f (by decide) (br_t rfl H)))
theorem ck_dt {post : Int32 → SX → Prop} (hd : d < 12) (hi : i < 20) (hk : aTk (20 * d + i) = nI 11) (H : wpX_checkTag post (nI dl, nI cl, nI pl, nI nc, nI nd, fCK, fED, fEP, fH, fO, fHP, fNK, fRC, fTD, fTT, fAX, fAY, fRS, fLV, fLT, fDP, fEN, fAN, aSup, aCpx, aCpy, aCr, aIns, aCls, aHd, aCtx, aPx, aPy, aR, aSz, aWd, aTk, aTn, aTt, aTj, aTs, aFl, aEl, aOt, aOk, aKd, aKt, aCal, aFd, aFt, aFc, aFp, aFh, aFx, aFy, aVl)) : wpX_checkToken post (nI dl, nI cl, nI pl, nI nc, nI nd, fCK, fED, fEP, fH, fO, fHP, fNK, fRC, fTD, fTT, fAX, fAY, fRS, fLV, fLT, fDP, fEN, fAN, aSup, aCpx, aCpy, aCr, aIns, aCls, aHd, aCtx, aPx, aPy, aR, aSz, aWd, aTk, aTn, aTt, aTj, aTs, aFl, aEl, aOt, aOk, aKd, aKt, aCal, aFd, aFt, aFc, aFp, aFh, aFx, aFy, aVl) (nI d) (nI i) := by
  unfold wpX_checkToken
  dsimp only
  refine nm_r (sm_20x d i) ⟨vp_in_nI (by omega) (by decide), ?_⟩
  rw [nI_clamp (n := 20 * d + i) (by omega)]
  refine nm_r hk ?_
  exact br_t (by decide) (br_t (by decide) (br_f (by decide) (br_f (by decide) (br_t rfl H))))
theorem ck_du {post : Int32 → SX → Prop} (hd : d < 12) (hi : i < 20) (hk : aTk (20 * d + i) = nI k) (k9 : k = 12 ∨ k = 13) (H : wpX_checkUntag post (nI dl, nI cl, nI pl, nI nc, nI nd, fCK, fED, fEP, fH, fO, fHP, fNK, fRC, fTD, fTT, fAX, fAY, fRS, fLV, fLT, fDP, fEN, fAN, aSup, aCpx, aCpy, aCr, aIns, aCls, aHd, aCtx, aPx, aPy, aR, aSz, aWd, aTk, aTn, aTt, aTj, aTs, aFl, aEl, aOt, aOk, aKd, aKt, aCal, aFd, aFt, aFc, aFp, aFh, aFx, aFy, aVl) (nI k)) : wpX_checkToken post (nI dl, nI cl, nI pl, nI nc, nI nd, fCK, fED, fEP, fH, fO, fHP, fNK, fRC, fTD, fTT, fAX, fAY, fRS, fLV, fLT, fDP, fEN, fAN, aSup, aCpx, aCpy, aCr, aIns, aCls, aHd, aCtx, aPx, aPy, aR, aSz, aWd, aTk, aTn, aTt, aTj, aTs, aFl, aEl, aOt, aOk, aKd, aKt, aCal, aFd, aFt, aFc, aFp, aFh, aFx, aFy, aVl) (nI d) (nI i) := by
  unfold wpX_checkToken
  dsimp only
  refine nm_r (sm_20x d i) ⟨vp_in_nI (by omega) (by decide), ?_⟩
  rw [nI_clamp (n := 20 * d + i) (by omega)]
  refine nm_r hk ?_
  rcases k9 with rfl | rfl
  · exact br_t (by decide) (br_t (by decide) (br_f (by decide) (br_f (by decide) (br_f (by decide) (br_t rfl H)))))
  · exact br_t (by decide) (br_t (by decide) (br_f (by decide) (br_f (by decide) (br_f (by decide) (br_f (by decide) (br_t rfl H))))))
theorem ck_di {post : Int32 → SX → Prop} (hd : d < 12) (hi : i < 20) (hk : aTk (20 * d + i) = nI 14) (H : wpX_checkIf post (nI dl, nI cl, nI pl, nI nc, nI nd, fCK, fED, fEP, fH, fO, fHP, fNK, fRC, fTD, fTT, fAX, fAY, fRS, fLV, fLT, fDP, fEN, fAN, aSup, aCpx, aCpy, aCr, aIns, aCls, aHd, aCtx, aPx, aPy, aR, aSz, aWd, aTk, aTn, aTt, aTj, aTs, aFl, aEl, aOt, aOk, aKd, aKt, aCal, aFd, aFt, aFc, aFp, aFh, aFx, aFy, aVl) (nI i)) : wpX_checkToken post (nI dl, nI cl, nI pl, nI nc, nI nd, fCK, fED, fEP, fH, fO, fHP, fNK, fRC, fTD, fTT, fAX, fAY, fRS, fLV, fLT, fDP, fEN, fAN, aSup, aCpx, aCpy, aCr, aIns, aCls, aHd, aCtx, aPx, aPy, aR, aSz, aWd, aTk, aTn, aTt, aTj, aTs, aFl, aEl, aOt, aOk, aKd, aKt, aCal, aFd, aFt, aFc, aFp, aFh, aFx, aFy, aVl) (nI d) (nI i) := by
  unfold wpX_checkToken
  dsimp only
  refine nm_r (sm_20x d i) ⟨vp_in_nI (by omega) (by decide), ?_⟩
  rw [nI_clamp (n := 20 * d + i) (by omega)]
  refine nm_r hk ?_
  exact br_t (by decide) (br_t (by decide) (br_f (by decide) (br_f (by decide) (br_f (by decide) (br_f (by decide) (br_f (by decide) (br_t rfl H)))))))
theorem ck_de {post : Int32 → SX → Prop} (hd : d < 12) (hi : i < 20) (hk : aTk (20 * d + i) = nI 15) (H : wpX_checkElse post (nI dl, nI cl, nI pl, nI nc, nI nd, fCK, fED, fEP, fH, fO, fHP, fNK, fRC, fTD, fTT, fAX, fAY, fRS, fLV, fLT, fDP, fEN, fAN, aSup, aCpx, aCpy, aCr, aIns, aCls, aHd, aCtx, aPx, aPy, aR, aSz, aWd, aTk, aTn, aTt, aTj, aTs, aFl, aEl, aOt, aOk, aKd, aKt, aCal, aFd, aFt, aFc, aFp, aFh, aFx, aFy, aVl) (nI d) (nI i)) : wpX_checkToken post (nI dl, nI cl, nI pl, nI nc, nI nd, fCK, fED, fEP, fH, fO, fHP, fNK, fRC, fTD, fTT, fAX, fAY, fRS, fLV, fLT, fDP, fEN, fAN, aSup, aCpx, aCpy, aCr, aIns, aCls, aHd, aCtx, aPx, aPy, aR, aSz, aWd, aTk, aTn, aTt, aTj, aTs, aFl, aEl, aOt, aOk, aKd, aKt, aCal, aFd, aFt, aFc, aFp, aFh, aFx, aFy, aVl) (nI d) (nI i) := by
  unfold wpX_checkToken
  dsimp only
  refine nm_r (sm_20x d i) ⟨vp_in_nI (by omega) (by decide), ?_⟩
  rw [nI_clamp (n := 20 * d + i) (by omega)]
  refine nm_r hk ?_
  exact br_t (by decide) (br_t (by decide) (br_f (by decide) (br_f (by decide) (br_f (by decide) (br_f (by decide) (br_f (by decide) (br_f (by decide) (br_t rfl H))))))))
theorem ck_dn {post : Int32 → SX → Prop} (hd : d < 12) (hi : i < 20) (hk : aTk (20 * d + i) = nI 16) (H : wpX_checkEnd post (nI dl, nI cl, nI pl, nI nc, nI nd, fCK, fED, fEP, fH, fO, fHP, fNK, fRC, fTD, fTT, fAX, fAY, fRS, fLV, fLT, fDP, fEN, fAN, aSup, aCpx, aCpy, aCr, aIns, aCls, aHd, aCtx, aPx, aPy, aR, aSz, aWd, aTk, aTn, aTt, aTj, aTs, aFl, aEl, aOt, aOk, aKd, aKt, aCal, aFd, aFt, aFc, aFp, aFh, aFx, aFy, aVl) (nI d) (nI i)) : wpX_checkToken post (nI dl, nI cl, nI pl, nI nc, nI nd, fCK, fED, fEP, fH, fO, fHP, fNK, fRC, fTD, fTT, fAX, fAY, fRS, fLV, fLT, fDP, fEN, fAN, aSup, aCpx, aCpy, aCr, aIns, aCls, aHd, aCtx, aPx, aPy, aR, aSz, aWd, aTk, aTn, aTt, aTj, aTs, aFl, aEl, aOt, aOk, aKd, aKt, aCal, aFd, aFt, aFc, aFp, aFh, aFx, aFy, aVl) (nI d) (nI i) := by
  unfold wpX_checkToken
  dsimp only
  refine nm_r (sm_20x d i) ⟨vp_in_nI (by omega) (by decide), ?_⟩
  rw [nI_clamp (n := 20 * d + i) (by omega)]
  refine nm_r hk ?_
  exact br_t (by decide) (br_t (by decide) (br_f (by decide) (br_f (by decide) (br_f (by decide) (br_f (by decide) (br_f (by decide) (br_f (by decide) (br_f (by decide) (br_t rfl H)))))))))
theorem ck_dc {post : Int32 → SX → Prop} (hd : d < 12) (hi : i < 20) (hk : aTk (20 * d + i) = nI 17) (H : wpX_checkCall post (nI dl, nI cl, nI pl, nI nc, nI nd, fCK, fED, fEP, fH, fO, fHP, fNK, fRC, fTD, fTT, fAX, fAY, fRS, fLV, fLT, fDP, fEN, fAN, aSup, aCpx, aCpy, aCr, aIns, aCls, aHd, aCtx, aPx, aPy, aR, aSz, aWd, aTk, aTn, aTt, aTj, aTs, aFl, aEl, aOt, aOk, aKd, aKt, aCal, aFd, aFt, aFc, aFp, aFh, aFx, aFy, aVl) (nI d) (aTn (20 * d + i)) (aTt (20 * d + i))) : wpX_checkToken post (nI dl, nI cl, nI pl, nI nc, nI nd, fCK, fED, fEP, fH, fO, fHP, fNK, fRC, fTD, fTT, fAX, fAY, fRS, fLV, fLT, fDP, fEN, fAN, aSup, aCpx, aCpy, aCr, aIns, aCls, aHd, aCtx, aPx, aPy, aR, aSz, aWd, aTk, aTn, aTt, aTj, aTs, aFl, aEl, aOt, aOk, aKd, aKt, aCal, aFd, aFt, aFc, aFp, aFh, aFx, aFy, aVl) (nI d) (nI i) := by
  unfold wpX_checkToken
  dsimp only
  have hv := vp_in_nI (n := 20 * d + i) (N := 240) (by omega) (by decide)
  refine nm_r (sm_20x d i) ⟨hv, ?_⟩
  rw [nI_clamp (n := 20 * d + i) (by omega)]
  refine nm_r hk ?_
  exact br_t (by decide) (br_t (by decide) (br_f (by decide) (br_f (by decide) (br_f (by decide) (br_f (by decide) (br_f (by decide) (br_f (by decide) (br_f (by decide) (br_f (by decide) (br_t rfl ⟨hv, hv, H⟩))))))))))
theorem ck_dm {post : Int32 → SX → Prop} (hd : d < 12) (hi : i < 20) (hk : aTk (20 * d + i) = nI 18) (H : wpX_checkMethod post (nI dl, nI cl, nI pl, nI nc, nI nd, fCK, fED, fEP, fH, fO, fHP, fNK, fRC, fTD, fTT, fAX, fAY, fRS, fLV, fLT, fDP, fEN, fAN, aSup, aCpx, aCpy, aCr, aIns, aCls, aHd, aCtx, aPx, aPy, aR, aSz, aWd, aTk, aTn, aTt, aTj, aTs, aFl, aEl, aOt, aOk, aKd, aKt, aCal, aFd, aFt, aFc, aFp, aFh, aFx, aFy, aVl) (nI d) (aTn (20 * d + i)) (aTt (20 * d + i))) : wpX_checkToken post (nI dl, nI cl, nI pl, nI nc, nI nd, fCK, fED, fEP, fH, fO, fHP, fNK, fRC, fTD, fTT, fAX, fAY, fRS, fLV, fLT, fDP, fEN, fAN, aSup, aCpx, aCpy, aCr, aIns, aCls, aHd, aCtx, aPx, aPy, aR, aSz, aWd, aTk, aTn, aTt, aTj, aTs, aFl, aEl, aOt, aOk, aKd, aKt, aCal, aFd, aFt, aFc, aFp, aFh, aFx, aFy, aVl) (nI d) (nI i) := by
  unfold wpX_checkToken
  dsimp only
  have hv := vp_in_nI (n := 20 * d + i) (N := 240) (by omega) (by decide)
  refine nm_r (sm_20x d i) ⟨hv, ?_⟩
  rw [nI_clamp (n := 20 * d + i) (by omega)]
  refine nm_r hk ?_
  exact br_t (by decide) (br_t (by decide) (br_f (by decide) (br_f (by decide) (br_f (by decide) (br_f (by decide) (br_f (by decide) (br_f (by decide) (br_f (by decide) (br_f (by decide) (br_f (by decide) ⟨hv, hv, H⟩))))))))))
/-! Y's way to the kinds above the leaves -/
theorem ck_ye {post : Int32 → SY → Prop} {x3 x4 x5 : Int32} (k4 : 3 < k) (kE : k ≠ 15) (kN : k ≠ 16) (k18 : k ≤ 18) (H : wY_checkToken_284 post (nI k) x4 x5 (nI (if k ≤ 8 ∨ k = 11 then 2 else 1)) x3 (nI dl) (nI cl) (nI pl) (nI nc) (nI nd) fCK fED fEP yAt fH fO fAX fAY fLV fRS fLT ySp yDp yEn fNK yRk aSup aCpx aCpy aCr aPx aPy aR aCtx aCls aHd aSz yWd aTk aTn aTt aTs aFl aOt yVl yFx yFy yFk yFp yKl) : wY_checkToken_78 post (nI d) (nI k) x3 x4 x5 (nI dl) (nI cl) (nI pl) (nI nc) (nI nd) fCK fED fEP yAt fH fO fAX fAY fLV fRS fLT ySp yDp yEn fNK yRk aSup aCpx aCpy aCr aPx aPy aR aCtx aCls aHd aSz yWd aTk aTn aTt aTs aFl aOt yVl yFx yFy yFk yFp yKl := by
  refine br_t (nI_lt (a := 3) k4 (by omega)) (br_f (fun z => kE ((nI_eq (b := 15) (by omega) (by omega)).mp z)) (br_f (fun z => kN ((nI_eq (b := 16) (by omega) (by omega)).mp z)) ?_))
  by_cases k8 : k ≤ 8
  · rw [if_pos (Or.inl k8)] at H
    exact br_t (nI_le (b := 8) k8 (by decide)) H
  · refine br_f (nI_ge (a := 8) (by omega) (by omega)) ?_
    by_cases k11 : k = 11
    · rw [if_pos (Or.inr k11)] at H
      exact br_t (by rw [k11]; rfl) H
    · rw [if_neg (fun z => z.elim k8 k11)] at H
      exact br_f (fun z => k11 ((nI_eq (b := 11) (by omega) (by omega)).mp z)) H
end
end
section
/-! 14: check: the kinds of tokens but calls -/
section
variable {dl cl pl nc nd : Nat} {fCK fED fEP fH fO fHP fNK fRC fTD fTT : Int32} {fAX fAY : Int64} {fRS : Int32} {fLV : Int64} {fLT fDP fEN : Int32} {fAN : Int64} {aSup aCpx aCpy aCr aIns aCls aHd aCtx aPx aPy aR aSz aWd aTk aTn aTt aTj aTs aFl aEl aOt aOk aKd aKt aCal aFd aFt aFc aFp aFh : Nat → Int32} {aFx aFy aVl : Nat → Int64} {yAt ySp yDp yEn yRk : Int32} {yWd : Nat → Int32} {yVl yFx yFy : Nat → Int64} {yFk yFp yKl : Nat → Int32} {yEp : Int32} {d i k h o f : Nat}
theorem kd_51 {post : Int32 → SX → Prop} {t : Int32} (h8 : h < 8) (hp : post 0 (nI dl, nI cl, nI pl, nI nc, nI nd, fCK, fED, fEP, nI (h + 1), fO, fHP, fNK, fRC, fTD, fTT, fAX, fAY, fRS, fLV, fLT, fDP, fEN, fAN, aSup, aCpx, aCpy, aCr, aIns, aCls, aHd, aCtx, aPx, aPy, aR, aSz, aWd, aTk, aTn, aTt, aTj, upd aTs h t, aFl, aEl, aOt, aOk, aKd, aKt, aCal, aFd, aFt, aFc, aFp, aFh, aFx, aFy, aVl)) : wX_checkLeaf_51 post t (nI dl) (nI cl) (nI pl) (nI nc) (nI nd) fCK fED fEP (nI h) fO fHP fNK fRC fTD fTT fAX fAY fRS fLV fLT fDP fEN fAN aSup aCpx aCpy aCr aIns aCls aHd aCtx aPx aPy aR aSz aWd aTk aTn aTt aTj aTs aFl aEl aOt aOk aKd aKt aCal aFd aFt aFc aFp aFh aFx aFy aVl := by
  unfold wX_checkLeaf_51
  rw [nI_clamp (n := h) (by omega), nI_1]
  exact ⟨vp_in_nI h8 (by decide), nm_e (nm_e hp)⟩
theorem kd_leaf (F : ck_f aFl h o f) (hd : d < 12) (hi : i < 20) (hk : aTk (20 * d + i) = nI k) (k3 : k ≤ 3) : ∃ (r : Int32) (h' o' : Nat) (ts' fl' ot' el' ok' tj' : Nat → Int32), (r = 0 → ck_S nc nd aSup aCpx aCpy aCr aIns aCls aHd aCtx aPx aPy aR d i k (aTn (20 * d + i)) (aTt (20 * d + i)) h o f aTs aFl aOt aEl aOk aTj h' o' ts' fl' ot' el' ok' tj') ∧ (∀ post : Int32 → SX → Prop, post r (nI dl, nI cl, nI pl, nI nc, nI nd, fCK, fED, fEP, nI h', nI o', fHP, fNK, fRC, fTD, fTT, fAX, fAY, fRS, fLV, fLT, fDP, fEN, fAN, aSup, aCpx, aCpy, aCr, aIns, aCls, aHd, aCtx, aPx, aPy, aR, aSz, aWd, aTk, aTn, aTt, tj', ts', fl', el', ot', ok', aKd, aKt, aCal, aFd, aFt, aFc, aFp, aFh, aFx, aFy, aVl) → wpX_checkToken post (nI dl, nI cl, nI pl, nI nc, nI nd, fCK, fED, fEP, nI h, nI o, fHP, fNK, fRC, fTD, fTT, fAX, fAY, fRS, fLV, fLT, fDP, fEN, fAN, aSup, aCpx, aCpy, aCr, aIns, aCls, aHd, aCtx, aPx, aPy, aR, aSz, aWd, aTk, aTn, aTt, aTj, aTs, aFl, aEl, aOt, aOk, aKd, aKt, aCal, aFd, aFt, aFc, aFp, aFh, aFx, aFy, aVl) (nI d) (nI i)) ∧ (∀ post : Int32 → SY → Prop, post r (nI dl, nI cl, nI pl, nI nc, nI nd, fCK, fED, yEp, yAt, nI h', nI o', fAX, fAY, fLV, fRS, fLT, ySp, yDp, yEn, fNK, yRk, aSup, aCpx, aCpy, aCr, aPx, aPy, aR, aCtx, aCls, aHd, aSz, yWd, aTk, aTn, aTt, ts', fl', ot', yVl, yFx, yFy, yFk, yFp, yKl) → wpY_checkToken post (nI dl, nI cl, nI pl, nI nc, nI nd, fCK, fED, yEp, yAt, nI h, nI o, fAX, fAY, fLV, fRS, fLT, ySp, yDp, yEn, fNK, yRk, aSup, aCpx, aCpy, aCr, aPx, aPy, aR, aCtx, aCls, aHd, aSz, yWd, aTk, aTn, aTt, aTs, aFl, aOt, yVl, yFx, yFy, yFk, yFp, yKl) (nI d) (nI k)) := by
  have h8 := F.2.1
  have hv := vp_in_nI (n := d) (N := 12) hd (by decide)
  by_cases hh : h < 8
  · have A : ∀ t : Int32, wt_K nc nd aSup aCpx aCpy aCr aIns aCls aHd aCtx aPx aPy aR d k (aTn (20 * d + i)) (aTt (20 * d + i)) 0 (aTs (h - 2)) (aTs (h - 1)) t → (∀ post : Int32 → SX → Prop, wX_checkLeaf_51 post t (nI dl) (nI cl) (nI pl) (nI nc) (nI nd) fCK fED fEP (nI h) (nI o) fHP fNK fRC fTD fTT fAX fAY fRS fLV fLT fDP fEN fAN aSup aCpx aCpy aCr aIns aCls aHd aCtx aPx aPy aR aSz aWd aTk aTn aTt aTj aTs aFl aEl aOt aOk aKd aKt aCal aFd aFt aFc aFp aFh aFx aFy aVl → wpX_checkLeaf post (nI dl, nI cl, nI pl, nI nc, nI nd, fCK, fED, fEP, nI h, nI o, fHP, fNK, fRC, fTD, fTT, fAX, fAY, fRS, fLV, fLT, fDP, fEN, fAN, aSup, aCpx, aCpy, aCr, aIns, aCls, aHd, aCtx, aPx, aPy, aR, aSz, aWd, aTk, aTn, aTt, aTj, aTs, aFl, aEl, aOt, aOk, aKd, aKt, aCal, aFd, aFt, aFc, aFp, aFh, aFx, aFy, aVl) (nI d) (nI k)) → (∀ (post : Int32 → SY → Prop) (x3 x4 x5 : Int32), wpY_put post (nI dl, nI cl, nI pl, nI nc, nI nd, fCK, fED, yEp, yAt, nI h, nI o, fAX, fAY, fLV, fRS, fLT, ySp, yDp, yEn, fNK, yRk, aSup, aCpx, aCpy, aCr, aPx, aPy, aR, aCtx, aCls, aHd, aSz, yWd, aTk, aTn, aTt, aTs, aFl, aOt, yVl, yFx, yFy, yFk, yFp, yKl) 0 t → wY_checkToken_78 post (nI d) (nI k) x3 x4 x5 (nI dl) (nI cl) (nI pl) (nI nc) (nI nd) fCK fED yEp yAt (nI h) (nI o) fAX fAY fLV fRS fLT ySp yDp yEn fNK yRk aSup aCpx aCpy aCr aPx aPy aR aCtx aCls aHd aSz yWd aTk aTn aTt aTs aFl aOt yVl yFx yFy yFk yFp yKl) → ∃ (r : Int32) (h' o' : Nat) (ts' fl' ot' el' ok' tj' : Nat → Int32), (r = 0 → ck_S nc nd aSup aCpx aCpy aCr aIns aCls aHd aCtx aPx aPy aR d i k (aTn (20 * d + i)) (aTt (20 * d + i)) h o f aTs aFl aOt aEl aOk aTj h' o' ts' fl' ot' el' ok' tj') ∧ (∀ post : Int32 → SX → Prop, post r (nI dl, nI cl, nI pl, nI nc, nI nd, fCK, fED, fEP, nI h', nI o', fHP, fNK, fRC, fTD, fTT, fAX, fAY, fRS, fLV, fLT, fDP, fEN, fAN, aSup, aCpx, aCpy, aCr, aIns, aCls, aHd, aCtx, aPx, aPy, aR, aSz, aWd, aTk, aTn, aTt, tj', ts', fl', el', ot', ok', aKd, aKt, aCal, aFd, aFt, aFc, aFp, aFh, aFx, aFy, aVl) → wpX_checkToken post (nI dl, nI cl, nI pl, nI nc, nI nd, fCK, fED, fEP, nI h, nI o, fHP, fNK, fRC, fTD, fTT, fAX, fAY, fRS, fLV, fLT, fDP, fEN, fAN, aSup, aCpx, aCpy, aCr, aIns, aCls, aHd, aCtx, aPx, aPy, aR, aSz, aWd, aTk, aTn, aTt, aTj, aTs, aFl, aEl, aOt, aOk, aKd, aKt, aCal, aFd, aFt, aFc, aFp, aFh, aFx, aFy, aVl) (nI d) (nI i)) ∧ (∀ post : Int32 → SY → Prop, post r (nI dl, nI cl, nI pl, nI nc, nI nd, fCK, fED, yEp, yAt, nI h', nI o', fAX, fAY, fLV, fRS, fLT, ySp, yDp, yEn, fNK, yRk, aSup, aCpx, aCpy, aCr, aPx, aPy, aR, aCtx, aCls, aHd, aSz, yWd, aTk, aTn, aTt, ts', fl', ot', yVl, yFx, yFy, yFk, yFp, yKl) → wpY_checkToken post (nI dl, nI cl, nI pl, nI nc, nI nd, fCK, fED, yEp, yAt, nI h, nI o, fAX, fAY, fLV, fRS, fLT, ySp, yDp, yEn, fNK, yRk, aSup, aCpx, aCpy, aCr, aPx, aPy, aR, aCtx, aCls, aHd, aSz, yWd, aTk, aTn, aTt, aTs, aFl, aOt, yVl, yFx, yFy, yFk, yFp, yKl) (nI d) (nI k)) := by
      intro t K X Y
      exact ⟨0, h + 1, o, upd aTs h t, aFl, aOt, aEl, aOk, aTj, fun _ => Or.inl ⟨by omega, by omega, by omega, 0, t, by omega, by omega, by omega, K, rfl, rfl, rfl, rfl, rfl, rfl, rfl⟩, fun post hp => ck_dl hd hi hk k3 (X post (kd_51 hh hp)), fun post hp => ck_y F (Y post _ _ _ (ck_put (p := 0) (h' := h + 1) (by omega) (by omega) rfl hp))⟩
    have hlt := nI_lt (b := 8) hh (by decide)
    have hne : ¬ nI h = 8 := fun z => by
      have := (nI_eq (b := 8) (by omega) (by omega)).mp z
      omega
    have ed := nI_clamp (n := d) (by omega)
    rcases (show k = 0 ∨ k = 1 ∨ k = 2 ∨ k = 3 by omega) with rfl | rfl | rfl | rfl
    · exact A 1 (Or.inl ⟨rfl, rfl, rfl⟩) (fun post hp => br_t hlt (br_f (by decide) (br_f (by decide) (br_f (by decide) hp)))) (fun post x3 x4 x5 hp => br_f (by decide) (br_f hne (br_t rfl hp)))
    · exact A 2 (Or.inr (Or.inl ⟨rfl, rfl, rfl⟩)) (fun post hp => br_t hlt (br_t rfl hp)) (fun post x3 x4 x5 hp => br_f (by decide) (br_f hne (br_f (by decide) (br_t rfl hp))))
    · refine A (aPx d) (Or.inr (Or.inr (Or.inl ⟨rfl, rfl, rfl⟩))) (fun post hp => br_t hlt (br_f (by decide) (br_t rfl ⟨hv, ?_⟩))) (fun post x3 x4 x5 hp => br_f (by decide) (br_f hne (br_f (by decide) (br_f (by decide) (br_t rfl ⟨hv, ?_⟩)))))
      · rw [ed]; exact nm_e hp
      · rw [ed]; exact hp
    · refine A (aPy d) (Or.inr (Or.inr (Or.inr (Or.inl ⟨rfl, rfl, rfl⟩)))) (fun post hp => br_t hlt (br_f (by decide) (br_f (by decide) (br_t rfl ⟨hv, ?_⟩)))) (fun post x3 x4 x5 hp => br_f (by decide) (br_f hne (br_f (by decide) (br_f (by decide) (br_f (by decide) ⟨hv, ?_⟩)))))
      · rw [ed]; exact nm_e hp
      · rw [ed]; exact hp
  · have e8 : h = 8 := by omega
    subst e8
    exact ⟨18, 8, o, aTs, aFl, aOt, aEl, aOk, aTj, fun z => absurd z (by decide), fun post hp => ck_dl hd hi hk k3 (br_f (by decide) hp), fun post hp => ck_y F (br_f (nI_nlt (a := 3) k3 (by decide)) (br_t rfl hp))⟩
theorem kd_ar (F : ck_f aFl h o f) (hd : d < 12) (hi : i < 20) (hk : aTk (20 * d + i) = nI k) (k4 : 3 < k) (k8 : k ≤ 8) : ∃ (r : Int32) (h' o' : Nat) (ts' fl' ot' el' ok' tj' : Nat → Int32), (r = 0 → ck_S nc nd aSup aCpx aCpy aCr aIns aCls aHd aCtx aPx aPy aR d i k (aTn (20 * d + i)) (aTt (20 * d + i)) h o f aTs aFl aOt aEl aOk aTj h' o' ts' fl' ot' el' ok' tj') ∧ (∀ post : Int32 → SX → Prop, post r (nI dl, nI cl, nI pl, nI nc, nI nd, fCK, fED, fEP, nI h', nI o', fHP, fNK, fRC, fTD, fTT, fAX, fAY, fRS, fLV, fLT, fDP, fEN, fAN, aSup, aCpx, aCpy, aCr, aIns, aCls, aHd, aCtx, aPx, aPy, aR, aSz, aWd, aTk, aTn, aTt, tj', ts', fl', el', ot', ok', aKd, aKt, aCal, aFd, aFt, aFc, aFp, aFh, aFx, aFy, aVl) → wpX_checkToken post (nI dl, nI cl, nI pl, nI nc, nI nd, fCK, fED, fEP, nI h, nI o, fHP, fNK, fRC, fTD, fTT, fAX, fAY, fRS, fLV, fLT, fDP, fEN, fAN, aSup, aCpx, aCpy, aCr, aIns, aCls, aHd, aCtx, aPx, aPy, aR, aSz, aWd, aTk, aTn, aTt, aTj, aTs, aFl, aEl, aOt, aOk, aKd, aKt, aCal, aFd, aFt, aFc, aFp, aFh, aFx, aFy, aVl) (nI d) (nI i)) ∧ (∀ post : Int32 → SY → Prop, post r (nI dl, nI cl, nI pl, nI nc, nI nd, fCK, fED, yEp, yAt, nI h', nI o', fAX, fAY, fLV, fRS, fLT, ySp, yDp, yEn, fNK, yRk, aSup, aCpx, aCpy, aCr, aPx, aPy, aR, aCtx, aCls, aHd, aSz, yWd, aTk, aTn, aTt, ts', fl', ot', yVl, yFx, yFy, yFk, yFp, yKl) → wpY_checkToken post (nI dl, nI cl, nI pl, nI nc, nI nd, fCK, fED, yEp, yAt, nI h, nI o, fAX, fAY, fLV, fRS, fLT, ySp, yDp, yEn, fNK, yRk, aSup, aCpx, aCpy, aCr, aPx, aPy, aR, aCtx, aCls, aHd, aSz, yWd, aTk, aTn, aTt, aTs, aFl, aOt, yVl, yFx, yFy, yFk, yFp, yKl) (nI d) (nI k)) := by
  have h8 := F.2.1
  have y8 : ¬ (8 : Int32) < nI k := nI_nlt (a := 8) k8 (by decide)
  have m2 : (if k ≤ 8 ∨ k = 11 then 2 else 1) = 2 := if_pos (Or.inl k8)
  by_cases a : 2 ≤ h - f
  · have a' : (2 : Int32) ≤ nI (h - f) := nI_le (a := 2) a (by omega)
    have e1 : nI h - 1 = nI (h - 1) := pk_sub (b := 1) (by omega)
    have e2 : nI h - 2 = nI (h - 2) := pk_sub (b := 2) (by omega)
    have e3 : nI (h - 1) - 1 = nI (h - 2) := (pk_sub (b := 1) (by omega)).trans (congrArg nI (by omega))
    have c1 := nI_clamp (n := h - 1) (by omega)
    have c2 := nI_clamp (n := h - 2) (by omega)
    have v1 := vp_in_nI (n := h - 1) (N := 8) (by omega) (by decide)
    have v2 := vp_in_nI (n := h - 2) (N := 8) (by omega) (by decide)
    have t1 : ck_1 aTs h = aTs (h - 1) := if_neg (by omega)
    have t2 : ck_2 aTs h = aTs (h - 2) := if_neg (by omega)
    by_cases b1 : aTs (h - 2) = 1
    · by_cases b2 : aTs (h - 1) = 1
      · by_cases k6 : 6 < k
        · have k6' : (6 : Int32) < nI k := nI_lt (a := 6) k6 (by omega)
          refine ⟨0, h - 1, o, upd aTs (h - 2) 2, aFl, aOt, aEl, aOk, aTj, fun _ => Or.inl ⟨by omega, by omega, by omega, 2, 2, a, by omega, by omega, Or.inr (Or.inr (Or.inr (Or.inr (Or.inr (Or.inl ⟨by omega, k8, rfl, b1, b2, rfl⟩))))), rfl, rfl, rfl, rfl, rfl, rfl, rfl⟩, fun post hp => ck_da hd hi hk k4 k8 ?_, fun post hp => ck_y F (ck_ye k4 (by omega) (by omega) (by omega) ?_)⟩
          · unfold wpX_checkArithmetic
            dsimp only
            refine ck_av F (br_t a' ?_)
            rw [e2, c2, e1, c1]
            refine ⟨v2, br_t b1 ⟨v1, br_t b2 (nm_e ?_)⟩⟩
            rw [e3, c2]
            exact br_t k6' ⟨v2, nm_e hp⟩
          · rw [m2, t1, t2]
            exact br_t a' (br_f y8 (br_t b2 (br_t b1 (br_t k6' (ck_put (p := 2) (h' := h - 1) (by omega) (by omega) (by omega) hp)))))
        · have k6' : ¬ (6 : Int32) < nI k := nI_nlt (a := 6) (by omega) (by decide)
          refine ⟨0, h - 1, o, upd aTs (h - 2) 1, aFl, aOt, aEl, aOk, aTj, fun _ => Or.inl ⟨by omega, by omega, by omega, 2, 1, a, by omega, by omega, Or.inr (Or.inr (Or.inr (Or.inr (Or.inl ⟨by omega, by omega, rfl, b1, b2, rfl⟩)))), rfl, rfl, rfl, rfl, rfl, rfl, rfl⟩, fun post hp => ck_da hd hi hk k4 k8 ?_, fun post hp => ck_y F (ck_ye k4 (by omega) (by omega) (by omega) ?_)⟩
          · unfold wpX_checkArithmetic
            dsimp only
            refine ck_av F (br_t a' ?_)
            rw [e2, c2, e1, c1]
            refine ⟨v2, br_t b1 ⟨v1, br_t b2 (nm_e ?_)⟩⟩
            rw [e3, c2]
            exact br_f k6' ⟨v2, nm_e hp⟩
          · rw [m2, t1, t2]
            exact br_t a' (br_f y8 (br_t b2 (br_t b1 (br_f k6' (ck_put (p := 2) (h' := h - 1) (by omega) (by omega) (by omega) hp)))))
      · refine ⟨16, h, o, aTs, aFl, aOt, aEl, aOk, aTj, fun z => absurd z (by decide), fun post hp => ck_da hd hi hk k4 k8 ?_, fun post hp => ck_y F (ck_ye k4 (by omega) (by omega) (by omega) ?_)⟩
        · unfold wpX_checkArithmetic
          dsimp only
          refine ck_av F (br_t a' ?_)
          rw [e2, c2, e1, c1]
          exact ⟨v2, br_t b1 ⟨v1, br_f b2 hp⟩⟩
        · rw [m2, t1, t2]
          exact br_t a' (br_f y8 (br_f b2 hp))
    · refine ⟨16, h, o, aTs, aFl, aOt, aEl, aOk, aTj, fun z => absurd z (by decide), fun post hp => ck_da hd hi hk k4 k8 ?_, fun post hp => ck_y F (ck_ye k4 (by omega) (by omega) (by omega) ?_)⟩
      · unfold wpX_checkArithmetic
        dsimp only
        refine ck_av F (br_t a' ?_)
        rw [e2, c2, e1, c1]
        exact ⟨v2, br_f b1 hp⟩
      · rw [m2, t1, t2]
        refine br_t a' (br_f y8 ?_)
        by_cases b2 : aTs (h - 1) = 1
        · exact br_t b2 (br_f b1 hp)
        · exact br_f b2 hp
  · have a' : ¬ (2 : Int32) ≤ nI (h - f) := nI_ge (b := 2) (by omega) (by decide)
    refine ⟨15, h, o, aTs, aFl, aOt, aEl, aOk, aTj, fun z => absurd z (by decide), fun post hp => ck_da hd hi hk k4 k8 ?_, fun post hp => ck_y F (ck_ye k4 (by omega) (by omega) (by omega) ?_)⟩
    · unfold wpX_checkArithmetic
      dsimp only
      exact ck_av F (br_f a' hp)
    · rw [m2]
      exact br_f a' hp
theorem kd_box (F : ck_f aFl h o f) (hT : ∀ j, j < h → ty_T 6 (aTs j)) (hd : d < 12) (hi : i < 20) (hk : aTk (20 * d + i) = nI k) (k9 : k = 9 ∨ k = 10) : ∃ (r : Int32) (h' o' : Nat) (ts' fl' ot' el' ok' tj' : Nat → Int32), (r = 0 → ck_S nc nd aSup aCpx aCpy aCr aIns aCls aHd aCtx aPx aPy aR d i k (aTn (20 * d + i)) (aTt (20 * d + i)) h o f aTs aFl aOt aEl aOk aTj h' o' ts' fl' ot' el' ok' tj') ∧ (∀ post : Int32 → SX → Prop, post r (nI dl, nI cl, nI pl, nI nc, nI nd, fCK, fED, fEP, nI h', nI o', fHP, fNK, fRC, fTD, fTT, fAX, fAY, fRS, fLV, fLT, fDP, fEN, fAN, aSup, aCpx, aCpy, aCr, aIns, aCls, aHd, aCtx, aPx, aPy, aR, aSz, aWd, aTk, aTn, aTt, tj', ts', fl', el', ot', ok', aKd, aKt, aCal, aFd, aFt, aFc, aFp, aFh, aFx, aFy, aVl) → wpX_checkToken post (nI dl, nI cl, nI pl, nI nc, nI nd, fCK, fED, fEP, nI h, nI o, fHP, fNK, fRC, fTD, fTT, fAX, fAY, fRS, fLV, fLT, fDP, fEN, fAN, aSup, aCpx, aCpy, aCr, aIns, aCls, aHd, aCtx, aPx, aPy, aR, aSz, aWd, aTk, aTn, aTt, aTj, aTs, aFl, aEl, aOt, aOk, aKd, aKt, aCal, aFd, aFt, aFc, aFp, aFh, aFx, aFy, aVl) (nI d) (nI i)) ∧ (∀ post : Int32 → SY → Prop, post r (nI dl, nI cl, nI pl, nI nc, nI nd, fCK, fED, yEp, yAt, nI h', nI o', fAX, fAY, fLV, fRS, fLT, ySp, yDp, yEn, fNK, yRk, aSup, aCpx, aCpy, aCr, aPx, aPy, aR, aCtx, aCls, aHd, aSz, yWd, aTk, aTn, aTt, ts', fl', ot', yVl, yFx, yFy, yFk, yFp, yKl) → wpY_checkToken post (nI dl, nI cl, nI pl, nI nc, nI nd, fCK, fED, yEp, yAt, nI h, nI o, fAX, fAY, fLV, fRS, fLT, ySp, yDp, yEn, fNK, yRk, aSup, aCpx, aCpy, aCr, aPx, aPy, aR, aCtx, aCls, aHd, aSz, yWd, aTk, aTn, aTt, aTs, aFl, aOt, yVl, yFx, yFy, yFk, yFp, yKl) (nI d) (nI k)) := by
  have h8 := F.2.1
  have m1 : (if k ≤ 8 ∨ k = 11 then 2 else 1) = 1 := if_neg (by omega)
  have y8 : (8 : Int32) < nI k := nI_lt (a := 8) (by omega) (by omega)
  by_cases a : 1 ≤ h - f
  · have a' : (1 : Int32) ≤ nI (h - f) := nI_le (a := 1) a (by omega)
    have e1 : nI h - 1 = nI (h - 1) := pk_sub (b := 1) (by omega)
    have c1 := nI_clamp (n := h - 1) (by omega)
    have v1 := vp_in_nI (n := h - 1) (N := 8) (by omega) (by decide)
    have t1 : ck_1 aTs h = aTs (h - 1) := if_neg (by omega)
    obtain ⟨l, e, q1, q3, ql, et⟩ := hT (h - 1) (by omega)
    have hb := ty_e21 ql (show e < 8 by omega)
    rcases k9 with rfl | rfl
    · by_cases l5 : l.length ≤ 5
      · refine ⟨0, h, o, upd aTs (h - 1) (nI (ty_e (false :: l) e)), aFl, aOt, aEl, aOk, aTj, fun _ => Or.inl ⟨by omega, by omega, by omega, 1, _, a, by omega, by omega, Or.inr (Or.inr (Or.inr (Or.inr (Or.inr (Or.inr (Or.inl ⟨rfl, rfl, l, e, q1, q3, l5, et, rfl⟩)))))), rfl, rfl, rfl, rfl, rfl, rfl, rfl⟩, fun post hp => ck_db hd hi hk (by omega) ?_, fun post hp => ck_y F (ck_ye (by omega) (by omega) (by omega) (by omega) ?_)⟩
        · unfold wpX_checkBox
          dsimp only
          refine ck_av F (br_t a' ?_)
          rw [e1, c1]
          refine ⟨v1, nm_r et (br_t rfl (tx_symT _ q1 q3 ql (br_t (nI_lt (b := 7) (by omega) (by decide)) ⟨v1, ?_⟩)))⟩
          rw [ck_4]
          exact nm_e hp
        · rw [m1, t1, et]
          refine br_t a' (br_t y8 (br_t rfl (tx_tyT _ q1 q3 ql (br_f (fun z => ?_) ?_))))
          · have := (nI_eq (b := 7) (by omega) (by omega)).mp z
            omega
          · rw [ck_4]
            exact ck_put (p := 1) (h' := h) (by omega) (by omega) (by omega) hp
      · refine ⟨14, h, o, aTs, aFl, aOt, aEl, aOk, aTj, fun z => absurd z (by decide), fun post hp => ck_db hd hi hk (by omega) ?_, fun post hp => ck_y F (ck_ye (by omega) (by omega) (by omega) (by omega) ?_)⟩
        · unfold wpX_checkBox
          dsimp only
          refine ck_av F (br_t a' ?_)
          rw [e1, c1]
          exact ⟨v1, nm_r et (br_t rfl (tx_symT _ q1 q3 ql (br_f (nI_nlt (b := 7) (by omega) (by omega)) hp)))⟩
        · rw [m1, t1, et]
          refine br_t a' (br_t y8 (br_t rfl (tx_tyT _ q1 q3 ql (br_t ?_ hp))))
          rw [show l.length = 6 by omega]
          rfl
    · have N : nI (ty_e l e) - nI (ty_e l e) / 8 * 8 = 4 ∨ ¬ nI (ty_e l e) - nI (ty_e l e) / 8 * 8 = 4 := Classical.em _
      by_cases z4 : nI (ty_e l e) - nI (ty_e l e) / 8 * 8 = 4
      · have z4' := z4
        rw [ty_r8 (by omega)] at z4'
        have z5 : ty_e l e % 8 = 4 := (nI_eq (b := 4) (by omega) (by omega)).mp z4'
        cases l with
        | nil => rw [ty_en] at z5; omega
        | cons b l =>
          have hbb : b = false := by
            cases b
            · rfl
            · rw [ty_et] at z5; omega
          subst hbb
          rw [tx_ln] at ql
          refine ⟨0, h, o, upd aTs (h - 1) (nI (ty_e l e)), aFl, aOt, aEl, aOk, aTj, fun _ => Or.inl ⟨by omega, by omega, by omega, 1, _, a, by omega, by omega, Or.inr (Or.inr (Or.inr (Or.inr (Or.inr (Or.inr (Or.inr (Or.inl ⟨rfl, rfl, l, e, q1, q3, by omega, et, rfl⟩))))))), rfl, rfl, rfl, rfl, rfl, rfl, rfl⟩, fun post hp => ck_db hd hi hk (by omega) ?_, fun post hp => ck_y F (ck_ye (by omega) (by omega) (by omega) (by omega) ?_)⟩
          · unfold wpX_checkBox
            dsimp only
            refine ck_av F (br_t a' ?_)
            rw [e1, c1]
            refine ⟨v1, nm_r et (br_f (by decide) ⟨ty_8, br_t z4 ⟨ty_8, v1, ?_⟩⟩)⟩
            rw [ty_cd (by omega)]
            exact nm_e hp
          · rw [m1, t1, et]
            refine br_t a' (br_t y8 (br_f (by decide) (br_t rfl ⟨ty_8, br_t z4 ⟨ty_8, ?_⟩⟩)))
            rw [ty_cd (by omega)]
            exact ck_put (p := 1) (h' := h) (by omega) (by omega) (by omega) hp
      · refine ⟨16, h, o, aTs, aFl, aOt, aEl, aOk, aTj, fun z => absurd z (by decide), fun post hp => ck_db hd hi hk (by omega) ?_, fun post hp => ck_y F (ck_ye (by omega) (by omega) (by omega) (by omega) ?_)⟩
        · unfold wpX_checkBox
          dsimp only
          refine ck_av F (br_t a' ?_)
          rw [e1, c1]
          exact ⟨v1, nm_r et (br_f (by decide) ⟨ty_8, br_f z4 hp⟩)⟩
        · rw [m1, t1, et]
          exact br_t a' (br_t y8 (br_f (by decide) (br_t rfl ⟨ty_8, br_f z4 hp⟩)))
  · have a' : ¬ (1 : Int32) ≤ nI (h - f) := nI_ge (b := 1) (by omega) (by decide)
    refine ⟨15, h, o, aTs, aFl, aOt, aEl, aOk, aTj, fun z => absurd z (by decide), fun post hp => ck_db hd hi hk k9 ?_, fun post hp => ck_y F (ck_ye (by omega) (by omega) (by omega) (by omega) ?_)⟩
    · unfold wpX_checkBox
      dsimp only
      exact ck_av F (br_f a' hp)
    · rw [m1]
      exact br_f a' hp
theorem kd_tag (F : ck_f aFl h o f) (hT : ∀ j, j < h → ty_T 6 (aTs j)) (hd : d < 12) (hi : i < 20) (hk : aTk (20 * d + i) = nI k) (k11 : k = 11) : ∃ (r : Int32) (h' o' : Nat) (ts' fl' ot' el' ok' tj' : Nat → Int32), (r = 0 → ck_S nc nd aSup aCpx aCpy aCr aIns aCls aHd aCtx aPx aPy aR d i k (aTn (20 * d + i)) (aTt (20 * d + i)) h o f aTs aFl aOt aEl aOk aTj h' o' ts' fl' ot' el' ok' tj') ∧ (∀ post : Int32 → SX → Prop, post r (nI dl, nI cl, nI pl, nI nc, nI nd, fCK, fED, fEP, nI h', nI o', fHP, fNK, fRC, fTD, fTT, fAX, fAY, fRS, fLV, fLT, fDP, fEN, fAN, aSup, aCpx, aCpy, aCr, aIns, aCls, aHd, aCtx, aPx, aPy, aR, aSz, aWd, aTk, aTn, aTt, tj', ts', fl', el', ot', ok', aKd, aKt, aCal, aFd, aFt, aFc, aFp, aFh, aFx, aFy, aVl) → wpX_checkToken post (nI dl, nI cl, nI pl, nI nc, nI nd, fCK, fED, fEP, nI h, nI o, fHP, fNK, fRC, fTD, fTT, fAX, fAY, fRS, fLV, fLT, fDP, fEN, fAN, aSup, aCpx, aCpy, aCr, aIns, aCls, aHd, aCtx, aPx, aPy, aR, aSz, aWd, aTk, aTn, aTt, aTj, aTs, aFl, aEl, aOt, aOk, aKd, aKt, aCal, aFd, aFt, aFc, aFp, aFh, aFx, aFy, aVl) (nI d) (nI i)) ∧ (∀ post : Int32 → SY → Prop, post r (nI dl, nI cl, nI pl, nI nc, nI nd, fCK, fED, yEp, yAt, nI h', nI o', fAX, fAY, fLV, fRS, fLT, ySp, yDp, yEn, fNK, yRk, aSup, aCpx, aCpy, aCr, aPx, aPy, aR, aCtx, aCls, aHd, aSz, yWd, aTk, aTn, aTt, ts', fl', ot', yVl, yFx, yFy, yFk, yFp, yKl) → wpY_checkToken post (nI dl, nI cl, nI pl, nI nc, nI nd, fCK, fED, yEp, yAt, nI h, nI o, fAX, fAY, fLV, fRS, fLT, ySp, yDp, yEn, fNK, yRk, aSup, aCpx, aCpy, aCr, aPx, aPy, aR, aCtx, aCls, aHd, aSz, yWd, aTk, aTn, aTt, aTs, aFl, aOt, yVl, yFx, yFy, yFk, yFp, yKl) (nI d) (nI k)) := by
  subst k11
  have h8 := F.2.1
  have m2 : (if 11 ≤ 8 ∨ 11 = 11 then 2 else 1) = 2 := by decide
  by_cases a : 2 ≤ h - f
  · have a' : (2 : Int32) ≤ nI (h - f) := nI_le (a := 2) a (by omega)
    have e1 : nI h - 1 = nI (h - 1) := pk_sub (b := 1) (by omega)
    have e2 : nI h - 2 = nI (h - 2) := pk_sub (b := 2) (by omega)
    have e3 : nI (h - 1) - 1 = nI (h - 2) := (pk_sub (b := 1) (by omega)).trans (congrArg nI (by omega))
    have c1 := nI_clamp (n := h - 1) (by omega)
    have c2 := nI_clamp (n := h - 2) (by omega)
    have v1 := vp_in_nI (n := h - 1) (N := 8) (by omega) (by decide)
    have v2 := vp_in_nI (n := h - 2) (N := 8) (by omega) (by decide)
    have t1 : ck_1 aTs h = aTs (h - 1) := if_neg (by omega)
    have t2 : ck_2 aTs h = aTs (h - 2) := if_neg (by omega)
    obtain ⟨l, e, q1, q3, ql, et⟩ := hT (h - 1) (by omega)
    by_cases b1 : aTs (h - 2) = 1
    · by_cases l5 : l.length ≤ 5
      · refine ⟨0, h - 1, o, upd aTs (h - 2) (nI (ty_e (true :: l) e)), aFl, aOt, aEl, aOk, aTj, fun _ => Or.inl ⟨by omega, by omega, by omega, 2, _, a, by omega, by omega, Or.inr (Or.inr (Or.inr (Or.inr (Or.inr (Or.inr (Or.inr (Or.inr (Or.inl ⟨rfl, rfl, b1, l, e, q1, q3, l5, et, rfl⟩)))))))), rfl, rfl, rfl, rfl, rfl, rfl, rfl⟩, fun post hp => ck_dt hd hi hk ?_, fun post hp => ck_y F (ck_ye (by omega) (by omega) (by omega) (by omega) ?_)⟩
        · unfold wpX_checkTag
          dsimp only
          refine ck_av F (br_t a' ?_)
          rw [e2, c2, e1, c1]
          refine ⟨v2, br_t b1 ⟨v1, nm_r et (tx_symT _ q1 q3 ql (br_t (nI_lt (b := 7) (by omega) (by decide)) (nm_e ?_)))⟩⟩
          rw [e3, c2, ck_5]
          exact ⟨v2, nm_e hp⟩
        · rw [m2, t1, t2, et]
          refine br_t a' (br_t (by decide) (br_f (by decide) (br_f (by decide) (br_t rfl (br_t b1 (tx_tyT _ q1 q3 ql (br_f (fun z => ?_) ?_)))))))
          · have := (nI_eq (b := 7) (by omega) (by omega)).mp z
            omega
          · rw [ck_5]
            exact ck_put (p := 2) (h' := h - 1) (by omega) (by omega) (by omega) hp
      · refine ⟨14, h, o, aTs, aFl, aOt, aEl, aOk, aTj, fun z => absurd z (by decide), fun post hp => ck_dt hd hi hk ?_, fun post hp => ck_y F (ck_ye (by omega) (by omega) (by omega) (by omega) ?_)⟩
        · unfold wpX_checkTag
          dsimp only
          refine ck_av F (br_t a' ?_)
          rw [e2, c2, e1, c1]
          exact ⟨v2, br_t b1 ⟨v1, nm_r et (tx_symT _ q1 q3 ql (br_f (nI_nlt (b := 7) (by omega) (by omega)) hp))⟩⟩
        · rw [m2, t1, t2, et]
          refine br_t a' (br_t (by decide) (br_f (by decide) (br_f (by decide) (br_t rfl (br_t b1 (tx_tyT _ q1 q3 ql (br_t ?_ hp)))))))
          rw [show l.length = 6 by omega]
          rfl
    · refine ⟨16, h, o, aTs, aFl, aOt, aEl, aOk, aTj, fun z => absurd z (by decide), fun post hp => ck_dt hd hi hk ?_, fun post hp => ck_y F (ck_ye (by omega) (by omega) (by omega) (by omega) ?_)⟩
      · unfold wpX_checkTag
        dsimp only
        refine ck_av F (br_t a' ?_)
        rw [e2, c2, e1, c1]
        exact ⟨v2, br_f b1 hp⟩
      · rw [m2, t1, t2]
        exact br_t a' (br_t (by decide) (br_f (by decide) (br_f (by decide) (br_t rfl (br_f b1 hp)))))
  · have a' : ¬ (2 : Int32) ≤ nI (h - f) := nI_ge (b := 2) (by omega) (by decide)
    refine ⟨15, h, o, aTs, aFl, aOt, aEl, aOk, aTj, fun z => absurd z (by decide), fun post hp => ck_dt hd hi hk ?_, fun post hp => ck_y F (ck_ye (by omega) (by omega) (by omega) (by omega) ?_)⟩
    · unfold wpX_checkTag
      dsimp only
      exact ck_av F (br_f a' hp)
    · rw [m2]
      exact br_f a' hp
theorem kd_un (F : ck_f aFl h o f) (hT : ∀ j, j < h → ty_T 6 (aTs j)) (hd : d < 12) (hi : i < 20) (hk : aTk (20 * d + i) = nI k) (k9 : k = 12 ∨ k = 13) : ∃ (r : Int32) (h' o' : Nat) (ts' fl' ot' el' ok' tj' : Nat → Int32), (r = 0 → ck_S nc nd aSup aCpx aCpy aCr aIns aCls aHd aCtx aPx aPy aR d i k (aTn (20 * d + i)) (aTt (20 * d + i)) h o f aTs aFl aOt aEl aOk aTj h' o' ts' fl' ot' el' ok' tj') ∧ (∀ post : Int32 → SX → Prop, post r (nI dl, nI cl, nI pl, nI nc, nI nd, fCK, fED, fEP, nI h', nI o', fHP, fNK, fRC, fTD, fTT, fAX, fAY, fRS, fLV, fLT, fDP, fEN, fAN, aSup, aCpx, aCpy, aCr, aIns, aCls, aHd, aCtx, aPx, aPy, aR, aSz, aWd, aTk, aTn, aTt, tj', ts', fl', el', ot', ok', aKd, aKt, aCal, aFd, aFt, aFc, aFp, aFh, aFx, aFy, aVl) → wpX_checkToken post (nI dl, nI cl, nI pl, nI nc, nI nd, fCK, fED, fEP, nI h, nI o, fHP, fNK, fRC, fTD, fTT, fAX, fAY, fRS, fLV, fLT, fDP, fEN, fAN, aSup, aCpx, aCpy, aCr, aIns, aCls, aHd, aCtx, aPx, aPy, aR, aSz, aWd, aTk, aTn, aTt, aTj, aTs, aFl, aEl, aOt, aOk, aKd, aKt, aCal, aFd, aFt, aFc, aFp, aFh, aFx, aFy, aVl) (nI d) (nI i)) ∧ (∀ post : Int32 → SY → Prop, post r (nI dl, nI cl, nI pl, nI nc, nI nd, fCK, fED, yEp, yAt, nI h', nI o', fAX, fAY, fLV, fRS, fLT, ySp, yDp, yEn, fNK, yRk, aSup, aCpx, aCpy, aCr, aPx, aPy, aR, aCtx, aCls, aHd, aSz, yWd, aTk, aTn, aTt, ts', fl', ot', yVl, yFx, yFy, yFk, yFp, yKl) → wpY_checkToken post (nI dl, nI cl, nI pl, nI nc, nI nd, fCK, fED, yEp, yAt, nI h, nI o, fAX, fAY, fLV, fRS, fLT, ySp, yDp, yEn, fNK, yRk, aSup, aCpx, aCpy, aCr, aPx, aPy, aR, aCtx, aCls, aHd, aSz, yWd, aTk, aTn, aTt, aTs, aFl, aOt, yVl, yFx, yFy, yFk, yFp, yKl) (nI d) (nI k)) := by
  have h8 := F.2.1
  have m1 : (if k ≤ 8 ∨ k = 11 then 2 else 1) = 1 := if_neg (by omega)
  have y8 : (8 : Int32) < nI k := nI_lt (a := 8) (by omega) (by omega)
  by_cases a : 1 ≤ h - f
  · have a' : (1 : Int32) ≤ nI (h - f) := nI_le (a := 1) a (by omega)
    have e1 : nI h - 1 = nI (h - 1) := pk_sub (b := 1) (by omega)
    have c1 := nI_clamp (n := h - 1) (by omega)
    have v1 := vp_in_nI (n := h - 1) (N := 8) (by omega) (by decide)
    have t1 : ck_1 aTs h = aTs (h - 1) := if_neg (by omega)
    obtain ⟨l, e, q1, q3, ql, et⟩ := hT (h - 1) (by omega)
    have hb := ty_e21 ql (show e < 8 by omega)
    have Y : ∀ post : Int32 → SY → Prop, ¬ (8 : Int32) = 0 ∧ ((nI (ty_e l e) - nI (ty_e l e) / 8 * 8 = 5 → ((nI k = 12 → wY_checkToken_479 post 1 1 (nI dl) (nI cl) (nI pl) (nI nc) (nI nd) fCK fED yEp yAt (nI h) (nI o) fAX fAY fLV fRS fLT ySp yDp yEn fNK yRk aSup aCpx aCpy aCr aPx aPy aR aCtx aCls aHd aSz yWd aTk aTn aTt aTs aFl aOt yVl yFx yFy yFk yFp yKl) ∧ (¬ nI k = 12 → (¬ (8 : Int32) = 0 ∧ wY_checkToken_479 post (nI (ty_e l e) / 8) 1 (nI dl) (nI cl) (nI pl) (nI nc) (nI nd) fCK fED yEp yAt (nI h) (nI o) fAX fAY fLV fRS fLT ySp yDp yEn fNK yRk aSup aCpx aCpy aCr aPx aPy aR aCtx aCls aHd aSz yWd aTk aTn aTt aTs aFl aOt yVl yFx yFy yFk yFp yKl)))) ∧ (¬ nI (ty_e l e) - nI (ty_e l e) / 8 * 8 = 5 → post 16 (nI dl, nI cl, nI pl, nI nc, nI nd, fCK, fED, yEp, yAt, nI h, nI o, fAX, fAY, fLV, fRS, fLT, ySp, yDp, yEn, fNK, yRk, aSup, aCpx, aCpy, aCr, aPx, aPy, aR, aCtx, aCls, aHd, aSz, yWd, aTk, aTn, aTt, aTs, aFl, aOt, yVl, yFx, yFy, yFk, yFp, yKl))) → wY_checkToken_284 post (nI k) (nI (ty_e l e)) (ck_2 aTs h) (nI 1) (nI (h - f)) (nI dl) (nI cl) (nI pl) (nI nc) (nI nd) fCK fED yEp yAt (nI h) (nI o) fAX fAY fLV fRS fLT ySp yDp yEn fNK yRk aSup aCpx aCpy aCr aPx aPy aR aCtx aCls aHd aSz yWd aTk aTn aTt aTs aFl aOt yVl yFx yFy yFk yFp yKl := by
      intro post H
      rcases k9 with rfl | rfl
      · exact br_t a' (br_t y8 (br_f (by decide) (br_f (by decide) (br_f (by decide) (br_f (by decide) H)))))
      · exact br_t a' (br_t y8 (br_f (by decide) (br_f (by decide) (br_f (by decide) (br_f (by decide) H)))))
    by_cases z4 : nI (ty_e l e) - nI (ty_e l e) / 8 * 8 = 5
    · have z4' := z4
      rw [ty_r8 (by omega)] at z4'
      have z5 : ty_e l e % 8 = 5 := (nI_eq (b := 5) (by omega) (by omega)).mp z4'
      cases l with
      | nil => rw [ty_en] at z5; omega
      | cons b l =>
        have hbb : b = true := by
          cases b
          · rw [ty_ef] at z5; omega
          · rfl
        subst hbb
        rw [tx_ln] at ql
        by_cases k12 : k = 12
        · have k12' : nI k = 12 := by rw [k12]; rfl
          refine ⟨0, h, o, upd aTs (h - 1) 1, aFl, aOt, aEl, aOk, aTj, fun _ => Or.inl ⟨by omega, by omega, by omega, 1, _, a, by omega, by omega, Or.inr (Or.inr (Or.inr (Or.inr (Or.inr (Or.inr (Or.inr (Or.inr (Or.inr (Or.inl ⟨k12, rfl, rfl, l, e, q1, q3, by omega, et⟩))))))))), rfl, rfl, rfl, rfl, rfl, rfl, rfl⟩, fun post hp => ck_du hd hi hk k9 ?_, fun post hp => ck_y F (ck_ye (by omega) (by omega) (by omega) (by omega) ?_)⟩
          · unfold wpX_checkUntag
            dsimp only
            refine ck_av F (br_t a' ?_)
            rw [e1, c1]
            exact ⟨v1, nm_r et ⟨ty_8, br_t z4 (br_t k12' ⟨v1, nm_e hp⟩)⟩⟩
          · rw [m1, t1, et]
            exact Y post ⟨ty_8, br_t z4 (br_t k12' (ck_put (p := 1) (h' := h) (by omega) (by omega) (by omega) hp))⟩
        · have k12' : ¬ nI k = 12 := fun z => k12 ((nI_eq (b := 12) (by omega) (by omega)).mp z)
          refine ⟨0, h, o, upd aTs (h - 1) (nI (ty_e l e)), aFl, aOt, aEl, aOk, aTj, fun _ => Or.inl ⟨by omega, by omega, by omega, 1, _, a, by omega, by omega, Or.inr (Or.inr (Or.inr (Or.inr (Or.inr (Or.inr (Or.inr (Or.inr (Or.inr (Or.inr (Or.inl ⟨by omega, rfl, l, e, q1, q3, by omega, et, rfl⟩)))))))))), rfl, rfl, rfl, rfl, rfl, rfl, rfl⟩, fun post hp => ck_du hd hi hk k9 ?_, fun post hp => ck_y F (ck_ye (by omega) (by omega) (by omega) (by omega) ?_)⟩
          · unfold wpX_checkUntag
            dsimp only
            refine ck_av F (br_t a' ?_)
            rw [e1, c1]
            refine ⟨v1, nm_r et ⟨ty_8, br_t z4 (br_f k12' ⟨ty_8, v1, ?_⟩)⟩⟩
            rw [ty_cd (by omega)]
            exact nm_e hp
          · rw [m1, t1, et]
            refine Y post ⟨ty_8, br_t z4 (br_f k12' ⟨ty_8, ?_⟩)⟩
            rw [ty_cd (by omega)]
            exact ck_put (p := 1) (h' := h) (by omega) (by omega) (by omega) hp
    · refine ⟨16, h, o, aTs, aFl, aOt, aEl, aOk, aTj, fun z => absurd z (by decide), fun post hp => ck_du hd hi hk k9 ?_, fun post hp => ck_y F (ck_ye (by omega) (by omega) (by omega) (by omega) ?_)⟩
      · unfold wpX_checkUntag
        dsimp only
        refine ck_av F (br_t a' ?_)
        rw [e1, c1]
        exact ⟨v1, nm_r et ⟨ty_8, br_f z4 hp⟩⟩
      · rw [m1, t1, et]
        exact Y post ⟨ty_8, br_f z4 hp⟩
  · have a' : ¬ (1 : Int32) ≤ nI (h - f) := nI_ge (b := 1) (by omega) (by decide)
    refine ⟨15, h, o, aTs, aFl, aOt, aEl, aOk, aTj, fun z => absurd z (by decide), fun post hp => ck_du hd hi hk k9 ?_, fun post hp => ck_y F (ck_ye (by omega) (by omega) (by omega) (by omega) ?_)⟩
    · unfold wpX_checkUntag
      dsimp only
      exact ck_av F (br_f a' hp)
    · rw [m1]
      exact br_f a' hp
end
end
section
/-! 15: check: IF, ELSE, END -/
theorem kc_b0 : vp_nar .boolean 0 = 0 := by decide
theorem kc_b1 : vp_nar .boolean 1 = 1 := by decide
section
variable {dl cl pl nc nd : Nat} {fCK fED fEP fH fO fHP fNK fRC fTD fTT : Int32} {fAX fAY : Int64} {fRS : Int32} {fLV : Int64} {fLT fDP fEN : Int32} {fAN : Int64} {aSup aCpx aCpy aCr aIns aCls aHd aCtx aPx aPy aR aSz aWd aTk aTn aTt aTj aTs aFl aEl aOt aOk aKd aKt aCal aFd aFt aFc aFp aFh : Nat → Int32} {aFx aFy aVl : Nat → Int64} {yAt ySp yDp yEn yRk : Int32} {yWd : Nat → Int32} {yVl yFx yFy : Nat → Int64} {yFk yFp yKl : Nat → Int32} {yEp : Int32} {d i k h o f : Nat}
theorem kc_if (F : ck_f aFl h o f) (hoi : o ≤ i) (hd : d < 12) (hi : i < 20) (hk : aTk (20 * d + i) = nI k) (k14 : k = 14) : ∃ (r : Int32) (h' o' : Nat) (ts' fl' ot' el' ok' tj' : Nat → Int32), (r = 0 → ck_S nc nd aSup aCpx aCpy aCr aIns aCls aHd aCtx aPx aPy aR d i k (aTn (20 * d + i)) (aTt (20 * d + i)) h o f aTs aFl aOt aEl aOk aTj h' o' ts' fl' ot' el' ok' tj') ∧ (∀ post : Int32 → SX → Prop, post r (nI dl, nI cl, nI pl, nI nc, nI nd, fCK, fED, fEP, nI h', nI o', fHP, fNK, fRC, fTD, fTT, fAX, fAY, fRS, fLV, fLT, fDP, fEN, fAN, aSup, aCpx, aCpy, aCr, aIns, aCls, aHd, aCtx, aPx, aPy, aR, aSz, aWd, aTk, aTn, aTt, tj', ts', fl', el', ot', ok', aKd, aKt, aCal, aFd, aFt, aFc, aFp, aFh, aFx, aFy, aVl) → wpX_checkToken post (nI dl, nI cl, nI pl, nI nc, nI nd, fCK, fED, fEP, nI h, nI o, fHP, fNK, fRC, fTD, fTT, fAX, fAY, fRS, fLV, fLT, fDP, fEN, fAN, aSup, aCpx, aCpy, aCr, aIns, aCls, aHd, aCtx, aPx, aPy, aR, aSz, aWd, aTk, aTn, aTt, aTj, aTs, aFl, aEl, aOt, aOk, aKd, aKt, aCal, aFd, aFt, aFc, aFp, aFh, aFx, aFy, aVl) (nI d) (nI i)) ∧ (∀ post : Int32 → SY → Prop, post r (nI dl, nI cl, nI pl, nI nc, nI nd, fCK, fED, yEp, yAt, nI h', nI o', fAX, fAY, fLV, fRS, fLT, ySp, yDp, yEn, fNK, yRk, aSup, aCpx, aCpy, aCr, aPx, aPy, aR, aCtx, aCls, aHd, aSz, yWd, aTk, aTn, aTt, ts', fl', ot', yVl, yFx, yFy, yFk, yFp, yKl) → wpY_checkToken post (nI dl, nI cl, nI pl, nI nc, nI nd, fCK, fED, yEp, yAt, nI h, nI o, fAX, fAY, fLV, fRS, fLT, ySp, yDp, yEn, fNK, yRk, aSup, aCpx, aCpy, aCr, aPx, aPy, aR, aCtx, aCls, aHd, aSz, yWd, aTk, aTn, aTt, aTs, aFl, aOt, yVl, yFx, yFy, yFk, yFp, yKl) (nI d) (nI k)) := by
  subst k14
  have h8 := F.2.1
  have m1 : (if 14 ≤ 8 ∨ 14 = 11 then 2 else 1) = 1 := by decide
  by_cases a : 1 ≤ h - f
  · have a' : (1 : Int32) ≤ nI (h - f) := nI_le (a := 1) a (by omega)
    have e1 : nI h - 1 = nI (h - 1) := pk_sub (b := 1) (by omega)
    have c1 := nI_clamp (n := h - 1) (by omega)
    have co := nI_clamp (n := o) (by omega)
    have v1 := vp_in_nI (n := h - 1) (N := 8) (by omega) (by decide)
    have vo := vp_in_nI (n := o) (N := 20) (by omega) (by decide)
    have t1 : ck_1 aTs h = aTs (h - 1) := if_neg (by omega)
    by_cases b : aTs (h - 1) = 2
    · refine ⟨0, h - 1, o + 1, aTs, upd aFl o (nI (h - 1)), upd aOt o 0, upd aEl o 0, upd aOk o (nI i), aTj, fun _ => Or.inr (Or.inl ⟨rfl, by omega, by omega, b, rfl, rfl, rfl, rfl, rfl, rfl, rfl⟩), fun post hp => ck_di hd hi hk ?_, fun post hp => ck_y F (ck_ye (by omega) (by omega) (by omega) (by omega) ?_)⟩
      · unfold wpX_checkIf
        dsimp only
        refine ck_av F (br_t a' ?_)
        rw [e1, c1, co, kc_b0, nI_1]
        exact ⟨v1, br_t b (nm_e ⟨vo, nm_e ⟨vo, nm_e ⟨vo, nm_e ⟨vo, nm_e (nm_e hp)⟩⟩⟩⟩)⟩
      · rw [m1, t1]
        refine br_t a' (br_t (by decide) (br_f (by decide) (br_f (by decide) (br_f (by decide) (br_t rfl (br_t b ?_))))))
        rw [e1, co, nI_1]
        exact nm_e ⟨vo, nm_e ⟨vo, nm_e (nm_e hp)⟩⟩
    · refine ⟨16, h, o, aTs, aFl, aOt, aEl, aOk, aTj, fun z => absurd z (by decide), fun post hp => ck_di hd hi hk ?_, fun post hp => ck_y F (ck_ye (by omega) (by omega) (by omega) (by omega) ?_)⟩
      · unfold wpX_checkIf
        dsimp only
        refine ck_av F (br_t a' ?_)
        rw [e1, c1]
        exact ⟨v1, br_f b hp⟩
      · rw [m1, t1]
        exact br_t a' (br_t (by decide) (br_f (by decide) (br_f (by decide) (br_f (by decide) (br_t rfl (br_f b hp))))))
  · have a' : ¬ (1 : Int32) ≤ nI (h - f) := nI_ge (b := 1) (by omega) (by decide)
    refine ⟨15, h, o, aTs, aFl, aOt, aEl, aOk, aTj, fun z => absurd z (by decide), fun post hp => ck_di hd hi hk ?_, fun post hp => ck_y F (ck_ye (by omega) (by omega) (by omega) (by omega) ?_)⟩
    · unfold wpX_checkIf
      dsimp only
      exact ck_av F (br_f a' hp)
    · rw [m1]
      exact br_f a' hp
/-- what is known of the innermost open conditional -/
def kc_O (aEl aOt aOk : Nat → Int32) (o : Nat) : Prop := ∀ o1, o = o1 + 1 → ((aEl o1 = 0 ∧ aOt o1 = 0) ∨ (aEl o1 = 1 ∧ ¬ aOt o1 = 0)) ∧ ∃ P, P < 20 ∧ aOk o1 = nI P
theorem kc_else (F : ck_f aFl h o f) (O : kc_O aEl aOt aOk o) (hd : d < 12) (hi : i < 20) (hk : aTk (20 * d + i) = nI k) (k15 : k = 15) : ∃ (r : Int32) (h' o' : Nat) (ts' fl' ot' el' ok' tj' : Nat → Int32), (r = 0 → ck_S nc nd aSup aCpx aCpy aCr aIns aCls aHd aCtx aPx aPy aR d i k (aTn (20 * d + i)) (aTt (20 * d + i)) h o f aTs aFl aOt aEl aOk aTj h' o' ts' fl' ot' el' ok' tj') ∧ (∀ post : Int32 → SX → Prop, post r (nI dl, nI cl, nI pl, nI nc, nI nd, fCK, fED, fEP, nI h', nI o', fHP, fNK, fRC, fTD, fTT, fAX, fAY, fRS, fLV, fLT, fDP, fEN, fAN, aSup, aCpx, aCpy, aCr, aIns, aCls, aHd, aCtx, aPx, aPy, aR, aSz, aWd, aTk, aTn, aTt, tj', ts', fl', el', ot', ok', aKd, aKt, aCal, aFd, aFt, aFc, aFp, aFh, aFx, aFy, aVl) → wpX_checkToken post (nI dl, nI cl, nI pl, nI nc, nI nd, fCK, fED, fEP, nI h, nI o, fHP, fNK, fRC, fTD, fTT, fAX, fAY, fRS, fLV, fLT, fDP, fEN, fAN, aSup, aCpx, aCpy, aCr, aIns, aCls, aHd, aCtx, aPx, aPy, aR, aSz, aWd, aTk, aTn, aTt, aTj, aTs, aFl, aEl, aOt, aOk, aKd, aKt, aCal, aFd, aFt, aFc, aFp, aFh, aFx, aFy, aVl) (nI d) (nI i)) ∧ (∀ post : Int32 → SY → Prop, post r (nI dl, nI cl, nI pl, nI nc, nI nd, fCK, fED, yEp, yAt, nI h', nI o', fAX, fAY, fLV, fRS, fLT, ySp, yDp, yEn, fNK, yRk, aSup, aCpx, aCpy, aCr, aPx, aPy, aR, aCtx, aCls, aHd, aSz, yWd, aTk, aTn, aTt, ts', fl', ot', yVl, yFx, yFy, yFk, yFp, yKl) → wpY_checkToken post (nI dl, nI cl, nI pl, nI nc, nI nd, fCK, fED, yEp, yAt, nI h, nI o, fAX, fAY, fLV, fRS, fLT, ySp, yDp, yEn, fNK, yRk, aSup, aCpx, aCpy, aCr, aPx, aPy, aR, aCtx, aCls, aHd, aSz, yWd, aTk, aTn, aTt, aTs, aFl, aOt, yVl, yFx, yFy, yFk, yFp, yKl) (nI d) (nI k)) := by
  subst k15
  have h8 := F.2.1
  have o20 := F.2.2.1
  have E : ∀ (post : Int32 → SX → Prop), post 19 (nI dl, nI cl, nI pl, nI nc, nI nd, fCK, fED, fEP, nI h, nI o, fHP, fNK, fRC, fTD, fTT, fAX, fAY, fRS, fLV, fLT, fDP, fEN, fAN, aSup, aCpx, aCpy, aCr, aIns, aCls, aHd, aCtx, aPx, aPy, aR, aSz, aWd, aTk, aTn, aTt, aTj, aTs, aFl, aEl, aOt, aOk, aKd, aKt, aCal, aFd, aFt, aFc, aFp, aFh, aFx, aFy, aVl) → post 19 (nI dl, nI cl, nI pl, nI nc, nI nd, fCK, fED, fEP, nI h, nI o, fHP, fNK, fRC, fTD, fTT, fAX, fAY, fRS, fLV, fLT, fDP, fEN, fAN, aSup, aCpx, aCpy, aCr, aIns, aCls, aHd, aCtx, aPx, aPy, aR, aSz, aWd, aTk, aTn, aTt, aTj, aTs, aFl, aEl, aOt, aOk, aKd, aKt, aCal, aFd, aFt, aFc, aFp, aFh, aFx, aFy, aVl) := fun _ x => x
  cases o with
  | zero =>
    exact ⟨19, h, 0, aTs, aFl, aOt, aEl, aOk, aTj, fun z => absurd z (by decide), fun post hp => ck_de hd hi hk (br_t rfl hp), fun post hp => ck_y F (br_t (by decide) (br_t rfl (br_t rfl hp)))⟩
  | succ o =>
    have n0 : ¬ nI (o + 1) = 0 := nI_ne0 (by omega) (by omega)
    have p0 := nI_pred o
    have co := nI_clamp (n := o) (by omega)
    have vo := vp_in_nI (n := o) (N := 20) (by omega) (by decide)
    obtain ⟨f1, f2, f3, ⟨f4, _⟩ | ⟨f4, f5⟩⟩ := id F
    · omega
    · rw [Nat.add_sub_cancel] at f5
      obtain ⟨oo, P, P20, eP⟩ := O o rfl
      rcases oo with ⟨z1, z2⟩ | ⟨z1, z2⟩
      · by_cases hh : h = f + 1
        · subst hh
          have e1 : nI (f + 1) - 1 = nI f := nI_pred f
          have cf := nI_clamp (n := f) (by omega)
          have vf := vp_in_nI (n := f) (N := 8) (by omega) (by decide)
          have ew := sm_20x d P
          have cw := nI_clamp (n := 20 * d + P) (by omega)
          have vw := vp_in_nI (n := 20 * d + P) (N := 240) (by omega) (by decide)
          have t1 : ck_1 aTs (f + 1) = aTs f := if_neg (by omega)
          have mP : mk_v (aOk o) = P := by rw [eP, mk_vn (by omega)]
          refine ⟨0, f, o + 1, aTs, aFl, upd aOt o (aTs f), upd aEl o 1, upd aOk o (nI i), upd aTj (20 * d + P) (nI (i + 1)), fun _ => Or.inr (Or.inr (Or.inl ⟨rfl, o, rfl, z1, rfl, rfl, rfl, rfl, rfl, rfl, rfl, rfl, by rw [mP]⟩)), fun post hp => ck_de hd hi hk ?_, fun post hp => ck_y F ?_⟩
          · unfold wpX_checkElse
            dsimp only
            rw [p0]
            refine br_f n0 (nm_e ?_)
            rw [co, z1, f5, nI_1 f, e1, eP, ew, cw, nI_1 i, kc_b1]
            refine ⟨vo, br_t rfl ⟨vo, br_t rfl (nm_e ?_)⟩⟩
            rw [cf]
            exact ⟨vf, vo, nm_e ⟨vo, nm_e ⟨vo, vw, nm_e ⟨vo, nm_e hp⟩⟩⟩⟩
          · rw [t1]
            refine br_t (by decide) (br_t rfl (br_f n0 ?_))
            rw [p0, co, z2, e1]
            exact ⟨vo, br_t rfl (br_t (by rw [Nat.add_sub_cancel_left]; rfl) ⟨vo, nm_e (nm_e hp)⟩)⟩
        · refine ⟨19, h, o + 1, aTs, aFl, aOt, aEl, aOk, aTj, fun z => absurd z (by decide), fun post hp => ck_de hd hi hk ?_, fun post hp => ck_y F ?_⟩
          · unfold wpX_checkElse
            dsimp only
            rw [p0]
            refine br_f n0 (nm_e ?_)
            rw [co, z1, f5, nI_1 f]
            refine ⟨vo, br_t rfl ⟨vo, br_f (fun z => hh ((nI_eq (by omega) (by omega)).mp z)) hp⟩⟩
          · refine br_t (by decide) (br_t rfl (br_f n0 ?_))
            rw [p0, co, z2]
            refine ⟨vo, br_t rfl (br_f (fun z => ?_) hp)⟩
            have := (nI_eq (b := 1) (by omega) (by omega)).mp z
            omega
      · refine ⟨19, h, o + 1, aTs, aFl, aOt, aEl, aOk, aTj, fun z => absurd z (by decide), fun post hp => ck_de hd hi hk ?_, fun post hp => ck_y F ?_⟩
        · unfold wpX_checkElse
          dsimp only
          rw [p0]
          refine br_f n0 (nm_e ?_)
          rw [co, z1]
          exact ⟨vo, br_f (by decide) hp⟩
        · refine br_t (by decide) (br_t rfl (br_f n0 ?_))
          rw [p0, co]
          exact ⟨vo, br_f z2 hp⟩
theorem kc_end (F : ck_f aFl h o f) (O : kc_O aEl aOt aOk o) (hd : d < 12) (hi : i < 20) (hk : aTk (20 * d + i) = nI k) (k16 : k = 16) : ∃ (r : Int32) (h' o' : Nat) (ts' fl' ot' el' ok' tj' : Nat → Int32), (r = 0 → ck_S nc nd aSup aCpx aCpy aCr aIns aCls aHd aCtx aPx aPy aR d i k (aTn (20 * d + i)) (aTt (20 * d + i)) h o f aTs aFl aOt aEl aOk aTj h' o' ts' fl' ot' el' ok' tj') ∧ (∀ post : Int32 → SX → Prop, post r (nI dl, nI cl, nI pl, nI nc, nI nd, fCK, fED, fEP, nI h', nI o', fHP, fNK, fRC, fTD, fTT, fAX, fAY, fRS, fLV, fLT, fDP, fEN, fAN, aSup, aCpx, aCpy, aCr, aIns, aCls, aHd, aCtx, aPx, aPy, aR, aSz, aWd, aTk, aTn, aTt, tj', ts', fl', el', ot', ok', aKd, aKt, aCal, aFd, aFt, aFc, aFp, aFh, aFx, aFy, aVl) → wpX_checkToken post (nI dl, nI cl, nI pl, nI nc, nI nd, fCK, fED, fEP, nI h, nI o, fHP, fNK, fRC, fTD, fTT, fAX, fAY, fRS, fLV, fLT, fDP, fEN, fAN, aSup, aCpx, aCpy, aCr, aIns, aCls, aHd, aCtx, aPx, aPy, aR, aSz, aWd, aTk, aTn, aTt, aTj, aTs, aFl, aEl, aOt, aOk, aKd, aKt, aCal, aFd, aFt, aFc, aFp, aFh, aFx, aFy, aVl) (nI d) (nI i)) ∧ (∀ post : Int32 → SY → Prop, post r (nI dl, nI cl, nI pl, nI nc, nI nd, fCK, fED, yEp, yAt, nI h', nI o', fAX, fAY, fLV, fRS, fLT, ySp, yDp, yEn, fNK, yRk, aSup, aCpx, aCpy, aCr, aPx, aPy, aR, aCtx, aCls, aHd, aSz, yWd, aTk, aTn, aTt, ts', fl', ot', yVl, yFx, yFy, yFk, yFp, yKl) → wpY_checkToken post (nI dl, nI cl, nI pl, nI nc, nI nd, fCK, fED, yEp, yAt, nI h, nI o, fAX, fAY, fLV, fRS, fLT, ySp, yDp, yEn, fNK, yRk, aSup, aCpx, aCpy, aCr, aPx, aPy, aR, aCtx, aCls, aHd, aSz, yWd, aTk, aTn, aTt, aTs, aFl, aOt, yVl, yFx, yFy, yFk, yFp, yKl) (nI d) (nI k)) := by
  subst k16
  have h8 := F.2.1
  have o20 := F.2.2.1
  cases o with
  | zero =>
    exact ⟨19, h, 0, aTs, aFl, aOt, aEl, aOk, aTj, fun z => absurd z (by decide), fun post hp => ck_dn hd hi hk (br_t rfl hp), fun post hp => ck_y F (br_t (by decide) (br_f (by decide) (br_t rfl (br_t rfl hp))))⟩
  | succ o =>
    have n0 : ¬ nI (o + 1) = 0 := nI_ne0 (by omega) (by omega)
    have p0 := nI_pred o
    have co := nI_clamp (n := o) (by omega)
    have vo := vp_in_nI (n := o) (N := 20) (by omega) (by decide)
    obtain ⟨f1, f2, f3, ⟨f4, _⟩ | ⟨f4, f5⟩⟩ := id F
    · omega
    · rw [Nat.add_sub_cancel] at f5
      obtain ⟨oo, P, P20, eP⟩ := O o rfl
      rcases oo with ⟨z1, z2⟩ | ⟨z1, z2⟩
      · refine ⟨19, h, o + 1, aTs, aFl, aOt, aEl, aOk, aTj, fun z => absurd z (by decide), fun post hp => ck_dn hd hi hk ?_, fun post hp => ck_y F ?_⟩
        · unfold wpX_checkEnd
          dsimp only
          rw [p0]
          refine br_f n0 (nm_e ?_)
          rw [co, z1]
          exact ⟨vo, br_t rfl hp⟩
        · refine br_t (by decide) (br_f (by decide) (br_t rfl (br_f n0 ?_)))
          rw [p0, co, z2]
          exact ⟨vo, br_t rfl hp⟩
      · by_cases hh : h = f + 1
        · subst hh
          have e1 : nI (f + 1) - 1 = nI f := nI_pred f
          have cf := nI_clamp (n := f) (by omega)
          have vf := vp_in_nI (n := f) (N := 8) (by omega) (by decide)
          have ew := sm_20x d P
          have cw := nI_clamp (n := 20 * d + P) (by omega)
          have vw := vp_in_nI (n := 20 * d + P) (N := 240) (by omega) (by decide)
          have t1 : ck_1 aTs (f + 1) = aTs f := if_neg (by omega)
          have mP : mk_v (aOk o) = P := by rw [eP, mk_vn (by omega)]
          by_cases b : aTs f = aOt o
          · refine ⟨0, f + 1, o, aTs, aFl, aOt, aEl, aOk, upd aTj (20 * d + P) (nI (i + 1)), fun _ => Or.inr (Or.inr (Or.inr ⟨rfl, o, rfl, z1, rfl, b, rfl, rfl, rfl, rfl, rfl, rfl, rfl, by rw [mP]⟩)), fun post hp => ck_dn hd hi hk ?_, fun post hp => ck_y F ?_⟩
            · unfold wpX_checkEnd
              dsimp only
              rw [p0]
              refine br_f n0 (nm_e ?_)
              rw [co, z1, f5, nI_1 f, e1, cf, eP, ew, cw, nI_1 i]
              exact ⟨vo, br_f (by decide) ⟨vo, br_t rfl ⟨vf, vo, br_t b ⟨vo, vw, nm_e hp⟩⟩⟩⟩
            · rw [t1]
              refine br_t (by decide) (br_f (by decide) (br_t rfl (br_f n0 ?_)))
              rw [p0, co]
              exact ⟨vo, br_f z2 (br_t (by rw [Nat.add_sub_cancel_left]; rfl) ⟨vo, br_t b (nm_e hp)⟩)⟩
          · refine ⟨16, f + 1, o + 1, aTs, aFl, aOt, aEl, aOk, aTj, fun z => absurd z (by decide), fun post hp => ck_dn hd hi hk ?_, fun post hp => ck_y F ?_⟩
            · unfold wpX_checkEnd
              dsimp only
              rw [p0]
              refine br_f n0 (nm_e ?_)
              rw [co, z1, f5, nI_1 f, e1, cf]
              exact ⟨vo, br_f (by decide) ⟨vo, br_t rfl ⟨vf, vo, br_f b hp⟩⟩⟩
            · rw [t1]
              refine br_t (by decide) (br_f (by decide) (br_t rfl (br_f n0 ?_)))
              rw [p0, co]
              exact ⟨vo, br_f z2 (br_t (by rw [Nat.add_sub_cancel_left]; rfl) ⟨vo, br_f b hp⟩)⟩
        · refine ⟨19, h, o + 1, aTs, aFl, aOt, aEl, aOk, aTj, fun z => absurd z (by decide), fun post hp => ck_dn hd hi hk ?_, fun post hp => ck_y F ?_⟩
          · unfold wpX_checkEnd
            dsimp only
            rw [p0]
            refine br_f n0 (nm_e ?_)
            rw [co, z1, f5, nI_1 f]
            exact ⟨vo, br_f (by decide) ⟨vo, br_f (fun z => hh ((nI_eq (by omega) (by omega)).mp z)) hp⟩⟩
          · refine br_t (by decide) (br_f (by decide) (br_t rfl (br_f n0 ?_)))
            rw [p0, co]
            refine ⟨vo, br_f z2 (br_f (fun z => ?_) hp)⟩
            have := (nI_eq (b := 1) (by omega) (by omega)).mp z
            omega
end
end
section
/-! 16: check: CALL and METHOD -/
theorem ca_b {l lt : List Bool} {e et : Nat} (t3 : et ≤ 3) (B : e = 3 → l.length + lt.length ≤ 6) : e = 3 → ty_e l (ty_e lt et) < 2 ^ 31 := by
  intro z
  have h := ty_e21 (l := l ++ lt) (e := et) (by rw [List.length_append]; exact B z) (by omega)
  rw [ty_ea] at h
  omega
section
variable {dl cl pl nc nd : Nat} {fCK fED fEP fH fO fHP fNK fRC fTD fTT : Int32} {fAX fAY : Int64} {fRS : Int32} {fLV : Int64} {fLT fDP fEN : Int32} {fAN : Int64} {aSup aCpx aCpy aCr aIns aCls aHd aCtx aPx aPy aR aSz aWd aTk aTn aTt aTj aTs aFl aEl aOt aOk aKd aKt aCal aFd aFt aFc aFp aFh : Nat → Int32} {aFx aFy aVl : Nat → Int64} {yAt ySp yDp yEn yRk : Int32} {yWd : Nat → Int32} {yVl yFx yFy : Nat → Int64} {yFk yFp yKl : Nat → Int32} {yEp : Int32} {d i k h o f W : Nat}
theorem ca_y {post : Int32 → SY → Prop} {x1 x4 x6 x7 x8 : Int32} (F : ck_f aFl h o f) (H : wY_checkCall_244 post x1 x4 x6 x7 x8 (nI (h - f)) (nI dl) (nI cl) (nI pl) (nI nc) (nI nd) fCK fED fEP yAt (nI h) (nI o) fAX fAY fLV fRS fLT ySp yDp yEn fNK yRk aSup aCpx aCpy aCr aPx aPy aR aCtx aCls aHd aSz yWd aTk aTn aTt aTs aFl aOt yVl yFx yFy yFk yFp yKl) : ((nI o ≤ 0 → (wY_checkCall_244 post x1 x4 x6 x7 x8 (nI h) (nI dl) (nI cl) (nI pl) (nI nc) (nI nd) fCK fED fEP yAt (nI h) (nI o) fAX fAY fLV fRS fLT ySp yDp yEn fNK yRk aSup aCpx aCpy aCr aPx aPy aR aCtx aCls aHd aSz yWd aTk aTn aTt aTs aFl aOt yVl yFx yFy yFk yFp yKl)) ∧ (¬ nI o ≤ 0 → (vp_in (nI o - 1) 20 ∧ (wY_checkCall_244 post x1 x4 x6 x7 x8 (nI h - (aFl (nI o - 1).toNatClampNeg)) (nI dl) (nI cl) (nI pl) (nI nc) (nI nd) fCK fED fEP yAt (nI h) (nI o) fAX fAY fLV fRS fLT ySp yDp yEn fNK yRk aSup aCpx aCpy aCr aPx aPy aR aCtx aCls aHd aSz yWd aTk aTn aTt aTs aFl aOt yVl yFx yFy yFk yFp yKl)))) := by
  obtain ⟨f1, f2, f3, ⟨rfl, rfl⟩ | ⟨f4, f5⟩⟩ := F
  · exact br_t (by decide) H
  · refine br_f (nI_nle f4 (by omega)) ?_
    rw [show nI o - 1 = nI (o - 1) from pk_sub (b := 1) f4, nI_clamp (n := o - 1) (by omega), f5, pk_sub f1]
    exact ⟨vp_in_nI (by omega) (by decide), H⟩
theorem ca_ap (F : ck_f aFl h o f) (hd : d < 12) (hW : yWd d = nI W) (W6 : W ≤ 6) {l1 l2 l3 lt : List Bool} {e1 e2 e3 et : Nat} (a1 : 1 ≤ e1) (b1 : e1 ≤ 3) (c1 : l1.length ≤ 6) (a2 : 1 ≤ e2) (b2 : e2 ≤ 3) (c2 : l2.length ≤ 6) (a3 : 1 ≤ e3) (b3 : e3 ≤ 3) (c3 : l3.length ≤ 6) (at' : 1 ≤ et) (bt' : et ≤ 3) (ct : lt.length ≤ 6) :
    (∃ c : Int32, ¬ c = 0 ∧ (∀ post : Int32 → SX → Prop, post c (nI dl, nI cl, nI pl, nI nc, nI nd, fCK, fED, fEP, nI h, nI o, fHP, fNK, fRC, fTD, fTT, fAX, fAY, fRS, fLV, fLT, fDP, fEN, fAN, aSup, aCpx, aCpy, aCr, aIns, aCls, aHd, aCtx, aPx, aPy, aR, aSz, aWd, aTk, aTn, aTt, aTj, aTs, aFl, aEl, aOt, aOk, aKd, aKt, aCal, aFd, aFt, aFc, aFp, aFh, aFx, aFy, aVl) → wpX_checkApply post (nI dl, nI cl, nI pl, nI nc, nI nd, fCK, fED, fEP, nI h, nI o, fHP, fNK, fRC, fTD, fTT, fAX, fAY, fRS, fLV, fLT, fDP, fEN, fAN, aSup, aCpx, aCpy, aCr, aIns, aCls, aHd, aCtx, aPx, aPy, aR, aSz, aWd, aTk, aTn, aTt, aTj, aTs, aFl, aEl, aOt, aOk, aKd, aKt, aCal, aFd, aFt, aFc, aFp, aFh, aFx, aFy, aVl) (nI (ty_e l1 e1)) (nI (ty_e l2 e2)) (nI (ty_e l3 e3)) (nI (ty_e lt et))) ∧ (∀ post : Int32 → SY → Prop, post c (nI dl, nI cl, nI pl, nI nc, nI nd, fCK, fED, yEp, yAt, nI h, nI o, fAX, fAY, fLV, fRS, fLT, ySp, yDp, yEn, fNK, yRk, aSup, aCpx, aCpy, aCr, aPx, aPy, aR, aCtx, aCls, aHd, aSz, yWd, aTk, aTn, aTt, aTs, aFl, aOt, yVl, yFx, yFy, yFk, yFp, yKl) → wY_checkCall_170 post (nI d) (nI (ty_e lt et)) (nI (ty_e l1 e1)) (nI (ty_e l2 e2)) (nI (ty_e l3 e3)) (nI dl) (nI cl) (nI pl) (nI nc) (nI nd) fCK fED yEp yAt (nI h) (nI o) fAX fAY fLV fRS fLT ySp yDp yEn fNK yRk aSup aCpx aCpy aCr aPx aPy aR aCtx aCls aHd aSz yWd aTk aTn aTt aTs aFl aOt yVl yFx yFy yFk yFp yKl)) ∨
    (2 ≤ h - f ∧ (e1 = 3 → l1.length + lt.length ≤ 6) ∧ (e2 = 3 → l2.length + lt.length ≤ 6) ∧ (e3 = 3 → l3.length + lt.length ≤ 6) ∧ aTs (h - 2) = nI (ty_e l1 (ty_s e1 (ty_e lt et))) ∧ aTs (h - 1) = nI (ty_e l2 (ty_s e2 (ty_e lt et))) ∧ (∀ post : Int32 → SX → Prop, post 0 (nI dl, nI cl, nI pl, nI nc, nI nd, fCK, fED, fEP, nI (h - 1), nI o, fHP, fNK, fRC, fTD, fTT, fAX, fAY, fRS, fLV, fLT, fDP, fEN, fAN, aSup, aCpx, aCpy, aCr, aIns, aCls, aHd, aCtx, aPx, aPy, aR, aSz, aWd, aTk, aTn, aTt, aTj, upd aTs (h - 2) (nI (ty_e l3 (ty_s e3 (ty_e lt et)))), aFl, aEl, aOt, aOk, aKd, aKt, aCal, aFd, aFt, aFc, aFp, aFh, aFx, aFy, aVl) → wpX_checkApply post (nI dl, nI cl, nI pl, nI nc, nI nd, fCK, fED, fEP, nI h, nI o, fHP, fNK, fRC, fTD, fTT, fAX, fAY, fRS, fLV, fLT, fDP, fEN, fAN, aSup, aCpx, aCpy, aCr, aIns, aCls, aHd, aCtx, aPx, aPy, aR, aSz, aWd, aTk, aTn, aTt, aTj, aTs, aFl, aEl, aOt, aOk, aKd, aKt, aCal, aFd, aFt, aFc, aFp, aFh, aFx, aFy, aVl) (nI (ty_e l1 e1)) (nI (ty_e l2 e2)) (nI (ty_e l3 e3)) (nI (ty_e lt et))) ∧ (∀ post : Int32 → SY → Prop, post 0 (nI dl, nI cl, nI pl, nI nc, nI nd, fCK, fED, yEp, yAt, nI (h - 1), nI o, fAX, fAY, fLV, fRS, fLT, ySp, yDp, yEn, fNK, yRk, aSup, aCpx, aCpy, aCr, aPx, aPy, aR, aCtx, aCls, aHd, aSz, ck_a yWd d W lt et, aTk, aTn, aTt, upd aTs (h - 2) (nI (ty_e l3 (ty_s e3 (ty_e lt et)))), aFl, aOt, yVl, yFx, yFy, yFk, yFp, yKl) → wY_checkCall_170 post (nI d) (nI (ty_e lt et)) (nI (ty_e l1 e1)) (nI (ty_e l2 e2)) (nI (ty_e l3 e3)) (nI dl) (nI cl) (nI pl) (nI nc) (nI nd) fCK fED yEp yAt (nI h) (nI o) fAX fAY fLV fRS fLT ySp yDp yEn fNK yRk aSup aCpx aCpy aCr aPx aPy aR aCtx aCls aHd aSz yWd aTk aTn aTt aTs aFl aOt yVl yFx yFy yFk yFp yKl)) := by
  have h8 := F.2.1
  have big : ∀ n, 7 < n → n ≤ 13 → (7 : Int32) < nI n := fun n hn hm => nI_lt (a := 7) hn (by omega)
  have sml : ∀ n, n ≤ 7 → ¬ (7 : Int32) < nI n := fun n hn => nI_nlt (a := 7) hn (by decide)
  by_cases B1 : e1 = 3 → l1.length + lt.length ≤ 6
  · by_cases B2 : e2 = 3 → l2.length + lt.length ≤ 6
    · by_cases B3 : e3 = 3 → l3.length + lt.length ≤ 6
      · have X : ∀ post : Int32 → SX → Prop, ((2 ≤ nI (h - f) → (vp_in (nI h - 2) 8 ∧ ((aTs (nI h - 2).toNatClampNeg = nI (ty_e l1 (ty_s e1 (ty_e lt et))) → (vp_in (nI h - 1) 8 ∧ ((aTs (nI h - 1).toNatClampNeg = nI (ty_e l2 (ty_s e2 (ty_e lt et))) → post 0 (nI dl, nI cl, nI pl, nI nc, nI nd, fCK, fED, fEP, nI (h - 1), nI o, fHP, fNK, fRC, fTD, fTT, fAX, fAY, fRS, fLV, fLT, fDP, fEN, fAN, aSup, aCpx, aCpy, aCr, aIns, aCls, aHd, aCtx, aPx, aPy, aR, aSz, aWd, aTk, aTn, aTt, aTj, upd aTs (h - 2) (nI (ty_e l3 (ty_s e3 (ty_e lt et)))), aFl, aEl, aOt, aOk, aKd, aKt, aCal, aFd, aFt, aFc, aFp, aFh, aFx, aFy, aVl)) ∧ (¬ aTs (nI h - 1).toNatClampNeg = nI (ty_e l2 (ty_s e2 (ty_e lt et))) → post 16 (nI dl, nI cl, nI pl, nI nc, nI nd, fCK, fED, fEP, nI h, nI o, fHP, fNK, fRC, fTD, fTT, fAX, fAY, fRS, fLV, fLT, fDP, fEN, fAN, aSup, aCpx, aCpy, aCr, aIns, aCls, aHd, aCtx, aPx, aPy, aR, aSz, aWd, aTk, aTn, aTt, aTj, aTs, aFl, aEl, aOt, aOk, aKd, aKt, aCal, aFd, aFt, aFc, aFp, aFh, aFx, aFy, aVl))))) ∧ (¬ aTs (nI h - 2).toNatClampNeg = nI (ty_e l1 (ty_s e1 (ty_e lt et))) → post 16 (nI dl, nI cl, nI pl, nI nc, nI nd, fCK, fED, fEP, nI h, nI o, fHP, fNK, fRC, fTD, fTT, fAX, fAY, fRS, fLV, fLT, fDP, fEN, fAN, aSup, aCpx, aCpy, aCr, aIns, aCls, aHd, aCtx, aPx, aPy, aR, aSz, aWd, aTk, aTn, aTt, aTj, aTs, aFl, aEl, aOt, aOk, aKd, aKt, aCal, aFd, aFt, aFc, aFp, aFh, aFx, aFy, aVl))))) ∧ (¬ 2 ≤ nI (h - f) → post 15 (nI dl, nI cl, nI pl, nI nc, nI nd, fCK, fED, fEP, nI h, nI o, fHP, fNK, fRC, fTD, fTT, fAX, fAY, fRS, fLV, fLT, fDP, fEN, fAN, aSup, aCpx, aCpy, aCr, aIns, aCls, aHd, aCtx, aPx, aPy, aR, aSz, aWd, aTk, aTn, aTt, aTj, aTs, aFl, aEl, aOt, aOk, aKd, aKt, aCal, aFd, aFt, aFc, aFp, aFh, aFx, aFy, aVl))) → wpX_checkApply post (nI dl, nI cl, nI pl, nI nc, nI nd, fCK, fED, fEP, nI h, nI o, fHP, fNK, fRC, fTD, fTT, fAX, fAY, fRS, fLV, fLT, fDP, fEN, fAN, aSup, aCpx, aCpy, aCr, aIns, aCls, aHd, aCtx, aPx, aPy, aR, aSz, aWd, aTk, aTn, aTt, aTj, aTs, aFl, aEl, aOt, aOk, aKd, aKt, aCal, aFd, aFt, aFc, aFp, aFh, aFx, aFy, aVl) (nI (ty_e l1 e1)) (nI (ty_e l2 e2)) (nI (ty_e l3 e3)) (nI (ty_e lt et)) := by
          intro post H
          unfold wpX_checkApply
          dsimp only
          refine ck_tb _ a1 b1 c1 at' bt' ct (fun _ => br_t rfl ?_) (fun z => absurd B1 z)
          refine ck_tb _ a2 b2 c2 at' bt' ct (fun _ => br_t rfl ?_) (fun z => absurd B2 z)
          refine ck_tb _ a3 b3 c3 at' bt' ct (fun _ => br_t rfl ?_) (fun z => absurd B3 z)
          refine ck_av F ?_
          refine br_c (fun z2 => ?_) (fun z2 => H.2 z2)
          have G := H.1 z2
          refine tx_sub _ a1 b1 c1 (ca_b bt' B1) (tx_sub _ a2 b2 c2 (ca_b bt' B2) ?_)
          refine ⟨G.1, br_c (fun w1 => ?_) (fun w1 => G.2.2 w1)⟩
          have G2 := G.2.1 w1
          refine ⟨G2.1, br_c (fun w2 => ?_) (fun w2 => G2.2.2 w2)⟩
          have hh : 2 ≤ h := by
            have := (nI_leI (a := 2) (by omega) (by omega)).mp z2
            omega
          refine nm_r (e' := nI (h - 1)) (pk_sub (b := 1) (by omega)) (tx_sub _ a3 b3 c3 (ca_b bt' B3) ?_)
          rw [show nI (h - 1) - 1 = nI (h - 2) from (pk_sub (b := 1) (by omega)).trans (congrArg nI (by omega)), nI_clamp (n := h - 2) (by omega)]
          exact ⟨vp_in_nI (by omega) (by decide), nm_e (G2.2.1 w2)⟩
        have Y : ∀ post : Int32 → SY → Prop, wY_checkCall_244 post (nI d) (nI (ty_e lt et)) (nI (ty_e l1 e1)) (nI (ty_e l2 e2)) (nI (ty_e l3 e3)) (nI (h - f)) (nI dl) (nI cl) (nI pl) (nI nc) (nI nd) fCK fED yEp yAt (nI h) (nI o) fAX fAY fLV fRS fLT ySp yDp yEn fNK yRk aSup aCpx aCpy aCr aPx aPy aR aCtx aCls aHd aSz yWd aTk aTn aTt aTs aFl aOt yVl yFx yFy yFk yFp yKl → wY_checkCall_170 post (nI d) (nI (ty_e lt et)) (nI (ty_e l1 e1)) (nI (ty_e l2 e2)) (nI (ty_e l3 e3)) (nI dl) (nI cl) (nI pl) (nI nc) (nI nd) fCK fED yEp yAt (nI h) (nI o) fAX fAY fLV fRS fLT ySp yDp yEn fNK yRk aSup aCpx aCpy aCr aPx aPy aR aCtx aCls aHd aSz yWd aTk aTn aTt aTs aFl aOt yVl yFx yFy yFk yFp yKl := by
          intro post H
          unfold wY_checkCall_170
          refine ck_sz _ a1 b1 c1 at' bt' ct (fun _ n hn => br_f (sml n hn) ?_) (fun z => absurd B1 z)
          refine ck_sz _ a2 b2 c2 at' bt' ct (fun _ n hn => br_f (sml n hn) ?_) (fun z => absurd B2 z)
          refine ck_sz _ a3 b3 c3 at' bt' ct (fun _ n hn => br_t (nI_le (b := 7) hn (by decide)) ?_) (fun z => absurd B3 z)
          exact ca_y F H
        by_cases a : 2 ≤ h - f
        · have a' : (2 : Int32) ≤ nI (h - f) := nI_le (a := 2) a (by omega)
          have e1' : nI h - 1 = nI (h - 1) := pk_sub (b := 1) (by omega)
          have e2' : nI h - 2 = nI (h - 2) := pk_sub (b := 2) (by omega)
          have k1 := nI_clamp (n := h - 1) (by omega)
          have k2 := nI_clamp (n := h - 2) (by omega)
          have v1 := vp_in_nI (n := h - 1) (N := 8) (by omega) (by decide)
          have v2 := vp_in_nI (n := h - 2) (N := 8) (by omega) (by decide)
          rw [e2', e1', k2, k1] at X
          by_cases w1 : aTs (h - 2) = nI (ty_e l1 (ty_s e1 (ty_e lt et)))
          · by_cases w2 : aTs (h - 1) = nI (ty_e l2 (ty_s e2 (ty_e lt et)))
            · refine Or.inr ⟨a, B1, B2, B3, w1, w2, fun post hp => X post (br_t a' ⟨v2, br_t w1 ⟨v1, br_t w2 hp⟩⟩), fun post hp => Y post ?_⟩
              unfold wY_checkCall_244
              rw [e2', e1', k2, k1]
              refine br_t a' ⟨v2, tx_sby _ a1 b1 c1 (br_t w1 ⟨v1, tx_sby _ a2 b2 c2 (br_t w2 (ck_wy hd hW W6 at' bt' ct (tx_sby _ a3 b3 c3 ?_)))⟩)⟩
              exact ck_put (p := 2) (h' := h - 1) (by omega) (by omega) (by omega) hp
            · refine Or.inl ⟨16, by decide, fun post hp => X post (br_t a' ⟨v2, br_t w1 ⟨v1, br_f w2 hp⟩⟩), fun post hp => Y post ?_⟩
              unfold wY_checkCall_244
              rw [e2', e1', k2, k1]
              exact br_t a' ⟨v2, tx_sby _ a1 b1 c1 (br_t w1 ⟨v1, tx_sby _ a2 b2 c2 (br_f w2 hp)⟩)⟩
          · refine Or.inl ⟨16, by decide, fun post hp => X post (br_t a' ⟨v2, br_f w1 hp⟩), fun post hp => Y post ?_⟩
            unfold wY_checkCall_244
            rw [e2', e1', k2, k1]
            exact br_t a' ⟨v2, tx_sby _ a1 b1 c1 (br_f w1 hp)⟩
        · have a' : ¬ (2 : Int32) ≤ nI (h - f) := nI_ge (b := 2) (by omega) (by decide)
          exact Or.inl ⟨15, by decide, fun post hp => X post (br_f a' hp), fun post hp => Y post (br_f a' hp)⟩
      · refine Or.inl ⟨14, by decide, fun post hp => ?_, fun post hp => ?_⟩
        · unfold wpX_checkApply
          dsimp only
          refine ck_tb _ a1 b1 c1 at' bt' ct (fun _ => br_t rfl ?_) (fun z => absurd B1 z)
          refine ck_tb _ a2 b2 c2 at' bt' ct (fun _ => br_t rfl ?_) (fun z => absurd B2 z)
          exact ck_tb _ a3 b3 c3 at' bt' ct (fun z => absurd z B3) (fun _ => br_f (by decide) hp)
        · unfold wY_checkCall_170
          refine ck_sz _ a1 b1 c1 at' bt' ct (fun _ n hn => br_f (sml n hn) ?_) (fun z => absurd B1 z)
          refine ck_sz _ a2 b2 c2 at' bt' ct (fun _ n hn => br_f (sml n hn) ?_) (fun z => absurd B2 z)
          exact ck_sz _ a3 b3 c3 at' bt' ct (fun z => absurd z B3) (fun _ n hn hm => br_f (nI_ge (a := 7) hn (by omega)) hp)
    · refine Or.inl ⟨14, by decide, fun post hp => ?_, fun post hp => ?_⟩
      · unfold wpX_checkApply
        dsimp only
        refine ck_tb _ a1 b1 c1 at' bt' ct (fun _ => br_t rfl ?_) (fun z => absurd B1 z)
        exact ck_tb _ a2 b2 c2 at' bt' ct (fun z => absurd z B2) (fun _ => br_f (by decide) hp)
      · unfold wY_checkCall_170
        refine ck_sz _ a1 b1 c1 at' bt' ct (fun _ n hn => br_f (sml n hn) ?_) (fun z => absurd B1 z)
        exact ck_sz _ a2 b2 c2 at' bt' ct (fun z => absurd z B2) (fun _ n hn hm => br_t (big n hn hm) hp)
  · refine Or.inl ⟨14, by decide, fun post hp => ?_, fun post hp => ?_⟩
    · unfold wpX_checkApply
      dsimp only
      exact ck_tb _ a1 b1 c1 at' bt' ct (fun z => absurd z B1) (fun _ => br_f (by decide) hp)
    · unfold wY_checkCall_170
      exact ck_sz _ a1 b1 c1 at' bt' ct (fun z => absurd z B1) (fun _ n hn hm => br_t (big n hn hm) hp)
end
end
section
/-! 17: check: CALL and METHOD, whole -/
section
variable {dl cl pl nc nd : Nat} {fCK fED fEP fH fO fHP fNK fRC fTD fTT : Int32} {fAX fAY : Int64} {fRS : Int32} {fLV : Int64} {fLT fDP fEN : Int32} {fAN : Int64} {aSup aCpx aCpy aCr aIns aCls aHd aCtx aPx aPy aR aSz aWd aTk aTn aTt aTj aTs aFl aEl aOt aOk aKd aKt aCal aFd aFt aFc aFp aFh : Nat → Int32} {aFx aFy aVl : Nat → Int64} {yAt ySp yDp yEn yRk : Int32} {yWd : Nat → Int32} {yVl yFx yFy : Nat → Int64} {yFk yFp yKl : Nat → Int32} {yEp : Int32} {d i k h o f W : Nat}
theorem ca_call (S : (sr nc nd aSup aCpx aCpy aCr aIns aCls aHd aCtx aPx aPy aR aSz aTk aTn)) (F : ck_f aFl h o f) (hd : d < nd) (hi : i < 20) (hk : aTk (20 * d + i) = nI k) (k17 : k = 17) (hW : yWd d = nI W) (W6 : W ≤ 6) : ∃ (r : Int32) (h' o' : Nat) (ts' fl' ot' el' ok' tj' yw' : Nat → Int32), (r = 0 → ck_S nc nd aSup aCpx aCpy aCr aIns aCls aHd aCtx aPx aPy aR d i k (aTn (20 * d + i)) (aTt (20 * d + i)) h o f aTs aFl aOt aEl aOk aTj h' o' ts' fl' ot' el' ok' tj' ∧ ∃ (lt : List Bool) (et : Nat), 1 ≤ et ∧ et ≤ 3 ∧ lt.length ≤ 6 ∧ (et = 3 → ¬ wt_c aHd d) ∧ aTt (20 * d + i) = nI (ty_e lt et) ∧ yw' = ck_a yWd d W lt et) ∧ (r ≠ 0 → yw' = yWd) ∧ (∀ post : Int32 → SX → Prop, post r (nI dl, nI cl, nI pl, nI nc, nI nd, fCK, fED, fEP, nI h', nI o', fHP, fNK, fRC, fTD, fTT, fAX, fAY, fRS, fLV, fLT, fDP, fEN, fAN, aSup, aCpx, aCpy, aCr, aIns, aCls, aHd, aCtx, aPx, aPy, aR, aSz, aWd, aTk, aTn, aTt, tj', ts', fl', el', ot', ok', aKd, aKt, aCal, aFd, aFt, aFc, aFp, aFh, aFx, aFy, aVl) → wpX_checkToken post (nI dl, nI cl, nI pl, nI nc, nI nd, fCK, fED, fEP, nI h, nI o, fHP, fNK, fRC, fTD, fTT, fAX, fAY, fRS, fLV, fLT, fDP, fEN, fAN, aSup, aCpx, aCpy, aCr, aIns, aCls, aHd, aCtx, aPx, aPy, aR, aSz, aWd, aTk, aTn, aTt, aTj, aTs, aFl, aEl, aOt, aOk, aKd, aKt, aCal, aFd, aFt, aFc, aFp, aFh, aFx, aFy, aVl) (nI d) (nI i)) ∧ (∀ post : Int32 → SY → Prop, post r (nI dl, nI cl, nI pl, nI nc, nI nd, fCK, fED, yEp, yAt, nI h', nI o', fAX, fAY, fLV, fRS, fLT, ySp, yDp, yEn, fNK, yRk, aSup, aCpx, aCpy, aCr, aPx, aPy, aR, aCtx, aCls, aHd, aSz, yw', aTk, aTn, aTt, ts', fl', ot', yVl, yFx, yFy, yFk, yFp, yKl) → wpY_checkCall post (nI dl, nI cl, nI pl, nI nc, nI nd, fCK, fED, yEp, yAt, nI h, nI o, fAX, fAY, fLV, fRS, fLT, ySp, yDp, yEn, fNK, yRk, aSup, aCpx, aCpy, aCr, aPx, aPy, aR, aCtx, aCls, aHd, aSz, yWd, aTk, aTn, aTt, aTs, aFl, aOt, yVl, yFx, yFy, yFk, yFp, yKl) (nI d) (nI k) (aTn (20 * d + i)) (aTt (20 * d + i))) := by
  rw [k17] at hk
  have H : (sr_H nc nd aSup aIns aCls aHd aCtx) := S.1
  have h12 : nd ≤ 12 := H.2.1
  have h4 : nc ≤ 4 := H.1
  have ERR : ∀ c : Int32, ¬ c = 0 → (∀ post : Int32 → SX → Prop, post c (nI dl, nI cl, nI pl, nI nc, nI nd, fCK, fED, fEP, nI h, nI o, fHP, fNK, fRC, fTD, fTT, fAX, fAY, fRS, fLV, fLT, fDP, fEN, fAN, aSup, aCpx, aCpy, aCr, aIns, aCls, aHd, aCtx, aPx, aPy, aR, aSz, aWd, aTk, aTn, aTt, aTj, aTs, aFl, aEl, aOt, aOk, aKd, aKt, aCal, aFd, aFt, aFc, aFp, aFh, aFx, aFy, aVl) → wpX_checkCall post (nI dl, nI cl, nI pl, nI nc, nI nd, fCK, fED, fEP, nI h, nI o, fHP, fNK, fRC, fTD, fTT, fAX, fAY, fRS, fLV, fLT, fDP, fEN, fAN, aSup, aCpx, aCpy, aCr, aIns, aCls, aHd, aCtx, aPx, aPy, aR, aSz, aWd, aTk, aTn, aTt, aTj, aTs, aFl, aEl, aOt, aOk, aKd, aKt, aCal, aFd, aFt, aFc, aFp, aFh, aFx, aFy, aVl) (nI d) (aTn (20 * d + i)) (aTt (20 * d + i))) → (∀ post : Int32 → SY → Prop, post c (nI dl, nI cl, nI pl, nI nc, nI nd, fCK, fED, yEp, yAt, nI h, nI o, fAX, fAY, fLV, fRS, fLT, ySp, yDp, yEn, fNK, yRk, aSup, aCpx, aCpy, aCr, aPx, aPy, aR, aCtx, aCls, aHd, aSz, yWd, aTk, aTn, aTt, aTs, aFl, aOt, yVl, yFx, yFy, yFk, yFp, yKl) → wY_checkCall_11 post (nI d) (aTn (20 * d + i)) (aTt (20 * d + i)) 1 (nI dl) (nI cl) (nI pl) (nI nc) (nI nd) fCK fED yEp yAt (nI h) (nI o) fAX fAY fLV fRS fLT ySp yDp yEn fNK yRk aSup aCpx aCpy aCr aPx aPy aR aCtx aCls aHd aSz yWd aTk aTn aTt aTs aFl aOt yVl yFx yFy yFk yFp yKl) → ∃ (r : Int32) (h' o' : Nat) (ts' fl' ot' el' ok' tj' yw' : Nat → Int32), (r = 0 → ck_S nc nd aSup aCpx aCpy aCr aIns aCls aHd aCtx aPx aPy aR d i k (aTn (20 * d + i)) (aTt (20 * d + i)) h o f aTs aFl aOt aEl aOk aTj h' o' ts' fl' ot' el' ok' tj' ∧ ∃ (lt : List Bool) (et : Nat), 1 ≤ et ∧ et ≤ 3 ∧ lt.length ≤ 6 ∧ (et = 3 → ¬ wt_c aHd d) ∧ aTt (20 * d + i) = nI (ty_e lt et) ∧ yw' = ck_a yWd d W lt et) ∧ (r ≠ 0 → yw' = yWd) ∧ (∀ post : Int32 → SX → Prop, post r (nI dl, nI cl, nI pl, nI nc, nI nd, fCK, fED, fEP, nI h', nI o', fHP, fNK, fRC, fTD, fTT, fAX, fAY, fRS, fLV, fLT, fDP, fEN, fAN, aSup, aCpx, aCpy, aCr, aIns, aCls, aHd, aCtx, aPx, aPy, aR, aSz, aWd, aTk, aTn, aTt, tj', ts', fl', el', ot', ok', aKd, aKt, aCal, aFd, aFt, aFc, aFp, aFh, aFx, aFy, aVl) → wpX_checkToken post (nI dl, nI cl, nI pl, nI nc, nI nd, fCK, fED, fEP, nI h, nI o, fHP, fNK, fRC, fTD, fTT, fAX, fAY, fRS, fLV, fLT, fDP, fEN, fAN, aSup, aCpx, aCpy, aCr, aIns, aCls, aHd, aCtx, aPx, aPy, aR, aSz, aWd, aTk, aTn, aTt, aTj, aTs, aFl, aEl, aOt, aOk, aKd, aKt, aCal, aFd, aFt, aFc, aFp, aFh, aFx, aFy, aVl) (nI d) (nI i)) ∧ (∀ post : Int32 → SY → Prop, post r (nI dl, nI cl, nI pl, nI nc, nI nd, fCK, fED, yEp, yAt, nI h', nI o', fAX, fAY, fLV, fRS, fLT, ySp, yDp, yEn, fNK, yRk, aSup, aCpx, aCpy, aCr, aPx, aPy, aR, aCtx, aCls, aHd, aSz, yw', aTk, aTn, aTt, ts', fl', ot', yVl, yFx, yFy, yFk, yFp, yKl) → wpY_checkCall post (nI dl, nI cl, nI pl, nI nc, nI nd, fCK, fED, yEp, yAt, nI h, nI o, fAX, fAY, fLV, fRS, fLT, ySp, yDp, yEn, fNK, yRk, aSup, aCpx, aCpy, aCr, aPx, aPy, aR, aCtx, aCls, aHd, aSz, yWd, aTk, aTn, aTt, aTs, aFl, aOt, yVl, yFx, yFy, yFk, yFp, yKl) (nI d) (nI k) (aTn (20 * d + i)) (aTt (20 * d + i))) := by
    intro c hc X Y
    exact ⟨c, h, o, aTs, aFl, aOt, aEl, aOk, aTj, yWd, fun z => absurd z hc, fun _ => rfl, fun post hp => ck_dc (by omega) hi hk (X post hp), fun post hp => br_t (by rw [k17]; rfl) (Y post hp)⟩
  generalize eN : aTn (20 * d + i) = N at ERR ⊢
  generalize eT : aTt (20 * d + i) = T at ERR ⊢
  rcases pk_ix N (n := nd) (by omega) with z | z | ⟨n, hn, rfl⟩
  · refine ERR 12 (by decide) (fun post hp => ?_) (fun post hp => br_t z hp)
    unfold wpX_checkCall
    dsimp only
    exact br_t z (br_t rfl hp)
  · by_cases y : N < 0
    · refine ERR 12 (by decide) (fun post hp => ?_) (fun post hp => br_t y hp)
      unfold wpX_checkCall
      dsimp only
      exact br_t y (br_t rfl hp)
    · refine ERR 12 (by decide) (fun post hp => ?_) (fun post hp => br_f y (br_f (by decide) (br_f (Int32.not_lt.mpr z) hp)))
      unfold wpX_checkCall
      dsimp only
      exact br_f y (br_t z (br_t rfl hp))
  · have n0 : ¬ nI n < 0 := nI_pos (by omega)
    have n1 : ¬ nI nd ≤ nI n := nI_ge hn (by omega)
    have n2 : nI n < nI nd := nI_lt hn (by omega)
    have vn := vp_in_nI (n := n) (N := 12) (by omega) (by decide)
    have vd := vp_in_nI (n := d) (N := 12) (by omega) (by decide)
    have cn := nI_clamp (n := n) (by omega)
    have cd := nI_clamp (n := d) (by omega)
    have E : aCls n = -1 ↔ aHd n = -1 := by
      rcases H.2.2.2.2.1 n hn with ⟨a, b⟩ | ⟨p, q, q1, q2, q3, q4, _⟩
      · rw [a, b]
      · rw [q3, q4]
        exact ⟨fun z => absurd z (sr_ne (by omega)), fun z => absurd z (sr_ne (by omega))⟩
    by_cases hc : aCls n = -1
    · have hh := E.mp hc
      by_cases hal : al_T aHd d T
      · have hal' := hal
        obtain ⟨lt, et, t1, t3, tl, tc, rfl⟩ := hal'
        have cxd := mk_ctx H hd
        have cxn := mk_ctx H hn
        by_cases hH : mk_H aIns aCtx aSup (mk_v (aCtx d)) (mk_v (aCtx n)) lt et
        · obtain ⟨⟨⟨l1, e1, a1, b1, c1, d1⟩, ⟨l2, e2, a2, b2, c2, d2⟩, ⟨l3, e3, a3, b3, c3, d3⟩⟩, _⟩ := S.2.2.1 n hn
          have X : ∀ post : Int32 → SX → Prop, wpX_checkApply post (nI dl, nI cl, nI pl, nI nc, nI nd, fCK, fED, fEP, nI h, nI o, fHP, fNK, fRC, fTD, fTT, fAX, fAY, fRS, fLV, fLT, fDP, fEN, fAN, aSup, aCpx, aCpy, aCr, aIns, aCls, aHd, aCtx, aPx, aPy, aR, aSz, aWd, aTk, aTn, aTt, aTj, aTs, aFl, aEl, aOt, aOk, aKd, aKt, aCal, aFd, aFt, aFc, aFp, aFh, aFx, aFy, aVl) (nI (ty_e l1 e1)) (nI (ty_e l2 e2)) (nI (ty_e l3 e3)) (nI (ty_e lt et)) → wpX_checkCall post (nI dl, nI cl, nI pl, nI nc, nI nd, fCK, fED, fEP, nI h, nI o, fHP, fNK, fRC, fTD, fTT, fAX, fAY, fRS, fLV, fLT, fDP, fEN, fAN, aSup, aCpx, aCpy, aCr, aIns, aCls, aHd, aCtx, aPx, aPy, aR, aSz, aWd, aTk, aTn, aTt, aTj, aTs, aFl, aEl, aOt, aOk, aKd, aKt, aCal, aFd, aFt, aFc, aFp, aFh, aFx, aFy, aVl) (nI d) (nI n) (nI (ty_e lt et)) := by
            intro post G
            unfold wpX_checkCall
            dsimp only
            refine br_f n0 (br_f n1 ⟨vn, ?_⟩)
            rw [cn]
            refine br_t hc (br_f (by decide) (al_X (by omega) (fun _ => br_f (by decide) ⟨vd, vn, ?_⟩) (fun z => absurd hal z)))
            rw [cd, cxd.1, cxn.1, d1, d2, d3]
            exact wh_X H cxd.2 cxn.2 t1 t3 tl (fun _ => br_f (by decide) ⟨vn, vn, vn, G⟩) (fun z => absurd hH z)
          have Y : ∀ post : Int32 → SY → Prop, wY_checkCall_170 post (nI d) (nI (ty_e lt et)) (nI (ty_e l1 e1)) (nI (ty_e l2 e2)) (nI (ty_e l3 e3)) (nI dl) (nI cl) (nI pl) (nI nc) (nI nd) fCK fED yEp yAt (nI h) (nI o) fAX fAY fLV fRS fLT ySp yDp yEn fNK yRk aSup aCpx aCpy aCr aPx aPy aR aCtx aCls aHd aSz yWd aTk aTn aTt aTs aFl aOt yVl yFx yFy yFk yFp yKl → wY_checkCall_11 post (nI d) (nI n) (nI (ty_e lt et)) 1 (nI dl) (nI cl) (nI pl) (nI nc) (nI nd) fCK fED yEp yAt (nI h) (nI o) fAX fAY fLV fRS fLT ySp yDp yEn fNK yRk aSup aCpx aCpy aCr aPx aPy aR aCtx aCls aHd aSz yWd aTk aTn aTt aTs aFl aOt yVl yFx yFy yFk yFp yKl := by
            intro post G
            refine br_f n0 (br_f (by decide) (br_t n2 (br_f (by decide) ⟨vn, ?_⟩)))
            rw [cn]
            refine br_t hh (al_Y (by omega) (fun _ => br_f (by decide) ⟨vd, br_f (by decide) ⟨vn, ?_⟩⟩) (fun z => absurd hal z))
            rw [cn, cd, cxd.1, cxn.1]
            refine wh_Y H cxd.2 cxn.2 t1 t3 tl (fun _ => br_f (by decide) (br_f (by decide) ⟨vn, br_f (by decide) ⟨vn, br_f (by decide) ⟨vn, ?_⟩⟩⟩)) (fun z => absurd hH z)
            rw [cn, d1, d2, d3]
            exact G
          rcases ca_ap (yEp := yEp) (l1 := l1) (l2 := l2) (l3 := l3) F (by omega) hW W6 a1 b1 c1 a2 b2 c2 a3 b3 c3 t1 t3 tl with ⟨c, hc0, XX, YY⟩ | ⟨q0, q1, q2, q3, q4, q5, XX, YY⟩
          · exact ERR c hc0 (fun post hp => X post (XX post hp)) (fun post hp => Y post (YY post hp))
          · refine ⟨0, h - 1, o, upd aTs (h - 2) (nI (ty_e l3 (ty_s e3 (ty_e lt et)))), aFl, aOt, aEl, aOk, aTj, ck_a yWd d W lt et, fun _ => ⟨Or.inl ⟨by omega, by omega, by omega, 2, _, q0, by omega, by have := F.2.1; omega, ?_, rfl, rfl, rfl, rfl, rfl, rfl, rfl⟩, lt, et, t1, t3, tl, tc, rfl, rfl⟩, fun z => absurd rfl z, fun post hp => ck_dc (by omega) hi hk ?_, fun post hp => br_t (by rw [k17]; rfl) (Y post (YY post hp))⟩
            · refine Or.inr (Or.inr (Or.inr (Or.inr (Or.inr (Or.inr (Or.inr (Or.inr (Or.inr (Or.inr (Or.inr (Or.inl ⟨k17, rfl, n, lt, et, hn, rfl, hc, t1, t3, tl, rfl, tc, hH, ⟨l1, e1, a1, b1, c1, d1, q1, q4⟩, ⟨l2, e2, a2, b2, c2, d2, q2, q5⟩, ⟨l3, e3, a3, b3, c3, d3, q3, rfl⟩⟩)))))))))))
            · rw [eN, eT]
              exact X post (XX post hp)
        · refine ERR 17 (by decide) (fun post hp => ?_) (fun post hp => br_f n0 (br_f (by decide) (br_t n2 (br_f (by decide) ⟨vn, ?_⟩))))
          · unfold wpX_checkCall
            dsimp only
            refine br_f n0 (br_f n1 ⟨vn, ?_⟩)
            rw [cn]
            refine br_t hc (br_f (by decide) (al_X (by omega) (fun _ => br_f (by decide) ⟨vd, vn, ?_⟩) (fun z => absurd hal z)))
            rw [cd, cxd.1, cxn.1]
            exact wh_X H cxd.2 cxn.2 t1 t3 tl (fun z => absurd z hH) (fun _ => br_t rfl hp)
          · rw [cn]
            refine br_t hh (al_Y (by omega) (fun _ => br_f (by decide) ⟨vd, br_f (by decide) ⟨vn, ?_⟩⟩) (fun z => absurd hal z))
            rw [cn, cd, cxd.1, cxn.1]
            exact wh_Y H cxd.2 cxn.2 t1 t3 tl (fun z => absurd z hH) (fun _ => br_t rfl hp)
      · refine ERR 13 (by decide) (fun post hp => ?_) (fun post hp => br_f n0 (br_f (by decide) (br_t n2 (br_f (by decide) ⟨vn, ?_⟩))))
        · unfold wpX_checkCall
          dsimp only
          refine br_f n0 (br_f n1 ⟨vn, ?_⟩)
          rw [cn]
          exact br_t hc (br_f (by decide) (al_X (by omega) (fun z => absurd z hal) (fun _ => br_t rfl hp)))
        · rw [cn]
          exact br_t hh (al_Y (by omega) (fun z => absurd z hal) (fun _ => br_t rfl hp))
    · refine ERR 12 (by decide) (fun post hp => ?_) (fun post hp => br_f n0 (br_f (by decide) (br_t n2 (br_f (by decide) ⟨vn, ?_⟩))))
      · unfold wpX_checkCall
        dsimp only
        refine br_f n0 (br_f n1 ⟨vn, ?_⟩)
        rw [cn]
        exact br_f hc (br_t rfl hp)
      · rw [cn]
        exact br_f (fun z => hc (E.mpr z)) hp
theorem ca_meth (S : (sr nc nd aSup aCpx aCpy aCr aIns aCls aHd aCtx aPx aPy aR aSz aTk aTn)) (F : ck_f aFl h o f) (hd : d < nd) (hi : i < 20) (hk : aTk (20 * d + i) = nI k) (k18 : k = 18) (hW : yWd d = nI W) (W6 : W ≤ 6) : ∃ (r : Int32) (h' o' : Nat) (ts' fl' ot' el' ok' tj' yw' : Nat → Int32), (r = 0 → ck_S nc nd aSup aCpx aCpy aCr aIns aCls aHd aCtx aPx aPy aR d i k (aTn (20 * d + i)) (aTt (20 * d + i)) h o f aTs aFl aOt aEl aOk aTj h' o' ts' fl' ot' el' ok' tj' ∧ ∃ (lt : List Bool) (et : Nat), 1 ≤ et ∧ et ≤ 3 ∧ lt.length ≤ 6 ∧ (et = 3 → ¬ wt_c aHd d) ∧ aTt (20 * d + i) = nI (ty_e lt et) ∧ yw' = ck_a yWd d W lt et) ∧ (r ≠ 0 → yw' = yWd) ∧ (∀ post : Int32 → SX → Prop, post r (nI dl, nI cl, nI pl, nI nc, nI nd, fCK, fED, fEP, nI h', nI o', fHP, fNK, fRC, fTD, fTT, fAX, fAY, fRS, fLV, fLT, fDP, fEN, fAN, aSup, aCpx, aCpy, aCr, aIns, aCls, aHd, aCtx, aPx, aPy, aR, aSz, aWd, aTk, aTn, aTt, tj', ts', fl', el', ot', ok', aKd, aKt, aCal, aFd, aFt, aFc, aFp, aFh, aFx, aFy, aVl) → wpX_checkToken post (nI dl, nI cl, nI pl, nI nc, nI nd, fCK, fED, fEP, nI h, nI o, fHP, fNK, fRC, fTD, fTT, fAX, fAY, fRS, fLV, fLT, fDP, fEN, fAN, aSup, aCpx, aCpy, aCr, aIns, aCls, aHd, aCtx, aPx, aPy, aR, aSz, aWd, aTk, aTn, aTt, aTj, aTs, aFl, aEl, aOt, aOk, aKd, aKt, aCal, aFd, aFt, aFc, aFp, aFh, aFx, aFy, aVl) (nI d) (nI i)) ∧ (∀ post : Int32 → SY → Prop, post r (nI dl, nI cl, nI pl, nI nc, nI nd, fCK, fED, yEp, yAt, nI h', nI o', fAX, fAY, fLV, fRS, fLT, ySp, yDp, yEn, fNK, yRk, aSup, aCpx, aCpy, aCr, aPx, aPy, aR, aCtx, aCls, aHd, aSz, yw', aTk, aTn, aTt, ts', fl', ot', yVl, yFx, yFy, yFk, yFp, yKl) → wpY_checkCall post (nI dl, nI cl, nI pl, nI nc, nI nd, fCK, fED, yEp, yAt, nI h, nI o, fAX, fAY, fLV, fRS, fLT, ySp, yDp, yEn, fNK, yRk, aSup, aCpx, aCpy, aCr, aPx, aPy, aR, aCtx, aCls, aHd, aSz, yWd, aTk, aTn, aTt, aTs, aFl, aOt, yVl, yFx, yFy, yFk, yFp, yKl) (nI d) (nI k) (aTn (20 * d + i)) (aTt (20 * d + i))) := by
  rw [k18] at hk
  have H : (sr_H nc nd aSup aIns aCls aHd aCtx) := S.1
  have h12 : nd ≤ 12 := H.2.1
  have h4 : nc ≤ 4 := H.1
  have ERR : ∀ c : Int32, ¬ c = 0 → (∀ post : Int32 → SX → Prop, post c (nI dl, nI cl, nI pl, nI nc, nI nd, fCK, fED, fEP, nI h, nI o, fHP, fNK, fRC, fTD, fTT, fAX, fAY, fRS, fLV, fLT, fDP, fEN, fAN, aSup, aCpx, aCpy, aCr, aIns, aCls, aHd, aCtx, aPx, aPy, aR, aSz, aWd, aTk, aTn, aTt, aTj, aTs, aFl, aEl, aOt, aOk, aKd, aKt, aCal, aFd, aFt, aFc, aFp, aFh, aFx, aFy, aVl) → wpX_checkMethod post (nI dl, nI cl, nI pl, nI nc, nI nd, fCK, fED, fEP, nI h, nI o, fHP, fNK, fRC, fTD, fTT, fAX, fAY, fRS, fLV, fLT, fDP, fEN, fAN, aSup, aCpx, aCpy, aCr, aIns, aCls, aHd, aCtx, aPx, aPy, aR, aSz, aWd, aTk, aTn, aTt, aTj, aTs, aFl, aEl, aOt, aOk, aKd, aKt, aCal, aFd, aFt, aFc, aFp, aFh, aFx, aFy, aVl) (nI d) (aTn (20 * d + i)) (aTt (20 * d + i))) → (∀ post : Int32 → SY → Prop, post c (nI dl, nI cl, nI pl, nI nc, nI nd, fCK, fED, yEp, yAt, nI h, nI o, fAX, fAY, fLV, fRS, fLT, ySp, yDp, yEn, fNK, yRk, aSup, aCpx, aCpy, aCr, aPx, aPy, aR, aCtx, aCls, aHd, aSz, yWd, aTk, aTn, aTt, aTs, aFl, aOt, yVl, yFx, yFy, yFk, yFp, yKl) → wY_checkCall_11 post (nI d) (aTn (20 * d + i)) (aTt (20 * d + i)) 0 (nI dl) (nI cl) (nI pl) (nI nc) (nI nd) fCK fED yEp yAt (nI h) (nI o) fAX fAY fLV fRS fLT ySp yDp yEn fNK yRk aSup aCpx aCpy aCr aPx aPy aR aCtx aCls aHd aSz yWd aTk aTn aTt aTs aFl aOt yVl yFx yFy yFk yFp yKl) → ∃ (r : Int32) (h' o' : Nat) (ts' fl' ot' el' ok' tj' yw' : Nat → Int32), (r = 0 → ck_S nc nd aSup aCpx aCpy aCr aIns aCls aHd aCtx aPx aPy aR d i k (aTn (20 * d + i)) (aTt (20 * d + i)) h o f aTs aFl aOt aEl aOk aTj h' o' ts' fl' ot' el' ok' tj' ∧ ∃ (lt : List Bool) (et : Nat), 1 ≤ et ∧ et ≤ 3 ∧ lt.length ≤ 6 ∧ (et = 3 → ¬ wt_c aHd d) ∧ aTt (20 * d + i) = nI (ty_e lt et) ∧ yw' = ck_a yWd d W lt et) ∧ (r ≠ 0 → yw' = yWd) ∧ (∀ post : Int32 → SX → Prop, post r (nI dl, nI cl, nI pl, nI nc, nI nd, fCK, fED, fEP, nI h', nI o', fHP, fNK, fRC, fTD, fTT, fAX, fAY, fRS, fLV, fLT, fDP, fEN, fAN, aSup, aCpx, aCpy, aCr, aIns, aCls, aHd, aCtx, aPx, aPy, aR, aSz, aWd, aTk, aTn, aTt, tj', ts', fl', el', ot', ok', aKd, aKt, aCal, aFd, aFt, aFc, aFp, aFh, aFx, aFy, aVl) → wpX_checkToken post (nI dl, nI cl, nI pl, nI nc, nI nd, fCK, fED, fEP, nI h, nI o, fHP, fNK, fRC, fTD, fTT, fAX, fAY, fRS, fLV, fLT, fDP, fEN, fAN, aSup, aCpx, aCpy, aCr, aIns, aCls, aHd, aCtx, aPx, aPy, aR, aSz, aWd, aTk, aTn, aTt, aTj, aTs, aFl, aEl, aOt, aOk, aKd, aKt, aCal, aFd, aFt, aFc, aFp, aFh, aFx, aFy, aVl) (nI d) (nI i)) ∧ (∀ post : Int32 → SY → Prop, post r (nI dl, nI cl, nI pl, nI nc, nI nd, fCK, fED, yEp, yAt, nI h', nI o', fAX, fAY, fLV, fRS, fLT, ySp, yDp, yEn, fNK, yRk, aSup, aCpx, aCpy, aCr, aPx, aPy, aR, aCtx, aCls, aHd, aSz, yw', aTk, aTn, aTt, ts', fl', ot', yVl, yFx, yFy, yFk, yFp, yKl) → wpY_checkCall post (nI dl, nI cl, nI pl, nI nc, nI nd, fCK, fED, yEp, yAt, nI h, nI o, fAX, fAY, fLV, fRS, fLT, ySp, yDp, yEn, fNK, yRk, aSup, aCpx, aCpy, aCr, aPx, aPy, aR, aCtx, aCls, aHd, aSz, yWd, aTk, aTn, aTt, aTs, aFl, aOt, yVl, yFx, yFy, yFk, yFp, yKl) (nI d) (nI k) (aTn (20 * d + i)) (aTt (20 * d + i))) := by
    intro c hc X Y
    exact ⟨c, h, o, aTs, aFl, aOt, aEl, aOk, aTj, yWd, fun z => absurd z hc, fun _ => rfl, fun post hp => ck_dm (by omega) hi hk (X post hp), fun post hp => br_f (by rw [k18]; decide) (Y post hp)⟩
  generalize eN : aTn (20 * d + i) = N at ERR ⊢
  generalize eT : aTt (20 * d + i) = T at ERR ⊢
  rcases pk_ix N (n := nc) (by omega) with z | z | ⟨n, hn, rfl⟩
  · refine ERR 12 (by decide) (fun post hp => ?_) (fun post hp => br_t z hp)
    unfold wpX_checkMethod
    dsimp only
    exact br_t z (br_t rfl hp)
  · by_cases y : N < 0
    · refine ERR 12 (by decide) (fun post hp => ?_) (fun post hp => br_t y hp)
      unfold wpX_checkMethod
      dsimp only
      exact br_t y (br_t rfl hp)
    · refine ERR 12 (by decide) (fun post hp => ?_) (fun post hp => br_f y (br_t rfl (br_f (Int32.not_lt.mpr z) hp)))
      unfold wpX_checkMethod
      dsimp only
      exact br_f y (br_t z (br_t rfl hp))
  · have n0 : ¬ nI n < 0 := nI_pos (by omega)
    have n1 : ¬ nI nc ≤ nI n := nI_ge hn (by omega)
    have n2 : nI n < nI nc := nI_lt hn (by omega)
    have vn := vp_in_nI (n := n) (N := 4) (by omega) (by decide)
    have vd := vp_in_nI (n := d) (N := 12) (by omega) (by decide)
    have cn := nI_clamp (n := n) (by omega)
    have cd := nI_clamp (n := d) (by omega)
    have sn := mk_1 n (by omega)
    by_cases hal : al_T aHd d T
    · have hal' := hal
      obtain ⟨lt, et, t1, t3, tl, tc, rfl⟩ := hal'
      have cxd := mk_ctx H hd
      have pn := mk_p16 hn
      by_cases hH : mk_H aIns aCtx aSup (mk_v (aCtx d)) (2 ^ n) lt et
      · obtain ⟨⟨l1, e1, a1, b1, c1, d1⟩, ⟨l2, e2, a2, b2, c2, d2⟩, ⟨l3, e3, a3, b3, c3, d3⟩⟩ := S.2.1 n hn
        have X : ∀ post : Int32 → SX → Prop, wpX_checkApply post (nI dl, nI cl, nI pl, nI nc, nI nd, fCK, fED, fEP, nI h, nI o, fHP, fNK, fRC, fTD, fTT, fAX, fAY, fRS, fLV, fLT, fDP, fEN, fAN, aSup, aCpx, aCpy, aCr, aIns, aCls, aHd, aCtx, aPx, aPy, aR, aSz, aWd, aTk, aTn, aTt, aTj, aTs, aFl, aEl, aOt, aOk, aKd, aKt, aCal, aFd, aFt, aFc, aFp, aFh, aFx, aFy, aVl) (nI (ty_e l1 e1)) (nI (ty_e l2 e2)) (nI (ty_e l3 e3)) (nI (ty_e lt et)) → wpX_checkMethod post (nI dl, nI cl, nI pl, nI nc, nI nd, fCK, fED, fEP, nI h, nI o, fHP, fNK, fRC, fTD, fTT, fAX, fAY, fRS, fLV, fLT, fDP, fEN, fAN, aSup, aCpx, aCpy, aCr, aIns, aCls, aHd, aCtx, aPx, aPy, aR, aSz, aWd, aTk, aTn, aTt, aTj, aTs, aFl, aEl, aOt, aOk, aKd, aKt, aCal, aFd, aFt, aFc, aFp, aFh, aFx, aFy, aVl) (nI d) (nI n) (nI (ty_e lt et)) := by
          intro post G
          unfold wpX_checkMethod
          dsimp only
          refine br_f n0 (br_f n1 (br_f (by decide) (al_X (by omega) (fun _ => br_f (by decide) ⟨vd, ?_⟩) (fun z => absurd hal z))))
          rw [cn, cd, cxd.1, sn, d1, d2, d3]
          exact wh_X H cxd.2 pn t1 t3 tl (fun _ => br_f (by decide) ⟨vn, vn, vn, G⟩) (fun z => absurd hH z)
        have Y : ∀ post : Int32 → SY → Prop, wY_checkCall_170 post (nI d) (nI (ty_e lt et)) (nI (ty_e l1 e1)) (nI (ty_e l2 e2)) (nI (ty_e l3 e3)) (nI dl) (nI cl) (nI pl) (nI nc) (nI nd) fCK fED yEp yAt (nI h) (nI o) fAX fAY fLV fRS fLT ySp yDp yEn fNK yRk aSup aCpx aCpy aCr aPx aPy aR aCtx aCls aHd aSz yWd aTk aTn aTt aTs aFl aOt yVl yFx yFy yFk yFp yKl → wY_checkCall_11 post (nI d) (nI n) (nI (ty_e lt et)) 0 (nI dl) (nI cl) (nI pl) (nI nc) (nI nd) fCK fED yEp yAt (nI h) (nI o) fAX fAY fLV fRS fLT ySp yDp yEn fNK yRk aSup aCpx aCpy aCr aPx aPy aR aCtx aCls aHd aSz yWd aTk aTn aTt aTs aFl aOt yVl yFx yFy yFk yFp yKl := by
          intro post G
          refine br_f n0 (br_t rfl (br_t n2 (br_t rfl (al_Y (by omega) (fun _ => br_f (by decide) ⟨vd, br_t rfl ?_⟩) (fun z => absurd hal z)))))
          rw [cd, cxd.1, sn]
          refine wh_Y H cxd.2 pn t1 t3 tl (fun _ => br_f (by decide) (br_t rfl ⟨vn, br_t rfl ⟨vn, br_t rfl ⟨vn, ?_⟩⟩⟩)) (fun z => absurd hH z)
          rw [cn, d1, d2, d3]
          exact G
        rcases ca_ap (yEp := yEp) (l1 := l1) (l2 := l2) (l3 := l3) F (by omega) hW W6 a1 b1 (by omega) a2 b2 (by omega) a3 b3 (by omega) t1 t3 tl with ⟨c, hc0, XX, YY⟩ | ⟨q0, q1, q2, q3, q4, q5, XX, YY⟩
        · exact ERR c hc0 (fun post hp => X post (XX post hp)) (fun post hp => Y post (YY post hp))
        · refine ⟨0, h - 1, o, upd aTs (h - 2) (nI (ty_e l3 (ty_s e3 (ty_e lt et)))), aFl, aOt, aEl, aOk, aTj, ck_a yWd d W lt et, fun _ => ⟨Or.inl ⟨by omega, by omega, by omega, 2, _, q0, by omega, by have := F.2.1; omega, ?_, rfl, rfl, rfl, rfl, rfl, rfl, rfl⟩, lt, et, t1, t3, tl, tc, rfl, rfl⟩, fun z => absurd rfl z, fun post hp => ck_dm (by omega) hi hk ?_, fun post hp => br_f (by rw [k18]; decide) (Y post (YY post hp))⟩
          · refine Or.inr (Or.inr (Or.inr (Or.inr (Or.inr (Or.inr (Or.inr (Or.inr (Or.inr (Or.inr (Or.inr (Or.inr ⟨k18, rfl, n, lt, et, hn, rfl, t1, t3, tl, rfl, tc, hH n (Nat.testBit_two_pow_self), ⟨l1, e1, a1, b1, by omega, d1, q1, q4⟩, ⟨l2, e2, a2, b2, by omega, d2, q2, q5⟩, ⟨l3, e3, a3, b3, by omega, d3, q3, rfl⟩⟩)))))))))))
          · rw [eN, eT]
            exact X post (XX post hp)
      · refine ERR 17 (by decide) (fun post hp => ?_) (fun post hp => br_f n0 (br_t rfl (br_t n2 (br_t rfl (al_Y (by omega) (fun _ => br_f (by decide) ⟨vd, br_t rfl ?_⟩) (fun z => absurd hal z))))))
        · unfold wpX_checkMethod
          dsimp only
          refine br_f n0 (br_f n1 (br_f (by decide) (al_X (by omega) (fun _ => br_f (by decide) ⟨vd, ?_⟩) (fun z => absurd hal z))))
          rw [cd, cxd.1, sn]
          exact wh_X H cxd.2 pn t1 t3 tl (fun z => absurd z hH) (fun _ => br_t rfl hp)
        · rw [cd, cxd.1, sn]
          exact wh_Y H cxd.2 pn t1 t3 tl (fun z => absurd z hH) (fun _ => br_t rfl hp)
    · refine ERR 13 (by decide) (fun post hp => ?_) (fun post hp => br_f n0 (br_t rfl (br_t n2 (br_t rfl (al_Y (by omega) (fun z => absurd z hal) (fun _ => br_t rfl hp))))))
      unfold wpX_checkMethod
      dsimp only
      exact br_f n0 (br_f n1 (br_f (by decide) (al_X (by omega) (fun z => absurd z hal) (fun _ => br_t rfl hp))))
end
end
section
/-! 18: check: the invariant over the ghosts, and that every step keeps it -/
def ck_o (aTk : Nat → Int32) (d i : Nat) (Ht : Nat → Nat) (Ty : Nat → Nat → Int32) (Op : Nat → Nat) (aTs aFl aOt aEl aOk : Nat → Int32) (x : Nat) : Prop := ∃ F P, aFl x = nI F ∧ aOk x = nI P ∧ P < i ∧ F ≤ 8 ∧ Ht P = F + 1 ∧ (∀ j, j < F → Ty P j = aTs j) ∧ Op (P + 1) = x + 1 ∧
  ((aEl x = 0 ∧ aOt x = 0 ∧ wt_k aTk d P = 14 ∧ ∀ j, P < j → j < i → x + 1 ≤ Op j ∧ ¬ (wt_k aTk d j = 15 ∧ Op j = x + 1)) ∨
   (aEl x = 1 ∧ ¬ aOt x = 0 ∧ wt_k aTk d P = 15 ∧ Ty P F = aOt x ∧ ∀ j, P < j → j < i → x + 1 ≤ Op j ∧ ¬ (wt_k aTk d j = 16 ∧ Op j = x + 1)))
def ck_I (nc nd : Nat) (aSup aCpx aCpy aCr aIns aCls aHd aCtx aPx aPy aR aTk aTn aTt : Nat → Int32) (d W i : Nat) (Ht : Nat → Nat) (Ty : Nat → Nat → Int32) (Op : Nat → Nat) (h o f : Nat) (aTs aFl aOt aEl aOk aTj : Nat → Int32) : Prop :=
  wt_R nc nd aSup aCpx aCpy aCr aIns aCls aHd aCtx aPx aPy aR aTk aTn aTt d W i Ht Ty Op ∧ Ht i = h ∧ (∀ j, j < h → Ty i j = aTs j) ∧ Op i = o ∧ o ≤ i ∧ ck_f aFl h o f ∧ (∀ x, x < o → ck_o aTk d i Ht Ty Op aTs aFl aOt aEl aOk x) ∧
  (∀ x y, x < y → y < o → mk_v (aFl x) ≤ mk_v (aFl y) ∧ mk_v (aOk x) < mk_v (aOk y)) ∧
  (∀ q, q < i → wt_k aTk d q = 14 ∨ wt_k aTk d q = 15 → (∃ x, x < o ∧ mk_v (aOk x) = q) ∨ (wt_J aTk aTj d i Ht Ty Op q ∧ ∀ x, x < o → mk_v (aOk x) ≠ q))
def ck_e {α : Type} (i : Nat) (g : Nat → α) (v : α) : Nat → α := fun q => if q ≤ i then g q else v
theorem ck_el {α : Type} {i q : Nat} (h : q ≤ i) (g : Nat → α) (v : α) : ck_e i g v q = g q := if_pos h
theorem ck_es {α : Type} {i : Nat} (g : Nat → α) (v : α) : ck_e i g v (i + 1) = v := if_neg (by omega)
theorem ck_tm {aHd : Nat → Int32} {d w w' : Nat} {t : Int32} (h : wt_t aHd d w t) (hw : w ≤ w') : wt_t aHd d w' t := by
  obtain ⟨l, e, a, b, c, z, y⟩ := h
  exact ⟨l, e, a, b, c, fun q => ⟨by have := (z q).1; omega, (z q).2⟩, y⟩
section
variable {nc nd : Nat} {aSup aCpx aCpy aCr aIns aCls aHd aCtx aPx aPy aR aTk aTn aTt : Nat → Int32} {d W W' i : Nat} {Ht : Nat → Nat} {Ty : Nat → Nat → Int32} {Op : Nat → Nat} {h o f : Nat} {aTs aFl aOt aEl aOk aTj : Nat → Int32}
theorem ck_qc {Ht' : Nat → Nat} {Ty' : Nat → Nat → Int32} {Op' : Nat → Nat} {q : Nat} (a1 : Ht' q = Ht q) (a2 : Ht' (q + 1) = Ht (q + 1)) (a3 : Ty' q = Ty q) (a4 : Ty' (q + 1) = Ty (q + 1)) (a5 : Op' q = Op q) (a6 : Op' (q + 1) = Op (q + 1)) (H : wt_q nc nd aSup aCpx aCpy aCr aIns aCls aHd aCtx aPx aPy aR aTk aTn aTt d Ht Ty Op q) : wt_q nc nd aSup aCpx aCpy aCr aIns aCls aHd aCtx aPx aPy aR aTk aTn aTt d Ht' Ty' Op' q := by
  unfold wt_q at *
  rw [a1, a2, a3, a4, a5, a6]
  exact H
theorem ck_Rx {h' o' : Nat} {ts' : Nat → Int32} (R : wt_R nc nd aSup aCpx aCpy aCr aIns aCls aHd aCtx aPx aPy aR aTk aTn aTt d W i Ht Ty Op) (hW : W ≤ W') (hq : wt_q nc nd aSup aCpx aCpy aCr aIns aCls aHd aCtx aPx aPy aR aTk aTn aTt d (ck_e i Ht h') (ck_e i Ty ts') (ck_e i Op o') i) (h8 : h' ≤ 8) (hT : ∀ j, j < h' → wt_t aHd d W' (ts' j)) (hC : 17 ≤ wt_k aTk d i → wt_t aHd d W' (aTt (20 * d + i))) : wt_R nc nd aSup aCpx aCpy aCr aIns aCls aHd aCtx aPx aPy aR aTk aTn aTt d W' (i + 1) (ck_e i Ht h') (ck_e i Ty ts') (ck_e i Op o') := by
  obtain ⟨r1, r2, r3, r4, r5⟩ := R
  refine ⟨?_, ?_, ?_, ?_, ?_⟩
  · rw [ck_el (by omega)]; exact r1
  · rw [ck_el (by omega)]; exact r2
  · intro q hq'
    by_cases e : q = i
    · rw [e]; exact hq
    · exact ck_qc (ck_el (by omega) _ _) (ck_el (by omega) _ _) (ck_el (by omega) _ _) (ck_el (by omega) _ _) (ck_el (by omega) _ _) (ck_el (by omega) _ _) (r3 q (by omega))
  · intro q hq'
    by_cases e : q = i + 1
    · rw [e, ck_es, ck_es]
      exact ⟨h8, hT⟩
    · rw [ck_el (by omega), ck_el (by omega)]
      exact ⟨(r4 q (by omega)).1, fun j hj => ck_tm ((r4 q (by omega)).2 j hj) hW⟩
  · intro q hq' hk
    by_cases e : q = i
    · rw [e] at hk ⊢
      exact hC hk
    · exact ck_tm (r5 q (by omega) hk) hW
theorem ck_ox {h' o' x : Nat} {ts' fl' ot' el' ok' : Nat → Int32} (O : ck_o aTk d i Ht Ty Op aTs aFl aOt aEl aOk x) (hx : x < Op i) (hts : ∀ j, j < mk_v (aFl x) → ts' j = aTs j) (e1 : fl' x = aFl x) (e2 : ot' x = aOt x) (e3 : el' x = aEl x) (e4 : ok' x = aOk x) (n15 : ¬ (wt_k aTk d i = 15 ∧ Op i = x + 1)) (n16 : ¬ (wt_k aTk d i = 16 ∧ Op i = x + 1)) : ck_o aTk d (i + 1) (ck_e i Ht h') (ck_e i Ty ts') (ck_e i Op o') ts' fl' ot' el' ok' x := by
  obtain ⟨F, P, a1, a2, a3, a4, a5, a6, a7, a8⟩ := O
  rw [a1, mk_vn (by omega)] at hts
  refine ⟨F, P, by rw [e1, a1], by rw [e4, a2], by omega, a4, by rw [ck_el (by omega)]; exact a5, fun j hj => by rw [ck_el (by omega), a6 j hj, hts j hj], by rw [ck_el (by omega)]; exact a7, ?_⟩
  rw [e2, e3]
  have B : ∀ z : Nat, ¬ (wt_k aTk d i = z ∧ Op i = x + 1) → (∀ j, P < j → j < i → x + 1 ≤ Op j ∧ ¬ (wt_k aTk d j = z ∧ Op j = x + 1)) → ∀ j, P < j → j < i + 1 → x + 1 ≤ ck_e i Op o' j ∧ ¬ (wt_k aTk d j = z ∧ ck_e i Op o' j = x + 1) := by
    intro z hz H j hj hj'
    rw [ck_el (by omega)]
    by_cases e : j = i
    · rw [e]; exact ⟨hx, hz⟩
    · exact H j hj (by omega)
  rcases a8 with ⟨b1, b2, b3, b4⟩ | ⟨b1, b2, b3, b4, b5⟩
  · exact Or.inl ⟨b1, b2, b3, B 15 n15 b4⟩
  · exact Or.inr ⟨b1, b2, b3, by rw [ck_el (by omega)]; exact b4, B 16 n16 b5⟩
theorem ck_px {o' q z J : Nat} (hq : q < i) (hJ : J ≤ i) (H : wt_p aTk d Op q z J) : wt_p aTk d (ck_e i Op o') q z J := by
  obtain ⟨a1, a2, a3, a4⟩ := H
  refine ⟨a1, a2, ?_, ?_⟩
  · rw [ck_el (by omega), ck_el (by omega)]; exact a3
  · intro j hj hj'
    rw [ck_el (by omega), ck_el (by omega)]
    exact a4 j hj hj'
theorem ck_jx {h' o' q : Nat} {ts' tj' : Nat → Int32} (H : wt_J aTk aTj d i Ht Ty Op q) (hq : q < i) (ej : tj' (20 * d + q) = aTj (20 * d + q)) : wt_J aTk tj' d (i + 1) (ck_e i Ht h') (ck_e i Ty ts') (ck_e i Op o') q := by
  obtain ⟨A, B⟩ := H
  refine ⟨fun k => ?_, fun k => ?_⟩
  · obtain ⟨J, c1, c2, c3, c4, c5⟩ := A k
    refine ⟨J, by omega, by rw [ej]; exact c2, ?_, ?_, ck_px hq (by omega) c5⟩
    · rw [ck_el (by omega), ck_el (by omega)]; exact c3
    · rw [ck_el (by omega), ck_el (by omega), ck_el (by omega)]; exact c4
  · obtain ⟨J, c1, c2, c3, c4, c5⟩ := B k
    refine ⟨J, by omega, by rw [ej]; exact c2, ?_, ?_, ck_px hq (by omega) c5⟩
    · rw [ck_el (by omega), ck_el (by omega)]; exact c3
    · rw [ck_el (by omega), ck_el (by omega), ck_el (by omega)]; exact c4
theorem ck_Ff (I : (ck_I nc nd aSup aCpx aCpy aCr aIns aCls aHd aCtx aPx aPy aR aTk aTn aTt d W i Ht Ty Op h o f aTs aFl aOt aEl aOk aTj)) {x : Nat} (hx : x < o) : mk_v (aFl x) ≤ f := by
  obtain ⟨_, _, _, _, _, F, _, M, _⟩ := I
  obtain ⟨f1, f2, f3, ⟨f4, _⟩ | ⟨f4, f5⟩⟩ := F
  · omega
  · have e : mk_v (aFl (o - 1)) = f := by rw [f5, mk_vn (by omega)]
    by_cases z : x = o - 1
    · rw [z, e]; exact Nat.le_refl _
    · have := (M x (o - 1) (by omega) (by omega)).1
      omega
theorem ck_st (I : (ck_I nc nd aSup aCpx aCpy aCr aIns aCls aHd aCtx aPx aPy aR aTk aTn aTt d W i Ht Ty Op h o f aTs aFl aOt aEl aOk aTj)) {j : Nat} (hj : j < h) : wt_t aHd d W (aTs j) := by
  obtain ⟨R, a, b, _⟩ := I
  rw [← b j hj]
  exact (R.2.2.2.1 i (Nat.le_refl _)).2 j (by rw [a]; exact hj)
theorem ck_IA (I : (ck_I nc nd aSup aCpx aCpy aCr aIns aCls aHd aCtx aPx aPy aR aTk aTn aTt d W i Ht Ty Op h o f aTs aFl aOt aEl aOk aTj)) {p h' : Nat} {t : Int32} (k14 : wt_k aTk d i ≠ 14) (k15 : wt_k aTk d i ≠ 15) (k16 : wt_k aTk d i ≠ 16) (hp : p ≤ h - f) (hh : h' + p = h + 1) (h8 : h' ≤ 8) (K : wt_K nc nd aSup aCpx aCpy aCr aIns aCls aHd aCtx aPx aPy aR d (wt_k aTk d i) (aTn (20 * d + i)) (aTt (20 * d + i)) p (aTs (h - 2)) (aTs (h - 1)) t) (hW : W ≤ W') (ht : wt_t aHd d W' t) (hT : 17 ≤ wt_k aTk d i → wt_t aHd d W' (aTt (20 * d + i))) : (ck_I nc nd aSup aCpx aCpy aCr aIns aCls aHd aCtx aPx aPy aR aTk aTn aTt d W' (i + 1) (ck_e i Ht h') (ck_e i Ty (upd aTs (h - p) t)) (ck_e i Op o) h' o f (upd aTs (h - p) t) aFl aOt aEl aOk aTj) := by
  have Fo := fun x (hx : x < o) => ck_Ff I hx
  have St := fun j (hj : j < h) => ck_st I hj
  obtain ⟨R, a1, a2, a3, a4, a5, a6, a7, a8⟩ := I
  have f1 := a5.1
  refine ⟨ck_Rx R hW ?_ h8 ?_ hT, ck_es _ _, fun j hj => by rw [ck_es], ck_es _ _, by omega, ⟨by omega, h8, a5.2.2⟩, ?_, a7, ?_⟩
  · refine ⟨fun _ _ _ => ⟨p, t, ?_⟩, fun z => absurd z k14, fun z => absurd z k15, fun z => absurd z k16⟩
    rw [ck_es, ck_es, ck_es, ck_el (Nat.le_refl _), ck_el (Nat.le_refl _), ck_el (Nat.le_refl _), a1, a3]
    have K' : wt_K nc nd aSup aCpx aCpy aCr aIns aCls aHd aCtx aPx aPy aR d (wt_k aTk d i) (aTn (20 * d + i)) (aTt (20 * d + i)) p (Ty i (h - 2)) (Ty i (h - 1)) t := by
      by_cases z : 2 ≤ h
      · rw [a2 (h - 2) (by omega), a2 (h - 1) (by omega)]
        exact K
      · by_cases y : h = 1
        · subst y
          have e0 : Ty i 0 = aTs 0 := a2 0 (by omega)
          show wt_K nc nd aSup aCpx aCpy aCr aIns aCls aHd aCtx aPx aPy aR d (wt_k aTk d i) (aTn (20 * d + i)) (aTt (20 * d + i)) p (Ty i 0) (Ty i 0) t
          rw [e0]
          exact K
        · have p0 : p = 0 := by omega
          subst p0
          rcases K with q | q | q | q | q | q | q | q | q | q | q | q | q
          · exact Or.inl q
          · exact Or.inr (Or.inl q)
          · exact Or.inr (Or.inr (Or.inl q))
          · exact Or.inr (Or.inr (Or.inr (Or.inl q)))
          all_goals (exfalso; omega)
    exact ⟨by omega, hh, K', pk_us, fun j hj => by rw [pk_un (by omega)]; exact (a2 j (by omega)).symm, rfl⟩
  · intro j hj
    by_cases e : j = h - p
    · rw [e, pk_us]; exact ht
    · rw [pk_un e]
      exact ck_tm (St j (by omega)) hW
  · intro x hx
    refine ck_ox (a6 x hx) (by omega) ?_ rfl rfl rfl rfl (fun z => k15 z.1) (fun z => k16 z.1)
    intro j hj
    have := Fo x hx
    exact pk_un (by omega)
  · intro q hq hk
    by_cases e : q = i
    · rw [e] at hk
      exact absurd hk (fun z => z.elim k14 k15)
    · rcases a8 q (by omega) hk with z | ⟨z1, z2⟩
      · exact Or.inl z
      · exact Or.inr ⟨ck_jx z1 (by omega) rfl, z2⟩
theorem ck_IB (I : (ck_I nc nd aSup aCpx aCpy aCr aIns aCls aHd aCtx aPx aPy aR aTk aTn aTt d W i Ht Ty Op h o f aTs aFl aOt aEl aOk aTj)) {h' : Nat} (hi : i < 20) (k14 : wt_k aTk d i = 14) (hh : h = h' + 1) (hf : f ≤ h') (t2 : aTs h' = 2) : (ck_I nc nd aSup aCpx aCpy aCr aIns aCls aHd aCtx aPx aPy aR aTk aTn aTt d W (i + 1) (ck_e i Ht h') (ck_e i Ty aTs) (ck_e i Op (o + 1)) h' (o + 1) h' aTs (upd aFl o (nI h')) (upd aOt o 0) (upd aEl o 0) (upd aOk o (nI i)) aTj) := by
  have Fo := fun x (hx : x < o) => ck_Ff I hx
  have St := fun j (hj : j < h) => ck_st I hj
  obtain ⟨R, a1, a2, a3, a4, a5, a6, a7, a8⟩ := I
  have f2 := a5.2.1
  refine ⟨ck_Rx R (Nat.le_refl _) ?_ (by omega) ?_ (fun z => by omega), ck_es _ _, fun j hj => by rw [ck_es], ck_es _ _, by omega, ⟨Nat.le_refl _, by omega, by omega, Or.inr ⟨by omega, pk_us⟩⟩, ?_, ?_, ?_⟩
  · refine ⟨fun z => absurd k14 z, fun _ => ?_, fun z => by omega, fun z => by omega⟩
    rw [ck_es, ck_es, ck_es, ck_el (Nat.le_refl _), ck_el (Nat.le_refl _), ck_el (Nat.le_refl _), a1, a3]
    exact ⟨hh, by rw [a2 h' (by omega)]; exact t2, fun j hj => (a2 j (by omega)).symm, rfl⟩
  · intro j hj
    exact St j (by omega)
  · intro x hx
    by_cases e : x = o
    · subst e
      refine ⟨h', i, pk_us, pk_us, by omega, by omega, by rw [ck_el (Nat.le_refl _), a1]; exact hh, fun j hj => by rw [ck_el (Nat.le_refl _)]; exact a2 j (by omega), ck_es _ _, Or.inl ⟨pk_us, pk_us, k14, fun j hj hj' => by omega⟩⟩
    · exact ck_ox (a6 x (by omega)) (by omega) (fun j hj => rfl) (pk_un e) (pk_un e) (pk_un e) (pk_un e) (fun z => by omega) (fun z => by omega)
  · intro x y hxy hy
    have ex : x ≠ o := by omega
    rw [pk_un ex, pk_un ex]
    by_cases e : y = o
    · subst e
      rw [pk_us, pk_us, mk_vn (by omega), mk_vn (by omega)]
      have q1 := Fo x (by omega)
      obtain ⟨F, P, _, q2, q3, _⟩ := a6 x (by omega)
      rw [q2, mk_vn (by omega)]
      exact ⟨by omega, q3⟩
    · rw [pk_un e, pk_un e]
      exact a7 x y hxy (by omega)
  · intro q hq hk
    by_cases e : q = i
    · exact Or.inl ⟨o, by omega, by rw [pk_us, mk_vn (by omega)]; exact e.symm⟩
    · rcases a8 q (by omega) hk with ⟨x, z1, z2⟩ | ⟨z1, z2⟩
      · exact Or.inl ⟨x, by omega, by rw [pk_un (by omega)]; exact z2⟩
      · refine Or.inr ⟨ck_jx z1 (by omega) rfl, fun x hx => ?_⟩
        by_cases y : x = o
        · subst y
          rw [pk_us, mk_vn (by omega)]
          omega
        · rw [pk_un y]
          exact z2 x (by omega)
theorem ck_IC (I : (ck_I nc nd aSup aCpx aCpy aCr aIns aCls aHd aCtx aPx aPy aR aTk aTn aTt d W i Ht Ty Op h o f aTs aFl aOt aEl aOk aTj)) {o1 : Nat} (hi : i < 20) (k15 : wt_k aTk d i = 15) (ho : o = o1 + 1) (he : aEl o1 = 0) (hh : h = f + 1) : (ck_I nc nd aSup aCpx aCpy aCr aIns aCls aHd aCtx aPx aPy aR aTk aTn aTt d W (i + 1) (ck_e i Ht f) (ck_e i Ty aTs) (ck_e i Op o) f o f aTs aFl (upd aOt o1 (aTs f)) (upd aEl o1 1) (upd aOk o1 (nI i)) (upd aTj (20 * d + mk_v (aOk o1)) (nI (i + 1)))) := by
  have Fo := fun x (hx : x < o) => ck_Ff I hx
  have St := fun j (hj : j < h) => ck_st I hj
  obtain ⟨R, a1, a2, a3, a4, a5, a6, a7, a8⟩ := I
  have f2 := a5.2.1
  have f5 : aFl o1 = nI f := by
    obtain ⟨_, _, _, ⟨f4, _⟩ | ⟨_, f5⟩⟩ := a5
    · omega
    · rw [ho, Nat.add_sub_cancel] at f5; exact f5
  obtain ⟨F, P, b1, b2, b3, b4, b5, b6, b7, b8⟩ := a6 o1 (by omega)
  have eF : F = f := (nI_eq (by omega) (by omega)).mp (b1.symm.trans f5)
  subst eF
  have eP : mk_v (aOk o1) = P := by rw [b2, mk_vn (by omega)]
  rw [eP]
  obtain ⟨c1, c2, c3, c4⟩ : aEl o1 = 0 ∧ aOt o1 = 0 ∧ wt_k aTk d P = 14 ∧ ∀ j, P < j → j < i → o1 + 1 ≤ Op j ∧ ¬ (wt_k aTk d j = 15 ∧ Op j = o1 + 1) := by
    rcases b8 with z | z
    · exact z
    · rw [he] at z
      exact absurd z.1 (by decide)
  refine ⟨ck_Rx R (Nat.le_refl _) ?_ (by omega) ?_ (fun z => by omega), ck_es _ _, fun j hj => by rw [ck_es], ck_es _ _, by omega, ⟨Nat.le_refl _, by omega, a5.2.2⟩, ?_, ?_, ?_⟩
  · refine ⟨fun _ z => absurd k15 z, fun z => by omega, fun _ => ?_, fun z => by omega⟩
    rw [ck_es, ck_el (Nat.le_refl _), ck_el (Nat.le_refl _), a1, a3]
    exact ⟨by omega, rfl⟩
  · intro j hj
    exact St j (by omega)
  · intro x hx
    by_cases e : x = o1
    · subst e
      refine ⟨F, i, f5, pk_us, by omega, by omega, by rw [ck_el (Nat.le_refl _), a1]; exact hh, fun j hj => by rw [ck_el (Nat.le_refl _)]; exact a2 j (by omega), by rw [ck_es]; exact ho, Or.inr ⟨pk_us, ?_, k15, ?_, fun j hj hj' => by omega⟩⟩
      · rw [pk_us]
        obtain ⟨l, e, q1, q2, q3, _, q4⟩ := St F (by omega)
        rw [q4]
        have := ty_c1 (l := l) q1
        have := ty_e21 q3 (show e < 8 by omega)
        exact nI_ne0 (by omega) (by omega)
      · rw [pk_us, ck_el (Nat.le_refl _)]
        exact a2 F (by omega)
    · exact ck_ox (a6 x hx) (by omega) (fun j hj => rfl) rfl (pk_un e) (pk_un e) (pk_un e) (fun z => by omega) (fun z => by omega)
  · intro x y hxy hy
    have ex : x ≠ o1 := by omega
    rw [pk_un ex]
    by_cases e : y = o1
    · subst e
      rw [pk_us, mk_vn (by omega)]
      have q1 := (a7 x y hxy hy).1
      obtain ⟨_, P', _, q2, q3, _⟩ := a6 x (by omega)
      rw [q2, mk_vn (by omega)]
      exact ⟨q1, q3⟩
    · rw [pk_un e]
      exact a7 x y hxy hy
  · intro q hq hk
    by_cases e : q = i
    · exact Or.inl ⟨o1, by omega, by rw [pk_us, mk_vn (by omega)]; exact e.symm⟩
    · have T : ∀ x, x < o → x ≠ o1 → mk_v (upd aOk o1 (nI i) x) = mk_v (aOk x) := fun x _ y => by rw [pk_un y]
      by_cases eq : q = P
      · subst eq
        refine Or.inr ⟨⟨fun _ => ⟨i, by omega, pk_us, ?_, ?_, ?_⟩, fun z => by omega⟩, fun x hx => ?_⟩
        · rw [ck_es, ck_el (by omega)]; exact b5.symm
        · rw [ck_es, ck_es, ck_el (by omega)]
          intro j hj
          exact (b6 j hj).symm
        · refine ⟨by omega, k15, ?_, ?_⟩
          · rw [ck_el (Nat.le_refl _), ck_el (by omega), a3, b7]; exact ho
          · intro j hj hj'
            rw [ck_el (by omega), ck_el (by omega), b7]
            exact c4 j hj hj'
        · by_cases y : x = o1
          · subst y
            rw [pk_us, mk_vn (by omega)]
            omega
          · rw [T x hx y]
            have := (a7 x o1 (by omega) (by omega)).2
            omega
      · rcases a8 q (by omega) hk with ⟨x, z1, z2⟩ | ⟨z1, z2⟩
        · have y : x ≠ o1 := fun y => eq (by rw [← z2, y, eP])
          exact Or.inl ⟨x, z1, by rw [T x z1 y]; exact z2⟩
        · refine Or.inr ⟨ck_jx z1 (by omega) (pk_un (by omega)), fun x hx => ?_⟩
          by_cases y : x = o1
          · subst y
            rw [pk_us, mk_vn (by omega)]
            omega
          · rw [T x hx y]
            exact z2 x hx
theorem ck_ID (I : (ck_I nc nd aSup aCpx aCpy aCr aIns aCls aHd aCtx aPx aPy aR aTk aTn aTt d W i Ht Ty Op h o f aTs aFl aOt aEl aOk aTj)) {o1 : Nat} (hi : i < 20) (k16 : wt_k aTk d i = 16) (ho : o = o1 + 1) (he : aEl o1 = 1) (hh : h = f + 1) (ht : aTs f = aOt o1) : ∃ f', (ck_I nc nd aSup aCpx aCpy aCr aIns aCls aHd aCtx aPx aPy aR aTk aTn aTt d W (i + 1) (ck_e i Ht h) (ck_e i Ty aTs) (ck_e i Op o1) h o1 f' aTs aFl aOt aEl aOk (upd aTj (20 * d + mk_v (aOk o1)) (nI (i + 1)))) := by
  have Fo := fun x (hx : x < o) => ck_Ff I hx
  have St := fun j (hj : j < h) => ck_st I hj
  obtain ⟨R, a1, a2, a3, a4, a5, a6, a7, a8⟩ := I
  have f2 := a5.2.1
  have f3 := a5.2.2.1
  have f5 : aFl o1 = nI f := by
    obtain ⟨_, _, _, ⟨f4, _⟩ | ⟨_, f5⟩⟩ := a5
    · omega
    · rw [ho, Nat.add_sub_cancel] at f5; exact f5
  obtain ⟨F, P, b1, b2, b3, b4, b5, b6, b7, b8⟩ := a6 o1 (by omega)
  have eF : F = f := (nI_eq (by omega) (by omega)).mp (b1.symm.trans f5)
  subst eF
  have eP : mk_v (aOk o1) = P := by rw [b2, mk_vn (by omega)]
  rw [eP]
  obtain ⟨c1, c2, c3, c4, c5⟩ : aEl o1 = 1 ∧ ¬ aOt o1 = 0 ∧ wt_k aTk d P = 15 ∧ Ty P F = aOt o1 ∧ ∀ j, P < j → j < i → o1 + 1 ≤ Op j ∧ ¬ (wt_k aTk d j = 16 ∧ Op j = o1 + 1) := by
    rcases b8 with z | z
    · rw [he] at z
      exact absurd z.1 (by decide)
    · exact z
  have G : ∃ f', ck_f aFl h o1 f' := by
    by_cases z : o1 = 0
    · exact ⟨0, by omega, f2, by omega, Or.inl ⟨z, rfl⟩⟩
    · obtain ⟨F', P', q1, _⟩ := a6 (o1 - 1) (by omega)
      have q2 := Fo (o1 - 1) (by omega)
      obtain ⟨_, _, q3, _, _, q4, _⟩ := a6 (o1 - 1) (by omega)
      rw [q3, mk_vn (by omega)] at q2
      exact ⟨_, by omega, f2, by omega, Or.inr ⟨by omega, q3⟩⟩
  obtain ⟨f', G⟩ := G
  refine ⟨f', ck_Rx R (Nat.le_refl _) ?_ f2 ?_ (fun z => by omega), ck_es _ _, fun j hj => by rw [ck_es], ck_es _ _, by omega, G, ?_, fun x y hxy hy => a7 x y hxy (by omega), ?_⟩
  · refine ⟨fun _ _ z => absurd k16 z, fun z => by omega, fun z => by omega, fun _ => ?_⟩
    rw [ck_es, ck_es, ck_es, ck_el (Nat.le_refl _), ck_el (Nat.le_refl _), ck_el (Nat.le_refl _), a1, a3]
    exact ⟨rfl, fun j hj => (a2 j hj).symm, ho⟩
  · intro j hj
    exact St j hj
  · intro x hx
    exact ck_ox (a6 x (by omega)) (by omega) (fun j hj => rfl) rfl rfl rfl rfl (fun z => by omega) (fun z => by omega)
  · intro q hq hk
    by_cases e : q = i
    · rw [e, k16] at hk
      omega
    · by_cases eq : q = P
      · subst eq
        refine Or.inr ⟨⟨fun z => by omega, fun _ => ⟨i, by omega, pk_us, ?_, ?_, ?_⟩⟩, fun x hx => ?_⟩
        · rw [ck_es, ck_el (by omega), b5]; exact hh
        · rw [ck_es, ck_es, ck_el (by omega)]
          intro j hj
          by_cases y : j < F
          · exact (b6 j y).symm
          · have : j = F := by omega
            rw [this, ht, c4]
        · refine ⟨by omega, k16, ?_, ?_⟩
          · rw [ck_el (Nat.le_refl _), ck_el (by omega), a3, b7]; exact ho
          · intro j hj hj'
            rw [ck_el (by omega), ck_el (by omega), b7]
            exact c5 j hj hj'
        · have := (a7 x o1 (by omega) (by omega)).2
          omega
      · rcases a8 q (by omega) hk with ⟨x, z1, z2⟩ | ⟨z1, z2⟩
        · have y : x ≠ o1 := fun y => eq (by rw [← z2, y, eP])
          exact Or.inl ⟨x, by omega, z2⟩
        · exact Or.inr ⟨ck_jx z1 (by omega) (pk_un (by omega)), fun x hx => z2 x (by omega)⟩
end
end
section
/-! 19: check: the loop over a definition's tokens -/
section
variable {nc nd : Nat} {aSup aCpx aCpy aCr aIns aCls aHd aCtx aPx aPy aR aTk aTn aTt : Nat → Int32} {d W W' i : Nat} {Ht : Nat → Nat} {Ty : Nat → Nat → Int32} {Op : Nat → Nat} {h o f : Nat} {aTs aFl aOt aEl aOk aTj : Nat → Int32}
theorem lp_tt {w : Nat} {t : Int32} (h : wt_t aHd d w t) : ty_T 6 t := by
  obtain ⟨l, e, a, b, c, _, y⟩ := h
  exact ⟨l, e, a, b, c, y⟩
theorem lp_ta {w : Nat} {t : Int32} (h : wt_t aHd d w t) : al_T aHd d t := by
  obtain ⟨l, e, a, b, c, z, y⟩ := h
  exact ⟨l, e, a, b, c, fun q => (z q).2, y⟩
theorem lp_at {w : Nat} {l : List Bool} {e : Nat} (h1 : 1 ≤ e) (h3 : e ≤ 3) (hl : l.length ≤ 6) (hc : e = 3 → ¬ wt_c aHd d) : wt_t aHd d (ck_w w l e) (nI (ty_e l e)) :=
  ⟨l, e, h1, h3, hl, fun z => ⟨(ck_w1 w l e).2.1 z, hc z⟩, rfl⟩
theorem lp_un {l m : List Bool} {e g : Nat} (h3 : e ≤ 3) (hl : l.length ≤ 6) (g3 : g ≤ 3) (hm : m.length ≤ 6) (h : nI (ty_e l e) = nI (ty_e m g)) : l = m ∧ e = g := by
  have q1 := ty_e21 hl (show e < 8 by omega)
  have q2 := ty_e21 hm (show g < 8 by omega)
  exact ty_inj l m e g h3 g3 ((nI_eq (by omega) (by omega)).mp h)
/-- what a token puts is a type of the definition -/
theorem lp_kt {k p w : Nat} {N T b a t : Int32} (K : wt_K nc nd aSup aCpx aCpy aCr aIns aCls aHd aCtx aPx aPy aR d k N T p b a t) (hx : wt_t aHd d w (aPx d)) (hy : wt_t aHd d w (aPy d)) (ha : 1 ≤ p → wt_t aHd d w a) : al_T aHd d t := by
  rcases K with ⟨_, _, rfl⟩ | ⟨_, _, rfl⟩ | ⟨_, _, rfl⟩ | ⟨_, _, rfl⟩ | ⟨_, _, _, _, _, rfl⟩ | ⟨_, _, _, _, _, rfl⟩ | ⟨_, hp, l, e, q1, q3, ql, qa, rfl⟩ | ⟨_, hp, l, e, q1, q3, ql, qa, rfl⟩ | ⟨_, hp, _, l, e, q1, q3, ql, qa, rfl⟩ | ⟨_, _, rfl, _⟩ | ⟨_, hp, l, e, q1, q3, ql, qa, rfl⟩ | ⟨_, _, n, lt, et, _, _, _, t1, t3, tl, _, tc, _, _, _, ⟨l, e, q1, q3, ql, _, B, rfl⟩⟩ | ⟨_, _, n, lt, et, _, _, t1, t3, tl, _, tc, _, _, _, ⟨l, e, q1, q3, ql, _, B, rfl⟩⟩
  · exact ⟨[], 1, by omega, by omega, by decide, fun z => by omega, rfl⟩
  · exact ⟨[], 2, by omega, by omega, by decide, fun z => by omega, rfl⟩
  · exact lp_ta hx
  · exact lp_ta hy
  · exact ⟨[], 1, by omega, by omega, by decide, fun z => by omega, rfl⟩
  · exact ⟨[], 2, by omega, by omega, by decide, fun z => by omega, rfl⟩
  · obtain ⟨m, g, r1, r2, r3, r4, r5⟩ := lp_ta (ha (by omega))
    obtain ⟨e1, e2⟩ := lp_un q3 (by omega) r2 r3 (qa.symm.trans r5)
    exact ⟨false :: l, e, q1, q3, by rw [tx_ln]; omega, by rw [e2]; exact r4, rfl⟩
  · obtain ⟨m, g, r1, r2, r3, r4, r5⟩ := lp_ta (ha (by omega))
    obtain ⟨e1, e2⟩ := lp_un (l := false :: l) q3 (by rw [tx_ln]; omega) r2 r3 (qa.symm.trans r5)
    exact ⟨l, e, q1, q3, by omega, by rw [e2]; exact r4, rfl⟩
  · obtain ⟨m, g, r1, r2, r3, r4, r5⟩ := lp_ta (ha (by omega))
    obtain ⟨e1, e2⟩ := lp_un q3 (by omega) r2 r3 (qa.symm.trans r5)
    exact ⟨true :: l, e, q1, q3, by rw [tx_ln]; omega, by rw [e2]; exact r4, rfl⟩
  · exact ⟨[], 1, by omega, by omega, by decide, fun z => by omega, rfl⟩
  · obtain ⟨m, g, r1, r2, r3, r4, r5⟩ := lp_ta (ha (by omega))
    obtain ⟨e1, e2⟩ := lp_un (l := true :: l) q3 (by rw [tx_ln]; omega) r2 r3 (qa.symm.trans r5)
    exact ⟨l, e, q1, q3, by omega, by rw [e2]; exact r4, rfl⟩
  · by_cases z : e = 3
    · subst z
      rw [ty_s3, ← ty_ea]
      exact ⟨l ++ lt, et, t1, t3, by rw [List.length_append]; exact B rfl, tc, rfl⟩
    · rw [ty_sn z]
      exact ⟨l, e, q1, q3, ql, fun y => absurd y z, rfl⟩
  · by_cases z : e = 3
    · subst z
      rw [ty_s3, ← ty_ea]
      exact ⟨l ++ lt, et, t1, t3, by rw [List.length_append]; exact B rfl, tc, rfl⟩
    · rw [ty_sn z]
      exact ⟨l, e, q1, q3, ql, fun y => absurd y z, rfl⟩
theorem lp_IW (I : (ck_I nc nd aSup aCpx aCpy aCr aIns aCls aHd aCtx aPx aPy aR aTk aTn aTt d W i Ht Ty Op h o f aTs aFl aOt aEl aOk aTj)) (hW : W ≤ W') : (ck_I nc nd aSup aCpx aCpy aCr aIns aCls aHd aCtx aPx aPy aR aTk aTn aTt d W' i Ht Ty Op h o f aTs aFl aOt aEl aOk aTj) := by
  obtain ⟨⟨r1, r2, r3, r4, r5⟩, rest⟩ := I
  exact ⟨⟨r1, r2, r3, fun q hq => ⟨(r4 q hq).1, fun j hj => ck_tm ((r4 q hq).2 j hj) hW⟩, fun q hq hk => ck_tm (r5 q hq hk) hW⟩, rest⟩
theorem lp_O (I : (ck_I nc nd aSup aCpx aCpy aCr aIns aCls aHd aCtx aPx aPy aR aTk aTn aTt d W i Ht Ty Op h o f aTs aFl aOt aEl aOk aTj)) (hi : i < 20) : kc_O aEl aOt aOk o := by
  obtain ⟨_, _, _, _, _, _, a6, _⟩ := I
  intro o1 e
  obtain ⟨F, P, _, b2, b3, _, _, _, _, b8⟩ := a6 o1 (by omega)
  exact ⟨b8.elim (fun z => Or.inl ⟨z.1, z.2.1⟩) (fun z => Or.inr ⟨z.1, z.2.1⟩), P, by omega, b2⟩
end
section
variable {dl cl pl nc nd : Nat} {fCK fED fEP fH fO fHP fNK fRC fTD fTT : Int32} {fAX fAY : Int64} {fRS : Int32} {fLV : Int64} {fLT fDP fEN : Int32} {fAN : Int64} {aSup aCpx aCpy aCr aIns aCls aHd aCtx aPx aPy aR aSz aWd aTk aTn aTt aTj aTs aFl aEl aOt aOk aKd aKt aCal aFd aFt aFc aFp aFh : Nat → Int32} {aFx aFy aVl : Nat → Int64} {yAt ySp yDp yEn yRk : Int32} {yWd : Nat → Int32} {yVl yFx yFy : Nat → Int64} {yFk yFp yKl : Nat → Int32} {yEp : Int32} {d i k h o f W n : Nat}
/-- one token below CALL -/
theorem lp_tok {Ht : Nat → Nat} {Ty : Nat → Nat → Int32} {Op : Nat → Nat} (I : (ck_I nc nd aSup aCpx aCpy aCr aIns aCls aHd aCtx aPx aPy aR aTk aTn aTt d W i Ht Ty Op h o f aTs aFl aOt aEl aOk aTj)) (hd : d < 12) (hi : i < 20) (hk : aTk (20 * d + i) = nI k) (k17 : k < 17) : ∃ (r : Int32) (h' o' : Nat) (ts' fl' ot' el' ok' tj' : Nat → Int32), (r = 0 → ck_S nc nd aSup aCpx aCpy aCr aIns aCls aHd aCtx aPx aPy aR d i k (aTn (20 * d + i)) (aTt (20 * d + i)) h o f aTs aFl aOt aEl aOk aTj h' o' ts' fl' ot' el' ok' tj') ∧ (∀ post : Int32 → SX → Prop, post r (nI dl, nI cl, nI pl, nI nc, nI nd, fCK, fED, fEP, nI h', nI o', fHP, fNK, fRC, fTD, fTT, fAX, fAY, fRS, fLV, fLT, fDP, fEN, fAN, aSup, aCpx, aCpy, aCr, aIns, aCls, aHd, aCtx, aPx, aPy, aR, aSz, aWd, aTk, aTn, aTt, tj', ts', fl', el', ot', ok', aKd, aKt, aCal, aFd, aFt, aFc, aFp, aFh, aFx, aFy, aVl) → wpX_checkToken post (nI dl, nI cl, nI pl, nI nc, nI nd, fCK, fED, fEP, nI h, nI o, fHP, fNK, fRC, fTD, fTT, fAX, fAY, fRS, fLV, fLT, fDP, fEN, fAN, aSup, aCpx, aCpy, aCr, aIns, aCls, aHd, aCtx, aPx, aPy, aR, aSz, aWd, aTk, aTn, aTt, aTj, aTs, aFl, aEl, aOt, aOk, aKd, aKt, aCal, aFd, aFt, aFc, aFp, aFh, aFx, aFy, aVl) (nI d) (nI i)) ∧ (∀ post : Int32 → SY → Prop, post r (nI dl, nI cl, nI pl, nI nc, nI nd, fCK, fED, yEp, yAt, nI h', nI o', fAX, fAY, fLV, fRS, fLT, ySp, yDp, yEn, fNK, yRk, aSup, aCpx, aCpy, aCr, aPx, aPy, aR, aCtx, aCls, aHd, aSz, yWd, aTk, aTn, aTt, ts', fl', ot', yVl, yFx, yFy, yFk, yFp, yKl) → wpY_checkToken post (nI dl, nI cl, nI pl, nI nc, nI nd, fCK, fED, yEp, yAt, nI h, nI o, fAX, fAY, fLV, fRS, fLT, ySp, yDp, yEn, fNK, yRk, aSup, aCpx, aCpy, aCr, aPx, aPy, aR, aCtx, aCls, aHd, aSz, yWd, aTk, aTn, aTt, aTs, aFl, aOt, yVl, yFx, yFy, yFk, yFp, yKl) (nI d) (nI k)) := by
  have F := I.2.2.2.2.2.1
  have hT : ∀ j, j < h → ty_T 6 (aTs j) := fun j hj => lp_tt (ck_st I hj)
  have O := lp_O I hi
  by_cases k3 : k ≤ 3
  · exact kd_leaf F hd hi hk k3
  · by_cases k8 : k ≤ 8
    · exact kd_ar F hd hi hk (by omega) k8
    · by_cases k10 : k = 9 ∨ k = 10
      · exact kd_box F hT hd hi hk k10
      · by_cases k11 : k = 11
        · exact kd_tag F hT hd hi hk k11
        · by_cases k13 : k = 12 ∨ k = 13
          · exact kd_un F hT hd hi hk k13
          · by_cases k14 : k = 14
            · exact kc_if F I.2.2.2.2.1 hd hi hk k14
            · by_cases k15 : k = 15
              · exact kc_else F O hd hi hk k15
              · exact kc_end F O hd hi hk (by omega)
theorem lp_call {Ht : Nat → Nat} {Ty : Nat → Nat → Int32} {Op : Nat → Nat} (S : (sr nc nd aSup aCpx aCpy aCr aIns aCls aHd aCtx aPx aPy aR aSz aTk aTn)) (I : (ck_I nc nd aSup aCpx aCpy aCr aIns aCls aHd aCtx aPx aPy aR aTk aTn aTt d W i Ht Ty Op h o f aTs aFl aOt aEl aOk aTj)) (hd : d < nd) (hi : i < 20) (hk : aTk (20 * d + i) = nI k) (k17 : 17 ≤ k) (k18 : k ≤ 18) (hW : yWd d = nI W) (W6 : W ≤ 6) : ∃ (r : Int32) (h' o' : Nat) (ts' fl' ot' el' ok' tj' yw' : Nat → Int32), (r = 0 → ck_S nc nd aSup aCpx aCpy aCr aIns aCls aHd aCtx aPx aPy aR d i k (aTn (20 * d + i)) (aTt (20 * d + i)) h o f aTs aFl aOt aEl aOk aTj h' o' ts' fl' ot' el' ok' tj' ∧ ∃ (lt : List Bool) (et : Nat), 1 ≤ et ∧ et ≤ 3 ∧ lt.length ≤ 6 ∧ (et = 3 → ¬ wt_c aHd d) ∧ aTt (20 * d + i) = nI (ty_e lt et) ∧ yw' = ck_a yWd d W lt et) ∧ (r ≠ 0 → yw' = yWd) ∧ (∀ post : Int32 → SX → Prop, post r (nI dl, nI cl, nI pl, nI nc, nI nd, fCK, fED, fEP, nI h', nI o', fHP, fNK, fRC, fTD, fTT, fAX, fAY, fRS, fLV, fLT, fDP, fEN, fAN, aSup, aCpx, aCpy, aCr, aIns, aCls, aHd, aCtx, aPx, aPy, aR, aSz, aWd, aTk, aTn, aTt, tj', ts', fl', el', ot', ok', aKd, aKt, aCal, aFd, aFt, aFc, aFp, aFh, aFx, aFy, aVl) → wpX_checkToken post (nI dl, nI cl, nI pl, nI nc, nI nd, fCK, fED, fEP, nI h, nI o, fHP, fNK, fRC, fTD, fTT, fAX, fAY, fRS, fLV, fLT, fDP, fEN, fAN, aSup, aCpx, aCpy, aCr, aIns, aCls, aHd, aCtx, aPx, aPy, aR, aSz, aWd, aTk, aTn, aTt, aTj, aTs, aFl, aEl, aOt, aOk, aKd, aKt, aCal, aFd, aFt, aFc, aFp, aFh, aFx, aFy, aVl) (nI d) (nI i)) ∧ (∀ post : Int32 → SY → Prop, post r (nI dl, nI cl, nI pl, nI nc, nI nd, fCK, fED, yEp, yAt, nI h', nI o', fAX, fAY, fLV, fRS, fLT, ySp, yDp, yEn, fNK, yRk, aSup, aCpx, aCpy, aCr, aPx, aPy, aR, aCtx, aCls, aHd, aSz, yw', aTk, aTn, aTt, ts', fl', ot', yVl, yFx, yFy, yFk, yFp, yKl) → wpY_checkCall post (nI dl, nI cl, nI pl, nI nc, nI nd, fCK, fED, yEp, yAt, nI h, nI o, fAX, fAY, fLV, fRS, fLT, ySp, yDp, yEn, fNK, yRk, aSup, aCpx, aCpy, aCr, aPx, aPy, aR, aCtx, aCls, aHd, aSz, yWd, aTk, aTn, aTt, aTs, aFl, aOt, yVl, yFx, yFy, yFk, yFp, yKl) (nI d) (nI k) (aTn (20 * d + i)) (aTt (20 * d + i))) := by
  have F := I.2.2.2.2.2.1
  by_cases z : k = 17
  · exact ca_call S F hd hi hk z hW W6
  · exact ca_meth S F hd hi hk (by omega) hW W6
end
end
section
/-! 20: check: a definition's tokens, X and Y in step -/
section
variable {dl cl pl nc nd : Nat} {fCK fED fEP fH fO fHP fNK fRC fTD fTT : Int32} {fAX fAY : Int64} {fRS : Int32} {fLV : Int64} {fLT fDP fEN : Int32} {fAN : Int64} {aSup aCpx aCpy aCr aIns aCls aHd aCtx aPx aPy aR aSz aWd aTk aTn aTt aTj aTs aFl aEl aOt aOk aKd aKt aCal aFd aFt aFc aFp aFh : Nat → Int32} {aFx aFy aVl : Nat → Int64} {yAt ySp yDp yEn yRk : Int32} {yWd : Nat → Int32} {yVl yFx yFy : Nat → Int64} {yFk yFp yKl : Nat → Int32} {yEp : Int32} {d n : Nat}
theorem ld_main (S : (sr nc nd aSup aCpx aCpy aCr aIns aCls aHd aCtx aPx aPy aR aSz aTk aTn)) (hd : d < nd) (hn : aSz d = nI n) (n20 : n ≤ 20) : ∀ (m i W : Nat) (Ht : Nat → Nat) (Ty : Nat → Nat → Int32) (Op : Nat → Nat) (h o f : Nat) (aTs aFl aOt aEl aOk aTj aWd yWd : Nat → Int32) (fEP yAt : Int32), i + m = n → (ck_I nc nd aSup aCpx aCpy aCr aIns aCls aHd aCtx aPx aPy aR aTk aTn aTt d W i Ht Ty Op h o f aTs aFl aOt aEl aOk aTj) → aWd d = nI W → yWd d = nI W → W ≤ 6 → wt_t aHd d W (aPx d) → wt_t aHd d W (aPy d) → wt_t aHd d W (aR d) → ∃ (r EP : Int32) (h' o' : Nat) (ts' fl' ot' el' ok' tj' wd' yw' : Nat → Int32), (r = 0 → (∃ W', W' ≤ 6 ∧ wd' d = nI W' ∧ yw' d = nI W' ∧ wt_W nc nd aSup aCpx aCpy aCr aIns aCls aHd aCtx aPx aPy aR aSz aTk aTn aTt tj' d W') ∧ (∀ j, j ≠ d → wd' j = aWd j ∧ yw' j = yWd j) ∧ (∀ p, p < 20 * d ∨ 20 * d + 20 ≤ p → tj' p = aTj p)) ∧ (∀ post : Int32 → SX → Prop, post r (nI dl, nI cl, nI pl, nI nc, nI nd, fCK, fED, EP, nI h', nI o', fHP, fNK, fRC, fTD, fTT, fAX, fAY, fRS, fLV, fLT, fDP, fEN, fAN, aSup, aCpx, aCpy, aCr, aIns, aCls, aHd, aCtx, aPx, aPy, aR, aSz, wd', aTk, aTn, aTt, tj', ts', fl', el', ot', ok', aKd, aKt, aCal, aFd, aFt, aFc, aFp, aFh, aFx, aFy, aVl) → wX_checkDefinition_75 post (nI d) (nI n) (m + 1) (nI i) (nI dl) (nI cl) (nI pl) (nI nc) (nI nd) fCK fED fEP (nI h) (nI o) fHP fNK fRC fTD fTT fAX fAY fRS fLV fLT fDP fEN fAN aSup aCpx aCpy aCr aIns aCls aHd aCtx aPx aPy aR aSz aWd aTk aTn aTt aTj aTs aFl aEl aOt aOk aKd aKt aCal aFd aFt aFc aFp aFh aFx aFy aVl) ∧ (∀ post : Int32 → SY → Prop, post r (nI dl, nI cl, nI pl, nI nc, nI nd, fCK, fED, yEp, EP, nI h', nI o', fAX, fAY, fLV, fRS, fLT, ySp, yDp, yEn, fNK, yRk, aSup, aCpx, aCpy, aCr, aPx, aPy, aR, aCtx, aCls, aHd, aSz, yw', aTk, aTn, aTt, ts', fl', ot', yVl, yFx, yFy, yFk, yFp, yKl) → wY_checkDef_113 post (nI d) (nI n) (m + 1) (nI i) (nI dl) (nI cl) (nI pl) (nI nc) (nI nd) fCK fED yEp yAt (nI h) (nI o) fAX fAY fLV fRS fLT ySp yDp yEn fNK yRk aSup aCpx aCpy aCr aPx aPy aR aCtx aCls aHd aSz yWd aTk aTn aTt aTs aFl aOt yVl yFx yFy yFk yFp yKl) := by
  have h12 : nd ≤ 12 := S.1.2.1
  have vd := vp_in_nI (n := d) (N := 12) (by omega) (by decide)
  have cd := nI_clamp (n := d) (by omega)
  intro m
  induction m with
  | zero =>
    intro i W Ht Ty Op h o f aTs aFl aOt aEl aOk aTj aWd yWd fEP yAt him I hw hy W6 tx ty tr
    have ein : i = n := by omega
    subst ein
    have oi := I.2.2.2.2.1
    have h8 := I.2.2.2.2.2.1.2.1
    have ii : nI i ≤ nI i := nI_le (Nat.le_refl _) (by omega)
    by_cases o0 : 0 < o
    · have oo : (0 : Int32) < nI o := nI_lt (a := 0) o0 (by omega)
      exact ⟨19, nI i, h, o, aTs, aFl, aOt, aEl, aOk, aTj, aWd, yWd, fun z => absurd z (by decide), fun post hp => br_t ii (br_t oo hp), fun post hp => br_t ii (br_t oo hp)⟩
    · have oo : ¬ (0 : Int32) < nI o := nI_nlt (a := 0) (by omega) (by decide)
      by_cases h1 : h = 1
      · have h1' : nI h = 1 := by rw [h1]; rfl
        by_cases r : aTs 0 = aR d
        · refine ⟨0, nI i, h, o, aTs, aFl, aOt, aEl, aOk, aTj, aWd, yWd, fun _ => ⟨⟨W, W6, hw, hy, ?_⟩, fun j _ => ⟨rfl, rfl⟩, fun p _ => rfl⟩, fun post hp => br_t ii (br_f oo (br_t h1' ⟨vd, ?_⟩)), fun post hp => br_t ii (br_f oo (br_t h1' ⟨vd, ?_⟩))⟩
          · obtain ⟨R, a1, a2, a3, a4, a5, a6, a7, a8⟩ := I
            have en : mk_v (aSz d) = i := by rw [hn, mk_vn (by omega)]
            unfold wt_W
            rw [en]
            refine ⟨Ht, Ty, Op, R, fun q hq => ?_, by rw [a1]; exact h1, by rw [a2 0 (by omega)]; exact r, tx, ty, tr⟩
            by_cases hk : wt_k aTk d q = 14 ∨ wt_k aTk d q = 15
            · rcases a8 q hq hk with ⟨x, z, _⟩ | ⟨z, _⟩
              · omega
              · exact z
            · exact ⟨fun z => absurd (Or.inl z) hk, fun z => absurd (Or.inr z) hk⟩
          · rw [cd]; exact br_t r hp
          · rw [cd]; exact br_t r hp
        · refine ⟨16, nI i, h, o, aTs, aFl, aOt, aEl, aOk, aTj, aWd, yWd, fun z => absurd z (by decide), fun post hp => br_t ii (br_f oo (br_t h1' ⟨vd, ?_⟩)), fun post hp => br_t ii (br_f oo (br_t h1' ⟨vd, ?_⟩))⟩
          · rw [cd]; exact br_f r hp
          · rw [cd]; exact br_f r hp
      · have h1' : ¬ nI h = 1 := fun z => h1 ((nI_eq (b := 1) (by omega) (by omega)).mp z)
        exact ⟨19, nI i, h, o, aTs, aFl, aOt, aEl, aOk, aTj, aWd, yWd, fun z => absurd z (by decide), fun post hp => br_t ii (br_f oo (br_f h1' hp)), fun post hp => br_t ii (br_f oo (br_f h1' hp))⟩
  | succ m ih =>
    intro i W Ht Ty Op h o f aTs aFl aOt aEl aOk aTj aWd yWd fEP yAt him I hw hy W6 tx ty tr
    obtain ⟨k, k18, hk, _⟩ : sr_t aTk aTn (20 * d + i) := by
      obtain ⟨n', q1, q2, q3⟩ := S.2.2.2 d hd
      have : n' = n := (nI_eq (by omega) (by omega)).mp (q2.symm.trans hn)
      exact q3 i (by omega)
    have ek : wt_k aTk d i = k := by unfold wt_k; rw [hk, mk_vn (by omega)]
    have hin : ¬ nI n ≤ nI i := nI_ge (by omega) (by omega)
    have vw := vp_in_nI (n := 20 * d + i) (N := 240) (by omega) (by decide)
    have cw := nI_clamp (n := 20 * d + i) (by omega)
    have vwX : vp_in (20 * nI d + nI i) 240 := by rw [sm_20x]; exact vw
    have vwY : vp_in (nI d * 20 + nI i) 240 := by rw [sm_20y]; exact vw
    have ekX : aTk (20 * nI d + nI i).toNatClampNeg = nI k := by rw [sm_20x, cw, hk]
    have ekY : aTk (nI d * 20 + nI i).toNatClampNeg = nI k := by rw [sm_20y, cw, hk]
    have h8 := I.2.2.2.2.2.1.2.1
    have hf := I.2.2.2.2.2.1.1
    by_cases k17 : k < 17
    · have k17' : nI k < 17 := nI_lt (b := 17) k17 (by decide)
      obtain ⟨r, h', o', ts', fl', ot', el', ok', tj', st, X, Y⟩ := lp_tok (fEP := nI i) (yEp := yEp) (yAt := nI i) (dl := dl) (cl := cl) (pl := pl) (fCK := fCK) (fED := fED) (fHP := fHP) (fNK := fNK) (fRC := fRC) (fTD := fTD) (fTT := fTT) (fAX := fAX) (fAY := fAY) (fRS := fRS) (fLV := fLV) (fLT := fLT) (fDP := fDP) (fEN := fEN) (fAN := fAN) (aSz := aSz) (aWd := aWd) (aKd := aKd) (aKt := aKt) (aCal := aCal) (aFd := aFd) (aFt := aFt) (aFc := aFc) (aFp := aFp) (aFh := aFh) (aFx := aFx) (aFy := aFy) (aVl := aVl) (ySp := ySp) (yDp := yDp) (yEn := yEn) (yRk := yRk) (yWd := yWd) (yVl := yVl) (yFx := yFx) (yFy := yFy) (yFk := yFk) (yFp := yFp) (yKl := yKl) I (by omega) (by omega) hk k17
      by_cases hr : r = 0
      · subst hr
        rcases st rfl with A | B | C | D
        · obtain ⟨k14, k15, k16, p, t, hp1, hh, hh8, K, rfl, rfl, rfl, rfl, rfl, rfl, rfl⟩ := A
          have k14' : ¬ nI k = 14 := fun z => k14 ((nI_eq (b := 14) (by omega) (by omega)).mp z)
          have k15' : ¬ nI k = 15 := fun z => k15 ((nI_eq (b := 15) (by omega) (by omega)).mp z)
          obtain ⟨l, e, t1, t3, tl, tc, rfl⟩ := lp_kt K tx ty (fun _ => ck_st I (by omega))
          have I' := ck_IA I (W' := ck_w W l e) (by rw [ek]; exact k14) (by rw [ek]; exact k15) (by rw [ek]; exact k16) hp1 hh hh8 (by rw [ek]; exact K) (ck_w1 W l e).1 (lp_at t1 t3 tl tc) (fun z => by omega)
          obtain ⟨r, EP, h2, o2, ts2, fl2, ot2, el2, ok2, tj2, wd2, yw2, F2, X2, Y2⟩ := ih (i + 1) (ck_w W l e) _ _ _ h' o' f _ fl' ot' el' ok' tj' (ck_a aWd d W l e) (ck_a yWd d W l e) (nI i) (nI i) (by omega) I' (ck_ad hw l e) (ck_ad hy l e) ((ck_w1 W l e).2.2 W6 tl) (ck_tm tx (ck_w1 W l e).1) (ck_tm ty (ck_w1 W l e).1) (ck_tm tr (ck_w1 W l e).1)
          have h0 : ¬ nI h' ≤ 0 := nI_nle (by omega) (by omega)
          have eh : nI h' - 1 = nI (h - p) := (pk_sub (b := 1) (by omega)).trans (congrArg nI (by omega))
          have vh : vp_in (nI h' - 1) 8 := by rw [eh]; exact vp_in_nI (by omega) (by decide)
          have et : upd aTs (h - p) (nI (ty_e l e)) (nI h' - 1).toNatClampNeg = nI (ty_e l e) := by rw [eh, nI_clamp (n := h - p) (by omega), pk_us]
          refine ⟨r, EP, h2, o2, ts2, fl2, ot2, el2, ok2, tj2, wd2, yw2, fun z => ⟨(F2 z).1, fun j hj => ?_, (F2 z).2.2⟩, fun post hp => br_f hin (X _ (br_t rfl ⟨vwX, nm_r ekX (br_f k14' (br_f k15' (br_f h0 ⟨vh, ?_⟩)))⟩)), fun post hp => br_f hin ⟨vwY, nm_r ekY (br_t k17' (Y _ (br_t rfl (br_f k14' (br_f k15' ⟨vh, ?_⟩)))))⟩⟩
          · have q := (F2 z).2.1 j hj
            rw [ck_aj hj, ck_aj hj] at q
            exact q
          · rw [et]
            exact ck_wx (by omega) hw W6 t1 t3 tl (br_t k17' (nm_r (nI_1 i) (X2 post hp)))
          · rw [et]
            exact ck_wy (by omega) hy W6 t1 t3 tl (nm_r (nI_1 i) (Y2 post hp))
        · obtain ⟨k14, hh, hf', t2, rfl, rfl, rfl, rfl, rfl, rfl, rfl⟩ := B
          have k14' : nI k = 14 := by rw [k14]; rfl
          have I' := ck_IB I (by omega) (ek.trans k14) hh hf' t2
          obtain ⟨r, EP, h2, o2, ts2, fl2, ot2, el2, ok2, tj2, wd2, yw2, F2, X2, Y2⟩ := ih (i + 1) W _ _ _ h' (o + 1) h' _ _ _ _ _ _ aWd yWd (nI i) (nI i) (by omega) I' hw hy W6 tx ty tr
          exact ⟨r, EP, h2, o2, ts2, fl2, ot2, el2, ok2, tj2, wd2, yw2, F2, fun post hp => br_f hin (X _ (br_t rfl ⟨vwX, nm_r ekX (br_t k14' (br_t k17' (nm_r (nI_1 i) (X2 post hp))))⟩)), fun post hp => br_f hin ⟨vwY, nm_r ekY (br_t k17' (Y _ (br_t rfl (br_t k14' (nm_r (nI_1 i) (Y2 post hp))))))⟩⟩
        · obtain ⟨k15, o1, ho, he, hh, hh2, ho2, rfl, rfl, rfl, rfl, rfl, rfl⟩ := C
          have k14' : ¬ nI k = 14 := by rw [k15]; decide
          have k15' : nI k = 15 := by rw [k15]; rfl
          have I' := ck_IC I (by omega) (ek.trans k15) ho he hh
          rw [hh2, ho2] at X Y
          have oi := I.2.2.2.2.1
          obtain ⟨_, P, _, _, b3, _⟩ := I.2.2.2.2.2.2.1 o1 (by omega)
          have Pi : mk_v (aOk o1) < 20 := by
            obtain ⟨_, P, P20, eP⟩ := lp_O I (by omega) o1 ho
            rw [eP, mk_vn (by omega)]
            exact P20
          obtain ⟨r, EP, h2, o2, ts2, fl2, ot2, el2, ok2, tj2, wd2, yw2, F2, X2, Y2⟩ := ih (i + 1) W _ _ _ f o f _ _ _ _ _ _ aWd yWd (nI i) (nI i) (by omega) I' hw hy W6 tx ty tr
          refine ⟨r, EP, h2, o2, ts2, fl2, ot2, el2, ok2, tj2, wd2, yw2, fun z => ⟨(F2 z).1, (F2 z).2.1, fun p hp => ?_⟩, fun post hp => br_f hin (X _ (br_t rfl ⟨vwX, nm_r ekX (br_f k14' (br_t k15' (br_t k17' (nm_r (nI_1 i) (X2 post hp)))))⟩)), fun post hp => br_f hin ⟨vwY, nm_r ekY (br_t k17' (Y _ (br_t rfl (br_f k14' (br_t k15' (nm_r (nI_1 i) (Y2 post hp)))))))⟩⟩
          have q := (F2 z).2.2 p hp
          rw [pk_un (by omega)] at q
          exact q
        · obtain ⟨k16, o1, ho, he, hh, ht, hh2, ho2, rfl, rfl, rfl, rfl, rfl, rfl⟩ := D
          have k14' : ¬ nI k = 14 := by rw [k16]; decide
          have k15' : ¬ nI k = 15 := by rw [k16]; decide
          obtain ⟨f', I1⟩ := ck_ID I (by omega) (ek.trans k16) ho he hh ht
          rw [hh2, ho2] at X Y
          have oi := I.2.2.2.2.1
          have Pi : mk_v (ok' o1) < 20 := by
            obtain ⟨_, P, P20, eP⟩ := lp_O I (by omega) o1 ho
            rw [eP, mk_vn (by omega)]
            exact P20
          obtain ⟨l, e, t1, t3, tl, tc, et⟩ := ck_st I (j := h - 1) (by omega)
          have I' := lp_IW I1 (ck_w1 W l e).1
          obtain ⟨r, EP, h2, o2, ts2, fl2, ot2, el2, ok2, tj2, wd2, yw2, F2, X2, Y2⟩ := ih (i + 1) (ck_w W l e) _ _ _ h o1 f' _ _ _ _ _ _ (ck_a aWd d W l e) (ck_a yWd d W l e) (nI i) (nI i) (by omega) I' (ck_ad hw l e) (ck_ad hy l e) ((ck_w1 W l e).2.2 W6 tl) (ck_tm tx (ck_w1 W l e).1) (ck_tm ty (ck_w1 W l e).1) (ck_tm tr (ck_w1 W l e).1)
          have h0 : ¬ nI h ≤ 0 := nI_nle (by omega) (by omega)
          have eh : nI h - 1 = nI (h - 1) := pk_sub (b := 1) (by omega)
          have vh : vp_in (nI h - 1) 8 := by rw [eh]; exact vp_in_nI (by omega) (by decide)
          have et' : ts' (nI h - 1).toNatClampNeg = nI (ty_e l e) := by rw [eh, nI_clamp (n := h - 1) (by omega), et]
          refine ⟨r, EP, h2, o2, ts2, fl2, ot2, el2, ok2, tj2, wd2, yw2, fun z => ⟨(F2 z).1, fun j hj => ?_, fun p hp => ?_⟩, fun post hp => br_f hin (X _ (br_t rfl ⟨vwX, nm_r ekX (br_f k14' (br_f k15' (br_f h0 ⟨vh, ?_⟩)))⟩)), fun post hp => br_f hin ⟨vwY, nm_r ekY (br_t k17' (Y _ (br_t rfl (br_f k14' (br_f k15' ⟨vh, ?_⟩)))))⟩⟩
          · have q := (F2 z).2.1 j hj
            rw [ck_aj hj, ck_aj hj] at q
            exact q
          · have q := (F2 z).2.2 p hp
            rw [pk_un (by omega)] at q
            exact q
          · rw [et']
            exact ck_wx (by omega) hw W6 t1 t3 tl (br_t k17' (nm_r (nI_1 i) (X2 post hp)))
          · rw [et']
            exact ck_wy (by omega) hy W6 t1 t3 tl (nm_r (nI_1 i) (Y2 post hp))
      · exact ⟨r, nI i, h', o', ts', fl', ot', el', ok', tj', aWd, yWd, fun z => absurd z hr, fun post hp => br_f hin (X _ (br_f hr hp)), fun post hp => br_f hin ⟨vwY, nm_r ekY (br_t k17' (Y _ (br_f hr hp)))⟩⟩
    · have k17' : ¬ nI k < 17 := nI_nlt (b := 17) (by omega) (by omega)
      obtain ⟨r, h', o', ts', fl', ot', el', ok', tj', yw', st, sy, X, Y⟩ := lp_call (fEP := nI i) (yEp := yEp) (yAt := nI i) (dl := dl) (cl := cl) (pl := pl) (fCK := fCK) (fED := fED) (fHP := fHP) (fNK := fNK) (fRC := fRC) (fTD := fTD) (fTT := fTT) (fAX := fAX) (fAY := fAY) (fRS := fRS) (fLV := fLV) (fLT := fLT) (fDP := fDP) (fEN := fEN) (fAN := fAN) (aSz := aSz) (aWd := aWd) (aKd := aKd) (aKt := aKt) (aCal := aCal) (aFd := aFd) (aFt := aFt) (aFc := aFc) (aFp := aFp) (aFh := aFh) (aFx := aFx) (aFy := aFy) (aVl := aVl) (ySp := ySp) (yDp := yDp) (yEn := yEn) (yRk := yRk) (yWd := yWd) (yVl := yVl) (yFx := yFx) (yFy := yFy) (yFk := yFk) (yFp := yFp) (yKl := yKl) S I hd (by omega) hk (by omega) k18 hy W6
      have enY : aTn (nI d * 20 + nI i).toNatClampNeg = aTn (20 * d + i) := by rw [sm_20y, cw]
      have etY : aTt (nI d * 20 + nI i).toNatClampNeg = aTt (20 * d + i) := by rw [sm_20y, cw]
      have Yc : ∀ post : Int32 → SY → Prop, wpY_checkCall (fun r_257 u => match u with | (fDL, fCL, fPL, fNC, fND, fCK, fED, fEP, yAt, fH, fO, fAX, fAY, fLV, fRS, fLT, ySp, yDp, yEn, fNK, yRk, aSup, aCpx, aCpy, aCr, aPx, aPy, aR, aCtx, aCls, aHd, aSz, yWd, aTk, aTn, aTt, aTs, aFl, aOt, yVl, yFx, yFy, yFk, yFp, yKl) => wY_checkDef_182 post (wY_checkDef_113 post (nI d) (nI n) (m + 1)) (nI d) (nI n) (nI i) (nI k) r_257 fDL fCL fPL fNC fND fCK fED fEP yAt fH fO fAX fAY fLV fRS fLT ySp yDp yEn fNK yRk aSup aCpx aCpy aCr aPx aPy aR aCtx aCls aHd aSz yWd aTk aTn aTt aTs aFl aOt yVl yFx yFy yFk yFp yKl) (nI dl, nI cl, nI pl, nI nc, nI nd, fCK, fED, yEp, nI i, nI h, nI o, fAX, fAY, fLV, fRS, fLT, ySp, yDp, yEn, fNK, yRk, aSup, aCpx, aCpy, aCr, aPx, aPy, aR, aCtx, aCls, aHd, aSz, yWd, aTk, aTn, aTt, aTs, aFl, aOt, yVl, yFx, yFy, yFk, yFp, yKl) (nI d) (nI k) (aTn (20 * d + i)) (aTt (20 * d + i)) → wY_checkDef_113 post (nI d) (nI n) (m + 1 + 1) (nI i) (nI dl) (nI cl) (nI pl) (nI nc) (nI nd) fCK fED yEp yAt (nI h) (nI o) fAX fAY fLV fRS fLT ySp yDp yEn fNK yRk aSup aCpx aCpy aCr aPx aPy aR aCtx aCls aHd aSz yWd aTk aTn aTt aTs aFl aOt yVl yFx yFy yFk yFp yKl := by
        intro post H
        refine br_f hin ⟨vwY, nm_r ekY (br_f k17' ⟨vwY, vwY, ?_⟩)⟩
        rw [enY, etY]
        exact H
      by_cases hr : r = 0
      · subst hr
        obtain ⟨st1, lt, et, u1, u3, ul, uc, eT, rfl⟩ := st rfl
        rcases st1 with A | B | C | D
        · obtain ⟨k14, k15, k16, p, t, hp1, hh, hh8, K, rfl, rfl, rfl, rfl, rfl, rfl, rfl⟩ := A
          have k14' : ¬ nI k = 14 := fun z => k14 ((nI_eq (b := 14) (by omega) (by omega)).mp z)
          have k15' : ¬ nI k = 15 := fun z => k15 ((nI_eq (b := 15) (by omega) (by omega)).mp z)
          have ha : 1 ≤ p → wt_t aHd d W (aTs (h - 1)) := fun z => ck_st I (by omega)
          obtain ⟨l, e, t1, t3, tl, tc, rfl⟩ := lp_kt K tx ty ha
          have w1 := ck_w1 W l e
          have w2 := ck_w1 (ck_w W l e) lt et
          have I' := ck_IA I (W' := ck_w (ck_w W l e) lt et) (by rw [ek]; exact k14) (by rw [ek]; exact k15) (by rw [ek]; exact k16) hp1 hh hh8 (by rw [ek]; exact K) (by omega) (ck_tm (lp_at t1 t3 tl tc) w2.1) (fun _ => by rw [eT]; exact lp_at u1 u3 ul uc)
          have yv : ck_a (ck_a yWd d W lt et) d (ck_w W lt et) l e d = nI (ck_w (ck_w W l e) lt et) := by
            rw [ck_ad (ck_ad hy lt et) l e, ck_wc]
          obtain ⟨r, EP, h2, o2, ts2, fl2, ot2, el2, ok2, tj2, wd2, yw2, F2, X2, Y2⟩ := ih (i + 1) (ck_w (ck_w W l e) lt et) _ _ _ h' o' f _ fl' ot' el' ok' tj' (ck_a (ck_a aWd d W l e) d (ck_w W l e) lt et) (ck_a (ck_a yWd d W lt et) d (ck_w W lt et) l e) (nI i) (nI i) (by omega) I' (ck_ad (ck_ad hw l e) lt et) yv (w2.2.2 (w1.2.2 W6 tl) ul) (ck_tm tx (by omega)) (ck_tm ty (by omega)) (ck_tm tr (by omega))
          have h0 : ¬ nI h' ≤ 0 := nI_nle (by omega) (by omega)
          have eh : nI h' - 1 = nI (h - p) := (pk_sub (b := 1) (by omega)).trans (congrArg nI (by omega))
          have vh : vp_in (nI h' - 1) 8 := by rw [eh]; exact vp_in_nI (by omega) (by decide)
          have et' : upd aTs (h - p) (nI (ty_e l e)) (nI h' - 1).toNatClampNeg = nI (ty_e l e) := by rw [eh, nI_clamp (n := h - p) (by omega), pk_us]
          have etX : aTt (20 * nI d + nI i).toNatClampNeg = nI (ty_e lt et) := by rw [sm_20x, cw, eT]
          refine ⟨r, EP, h2, o2, ts2, fl2, ot2, el2, ok2, tj2, wd2, yw2, fun z => ⟨(F2 z).1, fun j hj => ?_, (F2 z).2.2⟩, fun post hp => br_f hin (X _ (br_t rfl ⟨vwX, nm_r ekX (br_f k14' (br_f k15' (br_f h0 ⟨vh, ?_⟩)))⟩)), fun post hp => Yc post (Y _ (br_t rfl (br_f k14' (br_f k15' ⟨vh, ?_⟩))))⟩
          · have q := (F2 z).2.1 j hj
            rw [ck_aj hj, ck_aj hj, ck_aj hj, ck_aj hj] at q
            exact q
          · rw [et']
            refine ck_wx (by omega) hw W6 t1 t3 tl (br_f k17' ⟨vwX, ?_⟩)
            rw [etX]
            exact ck_wx (by omega) (ck_ad hw l e) (w1.2.2 W6 tl) u1 u3 ul (nm_r (nI_1 i) (X2 post hp))
          · rw [et']
            exact ck_wy (by omega) (ck_ad hy lt et) ((ck_w1 W lt et).2.2 W6 ul) t1 t3 tl (nm_r (nI_1 i) (Y2 post hp))
        · omega
        · omega
        · omega
      · exact ⟨r, nI i, h', o', ts', fl', ot', el', ok', tj', aWd, yw', fun z => absurd z hr, fun post hp => br_f hin (X _ (br_f hr hp)), fun post hp => Yc post (Y _ (br_f hr hp))⟩
end
end
section
/-! 21: check: a definition, all definitions -/
def ch_S (nc : Nat) (aSup aIns aCls aHd aCtx : Nat → Int32) (d : Nat) : Prop := ∀ c h, c < nc → h < 8 → aCls d = nI c → aHd d = nI h → (h ≤ 2 → mk_H aIns aCtx aSup (mk_v (aCtx d)) (mk_v (aSup c)) [] h) ∧ (∀ b, h = ty_h b → mk_H aIns aCtx aSup (mk_v (aCtx d)) (mk_v (aSup c)) [b] 3)
section
variable {nc nd : Nat} {aSup aCpx aCpy aCr aIns aCls aHd aCtx aPx aPy aR aSz aTk aTn aTt aTj : Nat → Int32} {d W : Nat}
theorem ch_cl {h : Nat} {p q : Int32} (hh : h ≤ 2) (h1 : 1 ≤ h) (O : sr_O h p q) : ∃ (l : List Bool) (e : Nat), 1 ≤ e ∧ e ≤ 2 ∧ l.length ≤ 6 ∧ q = nI (ty_e l e) := by
  obtain ⟨l, e, a1, a3, al, _, rfl⟩ := O
  rw [sr_o1 hh]
  by_cases z : e = 3
  · subst z
    rw [ty_s3]
    exact ⟨l, h, h1, hh, by omega, rfl⟩
  · rw [ty_sn z]
    exact ⟨l, e, a1, by omega, by omega, rfl⟩
/-- the types of a definition's own signature may stand in it -/
theorem ch_al (S : (sr nc nd aSup aCpx aCpy aCr aIns aCls aHd aCtx aPx aPy aR aSz aTk aTn)) (hd : d < nd) : al_T aHd d (aPx d) ∧ al_T aHd d (aPy d) ∧ al_T aHd d (aR d) := by
  have H : (sr_H nc nd aSup aIns aCls aHd aCtx) := S.1
  have h4 := H.1
  obtain ⟨⟨tx, ty, tr⟩, C⟩ := S.2.2.1 d hd
  by_cases hc : wt_c aHd d
  · rcases H.2.2.2.2.1 d hd with ⟨_, z⟩ | ⟨c, h, q1, q2, q3, q4, _⟩
    · rcases hc with y | y
      · rw [z] at y; exact absurd y (by decide)
      · rw [z] at y; exact absurd y (by decide)
    · have hh : h ≤ 2 := by
        rcases hc with y | y
        · have := (nI_eq (b := 1) (by omega) (by omega)).mp (q4.symm.trans y)
          omega
        · have := (nI_eq (b := 2) (by omega) (by omega)).mp (q4.symm.trans y)
          omega
      obtain ⟨o1, o2, o3⟩ := C c h q1 (by omega) q3 q4
      have A : ∀ {p q : Int32}, sr_O h p q → al_T aHd d q := by
        intro p q O
        obtain ⟨l, e, a1, a2, al, rfl⟩ := ch_cl hh (by omega) O
        exact ⟨l, e, a1, by omega, al, fun z => by omega, rfl⟩
      exact ⟨A o1, A o2, A o3⟩
  · have A : ∀ {q : Int32}, ty_T 6 q → al_T aHd d q := by
      rintro q ⟨l, e, a1, a2, al, rfl⟩
      exact ⟨l, e, a1, a2, al, fun _ => hc, rfl⟩
    exact ⟨A tx, A ty, A tr⟩
theorem ch_tj {tj' : Nat → Int32} (hz : mk_v (aSz d) ≤ 20) (e : ∀ q, q < 20 → tj' (20 * d + q) = aTj (20 * d + q)) (H : wt_W nc nd aSup aCpx aCpy aCr aIns aCls aHd aCtx aPx aPy aR aSz aTk aTn aTt aTj d W) : wt_W nc nd aSup aCpx aCpy aCr aIns aCls aHd aCtx aPx aPy aR aSz aTk aTn aTt tj' d W := by
  obtain ⟨Ht, Ty, Op, a1, a2, a3⟩ := H
  refine ⟨Ht, Ty, Op, a1, fun q hq => ?_, a3⟩
  have := a2 q hq
  unfold wt_J at *
  rw [e q (by omega)]
  exact this
end
section
variable {dl cl pl nc nd : Nat} {fCK fED fEP fH fO fHP fNK fRC fTD fTT : Int32} {fAX fAY : Int64} {fRS : Int32} {fLV : Int64} {fLT fDP fEN : Int32} {fAN : Int64} {aSup aCpx aCpy aCr aIns aCls aHd aCtx aPx aPy aR aSz aWd aTk aTn aTt aTj aTs aFl aEl aOt aOk aKd aKt aCal aFd aFt aFc aFp aFh : Nat → Int32} {aFx aFy aVl : Nat → Int64} {yAt ySp yDp yEn yRk : Int32} {yWd : Nat → Int32} {yVl yFx yFy : Nat → Int64} {yFk yFp yKl : Nat → Int32} {yEp : Int32} {d n : Nat}
/-- from the widths on -/
theorem ch_w (S : (sr nc nd aSup aCpx aCpy aCr aIns aCls aHd aCtx aPx aPy aR aSz aTk aTn)) (hd : d < nd) : ∃ (r EP : Int32) (h' o' : Nat) (ts' fl' ot' el' ok' tj' wd' yw' : Nat → Int32), (r = 0 → (∃ W', W' ≤ 6 ∧ wd' d = nI W' ∧ yw' d = nI W' ∧ wt_W nc nd aSup aCpx aCpy aCr aIns aCls aHd aCtx aPx aPy aR aSz aTk aTn aTt tj' d W') ∧ (∀ j, j ≠ d → wd' j = aWd j ∧ yw' j = yWd j) ∧ (∀ p, p < 20 * d ∨ 20 * d + 20 ≤ p → tj' p = aTj p)) ∧ (∀ post : Int32 → SX → Prop, post r (nI dl, nI cl, nI pl, nI nc, nI nd, fCK, fED, EP, nI h', nI o', fHP, fNK, fRC, fTD, fTT, fAX, fAY, fRS, fLV, fLT, fDP, fEN, fAN, aSup, aCpx, aCpy, aCr, aIns, aCls, aHd, aCtx, aPx, aPy, aR, aSz, wd', aTk, aTn, aTt, tj', ts', fl', el', ot', ok', aKd, aKt, aCal, aFd, aFt, aFc, aFp, aFh, aFx, aFy, aVl) → (∀ wd, wd = upd aWd (nI d).toNatClampNeg 0 → vp_in (nI d) 12 ∧ wpX_widen (fun u => match u with | (fDL, fCL, fPL, fNC, fND, fCK, fED, fEP, fH, fO, fHP, fNK, fRC, fTD, fTT, fAX, fAY, fRS, fLV, fLT, fDP, fEN, fAN, aSup, aCpx, aCpy, aCr, aIns, aCls, aHd, aCtx, aPx, aPy, aR, aSz, aWd, aTk, aTn, aTt, aTj, aTs, aFl, aEl, aOt, aOk, aKd, aKt, aCal, aFd, aFt, aFc, aFp, aFh, aFx, aFy, aVl) => (vp_in (nI d) 12 ∧ (wpX_widen (fun u => match u with | (fDL, fCL, fPL, fNC, fND, fCK, fED, fEP, fH, fO, fHP, fNK, fRC, fTD, fTT, fAX, fAY, fRS, fLV, fLT, fDP, fEN, fAN, aSup, aCpx, aCpy, aCr, aIns, aCls, aHd, aCtx, aPx, aPy, aR, aSz, aWd, aTk, aTn, aTt, aTj, aTs, aFl, aEl, aOt, aOk, aKd, aKt, aCal, aFd, aFt, aFc, aFp, aFh, aFx, aFy, aVl) => (vp_in (nI d) 12 ∧ (wpX_widen (fun u => match u with | (fDL, fCL, fPL, fNC, fND, fCK, fED, fEP, fH, fO, fHP, fNK, fRC, fTD, fTT, fAX, fAY, fRS, fLV, fLT, fDP, fEN, fAN, aSup, aCpx, aCpy, aCr, aIns, aCls, aHd, aCtx, aPx, aPy, aR, aSz, aWd, aTk, aTn, aTt, aTj, aTs, aFl, aEl, aOt, aOk, aKd, aKt, aCal, aFd, aFt, aFc, aFp, aFh, aFx, aFy, aVl) => (vp_in (nI d) 12 ∧ (∀ x2, x2 = aSz (nI d).toNatClampNeg → (∃ n75 : Nat, wX_checkDefinition_75 post (nI d) x2 n75 0 fDL fCL fPL fNC fND fCK fED fEP fH fO fHP fNK fRC fTD fTT fAX fAY fRS fLV fLT fDP fEN fAN aSup aCpx aCpy aCr aIns aCls aHd aCtx aPx aPy aR aSz aWd aTk aTn aTt aTj aTs aFl aEl aOt aOk aKd aKt aCal aFd aFt aFc aFp aFh aFx aFy aVl)))) (fDL, fCL, fPL, fNC, fND, fCK, fED, fEP, fH, fO, fHP, fNK, fRC, fTD, fTT, fAX, fAY, fRS, fLV, fLT, fDP, fEN, fAN, aSup, aCpx, aCpy, aCr, aIns, aCls, aHd, aCtx, aPx, aPy, aR, aSz, aWd, aTk, aTn, aTt, aTj, aTs, aFl, aEl, aOt, aOk, aKd, aKt, aCal, aFd, aFt, aFc, aFp, aFh, aFx, aFy, aVl) (nI d) (aR (nI d).toNatClampNeg)))) (fDL, fCL, fPL, fNC, fND, fCK, fED, fEP, fH, fO, fHP, fNK, fRC, fTD, fTT, fAX, fAY, fRS, fLV, fLT, fDP, fEN, fAN, aSup, aCpx, aCpy, aCr, aIns, aCls, aHd, aCtx, aPx, aPy, aR, aSz, aWd, aTk, aTn, aTt, aTj, aTs, aFl, aEl, aOt, aOk, aKd, aKt, aCal, aFd, aFt, aFc, aFp, aFh, aFx, aFy, aVl) (nI d) (aPy (nI d).toNatClampNeg)))) (nI dl, nI cl, nI pl, nI nc, nI nd, fCK, fED, -1, 0, 0, fHP, fNK, fRC, fTD, fTT, fAX, fAY, fRS, fLV, fLT, fDP, fEN, fAN, aSup, aCpx, aCpy, aCr, aIns, aCls, aHd, aCtx, aPx, aPy, aR, aSz, wd, aTk, aTn, aTt, aTj, aTs, aFl, aEl, aOt, aOk, aKd, aKt, aCal, aFd, aFt, aFc, aFp, aFh, aFx, aFy, aVl) (nI d) (aPx (nI d).toNatClampNeg))) ∧ (∀ post : Int32 → SY → Prop, post r (nI dl, nI cl, nI pl, nI nc, nI nd, fCK, fED, yEp, EP, nI h', nI o', fAX, fAY, fLV, fRS, fLT, ySp, yDp, yEn, fNK, yRk, aSup, aCpx, aCpy, aCr, aPx, aPy, aR, aCtx, aCls, aHd, aSz, yw', aTk, aTn, aTt, ts', fl', ot', yVl, yFx, yFy, yFk, yFp, yKl) → wY_checkDef_54 post (nI d) (nI dl) (nI cl) (nI pl) (nI nc) (nI nd) fCK fED yEp (-1) fH fO fAX fAY fLV fRS fLT ySp yDp yEn fNK yRk aSup aCpx aCpy aCr aPx aPy aR aCtx aCls aHd aSz yWd aTk aTn aTt aTs aFl aOt yVl yFx yFy yFk yFp yKl) := by
  have H : (sr_H nc nd aSup aIns aCls aHd aCtx) := S.1
  have h12 : nd ≤ 12 := H.2.1
  have vd := vp_in_nI (n := d) (N := 12) (by omega) (by decide)
  have cd := nI_clamp (n := d) (by omega)
  obtain ⟨⟨lx, ex, x1, x3, xl, xc, exx⟩, ⟨ly, ey, y1, y3, yl, yc, eyy⟩, ⟨lr, er, r1, r3, rl, rc, err⟩⟩ := ch_al S hd
  obtain ⟨n, n20, en, _⟩ := S.2.2.2 d hd
  have w1 := ck_w1 0 lx ex
  have w2 := ck_w1 (ck_w 0 lx ex) ly ey
  have w3 := ck_w1 (ck_w (ck_w 0 lx ex) ly ey) lr er
  have x6 := w1.2.2 (by omega) xl
  have y6 := w2.2.2 x6 yl
  have r6 := w3.2.2 y6 rl
  have a0 : upd aWd d 0 d = nI 0 := pk_us
  have a1 := ck_ad a0 lx ex
  have a2 := ck_ad a1 ly ey
  have a3 := ck_ad a2 lr er
  have b0 : upd yWd d 0 d = nI 0 := pk_us
  have b1 := ck_ad b0 lx ex
  have b2 := ck_ad b1 ly ey
  have b3 := ck_ad b2 lr er
  have tx : wt_t aHd d (ck_w (ck_w (ck_w 0 lx ex) ly ey) lr er) (aPx d) := by rw [exx]; exact ck_tm (ck_tm (lp_at x1 x3 xl xc) w2.1) w3.1
  have ty : wt_t aHd d (ck_w (ck_w (ck_w 0 lx ex) ly ey) lr er) (aPy d) := by rw [eyy]; exact ck_tm (lp_at y1 y3 yl yc) w3.1
  have tr : wt_t aHd d (ck_w (ck_w (ck_w 0 lx ex) ly ey) lr er) (aR d) := by rw [err]; exact lp_at r1 r3 rl rc
  have I0 : (ck_I nc nd aSup aCpx aCpy aCr aIns aCls aHd aCtx aPx aPy aR aTk aTn aTt d (ck_w (ck_w (ck_w 0 lx ex) ly ey) lr er) 0 (fun _ => 0) (fun _ => aTs) (fun _ => 0) 0 0 0 aTs aFl aOt aEl aOk aTj) :=
    ⟨⟨rfl, rfl, fun q hq => absurd hq (by omega), fun q hq => ⟨Nat.zero_le _, fun j hj => absurd hj (Nat.not_lt_zero j)⟩, fun q hq => absurd hq (by omega)⟩, rfl, fun j hj => rfl, rfl, by omega, ⟨by omega, by omega, by omega, Or.inl ⟨rfl, rfl⟩⟩, fun x hx => absurd hx (by omega), fun x y _ hy => absurd hy (by omega), fun q hq => absurd hq (by omega)⟩
  obtain ⟨r, EP, h', o', ts', fl', ot', el', ok', tj', wd', yw', F, X, Y⟩ := ld_main (yEp := yEp) (n := n) (dl := dl) (cl := cl) (pl := pl) (fCK := fCK) (fED := fED) (fHP := fHP) (fNK := fNK) (fRC := fRC) (fTD := fTD) (fTT := fTT) (fAX := fAX) (fAY := fAY) (fRS := fRS) (fLV := fLV) (fLT := fLT) (fDP := fDP) (fEN := fEN) (fAN := fAN) (aKd := aKd) (aKt := aKt) (aCal := aCal) (aFd := aFd) (aFt := aFt) (aFc := aFc) (aFp := aFp) (aFh := aFh) (aFx := aFx) (aFy := aFy) (aVl := aVl) (ySp := ySp) (yDp := yDp) (yEn := yEn) (yRk := yRk) (yVl := yVl) (yFx := yFx) (yFy := yFy) (yFk := yFk) (yFp := yFp) (yKl := yKl) S hd en n20 n 0 _ _ _ _ 0 0 0 aTs aFl aOt aEl aOk aTj _ _ (-1) (-1) (by omega) I0 a3 b3 r6 tx ty tr
  refine ⟨r, EP, h', o', ts', fl', ot', el', ok', tj', wd', yw', fun z => ⟨(F z).1, fun j hj => ?_, (F z).2.2⟩, fun post hp => ?_, fun post hp => ?_⟩
  · have q := (F z).2.1 j hj
    rw [ck_aj hj, ck_aj hj, ck_aj hj, pk_un hj, ck_aj hj, ck_aj hj, ck_aj hj, pk_un hj] at q
    exact q
  · rw [cd, exx]
    refine nm_e ⟨vd, ck_wx (by omega) a0 (by omega) x1 x3 xl ⟨vd, ?_⟩⟩
    rw [eyy]
    refine ck_wx (by omega) a1 x6 y1 y3 yl ⟨vd, ?_⟩
    rw [err]
    refine ck_wx (by omega) a2 y6 r1 r3 rl ⟨vd, nm_r en ?_⟩
    exact Exists.intro (n + 1) (X post hp)
  · unfold wY_checkDef_54
    rw [cd, exx]
    refine ⟨vd, nm_e ⟨vd, ck_wy (by omega) b0 (by omega) x1 x3 xl ⟨vd, ?_⟩⟩⟩
    rw [eyy]
    refine ck_wy (by omega) b1 x6 y1 y3 yl ⟨vd, ?_⟩
    rw [err]
    refine ck_wy (by omega) b2 y6 r1 r3 rl ⟨vd, nm_r en ?_⟩
    exact Exists.intro (n + 1) (Y post hp)
end
end
section
/-! 22: check: superclasses, all definitions, the method -/
theorem ch_o {q : Nat} (hq : q = 1 ∨ q = 2 ∨ q = 4 ∨ q = 5) : ∃ (lo : List Bool) (eo : Nat), sr_o q = ty_e lo eo ∧ 1 ≤ eo ∧ eo ≤ 3 ∧ lo.length ≤ 1 ∧ (q ≤ 2 → lo = [] ∧ eo = q) ∧ (∀ b, q = ty_h b → lo = [b] ∧ eo = 3) := by
  rcases hq with rfl | rfl | rfl | rfl
  · exact ⟨[], 1, rfl, by omega, by omega, by decide, fun _ => ⟨rfl, rfl⟩, fun b z => by have := ty_h45 b; omega⟩
  · exact ⟨[], 2, rfl, by omega, by omega, by decide, fun _ => ⟨rfl, rfl⟩, fun b z => by have := ty_h45 b; omega⟩
  · refine ⟨[false], 3, rfl, by omega, by omega, by decide, fun z => absurd z (by decide), fun b z => ?_⟩
    cases b
    · exact ⟨rfl, rfl⟩
    · exact absurd z (by decide)
  · refine ⟨[true], 3, rfl, by omega, by omega, by decide, fun z => absurd z (by decide), fun b z => ?_⟩
    cases b
    · exact absurd z (by decide)
    · exact ⟨rfl, rfl⟩
section
variable {dl cl pl nc nd : Nat} {fCK fED fEP fH fO fHP fNK fRC fTD fTT : Int32} {fAX fAY : Int64} {fRS : Int32} {fLV : Int64} {fLT fDP fEN : Int32} {fAN : Int64} {aSup aCpx aCpy aCr aIns aCls aHd aCtx aPx aPy aR aSz aWd aTk aTn aTt aTj aTs aFl aEl aOt aOk aKd aKt aCal aFd aFt aFc aFp aFh : Nat → Int32} {aFx aFy aVl : Nat → Int64} {yAt ySp yDp yEn yRk : Int32} {yWd : Nat → Int32} {yVl yFx yFy : Nat → Int64} {yFk yFp yKl : Nat → Int32} {yEp : Int32} {d n : Nat}
theorem ch_d (S : (sr nc nd aSup aCpx aCpy aCr aIns aCls aHd aCtx aPx aPy aR aSz aTk aTn)) (hd : d < nd) : ∃ (r EP H' O' : Int32) (ts' fl' ot' el' ok' tj' wd' yw' : Nat → Int32), (r = 0 → (∃ W', W' ≤ 6 ∧ wd' d = nI W' ∧ yw' d = nI W' ∧ wt_W nc nd aSup aCpx aCpy aCr aIns aCls aHd aCtx aPx aPy aR aSz aTk aTn aTt tj' d W') ∧ (∀ j, j ≠ d → wd' j = aWd j ∧ yw' j = yWd j) ∧ (∀ p, p < 20 * d ∨ 20 * d + 20 ≤ p → tj' p = aTj p) ∧ ch_S nc aSup aIns aCls aHd aCtx d) ∧ (∀ post : Int32 → SX → Prop, post r (nI dl, nI cl, nI pl, nI nc, nI nd, fCK, fED, EP, H', O', fHP, fNK, fRC, fTD, fTT, fAX, fAY, fRS, fLV, fLT, fDP, fEN, fAN, aSup, aCpx, aCpy, aCr, aIns, aCls, aHd, aCtx, aPx, aPy, aR, aSz, wd', aTk, aTn, aTt, tj', ts', fl', el', ot', ok', aKd, aKt, aCal, aFd, aFt, aFc, aFp, aFh, aFx, aFy, aVl) → wpX_checkDefinition post (nI dl, nI cl, nI pl, nI nc, nI nd, fCK, fED, fEP, fH, fO, fHP, fNK, fRC, fTD, fTT, fAX, fAY, fRS, fLV, fLT, fDP, fEN, fAN, aSup, aCpx, aCpy, aCr, aIns, aCls, aHd, aCtx, aPx, aPy, aR, aSz, aWd, aTk, aTn, aTt, aTj, aTs, aFl, aEl, aOt, aOk, aKd, aKt, aCal, aFd, aFt, aFc, aFp, aFh, aFx, aFy, aVl) (nI d)) ∧ (∀ post : Int32 → SY → Prop, post r (nI dl, nI cl, nI pl, nI nc, nI nd, fCK, fED, yEp, EP, H', O', fAX, fAY, fLV, fRS, fLT, ySp, yDp, yEn, fNK, yRk, aSup, aCpx, aCpy, aCr, aPx, aPy, aR, aCtx, aCls, aHd, aSz, yw', aTk, aTn, aTt, ts', fl', ot', yVl, yFx, yFy, yFk, yFp, yKl) → wpY_checkDef post (nI dl, nI cl, nI pl, nI nc, nI nd, fCK, fED, yEp, yAt, fH, fO, fAX, fAY, fLV, fRS, fLT, ySp, yDp, yEn, fNK, yRk, aSup, aCpx, aCpy, aCr, aPx, aPy, aR, aCtx, aCls, aHd, aSz, yWd, aTk, aTn, aTt, aTs, aFl, aOt, yVl, yFx, yFy, yFk, yFp, yKl) (nI d)) := by
  have H : (sr_H nc nd aSup aIns aCls aHd aCtx) := S.1
  have h12 : nd ≤ 12 := H.2.1
  have h4 : nc ≤ 4 := H.1
  have vd := vp_in_nI (n := d) (N := 12) (by omega) (by decide)
  have cd := nI_clamp (n := d) (by omega)
  obtain ⟨r, EP, h', o', ts', fl', ot', el', ok', tj', wd', yw', F, X, Y⟩ := ch_w (yEp := yEp) (dl := dl) (cl := cl) (pl := pl) (fCK := fCK) (fED := fED) (fH := fH) (fO := fO) (fHP := fHP) (fNK := fNK) (fRC := fRC) (fTD := fTD) (fTT := fTT) (fAX := fAX) (fAY := fAY) (fRS := fRS) (fLV := fLV) (fLT := fLT) (fDP := fDP) (fEN := fEN) (fAN := fAN) (aWd := aWd) (aTt := aTt) (aTj := aTj) (aTs := aTs) (aFl := aFl) (aEl := aEl) (aOt := aOt) (aOk := aOk) (aKd := aKd) (aKt := aKt) (aCal := aCal) (aFd := aFd) (aFt := aFt) (aFc := aFc) (aFp := aFp) (aFh := aFh) (aFx := aFx) (aFy := aFy) (aVl := aVl) (ySp := ySp) (yDp := yDp) (yEn := yEn) (yRk := yRk) (yWd := yWd) (yVl := yVl) (yFx := yFx) (yFy := yFy) (yFk := yFk) (yFp := yFp) (yKl := yKl) S hd
  rcases H.2.2.2.2.1 d hd with ⟨z1, z2⟩ | ⟨c, q, q1, q2, q3, q4, q5, _⟩
  · refine ⟨r, EP, nI h', nI o', ts', fl', ot', el', ok', tj', wd', yw', fun z => ⟨(F z).1, (F z).2.1, (F z).2.2, fun c h hc _ e => absurd (z1.symm.trans e).symm (sr_ne (by omega))⟩, fun post hp => ?_, fun post hp => ?_⟩
    · unfold wpX_checkDefinition wpX_superclassesHold
      dsimp only
      refine ⟨vd, nm_r (e' := -1) (by rw [cd, z1]) (br_t rfl (br_f (by decide) ⟨vd, ?_⟩))⟩
      exact X post hp
    · unfold wpY_checkDef
      dsimp only
      refine ⟨vd, br_t (by rw [cd, z2]) (Y post hp)⟩
  · obtain ⟨lo, eo, o1, o2, o3, o4, o5, o6⟩ := ch_o q2
    have cx := mk_ctx H hd
    have sx := mk_sup H q1
    have vc := vp_in_nI (n := c) (N := 4) (by omega) (by decide)
    have cc := nI_clamp (n := c) (by omega)
    have XP : ∀ post : Int32 → SX → Prop, (mk_H aIns aCtx aSup (mk_v (aCtx d)) (mk_v (aSup c)) lo eo → ∀ wd, wd = upd aWd (nI d).toNatClampNeg 0 → vp_in (nI d) 12 ∧ wpX_widen (fun u => match u with | (fDL, fCL, fPL, fNC, fND, fCK, fED, fEP, fH, fO, fHP, fNK, fRC, fTD, fTT, fAX, fAY, fRS, fLV, fLT, fDP, fEN, fAN, aSup, aCpx, aCpy, aCr, aIns, aCls, aHd, aCtx, aPx, aPy, aR, aSz, aWd, aTk, aTn, aTt, aTj, aTs, aFl, aEl, aOt, aOk, aKd, aKt, aCal, aFd, aFt, aFc, aFp, aFh, aFx, aFy, aVl) => (vp_in (nI d) 12 ∧ (wpX_widen (fun u => match u with | (fDL, fCL, fPL, fNC, fND, fCK, fED, fEP, fH, fO, fHP, fNK, fRC, fTD, fTT, fAX, fAY, fRS, fLV, fLT, fDP, fEN, fAN, aSup, aCpx, aCpy, aCr, aIns, aCls, aHd, aCtx, aPx, aPy, aR, aSz, aWd, aTk, aTn, aTt, aTj, aTs, aFl, aEl, aOt, aOk, aKd, aKt, aCal, aFd, aFt, aFc, aFp, aFh, aFx, aFy, aVl) => (vp_in (nI d) 12 ∧ (wpX_widen (fun u => match u with | (fDL, fCL, fPL, fNC, fND, fCK, fED, fEP, fH, fO, fHP, fNK, fRC, fTD, fTT, fAX, fAY, fRS, fLV, fLT, fDP, fEN, fAN, aSup, aCpx, aCpy, aCr, aIns, aCls, aHd, aCtx, aPx, aPy, aR, aSz, aWd, aTk, aTn, aTt, aTj, aTs, aFl, aEl, aOt, aOk, aKd, aKt, aCal, aFd, aFt, aFc, aFp, aFh, aFx, aFy, aVl) => (vp_in (nI d) 12 ∧ (∀ x2, x2 = aSz (nI d).toNatClampNeg → (∃ n75 : Nat, wX_checkDefinition_75 post (nI d) x2 n75 0 fDL fCL fPL fNC fND fCK fED fEP fH fO fHP fNK fRC fTD fTT fAX fAY fRS fLV fLT fDP fEN fAN aSup aCpx aCpy aCr aIns aCls aHd aCtx aPx aPy aR aSz aWd aTk aTn aTt aTj aTs aFl aEl aOt aOk aKd aKt aCal aFd aFt aFc aFp aFh aFx aFy aVl)))) (fDL, fCL, fPL, fNC, fND, fCK, fED, fEP, fH, fO, fHP, fNK, fRC, fTD, fTT, fAX, fAY, fRS, fLV, fLT, fDP, fEN, fAN, aSup, aCpx, aCpy, aCr, aIns, aCls, aHd, aCtx, aPx, aPy, aR, aSz, aWd, aTk, aTn, aTt, aTj, aTs, aFl, aEl, aOt, aOk, aKd, aKt, aCal, aFd, aFt, aFc, aFp, aFh, aFx, aFy, aVl) (nI d) (aR (nI d).toNatClampNeg)))) (fDL, fCL, fPL, fNC, fND, fCK, fED, fEP, fH, fO, fHP, fNK, fRC, fTD, fTT, fAX, fAY, fRS, fLV, fLT, fDP, fEN, fAN, aSup, aCpx, aCpy, aCr, aIns, aCls, aHd, aCtx, aPx, aPy, aR, aSz, aWd, aTk, aTn, aTt, aTj, aTs, aFl, aEl, aOt, aOk, aKd, aKt, aCal, aFd, aFt, aFc, aFp, aFh, aFx, aFy, aVl) (nI d) (aPy (nI d).toNatClampNeg)))) (nI dl, nI cl, nI pl, nI nc, nI nd, fCK, fED, -1, 0, 0, fHP, fNK, fRC, fTD, fTT, fAX, fAY, fRS, fLV, fLT, fDP, fEN, fAN, aSup, aCpx, aCpy, aCr, aIns, aCls, aHd, aCtx, aPx, aPy, aR, aSz, wd, aTk, aTn, aTt, aTj, aTs, aFl, aEl, aOt, aOk, aKd, aKt, aCal, aFd, aFt, aFc, aFp, aFh, aFx, aFy, aVl) (nI d) (aPx (nI d).toNatClampNeg)) → (¬ mk_H aIns aCtx aSup (mk_v (aCtx d)) (mk_v (aSup c)) lo eo → post 11 (nI dl, nI cl, nI pl, nI nc, nI nd, fCK, fED, -1, fH, fO, fHP, fNK, fRC, fTD, fTT, fAX, fAY, fRS, fLV, fLT, fDP, fEN, fAN, aSup, aCpx, aCpy, aCr, aIns, aCls, aHd, aCtx, aPx, aPy, aR, aSz, aWd, aTk, aTn, aTt, aTj, aTs, aFl, aEl, aOt, aOk, aKd, aKt, aCal, aFd, aFt, aFc, aFp, aFh, aFx, aFy, aVl)) → wpX_checkDefinition post (nI dl, nI cl, nI pl, nI nc, nI nd, fCK, fED, fEP, fH, fO, fHP, fNK, fRC, fTD, fTT, fAX, fAY, fRS, fLV, fLT, fDP, fEN, fAN, aSup, aCpx, aCpy, aCr, aIns, aCls, aHd, aCtx, aPx, aPy, aR, aSz, aWd, aTk, aTn, aTt, aTj, aTs, aFl, aEl, aOt, aOk, aKd, aKt, aCal, aFd, aFt, aFc, aFp, aFh, aFx, aFy, aVl) (nI d) := by
      intro post p1 p0
      unfold wpX_checkDefinition wpX_superclassesHold
      dsimp only
      refine ⟨vd, nm_r (e' := nI c) (by rw [cd, q3]) (br_f (sr_ne (by omega)) ⟨vd, ?_⟩)⟩
      rw [show aHd (nI d).toNatClampNeg = nI q by rw [cd, q4]]
      refine ai_ow _ q2 ⟨vd, vc, ?_⟩
      rw [show aCtx (nI d).toNatClampNeg = nI (mk_v (aCtx d)) by rw [cd]; exact cx.1, show aSup (nI c).toNatClampNeg = nI (mk_v (aSup c)) by rw [cc]; exact sx.1, o1]
      exact wh_X H cx.2 sx.2 o2 o3 (by omega) (fun z => ⟨narrow_b1, br_f (by decide) ⟨vd, p1 z⟩⟩) (fun z => ⟨narrow_b0, br_t rfl (p0 z)⟩)
    have YP : ∀ post : Int32 → SY → Prop, (mk_H aIns aCtx aSup (mk_v (aCtx d)) (mk_v (aSup c)) lo eo → wY_checkDef_54 post (nI d) (nI dl) (nI cl) (nI pl) (nI nc) (nI nd) fCK fED yEp (-1) fH fO fAX fAY fLV fRS fLT ySp yDp yEn fNK yRk aSup aCpx aCpy aCr aPx aPy aR aCtx aCls aHd aSz yWd aTk aTn aTt aTs aFl aOt yVl yFx yFy yFk yFp yKl) → (¬ mk_H aIns aCtx aSup (mk_v (aCtx d)) (mk_v (aSup c)) lo eo → post 11 (nI dl, nI cl, nI pl, nI nc, nI nd, fCK, fED, yEp, -1, fH, fO, fAX, fAY, fLV, fRS, fLT, ySp, yDp, yEn, fNK, yRk, aSup, aCpx, aCpy, aCr, aPx, aPy, aR, aCtx, aCls, aHd, aSz, yWd, aTk, aTn, aTt, aTs, aFl, aOt, yVl, yFx, yFy, yFk, yFp, yKl)) → wpY_checkDef post (nI dl, nI cl, nI pl, nI nc, nI nd, fCK, fED, yEp, yAt, fH, fO, fAX, fAY, fLV, fRS, fLT, ySp, yDp, yEn, fNK, yRk, aSup, aCpx, aCpy, aCr, aPx, aPy, aR, aCtx, aCls, aHd, aSz, yWd, aTk, aTn, aTt, aTs, aFl, aOt, yVl, yFx, yFy, yFk, yFp, yKl) (nI d) := by
      intro post p1 p0
      unfold wpY_checkDef
      dsimp only
      refine ⟨vd, br_f (by rw [cd, q4]; exact sr_ne (by omega)) ⟨vd, ?_⟩⟩
      rw [show aHd (nI d).toNatClampNeg = nI q by rw [cd, q4], show aCls (nI d).toNatClampNeg = nI c by rw [cd, q3], show aCtx (nI d).toNatClampNeg = nI (mk_v (aCtx d)) by rw [cd]; exact cx.1, show aSup (nI c).toNatClampNeg = nI (mk_v (aSup c)) by rw [cc]; exact sx.1]
      refine ai_oy _ q2 ⟨vd, vd, vc, ?_⟩
      rw [o1]
      exact wh_Y H cx.2 sx.2 o2 o3 (by omega) (fun z => br_f (by decide) (p1 z)) (fun z => br_t rfl (p0 z))
    by_cases hH : mk_H aIns aCtx aSup (mk_v (aCtx d)) (mk_v (aSup c)) lo eo
    · refine ⟨r, EP, nI h', nI o', ts', fl', ot', el', ok', tj', wd', yw', fun z => ⟨(F z).1, (F z).2.1, (F z).2.2, ?_⟩, fun post hp => XP post (fun _ => X post hp) (fun z => absurd hH z), fun post hp => YP post (fun _ => Y post hp) (fun z => absurd hH z)⟩
      intro c' h hc' hh e1 e2
      have r1 : c' = c := (nI_eq (by omega) (by omega)).mp (e1.symm.trans q3)
      have r2 : h = q := (nI_eq (by omega) (by omega)).mp (e2.symm.trans q4)
      subst r1 r2
      refine ⟨fun z => ?_, fun b z => ?_⟩
      · obtain ⟨rfl, rfl⟩ := o5 z
        exact hH
      · obtain ⟨rfl, rfl⟩ := o6 b z
        exact hH
    · exact ⟨11, -1, fH, fO, aTs, aFl, aOt, aEl, aOk, aTj, aWd, yWd, fun z => absurd z (by decide), fun post hp => XP post (fun z => absurd z hH) (fun _ => hp), fun post hp => YP post (fun z => absurd z hH) (fun _ => hp)⟩
end
section
variable {dl cl pl nc nd : Nat} {fCK fED fEP fH fO fHP fNK fRC fTD fTT : Int32} {fAX fAY : Int64} {fRS : Int32} {fLV : Int64} {fLT fDP fEN : Int32} {fAN : Int64} {aSup aCpx aCpy aCr aIns aCls aHd aCtx aPx aPy aR aSz aWd aTk aTn aTt aTj aTs aFl aEl aOt aOk aKd aKt aCal aFd aFt aFc aFp aFh : Nat → Int32} {aFx aFy aVl : Nat → Int64} {yAt ySp yDp yEn yRk : Int32} {yWd : Nat → Int32} {yVl yFx yFy : Nat → Int64} {yFk yFp yKl : Nat → Int32}
/-- all definitions from d on -/
theorem ch_lp (S : (sr nc nd aSup aCpx aCpy aCr aIns aCls aHd aCtx aPx aPy aR aSz aTk aTn)) : ∀ (m d : Nat) (fEP fH fO yAt : Int32) (aTs aFl aOt aEl aOk aTj aWd yWd : Nat → Int32), d + m = nd → (∀ x, x < d → (∃ W, W ≤ 6 ∧ aWd x = nI W ∧ yWd x = nI W ∧ wt_W nc nd aSup aCpx aCpy aCr aIns aCls aHd aCtx aPx aPy aR aSz aTk aTn aTt aTj x W) ∧ ch_S nc aSup aIns aCls aHd aCtx x) → ∃ (r ck' ED EP H' O' yA' : Int32) (ts' fl' ot' el' ok' tj' wd' yw' : Nat → Int32), ((r = 0 ∧ ck' = 1 ∧ (ck nc nd aSup aCpx aCpy aCr aIns aCls aHd aCtx aPx aPy aR aSz wd' yw' aTk aTn aTt tj')) ∨ (ck' = 0)) ∧ (∀ post : Int32 → SX → Prop, post r (nI dl, nI cl, nI pl, nI nc, nI nd, ck', ED, EP, H', O', fHP, fNK, fRC, fTD, fTT, fAX, fAY, fRS, fLV, fLT, fDP, fEN, fAN, aSup, aCpx, aCpy, aCr, aIns, aCls, aHd, aCtx, aPx, aPy, aR, aSz, wd', aTk, aTn, aTt, tj', ts', fl', el', ot', ok', aKd, aKt, aCal, aFd, aFt, aFc, aFp, aFh, aFx, aFy, aVl) → wX_check_31 post (m + 1) (nI d) (nI dl) (nI cl) (nI pl) (nI nc) (nI nd) 0 (-1) fEP fH fO fHP fNK fRC fTD fTT fAX fAY fRS fLV fLT fDP fEN fAN aSup aCpx aCpy aCr aIns aCls aHd aCtx aPx aPy aR aSz aWd aTk aTn aTt aTj aTs aFl aEl aOt aOk aKd aKt aCal aFd aFt aFc aFp aFh aFx aFy aVl) ∧ (∀ post : Int32 → SY → Prop, post r (nI dl, nI cl, nI pl, nI nc, nI nd, ck', ED, EP, yA', H', O', fAX, fAY, fLV, fRS, fLT, ySp, yDp, yEn, fNK, yRk, aSup, aCpx, aCpy, aCr, aPx, aPy, aR, aCtx, aCls, aHd, aSz, yw', aTk, aTn, aTt, ts', fl', ot', yVl, yFx, yFy, yFk, yFp, yKl) → wY_check_31 post (m + 1) (nI d) (nI dl) (nI cl) (nI pl) (nI nc) (nI nd) 0 (-1) (-1) yAt fH fO fAX fAY fLV fRS fLT ySp yDp yEn fNK yRk aSup aCpx aCpy aCr aPx aPy aR aCtx aCls aHd aSz yWd aTk aTn aTt aTs aFl aOt yVl yFx yFy yFk yFp yKl) := by
  have H : (sr_H nc nd aSup aIns aCls aHd aCtx) := S.1
  have h12 : nd ≤ 12 := H.2.1
  intro m
  induction m with
  | zero =>
    intro d fEP fH fO yAt aTs aFl aOt aEl aOk aTj aWd yWd hdm D
    have e : d = nd := by omega
    subst e
    have ii : nI d ≤ nI d := nI_le (Nat.le_refl _) (by omega)
    refine ⟨0, 1, -1, -1, fH, fO, yAt, aTs, aFl, aOt, aEl, aOk, aTj, aWd, yWd, Or.inl ⟨rfl, rfl, ?_, fun x hx => (D x hx).1⟩, fun post hp => br_t ii hp, fun post hp => br_t ii hp⟩
    intro x c h hx hc e1 e2 _
    rcases H.2.2.2.2.1 x hx with ⟨z, _⟩ | ⟨_, h', _, q2, _, q4, _⟩
    · exact absurd (e1.symm.trans z) (sr_ne (by have := H.1; omega))
    · have hh : h < 8 ∨ ¬ h < 8 := by omega
      rcases hh with hh | hh
      · exact (D x hx).2 c h hc hh e1 e2
      · refine ⟨fun z => by omega, fun b z => ?_⟩
        have := ty_h45 b
        omega
  | succ m ih =>
    intro d fEP fH fO yAt aTs aFl aOt aEl aOk aTj aWd yWd hdm D
    have hin : ¬ nI nd ≤ nI d := nI_ge (by omega) (by omega)
    obtain ⟨r, EP, H', O', ts', fl', ot', el', ok', tj', wd', yw', F, X, Y⟩ := ch_d (d := d) (yEp := -1) (dl := dl) (cl := cl) (pl := pl) (fCK := 0) (fED := -1) (fEP := fEP) (fH := fH) (fO := fO) (fHP := fHP) (fNK := fNK) (fRC := fRC) (fTD := fTD) (fTT := fTT) (fAX := fAX) (fAY := fAY) (fRS := fRS) (fLV := fLV) (fLT := fLT) (fDP := fDP) (fEN := fEN) (fAN := fAN) (aWd := aWd) (aTt := aTt) (aTj := aTj) (aTs := aTs) (aFl := aFl) (aEl := aEl) (aOt := aOt) (aOk := aOk) (aKd := aKd) (aKt := aKt) (aCal := aCal) (aFd := aFd) (aFt := aFt) (aFc := aFc) (aFp := aFp) (aFh := aFh) (aFx := aFx) (aFy := aFy) (aVl := aVl) (yAt := yAt) (ySp := ySp) (yDp := yDp) (yEn := yEn) (yRk := yRk) (yWd := yWd) (yVl := yVl) (yFx := yFx) (yFy := yFy) (yFk := yFk) (yFp := yFp) (yKl := yKl) S (by omega)
    by_cases hr : r = 0
    · subst hr
      obtain ⟨F1, F2, F3, F4⟩ := F rfl
      obtain ⟨r, ck', ED, EP2, H2, O2, yA', ts2, fl2, ot2, el2, ok2, tj2, wd2, yw2, G, X2, Y2⟩ := ih (d + 1) EP H' O' EP ts' fl' ot' el' ok' tj' wd' yw' (by omega) (by
        intro x hx
        by_cases e : x = d
        · subst e
          exact ⟨F1, F4⟩
        · obtain ⟨⟨W, W6, e1, e2, w⟩, sc⟩ := D x (by omega)
          obtain ⟨n, n20, en, _⟩ := S.2.2.2 x (by omega)
          refine ⟨⟨W, W6, by rw [(F2 x e).1]; exact e1, by rw [(F2 x e).2]; exact e2, ch_tj (by rw [en, mk_vn (by omega)]; exact n20) (fun q hq => F3 _ (by omega)) w⟩, sc⟩)
      exact ⟨r, ck', ED, EP2, H2, O2, yA', ts2, fl2, ot2, el2, ok2, tj2, wd2, yw2, G, fun post hp => br_f hin (X _ (br_t rfl (nm_r (nI_1 d) (X2 post hp)))), fun post hp => br_f hin (Y _ (br_t rfl (nm_r (nI_1 d) (Y2 post hp))))⟩
    · exact ⟨r, 0, nI d, EP, H', O', EP, ts', fl', ot', el', ok', tj', wd', yw', Or.inr rfl, fun post hp => br_f hin (X _ (br_f hr hp)), fun post hp => br_f hin (Y _ (br_f hr hp))⟩
end
theorem i_vc_check {k : Nat} {u : SX} {v : SY} (I : i_Rel k u v) (hk : k + 5 ≤ 2563) : wpX_check (fun r u' => wpY_check (fun r' v' => r' = r ∧ i_Rel (k + 5) u' v') v) u := by
  refine rl_el (P := fun u v => wpX_check (fun r u' => wpY_check (fun r' v' => r' = r ∧ i_Rel (k + 5) u' v') v) u) ?_ I
  intro dl cl pl nc nd fCK fED fEP fH fO fHP fNK fRC fTD fTT fAX fAY fRS fLV fLT fDP fEN fAN aSup aCpx aCpy aCr aIns aCls aHd aCtx aPx aPy aR aSz aWd aTk aTn aTt aTj aTs aFl aEl aOt aOk aKd aKt aCal aFd aFt aFc aFp aFh aFx aFy aVl yAt ySp yDp yEn yRk yWd yVl yFx yFy yFk yFp yKl R
  have H : (sr_H nc nd aSup aIns aCls aHd aCtx) := R.2.1.1
  have h12 : nd ≤ 12 := H.2.1
  rcases R.2.2.1 with c0 | c1
  · subst c0
    have NP : fHP = 0 ∧ fNK = 0 := by
      rcases R.2.2.2.2 with z | ⟨_, z, _⟩
      · exact z
      · exact absurd z (by decide)
    obtain ⟨n1, n2⟩ := NP
    subst n1 n2
    refine br_t rfl ?_
    by_cases hn : nd = 0
    · subst hn
      exact br_t rfl (br_t rfl (br_t rfl ⟨rfl, rl_in (rl_c R.1 R.2.1)⟩))
    · have n0 : ¬ nI nd = 0 := nI_ne0 (by omega) (by omega)
      obtain ⟨r, ck', ED, EP, H', O', yA', ts', fl', ot', el', ok', tj', wd', yw', G, X, Y⟩ := ch_lp (dl := dl) (cl := cl) (pl := pl) (fHP := 0) (fNK := 0) (fRC := fRC) (fTD := fTD) (fTT := fTT) (fAX := fAX) (fAY := fAY) (fRS := fRS) (fLV := fLV) (fLT := fLT) (fDP := fDP) (fEN := fEN) (fAN := fAN) (aTt := aTt) (aKd := aKd) (aKt := aKt) (aCal := aCal) (aFd := aFd) (aFt := aFt) (aFc := aFc) (aFp := aFp) (aFh := aFh) (aFx := aFx) (aFy := aFy) (aVl := aVl) (ySp := ySp) (yDp := yDp) (yEn := yEn) (yRk := yRk) (yVl := yVl) (yFx := yFx) (yFy := yFy) (yFk := yFk) (yFp := yFp) (yKl := yKl) R.2.1 nd 0 (-1) fH fO yAt aTs aFl aOt aEl aOk aTj aWd yWd (by omega) (fun x hx => absurd hx (by omega))
      refine br_f n0 (Exists.intro (nd + 1) (X _ ?_))
      refine br_t rfl (br_f n0 (Exists.intro (nd + 1) (Y _ ⟨rfl, ?_⟩)))
      rcases G with ⟨_, g2, g3⟩ | g2
      · subst g2
        exact rl_in ⟨R.1, R.2.1, Or.inr rfl, fun _ => g3, Or.inl ⟨rfl, rfl⟩⟩
      · subst g2
        exact rl_in (rl_c R.1 R.2.1)
  · subst c1
    exact br_f (by decide) (br_f (by decide) ⟨rfl, rl_in R⟩)
end
section
/-! 23: ground types, dictionary, judgeRoot against refusal -/
theorem gt_d (t : Int32) : (∃ (l : List Bool) (e : Nat), 1 ≤ e ∧ e ≤ 2 ∧ l.length ≤ 6 ∧ t = nI (ty_e l e)) ∨ (∃ l : List Bool, l.length ≤ 6 ∧ t = nI (ty_e l 3)) ∨ ¬ ty_T 6 t := by
  by_cases h : ty_T 6 t
  · obtain ⟨l, e, a, b, c, rfl⟩ := h
    by_cases z : e = 3
    · subst z
      exact Or.inr (Or.inl ⟨l, c, rfl⟩)
    · exact Or.inl ⟨l, e, a, by omega, c, rfl⟩
  · exact Or.inr (Or.inr h)
section
variable {post : Int32 → Prop}
theorem gt_X1 (u : SX) {l : List Bool} {e : Nat} (h1 : 1 ≤ e) (h2 : e ≤ 2) (hl : l.length ≤ 6) (hp : post 1) : wpX_isGroundType post u (nI (ty_e l e)) := by
  refine tx_i (P := fun u => wpX_isGroundType post u (nI (ty_e l e))) (fun fDL fCL fPL fNC fND fCK fED fEP fH fO fHP fNK fRC fTD fTT fAX fAY fRS fLV fLT fDP fEN fAN aSup aCpx aCpy aCr aIns aCls aHd aCtx aPx aPy aR aSz aWd aTk aTn aTt aTj aTs aFl aEl aOt aOk aKd aKt aCal aFd aFt aFc aFp aFh aFx aFy aVl => ?_) u
  unfold wpX_isGroundType
  dsimp only
  exact sm_itT _ ⟨l, e, h1, by omega, hl, rfl⟩ (br_f (by decide) (tx_var _ h1 (by omega) hl (fun z => by omega) (fun _ => br_t rfl hp)))
theorem gt_X2 (u : SX) {l : List Bool} (hl : l.length ≤ 6) (hp : post 0) : wpX_isGroundType post u (nI (ty_e l 3)) := by
  refine tx_i (P := fun u => wpX_isGroundType post u (nI (ty_e l 3))) (fun fDL fCL fPL fNC fND fCK fED fEP fH fO fHP fNK fRC fTD fTT fAX fAY fRS fLV fLT fDP fEN fAN aSup aCpx aCpy aCr aIns aCls aHd aCtx aPx aPy aR aSz aWd aTk aTn aTt aTj aTs aFl aEl aOt aOk aKd aKt aCal aFd aFt aFc aFp aFh aFx aFy aVl => ?_) u
  unfold wpX_isGroundType
  dsimp only
  exact sm_itT _ ⟨l, 3, by omega, by omega, hl, rfl⟩ (br_f (by decide) (tx_var _ (by omega) (by omega) hl (fun _ => br_f (by decide) hp) (fun z => absurd rfl z)))
theorem gt_X3 (u : SX) {t : Int32} (h : ¬ ty_T 6 t) (hp : post 0) : wpX_isGroundType post u t := by
  refine tx_i (P := fun u => wpX_isGroundType post u t) (fun fDL fCL fPL fNC fND fCK fED fEP fH fO fHP fNK fRC fTD fTT fAX fAY fRS fLV fLT fDP fEN fAN aSup aCpx aCpy aCr aIns aCls aHd aCtx aPx aPy aR aSz aWd aTk aTn aTt aTj aTs aFl aEl aOt aOk aKd aKt aCal aFd aFt aFc aFp aFh aFx aFy aVl => ?_) u
  unfold wpX_isGroundType
  dsimp only
  exact sm_itN _ h (br_t rfl hp)
end
section
variable {dl cl pl nc nd : Nat} {fCK fED fEP fH fO fHP fNK fRC fTD fTT : Int32} {fAX fAY : Int64} {fRS : Int32} {fLV : Int64} {fLT fDP fEN : Int32} {fAN : Int64} {aSup aCpx aCpy aCr aIns aCls aHd aCtx aPx aPy aR aSz aWd aTk aTn aTt aTj aTs aFl aEl aOt aOk aKd aKt aCal aFd aFt aFc aFp aFh : Nat → Int32} {aFx aFy aVl : Nat → Int64} {yAt ySp yDp yEn yRk : Int32} {yWd : Nat → Int32} {yVl yFx yFy : Nat → Int64} {yFk yFp yKl : Nat → Int32}
theorem di_lp (H : (sr_H nc nd aSup aIns aCls aHd aCtx)) (S : mk_S nc nd aSup aIns aCls aHd aCtx) {e lev : Nat} (h1 : 1 ≤ e) (h2 : e ≤ 2) (lv : lev ≤ 6) : ∀ (l : List Bool) (w i : Nat), l.length ≤ 6 → lev ≤ i + l.length → i ≤ lev → w < 2 ^ nc → mk_H aIns aCtx aSup 0 w l e → ∃ m : Int32, (∀ (post : Int32 → Prop) (n : Nat), lev - i < n → post m → wX_dictionary_80 post (nI lev) (nI dl) (nI cl) (nI pl) (nI nc) (nI nd) fCK fED fEP fH fO fHP fNK fRC fTD fTT fAX fAY fRS fLV fLT fDP fEN fAN aSup aCpx aCpy aCr aIns aCls aHd aCtx aPx aPy aR aSz aWd aTk aTn aTt aTj aTs aFl aEl aOt aOk aKd aKt aCal aFd aFt aFc aFp aFh aFx aFy aVl n (nI w) (nI (ty_e l e)) (nI i)) ∧ (∀ (post : Int32 → Prop) (n : Nat), lev - i < n → post m → wY_dictionary_90 post (nI lev) (nI dl) (nI cl) (nI pl) (nI nc) (nI nd) fCK fED fEP yAt fH fO fAX fAY fLV fRS fLT ySp yDp yEn fNK yRk aSup aCpx aCpy aCr aPx aPy aR aCtx aCls aHd aSz yWd aTk aTn aTt aTs aFl aOt yVl yFx yFy yFk yFp yKl n (nI w) (nI (ty_e l e)) (nI i)) := by
  have h4 := H.1
  intro l
  induction l with
  | nil =>
    intro w i l6 hl hi hw hH
    rw [List.length_nil] at hl
    have e : i = lev := by omega
    subst e
    refine ⟨nI w, fun post n hn hp => ?_, fun post n hn hp => ?_⟩
    · obtain ⟨k, rfl⟩ : ∃ k, n = k + 1 := ⟨n - 1, by omega⟩
      exact br_t (nI_le (Nat.le_refl _) (by omega)) hp
    · obtain ⟨k, rfl⟩ : ∃ k, n = k + 1 := ⟨n - 1, by omega⟩
      exact br_t (nI_le (Nat.le_refl _) (by omega)) hp
  | cons b l ih =>
    intro w i l6 hl hi hw hH
    rw [tx_ln] at l6 hl
    by_cases el : i = lev
    · subst el
      refine ⟨nI w, fun post n hn hp => ?_, fun post n hn hp => ?_⟩
      · obtain ⟨k, rfl⟩ : ∃ k, n = k + 1 := ⟨n - 1, by omega⟩
        exact br_t (nI_le (Nat.le_refl _) (by omega)) hp
      · obtain ⟨k, rfl⟩ : ∃ k, n = k + 1 := ⟨n - 1, by omega⟩
        exact br_t (nI_le (Nat.le_refl _) (by omega)) hp
    · have hb : ty_e (b :: l) e < 2 ^ 31 := by
        have := ty_e21 (l := b :: l) (e := e) (by rw [tx_ln]; omega) (by omega)
        omega
      have h45 := ty_h45 b
      obtain ⟨q1, q2⟩ := (mk_Hc hw).mp hH
      have U := mk_un_lt H (m := w) (h := ty_h b) (by omega) nc h4
      have q3 := mk_cl0 H S (k := 4) h1 h2 U q2
      obtain ⟨m, X, Y⟩ := ih (mk_cl aSup 4 (mk_un aIns aCtx w (ty_h b) nc)) (i + 1) (by omega) (by omega) (by omega) (mk_cl_lt H 4 _ U) q3
      have li : ¬ nI lev ≤ nI i := nI_ge (by omega) (by omega)
      refine ⟨m, fun post n hn hp => ?_, fun post n hn hp => ?_⟩
      · obtain ⟨k, rfl⟩ : ∃ k, n = k + 1 := ⟨n - 1, by omega⟩
        refine br_f li ⟨ty_8, ?_⟩
        rw [ty_cr hb]
        exact wh_xo H hw (by omega) (wh_xc H U ⟨ty_8, nm_r (ty_cd hb) (nm_r (nI_1 i) (X post k (by omega) hp))⟩)
      · obtain ⟨k, rfl⟩ : ∃ k, n = k + 1 := ⟨n - 1, by omega⟩
        refine br_f li ⟨ty_8, ?_⟩
        rw [ty_cr hb]
        exact wh_yo H hw (by omega) (fun _ => wh_yc H U ⟨ty_8, nm_r (ty_cd hb) (nm_r (nI_1 i) (Y post k (by omega) hp))⟩) (fun ⟨j, z1, z2⟩ => absurd z2 (q1 j z1))
/-- the two judge a root alike -/
theorem jr_l (S : (sr nc nd aSup aCpx aCpy aCr aIns aCls aHd aCtx aPx aPy aR aSz aTk aTn)) (hC : fCK = 0 ∨ fCK = 1) (v1 v2 : Int32) : (∃ c : Int32, ¬ c = 0 ∧ (∀ post : Int32 → Prop, post c → wpX_judgeRoot post (nI dl, nI cl, nI pl, nI nc, nI nd, fCK, fED, fEP, fH, fO, fHP, fNK, fRC, fTD, fTT, fAX, fAY, fRS, fLV, fLT, fDP, fEN, fAN, aSup, aCpx, aCpy, aCr, aIns, aCls, aHd, aCtx, aPx, aPy, aR, aSz, aWd, aTk, aTn, aTt, aTj, aTs, aFl, aEl, aOt, aOk, aKd, aKt, aCal, aFd, aFt, aFc, aFp, aFh, aFx, aFy, aVl) v1 v2) ∧ (∀ post : Int32 → Prop, post c → wpY_refusal post (nI dl, nI cl, nI pl, nI nc, nI nd, fCK, fED, fEP, yAt, fH, fO, fAX, fAY, fLV, fRS, fLT, ySp, yDp, yEn, fNK, yRk, aSup, aCpx, aCpy, aCr, aPx, aPy, aR, aCtx, aCls, aHd, aSz, yWd, aTk, aTn, aTt, aTs, aFl, aOt, yVl, yFx, yFy, yFk, yFp, yKl) v1 v2)) ∨ (∃ (f : Nat) (l : List Bool) (e : Nat), f < nd ∧ v1 = nI f ∧ aCls f = -1 ∧ 1 ≤ e ∧ e ≤ 2 ∧ l.length ≤ 6 ∧ v2 = nI (ty_e l e) ∧ mk_H aIns aCtx aSup 0 (mk_v (aCtx f)) l e ∧ fCK = 1 ∧ (∀ post : Int32 → Prop, post 0 → wpX_judgeRoot post (nI dl, nI cl, nI pl, nI nc, nI nd, fCK, fED, fEP, fH, fO, fHP, fNK, fRC, fTD, fTT, fAX, fAY, fRS, fLV, fLT, fDP, fEN, fAN, aSup, aCpx, aCpy, aCr, aIns, aCls, aHd, aCtx, aPx, aPy, aR, aSz, aWd, aTk, aTn, aTt, aTj, aTs, aFl, aEl, aOt, aOk, aKd, aKt, aCal, aFd, aFt, aFc, aFp, aFh, aFx, aFy, aVl) v1 v2) ∧ (∀ post : Int32 → Prop, post 0 → wpY_refusal post (nI dl, nI cl, nI pl, nI nc, nI nd, fCK, fED, fEP, yAt, fH, fO, fAX, fAY, fLV, fRS, fLT, ySp, yDp, yEn, fNK, yRk, aSup, aCpx, aCpy, aCr, aPx, aPy, aR, aCtx, aCls, aHd, aSz, yWd, aTk, aTn, aTt, aTs, aFl, aOt, yVl, yFx, yFy, yFk, yFp, yKl) v1 v2)) := by
  have H : (sr_H nc nd aSup aIns aCls aHd aCtx) := S.1
  have h12 : nd ≤ 12 := H.2.1
  have h4 : nc ≤ 4 := H.1
  rcases hC with rfl | rfl
  · exact Or.inl ⟨-7, by decide, fun post hp => br_t rfl hp, fun post hp => br_t rfl hp⟩
  · rcases pk_ix v1 (n := nd) (by omega) with z | z | ⟨f, hf, rfl⟩
    · exact Or.inl ⟨-1, by decide, fun post hp => br_f (by decide) (br_t z (br_t rfl hp)), fun post hp => br_f (by decide) (br_t z hp)⟩
    · by_cases y : v1 < 0
      · exact Or.inl ⟨-1, by decide, fun post hp => br_f (by decide) (br_t y (br_t rfl hp)), fun post hp => br_f (by decide) (br_t y hp)⟩
      · exact Or.inl ⟨-1, by decide, fun post hp => br_f (by decide) (br_f y (br_t z (br_t rfl hp))), fun post hp => br_f (by decide) (br_f y (br_t z hp))⟩
    · have n0 : ¬ nI f < 0 := nI_pos (by omega)
      have n1 : ¬ nI nd ≤ nI f := nI_ge hf (by omega)
      have vf := vp_in_nI (n := f) (N := 12) (by omega) (by decide)
      have cf := nI_clamp (n := f) (by omega)
      have cx := mk_ctx H hf
      have E : aCls f = -1 ↔ aHd f = -1 := by
        rcases H.2.2.2.2.1 f hf with ⟨a, b⟩ | ⟨p, q, q1, q2, q3, q4, _⟩
        · rw [a, b]
        · rw [q3, q4]
          exact ⟨fun z => absurd z (sr_ne (by omega)), fun z => absurd z (sr_ne (by omega))⟩
      by_cases hc : aCls f = -1
      · have hc' : aCls (nI f).toNatClampNeg = -1 := by rw [cf]; exact hc
        have hh' : aHd (nI f).toNatClampNeg = -1 := by rw [cf]; exact E.mp hc
        rcases gt_d v2 with ⟨l, e, g1, g2, gl, rfl⟩ | ⟨l, gl, rfl⟩ | g
        · have X : ∀ post : Int32 → Prop, (mk_H aIns aCtx aSup 0 (mk_v (aCtx f)) l e → post 0) → (¬ mk_H aIns aCtx aSup 0 (mk_v (aCtx f)) l e → post (-8)) → wpX_judgeRoot post (nI dl, nI cl, nI pl, nI nc, nI nd, 1, fED, fEP, fH, fO, fHP, fNK, fRC, fTD, fTT, fAX, fAY, fRS, fLV, fLT, fDP, fEN, fAN, aSup, aCpx, aCpy, aCr, aIns, aCls, aHd, aCtx, aPx, aPy, aR, aSz, aWd, aTk, aTn, aTt, aTj, aTs, aFl, aEl, aOt, aOk, aKd, aKt, aCal, aFd, aFt, aFc, aFp, aFh, aFx, aFy, aVl) (nI f) (nI (ty_e l e)) := by
            intro post p1 p0
            refine br_f (by decide) (br_f n0 (br_f n1 ⟨vf, br_t hc' (br_f (by decide) (gt_X1 _ g1 g2 gl (br_f (by decide) ⟨vf, ?_⟩)))⟩))
            rw [show aCtx (nI f).toNatClampNeg = nI (mk_v (aCtx f)) by rw [cf]; exact cx.1]
            exact wh_X H (m := 0) (Nat.two_pow_pos nc) cx.2 g1 (by omega) gl (fun z => br_f (by decide) (p1 z)) (fun z => br_t rfl (p0 z))
          have Y : ∀ post : Int32 → Prop, (mk_H aIns aCtx aSup 0 (mk_v (aCtx f)) l e → post 0) → (¬ mk_H aIns aCtx aSup 0 (mk_v (aCtx f)) l e → post (-8)) → wpY_refusal post (nI dl, nI cl, nI pl, nI nc, nI nd, 1, fED, fEP, yAt, fH, fO, fAX, fAY, fLV, fRS, fLT, ySp, yDp, yEn, fNK, yRk, aSup, aCpx, aCpy, aCr, aPx, aPy, aR, aCtx, aCls, aHd, aSz, yWd, aTk, aTn, aTt, aTs, aFl, aOt, yVl, yFx, yFy, yFk, yFp, yKl) (nI f) (nI (ty_e l e)) := by
            intro post p1 p0
            refine br_f (by decide) (br_f n0 (br_f n1 ⟨vf, br_t hh' (sm_tuT _ (k := 6) (by omega) ⟨l, e, g1, by omega, gl, rfl⟩ (br_f (by decide) (tx_gr _ g1 (by omega) gl (fun z => by omega) (fun _ => br_f (by decide) ⟨vf, ?_⟩))))⟩))
            rw [show aCtx (nI f).toNatClampNeg = nI (mk_v (aCtx f)) by rw [cf]; exact cx.1]
            exact wh_Y H (m := 0) (Nat.two_pow_pos nc) cx.2 g1 (by omega) gl (fun z => br_f (by decide) (p1 z)) (fun z => br_t rfl (p0 z))
          by_cases hH : mk_H aIns aCtx aSup 0 (mk_v (aCtx f)) l e
          · exact Or.inr ⟨f, l, e, hf, rfl, hc, g1, g2, gl, rfl, hH, rfl, fun post hp => X post (fun _ => hp) (fun z => absurd hH z), fun post hp => Y post (fun _ => hp) (fun z => absurd hH z)⟩
          · exact Or.inl ⟨-8, by decide, fun post hp => X post (fun z => absurd z hH) (fun _ => hp), fun post hp => Y post (fun z => absurd z hH) (fun _ => hp)⟩
        · exact Or.inl ⟨-2, by decide, fun post hp => br_f (by decide) (br_f n0 (br_f n1 ⟨vf, br_t hc' (br_f (by decide) (gt_X2 _ gl (br_t rfl hp)))⟩)), fun post hp => br_f (by decide) (br_f n0 (br_f n1 ⟨vf, br_t hh' (sm_tuT _ (k := 6) (by omega) ⟨l, 3, by omega, by omega, gl, rfl⟩ (br_f (by decide) (tx_gr _ (by omega) (by omega) gl (fun _ => br_t rfl hp) (fun z => absurd rfl z))))⟩))⟩
        · exact Or.inl ⟨-2, by decide, fun post hp => br_f (by decide) (br_f n0 (br_f n1 ⟨vf, br_t hc' (br_f (by decide) (gt_X3 _ g (br_t rfl hp)))⟩)), fun post hp => br_f (by decide) (br_f n0 (br_f n1 ⟨vf, br_t hh' (sm_tuN _ (k := 6) (by omega) g (br_t rfl hp))⟩))⟩
      · have hc' : ¬ aCls (nI f).toNatClampNeg = -1 := by rw [cf]; exact hc
        have hh' : ¬ aHd (nI f).toNatClampNeg = -1 := by rw [cf]; exact fun z => hc (E.mpr z)
        exact Or.inl ⟨-1, by decide, fun post hp => br_f (by decide) (br_f n0 (br_f n1 ⟨vf, br_f hc' (br_t rfl hp)⟩)), fun post hp => br_f (by decide) (br_f n0 (br_f n1 ⟨vf, br_f hh' hp⟩))⟩
end
theorem i_vc_dictionary {k : Nat} {u : SX} {v : SY} (I : i_Rel k u v) (hk : k + 5 ≤ 2563) (v1 : Int32) (v2 : Int32) (v3 : Int32) : wpX_dictionary (fun r => wpY_dictionary (fun r' => r' = r ∧ i_Rel (k + 5) u v) v v1 v2 v3) u v1 v2 v3 := by
  refine rl_el (P := fun u v => wpX_dictionary (fun r => wpY_dictionary (fun r' => r' = r ∧ i_Rel (k + 5) u v) v v1 v2 v3) u v1 v2 v3) ?_ I
  intro dl cl pl nc nd fCK fED fEP fH fO fHP fNK fRC fTD fTT fAX fAY fRS fLV fLT fDP fEN fAN aSup aCpx aCpy aCr aIns aCls aHd aCtx aPx aPy aR aSz aWd aTk aTn aTt aTj aTs aFl aEl aOt aOk aKd aKt aCal aFd aFt aFc aFp aFh aFx aFy aVl yAt ySp yDp yEn yRk yWd yVl yFx yFy yFk yFp yKl R
  have H : (sr_H nc nd aSup aIns aCls aHd aCtx) := R.2.1.1
  have h12 : nd ≤ 12 := H.2.1
  have h4 : nc ≤ 4 := H.1
  have R' : i_Rel (k + 5) (nI dl, nI cl, nI pl, nI nc, nI nd, fCK, fED, fEP, fH, fO, fHP, fNK, fRC, fTD, fTT, fAX, fAY, fRS, fLV, fLT, fDP, fEN, fAN, aSup, aCpx, aCpy, aCr, aIns, aCls, aHd, aCtx, aPx, aPy, aR, aSz, aWd, aTk, aTn, aTt, aTj, aTs, aFl, aEl, aOt, aOk, aKd, aKt, aCal, aFd, aFt, aFc, aFp, aFh, aFx, aFy, aVl) (nI dl, nI cl, nI pl, nI nc, nI nd, fCK, fED, fEP, yAt, fH, fO, fAX, fAY, fLV, fRS, fLT, ySp, yDp, yEn, fNK, yRk, aSup, aCpx, aCpy, aCr, aPx, aPy, aR, aCtx, aCls, aHd, aSz, yWd, aTk, aTn, aTt, aTs, aFl, aOt, yVl, yFx, yFy, yFk, yFp, yKl) := rl_in R
  rcases R.2.2.1 with c0 | c1
  · exact br_t c0 (br_t c0 ⟨rfl, R'⟩)
  · have c2 : ¬ fCK = 0 := by rw [c1]; decide
    refine br_f c2 ?_
    rcases pk_ix v1 (n := nc) (by omega) with z | z | ⟨c, hc, rfl⟩
    · exact br_t z (br_t rfl (br_f c2 (br_t z ⟨rfl, R'⟩)))
    · by_cases y : v1 < 0
      · exact br_t y (br_t rfl (br_f c2 (br_t y ⟨rfl, R'⟩)))
      · exact br_f y (br_t z (br_t rfl (br_f c2 (br_f y (br_f (Int32.not_lt.mpr z) ⟨rfl, R'⟩)))))
    · have n0 : ¬ nI c < 0 := nI_pos (by omega)
      have n1 : ¬ nI nc ≤ nI c := nI_ge hc (by omega)
      have n2 : nI c < nI nc := nI_lt hc (by omega)
      have sn := mk_1 c (by omega)
      have pn := mk_p16 hc
      refine br_f n0 (br_f n1 (br_f (by decide) ?_))
      rcases gt_d v2 with ⟨l, e, g1, g2, gl, rfl⟩ | ⟨l, gl, rfl⟩ | g
      · refine gt_X1 _ g1 g2 gl (br_f (by decide) ?_)
        rw [sn]
        have Y : ∀ r : Int32, wpY_holds (fun r_98 => (r_98 = 0 → -8 = r ∧ i_Rel (k + 5) (nI dl, nI cl, nI pl, nI nc, nI nd, fCK, fED, fEP, fH, fO, fHP, fNK, fRC, fTD, fTT, fAX, fAY, fRS, fLV, fLT, fDP, fEN, fAN, aSup, aCpx, aCpy, aCr, aIns, aCls, aHd, aCtx, aPx, aPy, aR, aSz, aWd, aTk, aTn, aTt, aTj, aTs, aFl, aEl, aOt, aOk, aKd, aKt, aCal, aFd, aFt, aFc, aFp, aFh, aFx, aFy, aVl) (nI dl, nI cl, nI pl, nI nc, nI nd, fCK, fED, fEP, yAt, fH, fO, fAX, fAY, fLV, fRS, fLT, ySp, yDp, yEn, fNK, yRk, aSup, aCpx, aCpy, aCr, aPx, aPy, aR, aCtx, aCls, aHd, aSz, yWd, aTk, aTn, aTt, aTs, aFl, aOt, yVl, yFx, yFy, yFk, yFp, yKl)) ∧ (¬ r_98 = 0 → (v3 < 0 → -1 = r ∧ i_Rel (k + 5) (nI dl, nI cl, nI pl, nI nc, nI nd, fCK, fED, fEP, fH, fO, fHP, fNK, fRC, fTD, fTT, fAX, fAY, fRS, fLV, fLT, fDP, fEN, fAN, aSup, aCpx, aCpy, aCr, aIns, aCls, aHd, aCtx, aPx, aPy, aR, aSz, aWd, aTk, aTn, aTt, aTj, aTs, aFl, aEl, aOt, aOk, aKd, aKt, aCal, aFd, aFt, aFc, aFp, aFh, aFx, aFy, aVl) (nI dl, nI cl, nI pl, nI nc, nI nd, fCK, fED, fEP, yAt, fH, fO, fAX, fAY, fLV, fRS, fLT, ySp, yDp, yEn, fNK, yRk, aSup, aCpx, aCpy, aCr, aPx, aPy, aR, aCtx, aCls, aHd, aSz, yWd, aTk, aTn, aTt, aTs, aFl, aOt, yVl, yFx, yFy, yFk, yFp, yKl)) ∧ (¬ v3 < 0 → wpY_symbols (fun r_146 => (v3 < r_146 → wpY_closure (fun r_193 => ∃ n90 : Nat, wY_dictionary_90 (fun r' => r' = r ∧ i_Rel (k + 5) (nI dl, nI cl, nI pl, nI nc, nI nd, fCK, fED, fEP, fH, fO, fHP, fNK, fRC, fTD, fTT, fAX, fAY, fRS, fLV, fLT, fDP, fEN, fAN, aSup, aCpx, aCpy, aCr, aIns, aCls, aHd, aCtx, aPx, aPy, aR, aSz, aWd, aTk, aTn, aTt, aTj, aTs, aFl, aEl, aOt, aOk, aKd, aKt, aCal, aFd, aFt, aFc, aFp, aFh, aFx, aFy, aVl) (nI dl, nI cl, nI pl, nI nc, nI nd, fCK, fED, fEP, yAt, fH, fO, fAX, fAY, fLV, fRS, fLT, ySp, yDp, yEn, fNK, yRk, aSup, aCpx, aCpy, aCr, aPx, aPy, aR, aCtx, aCls, aHd, aSz, yWd, aTk, aTn, aTt, aTs, aFl, aOt, yVl, yFx, yFy, yFk, yFp, yKl)) v3 (nI dl) (nI cl) (nI pl) (nI nc) (nI nd) fCK fED fEP yAt fH fO fAX fAY fLV fRS fLT ySp yDp yEn fNK yRk aSup aCpx aCpy aCr aPx aPy aR aCtx aCls aHd aSz yWd aTk aTn aTt aTs aFl aOt yVl yFx yFy yFk yFp yKl n90 r_193 (nI (ty_e l e)) 0) (nI dl, nI cl, nI pl, nI nc, nI nd, fCK, fED, fEP, yAt, fH, fO, fAX, fAY, fLV, fRS, fLT, ySp, yDp, yEn, fNK, yRk, aSup, aCpx, aCpy, aCr, aPx, aPy, aR, aCtx, aCls, aHd, aSz, yWd, aTk, aTn, aTt, aTs, aFl, aOt, yVl, yFx, yFy, yFk, yFp, yKl) (nI (2 ^ c))) ∧ (¬ v3 < r_146 → -1 = r ∧ i_Rel (k + 5) (nI dl, nI cl, nI pl, nI nc, nI nd, fCK, fED, fEP, fH, fO, fHP, fNK, fRC, fTD, fTT, fAX, fAY, fRS, fLV, fLT, fDP, fEN, fAN, aSup, aCpx, aCpy, aCr, aIns, aCls, aHd, aCtx, aPx, aPy, aR, aSz, aWd, aTk, aTn, aTt, aTj, aTs, aFl, aEl, aOt, aOk, aKd, aKt, aCal, aFd, aFt, aFc, aFp, aFh, aFx, aFy, aVl) (nI dl, nI cl, nI pl, nI nc, nI nd, fCK, fED, fEP, yAt, fH, fO, fAX, fAY, fLV, fRS, fLT, ySp, yDp, yEn, fNK, yRk, aSup, aCpx, aCpy, aCr, aPx, aPy, aR, aCtx, aCls, aHd, aSz, yWd, aTk, aTn, aTt, aTs, aFl, aOt, yVl, yFx, yFy, yFk, yFp, yKl))) (nI dl, nI cl, nI pl, nI nc, nI nd, fCK, fED, fEP, yAt, fH, fO, fAX, fAY, fLV, fRS, fLT, ySp, yDp, yEn, fNK, yRk, aSup, aCpx, aCpy, aCr, aPx, aPy, aR, aCtx, aCls, aHd, aSz, yWd, aTk, aTn, aTt, aTs, aFl, aOt, yVl, yFx, yFy, yFk, yFp, yKl) (nI (ty_e l e))))) (nI dl, nI cl, nI pl, nI nc, nI nd, fCK, fED, fEP, yAt, fH, fO, fAX, fAY, fLV, fRS, fLT, ySp, yDp, yEn, fNK, yRk, aSup, aCpx, aCpy, aCr, aPx, aPy, aR, aCtx, aCls, aHd, aSz, yWd, aTk, aTn, aTt, aTs, aFl, aOt, yVl, yFx, yFy, yFk, yFp, yKl) (nI 0) (nI (2 ^ c)) (nI (ty_e l e)) → wpY_dictionary (fun r' => r' = r ∧ i_Rel (k + 5) (nI dl, nI cl, nI pl, nI nc, nI nd, fCK, fED, fEP, fH, fO, fHP, fNK, fRC, fTD, fTT, fAX, fAY, fRS, fLV, fLT, fDP, fEN, fAN, aSup, aCpx, aCpy, aCr, aIns, aCls, aHd, aCtx, aPx, aPy, aR, aSz, aWd, aTk, aTn, aTt, aTj, aTs, aFl, aEl, aOt, aOk, aKd, aKt, aCal, aFd, aFt, aFc, aFp, aFh, aFx, aFy, aVl) (nI dl, nI cl, nI pl, nI nc, nI nd, fCK, fED, fEP, yAt, fH, fO, fAX, fAY, fLV, fRS, fLT, ySp, yDp, yEn, fNK, yRk, aSup, aCpx, aCpy, aCr, aPx, aPy, aR, aCtx, aCls, aHd, aSz, yWd, aTk, aTn, aTt, aTs, aFl, aOt, yVl, yFx, yFy, yFk, yFp, yKl)) (nI dl, nI cl, nI pl, nI nc, nI nd, fCK, fED, fEP, yAt, fH, fO, fAX, fAY, fLV, fRS, fLT, ySp, yDp, yEn, fNK, yRk, aSup, aCpx, aCpy, aCr, aPx, aPy, aR, aCtx, aCls, aHd, aSz, yWd, aTk, aTn, aTt, aTs, aFl, aOt, yVl, yFx, yFy, yFk, yFp, yKl) (nI c) (nI (ty_e l e)) v3 := by
          intro r h
          refine br_f c2 (br_f n0 (br_t n2 (sm_tuT _ (k := 6) (by omega) ⟨l, e, g1, by omega, gl, rfl⟩ (br_f (by decide) (tx_gr _ g1 (by omega) gl (fun z => by omega) (fun _ => br_f (by decide) ?_))))))
          rw [sn]
          exact h
        refine wh_X H (m := 0) (Nat.two_pow_pos nc) pn g1 (by omega) gl (fun z => br_f (by decide) ?_) (fun z => br_t rfl (Y _ (wh_Y H (m := 0) (Nat.two_pow_pos nc) pn g1 (by omega) gl (fun y => absurd y z) (fun _ => br_t rfl ⟨rfl, R'⟩))))
        have Y2 : ∀ r : Int32, _ → wpY_dictionary (fun r' => r' = r ∧ i_Rel (k + 5) (nI dl, nI cl, nI pl, nI nc, nI nd, fCK, fED, fEP, fH, fO, fHP, fNK, fRC, fTD, fTT, fAX, fAY, fRS, fLV, fLT, fDP, fEN, fAN, aSup, aCpx, aCpy, aCr, aIns, aCls, aHd, aCtx, aPx, aPy, aR, aSz, aWd, aTk, aTn, aTt, aTj, aTs, aFl, aEl, aOt, aOk, aKd, aKt, aCal, aFd, aFt, aFc, aFp, aFh, aFx, aFy, aVl) (nI dl, nI cl, nI pl, nI nc, nI nd, fCK, fED, fEP, yAt, fH, fO, fAX, fAY, fLV, fRS, fLT, ySp, yDp, yEn, fNK, yRk, aSup, aCpx, aCpy, aCr, aPx, aPy, aR, aCtx, aCls, aHd, aSz, yWd, aTk, aTn, aTt, aTs, aFl, aOt, yVl, yFx, yFy, yFk, yFp, yKl)) (nI dl, nI cl, nI pl, nI nc, nI nd, fCK, fED, fEP, yAt, fH, fO, fAX, fAY, fLV, fRS, fLT, ySp, yDp, yEn, fNK, yRk, aSup, aCpx, aCpy, aCr, aPx, aPy, aR, aCtx, aCls, aHd, aSz, yWd, aTk, aTn, aTt, aTs, aFl, aOt, yVl, yFx, yFy, yFk, yFp, yKl) (nI c) (nI (ty_e l e)) v3 := fun r h => Y r (wh_Y H (m := 0) (Nat.two_pow_pos nc) pn g1 (by omega) gl (fun _ => br_f (by decide) h) (fun y => absurd z y))
        refine tx_symT _ g1 (by omega) gl ?_
        by_cases l0 : v3 < 0
        · exact br_t l0 (Y2 _ (br_t l0 ⟨rfl, R'⟩))
        · obtain ⟨lev, hlev, rfl⟩ := nI_of l0
          by_cases l1 : lev < l.length + 1
          · have l1' : nI lev < nI (l.length + 1) := nI_lt l1 (by omega)
            have zc := mk_cl0 H (R.2.2.2.1 c1).1 (k := 4) g1 g2 pn z
            obtain ⟨m, X3, Y3⟩ := di_lp (lev := lev) (dl := dl) (cl := cl) (pl := pl) (fCK := fCK) (fED := fED) (fEP := fEP) (fH := fH) (fO := fO) (fHP := fHP) (fNK := fNK) (fRC := fRC) (fTD := fTD) (fTT := fTT) (fAX := fAX) (fAY := fAY) (fRS := fRS) (fLV := fLV) (fLT := fLT) (fDP := fDP) (fEN := fEN) (fAN := fAN) (aCpx := aCpx) (aCpy := aCpy) (aCr := aCr) (aPx := aPx) (aPy := aPy) (aR := aR) (aSz := aSz) (aWd := aWd) (aTk := aTk) (aTn := aTn) (aTt := aTt) (aTj := aTj) (aTs := aTs) (aFl := aFl) (aEl := aEl) (aOt := aOt) (aOk := aOk) (aKd := aKd) (aKt := aKt) (aCal := aCal) (aFd := aFd) (aFt := aFt) (aFc := aFc) (aFp := aFp) (aFh := aFh) (aFx := aFx) (aFy := aFy) (aVl := aVl) (yAt := yAt) (ySp := ySp) (yDp := yDp) (yEn := yEn) (yRk := yRk) (yWd := yWd) (yVl := yVl) (yFx := yFx) (yFy := yFy) (yFk := yFk) (yFp := yFp) (yKl := yKl) H (R.2.2.2.1 c1).1 g1 g2 (by omega) l (mk_cl aSup 4 (2 ^ c)) 0 gl (by omega) (by omega) (mk_cl_lt H 4 _ pn) zc
            refine br_f l0 (br_t l1' ?_)
            refine wh_xc H pn (Exists.intro (lev + 1) (X3 _ (lev + 1) (by omega) ?_))
            exact Y2 _ (br_f l0 (tx_tyT _ g1 (by omega) gl (br_t l1' (wh_yc H pn (Exists.intro (lev + 1) (Y3 _ (lev + 1) (by omega) ⟨rfl, R'⟩))))))
          · have l1' : ¬ nI lev < nI (l.length + 1) := nI_nlt (by omega) (by omega)
            exact br_f l0 (br_f l1' (Y2 _ (br_f l0 (tx_tyT _ g1 (by omega) gl (br_f l1' ⟨rfl, R'⟩)))))
      · exact gt_X2 _ gl (br_t rfl (br_f c2 (br_f n0 (br_t n2 (sm_tuT _ (k := 6) (by omega) ⟨l, 3, by omega, by omega, gl, rfl⟩ (br_f (by decide) (tx_gr _ (by omega) (by omega) gl (fun _ => br_t rfl ⟨rfl, R'⟩) (fun z => absurd rfl z))))))))
      · exact gt_X3 _ g (br_t rfl (br_f c2 (br_f n0 (br_t n2 (sm_tuN _ (k := 6) (by omega) g (br_t rfl ⟨rfl, R'⟩))))))
end
section
/-! 24: keys, targets: pure, then X's and Y's walks -/
theorem kt_n : ∀ (n : Nat) (l : List Bool) (e : Nat), 1 ≤ e → e ≤ 3 → l.length < n → kq_n n (ty_e l e) = l.length + 1 := by
  intro n
  induction n with
  | zero => intro l e h1 h3 h; omega
  | succ n ih =>
    intro l e h1 h3 h
    cases l with
    | nil =>
      show (if e = 0 then 0 else if e < 8 then 1 else 1 + kq_n n (e / 8)) = 1
      rw [if_neg (by omega), if_pos (by omega)]
    | cons b l =>
      rw [tx_ln] at h
      have c4 := ty_c4 b l e
      have c1 := ty_c1 (l := l) h1
      have e8 : 8 ≤ ty_e (b :: l) e := by rw [ty_ec]; omega
      have ed : ty_e (b :: l) e / 8 = ty_e l e := by rw [ty_ec]; have := ty_h45 b; omega
      show (if ty_e (b :: l) e = 0 then 0 else if ty_e (b :: l) e < 8 then 1 else 1 + kq_n n (ty_e (b :: l) e / 8)) = _
      rw [if_neg (by omega), if_neg (by omega), ed, ih l e h1 h3 (by omega), tx_ln]
      omega
theorem kt_0 : kq_n 7 0 = 0 := rfl
/-- the tags of a type t under ls -/
def vt_g (t : Int32) (ls : List Bool) (m : Nat) : Prop := ∃ (l : List Bool) (e : Nat), 1 ≤ e ∧ e ≤ 3 ∧ l.length ≤ 6 ∧ t = nI (ty_e l e) ∧ m = ty_g l + (if e = 3 then ty_g ls else 0)
def vt_s (b : Int32) (ls : List Bool) (b' : Int32) (ls' : List Bool) : Prop := ∃ m, vt_g b ls m ∧ vt_g b' ls' m
theorem vt_u {t : Int32} {ls : List Bool} {m n : Nat} (h : vt_g t ls m) (g : vt_g t ls n) : m = n := by
  obtain ⟨l, e, a1, a2, a3, a4, rfl⟩ := h
  obtain ⟨l', e', b1, b2, b3, b4, rfl⟩ := g
  obtain ⟨rfl, rfl⟩ := lp_un a2 a3 b2 b3 (a4.symm.trans b4)
  rfl
section
variable {nc nd : Nat} {aSup aCpx aCpy aCr aIns aCls aHd aCtx aPx aPy aR aSz aTk aTn aTt aTj : Nat → Int32} {d W : Nat}
theorem kt_u (H : (sr_H nc nd aSup aIns aCls aHd aCtx)) (Sm : mk_S nc nd aSup aIns aCls aHd aCtx) {ls lt : List Bool} {es et : Nat} (hd : d < nd) (K : kq_k aSup aIns aHd aCtx d ls es) (hc : et = 3 → ¬ wt_c aHd d) (t1 : 1 ≤ et) (t3 : et ≤ 3) (tl : lt.length ≤ 6) (hw : et = 3 → lt.length ≤ W) (hf : W + kq_n 7 (ty_e ls es) ≤ 7) : ∃ (lu : List Bool) (eu : Nat), 1 ≤ eu ∧ eu ≤ 2 ∧ lu.length ≤ 6 ∧ ty_e lt (ty_s et (ty_e ls es)) = ty_e lu eu ∧ ty_g lu = ty_g lt + (if et = 3 then ty_g ls else 0) ∧ (∀ k, mk_h aIns aCtx aSup (mk_v (aCtx d)) lt et k → mk_h aIns aCtx aSup 0 lu eu k) := by
  by_cases z : et = 3
  · subst z
    rcases K with ⟨y, _⟩ | ⟨_, s1, s2, sl, hs⟩
    · exact absurd y (hc rfl)
    · rw [kt_n 7 ls es s1 (by omega) (by omega)] at hf
      have := hw rfl
      exact ⟨lt ++ ls, es, s1, s2, by rw [List.length_append]; omega, by rw [ty_s3, ty_ea], by rw [ty_ga, if_pos rfl], fun k hk => mk_sb H Sm s1 s2 (mk_ctx H hd).2 hs lt k hk⟩
  · exact ⟨lt, et, t1, by omega, tl, by rw [ty_sn z], by rw [if_neg z, Nat.add_zero], fun k hk => mk_h0 z lt k hk⟩
theorem kt_a {px b : Int32} {lt ls lu : List Bool} {et : Nat} (t1 : 1 ≤ et) (t3 : et ≤ 3) (A : wt_a px lt et b) (hg : ty_g lu = ty_g lt + (if et = 3 then ty_g ls else 0)) : vt_s b ls px lu := by
  obtain ⟨l, e, a1, a2, a3, rfl, B, rfl⟩ := A
  by_cases z : e = 3
  · subst z
    refine ⟨ty_g l + ty_g lu, ⟨l ++ lt, et, t1, t3, by rw [List.length_append]; exact B rfl, by rw [ty_s3, ty_ea], by rw [ty_ga, hg]; omega⟩, ⟨l, 3, a1, a2, a3, rfl, by rw [if_pos rfl]⟩⟩
  · exact ⟨ty_g l, ⟨l, e, a1, a2, a3, by rw [ty_sn z], by rw [if_neg z, Nat.add_zero]⟩, ⟨l, e, a1, a2, a3, rfl, by rw [if_neg z, Nat.add_zero]⟩⟩
theorem kt_b {px p' b : Int32} {lt ls lu l' : List Bool} {et h : Nat} (t1 : 1 ≤ et) (t3 : et ≤ 3) (A : wt_a px lt et b) (O : sr_O h px p') (hg : ty_g lu = ty_g lt + (if et = 3 then ty_g ls else 0)) (hh : (lu = [] ∧ 1 ≤ h ∧ h ≤ 2 ∧ l' = []) ∨ (∃ c, lu = c :: l' ∧ h = ty_h c)) : vt_s b ls p' l' := by
  obtain ⟨l, e, a1, a2, a3, rfl, B, rfl⟩ := A
  obtain ⟨m, g, b1, b2, b3, b4, rfl⟩ := O
  obtain ⟨rfl, rfl⟩ := lp_un a2 a3 b2 (by omega) b4
  by_cases z : e = 3
  · subst z
    rcases hh with ⟨rfl, h1, h2, rfl⟩ | ⟨c, rfl, rfl⟩
    · refine ⟨ty_g l + 0, ⟨l ++ lt, et, t1, t3, by rw [List.length_append]; exact B rfl, by rw [ty_s3, ty_ea], ?_⟩, ⟨l, h, h1, by omega, by omega, by rw [ty_s3, sr_o1 h2], by rw [if_neg (by omega)]⟩⟩
      rw [ty_ga, Nat.add_assoc, ← hg]
      rfl
    · refine ⟨ty_g l + ty_g (c :: l'), ⟨l ++ lt, et, t1, t3, by rw [List.length_append]; exact B rfl, by rw [ty_s3, ty_ea], ?_⟩, ⟨l ++ [c], 3, by omega, by omega, by rw [List.length_append]; exact Nat.add_le_add_right b3 1, by rw [ty_s3, sr_o2, ty_ea], ?_⟩⟩
      · rw [ty_ga, Nat.add_assoc, ← hg]
      · rw [ty_ga, if_pos rfl]
        show _ = ty_g l + ((if c = true then 1 else 0) + 0) + ty_g l'
        show ty_g l + ((if c = true then 1 else 0) + ty_g l') = _
        omega
  · exact ⟨ty_g l, ⟨l, e, a1, a2, a3, by rw [ty_sn z], by rw [if_neg z, Nat.add_zero]⟩, ⟨l, e, a1, a2, a3, by rw [ty_sn z], by rw [if_neg z, Nat.add_zero]⟩⟩
/-- what the walks ask of a target -/
def kt_W (nc : Nat) (aIns aTk aTn aTt : Nat → Int32) (d s q d' s' : Nat) : Prop := ∃ (lt : List Bool) (et : Nat), 1 ≤ et ∧ et ≤ 3 ∧ lt.length ≤ 6 ∧ aTt (20 * d + q) = nI (ty_e lt et) ∧ (et = 3 → ty_e lt s < 2 ^ 31) ∧ ty_e lt (ty_s et s) < 2097152 ∧ ((wt_k aTk d q = 17 ∧ aTn (20 * d + q) = nI d' ∧ s' = ty_e lt (ty_s et s)) ∨ (wt_k aTk d q ≠ 17 ∧ ∃ c, c < nc ∧ aTn (20 * d + q) = nI c ∧ ty_e lt (ty_s et s) % 8 ≤ 5 ∧ aIns (8 * c + ty_e lt (ty_s et s) % 8) = nI d' ∧ s' = ty_e lt (ty_s et s) / 8))
theorem kt_w (h4 : nc ≤ 4) {s q d' s' : Nat} (hd' : d' < 2 ^ 31) (A : kt_W nc aIns aTk aTn aTt d s q d' s') : kq_t aIns aTk aTn aTt d s q = (d', s') := by
  obtain ⟨lt, et, t1, t3, tl, eT, _, b21, C⟩ := A
  have e21 := ty_e21 tl (show et < 8 by omega)
  have eu : kq_u aTt d s q = ty_e lt (ty_s et s) := by
    unfold kq_u
    rw [eT, mk_vn (by omega), ty_sb 7 lt et s t1 t3 (by omega)]
  unfold kq_t
  rw [eu]
  rcases C with ⟨c1, c2, rfl⟩ | ⟨c1, c, c2, c3, c4, c5, rfl⟩
  · rw [if_pos c1, c2, mk_vn hd']
  · rw [if_neg c1, c3, mk_vn (by omega), c5, mk_vn hd']
/-- the target of a call is a key, typed as the call was checked -/
theorem kt_t (S : (sr nc nd aSup aCpx aCpy aCr aIns aCls aHd aCtx aPx aPy aR aSz aTk aTn)) (Sm : mk_S nc nd aSup aIns aCls aHd aCtx) {Ht : Nat → Nat} {Ty : Nat → Nat → Int32} {Op : Nat → Nat} {ls : List Bool} {es q n : Nat} (hd : d < nd) (R : wt_R nc nd aSup aCpx aCpy aCr aIns aCls aHd aCtx aPx aPy aR aTk aTn aTt d W n Ht Ty Op) (hq : q < n) (k17 : 17 ≤ wt_k aTk d q) (K : kq_k aSup aIns aHd aCtx d ls es) (hf : W + kq_n 7 (ty_e ls es) ≤ 7) :
    ∃ (d' : Nat) (ls' : List Bool) (es' : Nat), d' < nd ∧ kq_k aSup aIns aHd aCtx d' ls' es' ∧ kt_W nc aIns aTk aTn aTt d (ty_e ls es) q d' (ty_e ls' es') ∧ 2 ≤ Ht q ∧ Ht (q + 1) = Ht q - 1 ∧ (∀ j, j < Ht q - 2 → Ty (q + 1) j = Ty q j) ∧ vt_s (Ty q (Ht q - 2)) ls (aPx d') ls' ∧ vt_s (Ty q (Ht q - 1)) ls (aPy d') ls' ∧ vt_s (Ty (q + 1) (Ht q - 2)) ls (aR d') ls' := by
  have H : (sr_H nc nd aSup aIns aCls aHd aCtx) := S.1
  have h4 := H.1
  have h12 := H.2.1
  obtain ⟨r1, r2, r3, r4, r5⟩ := R
  obtain ⟨p, t, p1, p2, K1, p3, p4, _⟩ := (r3 q hq).1 (by omega) (by omega) (by omega)
  obtain ⟨l0, e0, x1, x2, x3, x4, x5⟩ := r5 q hq k17
  have hk : ∀ j, j ≤ 13 → wt_k aTk d q ≠ j := fun j hj => by omega
  have D : (wt_k aTk d q = 17 ∧ p = 2 ∧ wt_C nd aSup aIns aCls aHd aCtx aPx aPy aR d (aTn (20 * d + q)) (aTt (20 * d + q)) (Ty q (Ht q - 2)) (Ty q (Ht q - 1)) t) ∨ (wt_k aTk d q = 18 ∧ p = 2 ∧ wt_M nc aSup aIns aHd aCtx aCpx aCpy aCr d (aTn (20 * d + q)) (aTt (20 * d + q)) (Ty q (Ht q - 2)) (Ty q (Ht q - 1)) t) := by
    rcases K1 with z | z | z | z | z | z | z | z | z | z | z | z | z
    · exact absurd z.1 (hk 0 (by omega))
    · exact absurd z.1 (hk 1 (by omega))
    · exact absurd z.1 (hk 2 (by omega))
    · exact absurd z.1 (hk 3 (by omega))
    · exact absurd z.2.1 (by omega)
    · exact absurd z.2.1 (by omega)
    · exact absurd z.1 (hk 9 (by omega))
    · exact absurd z.1 (hk 10 (by omega))
    · exact absurd z.1 (hk 11 (by omega))
    · exact absurd z.1 (hk 12 (by omega))
    · exact absurd z.1 (hk 13 (by omega))
    · exact Or.inl z
    · exact Or.inr z
  rcases D with ⟨kk, pp, n', lt, et, c1, c2, c3, t1, t3, tl, eT, tc, hH, w1, w2, w3⟩ | ⟨kk, pp, c, lt, et, c1, c2, t1, t3, tl, eT, tc, hh, w1, w2, w3⟩
  · subst pp
    obtain ⟨rfl, rfl⟩ := lp_un t3 tl x2 x3 (eT.symm.trans x5)
    obtain ⟨lu, eu, u1, u2, ul, eu', gu, hu⟩ := kt_u H Sm hd K tc t1 t3 tl (fun z => (x4 z).1) hf
    have b21 := ty_e21 ul (show eu < 8 by omega)
    rw [p3]
    refine ⟨n', lu, eu, c1, Or.inr ⟨?_, u1, u2, ul, fun k hk => hu k (hH k hk)⟩, ⟨lt, et, t1, t3, tl, eT, ?_, by rw [eu']; exact b21, Or.inl ⟨kk, c2, eu'.symm⟩⟩, p1, by omega, p4, kt_a t1 t3 w1 gu, kt_a t1 t3 w2 gu, kt_a t1 t3 w3 gu⟩
    · rcases H.2.2.2.2.1 n' c1 with ⟨_, z⟩ | ⟨c, h, _, _, q3, _⟩
      · intro y
        rcases y with y | y
        · rw [z] at y; exact absurd y (by decide)
        · rw [z] at y; exact absurd y (by decide)
      · rw [c3] at q3
        exact absurd q3.symm (sr_ne (by omega))
    · intro z
      rw [z, ty_s3] at eu'
      omega
  · subst pp
    obtain ⟨rfl, rfl⟩ := lp_un t3 tl x2 x3 (eT.symm.trans x5)
    obtain ⟨lu, eu, u1, u2, ul, eu', gu, hu⟩ := kt_u H Sm hd K tc t1 t3 tl (fun z => (x4 z).1) hf
    have b21 := ty_e21 ul (show eu < 8 by omega)
    have hb := hu c hh
    have eb : et = 3 → ty_e lt (ty_e ls es) < 2 ^ 31 := by
      intro z
      rw [z, ty_s3] at eu'
      omega
    rw [p3]
    cases lu with
    | nil =>
      have hi := (mk_hn (show eu ≠ 3 by omega)).mp hb
      rcases H.2.2.2.1 c eu (by omega) (by omega) with z | ⟨d', hd', i1, i2, i3⟩
      · exact absurd z hi
      · have e8 : ty_e lt (ty_s et (ty_e ls es)) % 8 = eu := by rw [eu', ty_en]; omega
        obtain ⟨o1, o2, o3⟩ := (S.2.2.1 d' hd').2 c eu c1 (by omega) i2 i3
        have hs : (([] : List Bool) = [] ∧ 1 ≤ eu ∧ eu ≤ 2 ∧ ([] : List Bool) = []) ∨ (∃ x, ([] : List Bool) = x :: [] ∧ eu = ty_h x) := Or.inl ⟨rfl, u1, u2, rfl⟩
        refine ⟨d', [], 0, hd', Or.inl ⟨?_, rfl, rfl⟩, ⟨lt, et, t1, t3, tl, eT, eb, by rw [eu']; exact b21, Or.inr ⟨by omega, c, c1, c2, by omega, by rw [e8]; exact i1, by rw [eu', ty_en, ty_en]; omega⟩⟩, p1, by omega, p4, kt_b t1 t3 w1 o1 gu hs, kt_b t1 t3 w2 o2 gu hs, kt_b t1 t3 w3 o3 gu hs⟩
        rcases (show eu = 1 ∨ eu = 2 by omega) with rfl | rfl
        · exact Or.inl i3
        · exact Or.inr i3
    | cons b l2 =>
      have h45 := ty_h45 b
      have hi := hb.1
      rcases H.2.2.2.1 c (ty_h b) (by omega) (by omega) with z | ⟨d', hd', i1, i2, i3⟩
      · exact absurd z hi
      · have e8 : ty_e lt (ty_s et (ty_e ls es)) % 8 = ty_h b := by rw [eu', ty_ec]; omega
        obtain ⟨o1, o2, o3⟩ := (S.2.2.1 d' hd').2 c (ty_h b) c1 (by omega) i2 i3
        rw [tx_ln] at ul
        have hs : ((b :: l2) = [] ∧ 1 ≤ ty_h b ∧ ty_h b ≤ 2 ∧ l2 = []) ∨ (∃ x, (b :: l2) = x :: l2 ∧ ty_h b = ty_h x) := Or.inr ⟨b, rfl, rfl⟩
        refine ⟨d', l2, eu, hd', Or.inr ⟨?_, u1, u2, by omega, ?_⟩, ⟨lt, et, t1, t3, tl, eT, eb, by rw [eu']; exact b21, Or.inr ⟨by omega, c, c1, c2, by omega, by rw [e8]; exact i1, by rw [eu', ty_ec]; omega⟩⟩, p1, by omega, p4, kt_b t1 t3 w1 o1 gu hs, kt_b t1 t3 w2 o2 gu hs, kt_b t1 t3 w3 o3 gu hs⟩
        · intro y
          rcases y with y | y
          · have := (nI_eq (b := 1) (by omega) (by omega)).mp (i3.symm.trans y); omega
          · have := (nI_eq (b := 2) (by omega) (by omega)).mp (i3.symm.trans y); omega
        · have := hb.2
          rw [i1, mk_vn (by omega)] at this
          exact this
end
end
section
/-! 25: walks of findTarget, target, fits -/
theorem kx_k {aTk : Nat → Int32} {d q k : Nat} (k18 : k ≤ 18) (hk : aTk (20 * d + q) = nI k) : wt_k aTk d q = k := by
  unfold wt_k
  rw [hk, mk_vn (by omega)]
theorem kx_s21 {aSup aIns aHd aCtx : Nat → Int32} {d es : Nat} {ls : List Bool} (K : kq_k aSup aIns aHd aCtx d ls es) : ty_e ls es < 2097152 := by
  rcases K with ⟨_, rfl, rfl⟩ | ⟨_, s1, s2, sl, _⟩
  · decide
  · exact ty_e21 sl (by omega)
theorem kx_n7 {aSup aIns aHd aCtx : Nat → Int32} {d es : Nat} {ls : List Bool} (K : kq_k aSup aIns aHd aCtx d ls es) : kq_n 7 (ty_e ls es) ≤ 7 := by
  rcases K with ⟨_, rfl, rfl⟩ | ⟨_, s1, s2, sl, _⟩
  · decide
  · rw [kt_n 7 ls es s1 (by omega) (by omega)]; omega
section
variable {post : Int32 → Prop} {aSup aIns aHd aCtx : Nat → Int32} {d es : Nat} {ls : List Bool}
theorem kx_sy (u : SX) (K : kq_k aSup aIns aHd aCtx d ls es) (hp : post (nI (kq_n 7 (ty_e ls es)))) : wpX_symbols post u (nI (ty_e ls es)) := by
  rcases K with ⟨_, rfl, rfl⟩ | ⟨_, s1, s2, sl, _⟩
  · exact tx_sx0 u hp
  · rw [kt_n 7 ls es s1 (by omega) (by omega)] at hp
    exact tx_symT u s1 (by omega) sl hp
theorem ky_sy (v : SY) (K : kq_k aSup aIns aHd aCtx d ls es) (hp : post (nI (kq_n 7 (ty_e ls es)))) : wpY_symbols post v (nI (ty_e ls es)) := by
  rcases K with ⟨_, rfl, rfl⟩ | ⟨_, s1, s2, sl, _⟩
  · exact tx_ty0 v hp
  · rw [kt_n 7 ls es s1 (by omega) (by omega)] at hp
    exact tx_tyT v s1 (by omega) sl hp
end
theorem ky_K (d s : Nat) : nI d * 2097152 + nI s = nI (d * 2097152 + s) := by
  rw [show nI d * 2097152 = nI (d * 2097152) from pk_mul d 2097152, nI_add]
theorem ky_d {d s : Nat} (hd : d < 12) (hs : s < 2097152) : nI (d * 2097152 + s) / 2097152 = nI d := by
  rw [ty_dK (by omega)]
  exact congrArg nI (by omega)
theorem ky_m {d s : Nat} (hd : d < 12) (hs : s < 2097152) : nI (d * 2097152 + s) - nI (d * 2097152 + s) / 2097152 * 2097152 = nI s := by
  rw [ty_rK (by omega)]
  exact congrArg nI (by omega)
section
variable {dl cl pl nc nd : Nat} {fCK fED fEP fH fO fHP fNK fRC fTD fTT : Int32} {fAX fAY : Int64} {fRS : Int32} {fLV : Int64} {fLT fDP fEN : Int32} {fAN : Int64} {aSup aCpx aCpy aCr aIns aCls aHd aCtx aPx aPy aR aSz aWd aTk aTn aTt aTj aTs aFl aEl aOt aOk aKd aKt aCal aFd aFt aFc aFp aFh : Nat → Int32} {aFx aFy aVl : Nat → Int64} {yAt ySp yDp yEn yRk : Int32} {yWd : Nat → Int32} {yVl yFx yFy : Nat → Int64} {yFk yFp yKl : Nat → Int32} {d s q d' s' : Nat}
theorem kx_ft {post : SX → Prop} {k : Nat} (h4 : nc ≤ 4) (hd : d < 12) (hq : q < 20) (k18 : k ≤ 18) (hk : aTk (20 * d + q) = nI k) (A : kt_W nc aIns aTk aTn aTt d s q d' s') (hp : post (nI dl, nI cl, nI pl, nI nc, nI nd, fCK, fED, fEP, fH, fO, fHP, fNK, fRC, nI d', nI s', fAX, fAY, fRS, fLV, fLT, fDP, fEN, fAN, aSup, aCpx, aCpy, aCr, aIns, aCls, aHd, aCtx, aPx, aPy, aR, aSz, aWd, aTk, aTn, aTt, aTj, aTs, aFl, aEl, aOt, aOk, aKd, aKt, aCal, aFd, aFt, aFc, aFp, aFh, aFx, aFy, aVl)) : wpX_findTarget post (nI dl, nI cl, nI pl, nI nc, nI nd, fCK, fED, fEP, fH, fO, fHP, fNK, fRC, fTD, fTT, fAX, fAY, fRS, fLV, fLT, fDP, fEN, fAN, aSup, aCpx, aCpy, aCr, aIns, aCls, aHd, aCtx, aPx, aPy, aR, aSz, aWd, aTk, aTn, aTt, aTj, aTs, aFl, aEl, aOt, aOk, aKd, aKt, aCal, aFd, aFt, aFc, aFp, aFh, aFx, aFy, aVl) (nI (20 * d + q)) (nI s) := by
  have vw := vp_in_nI (n := 20 * d + q) (N := 240) (by omega) (by decide)
  have cw := nI_clamp (n := 20 * d + q) (by omega)
  obtain ⟨lt, et, t1, t3, tl, eT, eb, b21, C⟩ := A
  rw [kx_k k18 hk] at C
  unfold wpX_findTarget
  dsimp only
  rw [cw, eT, hk]
  refine ⟨vw, tx_sub _ t1 t3 tl eb ⟨vw, ?_⟩⟩
  rcases C with ⟨rfl, c2, rfl⟩ | ⟨c1, c, c2, c3, c4, c5, rfl⟩
  · rw [c2]
    exact br_t rfl ⟨vw, nm_e hp⟩
  · rw [ty_r8 (by omega), ty_d8 (by omega), c3]
    refine br_f (fun z => c1 ((nI_eq (b := 17) (by omega) (by omega)).mp z)) ⟨vw, ty_8, wh_fi h4 c2 c4 ?_⟩
    rw [c5]
    exact ⟨ty_8, nm_e hp⟩
theorem ky_tg {post : Int32 → Prop} {k : Nat} (H : (sr_H nc nd aSup aIns aCls aHd aCtx)) (hd : d < 12) (hq : q < 20) (hs : s < 2097152) (k18 : k ≤ 18) (hk : aTk (20 * d + q) = nI k) (hd' : d' < nd) (A : kt_W nc aIns aTk aTn aTt d s q d' s') (hp : post (nI (d' * 2097152 + s'))) : wpY_target post (nI dl, nI cl, nI pl, nI nc, nI nd, fCK, fED, fEP, yAt, fH, fO, fAX, fAY, fLV, fRS, fLT, ySp, yDp, yEn, fNK, yRk, aSup, aCpx, aCpy, aCr, aPx, aPy, aR, aCtx, aCls, aHd, aSz, yWd, aTk, aTn, aTt, aTs, aFl, aOt, yVl, yFx, yFy, yFk, yFp, yKl) (nI (d * 2097152 + s)) (nI q) := by
  have vw := vp_in_nI (n := 20 * d + q) (N := 240) (by omega) (by decide)
  have cw := nI_clamp (n := 20 * d + q) (by omega)
  have h4 := H.1
  have h12 := H.2.1
  obtain ⟨lt, et, t1, t3, tl, eT, eb, b21, C⟩ := A
  rw [kx_k k18 hk] at C
  unfold wpY_target
  dsimp only
  rw [ky_m hd hs, ky_d hd hs, sm_20y]
  refine ⟨ty_K, nm_e ?_⟩
  rw [cw, eT, hk]
  refine ⟨vw, ty_K, tx_sby _ t1 t3 tl ⟨vw, ?_⟩⟩
  rcases C with ⟨rfl, c2, rfl⟩ | ⟨c1, c, c2, c3, c4, c5, rfl⟩
  · rw [c2, ky_K]
    exact br_t rfl ⟨vw, hp⟩
  · rw [ty_r8 (by omega), ty_d8 (by omega), c3]
    refine br_f (fun z => c1 ((nI_eq (b := 17) (by omega) (by omega)).mp z)) ⟨vw, ty_8, wh_yi H (by omega) (by omega) ?_⟩
    rw [c5]
    refine br_t (nI_pos' (by omega)) ⟨ty_8, ?_⟩
    rw [ky_K]
    exact hp
theorem kx_fi {post : Int32 → Prop} {ls : List Bool} {es W : Nat} (h12 : nd ≤ 12) (hd : d < nd) (K : kq_k aSup aIns aHd aCtx d ls es) (hW : aWd d = nI W) (W6 : W ≤ 6) (p1 : W + kq_n 7 (ty_e ls es) ≤ 7 → post 1) (p0 : ¬ W + kq_n 7 (ty_e ls es) ≤ 7 → post 0) : wpX_fits post (nI dl, nI cl, nI pl, nI nc, nI nd, fCK, fED, fEP, fH, fO, fHP, fNK, fRC, fTD, fTT, fAX, fAY, fRS, fLV, fLT, fDP, fEN, fAN, aSup, aCpx, aCpy, aCr, aIns, aCls, aHd, aCtx, aPx, aPy, aR, aSz, aWd, aTk, aTn, aTt, aTj, aTs, aFl, aEl, aOt, aOk, aKd, aKt, aCal, aFd, aFt, aFc, aFp, aFh, aFx, aFy, aVl) (nI d) (nI (ty_e ls es)) := by
  have vd := vp_in_nI (n := d) (N := 12) (by omega) (by decide)
  have cd := nI_clamp (n := d) (by omega)
  have n7 := kx_n7 K
  refine br_f (nI_pos (by omega)) (br_f (nI_ge hd (by omega)) (br_f (by decide) ⟨vd, ?_⟩))
  rw [cd, hW]
  refine kx_sy _ K (nm_r (nI_add _ _) ?_)
  by_cases z : W + kq_n 7 (ty_e ls es) ≤ 7
  · exact br_f (nI_nlt (a := 7) z (by decide)) (p1 z)
  · exact br_t (nI_lt (a := 7) (by omega) (by omega)) (p0 z)
theorem ky_fi {post : Int32 → Prop} {ls : List Bool} {es W : Nat} (h12 : nd ≤ 12) (hd : d < nd) (K : kq_k aSup aIns aHd aCtx d ls es) (hW : yWd d = nI W) (W6 : W ≤ 6) (p1 : W + kq_n 7 (ty_e ls es) ≤ 7 → post 1) (p0 : ¬ W + kq_n 7 (ty_e ls es) ≤ 7 → post 0) : wpY_fits post (nI dl, nI cl, nI pl, nI nc, nI nd, fCK, fED, fEP, yAt, fH, fO, fAX, fAY, fLV, fRS, fLT, ySp, yDp, yEn, fNK, yRk, aSup, aCpx, aCpy, aCr, aPx, aPy, aR, aCtx, aCls, aHd, aSz, yWd, aTk, aTn, aTt, aTs, aFl, aOt, yVl, yFx, yFy, yFk, yFp, yKl) (nI (d * 2097152 + ty_e ls es)) := by
  have vd := vp_in_nI (n := d) (N := 12) (by omega) (by decide)
  have cd := nI_clamp (n := d) (by omega)
  have n7 := kx_n7 K
  have s21 := kx_s21 K
  refine br_f (nI_pos (by omega)) ⟨ty_K, ?_⟩
  rw [ky_m (by omega) s21, ky_d (by omega) s21, cd, hW]
  refine ⟨vd, ty_K, ky_sy _ K ?_⟩
  rw [nI_add]
  by_cases z : W + kq_n 7 (ty_e ls es) ≤ 7
  · exact br_f (nI_nlt (a := 7) z (by decide)) (p1 z)
  · exact br_t (nI_lt (a := 7) (by omega) (by omega)) (p0 z)
end
end
section
/-! 26: runs: abstract frames, what they are to X and to Y, how they are typed -/
/-- definition, type argument (two), clone, place, values (the top first), x, y -/
abbrev rn_F : Type := Nat × List Bool × Nat × Nat × Nat × List Nat × Nat × Nat
def rn_v (a : Nat → Int64) (b : Nat) : List Nat → Prop
  | [] => True
  | x :: xs => a (b + xs.length) = lN x ∧ rn_v a b xs
def rn_b : List rn_F → Nat
  | [] => 0
  | (_, _, _, _, _, xs, _, _) :: r => rn_b r + xs.length
def rn_X (aFd aFt aFc aFp aFh : Nat → Int32) (aFx aFy aVl : Nat → Int64) (C : Nat → Nat → Nat → Int32 → Prop) : List rn_F → Prop
  | [] => True
  | (d, ls, es, c, pc, xs, x, y) :: r => (aFd r.length = nI d ∧ aFt r.length = nI (ty_e ls es) ∧ C c d (ty_e ls es) (aFc r.length) ∧ aFp r.length = nI pc ∧ aFh r.length = nI xs.length ∧ aFx r.length = lN x ∧ aFy r.length = lN y ∧ rn_v aVl (8 * r.length) xs ∧ xs.length ≤ 8) ∧ rn_X aFd aFt aFc aFp aFh aFx aFy aVl C r
def rn_Y (yFk yFp : Nat → Int32) (yFx yFy yVl : Nat → Int64) : List rn_F → Prop
  | [] => True
  | (d, ls, es, _, pc, xs, x, y) :: r => (yFk r.length = nI (d * 2097152 + ty_e ls es) ∧ yFp r.length = nI pc ∧ yFx r.length = lN x ∧ yFy r.length = lN y ∧ rn_v yVl (rn_b r) xs) ∧ rn_Y yFk yFp yFx yFy yVl r
/-- a value of a type t under ls -/
def vv (t : Int32) (ls : List Bool) (v : Nat) : Prop := ∃ m, vt_g t ls m ∧ v < 256 ^ (1 + m)
def rn_t (ls : List Bool) (T : Nat → Int32) : List Nat → Prop
  | [] => True
  | v :: vs => vv (T vs.length) ls v ∧ rn_t ls T vs
def wt_B (nc nd : Nat) (aSup aCpx aCpy aCr aIns aCls aHd aCtx aPx aPy aR aSz aTk aTn aTt aTj : Nat → Int32) (d w : Nat) (Ht : Nat → Nat) (Ty : Nat → Nat → Int32) (Op : Nat → Nat) : Prop :=
  wt_R nc nd aSup aCpx aCpy aCr aIns aCls aHd aCtx aPx aPy aR aTk aTn aTt d w (mk_v (aSz d)) Ht Ty Op ∧ (∀ q, q < mk_v (aSz d) → wt_J aTk aTj d (mk_v (aSz d)) Ht Ty Op q) ∧ Ht (mk_v (aSz d)) = 1 ∧ Ty (mk_v (aSz d)) 0 = aR d ∧ wt_t aHd d w (aPx d) ∧ wt_t aHd d w (aPy d) ∧ wt_t aHd d w (aR d)
/-- a frame at rest (g = 1: a result is still to come) -/
def rn_f (nc nd : Nat) (aSup aCpx aCpy aCr aIns aCls aHd aCtx aPx aPy aR aSz aWd yWd aTk aTn aTt aTj : Nat → Int32) (g d : Nat) (ls : List Bool) (es pc : Nat) (xs : List Nat) (x y : Nat) (Q : Int32 → Prop) : Prop := ∃ (W : Nat) (Ht : Nat → Nat) (Ty : Nat → Nat → Int32) (Op : Nat → Nat),
  (d < nd ∧ aWd d = nI W ∧ yWd d = nI W ∧ W ≤ 6 ∧ wt_B nc nd aSup aCpx aCpy aCr aIns aCls aHd aCtx aPx aPy aR aSz aTk aTn aTt aTj d W Ht Ty Op ∧ kq_k aSup aIns aHd aCtx d ls es ∧ W + kq_n 7 (ty_e ls es) ≤ 7) ∧ pc ≤ mk_v (aSz d) ∧ vv (aPx d) ls x ∧ vv (aPy d) ls y ∧ Ht pc = xs.length + g ∧ rn_t ls (Ty pc) xs ∧ Q (Ty pc xs.length)
def rn_S (nc nd : Nat) (aSup aCpx aCpy aCr aIns aCls aHd aCtx aPx aPy aR aSz aWd yWd aTk aTn aTt aTj : Nat → Int32) (R : Nat → Prop) : List rn_F → Prop
  | [] => True
  | (d, ls, es, _, pc, xs, x, y) :: r => rn_f nc nd aSup aCpx aCpy aCr aIns aCls aHd aCtx aPx aPy aR aSz aWd yWd aTk aTn aTt aTj 1 d ls es pc xs x y (fun t => ∀ v, R v → vv t ls v) ∧ rn_S nc nd aSup aCpx aCpy aCr aIns aCls aHd aCtx aPx aPy aR aSz aWd yWd aTk aTn aTt aTj (fun v => vv (aR d) ls v) r
def rn_T (nc nd : Nat) (aSup aCpx aCpy aCr aIns aCls aHd aCtx aPx aPy aR aSz aWd yWd aTk aTn aTt aTj : Nat → Int32) : List rn_F → Prop
  | [] => False
  | (d, ls, es, _, pc, xs, x, y) :: r => rn_f nc nd aSup aCpx aCpy aCr aIns aCls aHd aCtx aPx aPy aR aSz aWd yWd aTk aTn aTt aTj 0 d ls es pc xs x y (fun _ => True) ∧ rn_S nc nd aSup aCpx aCpy aCr aIns aCls aHd aCtx aPx aPy aR aSz aWd yWd aTk aTn aTt aTj (fun v => vv (aR d) ls v) r
def rn_m (aSz : Nat → Int32) : List rn_F → Nat
  | [] => 0
  | (d, _, _, _, pc, _, _, _) :: r => (mk_v (aSz d) + 1 - pc) + rn_m aSz r
theorem rn_vc {a a' : Nat → Int64} {b : Nat} : ∀ (xs : List Nat), (∀ j, b ≤ j → j < b + xs.length → a' j = a j) → rn_v a b xs → rn_v a' b xs := by
  intro xs
  induction xs with
  | nil => intro _ _; trivial
  | cons x xs ih =>
    intro h H
    rw [List.length_cons] at h
    exact ⟨by rw [h _ (by omega) (by omega)]; exact H.1, ih (fun j h1 h2 => h j h1 (by omega)) H.2⟩
theorem rn_vp {a : Nat → Int64} {b x : Nat} {xs : List Nat} (H : rn_v a b xs) : rn_v (vp_updL a (b + xs.length) (lN x)) b (x :: xs) :=
  ⟨pk_uLs, rn_vc xs (fun j h1 h2 => pk_uLn (by omega)) H⟩
theorem rn_Xc {aFd aFt aFc aFp aFh bFd bFt bFc bFp bFh : Nat → Int32} {aFx aFy aVl bFx bFy bVl : Nat → Int64} {C : Nat → Nat → Nat → Int32 → Prop} : ∀ (r : List rn_F), (∀ j, j < r.length → bFd j = aFd j ∧ bFt j = aFt j ∧ bFc j = aFc j ∧ bFp j = aFp j ∧ bFh j = aFh j ∧ bFx j = aFx j ∧ bFy j = aFy j) → (∀ j, j < 8 * r.length → bVl j = aVl j) → rn_X aFd aFt aFc aFp aFh aFx aFy aVl C r → rn_X bFd bFt bFc bFp bFh bFx bFy bVl C r := by
  intro r
  induction r with
  | nil => intro _ _ _; trivial
  | cons f r ih =>
    obtain ⟨d, ls, es, c, pc, xs, x, y⟩ := f
    intro h hv H
    rw [List.length_cons] at h hv
    obtain ⟨⟨q1, q2, q3, q4, q5, q6, q7, q8, q9⟩, H2⟩ := H
    obtain ⟨e1, e2, e3, e4, e5, e6, e7⟩ := h r.length (by omega)
    refine ⟨⟨by rw [e1]; exact q1, by rw [e2]; exact q2, by rw [e3]; exact q3, by rw [e4]; exact q4, by rw [e5]; exact q5, by rw [e6]; exact q6, by rw [e7]; exact q7, rn_vc xs (fun j h1 h2 => hv j (by omega)) q8, q9⟩, ih (fun j hj => h j (by omega)) (fun j hj => hv j (by omega)) H2⟩
theorem rn_Yc {yFk yFp zFk zFp : Nat → Int32} {yFx yFy yVl zFx zFy zVl : Nat → Int64} : ∀ (r : List rn_F), (∀ j, j < r.length → zFk j = yFk j ∧ zFp j = yFp j ∧ zFx j = yFx j ∧ zFy j = yFy j) → (∀ j, j < rn_b r → zVl j = yVl j) → rn_Y yFk yFp yFx yFy yVl r → rn_Y zFk zFp zFx zFy zVl r := by
  intro r
  induction r with
  | nil => intro _ _ _; trivial
  | cons f r ih =>
    obtain ⟨d, ls, es, c, pc, xs, x, y⟩ := f
    intro h hv H
    rw [List.length_cons] at h
    have hv' : ∀ j, j < rn_b r + xs.length → zVl j = yVl j := hv
    obtain ⟨⟨q1, q2, q3, q4, q5⟩, H2⟩ := H
    obtain ⟨e1, e2, e3, e4⟩ := h r.length (by omega)
    exact ⟨⟨by rw [e1]; exact q1, by rw [e2]; exact q2, by rw [e3]; exact q3, by rw [e4]; exact q4, rn_vc xs (fun j h1 h2 => hv' j (by omega)) q5⟩, ih (fun j hj => h j (by omega)) (fun j hj => hv' j (by omega)) H2⟩
theorem rn_tc {ls : List Bool} {T T' : Nat → Int32} : ∀ (xs : List Nat), (∀ j, j < xs.length → T' j = T j) → rn_t ls T xs → rn_t ls T' xs := by
  intro xs
  induction xs with
  | nil => intro _ _; trivial
  | cons x xs ih =>
    intro h H
    rw [List.length_cons] at h
    exact ⟨by rw [h _ (by omega)]; exact H.1, ih (fun j hj => h j (by omega)) H.2⟩
theorem rn_sv {b b' : Int32} {ls ls' : List Bool} (h : vt_s b ls b' ls') {v : Nat} (hv : vv b ls v) : vv b' ls' v := by
  obtain ⟨m, g1, g2⟩ := h
  obtain ⟨n, q1, q2⟩ := hv
  have e := vt_u q1 g1
  subst e
  exact ⟨n, g2, q2⟩
theorem rn_vs {b b' : Int32} {ls ls' : List Bool} (h : vt_s b ls b' ls') {v : Nat} (hv : vv b' ls' v) : vv b ls v := by
  obtain ⟨m, g1, g2⟩ := h
  obtain ⟨n, q1, q2⟩ := hv
  have e := vt_u q1 g2
  subst e
  exact ⟨n, g1, q2⟩
theorem rn_1 {ls : List Bool} {v : Nat} (h : v < 256) : vv 1 ls v := ⟨0, ⟨[], 1, by omega, by omega, by decide, rfl, rfl⟩, by omega⟩
theorem rn_2 {ls : List Bool} {v : Nat} (h : v < 256) : vv 2 ls v := ⟨0, ⟨[], 2, by omega, by omega, by decide, rfl, rfl⟩, by omega⟩
theorem rn_1' {ls : List Bool} {v : Nat} (h : vv 1 ls v) : v < 256 := by
  obtain ⟨m, g, hv⟩ := h
  have e : m = 0 := vt_u g ⟨[], 1, by omega, by omega, by decide, rfl, rfl⟩
  subst e
  exact hv
theorem rn_e {l : List Bool} {e : Nat} {ls : List Bool} {v : Nat} (h1 : 1 ≤ e) (h3 : e ≤ 3) (hl : l.length ≤ 6) (h : vv (nI (ty_e l e)) ls v) : v < 256 ^ (1 + (ty_g l + (if e = 3 then ty_g ls else 0))) := by
  obtain ⟨m, g, hv⟩ := h
  have e : m = _ := vt_u g ⟨l, e, h1, h3, hl, rfl, rfl⟩
  subst e
  exact hv
theorem rn_i {l : List Bool} {e : Nat} {ls : List Bool} {v : Nat} (h1 : 1 ≤ e) (h3 : e ≤ 3) (hl : l.length ≤ 6) (h : v < 256 ^ (1 + (ty_g l + (if e = 3 then ty_g ls else 0)))) : vv (nI (ty_e l e)) ls v :=
  ⟨_, ⟨l, e, h1, h3, hl, rfl, rfl⟩, h⟩
theorem rn_p {m : Nat} (h : m ≤ 6) {v : Nat} (hv : v < 256 ^ (1 + m)) : v < 72057594037927936 := by
  have h1 : 256 ^ (1 + m) ≤ 256 ^ 7 := Nat.pow_le_pow_right (by decide) (by omega)
  have h2 : (256 : Nat) ^ 7 = 72057594037927936 := by decide
  omega
end
section
/-! 27: runs: X's steps -/
def sx_lv (k : Nat) (aFx aFy : Nat → Int64) (aTn : Nat → Int32) (a w : Nat) : Int64 := if k = 2 then aFx a else if k = 3 then aFy a else (aTn w).toInt64
def sx_ar (k : Nat) (b c : Int64) : Int64 := if k = 4 then (b + c) &&& 255 else if k = 5 then (b - c) &&& 255 else if k = 6 then (b * c) &&& 255 else if k = 7 then (if b = c then 1 else 0) else if c ≤ b then 0 else 1
theorem sx_i {a m : Nat} : (8 : Int32) * nI a + nI m = nI (8 * a + m) := wh_in
section
variable {fDL fCL fPL fNC fND fCK fED fEP fH fO fHP fNK fRC fTD fTT : Int32} {fAX fAY : Int64} {fRS : Int32} {fLV : Int64} {fLT fDP fEN : Int32} {fAN : Int64} {aSup aCpx aCpy aCr aIns aCls aHd aCtx aPx aPy aR aSz aWd aTk aTn aTt aTj aTs aFl aEl aOt aOk aKd aKt aCal aFd aFt aFc aFp aFh : Nat → Int32} {aFx aFy aVl : Nat → Int64} {post : SX → Prop} {a m k w : Nat}
theorem sx_push {v : Int64} (ha : a < 16) (hm : m < 8) (hh : aFh a = nI m) (hp : post (fDL, fCL, fPL, fNC, fND, fCK, fED, fEP, fH, fO, fHP, fNK, fRC, fTD, fTT, fAX, fAY, fRS, fLV, fLT, fDP, fEN, fAN, aSup, aCpx, aCpy, aCr, aIns, aCls, aHd, aCtx, aPx, aPy, aR, aSz, aWd, aTk, aTn, aTt, aTj, aTs, aFl, aEl, aOt, aOk, aKd, aKt, aCal, aFd, aFt, aFc, aFp, upd aFh a (nI (m + 1)), aFx, aFy, vp_updL aVl (8 * a + m) v)) : wpX_push post (fDL, fCL, fPL, fNC, fND, fCK, fED, fEP, fH, fO, fHP, fNK, fRC, fTD, fTT, fAX, fAY, fRS, fLV, fLT, fDP, fEN, fAN, aSup, aCpx, aCpy, aCr, aIns, aCls, aHd, aCtx, aPx, aPy, aR, aSz, aWd, aTk, aTn, aTt, aTj, aTs, aFl, aEl, aOt, aOk, aKd, aKt, aCal, aFd, aFt, aFc, aFp, aFh, aFx, aFy, aVl) (nI a) v := by
  have va := vp_in_nI (n := a) (N := 16) ha (by decide)
  unfold wpX_push
  dsimp only
  rw [nI_clamp (n := a) (by omega), hh]
  refine ⟨va, nm_e ?_⟩
  rw [sx_i, nI_clamp (n := 8 * a + m) (by omega), nI_1]
  exact br_f (nI_ge (b := 8) hm (by decide)) ⟨vp_in_nI (by omega) (by decide), nm_e ⟨va, nm_e hp⟩⟩
theorem sx_leaf (ha : a < 16) (hw : w < 240) (hk : aTk w = nI k) (k3 : k ≤ 3) (hm : m < 8) (hh : aFh a = nI m) (hp : post (fDL, fCL, fPL, fNC, fND, fCK, fED, fEP, fH, fO, fHP, fNK, fRC, fTD, fTT, fAX, fAY, fRS, fLV, fLT, fDP, fEN, fAN, aSup, aCpx, aCpy, aCr, aIns, aCls, aHd, aCtx, aPx, aPy, aR, aSz, aWd, aTk, aTn, aTt, aTj, aTs, aFl, aEl, aOt, aOk, aKd, aKt, aCal, aFd, aFt, aFc, aFp, upd aFh a (nI (m + 1)), aFx, aFy, vp_updL aVl (8 * a + m) (sx_lv k aFx aFy aTn a w))) : wpX_stepToken post (fDL, fCL, fPL, fNC, fND, fCK, fED, fEP, fH, fO, fHP, fNK, fRC, fTD, fTT, fAX, fAY, fRS, fLV, fLT, fDP, fEN, fAN, aSup, aCpx, aCpy, aCr, aIns, aCls, aHd, aCtx, aPx, aPy, aR, aSz, aWd, aTk, aTn, aTt, aTj, aTs, aFl, aEl, aOt, aOk, aKd, aKt, aCal, aFd, aFt, aFc, aFp, aFh, aFx, aFy, aVl) (nI a) (nI w) := by
  have va := vp_in_nI (n := a) (N := 16) ha (by decide)
  have vw := vp_in_nI (n := w) (N := 240) hw (by decide)
  have ca := nI_clamp (n := a) (by omega)
  have cw := nI_clamp (n := w) (by omega)
  unfold wpX_stepToken
  dsimp only
  rw [cw, hk]
  refine ⟨vw, nm_e (br_f (nI_nlt (a := 3) k3 (by decide)) ?_)⟩
  unfold wpX_stepLeaf
  dsimp only
  rw [cw, ca]
  refine ⟨vw, nm_e ?_⟩
  rcases (show k = 0 ∨ k = 1 ∨ k = 2 ∨ k = 3 by omega) with rfl | rfl | rfl | rfl
  · exact br_f (by decide) (br_f (by decide) (sx_push ha hm hh hp))
  · exact br_f (by decide) (br_f (by decide) (sx_push ha hm hh hp))
  · exact br_t rfl ⟨va, nm_e (sx_push ha hm hh hp)⟩
  · exact br_f (by decide) (br_t rfl ⟨va, nm_e (sx_push ha hm hh hp)⟩)
theorem sx_137 {v : Int64} (ha : a < 16) (hm : m < 8) (hp : post (fDL, fCL, fPL, fNC, fND, fCK, fED, fEP, fH, fO, fHP, fNK, fRC, fTD, fTT, fAX, fAY, fRS, fLV, fLT, fDP, fEN, fAN, aSup, aCpx, aCpy, aCr, aIns, aCls, aHd, aCtx, aPx, aPy, aR, aSz, aWd, aTk, aTn, aTt, aTj, aTs, aFl, aEl, aOt, aOk, aKd, aKt, aCal, aFd, aFt, aFc, aFp, upd (upd aFh a (nI m)) a (nI (m + 1)), aFx, aFy, vp_updL aVl (8 * a + m) v)) : wX_stepArithmetic_137 post (nI a) (nI m) v fDL fCL fPL fNC fND fCK fED fEP fH fO fHP fNK fRC fTD fTT fAX fAY fRS fLV fLT fDP fEN fAN aSup aCpx aCpy aCr aIns aCls aHd aCtx aPx aPy aR aSz aWd aTk aTn aTt aTj aTs aFl aEl aOt aOk aKd aKt aCal aFd aFt aFc aFp aFh aFx aFy aVl := by
  have va := vp_in_nI (n := a) (N := 16) ha (by decide)
  unfold wX_stepArithmetic_137
  rw [nI_clamp (n := a) (by omega)]
  exact ⟨va, nm_e (sx_push ha hm pk_us hp)⟩
theorem sx_arith (ha : a < 16) (hw : w < 240) (hk : aTk w = nI k) (k4 : 4 ≤ k) (k8 : k ≤ 8) (hm : m + 2 ≤ 8) (hh : aFh a = nI (m + 2)) (hp : post (fDL, fCL, fPL, fNC, fND, fCK, fED, fEP, fH, fO, fHP, fNK, fRC, fTD, fTT, fAX, fAY, fRS, fLV, fLT, fDP, fEN, fAN, aSup, aCpx, aCpy, aCr, aIns, aCls, aHd, aCtx, aPx, aPy, aR, aSz, aWd, aTk, aTn, aTt, aTj, aTs, aFl, aEl, aOt, aOk, aKd, aKt, aCal, aFd, aFt, aFc, aFp, upd (upd aFh a (nI m)) a (nI (m + 1)), aFx, aFy, vp_updL aVl (8 * a + m) (sx_ar k (aVl (8 * a + m)) (aVl (8 * a + m + 1))))) : wpX_stepToken post (fDL, fCL, fPL, fNC, fND, fCK, fED, fEP, fH, fO, fHP, fNK, fRC, fTD, fTT, fAX, fAY, fRS, fLV, fLT, fDP, fEN, fAN, aSup, aCpx, aCpy, aCr, aIns, aCls, aHd, aCtx, aPx, aPy, aR, aSz, aWd, aTk, aTn, aTt, aTj, aTs, aFl, aEl, aOt, aOk, aKd, aKt, aCal, aFd, aFt, aFc, aFp, aFh, aFx, aFy, aVl) (nI a) (nI w) := by
  have va := vp_in_nI (n := a) (N := 16) ha (by decide)
  have vw := vp_in_nI (n := w) (N := 240) hw (by decide)
  have ca := nI_clamp (n := a) (by omega)
  have cw := nI_clamp (n := w) (by omega)
  unfold wpX_stepToken
  dsimp only
  rw [cw, hk]
  refine ⟨vw, nm_e (br_t (nI_lt (a := 3) (by omega) (by omega)) (br_f (nI_nlt (a := 8) k8 (by decide)) ?_))⟩
  unfold wpX_stepArithmetic
  dsimp only
  rw [ca, hh, show nI (m + 2) - 2 = nI m from pk_sub (b := 2) (by omega)]
  refine ⟨va, nm_e ?_⟩
  rw [sx_i, nI_1, nI_clamp (n := 8 * a + m) (by omega), nI_clamp (n := 8 * a + m + 1) (by omega)]
  refine ⟨vp_in_nI (by omega) (by decide), nm_e ⟨vp_in_nI (by omega) (by decide), nm_e ?_⟩⟩
  rcases (show k = 4 ∨ k = 5 ∨ k = 6 ∨ k = 7 ∨ k = 8 by omega) with rfl | rfl | rfl | rfl | rfl
  · exact br_t rfl (nm_e (sx_137 ha (by omega) hp))
  · exact br_f (by decide) (br_t rfl (nm_e (sx_137 ha (by omega) hp)))
  · exact br_f (by decide) (br_f (by decide) (br_t rfl (nm_e (sx_137 ha (by omega) hp))))
  · refine br_f (by decide) (br_f (by decide) (br_f (by decide) (br_t rfl ?_)))
    by_cases z : aVl (8 * a + m) = aVl (8 * a + m + 1)
    · rw [show sx_ar 7 (aVl (8 * a + m)) (aVl (8 * a + m + 1)) = 1 from if_pos z] at hp
      exact br_t z (sx_137 ha (by omega) hp)
    · rw [show sx_ar 7 (aVl (8 * a + m)) (aVl (8 * a + m + 1)) = 0 from if_neg z] at hp
      exact br_f z (sx_137 ha (by omega) hp)
  · refine br_f (by decide) (br_f (by decide) (br_f (by decide) (br_f (by decide) ?_)))
    by_cases z : aVl (8 * a + m + 1) ≤ aVl (8 * a + m)
    · rw [show sx_ar 8 (aVl (8 * a + m)) (aVl (8 * a + m + 1)) = 0 from if_pos z] at hp
      exact br_t z (sx_137 ha (by omega) hp)
    · rw [show sx_ar 8 (aVl (8 * a + m)) (aVl (8 * a + m + 1)) = 1 from if_neg z] at hp
      exact br_f z (sx_137 ha (by omega) hp)
theorem sx_none (ha : a < 16) (hw : w < 240) (hk : aTk w = nI k) (k9 : k = 9 ∨ k = 10 ∨ k = 16) (hp : post (fDL, fCL, fPL, fNC, fND, fCK, fED, fEP, fH, fO, fHP, fNK, fRC, fTD, fTT, fAX, fAY, fRS, fLV, fLT, fDP, fEN, fAN, aSup, aCpx, aCpy, aCr, aIns, aCls, aHd, aCtx, aPx, aPy, aR, aSz, aWd, aTk, aTn, aTt, aTj, aTs, aFl, aEl, aOt, aOk, aKd, aKt, aCal, aFd, aFt, aFc, aFp, aFh, aFx, aFy, aVl)) : wpX_stepToken post (fDL, fCL, fPL, fNC, fND, fCK, fED, fEP, fH, fO, fHP, fNK, fRC, fTD, fTT, fAX, fAY, fRS, fLV, fLT, fDP, fEN, fAN, aSup, aCpx, aCpy, aCr, aIns, aCls, aHd, aCtx, aPx, aPy, aR, aSz, aWd, aTk, aTn, aTt, aTj, aTs, aFl, aEl, aOt, aOk, aKd, aKt, aCal, aFd, aFt, aFc, aFp, aFh, aFx, aFy, aVl) (nI a) (nI w) := by
  have va := vp_in_nI (n := a) (N := 16) ha (by decide)
  have vw := vp_in_nI (n := w) (N := 240) hw (by decide)
  have cw := nI_clamp (n := w) (by omega)
  unfold wpX_stepToken
  dsimp only
  rw [cw, hk]
  refine ⟨vw, nm_e ?_⟩
  rcases k9 with rfl | rfl | rfl
  · exact br_t (by decide) (br_t (by decide) (br_f (by decide) ⟨va, nm_e (br_f (by decide) (br_f (by decide) (br_f (by decide) hp)))⟩))
  · exact br_t (by decide) (br_t (by decide) (br_f (by decide) ⟨va, nm_e (br_f (by decide) (br_f (by decide) (br_f (by decide) hp)))⟩))
  · exact br_t (by decide) (br_t (by decide) (br_t (by decide) (br_f (by decide) (br_f (by decide) hp))))
theorem sx_tag (ha : a < 16) (hw : w < 240) (hk : aTk w = nI 11) (hm : m + 2 ≤ 8) (hh : aFh a = nI (m + 2)) (hp : post (fDL, fCL, fPL, fNC, fND, fCK, fED, fEP, fH, fO, fHP, fNK, fRC, fTD, fTT, fAX, fAY, fRS, fLV, fLT, fDP, fEN, fAN, aSup, aCpx, aCpy, aCr, aIns, aCls, aHd, aCtx, aPx, aPy, aR, aSz, aWd, aTk, aTn, aTt, aTj, aTs, aFl, aEl, aOt, aOk, aKd, aKt, aCal, aFd, aFt, aFc, aFp, upd aFh a (nI (m + 1)), aFx, aFy, vp_updL aVl (8 * a + m) (aVl (8 * a + m) + 256 * aVl (8 * a + m + 1)))) : wpX_stepToken post (fDL, fCL, fPL, fNC, fND, fCK, fED, fEP, fH, fO, fHP, fNK, fRC, fTD, fTT, fAX, fAY, fRS, fLV, fLT, fDP, fEN, fAN, aSup, aCpx, aCpy, aCr, aIns, aCls, aHd, aCtx, aPx, aPy, aR, aSz, aWd, aTk, aTn, aTt, aTj, aTs, aFl, aEl, aOt, aOk, aKd, aKt, aCal, aFd, aFt, aFc, aFp, aFh, aFx, aFy, aVl) (nI a) (nI w) := by
  have va := vp_in_nI (n := a) (N := 16) ha (by decide)
  have vw := vp_in_nI (n := w) (N := 240) hw (by decide)
  have ca := nI_clamp (n := a) (by omega)
  have cw := nI_clamp (n := w) (by omega)
  unfold wpX_stepToken
  dsimp only
  rw [cw, hk]
  refine ⟨vw, nm_e (br_t (by decide) (br_t (by decide) (br_f (by decide) ?_)))⟩
  unfold wpX_stepData
  dsimp only
  rw [ca, hh, sx_i, show nI (m + 2) - 1 = nI (m + 1) from pk_sub (b := 1) (by omega), show nI (8 * a + (m + 2)) - 1 = nI (8 * a + m + 1) from pk_sub (b := 1) (by omega)]
  refine ⟨va, nm_e (br_t rfl ?_)⟩
  rw [show nI (8 * a + m + 1) - 1 = nI (8 * a + m) from nI_pred _, nI_clamp (n := 8 * a + m) (by omega), nI_clamp (n := 8 * a + m + 1) (by omega)]
  have v0 := vp_in_nI (n := 8 * a + m) (N := 128) (by omega) (by decide)
  exact ⟨v0, vp_in_nI (by omega) (by decide), v0, nm_e ⟨va, va, nm_e hp⟩⟩
theorem sx_un (ha : a < 16) (hw : w < 240) (hk : aTk w = nI k) (k9 : k = 12 ∨ k = 13) (hm : m + 1 ≤ 8) (hh : aFh a = nI (m + 1)) (hp : post (fDL, fCL, fPL, fNC, fND, fCK, fED, fEP, fH, fO, fHP, fNK, fRC, fTD, fTT, fAX, fAY, fRS, fLV, fLT, fDP, fEN, fAN, aSup, aCpx, aCpy, aCr, aIns, aCls, aHd, aCtx, aPx, aPy, aR, aSz, aWd, aTk, aTn, aTt, aTj, aTs, aFl, aEl, aOt, aOk, aKd, aKt, aCal, aFd, aFt, aFc, aFp, aFh, aFx, aFy, vp_updL aVl (8 * a + m) (if k = 12 then aVl (8 * a + m) &&& 255 else aVl (8 * a + m) >>> ((8 : Int32).toInt64 &&& 63)))) : wpX_stepToken post (fDL, fCL, fPL, fNC, fND, fCK, fED, fEP, fH, fO, fHP, fNK, fRC, fTD, fTT, fAX, fAY, fRS, fLV, fLT, fDP, fEN, fAN, aSup, aCpx, aCpy, aCr, aIns, aCls, aHd, aCtx, aPx, aPy, aR, aSz, aWd, aTk, aTn, aTt, aTj, aTs, aFl, aEl, aOt, aOk, aKd, aKt, aCal, aFd, aFt, aFc, aFp, aFh, aFx, aFy, aVl) (nI a) (nI w) := by
  have va := vp_in_nI (n := a) (N := 16) ha (by decide)
  have vw := vp_in_nI (n := w) (N := 240) hw (by decide)
  have ca := nI_clamp (n := a) (by omega)
  have cw := nI_clamp (n := w) (by omega)
  have v0 := vp_in_nI (n := 8 * a + m) (N := 128) (by omega) (by decide)
  unfold wpX_stepToken
  dsimp only
  rw [cw, hk]
  have k13 : k ≤ 13 := by omega
  refine ⟨vw, nm_e (br_t (nI_lt (a := 3) (by omega) (by omega)) (br_t (nI_lt (a := 8) (by omega) (by omega)) (br_f (nI_nlt (a := 13) k13 (by decide)) ?_)))⟩
  unfold wpX_stepData
  dsimp only
  rw [ca, hh, sx_i, show nI (8 * a + (m + 1)) - 1 = nI (8 * a + m) from pk_sub (b := 1) (by omega)]
  refine ⟨va, nm_e ?_⟩
  rw [nI_clamp (n := 8 * a + m) (by omega)]
  rcases k9 with rfl | rfl
  · exact br_f (by decide) (br_t rfl ⟨v0, v0, nm_e hp⟩)
  · exact br_f (by decide) (br_f (by decide) (br_t rfl ⟨v0, v0, nm_e hp⟩))
theorem sx_if (ha : a < 16) (hw : w < 240) (hk : aTk w = nI 14) (hm : m + 1 ≤ 8) (hh : aFh a = nI (m + 1)) (p0 : aVl (8 * a + m) = 0 → post (fDL, fCL, fPL, fNC, fND, fCK, fED, fEP, fH, fO, fHP, fNK, fRC, fTD, fTT, fAX, fAY, fRS, fLV, fLT, fDP, fEN, fAN, aSup, aCpx, aCpy, aCr, aIns, aCls, aHd, aCtx, aPx, aPy, aR, aSz, aWd, aTk, aTn, aTt, aTj, aTs, aFl, aEl, aOt, aOk, aKd, aKt, aCal, aFd, aFt, aFc, upd aFp a (aTj w), upd aFh a (nI m), aFx, aFy, aVl)) (p1 : ¬ aVl (8 * a + m) = 0 → post (fDL, fCL, fPL, fNC, fND, fCK, fED, fEP, fH, fO, fHP, fNK, fRC, fTD, fTT, fAX, fAY, fRS, fLV, fLT, fDP, fEN, fAN, aSup, aCpx, aCpy, aCr, aIns, aCls, aHd, aCtx, aPx, aPy, aR, aSz, aWd, aTk, aTn, aTt, aTj, aTs, aFl, aEl, aOt, aOk, aKd, aKt, aCal, aFd, aFt, aFc, aFp, upd aFh a (nI m), aFx, aFy, aVl)) : wpX_stepToken post (fDL, fCL, fPL, fNC, fND, fCK, fED, fEP, fH, fO, fHP, fNK, fRC, fTD, fTT, fAX, fAY, fRS, fLV, fLT, fDP, fEN, fAN, aSup, aCpx, aCpy, aCr, aIns, aCls, aHd, aCtx, aPx, aPy, aR, aSz, aWd, aTk, aTn, aTt, aTj, aTs, aFl, aEl, aOt, aOk, aKd, aKt, aCal, aFd, aFt, aFc, aFp, aFh, aFx, aFy, aVl) (nI a) (nI w) := by
  have va := vp_in_nI (n := a) (N := 16) ha (by decide)
  have vw := vp_in_nI (n := w) (N := 240) hw (by decide)
  have ca := nI_clamp (n := a) (by omega)
  have cw := nI_clamp (n := w) (by omega)
  have v0 := vp_in_nI (n := 8 * a + m) (N := 128) (by omega) (by decide)
  unfold wpX_stepToken
  dsimp only
  rw [cw, hk]
  refine ⟨vw, nm_e (br_t (by decide) (br_t (by decide) (br_t (by decide) (br_t rfl ?_))))⟩
  rw [ca, hh, nI_pred]
  refine ⟨va, nm_e ⟨va, nm_e ?_⟩⟩
  rw [sx_i, nI_clamp (n := 8 * a + m) (by omega)]
  exact ⟨v0, br_c (fun z => ⟨vw, va, nm_e (p0 z)⟩) (fun z => p1 z)⟩
theorem sx_else (ha : a < 16) (hw : w < 240) (hk : aTk w = nI 15) (hp : post (fDL, fCL, fPL, fNC, fND, fCK, fED, fEP, fH, fO, fHP, fNK, fRC, fTD, fTT, fAX, fAY, fRS, fLV, fLT, fDP, fEN, fAN, aSup, aCpx, aCpy, aCr, aIns, aCls, aHd, aCtx, aPx, aPy, aR, aSz, aWd, aTk, aTn, aTt, aTj, aTs, aFl, aEl, aOt, aOk, aKd, aKt, aCal, aFd, aFt, aFc, upd aFp a (aTj w), aFh, aFx, aFy, aVl)) : wpX_stepToken post (fDL, fCL, fPL, fNC, fND, fCK, fED, fEP, fH, fO, fHP, fNK, fRC, fTD, fTT, fAX, fAY, fRS, fLV, fLT, fDP, fEN, fAN, aSup, aCpx, aCpy, aCr, aIns, aCls, aHd, aCtx, aPx, aPy, aR, aSz, aWd, aTk, aTn, aTt, aTj, aTs, aFl, aEl, aOt, aOk, aKd, aKt, aCal, aFd, aFt, aFc, aFp, aFh, aFx, aFy, aVl) (nI a) (nI w) := by
  have va := vp_in_nI (n := a) (N := 16) ha (by decide)
  have vw := vp_in_nI (n := w) (N := 240) hw (by decide)
  have ca := nI_clamp (n := a) (by omega)
  have cw := nI_clamp (n := w) (by omega)
  unfold wpX_stepToken
  dsimp only
  rw [cw, hk, ca]
  exact ⟨vw, nm_e (br_t (by decide) (br_t (by decide) (br_t (by decide) (br_f (by decide) (br_t rfl ⟨vw, va, nm_e hp⟩)))))⟩
end
section
variable {dl cl pl nc nd : Nat} {fCK fED fEP fH fO fHP fNK fRC fTD fTT : Int32} {fAX fAY : Int64} {fRS : Int32} {fLV : Int64} {fLT fDP fEN : Int32} {fAN : Int64} {aSup aCpx aCpy aCr aIns aCls aHd aCtx aPx aPy aR aSz aWd aTk aTn aTt aTj aTs aFl aEl aOt aOk aKd aKt aCal aFd aFt aFc aFp aFh : Nat → Int32} {aFx aFy aVl : Nat → Int64} {a d pc n k st N : Nat}
/-- the head of X's loop over a token below CALL -/
theorem sx_tok {post : Int32 → SX → Prop} (ha : a < 16) (hd : d < 12) (hp : pc < N) (hN : N ≤ 20) (k17 : k < 17) (hst : st < 5400) (e1 : aFd a = nI d) (e2 : aFp a = nI pc) (e3 : aSz d = nI N) (e4 : aTk (20 * d + pc) = nI k) (h : wpX_stepToken (fun u => match u with | (fDL, fCL, fPL, fNC, fND, fCK, fED, fEP, fH, fO, fHP, fNK, fRC, fTD, fTT, fAX, fAY, fRS, fLV, fLT, fDP, fEN, fAN, aSup, aCpx, aCpy, aCr, aIns, aCls, aHd, aCtx, aPx, aPy, aR, aSz, aWd, aTk, aTn, aTt, aTj, aTs, aFl, aEl, aOt, aOk, aKd, aKt, aCal, aFd, aFt, aFc, aFp, aFh, aFx, aFy, aVl) => (∀ x10, x10 = nI st + 1 → wX_execute_79 post n x10 fDL fCL fPL fNC fND fCK fED fEP fH fO fHP fNK fRC fTD fTT fAX fAY fRS fLV fLT fDP fEN fAN aSup aCpx aCpy aCr aIns aCls aHd aCtx aPx aPy aR aSz aWd aTk aTn aTt aTj aTs aFl aEl aOt aOk aKd aKt aCal aFd aFt aFc aFp aFh aFx aFy aVl)) (nI dl, nI cl, nI pl, nI nc, nI nd, fCK, fED, fEP, fH, fO, fHP, fNK, fRC, fTD, fTT, fAX, fAY, fRS, fLV, fLT, nI (a + 1), fEN, fAN, aSup, aCpx, aCpy, aCr, aIns, aCls, aHd, aCtx, aPx, aPy, aR, aSz, aWd, aTk, aTn, aTt, aTj, aTs, aFl, aEl, aOt, aOk, aKd, aKt, aCal, aFd, aFt, aFc, upd aFp a (nI (pc + 1)), aFh, aFx, aFy, aVl) (nI a) (nI (20 * d + pc))) : wX_execute_79 post (n + 1) (nI st) (nI dl) (nI cl) (nI pl) (nI nc) (nI nd) fCK fED fEP fH fO fHP fNK fRC fTD fTT fAX fAY fRS fLV fLT (nI (a + 1)) fEN fAN aSup aCpx aCpy aCr aIns aCls aHd aCtx aPx aPy aR aSz aWd aTk aTn aTt aTj aTs aFl aEl aOt aOk aKd aKt aCal aFd aFt aFc aFp aFh aFx aFy aVl := by
  have va := vp_in_nI (n := a) (N := 16) ha (by decide)
  have vd := vp_in_nI (n := d) (N := 12) hd (by decide)
  refine br_f (nI_ge (b := 5400) hst (by decide)) (nm_r (nI_pred a) ?_)
  rw [nI_clamp (n := a) (by omega), e1, e2]
  refine ⟨va, nm_e ⟨va, nm_e ?_⟩⟩
  rw [nI_clamp (n := d) (by omega), e3]
  refine ⟨vd, br_t (nI_lt hp (by omega)) (nm_r (sm_20x d pc) ?_)⟩
  rw [nI_clamp (n := 20 * d + pc) (by omega), e4, nI_1]
  exact ⟨vp_in_nI (by omega) (by decide), br_t (nI_lt (b := 17) k17 (by decide)) ⟨va, nm_e h⟩⟩
theorem sx_cal {post : Int32 → SX → Prop} (ha : a < 16) (hd : d < 12) (hp : pc < N) (hN : N ≤ 20) (k17 : 17 ≤ k) (k18 : k ≤ 18) (hst : st < 5400) (e1 : aFd a = nI d) (e2 : aFp a = nI pc) (e3 : aSz d = nI N) (e4 : aTk (20 * d + pc) = nI k) (h : wpX_call (fun r u => match u with | (fDL, fCL, fPL, fNC, fND, fCK, fED, fEP, fH, fO, fHP, fNK, fRC, fTD, fTT, fAX, fAY, fRS, fLV, fLT, fDP, fEN, fAN, aSup, aCpx, aCpy, aCr, aIns, aCls, aHd, aCtx, aPx, aPy, aR, aSz, aWd, aTk, aTn, aTt, aTj, aTs, aFl, aEl, aOt, aOk, aKd, aKt, aCal, aFd, aFt, aFc, aFp, aFh, aFx, aFy, aVl) => (((r = 0 → (∀ x10, x10 = nI st + 1 → wX_execute_79 post n x10 fDL fCL fPL fNC fND fCK fED fEP fH fO fHP fNK fRC fTD fTT fAX fAY fRS fLV fLT fDP fEN fAN aSup aCpx aCpy aCr aIns aCls aHd aCtx aPx aPy aR aSz aWd aTk aTn aTt aTj aTs aFl aEl aOt aOk aKd aKt aCal aFd aFt aFc aFp aFh aFx aFy aVl)) ∧ (¬ r = 0 → post r (fDL, fCL, fPL, fNC, fND, fCK, fED, fEP, fH, fO, fHP, fNK, fRC, fTD, fTT, fAX, fAY, fRS, fLV, fLT, fDP, fEN, fAN, aSup, aCpx, aCpy, aCr, aIns, aCls, aHd, aCtx, aPx, aPy, aR, aSz, aWd, aTk, aTn, aTt, aTj, aTs, aFl, aEl, aOt, aOk, aKd, aKt, aCal, aFd, aFt, aFc, aFp, aFh, aFx, aFy, aVl))))) (nI dl, nI cl, nI pl, nI nc, nI nd, fCK, fED, fEP, fH, fO, fHP, fNK, fRC, fTD, fTT, fAX, fAY, fRS, fLV, fLT, nI (a + 1), fEN, fAN, aSup, aCpx, aCpy, aCr, aIns, aCls, aHd, aCtx, aPx, aPy, aR, aSz, aWd, aTk, aTn, aTt, aTj, aTs, aFl, aEl, aOt, aOk, aKd, aKt, aCal, aFd, aFt, aFc, aFp, aFh, aFx, aFy, aVl) (nI a) (nI (20 * d + pc)) (nI pc)) : wX_execute_79 post (n + 1) (nI st) (nI dl) (nI cl) (nI pl) (nI nc) (nI nd) fCK fED fEP fH fO fHP fNK fRC fTD fTT fAX fAY fRS fLV fLT (nI (a + 1)) fEN fAN aSup aCpx aCpy aCr aIns aCls aHd aCtx aPx aPy aR aSz aWd aTk aTn aTt aTj aTs aFl aEl aOt aOk aKd aKt aCal aFd aFt aFc aFp aFh aFx aFy aVl := by
  have va := vp_in_nI (n := a) (N := 16) ha (by decide)
  have vd := vp_in_nI (n := d) (N := 12) hd (by decide)
  refine br_f (nI_ge (b := 5400) hst (by decide)) (nm_r (nI_pred a) ?_)
  rw [nI_clamp (n := a) (by omega), e1, e2]
  refine ⟨va, nm_e ⟨va, nm_e ?_⟩⟩
  rw [nI_clamp (n := d) (by omega), e3]
  refine ⟨vd, br_t (nI_lt hp (by omega)) (nm_r (sm_20x d pc) ?_)⟩
  rw [nI_clamp (n := 20 * d + pc) (by omega), e4]
  exact ⟨vp_in_nI (by omega) (by decide), br_f (nI_nlt (b := 17) k17 (by omega)) h⟩
theorem sx_lv0 {post : Int32 → SX → Prop} (hd : d < 12) (hN : N ≤ 20) (hst : st < 5400) (e1 : aFd 0 = nI d) (e2 : aFp 0 = nI N) (e3 : aSz d = nI N) (h : post 0 (nI dl, nI cl, nI pl, nI nc, nI nd, fCK, fED, fEP, fH, fO, fHP, fNK, fRC, fTD, fTT, fAX, fAY, fRS, fLV, fLT, 0, fEN, aVl 0, aSup, aCpx, aCpy, aCr, aIns, aCls, aHd, aCtx, aPx, aPy, aR, aSz, aWd, aTk, aTn, aTt, aTj, aTs, aFl, aEl, aOt, aOk, aKd, aKt, aCal, aFd, aFt, aFc, aFp, aFh, aFx, aFy, aVl)) : wX_execute_79 post (n + 1) (nI st) (nI dl) (nI cl) (nI pl) (nI nc) (nI nd) fCK fED fEP fH fO fHP fNK fRC fTD fTT fAX fAY fRS fLV fLT (nI 1) fEN fAN aSup aCpx aCpy aCr aIns aCls aHd aCtx aPx aPy aR aSz aWd aTk aTn aTt aTj aTs aFl aEl aOt aOk aKd aKt aCal aFd aFt aFc aFp aFh aFx aFy aVl := by
  have va := vp_in_nI (n := 0) (N := 16) (by omega) (by decide)
  have vd := vp_in_nI (n := d) (N := 12) hd (by decide)
  refine br_f (nI_ge (b := 5400) hst (by decide)) (nm_r (nI_pred 0) ?_)
  rw [nI_clamp (n := 0) (by omega), e1, e2]
  refine ⟨va, nm_e ⟨va, nm_e ?_⟩⟩
  rw [nI_clamp (n := d) (by omega), e3]
  refine ⟨vd, br_f (nI_nlt (Nat.le_refl _) (by omega)) ?_⟩
  unfold wpX_leave
  dsimp only
  refine nm_r (nI_pred 0) ?_
  have e8 : (8 : Int32) * nI 0 = nI 0 := pk_mul 8 0
  rw [e8, nI_clamp (n := 0) (by omega)]
  exact ⟨vp_in_nI (by omega) (by decide), nm_e (br_t rfl (br_t rfl h))⟩
theorem sx_lv1 {post : Int32 → SX → Prop} {m : Nat} (ha : a + 1 < 16) (hd : d < 12) (hN : N ≤ 20) (hst : st < 5400) (e1 : aFd (a + 1) = nI d) (e2 : aFp (a + 1) = nI N) (e3 : aSz d = nI N) (hm : m < 8) (hh : aFh a = nI m) (h : wX_execute_79 post n (nI (st + 1)) (nI dl) (nI cl) (nI pl) (nI nc) (nI nd) fCK fED fEP fH fO fHP fNK fRC fTD fTT fAX fAY fRS fLV fLT (nI (a + 1)) fEN fAN aSup aCpx aCpy aCr aIns aCls aHd aCtx aPx aPy aR aSz aWd aTk aTn aTt aTj aTs aFl aEl aOt aOk aKd aKt aCal aFd aFt aFc aFp (upd aFh a (nI (m + 1))) aFx aFy (vp_updL aVl (8 * a + m) (aVl (8 * (a + 1))))) : wX_execute_79 post (n + 1) (nI st) (nI dl) (nI cl) (nI pl) (nI nc) (nI nd) fCK fED fEP fH fO fHP fNK fRC fTD fTT fAX fAY fRS fLV fLT (nI (a + 1 + 1)) fEN fAN aSup aCpx aCpy aCr aIns aCls aHd aCtx aPx aPy aR aSz aWd aTk aTn aTt aTj aTs aFl aEl aOt aOk aKd aKt aCal aFd aFt aFc aFp aFh aFx aFy aVl := by
  have va := vp_in_nI (n := a + 1) (N := 16) (by omega) (by decide)
  have vd := vp_in_nI (n := d) (N := 12) hd (by decide)
  refine br_f (nI_ge (b := 5400) hst (by decide)) (nm_r (nI_pred (a + 1)) ?_)
  rw [nI_clamp (n := a + 1) (by omega), e1, e2]
  refine ⟨va, nm_e ⟨va, nm_e ?_⟩⟩
  rw [nI_clamp (n := d) (by omega), e3]
  refine ⟨vd, br_f (nI_nlt (Nat.le_refl _) (by omega)) ?_⟩
  unfold wpX_leave
  dsimp only
  refine nm_r (nI_pred (a + 1)) ?_
  have e8 : (8 : Int32) * nI (a + 1) = nI (8 * (a + 1)) := pk_mul 8 (a + 1)
  rw [e8, nI_clamp (n := 8 * (a + 1)) (by omega), nI_pred]
  refine ⟨vp_in_nI (by omega) (by decide), nm_e (br_f (nI_ne0 (by omega) (by omega)) (sx_push (by omega) hm hh ?_))⟩
  exact br_f (nI_ne0 (by omega) (by omega)) (nm_r (nI_1 st) h)
end
end
section
/-! 28: runs: Y's steps -/
theorem sy_256 : ¬ (256 : Int64) = 0 := by decide
section
variable {fDL fCL fPL fNC fND fCK fED fEP fH fO fHP fNK fRC fTD fTT : Int32} {fAX fAY : Int64} {fRS : Int32} {fLV : Int64} {fLT fDP fEN : Int32} {fAN : Int64} {aSup aCpx aCpy aCr aIns aCls aHd aCtx aPx aPy aR aSz aWd aTk aTn aTt aTj aTs aFl aEl aOt aOk aKd aKt aCal aFd aFt aFc aFp aFh : Nat → Int32} {aFx aFy aVl : Nat → Int64} {yAt ySp yDp yEn yRk : Int32} {yWd : Nat → Int32} {yVl yFx yFy : Nat → Int64} {yFk yFp yKl : Nat → Int32} {post : SY → Prop} {a b k w : Nat}
theorem sy_leaf {N : Int32} (ha : a < 16) (k3 : k ≤ 3) (hb : b < 128) (hN : N = aTn w) (hp : post (fDL, fCL, fPL, fNC, fND, fCK, fED, fEP, yAt, fH, fO, fAX, fAY, fLV, fRS, fLT, nI (b + 1), yDp, yEn, fNK, yRk, aSup, aCpx, aCpy, aCr, aPx, aPy, aR, aCtx, aCls, aHd, aSz, yWd, aTk, aTn, aTt, aTs, aFl, aOt, vp_updL yVl b (sx_lv k yFx yFy aTn a w), yFx, yFy, yFk, yFp, yKl)) : wpY_compute post (fDL, fCL, fPL, fNC, fND, fCK, fED, fEP, yAt, fH, fO, fAX, fAY, fLV, fRS, fLT, nI b, yDp, yEn, fNK, yRk, aSup, aCpx, aCpy, aCr, aPx, aPy, aR, aCtx, aCls, aHd, aSz, yWd, aTk, aTn, aTt, aTs, aFl, aOt, yVl, yFx, yFy, yFk, yFp, yKl) (nI k) N (nI a) := by
  have va := vp_in_nI (n := a) (N := 16) ha (by decide)
  have ca := nI_clamp (n := a) (by omega)
  have P43 : ∀ z : Int64, post (fDL, fCL, fPL, fNC, fND, fCK, fED, fEP, yAt, fH, fO, fAX, fAY, fLV, fRS, fLT, nI (b + 1), yDp, yEn, fNK, yRk, aSup, aCpx, aCpy, aCr, aPx, aPy, aR, aCtx, aCls, aHd, aSz, yWd, aTk, aTn, aTt, aTs, aFl, aOt, vp_updL yVl b z, yFx, yFy, yFk, yFp, yKl) → wY_compute_43 post z (nI b) fDL fCL fPL fNC fND fCK fED fEP yAt fH fO fAX fAY fLV fRS fLT (nI b) yDp yEn fNK yRk aSup aCpx aCpy aCr aPx aPy aR aCtx aCls aHd aSz yWd aTk aTn aTt aTs aFl aOt yVl yFx yFy yFk yFp yKl := by
    intro z h
    unfold wY_compute_43
    rw [nI_clamp (n := b) (by omega), nI_1]
    exact ⟨vp_in_nI hb (by decide), nm_e (nm_e h)⟩
  subst hN
  unfold wpY_compute
  dsimp only
  rw [ca]
  rcases (show k = 0 ∨ k = 1 ∨ k = 2 ∨ k = 3 by omega) with rfl | rfl | rfl | rfl
  · exact br_f (by decide) (br_f (by decide) (br_f (by decide) (P43 _ hp)))
  · exact br_f (by decide) (br_f (by decide) (br_f (by decide) (P43 _ hp)))
  · exact br_f (by decide) (br_t rfl ⟨va, P43 _ hp⟩)
  · exact br_f (by decide) (br_f (by decide) (br_t rfl ⟨va, P43 _ hp⟩))
theorem sy_275 {z : Int64} (hb : b + 1 < 128) (hp : post (fDL, fCL, fPL, fNC, fND, fCK, fED, fEP, yAt, fH, fO, fAX, fAY, fLV, fRS, fLT, nI (b + 1), yDp, yEn, fNK, yRk, aSup, aCpx, aCpy, aCr, aPx, aPy, aR, aCtx, aCls, aHd, aSz, yWd, aTk, aTn, aTt, aTs, aFl, aOt, vp_updL yVl b z, yFx, yFy, yFk, yFp, yKl)) : wY_compute_275 post z fDL fCL fPL fNC fND fCK fED fEP yAt fH fO fAX fAY fLV fRS fLT (nI (b + 1)) yDp yEn fNK yRk aSup aCpx aCpy aCr aPx aPy aR aCtx aCls aHd aSz yWd aTk aTn aTt aTs aFl aOt yVl yFx yFy yFk yFp yKl := by
  unfold wY_compute_275
  rw [nI_pred, nI_clamp (n := b) (by omega)]
  exact ⟨vp_in_nI (by omega) (by decide), nm_e hp⟩
theorem sy_139 (hb : b + 2 ≤ 128) (hk : (4 ≤ k ∧ k ≤ 8) ∨ k = 11) (hp : post (fDL, fCL, fPL, fNC, fND, fCK, fED, fEP, yAt, fH, fO, fAX, fAY, fLV, fRS, fLT, nI (b + 1), yDp, yEn, fNK, yRk, aSup, aCpx, aCpy, aCr, aPx, aPy, aR, aCtx, aCls, aHd, aSz, yWd, aTk, aTn, aTt, aTs, aFl, aOt, vp_updL yVl b (if k = 11 then yVl b + 256 * yVl (b + 1) else sx_ar k (yVl b) (yVl (b + 1))), yFx, yFy, yFk, yFp, yKl)) : wY_compute_139 post (nI k) fDL fCL fPL fNC fND fCK fED fEP yAt fH fO fAX fAY fLV fRS fLT (nI (b + 2)) yDp yEn fNK yRk aSup aCpx aCpy aCr aPx aPy aR aCtx aCls aHd aSz yWd aTk aTn aTt aTs aFl aOt yVl yFx yFy yFk yFp yKl := by
  unfold wY_compute_139
  refine nm_r (e' := nI (b + 1)) (pk_sub (b := 1) (by omega)) ?_
  rw [nI_pred, nI_clamp (n := b) (by omega), nI_clamp (n := b + 1) (by omega)]
  refine ⟨vp_in_nI (by omega) (by decide), nm_e ⟨vp_in_nI (by omega) (by decide), nm_e (nm_e ?_)⟩⟩
  rcases (show k = 4 ∨ k = 5 ∨ k = 6 ∨ k = 7 ∨ k = 8 ∨ k = 11 by omega) with rfl | rfl | rfl | rfl | rfl | rfl
  · exact br_t rfl (nm_e (br_f (by decide) (br_f (by decide) (br_f (by decide) (br_f (by decide) (sy_275 (by omega) hp))))))
  · exact br_f (by decide) (br_t rfl (nm_e (br_f (by decide) (br_f (by decide) (br_f (by decide) (sy_275 (by omega) hp))))))
  · exact br_f (by decide) (br_f (by decide) (br_t rfl (nm_e (br_f (by decide) (br_f (by decide) (sy_275 (by omega) hp))))))
  · refine br_f (by decide) (br_f (by decide) (br_f (by decide) (br_t rfl ?_)))
    by_cases z : yVl b = yVl (b + 1)
    · rw [if_neg (by decide), show sx_ar 7 (yVl b) (yVl (b + 1)) = 1 from if_pos z] at hp
      exact br_t z (br_f (by decide) (sy_275 (by omega) hp))
    · rw [if_neg (by decide), show sx_ar 7 (yVl b) (yVl (b + 1)) = 0 from if_neg z] at hp
      exact br_f z (br_f (by decide) (sy_275 (by omega) hp))
  · refine br_f (by decide) (br_f (by decide) (br_f (by decide) (br_f (by decide) (br_t rfl ?_))))
    by_cases z : yVl (b + 1) ≤ yVl b
    · rw [if_neg (by decide), show sx_ar 8 (yVl b) (yVl (b + 1)) = 0 from if_pos z] at hp
      exact br_t z (sy_275 (by omega) hp)
    · rw [if_neg (by decide), show sx_ar 8 (yVl b) (yVl (b + 1)) = 1 from if_neg z] at hp
      exact br_f z (sy_275 (by omega) hp)
  · exact br_f (by decide) (br_f (by decide) (br_f (by decide) (br_f (by decide) (br_f (by decide) (sy_275 (by omega) hp)))))
theorem sy_ar {N A : Int32} (hb : b + 2 ≤ 128) (hk : (4 ≤ k ∧ k ≤ 8) ∨ k = 11) (hp : post (fDL, fCL, fPL, fNC, fND, fCK, fED, fEP, yAt, fH, fO, fAX, fAY, fLV, fRS, fLT, nI (b + 1), yDp, yEn, fNK, yRk, aSup, aCpx, aCpy, aCr, aPx, aPy, aR, aCtx, aCls, aHd, aSz, yWd, aTk, aTn, aTt, aTs, aFl, aOt, vp_updL yVl b (if k = 11 then yVl b + 256 * yVl (b + 1) else sx_ar k (yVl b) (yVl (b + 1))), yFx, yFy, yFk, yFp, yKl)) : wpY_compute post (fDL, fCL, fPL, fNC, fND, fCK, fED, fEP, yAt, fH, fO, fAX, fAY, fLV, fRS, fLT, nI (b + 2), yDp, yEn, fNK, yRk, aSup, aCpx, aCpy, aCr, aPx, aPy, aR, aCtx, aCls, aHd, aSz, yWd, aTk, aTn, aTt, aTs, aFl, aOt, yVl, yFx, yFy, yFk, yFp, yKl) (nI k) N A := by
  have n12 : ¬ nI k = 12 := fun z => by
    have := (nI_eq (b := 12) (by omega) (by omega)).mp z
    omega
  have n13 : ¬ nI k = 13 := fun z => by
    have := (nI_eq (b := 13) (by omega) (by omega)).mp z
    omega
  refine br_t (nI_lt (a := 3) (by omega) (by omega)) (br_f n12 (br_f n13 ?_))
  by_cases k8 : k ≤ 8
  · exact br_t (nI_le (b := 8) k8 (by decide)) (sy_139 hb hk hp)
  · exact br_f (nI_ge (a := 8) (by omega) (by omega)) (br_t (by rw [show k = 11 by omega]; rfl) (sy_139 hb hk hp))
theorem sy_none {N A : Int32} (hk : k = 9 ∨ k = 10 ∨ k = 16) (hp : post (fDL, fCL, fPL, fNC, fND, fCK, fED, fEP, yAt, fH, fO, fAX, fAY, fLV, fRS, fLT, ySp, yDp, yEn, fNK, yRk, aSup, aCpx, aCpy, aCr, aPx, aPy, aR, aCtx, aCls, aHd, aSz, yWd, aTk, aTn, aTt, aTs, aFl, aOt, yVl, yFx, yFy, yFk, yFp, yKl)) : wpY_compute post (fDL, fCL, fPL, fNC, fND, fCK, fED, fEP, yAt, fH, fO, fAX, fAY, fLV, fRS, fLT, ySp, yDp, yEn, fNK, yRk, aSup, aCpx, aCpy, aCr, aPx, aPy, aR, aCtx, aCls, aHd, aSz, yWd, aTk, aTn, aTt, aTs, aFl, aOt, yVl, yFx, yFy, yFk, yFp, yKl) (nI k) N A := by
  rcases hk with rfl | rfl | rfl
  · exact br_t (by decide) (br_f (by decide) (br_f (by decide) (br_f (by decide) (br_f (by decide) hp))))
  · exact br_t (by decide) (br_f (by decide) (br_f (by decide) (br_f (by decide) (br_f (by decide) hp))))
  · exact br_t (by decide) (br_f (by decide) (br_f (by decide) (br_f (by decide) (br_f (by decide) hp))))
theorem sy_un {N A : Int32} (hb : b + 1 ≤ 128) (hk : k = 12 ∨ k = 13) (hp : post (fDL, fCL, fPL, fNC, fND, fCK, fED, fEP, yAt, fH, fO, fAX, fAY, fLV, fRS, fLT, nI (b + 1), yDp, yEn, fNK, yRk, aSup, aCpx, aCpy, aCr, aPx, aPy, aR, aCtx, aCls, aHd, aSz, yWd, aTk, aTn, aTt, aTs, aFl, aOt, vp_updL yVl b (if k = 12 then yVl b - yVl b / 256 * 256 else yVl b / 256), yFx, yFy, yFk, yFp, yKl)) : wpY_compute post (fDL, fCL, fPL, fNC, fND, fCK, fED, fEP, yAt, fH, fO, fAX, fAY, fLV, fRS, fLT, nI (b + 1), yDp, yEn, fNK, yRk, aSup, aCpx, aCpy, aCr, aPx, aPy, aR, aCtx, aCls, aHd, aSz, yWd, aTk, aTn, aTt, aTs, aFl, aOt, yVl, yFx, yFy, yFk, yFp, yKl) (nI k) N A := by
  have v0 := vp_in_nI (n := b) (N := 128) (by omega) (by decide)
  unfold wpY_compute
  dsimp only
  rw [nI_pred, nI_clamp (n := b) (by omega)]
  rcases hk with rfl | rfl
  · exact br_t (by decide) (br_t rfl ⟨v0, sy_256, v0, nm_e hp⟩)
  · exact br_t (by decide) (br_f (by decide) (br_t rfl ⟨v0, sy_256, v0, nm_e hp⟩))
end
section
variable {dl cl pl nc nd : Nat} {fCK fED fEP fH fO fHP fNK fRC fTD fTT : Int32} {fAX fAY : Int64} {fRS : Int32} {fLV : Int64} {fLT fDP fEN : Int32} {fAN : Int64} {aSup aCpx aCpy aCr aIns aCls aHd aCtx aPx aPy aR aSz aWd aTk aTn aTt aTj aTs aFl aEl aOt aOk aKd aKt aCal aFd aFt aFc aFp aFh : Nat → Int32} {aFx aFy aVl : Nat → Int64} {yAt ySp yDp yEn yRk : Int32} {yWd : Nat → Int32} {yVl yFx yFy : Nat → Int64} {yFk yFp yKl : Nat → Int32} {a b d pc n k st N s : Nat} {post : Int32 → SY → Prop}
theorem sy_pre (ha : a < 16) (hd : d < 12) (hs : s < 2097152) (hp : pc < N) (hN : N ≤ 20) (hst : st < 6000) (e1 : yFk a = nI (d * 2097152 + s)) (e2 : yFp a = nI pc) (e3 : aSz d = nI N) (e4 : aTk (20 * d + pc) = nI k) (h : wY_evaluate_168 post (wY_evaluate_95 post n) (nI st) (nI a) (nI d) (nI pc) (nI k) (nI dl) (nI cl) (nI pl) (nI nc) (nI nd) fCK fED fEP yAt fH fO fAX fAY fLV fRS fLT ySp (nI (a + 1)) yEn fNK yRk aSup aCpx aCpy aCr aPx aPy aR aCtx aCls aHd aSz yWd aTk aTn aTt aTs aFl aOt yVl yFx yFy yFk yFp yKl) : wY_evaluate_95 post (n + 1) (nI st) (nI dl) (nI cl) (nI pl) (nI nc) (nI nd) fCK fED fEP yAt fH fO fAX fAY fLV fRS fLT ySp (nI (a + 1)) yEn fNK yRk aSup aCpx aCpy aCr aPx aPy aR aCtx aCls aHd aSz yWd aTk aTn aTt aTs aFl aOt yVl yFx yFy yFk yFp yKl := by
  have va := vp_in_nI (n := a) (N := 16) ha (by decide)
  have vd := vp_in_nI (n := d) (N := 12) hd (by decide)
  refine br_f (nI_ge (b := 6000) hst (by decide)) (br_f (nI_nle (by omega) (by omega)) (nm_r (nI_pred a) ?_))
  rw [nI_clamp (n := a) (by omega), e1, e2, ky_d hd hs]
  refine ⟨va, ty_K, nm_e ⟨va, nm_e ?_⟩⟩
  rw [nI_clamp (n := d) (by omega), e3, sm_20y, nI_clamp (n := 20 * d + pc) (by omega), e4]
  exact ⟨vd, br_f (nI_ge hp (by omega)) ⟨vp_in_nI (by omega) (by decide), h⟩⟩
theorem sy_lv (ha : a < 16) (hd : d < 12) (hs : s < 2097152) (hN : N ≤ 20) (hst : st < 6000) (e1 : yFk a = nI (d * 2097152 + s)) (e2 : yFp a = nI N) (e3 : aSz d = nI N) (h : wY_evaluate_95 post n (nI (st + 1)) (nI dl) (nI cl) (nI pl) (nI nc) (nI nd) fCK fED fEP yAt fH fO fAX fAY fLV fRS fLT ySp (nI a) yEn fNK yRk aSup aCpx aCpy aCr aPx aPy aR aCtx aCls aHd aSz yWd aTk aTn aTt aTs aFl aOt yVl yFx yFy yFk (upd yFp a (nI (N + 1))) yKl) : wY_evaluate_95 post (n + 1) (nI st) (nI dl) (nI cl) (nI pl) (nI nc) (nI nd) fCK fED fEP yAt fH fO fAX fAY fLV fRS fLT ySp (nI (a + 1)) yEn fNK yRk aSup aCpx aCpy aCr aPx aPy aR aCtx aCls aHd aSz yWd aTk aTn aTt aTs aFl aOt yVl yFx yFy yFk yFp yKl := by
  have va := vp_in_nI (n := a) (N := 16) ha (by decide)
  have vd := vp_in_nI (n := d) (N := 12) hd (by decide)
  refine br_f (nI_ge (b := 6000) hst (by decide)) (br_f (nI_nle (by omega) (by omega)) (nm_r (nI_pred a) ?_))
  rw [nI_clamp (n := a) (by omega), e1, e2, ky_d hd hs]
  refine ⟨va, ty_K, nm_e ⟨va, nm_e ?_⟩⟩
  rw [nI_clamp (n := d) (by omega), e3]
  refine ⟨vd, br_t (nI_le (Nat.le_refl _) (by omega)) ?_⟩
  unfold wY_evaluate_168
  rw [nI_clamp (n := a) (by omega), nI_1 N]
  exact ⟨va, nm_e (br_t rfl (nm_r (nI_pred a) (nm_r (nI_1 st) h)))⟩
theorem sy_end (hst : st < 6000) (h : post 0 (nI dl, nI cl, nI pl, nI nc, nI nd, fCK, fED, fEP, yAt, fH, fO, fAX, fAY, fLV, fRS, fLT, ySp, nI 0, yEn, fNK, yRk, aSup, aCpx, aCpy, aCr, aPx, aPy, aR, aCtx, aCls, aHd, aSz, yWd, aTk, aTn, aTt, aTs, aFl, aOt, yVl, yFx, yFy, yFk, yFp, yKl)) : wY_evaluate_95 post (n + 1) (nI st) (nI dl) (nI cl) (nI pl) (nI nc) (nI nd) fCK fED fEP yAt fH fO fAX fAY fLV fRS fLT ySp (nI 0) yEn fNK yRk aSup aCpx aCpy aCr aPx aPy aR aCtx aCls aHd aSz yWd aTk aTn aTt aTs aFl aOt yVl yFx yFy yFk yFp yKl :=
  br_f (nI_ge (b := 6000) hst (by decide)) (br_t (by decide) h)
theorem sy_cmp (ha : a < 16) (hd : d < 12) (hp : pc < 20) (k17 : k < 17) (k14 : k ≠ 14) (k15 : k ≠ 15) (h : wpY_compute (fun u => match u with | (fDL, fCL, fPL, fNC, fND, fCK, fED, fEP, yAt, fH, fO, fAX, fAY, fLV, fRS, fLT, ySp, yDp, yEn, fNK, yRk, aSup, aCpx, aCpy, aCr, aPx, aPy, aR, aCtx, aCls, aHd, aSz, yWd, aTk, aTn, aTt, aTs, aFl, aOt, yVl, yFx, yFy, yFk, yFp, yKl) => (∀ x9, x9 = nI st + 1 → wY_evaluate_95 post n x9 fDL fCL fPL fNC fND fCK fED fEP yAt fH fO fAX fAY fLV fRS fLT ySp yDp yEn fNK yRk aSup aCpx aCpy aCr aPx aPy aR aCtx aCls aHd aSz yWd aTk aTn aTt aTs aFl aOt yVl yFx yFy yFk yFp yKl)) (nI dl, nI cl, nI pl, nI nc, nI nd, fCK, fED, fEP, yAt, fH, fO, fAX, fAY, fLV, fRS, fLT, ySp, nI (a + 1), yEn, fNK, yRk, aSup, aCpx, aCpy, aCr, aPx, aPy, aR, aCtx, aCls, aHd, aSz, yWd, aTk, aTn, aTt, aTs, aFl, aOt, yVl, yFx, yFy, yFk, upd yFp a (nI (pc + 1)), yKl) (nI k) (aTn (20 * d + pc)) (nI a)) : wY_evaluate_168 post (wY_evaluate_95 post n) (nI st) (nI a) (nI d) (nI pc) (nI k) (nI dl) (nI cl) (nI pl) (nI nc) (nI nd) fCK fED fEP yAt fH fO fAX fAY fLV fRS fLT ySp (nI (a + 1)) yEn fNK yRk aSup aCpx aCpy aCr aPx aPy aR aCtx aCls aHd aSz yWd aTk aTn aTt aTs aFl aOt yVl yFx yFy yFk yFp yKl := by
  have va := vp_in_nI (n := a) (N := 16) ha (by decide)
  have vw := vp_in_nI (n := 20 * d + pc) (N := 240) (by omega) (by decide)
  unfold wY_evaluate_168
  rw [nI_clamp (n := a) (by omega), nI_1 pc, sm_20y, nI_clamp (n := 20 * d + pc) (by omega)]
  refine ⟨va, nm_e (br_f (sr_ne (by omega)) (br_t (nI_lt (b := 17) k17 (by decide)) (br_f (fun z => ?_) (br_f (fun z => ?_) ⟨vw, h⟩))))⟩
  · exact k14 ((nI_eq (b := 14) (by omega) (by omega)).mp z)
  · exact k15 ((nI_eq (b := 15) (by omega) (by omega)).mp z)
theorem sy_if (ha : a < 16) (hb : b < 128) (p0 : yVl b = 0 → wpY_partner (fun r => (vp_in (nI a) 16 ∧ ∀ fp, fp = upd (upd yFp a (nI (pc + 1))) (nI a).toNatClampNeg (r + 1) → ∀ x9, x9 = nI st + 1 → wY_evaluate_95 post n x9 (nI dl) (nI cl) (nI pl) (nI nc) (nI nd) fCK fED fEP yAt fH fO fAX fAY fLV fRS fLT (nI b) (nI (a + 1)) yEn fNK yRk aSup aCpx aCpy aCr aPx aPy aR aCtx aCls aHd aSz yWd aTk aTn aTt aTs aFl aOt yVl yFx yFy yFk fp yKl)) (nI dl, nI cl, nI pl, nI nc, nI nd, fCK, fED, fEP, yAt, fH, fO, fAX, fAY, fLV, fRS, fLT, nI b, nI (a + 1), yEn, fNK, yRk, aSup, aCpx, aCpy, aCr, aPx, aPy, aR, aCtx, aCls, aHd, aSz, yWd, aTk, aTn, aTt, aTs, aFl, aOt, yVl, yFx, yFy, yFk, upd yFp a (nI (pc + 1)), yKl) (nI d) (nI pc) 15) (p1 : ¬ yVl b = 0 → wY_evaluate_95 post n (nI (st + 1)) (nI dl) (nI cl) (nI pl) (nI nc) (nI nd) fCK fED fEP yAt fH fO fAX fAY fLV fRS fLT (nI b) (nI (a + 1)) yEn fNK yRk aSup aCpx aCpy aCr aPx aPy aR aCtx aCls aHd aSz yWd aTk aTn aTt aTs aFl aOt yVl yFx yFy yFk (upd yFp a (nI (pc + 1))) yKl) : wY_evaluate_168 post (wY_evaluate_95 post n) (nI st) (nI a) (nI d) (nI pc) (nI 14) (nI dl) (nI cl) (nI pl) (nI nc) (nI nd) fCK fED fEP yAt fH fO fAX fAY fLV fRS fLT (nI (b + 1)) (nI (a + 1)) yEn fNK yRk aSup aCpx aCpy aCr aPx aPy aR aCtx aCls aHd aSz yWd aTk aTn aTt aTs aFl aOt yVl yFx yFy yFk yFp yKl := by
  have va := vp_in_nI (n := a) (N := 16) ha (by decide)
  have ca := nI_clamp (n := a) (by omega)
  rw [ca] at p0
  unfold wY_evaluate_168
  rw [ca, nI_1 pc]
  refine ⟨va, nm_e (br_f (by decide) (br_t (by decide) (br_t rfl (nm_r (nI_pred b) ?_))))⟩
  rw [nI_clamp (n := b) (by omega)]
  exact ⟨vp_in_nI hb (by decide), br_c (fun z => p0 z) (fun z => nm_r (nI_1 st) (p1 z))⟩
theorem sy_else (ha : a < 16) (p0 : wpY_partner (fun r => (vp_in (nI a) 16 ∧ ∀ fp, fp = upd (upd yFp a (nI (pc + 1))) (nI a).toNatClampNeg (r + 1) → ∀ x9, x9 = nI st + 1 → wY_evaluate_95 post n x9 (nI dl) (nI cl) (nI pl) (nI nc) (nI nd) fCK fED fEP yAt fH fO fAX fAY fLV fRS fLT ySp (nI (a + 1)) yEn fNK yRk aSup aCpx aCpy aCr aPx aPy aR aCtx aCls aHd aSz yWd aTk aTn aTt aTs aFl aOt yVl yFx yFy yFk fp yKl)) (nI dl, nI cl, nI pl, nI nc, nI nd, fCK, fED, fEP, yAt, fH, fO, fAX, fAY, fLV, fRS, fLT, ySp, nI (a + 1), yEn, fNK, yRk, aSup, aCpx, aCpy, aCr, aPx, aPy, aR, aCtx, aCls, aHd, aSz, yWd, aTk, aTn, aTt, aTs, aFl, aOt, yVl, yFx, yFy, yFk, upd yFp a (nI (pc + 1)), yKl) (nI d) (nI pc) 16) : wY_evaluate_168 post (wY_evaluate_95 post n) (nI st) (nI a) (nI d) (nI pc) (nI 15) (nI dl) (nI cl) (nI pl) (nI nc) (nI nd) fCK fED fEP yAt fH fO fAX fAY fLV fRS fLT ySp (nI (a + 1)) yEn fNK yRk aSup aCpx aCpy aCr aPx aPy aR aCtx aCls aHd aSz yWd aTk aTn aTt aTs aFl aOt yVl yFx yFy yFk yFp yKl := by
  have va := vp_in_nI (n := a) (N := 16) ha (by decide)
  have ca := nI_clamp (n := a) (by omega)
  rw [ca] at p0
  unfold wY_evaluate_168
  rw [ca, nI_1 pc]
  exact ⟨va, nm_e (br_f (by decide) (br_t (by decide) (br_f (by decide) (br_t rfl p0))))⟩
/-- the partner of an IF or ELSE -/
theorem sy_op {W : Nat} {Ht : Nat → Nat} {Ty : Nat → Nat → Int32} {Op : Nat → Nat} (R : wt_R nc nd aSup aCpx aCpy aCr aIns aCls aHd aCtx aPx aPy aR aTk aTn aTt d W N Ht Ty Op) : ∀ j, j ≤ N → Op j ≤ j := by
  intro j
  induction j with
  | zero => intro _; rw [R.2.1]; exact Nat.le_refl _
  | succ j ih =>
    intro hj
    have i1 := ih (by omega)
    obtain ⟨q1, q2, q3, q4⟩ := R.2.2.1 j (by omega)
    by_cases k14 : wt_k aTk d j = 14
    · have := (q2 k14).2.2.2; omega
    · by_cases k15 : wt_k aTk d j = 15
      · have := (q3 k15).2; omega
      · by_cases k16 : wt_k aTk d j = 16
        · have := (q4 k16).2.2; omega
        · obtain ⟨_, _, _, _, _, _, _, e⟩ := q1 k14 k15 k16
          omega
theorem sy_pt {ps : Int32 → Prop} {W q z J : Nat} {Ht : Nat → Nat} {Ty : Nat → Nat → Int32} {Op : Nat → Nat} (hd : d < 12) (hN : N ≤ 20) (e3 : aSz d = nI N) (hk : ∀ j, j < N → ∃ k, k ≤ 18 ∧ aTk (20 * d + j) = nI k) (R : wt_R nc nd aSup aCpx aCpy aCr aIns aCls aHd aCtx aPx aPy aR aTk aTn aTt d W N Ht Ty Op) (hJ : J < N) (z18 : z ≤ 18) (P : wt_p aTk d Op q z J) (hp : ps (nI J)) : wpY_partner ps (nI dl, nI cl, nI pl, nI nc, nI nd, fCK, fED, fEP, yAt, fH, fO, fAX, fAY, fLV, fRS, fLT, ySp, yDp, yEn, fNK, yRk, aSup, aCpx, aCpy, aCr, aPx, aPy, aR, aCtx, aCls, aHd, aSz, yWd, aTk, aTn, aTt, aTs, aFl, aOt, yVl, yFx, yFy, yFk, yFp, yKl) (nI d) (nI q) (nI z) := by
  have vd := vp_in_nI (n := d) (N := 12) hd (by decide)
  obtain ⟨P1, P2, P3, P4⟩ := P
  have O := sy_op R
  unfold wpY_partner
  dsimp only
  rw [nI_clamp (n := d) (by omega), e3]
  refine ⟨vd, nm_e (nm_r (nI_1 q) (Exists.intro 21 ?_))⟩
  have L : ∀ (n j : Nat), q < j → j ≤ J → J - j < n → wY_partner_16 ps (nI d) (nI z) (nI N) (nI dl) (nI cl) (nI pl) (nI nc) (nI nd) fCK fED fEP yAt fH fO fAX fAY fLV fRS fLT ySp yDp yEn fNK yRk aSup aCpx aCpy aCr aPx aPy aR aCtx aCls aHd aSz yWd aTk aTn aTt aTs aFl aOt yVl yFx yFy yFk yFp yKl n (nI (Op j - Op (q + 1))) (nI j) := by
    intro n
    induction n with
    | zero => intro j _ _ h; omega
    | succ n ih =>
      intro j hq hj hn
      obtain ⟨k, k18, ek⟩ := hk j (by omega)
      have kk := kx_k k18 ek
      have oj := O j (by omega)
      have oj1 := O (j + 1) (by omega)
      have oq := O (q + 1) (by omega)
      refine br_f (nI_ge (by omega) (by omega)) ?_
      rw [sm_20y, nI_clamp (n := 20 * d + j) (by omega)]
      refine ⟨vp_in_nI (by omega) (by decide), nm_r ek ?_⟩
      by_cases eJ : j = J
      · subst eJ
        rw [kk] at P2
        exact br_t (by rw [P2]) (br_t (by rw [P3, Nat.sub_self]; rfl) hp)
      · obtain ⟨c1, c2⟩ := P4 j hq (by omega)
        have c3 : Op (q + 1) ≤ Op (j + 1) := by
          by_cases y : j + 1 = J
          · rw [y, P3]; exact Nat.le_refl _
          · exact (P4 (j + 1) (by omega) (by omega)).1
        rw [kk] at c2
        have T := ih (j + 1) (by omega) (by omega) (by omega)
        have OS : (k = 14 → Op (j + 1) = Op j + 1) ∧ (k = 16 → Op j = Op (j + 1) + 1) ∧ (k ≠ 14 → k ≠ 16 → Op (j + 1) = Op j) := by
          obtain ⟨q1, q2, q3, q4⟩ := R.2.2.1 j (by omega)
          rw [kk] at q1 q2 q3 q4
          refine ⟨fun y => (q2 y).2.2.2, fun y => (q4 y).2.2, fun y1 y2 => ?_⟩
          by_cases k15 : k = 15
          · exact (q3 k15).2
          · obtain ⟨_, _, _, _, _, _, _, e⟩ := q1 y1 k15 y2
            exact e
        have A : wY_partner_51 ps (wY_partner_16 ps (nI d) (nI z) (nI N) (nI dl) (nI cl) (nI pl) (nI nc) (nI nd) fCK fED fEP yAt fH fO fAX fAY fLV fRS fLT ySp yDp yEn fNK yRk aSup aCpx aCpy aCr aPx aPy aR aCtx aCls aHd aSz yWd aTk aTn aTt aTs aFl aOt yVl yFx yFy yFk yFp yKl n) (nI d) (nI z) (nI (Op j - Op (q + 1))) (nI N) (nI j) (nI k) (nI dl) (nI cl) (nI pl) (nI nc) (nI nd) fCK fED fEP yAt fH fO fAX fAY fLV fRS fLT ySp yDp yEn fNK yRk aSup aCpx aCpy aCr aPx aPy aR aCtx aCls aHd aSz yWd aTk aTn aTt aTs aFl aOt yVl yFx yFy yFk yFp yKl := by
          by_cases k14 : k = 14
          · have e := OS.1 k14
            rw [e, show Op j + 1 - Op (q + 1) = Op j - Op (q + 1) + 1 by omega] at T
            exact br_t (by rw [k14]; rfl) (nm_r (nI_1 _) (br_f (by rw [k14]; decide) (nm_r (nI_1 j) T)))
          · have k14' : ¬ nI k = 14 := fun y => k14 ((nI_eq (b := 14) (by omega) (by omega)).mp y)
            refine br_f k14' ?_
            by_cases k16 : k = 16
            · have e := OS.2.1 k16
              refine br_t (by rw [k16]; rfl) (nm_r (e' := nI (Op (j + 1) - Op (q + 1))) ?_ (nm_r (nI_1 j) T))
              rw [e, show Op (j + 1) + 1 - Op (q + 1) = Op (j + 1) - Op (q + 1) + 1 by omega, pk_m1]
            · have k16' : ¬ nI k = 16 := fun y => k16 ((nI_eq (b := 16) (by omega) (by omega)).mp y)
              rw [OS.2.2 k14 k16] at T
              exact br_f k16' (nm_r (nI_1 j) T)
        by_cases kz : k = z
        · refine br_t (by rw [kz]) (br_f (fun y => ?_) A)
          have := (nI_eq (b := 0) (by omega) (by omega)).mp y
          exact c2 ⟨kz, by omega⟩
        · exact br_f (fun y => kz ((nI_eq (by omega) (by omega)).mp y)) A
  have F := L 21 (q + 1) (by omega) (by omega) (by omega)
  rw [Nat.sub_self] at F
  exact F
end
end
section
/-! 29: runs: calls -/
section
variable {dl cl pl nc nd : Nat} {fCK fED fEP fH fO fHP fNK fRC fTD fTT : Int32} {fAX fAY : Int64} {fRS : Int32} {fLV : Int64} {fLT fDP fEN : Int32} {fAN : Int64} {aSup aCpx aCpy aCr aIns aCls aHd aCtx aPx aPy aR aSz aWd aTk aTn aTt aTj aTs aFl aEl aOt aOk aKd aKt aCal aFd aFt aFc aFp aFh : Nat → Int32} {aFx aFy aVl : Nat → Int64} {yAt ySp yDp yEn yRk : Int32} {yWd : Nat → Int32} {yVl yFx yFy : Nat → Int64} {yFk yFp yKl : Nat → Int32} {a d pc en s d' s' m : Nat}
theorem sc_131 {post : Int32 → SX → Prop} {x5 x7 : Int64} {x9 : Int32} (ha : a + 1 ≤ pl) (p16 : pl ≤ 16) (he : en ≤ 256) (hpc : pc < 20) (p2 : ¬ a + 1 < pl → post 2 (nI dl, nI cl, nI pl, nI nc, nI nd, fCK, fED, fEP, fH, fO, fHP, fNK, fRC, fTD, fTT, fAX, fAY, fRS, fLV, fLT, nI (a + 1), nI en, fAN, aSup, aCpx, aCpy, aCr, aIns, aCls, aHd, aCtx, aPx, aPy, aR, aSz, aWd, aTk, aTn, aTt, aTj, aTs, aFl, aEl, aOt, aOk, aKd, aKt, aCal, aFd, aFt, aFc, aFp, aFh, aFx, aFy, aVl)) (p3 : a + 1 < pl → ¬ en < 256 → post 3 (nI dl, nI cl, nI pl, nI nc, nI nd, fCK, fED, fEP, fH, fO, fHP, fNK, fRC, fTD, fTT, fAX, fAY, fRS, fLV, fLT, nI (a + 1), nI en, fAN, aSup, aCpx, aCpy, aCr, aIns, aCls, aHd, aCtx, aPx, aPy, aR, aSz, aWd, aTk, aTn, aTt, aTj, aTs, aFl, aEl, aOt, aOk, aKd, aKt, aCal, aFd, aFt, aFc, aFp, aFh, aFx, aFy, aVl)) (p4 : a + 1 < pl → en < 256 → post 0 (nI dl, nI cl, nI pl, nI nc, nI nd, fCK, fED, fEP, fH, fO, fHP, fNK, fRC, fTD, fTT, fAX, fAY, fRS, fLV, fLT, nI (a + 1 + 1), nI (en + 1), fAN, aSup, aCpx, aCpy, aCr, aIns, aCls, aHd, aCtx, aPx, aPy, aR, aSz, aWd, aTk, aTn, aTt, aTj, aTs, aFl, aEl, aOt, aOk, aKd, aKt, aCal, upd aFd (a + 1) fTD, upd aFt (a + 1) fTT, upd aFc (a + 1) x9, upd (upd aFp a (nI (pc + 1))) (a + 1) 0, upd aFh (a + 1) 0, vp_updL aFx (a + 1) x5, vp_updL aFy (a + 1) x7, aVl)) : wX_call_131 post (nI a) (nI pc) x5 x7 x9 (nI dl) (nI cl) (nI pl) (nI nc) (nI nd) fCK fED fEP fH fO fHP fNK fRC fTD fTT fAX fAY fRS fLV fLT (nI (a + 1)) (nI en) fAN aSup aCpx aCpy aCr aIns aCls aHd aCtx aPx aPy aR aSz aWd aTk aTn aTt aTj aTs aFl aEl aOt aOk aKd aKt aCal aFd aFt aFc aFp aFh aFx aFy aVl := by
  unfold wX_call_131
  by_cases z : a + 1 < pl
  · refine br_t (nI_lt z (by omega)) ?_
    by_cases y : en < 256
    · have va := vp_in_nI (n := a) (N := 16) (by omega) (by decide)
      have vb := vp_in_nI (n := a + 1) (N := 16) (by omega) (by decide)
      refine br_t (nI_lt (b := 256) y (by decide)) ?_
      rw [nI_clamp (n := a) (by omega), nI_1 pc]
      refine ⟨va, nm_e ?_⟩
      unfold wpX_enter
      dsimp only
      rw [nI_clamp (n := a + 1) (by omega)]
      exact ⟨vb, nm_e ⟨vb, nm_e ⟨vb, nm_e ⟨vb, nm_e ⟨vb, nm_e ⟨vb, nm_e ⟨vb, nm_e (nm_r (nI_1 (a + 1)) (nm_r (nI_1 en) (p4 z y)))⟩⟩⟩⟩⟩⟩⟩
    · exact br_f (nI_nlt (b := 256) (by omega) (by omega)) (p3 z y)
  · exact br_f (nI_nlt (by omega) (by omega)) (p2 z)
theorem sc_X0 {post : Int32 → SX → Prop} {ls' : List Bool} {es' W' k : Nat} (H : (sr_H nc nd aSup aIns aCls aHd aCtx)) (hd : d < 12) (hpc : pc < 20) (k18 : k ≤ 18) (hk : aTk (20 * d + pc) = nI k) (ha : a + 1 ≤ pl) (p16 : pl ≤ 16) (he : en ≤ 256) (hm : m + 2 ≤ 8) (hh : aFh a = nI (m + 2)) (hc : aFc a = -1) (ht : aFt a = nI s) (hd' : d' < nd) (K' : kq_k aSup aIns aHd aCtx d' ls' es') (A : kt_W nc aIns aTk aTn aTt d s pc d' (ty_e ls' es')) (hW : aWd d' = nI W') (W6 : W' ≤ 6)
    (p1 : ∀ (fTD fTT : Int32) (aFh : Nat → Int32), ¬ W' + kq_n 7 (ty_e ls' es') ≤ 7 → post 1 (nI dl, nI cl, nI pl, nI nc, nI nd, fCK, fED, fEP, fH, fO, fHP, fNK, fRC, fTD, fTT, fAX, fAY, fRS, fLV, fLT, nI (a + 1), nI en, fAN, aSup, aCpx, aCpy, aCr, aIns, aCls, aHd, aCtx, aPx, aPy, aR, aSz, aWd, aTk, aTn, aTt, aTj, aTs, aFl, aEl, aOt, aOk, aKd, aKt, aCal, aFd, aFt, aFc, aFp, aFh, aFx, aFy, aVl))
    (p2 : ∀ (fTD fTT : Int32) (aFh : Nat → Int32), W' + kq_n 7 (ty_e ls' es') ≤ 7 → ¬ a + 1 < pl → post 2 (nI dl, nI cl, nI pl, nI nc, nI nd, fCK, fED, fEP, fH, fO, fHP, fNK, fRC, fTD, fTT, fAX, fAY, fRS, fLV, fLT, nI (a + 1), nI en, fAN, aSup, aCpx, aCpy, aCr, aIns, aCls, aHd, aCtx, aPx, aPy, aR, aSz, aWd, aTk, aTn, aTt, aTj, aTs, aFl, aEl, aOt, aOk, aKd, aKt, aCal, aFd, aFt, aFc, aFp, aFh, aFx, aFy, aVl))
    (p3 : ∀ (fTD fTT : Int32) (aFh : Nat → Int32), W' + kq_n 7 (ty_e ls' es') ≤ 7 → a + 1 < pl → ¬ en < 256 → post 3 (nI dl, nI cl, nI pl, nI nc, nI nd, fCK, fED, fEP, fH, fO, fHP, fNK, fRC, fTD, fTT, fAX, fAY, fRS, fLV, fLT, nI (a + 1), nI en, fAN, aSup, aCpx, aCpy, aCr, aIns, aCls, aHd, aCtx, aPx, aPy, aR, aSz, aWd, aTk, aTn, aTt, aTj, aTs, aFl, aEl, aOt, aOk, aKd, aKt, aCal, aFd, aFt, aFc, aFp, aFh, aFx, aFy, aVl))
    (p4 : W' + kq_n 7 (ty_e ls' es') ≤ 7 → a + 1 < pl → en < 256 → post 0 (nI dl, nI cl, nI pl, nI nc, nI nd, fCK, fED, fEP, fH, fO, fHP, fNK, fRC, nI d', nI (ty_e ls' es'), fAX, fAY, fRS, fLV, fLT, nI (a + 1 + 1), nI (en + 1), fAN, aSup, aCpx, aCpy, aCr, aIns, aCls, aHd, aCtx, aPx, aPy, aR, aSz, aWd, aTk, aTn, aTt, aTj, aTs, aFl, aEl, aOt, aOk, aKd, aKt, aCal, upd aFd (a + 1) (nI d'), upd aFt (a + 1) (nI (ty_e ls' es')), upd aFc (a + 1) (-1), upd (upd aFp a (nI (pc + 1))) (a + 1) 0, upd (upd aFh a (nI m)) (a + 1) 0, vp_updL aFx (a + 1) (aVl (8 * a + m)), vp_updL aFy (a + 1) (aVl (8 * a + m + 1)), aVl)) : wpX_call post (nI dl, nI cl, nI pl, nI nc, nI nd, fCK, fED, fEP, fH, fO, fHP, fNK, fRC, fTD, fTT, fAX, fAY, fRS, fLV, fLT, nI (a + 1), nI en, fAN, aSup, aCpx, aCpy, aCr, aIns, aCls, aHd, aCtx, aPx, aPy, aR, aSz, aWd, aTk, aTn, aTt, aTj, aTs, aFl, aEl, aOt, aOk, aKd, aKt, aCal, aFd, aFt, aFc, aFp, aFh, aFx, aFy, aVl) (nI a) (nI (20 * d + pc)) (nI pc) := by
  have va := vp_in_nI (n := a) (N := 16) (by omega) (by decide)
  unfold wpX_call
  dsimp only
  rw [nI_clamp (n := a) (by omega), hh, show nI (m + 2) - 2 = nI m from pk_sub (b := 2) (by omega)]
  refine ⟨va, nm_e ⟨va, nm_e ?_⟩⟩
  rw [sx_i, nI_1, nI_clamp (n := 8 * a + m) (by omega), nI_clamp (n := 8 * a + m + 1) (by omega), hc, ht]
  refine ⟨vp_in_nI (by omega) (by decide), nm_e ⟨vp_in_nI (by omega) (by decide), nm_e ⟨va, nm_e (br_t (by decide) ⟨va, kx_ft H.1 hd hpc k18 hk A ?_⟩)⟩⟩⟩
  refine kx_fi H.2.1 hd' K' hW W6 (fun z => br_f (by decide) (sc_131 ha p16 he hpc (p2 _ _ _ z) (p3 _ _ _ z) (p4 z))) (fun z => br_t rfl (p1 _ _ _ z))
theorem sc_X1 {post : Int32 → SX → Prop} {c j : Nat} (hpc : pc < 20) (ha : a + 1 ≤ pl) (p16 : pl ≤ 16) (he : en ≤ 256) (hm : m + 2 ≤ 8) (hh : aFh a = nI (m + 2)) (hc : aFc a = nI c) (c24 : c < 24) (j24 : j < 24) (hj : aCal (20 * c + pc) = nI j) (e1 : aKd j = nI d') (e2 : aKt j = nI s')
    (p2 : ∀ (fTD fTT : Int32) (aFh : Nat → Int32), ¬ a + 1 < pl → post 2 (nI dl, nI cl, nI pl, nI nc, nI nd, fCK, fED, fEP, fH, fO, fHP, fNK, fRC, fTD, fTT, fAX, fAY, fRS, fLV, fLT, nI (a + 1), nI en, fAN, aSup, aCpx, aCpy, aCr, aIns, aCls, aHd, aCtx, aPx, aPy, aR, aSz, aWd, aTk, aTn, aTt, aTj, aTs, aFl, aEl, aOt, aOk, aKd, aKt, aCal, aFd, aFt, aFc, aFp, aFh, aFx, aFy, aVl))
    (p3 : ∀ (fTD fTT : Int32) (aFh : Nat → Int32), a + 1 < pl → ¬ en < 256 → post 3 (nI dl, nI cl, nI pl, nI nc, nI nd, fCK, fED, fEP, fH, fO, fHP, fNK, fRC, fTD, fTT, fAX, fAY, fRS, fLV, fLT, nI (a + 1), nI en, fAN, aSup, aCpx, aCpy, aCr, aIns, aCls, aHd, aCtx, aPx, aPy, aR, aSz, aWd, aTk, aTn, aTt, aTj, aTs, aFl, aEl, aOt, aOk, aKd, aKt, aCal, aFd, aFt, aFc, aFp, aFh, aFx, aFy, aVl))
    (p4 : a + 1 < pl → en < 256 → post 0 (nI dl, nI cl, nI pl, nI nc, nI nd, fCK, fED, fEP, fH, fO, fHP, fNK, fRC, nI d', nI s', fAX, fAY, fRS, fLV, fLT, nI (a + 1 + 1), nI (en + 1), fAN, aSup, aCpx, aCpy, aCr, aIns, aCls, aHd, aCtx, aPx, aPy, aR, aSz, aWd, aTk, aTn, aTt, aTj, aTs, aFl, aEl, aOt, aOk, aKd, aKt, aCal, upd aFd (a + 1) (nI d'), upd aFt (a + 1) (nI s'), upd aFc (a + 1) (nI j), upd (upd aFp a (nI (pc + 1))) (a + 1) 0, upd (upd aFh a (nI m)) (a + 1) 0, vp_updL aFx (a + 1) (aVl (8 * a + m)), vp_updL aFy (a + 1) (aVl (8 * a + m + 1)), aVl)) : wpX_call post (nI dl, nI cl, nI pl, nI nc, nI nd, fCK, fED, fEP, fH, fO, fHP, fNK, fRC, fTD, fTT, fAX, fAY, fRS, fLV, fLT, nI (a + 1), nI en, fAN, aSup, aCpx, aCpy, aCr, aIns, aCls, aHd, aCtx, aPx, aPy, aR, aSz, aWd, aTk, aTn, aTt, aTj, aTs, aFl, aEl, aOt, aOk, aKd, aKt, aCal, aFd, aFt, aFc, aFp, aFh, aFx, aFy, aVl) (nI a) (nI (20 * d + pc)) (nI pc) := by
  have va := vp_in_nI (n := a) (N := 16) (by omega) (by decide)
  have vj := vp_in_nI (n := j) (N := 24) j24 (by decide)
  unfold wpX_call
  dsimp only
  rw [nI_clamp (n := a) (by omega), hh, show nI (m + 2) - 2 = nI m from pk_sub (b := 2) (by omega)]
  refine ⟨va, nm_e ⟨va, nm_e ?_⟩⟩
  rw [sx_i, nI_1, nI_clamp (n := 8 * a + m) (by omega), nI_clamp (n := 8 * a + m + 1) (by omega), hc]
  refine ⟨vp_in_nI (by omega) (by decide), nm_e ⟨vp_in_nI (by omega) (by decide), nm_e ⟨va, nm_e (br_f (nI_pos (by omega)) ?_)⟩⟩⟩
  rw [sm_20x, nI_clamp (n := 20 * c + pc) (by omega), hj]
  refine ⟨vp_in_nI (by omega) (by decide), nm_e ?_⟩
  rw [nI_clamp (n := j) (by omega), e1, e2]
  exact ⟨vj, nm_e ⟨vj, nm_e (sc_131 ha p16 he hpc (p2 _ _ _) (p3 _ _ _) p4)⟩⟩
theorem sc_Y {post : Int32 → SY → Prop} {ls' : List Bool} {es' W' k n st b : Nat} (H : (sr_H nc nd aSup aIns aCls aHd aCtx)) (hd : d < 12) (hs : s < 2097152) (hpc : pc < 20) (k17 : 17 ≤ k) (k18 : k ≤ 18) (hk : aTk (20 * d + pc) = nI k) (ha : a + 1 ≤ pl) (p16 : pl ≤ 16) (he : en ≤ 256) (hb : b + 2 ≤ 128) (ek : yFk a = nI (d * 2097152 + s)) (hd' : d' < nd) (K' : kq_k aSup aIns aHd aCtx d' ls' es') (A : kt_W nc aIns aTk aTn aTt d s pc d' (ty_e ls' es')) (hW : yWd d' = nI W') (W6 : W' ≤ 6)
    (p1 : ¬ W' + kq_n 7 (ty_e ls' es') ≤ 7 → post 1 (nI dl, nI cl, nI pl, nI nc, nI nd, fCK, fED, fEP, yAt, fH, fO, fAX, fAY, fLV, fRS, fLT, nI (b + 2), nI (a + 1), nI en, fNK, yRk, aSup, aCpx, aCpy, aCr, aPx, aPy, aR, aCtx, aCls, aHd, aSz, yWd, aTk, aTn, aTt, aTs, aFl, aOt, yVl, yFx, yFy, yFk, upd yFp a (nI (pc + 1)), yKl))
    (p2 : W' + kq_n 7 (ty_e ls' es') ≤ 7 → ¬ a + 1 < pl → post 2 (nI dl, nI cl, nI pl, nI nc, nI nd, fCK, fED, fEP, yAt, fH, fO, fAX, fAY, fLV, fRS, fLT, nI (b + 2), nI (a + 1), nI en, fNK, yRk, aSup, aCpx, aCpy, aCr, aPx, aPy, aR, aCtx, aCls, aHd, aSz, yWd, aTk, aTn, aTt, aTs, aFl, aOt, yVl, yFx, yFy, yFk, upd yFp a (nI (pc + 1)), yKl))
    (p3 : W' + kq_n 7 (ty_e ls' es') ≤ 7 → a + 1 < pl → ¬ en < 256 → post 3 (nI dl, nI cl, nI pl, nI nc, nI nd, fCK, fED, fEP, yAt, fH, fO, fAX, fAY, fLV, fRS, fLT, nI (b + 2), nI (a + 1), nI en, fNK, yRk, aSup, aCpx, aCpy, aCr, aPx, aPy, aR, aCtx, aCls, aHd, aSz, yWd, aTk, aTn, aTt, aTs, aFl, aOt, yVl, yFx, yFy, yFk, upd yFp a (nI (pc + 1)), yKl))
    (p4 : W' + kq_n 7 (ty_e ls' es') ≤ 7 → a + 1 < pl → en < 256 → wY_evaluate_95 post n (nI (st + 1)) (nI dl) (nI cl) (nI pl) (nI nc) (nI nd) fCK fED fEP yAt fH fO fAX fAY fLV fRS fLT (nI b) (nI (a + 1 + 1)) (nI (en + 1)) fNK yRk aSup aCpx aCpy aCr aPx aPy aR aCtx aCls aHd aSz yWd aTk aTn aTt aTs aFl aOt yVl (vp_updL yFx (a + 1) (yVl b)) (vp_updL yFy (a + 1) (yVl (b + 1))) (upd yFk (a + 1) (nI (d' * 2097152 + ty_e ls' es'))) (upd (upd yFp a (nI (pc + 1))) (a + 1) 0) yKl) : wY_evaluate_168 post (wY_evaluate_95 post n) (nI st) (nI a) (nI d) (nI pc) (nI k) (nI dl) (nI cl) (nI pl) (nI nc) (nI nd) fCK fED fEP yAt fH fO fAX fAY fLV fRS fLT (nI (b + 2)) (nI (a + 1)) (nI en) fNK yRk aSup aCpx aCpy aCr aPx aPy aR aCtx aCls aHd aSz yWd aTk aTn aTt aTs aFl aOt yVl yFx yFy yFk yFp yKl := by
  have va := vp_in_nI (n := a) (N := 16) (by omega) (by decide)
  unfold wY_evaluate_168
  rw [nI_clamp (n := a) (by omega), nI_1 pc, ek]
  refine ⟨va, nm_e (br_f (sr_ne (by omega)) (br_f (nI_nlt (b := 17) k17 (by omega)) ⟨va, ky_tg H hd hpc hs k18 hk hd' A ?_⟩))⟩
  refine ky_fi H.2.1 hd' K' hW W6 (fun z => br_f (by decide) ?_) (fun z => br_t rfl (p1 z))
  by_cases y : a + 1 < pl
  · refine br_t (nI_lt y (by omega)) ?_
    by_cases x : en < 256
    · have vb := vp_in_nI (n := a + 1) (N := 16) (by omega) (by decide)
      refine br_t (nI_lt (b := 256) x (by decide)) (nm_r (e' := nI b) (pk_sub (b := 2) (by omega)) ?_)
      rw [nI_1 b, nI_clamp (n := b) (by omega), nI_clamp (n := b + 1) (by omega)]
      refine ⟨vp_in_nI (by omega) (by decide), vp_in_nI (by omega) (by decide), ?_⟩
      unfold wpY_enter
      dsimp only
      rw [nI_clamp (n := a + 1) (by omega)]
      exact ⟨vb, nm_e ⟨vb, nm_e ⟨vb, nm_e ⟨vb, nm_e (nm_r (nI_1 (a + 1)) (nm_r (nI_1 en) (nm_r (nI_1 st) (p4 z y x))))⟩⟩⟩⟩
    · exact br_f (nI_nlt (b := 256) (by omega) (by omega)) (p3 z y x)
  · exact br_f (nI_nlt (by omega) (by omega)) (p2 z y)
end
end
section
/-! 30: runs: the steps over lists of values -/
theorem sl_255 (x : Int64) : ∃ j, j < 256 ∧ x &&& 255 = lN j := by
  obtain ⟨n, hn, rfl⟩ := wb_of x
  exact ⟨n % 2 ^ 8, Nat.mod_lt _ (by decide), wb_mask (k := 8) hn (by decide)⟩
theorem sl_ar {k : Nat} (b c : Int64) : ∃ j, j < 256 ∧ sx_ar k b c = lN j := by
  unfold sx_ar
  split
  · exact sl_255 _
  · split
    · exact sl_255 _
    · split
      · exact sl_255 _
      · split
        · split
          · exact ⟨1, by omega, rfl⟩
          · exact ⟨0, by omega, rfl⟩
        · split
          · exact ⟨0, by omega, rfl⟩
          · exact ⟨1, by omega, rfl⟩
theorem sl_h {v : Nat} (h : v < 72057594037927936) : lN v &&& 255 = lN (v % 256) := wb_mask (k := 8) (by omega) (by decide)
theorem sl_hy {v : Nat} (h : v < 72057594037927936) : lN v - lN v / 256 * 256 = lN (v % 256) := pk_lRem (b := 256) (by omega) (by omega) (by omega)
theorem sl_r {v : Nat} (h : v < 72057594037927936) : lN v >>> ((8 : Int32).toInt64 &&& 63) = lN (v / 256) := pf_shr (d := 8) (by decide) (by omega)
theorem sl_ry {v : Nat} (h : v < 72057594037927936) : lN v / 256 = lN (v / 256) := pk_lDiv (b := 256) (by omega) (by omega) (by omega)
theorem sl_t (b c : Nat) : lN b + 256 * lN c = lN (b + 256 * c) := by
  have e : (256 : Int64) * lN c = lN (256 * c) := lN_mul 256 c
  rw [e, lN_add]
section
variable {aSup aIns aHd aCtx : Nat → Int32} {d W es : Nat} {ls : List Bool}
theorem sl_bd {t : Int32} {v : Nat} (ht : wt_t aHd d W t) (K : kq_k aSup aIns aHd aCtx d ls es) (hf : W + kq_n 7 (ty_e ls es) ≤ 7) (hv : vv t ls v) : v < 72057594037927936 := by
  obtain ⟨l, e, t1, t3, tl, tc, rfl⟩ := ht
  have h := rn_e t1 t3 tl hv
  have g1 := ty_gl l
  refine rn_p ?_ h
  by_cases z : e = 3
  · rw [if_pos z]
    obtain ⟨c1, c2⟩ := tc z
    rcases K with ⟨y, _⟩ | ⟨_, s1, s2, sl, _⟩
    · exact absurd y c2
    · rw [kt_n 7 ls es s1 (by omega) (by omega)] at hf
      have := ty_gl ls
      omega
  · rw [if_neg z]
    omega
end
section
variable {dl cl pl nc nd : Nat} {fCK fED fEP fH fO fHP fNK fRC fTD fTT : Int32} {fAX fAY : Int64} {fRS : Int32} {fLV : Int64} {fLT fDP fEN : Int32} {fAN : Int64} {aSup aCpx aCpy aCr aIns aCls aHd aCtx aPx aPy aR aSz aWd aTk aTn aTt aTj aTs aFl aEl aOt aOk aKd aKt aCal aFd aFt aFc aFp aFh : Nat → Int32} {aFx aFy aVl : Nat → Int64} {yAt ySp yDp yEn yRk : Int32} {yWd : Nat → Int32} {yVl yFx yFy : Nat → Int64} {yFk yFp yKl : Nat → Int32} {a b k w v : Nat} {xs : List Nat}
theorem xs_leaf (ha : a < 16) (hw : w < 240) (hk : aTk w = nI k) (k3 : k ≤ 3) (hl : xs.length < 8) (hh : aFh a = nI xs.length) (hr : rn_v aVl (8 * a) xs) (hv : sx_lv k aFx aFy aTn a w = lN v) : ∃ (fh : Nat → Int32) (vl : Nat → Int64), fh a = nI (v :: xs).length ∧ rn_v vl (8 * a) (v :: xs) ∧ (∀ j, j ≠ a → fh j = aFh j) ∧ (∀ j, j < 8 * a → vl j = aVl j) ∧ ∀ post : SX → Prop, post (nI dl, nI cl, nI pl, nI nc, nI nd, fCK, fED, fEP, fH, fO, fHP, fNK, fRC, fTD, fTT, fAX, fAY, fRS, fLV, fLT, fDP, fEN, fAN, aSup, aCpx, aCpy, aCr, aIns, aCls, aHd, aCtx, aPx, aPy, aR, aSz, aWd, aTk, aTn, aTt, aTj, aTs, aFl, aEl, aOt, aOk, aKd, aKt, aCal, aFd, aFt, aFc, aFp, fh, aFx, aFy, vl) → wpX_stepToken post (nI dl, nI cl, nI pl, nI nc, nI nd, fCK, fED, fEP, fH, fO, fHP, fNK, fRC, fTD, fTT, fAX, fAY, fRS, fLV, fLT, fDP, fEN, fAN, aSup, aCpx, aCpy, aCr, aIns, aCls, aHd, aCtx, aPx, aPy, aR, aSz, aWd, aTk, aTn, aTt, aTj, aTs, aFl, aEl, aOt, aOk, aKd, aKt, aCal, aFd, aFt, aFc, aFp, aFh, aFx, aFy, aVl) (nI a) (nI w) := by
  refine ⟨upd aFh a (nI (xs.length + 1)), vp_updL aVl (8 * a + xs.length) (lN v), pk_us, rn_vp hr, fun j hj => pk_un hj, fun j hj => pk_uLn (by omega), fun post hp => ?_⟩
  rw [← hv] at hp
  exact sx_leaf ha hw hk k3 hl hh hp
theorem ys_leaf (ha : a < 16) (hk3 : k ≤ 3) (hl : b + xs.length < 128) (hr : rn_v yVl b xs) (hv : sx_lv k yFx yFy aTn a w = lN v) : ∃ vl : Nat → Int64, rn_v vl b (v :: xs) ∧ (∀ j, j < b → vl j = yVl j) ∧ ∀ post : SY → Prop, post (nI dl, nI cl, nI pl, nI nc, nI nd, fCK, fED, fEP, yAt, fH, fO, fAX, fAY, fLV, fRS, fLT, nI (b + (v :: xs).length), yDp, yEn, fNK, yRk, aSup, aCpx, aCpy, aCr, aPx, aPy, aR, aCtx, aCls, aHd, aSz, yWd, aTk, aTn, aTt, aTs, aFl, aOt, vl, yFx, yFy, yFk, yFp, yKl) → wpY_compute post (nI dl, nI cl, nI pl, nI nc, nI nd, fCK, fED, fEP, yAt, fH, fO, fAX, fAY, fLV, fRS, fLT, nI (b + xs.length), yDp, yEn, fNK, yRk, aSup, aCpx, aCpy, aCr, aPx, aPy, aR, aCtx, aCls, aHd, aSz, yWd, aTk, aTn, aTt, aTs, aFl, aOt, yVl, yFx, yFy, yFk, yFp, yKl) (nI k) (aTn w) (nI a) := by
  refine ⟨vp_updL yVl (b + xs.length) (lN v), rn_vp hr, fun j hj => pk_uLn (by omega), fun post hp => ?_⟩
  rw [← hv] at hp
  exact sy_leaf ha hk3 hl rfl hp
theorem xs_ar {b0 c0 : Nat} {zs : List Nat} (ha : a < 16) (hw : w < 240) (hk : aTk w = nI k) (k4 : 4 ≤ k) (k8 : k ≤ 8) (hl : (c0 :: b0 :: zs).length ≤ 8) (hh : aFh a = nI (c0 :: b0 :: zs).length) (hr : rn_v aVl (8 * a) (c0 :: b0 :: zs)) (hv : sx_ar k (lN b0) (lN c0) = lN v) : ∃ (fh : Nat → Int32) (vl : Nat → Int64), fh a = nI (v :: zs).length ∧ rn_v vl (8 * a) (v :: zs) ∧ (∀ j, j ≠ a → fh j = aFh j) ∧ (∀ j, j < 8 * a → vl j = aVl j) ∧ ∀ post : SX → Prop, post (nI dl, nI cl, nI pl, nI nc, nI nd, fCK, fED, fEP, fH, fO, fHP, fNK, fRC, fTD, fTT, fAX, fAY, fRS, fLV, fLT, fDP, fEN, fAN, aSup, aCpx, aCpy, aCr, aIns, aCls, aHd, aCtx, aPx, aPy, aR, aSz, aWd, aTk, aTn, aTt, aTj, aTs, aFl, aEl, aOt, aOk, aKd, aKt, aCal, aFd, aFt, aFc, aFp, fh, aFx, aFy, vl) → wpX_stepToken post (nI dl, nI cl, nI pl, nI nc, nI nd, fCK, fED, fEP, fH, fO, fHP, fNK, fRC, fTD, fTT, fAX, fAY, fRS, fLV, fLT, fDP, fEN, fAN, aSup, aCpx, aCpy, aCr, aIns, aCls, aHd, aCtx, aPx, aPy, aR, aSz, aWd, aTk, aTn, aTt, aTj, aTs, aFl, aEl, aOt, aOk, aKd, aKt, aCal, aFd, aFt, aFc, aFp, aFh, aFx, aFy, aVl) (nI a) (nI w) := by
  obtain ⟨r1, r2, r3⟩ := hr
  have r1' : aVl (8 * a + zs.length + 1) = lN c0 := r1
  refine ⟨upd (upd aFh a (nI zs.length)) a (nI (zs.length + 1)), vp_updL aVl (8 * a + zs.length) (lN v), pk_us, rn_vp r3, fun j hj => by rw [pk_un hj, pk_un hj], fun j hj => pk_uLn (by omega), fun post hp => ?_⟩
  rw [← hv, ← r1', ← r2] at hp
  exact sx_arith ha hw hk k4 k8 hl hh hp
theorem ys_ar {b0 c0 : Nat} {zs : List Nat} {N A : Int32} (hk : (4 ≤ k ∧ k ≤ 8) ∨ k = 11) (hl : b + (c0 :: b0 :: zs).length ≤ 128) (hr : rn_v yVl b (c0 :: b0 :: zs)) (hv : (if k = 11 then lN b0 + 256 * lN c0 else sx_ar k (lN b0) (lN c0)) = lN v) : ∃ vl : Nat → Int64, rn_v vl b (v :: zs) ∧ (∀ j, j < b → vl j = yVl j) ∧ ∀ post : SY → Prop, post (nI dl, nI cl, nI pl, nI nc, nI nd, fCK, fED, fEP, yAt, fH, fO, fAX, fAY, fLV, fRS, fLT, nI (b + (v :: zs).length), yDp, yEn, fNK, yRk, aSup, aCpx, aCpy, aCr, aPx, aPy, aR, aCtx, aCls, aHd, aSz, yWd, aTk, aTn, aTt, aTs, aFl, aOt, vl, yFx, yFy, yFk, yFp, yKl) → wpY_compute post (nI dl, nI cl, nI pl, nI nc, nI nd, fCK, fED, fEP, yAt, fH, fO, fAX, fAY, fLV, fRS, fLT, nI (b + (c0 :: b0 :: zs).length), yDp, yEn, fNK, yRk, aSup, aCpx, aCpy, aCr, aPx, aPy, aR, aCtx, aCls, aHd, aSz, yWd, aTk, aTn, aTt, aTs, aFl, aOt, yVl, yFx, yFy, yFk, yFp, yKl) (nI k) N A := by
  obtain ⟨r1, r2, r3⟩ := hr
  have r1' : yVl (b + zs.length + 1) = lN c0 := r1
  refine ⟨vp_updL yVl (b + zs.length) (lN v), rn_vp r3, fun j hj => pk_uLn (by omega), fun post hp => ?_⟩
  rw [← hv, ← r1', ← r2] at hp
  exact sy_ar (b := b + zs.length) hl hk hp
theorem xs_none (ha : a < 16) (hw : w < 240) (hk : aTk w = nI k) (k9 : k = 9 ∨ k = 10 ∨ k = 16) (hh : aFh a = nI xs.length) (hr : rn_v aVl (8 * a) xs) : ∃ (fh : Nat → Int32) (vl : Nat → Int64), fh a = nI xs.length ∧ rn_v vl (8 * a) xs ∧ (∀ j, j ≠ a → fh j = aFh j) ∧ (∀ j, j < 8 * a → vl j = aVl j) ∧ ∀ post : SX → Prop, post (nI dl, nI cl, nI pl, nI nc, nI nd, fCK, fED, fEP, fH, fO, fHP, fNK, fRC, fTD, fTT, fAX, fAY, fRS, fLV, fLT, fDP, fEN, fAN, aSup, aCpx, aCpy, aCr, aIns, aCls, aHd, aCtx, aPx, aPy, aR, aSz, aWd, aTk, aTn, aTt, aTj, aTs, aFl, aEl, aOt, aOk, aKd, aKt, aCal, aFd, aFt, aFc, aFp, fh, aFx, aFy, vl) → wpX_stepToken post (nI dl, nI cl, nI pl, nI nc, nI nd, fCK, fED, fEP, fH, fO, fHP, fNK, fRC, fTD, fTT, fAX, fAY, fRS, fLV, fLT, fDP, fEN, fAN, aSup, aCpx, aCpy, aCr, aIns, aCls, aHd, aCtx, aPx, aPy, aR, aSz, aWd, aTk, aTn, aTt, aTj, aTs, aFl, aEl, aOt, aOk, aKd, aKt, aCal, aFd, aFt, aFc, aFp, aFh, aFx, aFy, aVl) (nI a) (nI w) :=
  ⟨aFh, aVl, hh, hr, fun _ _ => rfl, fun _ _ => rfl, fun post hp => sx_none ha hw hk k9 hp⟩
theorem ys_none {N A : Int32} (hk : k = 9 ∨ k = 10 ∨ k = 16) (hr : rn_v yVl b xs) : ∃ vl : Nat → Int64, rn_v vl b xs ∧ (∀ j, j < b → vl j = yVl j) ∧ ∀ post : SY → Prop, post (nI dl, nI cl, nI pl, nI nc, nI nd, fCK, fED, fEP, yAt, fH, fO, fAX, fAY, fLV, fRS, fLT, nI (b + xs.length), yDp, yEn, fNK, yRk, aSup, aCpx, aCpy, aCr, aPx, aPy, aR, aCtx, aCls, aHd, aSz, yWd, aTk, aTn, aTt, aTs, aFl, aOt, vl, yFx, yFy, yFk, yFp, yKl) → wpY_compute post (nI dl, nI cl, nI pl, nI nc, nI nd, fCK, fED, fEP, yAt, fH, fO, fAX, fAY, fLV, fRS, fLT, nI (b + xs.length), yDp, yEn, fNK, yRk, aSup, aCpx, aCpy, aCr, aPx, aPy, aR, aCtx, aCls, aHd, aSz, yWd, aTk, aTn, aTt, aTs, aFl, aOt, yVl, yFx, yFy, yFk, yFp, yKl) (nI k) N A :=
  ⟨yVl, hr, fun _ _ => rfl, fun post hp => sy_none hk hp⟩
theorem xs_tag {b0 c0 : Nat} {zs : List Nat} (ha : a < 16) (hw : w < 240) (hk : aTk w = nI 11) (hl : (c0 :: b0 :: zs).length ≤ 8) (hh : aFh a = nI (c0 :: b0 :: zs).length) (hr : rn_v aVl (8 * a) (c0 :: b0 :: zs)) : ∃ (fh : Nat → Int32) (vl : Nat → Int64), fh a = nI ((b0 + 256 * c0) :: zs).length ∧ rn_v vl (8 * a) ((b0 + 256 * c0) :: zs) ∧ (∀ j, j ≠ a → fh j = aFh j) ∧ (∀ j, j < 8 * a → vl j = aVl j) ∧ ∀ post : SX → Prop, post (nI dl, nI cl, nI pl, nI nc, nI nd, fCK, fED, fEP, fH, fO, fHP, fNK, fRC, fTD, fTT, fAX, fAY, fRS, fLV, fLT, fDP, fEN, fAN, aSup, aCpx, aCpy, aCr, aIns, aCls, aHd, aCtx, aPx, aPy, aR, aSz, aWd, aTk, aTn, aTt, aTj, aTs, aFl, aEl, aOt, aOk, aKd, aKt, aCal, aFd, aFt, aFc, aFp, fh, aFx, aFy, vl) → wpX_stepToken post (nI dl, nI cl, nI pl, nI nc, nI nd, fCK, fED, fEP, fH, fO, fHP, fNK, fRC, fTD, fTT, fAX, fAY, fRS, fLV, fLT, fDP, fEN, fAN, aSup, aCpx, aCpy, aCr, aIns, aCls, aHd, aCtx, aPx, aPy, aR, aSz, aWd, aTk, aTn, aTt, aTj, aTs, aFl, aEl, aOt, aOk, aKd, aKt, aCal, aFd, aFt, aFc, aFp, aFh, aFx, aFy, aVl) (nI a) (nI w) := by
  obtain ⟨r1, r2, r3⟩ := hr
  have r1' : aVl (8 * a + zs.length + 1) = lN c0 := r1
  refine ⟨upd aFh a (nI (zs.length + 1)), vp_updL aVl (8 * a + zs.length) (lN (b0 + 256 * c0)), pk_us, rn_vp r3, fun j hj => pk_un hj, fun j hj => pk_uLn (by omega), fun post hp => ?_⟩
  rw [← sl_t, ← r1', ← r2] at hp
  exact sx_tag ha hw hk hl hh hp
theorem xs_un {c0 : Nat} {zs : List Nat} (ha : a < 16) (hw : w < 240) (hk : aTk w = nI k) (k9 : k = 12 ∨ k = 13) (hc : c0 < 72057594037927936) (hl : (c0 :: zs).length ≤ 8) (hh : aFh a = nI (c0 :: zs).length) (hr : rn_v aVl (8 * a) (c0 :: zs)) : ∃ (fh : Nat → Int32) (vl : Nat → Int64), fh a = nI ((if k = 12 then c0 % 256 else c0 / 256) :: zs).length ∧ rn_v vl (8 * a) ((if k = 12 then c0 % 256 else c0 / 256) :: zs) ∧ (∀ j, j ≠ a → fh j = aFh j) ∧ (∀ j, j < 8 * a → vl j = aVl j) ∧ ∀ post : SX → Prop, post (nI dl, nI cl, nI pl, nI nc, nI nd, fCK, fED, fEP, fH, fO, fHP, fNK, fRC, fTD, fTT, fAX, fAY, fRS, fLV, fLT, fDP, fEN, fAN, aSup, aCpx, aCpy, aCr, aIns, aCls, aHd, aCtx, aPx, aPy, aR, aSz, aWd, aTk, aTn, aTt, aTj, aTs, aFl, aEl, aOt, aOk, aKd, aKt, aCal, aFd, aFt, aFc, aFp, fh, aFx, aFy, vl) → wpX_stepToken post (nI dl, nI cl, nI pl, nI nc, nI nd, fCK, fED, fEP, fH, fO, fHP, fNK, fRC, fTD, fTT, fAX, fAY, fRS, fLV, fLT, fDP, fEN, fAN, aSup, aCpx, aCpy, aCr, aIns, aCls, aHd, aCtx, aPx, aPy, aR, aSz, aWd, aTk, aTn, aTt, aTj, aTs, aFl, aEl, aOt, aOk, aKd, aKt, aCal, aFd, aFt, aFc, aFp, aFh, aFx, aFy, aVl) (nI a) (nI w) := by
  obtain ⟨r1, r3⟩ := hr
  refine ⟨aFh, vp_updL aVl (8 * a + zs.length) (lN (if k = 12 then c0 % 256 else c0 / 256)), hh, rn_vp r3, fun j hj => rfl, fun j hj => pk_uLn (by omega), fun post hp => ?_⟩
  have e : lN (if k = 12 then c0 % 256 else c0 / 256) = (if k = 12 then aVl (8 * a + zs.length) &&& 255 else aVl (8 * a + zs.length) >>> ((8 : Int32).toInt64 &&& 63)) := by
    rw [r1]
    split
    · exact (sl_h hc).symm
    · exact (sl_r hc).symm
  rw [e] at hp
  exact sx_un ha hw hk k9 hl hh hp
theorem ys_un {c0 : Nat} {zs : List Nat} {N A : Int32} (hk : k = 12 ∨ k = 13) (hc : c0 < 72057594037927936) (hl : b + (c0 :: zs).length ≤ 128) (hr : rn_v yVl b (c0 :: zs)) : ∃ vl : Nat → Int64, rn_v vl b ((if k = 12 then c0 % 256 else c0 / 256) :: zs) ∧ (∀ j, j < b → vl j = yVl j) ∧ ∀ post : SY → Prop, post (nI dl, nI cl, nI pl, nI nc, nI nd, fCK, fED, fEP, yAt, fH, fO, fAX, fAY, fLV, fRS, fLT, nI (b + ((if k = 12 then c0 % 256 else c0 / 256) :: zs).length), yDp, yEn, fNK, yRk, aSup, aCpx, aCpy, aCr, aPx, aPy, aR, aCtx, aCls, aHd, aSz, yWd, aTk, aTn, aTt, aTs, aFl, aOt, vl, yFx, yFy, yFk, yFp, yKl) → wpY_compute post (nI dl, nI cl, nI pl, nI nc, nI nd, fCK, fED, fEP, yAt, fH, fO, fAX, fAY, fLV, fRS, fLT, nI (b + (c0 :: zs).length), yDp, yEn, fNK, yRk, aSup, aCpx, aCpy, aCr, aPx, aPy, aR, aCtx, aCls, aHd, aSz, yWd, aTk, aTn, aTt, aTs, aFl, aOt, yVl, yFx, yFy, yFk, yFp, yKl) (nI k) N A := by
  obtain ⟨r1, r3⟩ := hr
  refine ⟨vp_updL yVl (b + zs.length) (lN (if k = 12 then c0 % 256 else c0 / 256)), rn_vp r3, fun j hj => pk_uLn (by omega), fun post hp => ?_⟩
  have e : lN (if k = 12 then c0 % 256 else c0 / 256) = (if k = 12 then yVl (b + zs.length) - yVl (b + zs.length) / 256 * 256 else yVl (b + zs.length) / 256) := by
    rw [r1]
    split
    · exact (sl_hy hc).symm
    · exact (sl_ry hc).symm
  rw [e] at hp
  exact sy_un (b := b + zs.length) hl hk hp
end
end
section
/-! 31: runs: from one token to the next -/
def rn_K (Mf : Nat → Nat → Nat → Prop) : List rn_F → Prop
  | [] => True
  | (d, ls, es, c, _, _, _, _) :: r => Mf c d (ty_e ls es) ∧ rn_K Mf r
theorem rn_bl {nc nd : Nat} {aSup aCpx aCpy aCr aIns aCls aHd aCtx aPx aPy aR aSz aWd yWd aTk aTn aTt aTj : Nat → Int32} : ∀ (r : List rn_F) (R : Nat → Prop), rn_S nc nd aSup aCpx aCpy aCr aIns aCls aHd aCtx aPx aPy aR aSz aWd yWd aTk aTn aTt aTj R r → rn_b r ≤ 8 * r.length := by
  intro r
  induction r with
  | nil => intro R _; exact Nat.le_refl _
  | cons f r ih =>
    obtain ⟨d, ls, es, c, pc, xs, x, y⟩ := f
    intro R H
    obtain ⟨⟨W, Ht, Ty, Op, ⟨_, _, _, _, B, _, _⟩, hpc, _, _, hh, _⟩, H2⟩ := H
    have i1 := ih _ H2
    have h8 := (B.1.2.2.2.1 pc hpc).1
    show rn_b r + xs.length ≤ 8 * (r.length + 1)
    omega
section
variable {dl cl pl nc nd : Nat} {fCK fED fEP fH fO fHP fNK fRC fTD fTT : Int32} {fAX fAY : Int64} {fRS : Int32} {fLV : Int64} {fLT fDP fEN : Int32} {fAN : Int64} {aSup aCpx aCpy aCr aIns aCls aHd aCtx aPx aPy aR aSz aWd aTk aTn aTt aTj aTs aFl aEl aOt aOk aKd aKt aCal aFd aFt aFc aFp aFh : Nat → Int32} {aFx aFy aVl : Nat → Int64} {yAt ySp yDp yEn yRk : Int32} {yWd : Nat → Int32} {yVl yFx yFy : Nat → Int64} {yFk yFp yKl : Nat → Int32} {cx : Nat → Int32} {d es c pc x y en M W N k : Nat} {ls : List Bool} {xs : List Nat} {r : List rn_F}
/-- a token that only puts: if the next place is well, so is this one -/
theorem rf_put {xs' : List Nat} (hl : r.length + 1 ≤ 16) (hd : d < 12) (hs : ty_e ls es < 2097152) (hpN : pc < N) (hN : N ≤ 20) (eN : aSz d = nI N) (k17 : k < 17) (k14 : k ≠ 14) (k15 : k ≠ 15) (ek : aTk (20 * d + pc) = nI k) (l8 : xs'.length ≤ 8)
    (XS : ∀ (fTD fTT : Int32) (fAN : Int64) (aFd aFt aFc aFp aFh : Nat → Int32) (aFx aFy aVl : Nat → Int64), aFh r.length = nI xs.length → rn_v aVl (8 * r.length) xs → aFx r.length = lN x → aFy r.length = lN y → ∃ (fh : Nat → Int32) (vl : Nat → Int64), fh r.length = nI xs'.length ∧ rn_v vl (8 * r.length) xs' ∧ (∀ j, j ≠ r.length → fh j = aFh j) ∧ (∀ j, j < 8 * r.length → vl j = aVl j) ∧ ∀ post : SX → Prop, post (nI dl, nI cl, nI pl, nI nc, nI nd, fCK, fED, fEP, fH, fO, fHP, fNK, fRC, fTD, fTT, fAX, fAY, fRS, fLV, fLT, nI (r.length + 1), nI en, fAN, aSup, aCpx, aCpy, aCr, aIns, aCls, aHd, aCtx, aPx, aPy, aR, aSz, aWd, aTk, aTn, aTt, aTj, aTs, aFl, aEl, aOt, aOk, aKd, aKt, aCal, aFd, aFt, aFc, aFp, fh, aFx, aFy, vl) → wpX_stepToken post (nI dl, nI cl, nI pl, nI nc, nI nd, fCK, fED, fEP, fH, fO, fHP, fNK, fRC, fTD, fTT, fAX, fAY, fRS, fLV, fLT, nI (r.length + 1), nI en, fAN, aSup, aCpx, aCpy, aCr, aIns, aCls, aHd, aCtx, aPx, aPy, aR, aSz, aWd, aTk, aTn, aTt, aTj, aTs, aFl, aEl, aOt, aOk, aKd, aKt, aCal, aFd, aFt, aFc, aFp, aFh, aFx, aFy, aVl) (nI r.length) (nI (20 * d + pc)))
    (YS : ∀ (yVl yFx yFy : Nat → Int64) (yFk yFp : Nat → Int32), rn_v yVl (rn_b r) xs → yFx r.length = lN x → yFy r.length = lN y → ∃ vl : Nat → Int64, rn_v vl (rn_b r) xs' ∧ (∀ j, j < rn_b r → vl j = yVl j) ∧ ∀ post : SY → Prop, post (nI dl, nI cl, nI pl, nI nc, nI nd, fCK, fED, fEP, yAt, fH, fO, fAX, fAY, fLV, fRS, fLT, nI (rn_b r + xs'.length), nI (r.length + 1), nI en, fNK, yRk, aSup, aCpx, aCpy, aCr, aPx, aPy, aR, aCtx, aCls, aHd, aSz, yWd, aTk, aTn, aTt, aTs, aFl, aOt, vl, yFx, yFy, yFk, yFp, yKl) → wpY_compute post (nI dl, nI cl, nI pl, nI nc, nI nd, fCK, fED, fEP, yAt, fH, fO, fAX, fAY, fLV, fRS, fLT, nI (rn_b r + xs.length), nI (r.length + 1), nI en, fNK, yRk, aSup, aCpx, aCpy, aCr, aPx, aPy, aR, aCtx, aCls, aHd, aSz, yWd, aTk, aTn, aTt, aTs, aFl, aOt, yVl, yFx, yFy, yFk, yFp, yKl) (nI k) (aTn (20 * d + pc)) (nI r.length))
    (IH : ∃ (rC : Int32) (vC : Nat), (∀ (fTD fTT : Int32) (fAN : Int64) (aFd aFt aFc aFp aFh : Nat → Int32) (aFx aFy aVl : Nat → Int64) (post : Int32 → SX → Prop) (n st : Nat), rn_X aFd aFt aFc aFp aFh aFx aFy aVl (fun c _ _ x => x = cx c) ((d, ls, es, c, pc + 1, xs', x, y) :: r) → M < n → st + M < 5400 → (∀ (fTD fTT fDP fEN : Int32) (fAN : Int64) (aFd aFt aFc aFp aFh : Nat → Int32) (aFx aFy aVl : Nat → Int64), (rC = 0 → fAN = lN vC) → post rC (nI dl, nI cl, nI pl, nI nc, nI nd, fCK, fED, fEP, fH, fO, fHP, fNK, fRC, fTD, fTT, fAX, fAY, fRS, fLV, fLT, fDP, fEN, fAN, aSup, aCpx, aCpy, aCr, aIns, aCls, aHd, aCtx, aPx, aPy, aR, aSz, aWd, aTk, aTn, aTt, aTj, aTs, aFl, aEl, aOt, aOk, aKd, aKt, aCal, aFd, aFt, aFc, aFp, aFh, aFx, aFy, aVl)) → wX_execute_79 post n (nI st) (nI dl) (nI cl) (nI pl) (nI nc) (nI nd) fCK fED fEP fH fO fHP fNK fRC fTD fTT fAX fAY fRS fLV fLT (nI (List.length ((d, ls, es, c, pc + 1, xs', x, y) :: r))) (nI en) fAN aSup aCpx aCpy aCr aIns aCls aHd aCtx aPx aPy aR aSz aWd aTk aTn aTt aTj aTs aFl aEl aOt aOk aKd aKt aCal aFd aFt aFc aFp aFh aFx aFy aVl) ∧ (∀ (yVl yFx yFy : Nat → Int64) (yFk yFp : Nat → Int32) (post : Int32 → SY → Prop) (n st : Nat), rn_Y yFk yFp yFx yFy yVl ((d, ls, es, c, pc + 1, xs', x, y) :: r) → M < n → st + M < 6000 → (∀ (ySp yDp yEn : Int32) (yVl yFx yFy : Nat → Int64) (yFk yFp : Nat → Int32), (rC = 0 → yVl 0 = lN vC) → post rC (nI dl, nI cl, nI pl, nI nc, nI nd, fCK, fED, fEP, yAt, fH, fO, fAX, fAY, fLV, fRS, fLT, ySp, yDp, yEn, fNK, yRk, aSup, aCpx, aCpy, aCr, aPx, aPy, aR, aCtx, aCls, aHd, aSz, yWd, aTk, aTn, aTt, aTs, aFl, aOt, yVl, yFx, yFy, yFk, yFp, yKl)) → wY_evaluate_95 post n (nI st) (nI dl) (nI cl) (nI pl) (nI nc) (nI nd) fCK fED fEP yAt fH fO fAX fAY fLV fRS fLT (nI (rn_b ((d, ls, es, c, pc + 1, xs', x, y) :: r))) (nI (List.length ((d, ls, es, c, pc + 1, xs', x, y) :: r))) (nI en) fNK yRk aSup aCpx aCpy aCr aPx aPy aR aCtx aCls aHd aSz yWd aTk aTn aTt aTs aFl aOt yVl yFx yFy yFk yFp yKl)) : ∃ (rC : Int32) (vC : Nat), (∀ (fTD fTT : Int32) (fAN : Int64) (aFd aFt aFc aFp aFh : Nat → Int32) (aFx aFy aVl : Nat → Int64) (post : Int32 → SX → Prop) (n st : Nat), rn_X aFd aFt aFc aFp aFh aFx aFy aVl (fun c _ _ x => x = cx c) ((d, ls, es, c, pc, xs, x, y) :: r) → M + 1 < n → st + (M + 1) < 5400 → (∀ (fTD fTT fDP fEN : Int32) (fAN : Int64) (aFd aFt aFc aFp aFh : Nat → Int32) (aFx aFy aVl : Nat → Int64), (rC = 0 → fAN = lN vC) → post rC (nI dl, nI cl, nI pl, nI nc, nI nd, fCK, fED, fEP, fH, fO, fHP, fNK, fRC, fTD, fTT, fAX, fAY, fRS, fLV, fLT, fDP, fEN, fAN, aSup, aCpx, aCpy, aCr, aIns, aCls, aHd, aCtx, aPx, aPy, aR, aSz, aWd, aTk, aTn, aTt, aTj, aTs, aFl, aEl, aOt, aOk, aKd, aKt, aCal, aFd, aFt, aFc, aFp, aFh, aFx, aFy, aVl)) → wX_execute_79 post n (nI st) (nI dl) (nI cl) (nI pl) (nI nc) (nI nd) fCK fED fEP fH fO fHP fNK fRC fTD fTT fAX fAY fRS fLV fLT (nI (List.length ((d, ls, es, c, pc, xs, x, y) :: r))) (nI en) fAN aSup aCpx aCpy aCr aIns aCls aHd aCtx aPx aPy aR aSz aWd aTk aTn aTt aTj aTs aFl aEl aOt aOk aKd aKt aCal aFd aFt aFc aFp aFh aFx aFy aVl) ∧ (∀ (yVl yFx yFy : Nat → Int64) (yFk yFp : Nat → Int32) (post : Int32 → SY → Prop) (n st : Nat), rn_Y yFk yFp yFx yFy yVl ((d, ls, es, c, pc, xs, x, y) :: r) → M + 1 < n → st + (M + 1) < 6000 → (∀ (ySp yDp yEn : Int32) (yVl yFx yFy : Nat → Int64) (yFk yFp : Nat → Int32), (rC = 0 → yVl 0 = lN vC) → post rC (nI dl, nI cl, nI pl, nI nc, nI nd, fCK, fED, fEP, yAt, fH, fO, fAX, fAY, fLV, fRS, fLT, ySp, yDp, yEn, fNK, yRk, aSup, aCpx, aCpy, aCr, aPx, aPy, aR, aCtx, aCls, aHd, aSz, yWd, aTk, aTn, aTt, aTs, aFl, aOt, yVl, yFx, yFy, yFk, yFp, yKl)) → wY_evaluate_95 post n (nI st) (nI dl) (nI cl) (nI pl) (nI nc) (nI nd) fCK fED fEP yAt fH fO fAX fAY fLV fRS fLT (nI (rn_b ((d, ls, es, c, pc, xs, x, y) :: r))) (nI (List.length ((d, ls, es, c, pc, xs, x, y) :: r))) (nI en) fNK yRk aSup aCpx aCpy aCr aPx aPy aR aCtx aCls aHd aSz yWd aTk aTn aTt aTs aFl aOt yVl yFx yFy yFk yFp yKl) := by
  obtain ⟨q, v, XP, YP⟩ := IH
  refine ⟨q, v, ?_, ?_⟩
  · intro fTD fTT fAN aFd aFt aFc aFp aFh aFx aFy aVl post n st RX hn hst hp
    obtain ⟨n, rfl⟩ : ∃ m, n = m + 1 := ⟨n - 1, by omega⟩
    obtain ⟨⟨a1, a2, a3, a4, a5, a6, a7, a8, a9⟩, RX2⟩ := RX
    obtain ⟨fh, vl, b1, b2, b3, b4, b5⟩ := XS fTD fTT fAN aFd aFt aFc (upd aFp r.length (nI (pc + 1))) aFh aFx aFy aVl a5 a8 a6 a7
    refine sx_tok (by omega) hd hpN hN k17 (by omega) a1 a4 eN ek (b5 _ ?_)
    refine nm_r (nI_1 st) (XP _ _ _ _ _ _ _ _ _ _ _ post n (st + 1) ⟨⟨a1, a2, a3, pk_us, b1, a6, a7, b2, l8⟩, ?_⟩ (by omega) (by omega) hp)
    exact rn_Xc r (fun j hj => ⟨rfl, rfl, rfl, pk_un (by omega), b3 j (by omega), rfl, rfl⟩) b4 RX2
  · intro yVl yFx yFy yFk yFp post n st RY hn hst hp
    obtain ⟨n, rfl⟩ : ∃ m, n = m + 1 := ⟨n - 1, by omega⟩
    obtain ⟨⟨a1, a2, a3, a4, a5⟩, RY2⟩ := RY
    obtain ⟨vl, b1, b2, b3⟩ := YS yVl yFx yFy yFk (upd yFp r.length (nI (pc + 1))) a5 a3 a4
    refine sy_pre (by omega) hd hs hpN hN (by omega) a1 a2 eN ek (sy_cmp (by omega) hd (by omega) k17 k14 k15 (b3 _ ?_))
    refine nm_r (nI_1 st) (YP _ _ _ _ _ post n (st + 1) ⟨⟨a1, pk_us, a3, a4, b1⟩, ?_⟩ (by omega) (by omega) hp)
    exact rn_Yc r (fun j hj => ⟨rfl, pk_un (by omega), rfl, rfl⟩) b2 RY2
end
end
section
/-! 32: runs: conditionals, ends of frames, calls -/
theorem rf_0 {c0 : Nat} (h : c0 < 72057594037927936) : lN c0 = 0 ↔ c0 = 0 := pk_lEQ (b := 0) (by omega) (by omega)
section
variable {dl cl pl nc nd : Nat} {fCK fED fEP fH fO fHP fNK fRC fTD fTT : Int32} {fAX fAY : Int64} {fRS : Int32} {fLV : Int64} {fLT fDP fEN : Int32} {fAN : Int64} {aSup aCpx aCpy aCr aIns aCls aHd aCtx aPx aPy aR aSz aWd aTk aTn aTt aTj aTs aFl aEl aOt aOk aKd aKt aCal aFd aFt aFc aFp aFh : Nat → Int32} {aFx aFy aVl : Nat → Int64} {yAt ySp yDp yEn yRk : Int32} {yWd : Nat → Int32} {yVl yFx yFy : Nat → Int64} {yFk yFp yKl : Nat → Int32} {cx : Nat → Int32} {d es c pc x y en M W N k J pc' c0 : Nat} {ls : List Bool} {xs zs : List Nat} {r : List rn_F}
theorem rf_if (hl : r.length + 1 ≤ 16) (hd : d < 12) (hs : ty_e ls es < 2097152) (hpN : pc < N) (hN : N ≤ 20) (eN : aSz d = nI N) (ek : aTk (20 * d + pc) = nI 14) (ej : aTj (20 * d + pc) = nI (J + 1)) (hc : c0 < 72057594037927936) (l8 : (c0 :: zs).length ≤ 8) (hb : rn_b r + (c0 :: zs).length ≤ 128) (j1 : c0 = 0 → pc' = J + 1) (j2 : ¬ c0 = 0 → pc' = pc + 1)
    (PT : ∀ (ySp yDp yEn : Int32) (yVl yFx yFy : Nat → Int64) (yFk yFp : Nat → Int32) (ps : Int32 → Prop), ps (nI J) → wpY_partner ps (nI dl, nI cl, nI pl, nI nc, nI nd, fCK, fED, fEP, yAt, fH, fO, fAX, fAY, fLV, fRS, fLT, ySp, yDp, yEn, fNK, yRk, aSup, aCpx, aCpy, aCr, aPx, aPy, aR, aCtx, aCls, aHd, aSz, yWd, aTk, aTn, aTt, aTs, aFl, aOt, yVl, yFx, yFy, yFk, yFp, yKl) (nI d) (nI pc) 15)
    (IH : ∃ (rC : Int32) (vC : Nat), (∀ (fTD fTT : Int32) (fAN : Int64) (aFd aFt aFc aFp aFh : Nat → Int32) (aFx aFy aVl : Nat → Int64) (post : Int32 → SX → Prop) (n st : Nat), rn_X aFd aFt aFc aFp aFh aFx aFy aVl (fun c _ _ x => x = cx c) ((d, ls, es, c, pc', zs, x, y) :: r) → M < n → st + M < 5400 → (∀ (fTD fTT fDP fEN : Int32) (fAN : Int64) (aFd aFt aFc aFp aFh : Nat → Int32) (aFx aFy aVl : Nat → Int64), (rC = 0 → fAN = lN vC) → post rC (nI dl, nI cl, nI pl, nI nc, nI nd, fCK, fED, fEP, fH, fO, fHP, fNK, fRC, fTD, fTT, fAX, fAY, fRS, fLV, fLT, fDP, fEN, fAN, aSup, aCpx, aCpy, aCr, aIns, aCls, aHd, aCtx, aPx, aPy, aR, aSz, aWd, aTk, aTn, aTt, aTj, aTs, aFl, aEl, aOt, aOk, aKd, aKt, aCal, aFd, aFt, aFc, aFp, aFh, aFx, aFy, aVl)) → wX_execute_79 post n (nI st) (nI dl) (nI cl) (nI pl) (nI nc) (nI nd) fCK fED fEP fH fO fHP fNK fRC fTD fTT fAX fAY fRS fLV fLT (nI (List.length ((d, ls, es, c, pc', zs, x, y) :: r))) (nI en) fAN aSup aCpx aCpy aCr aIns aCls aHd aCtx aPx aPy aR aSz aWd aTk aTn aTt aTj aTs aFl aEl aOt aOk aKd aKt aCal aFd aFt aFc aFp aFh aFx aFy aVl) ∧ (∀ (yVl yFx yFy : Nat → Int64) (yFk yFp : Nat → Int32) (post : Int32 → SY → Prop) (n st : Nat), rn_Y yFk yFp yFx yFy yVl ((d, ls, es, c, pc', zs, x, y) :: r) → M < n → st + M < 6000 → (∀ (ySp yDp yEn : Int32) (yVl yFx yFy : Nat → Int64) (yFk yFp : Nat → Int32), (rC = 0 → yVl 0 = lN vC) → post rC (nI dl, nI cl, nI pl, nI nc, nI nd, fCK, fED, fEP, yAt, fH, fO, fAX, fAY, fLV, fRS, fLT, ySp, yDp, yEn, fNK, yRk, aSup, aCpx, aCpy, aCr, aPx, aPy, aR, aCtx, aCls, aHd, aSz, yWd, aTk, aTn, aTt, aTs, aFl, aOt, yVl, yFx, yFy, yFk, yFp, yKl)) → wY_evaluate_95 post n (nI st) (nI dl) (nI cl) (nI pl) (nI nc) (nI nd) fCK fED fEP yAt fH fO fAX fAY fLV fRS fLT (nI (rn_b ((d, ls, es, c, pc', zs, x, y) :: r))) (nI (List.length ((d, ls, es, c, pc', zs, x, y) :: r))) (nI en) fNK yRk aSup aCpx aCpy aCr aPx aPy aR aCtx aCls aHd aSz yWd aTk aTn aTt aTs aFl aOt yVl yFx yFy yFk yFp yKl)) : ∃ (rC : Int32) (vC : Nat), (∀ (fTD fTT : Int32) (fAN : Int64) (aFd aFt aFc aFp aFh : Nat → Int32) (aFx aFy aVl : Nat → Int64) (post : Int32 → SX → Prop) (n st : Nat), rn_X aFd aFt aFc aFp aFh aFx aFy aVl (fun c _ _ x => x = cx c) ((d, ls, es, c, pc, c0 :: zs, x, y) :: r) → M + 1 < n → st + (M + 1) < 5400 → (∀ (fTD fTT fDP fEN : Int32) (fAN : Int64) (aFd aFt aFc aFp aFh : Nat → Int32) (aFx aFy aVl : Nat → Int64), (rC = 0 → fAN = lN vC) → post rC (nI dl, nI cl, nI pl, nI nc, nI nd, fCK, fED, fEP, fH, fO, fHP, fNK, fRC, fTD, fTT, fAX, fAY, fRS, fLV, fLT, fDP, fEN, fAN, aSup, aCpx, aCpy, aCr, aIns, aCls, aHd, aCtx, aPx, aPy, aR, aSz, aWd, aTk, aTn, aTt, aTj, aTs, aFl, aEl, aOt, aOk, aKd, aKt, aCal, aFd, aFt, aFc, aFp, aFh, aFx, aFy, aVl)) → wX_execute_79 post n (nI st) (nI dl) (nI cl) (nI pl) (nI nc) (nI nd) fCK fED fEP fH fO fHP fNK fRC fTD fTT fAX fAY fRS fLV fLT (nI (List.length ((d, ls, es, c, pc, c0 :: zs, x, y) :: r))) (nI en) fAN aSup aCpx aCpy aCr aIns aCls aHd aCtx aPx aPy aR aSz aWd aTk aTn aTt aTj aTs aFl aEl aOt aOk aKd aKt aCal aFd aFt aFc aFp aFh aFx aFy aVl) ∧ (∀ (yVl yFx yFy : Nat → Int64) (yFk yFp : Nat → Int32) (post : Int32 → SY → Prop) (n st : Nat), rn_Y yFk yFp yFx yFy yVl ((d, ls, es, c, pc, c0 :: zs, x, y) :: r) → M + 1 < n → st + (M + 1) < 6000 → (∀ (ySp yDp yEn : Int32) (yVl yFx yFy : Nat → Int64) (yFk yFp : Nat → Int32), (rC = 0 → yVl 0 = lN vC) → post rC (nI dl, nI cl, nI pl, nI nc, nI nd, fCK, fED, fEP, yAt, fH, fO, fAX, fAY, fLV, fRS, fLT, ySp, yDp, yEn, fNK, yRk, aSup, aCpx, aCpy, aCr, aPx, aPy, aR, aCtx, aCls, aHd, aSz, yWd, aTk, aTn, aTt, aTs, aFl, aOt, yVl, yFx, yFy, yFk, yFp, yKl)) → wY_evaluate_95 post n (nI st) (nI dl) (nI cl) (nI pl) (nI nc) (nI nd) fCK fED fEP yAt fH fO fAX fAY fLV fRS fLT (nI (rn_b ((d, ls, es, c, pc, c0 :: zs, x, y) :: r))) (nI (List.length ((d, ls, es, c, pc, c0 :: zs, x, y) :: r))) (nI en) fNK yRk aSup aCpx aCpy aCr aPx aPy aR aCtx aCls aHd aSz yWd aTk aTn aTt aTs aFl aOt yVl yFx yFy yFk yFp yKl) := by
  obtain ⟨q, v, XP, YP⟩ := IH
  rw [List.length_cons] at l8 hb
  refine ⟨q, v, ?_, ?_⟩
  · intro fTD fTT fAN aFd aFt aFc aFp aFh aFx aFy aVl post n st RX hn hst hp
    obtain ⟨n, rfl⟩ : ∃ m, n = m + 1 := ⟨n - 1, by omega⟩
    obtain ⟨⟨a1, a2, a3, a4, a5, a6, a7, ⟨a8, a8'⟩, a9⟩, RX2⟩ := RX
    refine sx_tok (by omega) hd hpN hN (k := 14) (by omega) (by omega) a1 a4 eN ek (sx_if (by omega) (by omega) ek (by omega) a5 (fun z => ?_) (fun z => ?_))
    · rw [a8] at z
      have z0 := (rf_0 hc).mp z
      rw [ej]
      refine nm_r (nI_1 st) (XP _ _ _ _ _ _ _ _ _ _ _ post n (st + 1) ⟨⟨a1, a2, a3, by rw [j1 z0]; exact pk_us, pk_us, a6, a7, a8', by omega⟩, ?_⟩ (by omega) (by omega) hp)
      exact rn_Xc r (fun j hj => ⟨rfl, rfl, rfl, by rw [pk_un (by omega), pk_un (by omega)], pk_un (by omega), rfl, rfl⟩) (fun _ _ => rfl) RX2
    · rw [a8] at z
      have z0 : ¬ c0 = 0 := fun y => z ((rf_0 hc).mpr y)
      refine nm_r (nI_1 st) (XP _ _ _ _ _ _ _ _ _ _ _ post n (st + 1) ⟨⟨a1, a2, a3, by rw [j2 z0]; exact pk_us, pk_us, a6, a7, a8', by omega⟩, ?_⟩ (by omega) (by omega) hp)
      exact rn_Xc r (fun j hj => ⟨rfl, rfl, rfl, pk_un (by omega), pk_un (by omega), rfl, rfl⟩) (fun _ _ => rfl) RX2
  · intro yVl yFx yFy yFk yFp post n st RY hn hst hp
    obtain ⟨n, rfl⟩ : ∃ m, n = m + 1 := ⟨n - 1, by omega⟩
    obtain ⟨⟨a1, a2, a3, a4, ⟨a5, a5'⟩⟩, RY2⟩ := RY
    refine sy_pre (by omega) hd hs hpN hN (by omega) a1 a2 eN ek (sy_if (b := rn_b r + zs.length) (by omega) (by omega) (fun z => ?_) (fun z => ?_))
    · rw [a5] at z
      have z0 := (rf_0 hc).mp z
      refine PT _ _ _ _ _ _ _ _ _ ⟨vp_in_nI (by omega) (by decide), ?_⟩
      rw [nI_clamp (n := r.length) (by omega), nI_1 J]
      refine nm_e (nm_r (nI_1 st) (YP _ _ _ _ _ post n (st + 1) ⟨⟨a1, by rw [j1 z0]; exact pk_us, a3, a4, a5'⟩, ?_⟩ (by omega) (by omega) hp))
      exact rn_Yc r (fun j hj => ⟨rfl, by rw [pk_un (by omega), pk_un (by omega)], rfl, rfl⟩) (fun _ _ => rfl) RY2
    · rw [a5] at z
      have z0 : ¬ c0 = 0 := fun y => z ((rf_0 hc).mpr y)
      refine YP _ _ _ _ _ post n (st + 1) ⟨⟨a1, by rw [j2 z0]; exact pk_us, a3, a4, a5'⟩, ?_⟩ (by omega) (by omega) hp
      exact rn_Yc r (fun j hj => ⟨rfl, pk_un (by omega), rfl, rfl⟩) (fun _ _ => rfl) RY2
theorem rf_else (hl : r.length + 1 ≤ 16) (hd : d < 12) (hs : ty_e ls es < 2097152) (hpN : pc < N) (hN : N ≤ 20) (eN : aSz d = nI N) (ek : aTk (20 * d + pc) = nI 15) (ej : aTj (20 * d + pc) = nI (J + 1))
    (PT : ∀ (ySp yDp yEn : Int32) (yVl yFx yFy : Nat → Int64) (yFk yFp : Nat → Int32) (ps : Int32 → Prop), ps (nI J) → wpY_partner ps (nI dl, nI cl, nI pl, nI nc, nI nd, fCK, fED, fEP, yAt, fH, fO, fAX, fAY, fLV, fRS, fLT, ySp, yDp, yEn, fNK, yRk, aSup, aCpx, aCpy, aCr, aPx, aPy, aR, aCtx, aCls, aHd, aSz, yWd, aTk, aTn, aTt, aTs, aFl, aOt, yVl, yFx, yFy, yFk, yFp, yKl) (nI d) (nI pc) 16)
    (IH : ∃ (rC : Int32) (vC : Nat), (∀ (fTD fTT : Int32) (fAN : Int64) (aFd aFt aFc aFp aFh : Nat → Int32) (aFx aFy aVl : Nat → Int64) (post : Int32 → SX → Prop) (n st : Nat), rn_X aFd aFt aFc aFp aFh aFx aFy aVl (fun c _ _ x => x = cx c) ((d, ls, es, c, J + 1, xs, x, y) :: r) → M < n → st + M < 5400 → (∀ (fTD fTT fDP fEN : Int32) (fAN : Int64) (aFd aFt aFc aFp aFh : Nat → Int32) (aFx aFy aVl : Nat → Int64), (rC = 0 → fAN = lN vC) → post rC (nI dl, nI cl, nI pl, nI nc, nI nd, fCK, fED, fEP, fH, fO, fHP, fNK, fRC, fTD, fTT, fAX, fAY, fRS, fLV, fLT, fDP, fEN, fAN, aSup, aCpx, aCpy, aCr, aIns, aCls, aHd, aCtx, aPx, aPy, aR, aSz, aWd, aTk, aTn, aTt, aTj, aTs, aFl, aEl, aOt, aOk, aKd, aKt, aCal, aFd, aFt, aFc, aFp, aFh, aFx, aFy, aVl)) → wX_execute_79 post n (nI st) (nI dl) (nI cl) (nI pl) (nI nc) (nI nd) fCK fED fEP fH fO fHP fNK fRC fTD fTT fAX fAY fRS fLV fLT (nI (List.length ((d, ls, es, c, J + 1, xs, x, y) :: r))) (nI en) fAN aSup aCpx aCpy aCr aIns aCls aHd aCtx aPx aPy aR aSz aWd aTk aTn aTt aTj aTs aFl aEl aOt aOk aKd aKt aCal aFd aFt aFc aFp aFh aFx aFy aVl) ∧ (∀ (yVl yFx yFy : Nat → Int64) (yFk yFp : Nat → Int32) (post : Int32 → SY → Prop) (n st : Nat), rn_Y yFk yFp yFx yFy yVl ((d, ls, es, c, J + 1, xs, x, y) :: r) → M < n → st + M < 6000 → (∀ (ySp yDp yEn : Int32) (yVl yFx yFy : Nat → Int64) (yFk yFp : Nat → Int32), (rC = 0 → yVl 0 = lN vC) → post rC (nI dl, nI cl, nI pl, nI nc, nI nd, fCK, fED, fEP, yAt, fH, fO, fAX, fAY, fLV, fRS, fLT, ySp, yDp, yEn, fNK, yRk, aSup, aCpx, aCpy, aCr, aPx, aPy, aR, aCtx, aCls, aHd, aSz, yWd, aTk, aTn, aTt, aTs, aFl, aOt, yVl, yFx, yFy, yFk, yFp, yKl)) → wY_evaluate_95 post n (nI st) (nI dl) (nI cl) (nI pl) (nI nc) (nI nd) fCK fED fEP yAt fH fO fAX fAY fLV fRS fLT (nI (rn_b ((d, ls, es, c, J + 1, xs, x, y) :: r))) (nI (List.length ((d, ls, es, c, J + 1, xs, x, y) :: r))) (nI en) fNK yRk aSup aCpx aCpy aCr aPx aPy aR aCtx aCls aHd aSz yWd aTk aTn aTt aTs aFl aOt yVl yFx yFy yFk yFp yKl)) : ∃ (rC : Int32) (vC : Nat), (∀ (fTD fTT : Int32) (fAN : Int64) (aFd aFt aFc aFp aFh : Nat → Int32) (aFx aFy aVl : Nat → Int64) (post : Int32 → SX → Prop) (n st : Nat), rn_X aFd aFt aFc aFp aFh aFx aFy aVl (fun c _ _ x => x = cx c) ((d, ls, es, c, pc, xs, x, y) :: r) → M + 1 < n → st + (M + 1) < 5400 → (∀ (fTD fTT fDP fEN : Int32) (fAN : Int64) (aFd aFt aFc aFp aFh : Nat → Int32) (aFx aFy aVl : Nat → Int64), (rC = 0 → fAN = lN vC) → post rC (nI dl, nI cl, nI pl, nI nc, nI nd, fCK, fED, fEP, fH, fO, fHP, fNK, fRC, fTD, fTT, fAX, fAY, fRS, fLV, fLT, fDP, fEN, fAN, aSup, aCpx, aCpy, aCr, aIns, aCls, aHd, aCtx, aPx, aPy, aR, aSz, aWd, aTk, aTn, aTt, aTj, aTs, aFl, aEl, aOt, aOk, aKd, aKt, aCal, aFd, aFt, aFc, aFp, aFh, aFx, aFy, aVl)) → wX_execute_79 post n (nI st) (nI dl) (nI cl) (nI pl) (nI nc) (nI nd) fCK fED fEP fH fO fHP fNK fRC fTD fTT fAX fAY fRS fLV fLT (nI (List.length ((d, ls, es, c, pc, xs, x, y) :: r))) (nI en) fAN aSup aCpx aCpy aCr aIns aCls aHd aCtx aPx aPy aR aSz aWd aTk aTn aTt aTj aTs aFl aEl aOt aOk aKd aKt aCal aFd aFt aFc aFp aFh aFx aFy aVl) ∧ (∀ (yVl yFx yFy : Nat → Int64) (yFk yFp : Nat → Int32) (post : Int32 → SY → Prop) (n st : Nat), rn_Y yFk yFp yFx yFy yVl ((d, ls, es, c, pc, xs, x, y) :: r) → M + 1 < n → st + (M + 1) < 6000 → (∀ (ySp yDp yEn : Int32) (yVl yFx yFy : Nat → Int64) (yFk yFp : Nat → Int32), (rC = 0 → yVl 0 = lN vC) → post rC (nI dl, nI cl, nI pl, nI nc, nI nd, fCK, fED, fEP, yAt, fH, fO, fAX, fAY, fLV, fRS, fLT, ySp, yDp, yEn, fNK, yRk, aSup, aCpx, aCpy, aCr, aPx, aPy, aR, aCtx, aCls, aHd, aSz, yWd, aTk, aTn, aTt, aTs, aFl, aOt, yVl, yFx, yFy, yFk, yFp, yKl)) → wY_evaluate_95 post n (nI st) (nI dl) (nI cl) (nI pl) (nI nc) (nI nd) fCK fED fEP yAt fH fO fAX fAY fLV fRS fLT (nI (rn_b ((d, ls, es, c, pc, xs, x, y) :: r))) (nI (List.length ((d, ls, es, c, pc, xs, x, y) :: r))) (nI en) fNK yRk aSup aCpx aCpy aCr aPx aPy aR aCtx aCls aHd aSz yWd aTk aTn aTt aTs aFl aOt yVl yFx yFy yFk yFp yKl) := by
  obtain ⟨q, v, XP, YP⟩ := IH
  refine ⟨q, v, ?_, ?_⟩
  · intro fTD fTT fAN aFd aFt aFc aFp aFh aFx aFy aVl post n st RX hn hst hp
    obtain ⟨n, rfl⟩ : ∃ m, n = m + 1 := ⟨n - 1, by omega⟩
    obtain ⟨⟨a1, a2, a3, a4, a5, a6, a7, a8, a9⟩, RX2⟩ := RX
    refine sx_tok (by omega) hd hpN hN (k := 15) (by omega) (by omega) a1 a4 eN ek (sx_else (by omega) (by omega) ek ?_)
    rw [ej]
    refine nm_r (nI_1 st) (XP _ _ _ _ _ _ _ _ _ _ _ post n (st + 1) ⟨⟨a1, a2, a3, pk_us, a5, a6, a7, a8, a9⟩, ?_⟩ (by omega) (by omega) hp)
    exact rn_Xc r (fun j hj => ⟨rfl, rfl, rfl, by rw [pk_un (by omega), pk_un (by omega)], rfl, rfl, rfl⟩) (fun _ _ => rfl) RX2
  · intro yVl yFx yFy yFk yFp post n st RY hn hst hp
    obtain ⟨n, rfl⟩ : ∃ m, n = m + 1 := ⟨n - 1, by omega⟩
    obtain ⟨⟨a1, a2, a3, a4, a5⟩, RY2⟩ := RY
    refine sy_pre (by omega) hd hs hpN hN (by omega) a1 a2 eN ek (sy_else (by omega) ?_)
    refine PT _ _ _ _ _ _ _ _ _ ⟨vp_in_nI (by omega) (by decide), ?_⟩
    rw [nI_clamp (n := r.length) (by omega), nI_1 J]
    refine nm_e (nm_r (nI_1 st) (YP _ _ _ _ _ post n (st + 1) ⟨⟨a1, pk_us, a3, a4, a5⟩, ?_⟩ (by omega) (by omega) hp))
    exact rn_Yc r (fun j hj => ⟨rfl, by rw [pk_un (by omega), pk_un (by omega)], rfl, rfl⟩) (fun _ _ => rfl) RY2
theorem rf_end {w : Nat} (hd : d < 12) (hs : ty_e ls es < 2097152) (hN : N ≤ 20) (eN : aSz d = nI N) : ∃ (rC : Int32) (vC : Nat), (∀ (fTD fTT : Int32) (fAN : Int64) (aFd aFt aFc aFp aFh : Nat → Int32) (aFx aFy aVl : Nat → Int64) (post : Int32 → SX → Prop) (n st : Nat), rn_X aFd aFt aFc aFp aFh aFx aFy aVl (fun c _ _ x => x = cx c) ((d, ls, es, c, N, w :: List.nil, x, y) :: List.nil) → M + 1 < n → st + (M + 1) < 5400 → (∀ (fTD fTT fDP fEN : Int32) (fAN : Int64) (aFd aFt aFc aFp aFh : Nat → Int32) (aFx aFy aVl : Nat → Int64), (rC = 0 → fAN = lN vC) → post rC (nI dl, nI cl, nI pl, nI nc, nI nd, fCK, fED, fEP, fH, fO, fHP, fNK, fRC, fTD, fTT, fAX, fAY, fRS, fLV, fLT, fDP, fEN, fAN, aSup, aCpx, aCpy, aCr, aIns, aCls, aHd, aCtx, aPx, aPy, aR, aSz, aWd, aTk, aTn, aTt, aTj, aTs, aFl, aEl, aOt, aOk, aKd, aKt, aCal, aFd, aFt, aFc, aFp, aFh, aFx, aFy, aVl)) → wX_execute_79 post n (nI st) (nI dl) (nI cl) (nI pl) (nI nc) (nI nd) fCK fED fEP fH fO fHP fNK fRC fTD fTT fAX fAY fRS fLV fLT (nI (List.length ((d, ls, es, c, N, w :: List.nil, x, y) :: List.nil))) (nI en) fAN aSup aCpx aCpy aCr aIns aCls aHd aCtx aPx aPy aR aSz aWd aTk aTn aTt aTj aTs aFl aEl aOt aOk aKd aKt aCal aFd aFt aFc aFp aFh aFx aFy aVl) ∧ (∀ (yVl yFx yFy : Nat → Int64) (yFk yFp : Nat → Int32) (post : Int32 → SY → Prop) (n st : Nat), rn_Y yFk yFp yFx yFy yVl ((d, ls, es, c, N, w :: List.nil, x, y) :: List.nil) → M + 1 < n → st + (M + 1) < 6000 → (∀ (ySp yDp yEn : Int32) (yVl yFx yFy : Nat → Int64) (yFk yFp : Nat → Int32), (rC = 0 → yVl 0 = lN vC) → post rC (nI dl, nI cl, nI pl, nI nc, nI nd, fCK, fED, fEP, yAt, fH, fO, fAX, fAY, fLV, fRS, fLT, ySp, yDp, yEn, fNK, yRk, aSup, aCpx, aCpy, aCr, aPx, aPy, aR, aCtx, aCls, aHd, aSz, yWd, aTk, aTn, aTt, aTs, aFl, aOt, yVl, yFx, yFy, yFk, yFp, yKl)) → wY_evaluate_95 post n (nI st) (nI dl) (nI cl) (nI pl) (nI nc) (nI nd) fCK fED fEP yAt fH fO fAX fAY fLV fRS fLT (nI (rn_b ((d, ls, es, c, N, w :: List.nil, x, y) :: List.nil))) (nI (List.length ((d, ls, es, c, N, w :: List.nil, x, y) :: List.nil))) (nI en) fNK yRk aSup aCpx aCpy aCr aPx aPy aR aCtx aCls aHd aSz yWd aTk aTn aTt aTs aFl aOt yVl yFx yFy yFk yFp yKl) := by
  refine ⟨0, w, ?_, ?_⟩
  · intro fTD fTT fAN aFd aFt aFc aFp aFh aFx aFy aVl post n st RX hn hst hp
    obtain ⟨n, rfl⟩ : ∃ m, n = m + 1 := ⟨n - 1, by omega⟩
    obtain ⟨⟨a1, a2, a3, a4, a5, a6, a7, ⟨a8, a8'⟩, a9⟩, RX2⟩ := RX
    exact sx_lv0 hd hN (by omega) a1 a4 eN (hp _ _ _ _ _ _ _ _ _ _ _ _ _ (fun _ => a8))
  · intro yVl yFx yFy yFk yFp post n st RY hn hst hp
    obtain ⟨n, rfl⟩ : ∃ m, n = m + 1 + 1 := ⟨n - 2, by omega⟩
    obtain ⟨⟨a1, a2, a3, a4, ⟨a5, a5'⟩⟩, RY2⟩ := RY
    exact sy_lv (a := 0) (by omega) hd hs hN (by omega) a1 a2 eN (sy_end (by omega) (hp _ _ _ _ _ _ _ _ (fun _ => a5)))
theorem rf_leave {w d2 es2 c2 pc2 x2 y2 : Nat} {ls2 : List Bool} {xs2 : List Nat} {r2 : List rn_F} (hl : r2.length + 1 + 1 ≤ 16) (hd : d < 12) (hs : ty_e ls es < 2097152) (hN : N ≤ 20) (eN : aSz d = nI N) (l8 : xs2.length < 8)
    (IH : ∃ (rC : Int32) (vC : Nat), (∀ (fTD fTT : Int32) (fAN : Int64) (aFd aFt aFc aFp aFh : Nat → Int32) (aFx aFy aVl : Nat → Int64) (post : Int32 → SX → Prop) (n st : Nat), rn_X aFd aFt aFc aFp aFh aFx aFy aVl (fun c _ _ x => x = cx c) ((d2, ls2, es2, c2, pc2, w :: xs2, x2, y2) :: r2) → M < n → st + M < 5400 → (∀ (fTD fTT fDP fEN : Int32) (fAN : Int64) (aFd aFt aFc aFp aFh : Nat → Int32) (aFx aFy aVl : Nat → Int64), (rC = 0 → fAN = lN vC) → post rC (nI dl, nI cl, nI pl, nI nc, nI nd, fCK, fED, fEP, fH, fO, fHP, fNK, fRC, fTD, fTT, fAX, fAY, fRS, fLV, fLT, fDP, fEN, fAN, aSup, aCpx, aCpy, aCr, aIns, aCls, aHd, aCtx, aPx, aPy, aR, aSz, aWd, aTk, aTn, aTt, aTj, aTs, aFl, aEl, aOt, aOk, aKd, aKt, aCal, aFd, aFt, aFc, aFp, aFh, aFx, aFy, aVl)) → wX_execute_79 post n (nI st) (nI dl) (nI cl) (nI pl) (nI nc) (nI nd) fCK fED fEP fH fO fHP fNK fRC fTD fTT fAX fAY fRS fLV fLT (nI (List.length ((d2, ls2, es2, c2, pc2, w :: xs2, x2, y2) :: r2))) (nI en) fAN aSup aCpx aCpy aCr aIns aCls aHd aCtx aPx aPy aR aSz aWd aTk aTn aTt aTj aTs aFl aEl aOt aOk aKd aKt aCal aFd aFt aFc aFp aFh aFx aFy aVl) ∧ (∀ (yVl yFx yFy : Nat → Int64) (yFk yFp : Nat → Int32) (post : Int32 → SY → Prop) (n st : Nat), rn_Y yFk yFp yFx yFy yVl ((d2, ls2, es2, c2, pc2, w :: xs2, x2, y2) :: r2) → M < n → st + M < 6000 → (∀ (ySp yDp yEn : Int32) (yVl yFx yFy : Nat → Int64) (yFk yFp : Nat → Int32), (rC = 0 → yVl 0 = lN vC) → post rC (nI dl, nI cl, nI pl, nI nc, nI nd, fCK, fED, fEP, yAt, fH, fO, fAX, fAY, fLV, fRS, fLT, ySp, yDp, yEn, fNK, yRk, aSup, aCpx, aCpy, aCr, aPx, aPy, aR, aCtx, aCls, aHd, aSz, yWd, aTk, aTn, aTt, aTs, aFl, aOt, yVl, yFx, yFy, yFk, yFp, yKl)) → wY_evaluate_95 post n (nI st) (nI dl) (nI cl) (nI pl) (nI nc) (nI nd) fCK fED fEP yAt fH fO fAX fAY fLV fRS fLT (nI (rn_b ((d2, ls2, es2, c2, pc2, w :: xs2, x2, y2) :: r2))) (nI (List.length ((d2, ls2, es2, c2, pc2, w :: xs2, x2, y2) :: r2))) (nI en) fNK yRk aSup aCpx aCpy aCr aPx aPy aR aCtx aCls aHd aSz yWd aTk aTn aTt aTs aFl aOt yVl yFx yFy yFk yFp yKl)) : ∃ (rC : Int32) (vC : Nat), (∀ (fTD fTT : Int32) (fAN : Int64) (aFd aFt aFc aFp aFh : Nat → Int32) (aFx aFy aVl : Nat → Int64) (post : Int32 → SX → Prop) (n st : Nat), rn_X aFd aFt aFc aFp aFh aFx aFy aVl (fun c _ _ x => x = cx c) ((d, ls, es, c, N, w :: List.nil, x, y) :: (d2, ls2, es2, c2, pc2, xs2, x2, y2) :: r2) → M + 1 < n → st + (M + 1) < 5400 → (∀ (fTD fTT fDP fEN : Int32) (fAN : Int64) (aFd aFt aFc aFp aFh : Nat → Int32) (aFx aFy aVl : Nat → Int64), (rC = 0 → fAN = lN vC) → post rC (nI dl, nI cl, nI pl, nI nc, nI nd, fCK, fED, fEP, fH, fO, fHP, fNK, fRC, fTD, fTT, fAX, fAY, fRS, fLV, fLT, fDP, fEN, fAN, aSup, aCpx, aCpy, aCr, aIns, aCls, aHd, aCtx, aPx, aPy, aR, aSz, aWd, aTk, aTn, aTt, aTj, aTs, aFl, aEl, aOt, aOk, aKd, aKt, aCal, aFd, aFt, aFc, aFp, aFh, aFx, aFy, aVl)) → wX_execute_79 post n (nI st) (nI dl) (nI cl) (nI pl) (nI nc) (nI nd) fCK fED fEP fH fO fHP fNK fRC fTD fTT fAX fAY fRS fLV fLT (nI (List.length ((d, ls, es, c, N, w :: List.nil, x, y) :: (d2, ls2, es2, c2, pc2, xs2, x2, y2) :: r2))) (nI en) fAN aSup aCpx aCpy aCr aIns aCls aHd aCtx aPx aPy aR aSz aWd aTk aTn aTt aTj aTs aFl aEl aOt aOk aKd aKt aCal aFd aFt aFc aFp aFh aFx aFy aVl) ∧ (∀ (yVl yFx yFy : Nat → Int64) (yFk yFp : Nat → Int32) (post : Int32 → SY → Prop) (n st : Nat), rn_Y yFk yFp yFx yFy yVl ((d, ls, es, c, N, w :: List.nil, x, y) :: (d2, ls2, es2, c2, pc2, xs2, x2, y2) :: r2) → M + 1 < n → st + (M + 1) < 6000 → (∀ (ySp yDp yEn : Int32) (yVl yFx yFy : Nat → Int64) (yFk yFp : Nat → Int32), (rC = 0 → yVl 0 = lN vC) → post rC (nI dl, nI cl, nI pl, nI nc, nI nd, fCK, fED, fEP, yAt, fH, fO, fAX, fAY, fLV, fRS, fLT, ySp, yDp, yEn, fNK, yRk, aSup, aCpx, aCpy, aCr, aPx, aPy, aR, aCtx, aCls, aHd, aSz, yWd, aTk, aTn, aTt, aTs, aFl, aOt, yVl, yFx, yFy, yFk, yFp, yKl)) → wY_evaluate_95 post n (nI st) (nI dl) (nI cl) (nI pl) (nI nc) (nI nd) fCK fED fEP yAt fH fO fAX fAY fLV fRS fLT (nI (rn_b ((d, ls, es, c, N, w :: List.nil, x, y) :: (d2, ls2, es2, c2, pc2, xs2, x2, y2) :: r2))) (nI (List.length ((d, ls, es, c, N, w :: List.nil, x, y) :: (d2, ls2, es2, c2, pc2, xs2, x2, y2) :: r2))) (nI en) fNK yRk aSup aCpx aCpy aCr aPx aPy aR aCtx aCls aHd aSz yWd aTk aTn aTt aTs aFl aOt yVl yFx yFy yFk yFp yKl) := by
  obtain ⟨q, v, XP, YP⟩ := IH
  refine ⟨q, v, ?_, ?_⟩
  · intro fTD fTT fAN aFd aFt aFc aFp aFh aFx aFy aVl post n st RX hn hst hp
    obtain ⟨n, rfl⟩ : ∃ m, n = m + 1 := ⟨n - 1, by omega⟩
    obtain ⟨⟨a1, a2, a3, a4, a5, a6, a7, ⟨a8, a8'⟩, a9⟩, ⟨b1, b2, b3, b4, b5, b6, b7, b8, b9⟩, RX2⟩ := RX
    have a8'' : aVl (8 * (r2.length + 1)) = lN w := a8
    refine sx_lv1 (a := r2.length) (m := xs2.length) (by omega) hd hN (by omega) a1 a4 eN l8 b5 ?_
    rw [a8'']
    refine XP _ _ _ _ _ _ _ _ _ _ _ post n (st + 1) ⟨⟨b1, b2, b3, b4, pk_us, b6, b7, rn_vp b8, l8⟩, ?_⟩ (by omega) (by omega) hp
    exact rn_Xc r2 (fun j hj => ⟨rfl, rfl, rfl, rfl, pk_un (by omega), rfl, rfl⟩) (fun j hj => pk_uLn (by omega)) RX2
  · intro yVl yFx yFy yFk yFp post n st RY hn hst hp
    obtain ⟨n, rfl⟩ : ∃ m, n = m + 1 := ⟨n - 1, by omega⟩
    obtain ⟨⟨a1, a2, a3, a4, ⟨a5, a5'⟩⟩, ⟨b1, b2, b3, b4, b5⟩, RY2⟩ := RY
    have a5'' : yVl (rn_b r2 + xs2.length) = lN w := a5
    refine sy_lv (a := r2.length + 1) (by omega) hd hs hN (by omega) a1 a2 eN ?_
    refine YP _ _ _ _ _ post n (st + 1) ⟨⟨b1, by rw [pk_un (by omega)]; exact b2, b3, b4, ⟨a5'', b5⟩⟩, ?_⟩ (by omega) (by omega) hp
    exact rn_Yc r2 (fun j hj => ⟨rfl, pk_un (by omega), rfl, rfl⟩) (fun _ _ => rfl) RY2
end
end
section
/-! 33: runs: a call, by keys or by clones -/
def md_P (aSz aWd aTk aIns aTn aTt aKd aKt aCal : Nat → Int32) (nk : Nat) : Prop := nk ≤ 24 ∧ ∀ k, k < nk → aKd k = nI (mk_v (aKd k)) ∧ aKt k = nI (mk_v (aKt k)) ∧ mk_v (aWd (mk_v (aKd k))) + kq_n 7 (mk_v (aKt k)) ≤ 7 ∧ ∀ i, i < mk_v (aSz (mk_v (aKd k))) → 17 ≤ wt_k aTk (mk_v (aKd k)) i → ∃ j, j < nk ∧ aCal (20 * k + i) = nI j ∧ (mk_v (aKd j), mk_v (aKt j)) = kq_t aIns aTk aTn aTt (mk_v (aKd k)) (mk_v (aKt k)) i
def md_M (aSz aWd aTk aIns aTn aTt aKd aKt aCal : Nat → Int32) (cx : Nat → Int32) (Mf : Nat → Nat → Nat → Prop) : Prop := ((∀ c, cx c = -1) ∧ (∀ c d s, Mf c d s)) ∨ (∃ nk, md_P aSz aWd aTk aIns aTn aTt aKd aKt aCal nk ∧ (∀ c, cx c = nI c) ∧ (∀ c d s, Mf c d s ↔ (c < nk ∧ mk_v (aKd c) = d ∧ mk_v (aKt c) = s)))
section
variable {dl cl pl nc nd : Nat} {fCK fED fEP fH fO fHP fNK fRC fTD fTT : Int32} {fAX fAY : Int64} {fRS : Int32} {fLV : Int64} {fLT fDP fEN : Int32} {fAN : Int64} {aSup aCpx aCpy aCr aIns aCls aHd aCtx aPx aPy aR aSz aWd aTk aTn aTt aTj aTs aFl aEl aOt aOk aKd aKt aCal aFd aFt aFc aFp aFh : Nat → Int32} {aFx aFy aVl : Nat → Int64} {yAt ySp yDp yEn yRk : Int32} {yWd : Nat → Int32} {yVl yFx yFy : Nat → Int64} {yFk yFp yKl : Nat → Int32} {cx : Nat → Int32} {Mf : Nat → Nat → Nat → Prop} {d es c pc x y en M W N k d' es' W' bv cv : Nat} {ls ls' : List Bool} {zs : List Nat} {r : List rn_F}
theorem rf_xc (H : (sr_H nc nd aSup aIns aCls aHd aCtx)) (MD : md_M aSz aWd aTk aIns aTn aTt aKd aKt aCal cx Mf) (mc : Mf c d (ty_e ls es)) (hl : r.length + 1 ≤ pl) (p16 : pl ≤ 16) (he : en ≤ 256) (hd : d < 12) (hpN : pc < N) (hN : N ≤ 20) (eN : aSz d = nI N) (k17 : 17 ≤ k) (k18 : k ≤ 18) (ek : aTk (20 * d + pc) = nI k) (l8 : zs.length + 2 ≤ 8) (hd' : d' < nd) (K' : kq_k aSup aIns aHd aCtx d' ls' es') (A : kt_W nc aIns aTk aTn aTt d (ty_e ls es) pc d' (ty_e ls' es')) (hW : aWd d' = nI W') (W6 : W' ≤ 6) :
    ∃ c', Mf c' d' (ty_e ls' es') ∧ ∀ (fTD fTT : Int32) (fAN : Int64) (aFd aFt aFc aFp aFh : Nat → Int32) (aFx aFy aVl : Nat → Int64) (post : Int32 → SX → Prop), aFh r.length = nI (zs.length + 2) → aFc r.length = cx c → aFt r.length = nI (ty_e ls es) →
      (∀ (fTD fTT : Int32) (aFh : Nat → Int32), ¬ W' + kq_n 7 (ty_e ls' es') ≤ 7 → post 1 (nI dl, nI cl, nI pl, nI nc, nI nd, fCK, fED, fEP, fH, fO, fHP, fNK, fRC, fTD, fTT, fAX, fAY, fRS, fLV, fLT, nI (r.length + 1), nI en, fAN, aSup, aCpx, aCpy, aCr, aIns, aCls, aHd, aCtx, aPx, aPy, aR, aSz, aWd, aTk, aTn, aTt, aTj, aTs, aFl, aEl, aOt, aOk, aKd, aKt, aCal, aFd, aFt, aFc, aFp, aFh, aFx, aFy, aVl)) →
      (∀ (fTD fTT : Int32) (aFh : Nat → Int32), W' + kq_n 7 (ty_e ls' es') ≤ 7 → ¬ r.length + 1 < pl → post 2 (nI dl, nI cl, nI pl, nI nc, nI nd, fCK, fED, fEP, fH, fO, fHP, fNK, fRC, fTD, fTT, fAX, fAY, fRS, fLV, fLT, nI (r.length + 1), nI en, fAN, aSup, aCpx, aCpy, aCr, aIns, aCls, aHd, aCtx, aPx, aPy, aR, aSz, aWd, aTk, aTn, aTt, aTj, aTs, aFl, aEl, aOt, aOk, aKd, aKt, aCal, aFd, aFt, aFc, aFp, aFh, aFx, aFy, aVl)) →
      (∀ (fTD fTT : Int32) (aFh : Nat → Int32), W' + kq_n 7 (ty_e ls' es') ≤ 7 → r.length + 1 < pl → ¬ en < 256 → post 3 (nI dl, nI cl, nI pl, nI nc, nI nd, fCK, fED, fEP, fH, fO, fHP, fNK, fRC, fTD, fTT, fAX, fAY, fRS, fLV, fLT, nI (r.length + 1), nI en, fAN, aSup, aCpx, aCpy, aCr, aIns, aCls, aHd, aCtx, aPx, aPy, aR, aSz, aWd, aTk, aTn, aTt, aTj, aTs, aFl, aEl, aOt, aOk, aKd, aKt, aCal, aFd, aFt, aFc, aFp, aFh, aFx, aFy, aVl)) →
      (W' + kq_n 7 (ty_e ls' es') ≤ 7 → r.length + 1 < pl → en < 256 → post 0 (nI dl, nI cl, nI pl, nI nc, nI nd, fCK, fED, fEP, fH, fO, fHP, fNK, fRC, nI d', nI (ty_e ls' es'), fAX, fAY, fRS, fLV, fLT, nI (r.length + 1 + 1), nI (en + 1), fAN, aSup, aCpx, aCpy, aCr, aIns, aCls, aHd, aCtx, aPx, aPy, aR, aSz, aWd, aTk, aTn, aTt, aTj, aTs, aFl, aEl, aOt, aOk, aKd, aKt, aCal, upd aFd (r.length + 1) (nI d'), upd aFt (r.length + 1) (nI (ty_e ls' es')), upd aFc (r.length + 1) (cx c'), upd (upd aFp r.length (nI (pc + 1))) (r.length + 1) 0, upd (upd aFh r.length (nI zs.length)) (r.length + 1) 0, vp_updL aFx (r.length + 1) (aVl (8 * r.length + zs.length)), vp_updL aFy (r.length + 1) (aVl (8 * r.length + zs.length + 1)), aVl)) → wpX_call post (nI dl, nI cl, nI pl, nI nc, nI nd, fCK, fED, fEP, fH, fO, fHP, fNK, fRC, fTD, fTT, fAX, fAY, fRS, fLV, fLT, nI (r.length + 1), nI en, fAN, aSup, aCpx, aCpy, aCr, aIns, aCls, aHd, aCtx, aPx, aPy, aR, aSz, aWd, aTk, aTn, aTt, aTj, aTs, aFl, aEl, aOt, aOk, aKd, aKt, aCal, aFd, aFt, aFc, aFp, aFh, aFx, aFy, aVl) (nI r.length) (nI (20 * d + pc)) (nI pc) := by
  have h4 := H.1
  have h12 := H.2.1
  rcases MD with ⟨m1, m2⟩ | ⟨nk, ⟨n24, m1⟩, m2, m3⟩
  · refine ⟨0, m2 _ _ _, ?_⟩
    intro fTD fTT fAN aFd aFt aFc aFp aFh aFx aFy aVl post e1 e2 e3 p1 p2 p3 p4
    rw [m1] at e2
    rw [m1] at p4
    exact sc_X0 H hd (by omega) k18 ek hl p16 he l8 e1 e2 e3 hd' K' A hW W6 p1 p2 p3 p4
  · obtain ⟨c1, c2, c3⟩ := (m3 c d (ty_e ls es)).mp mc
    obtain ⟨_, _, _, q4⟩ := m1 c c1
    rw [c2, c3] at q4
    obtain ⟨j, j1, j2, j3⟩ := q4 pc (by rw [eN, mk_vn (by omega)]; exact hpN) (by rw [kx_k k18 ek]; exact k17)
    rw [kt_w h4 (by omega) A] at j3
    obtain ⟨j4, j5⟩ := Prod.mk.inj j3
    obtain ⟨k1, k2, k3, _⟩ := m1 j j1
    rw [j4] at k1 k3
    rw [j5] at k2 k3
    rw [hW, mk_vn (by omega)] at k3
    refine ⟨j, (m3 j d' (ty_e ls' es')).mpr ⟨j1, j4, j5⟩, ?_⟩
    intro fTD fTT fAN aFd aFt aFc aFp aFh aFx aFy aVl post e1 e2 e3 p1 p2 p3 p4
    rw [m2] at e2
    rw [m2] at p4
    exact sc_X1 (by omega) hl p16 he l8 e1 e2 (by omega) (by omega) j2 k1 k2 (fun a b f => p2 a b f k3) (fun a b f => p3 a b f k3) (p4 k3)
theorem rf_call (H : (sr_H nc nd aSup aIns aCls aHd aCtx)) (MD : md_M aSz aWd aTk aIns aTn aTt aKd aKt aCal cx Mf) (mc : Mf c d (ty_e ls es)) (hl : r.length + 1 ≤ pl) (p16 : pl ≤ 16) (he : en ≤ 256) (hd : d < 12) (hs : ty_e ls es < 2097152) (hpN : pc < N) (hN : N ≤ 20) (eN : aSz d = nI N) (k17 : 17 ≤ k) (k18 : k ≤ 18) (ek : aTk (20 * d + pc) = nI k) (l8 : zs.length + 2 ≤ 8) (hb : rn_b r + (zs.length + 2) ≤ 128) (hd' : d' < nd) (K' : kq_k aSup aIns aHd aCtx d' ls' es') (A : kt_W nc aIns aTk aTn aTt d (ty_e ls es) pc d' (ty_e ls' es')) (hW : aWd d' = nI W') (hWy : yWd d' = nI W') (W6 : W' ≤ 6)
    (IH : ∀ c', Mf c' d' (ty_e ls' es') → W' + kq_n 7 (ty_e ls' es') ≤ 7 → r.length + 1 < pl → en < 256 → ∃ (rC : Int32) (vC : Nat), (∀ (fTD fTT : Int32) (fAN : Int64) (aFd aFt aFc aFp aFh : Nat → Int32) (aFx aFy aVl : Nat → Int64) (post : Int32 → SX → Prop) (n st : Nat), rn_X aFd aFt aFc aFp aFh aFx aFy aVl (fun c _ _ x => x = cx c) ((d', ls', es', c', 0, List.nil, bv, cv) :: (d, ls, es, c, pc + 1, zs, x, y) :: r) → M < n → st + M < 5400 → (∀ (fTD fTT fDP fEN : Int32) (fAN : Int64) (aFd aFt aFc aFp aFh : Nat → Int32) (aFx aFy aVl : Nat → Int64), (rC = 0 → fAN = lN vC) → post rC (nI dl, nI cl, nI pl, nI nc, nI nd, fCK, fED, fEP, fH, fO, fHP, fNK, fRC, fTD, fTT, fAX, fAY, fRS, fLV, fLT, fDP, fEN, fAN, aSup, aCpx, aCpy, aCr, aIns, aCls, aHd, aCtx, aPx, aPy, aR, aSz, aWd, aTk, aTn, aTt, aTj, aTs, aFl, aEl, aOt, aOk, aKd, aKt, aCal, aFd, aFt, aFc, aFp, aFh, aFx, aFy, aVl)) → wX_execute_79 post n (nI st) (nI dl) (nI cl) (nI pl) (nI nc) (nI nd) fCK fED fEP fH fO fHP fNK fRC fTD fTT fAX fAY fRS fLV fLT (nI (List.length ((d', ls', es', c', 0, List.nil, bv, cv) :: (d, ls, es, c, pc + 1, zs, x, y) :: r))) (nI (en + 1)) fAN aSup aCpx aCpy aCr aIns aCls aHd aCtx aPx aPy aR aSz aWd aTk aTn aTt aTj aTs aFl aEl aOt aOk aKd aKt aCal aFd aFt aFc aFp aFh aFx aFy aVl) ∧ (∀ (yVl yFx yFy : Nat → Int64) (yFk yFp : Nat → Int32) (post : Int32 → SY → Prop) (n st : Nat), rn_Y yFk yFp yFx yFy yVl ((d', ls', es', c', 0, List.nil, bv, cv) :: (d, ls, es, c, pc + 1, zs, x, y) :: r) → M < n → st + M < 6000 → (∀ (ySp yDp yEn : Int32) (yVl yFx yFy : Nat → Int64) (yFk yFp : Nat → Int32), (rC = 0 → yVl 0 = lN vC) → post rC (nI dl, nI cl, nI pl, nI nc, nI nd, fCK, fED, fEP, yAt, fH, fO, fAX, fAY, fLV, fRS, fLT, ySp, yDp, yEn, fNK, yRk, aSup, aCpx, aCpy, aCr, aPx, aPy, aR, aCtx, aCls, aHd, aSz, yWd, aTk, aTn, aTt, aTs, aFl, aOt, yVl, yFx, yFy, yFk, yFp, yKl)) → wY_evaluate_95 post n (nI st) (nI dl) (nI cl) (nI pl) (nI nc) (nI nd) fCK fED fEP yAt fH fO fAX fAY fLV fRS fLT (nI (rn_b ((d', ls', es', c', 0, List.nil, bv, cv) :: (d, ls, es, c, pc + 1, zs, x, y) :: r))) (nI (List.length ((d', ls', es', c', 0, List.nil, bv, cv) :: (d, ls, es, c, pc + 1, zs, x, y) :: r))) (nI (en + 1)) fNK yRk aSup aCpx aCpy aCr aPx aPy aR aCtx aCls aHd aSz yWd aTk aTn aTt aTs aFl aOt yVl yFx yFy yFk yFp yKl)) : ∃ (rC : Int32) (vC : Nat), (∀ (fTD fTT : Int32) (fAN : Int64) (aFd aFt aFc aFp aFh : Nat → Int32) (aFx aFy aVl : Nat → Int64) (post : Int32 → SX → Prop) (n st : Nat), rn_X aFd aFt aFc aFp aFh aFx aFy aVl (fun c _ _ x => x = cx c) ((d, ls, es, c, pc, cv :: bv :: zs, x, y) :: r) → M + 1 < n → st + (M + 1) < 5400 → (∀ (fTD fTT fDP fEN : Int32) (fAN : Int64) (aFd aFt aFc aFp aFh : Nat → Int32) (aFx aFy aVl : Nat → Int64), (rC = 0 → fAN = lN vC) → post rC (nI dl, nI cl, nI pl, nI nc, nI nd, fCK, fED, fEP, fH, fO, fHP, fNK, fRC, fTD, fTT, fAX, fAY, fRS, fLV, fLT, fDP, fEN, fAN, aSup, aCpx, aCpy, aCr, aIns, aCls, aHd, aCtx, aPx, aPy, aR, aSz, aWd, aTk, aTn, aTt, aTj, aTs, aFl, aEl, aOt, aOk, aKd, aKt, aCal, aFd, aFt, aFc, aFp, aFh, aFx, aFy, aVl)) → wX_execute_79 post n (nI st) (nI dl) (nI cl) (nI pl) (nI nc) (nI nd) fCK fED fEP fH fO fHP fNK fRC fTD fTT fAX fAY fRS fLV fLT (nI (List.length ((d, ls, es, c, pc, cv :: bv :: zs, x, y) :: r))) (nI en) fAN aSup aCpx aCpy aCr aIns aCls aHd aCtx aPx aPy aR aSz aWd aTk aTn aTt aTj aTs aFl aEl aOt aOk aKd aKt aCal aFd aFt aFc aFp aFh aFx aFy aVl) ∧ (∀ (yVl yFx yFy : Nat → Int64) (yFk yFp : Nat → Int32) (post : Int32 → SY → Prop) (n st : Nat), rn_Y yFk yFp yFx yFy yVl ((d, ls, es, c, pc, cv :: bv :: zs, x, y) :: r) → M + 1 < n → st + (M + 1) < 6000 → (∀ (ySp yDp yEn : Int32) (yVl yFx yFy : Nat → Int64) (yFk yFp : Nat → Int32), (rC = 0 → yVl 0 = lN vC) → post rC (nI dl, nI cl, nI pl, nI nc, nI nd, fCK, fED, fEP, yAt, fH, fO, fAX, fAY, fLV, fRS, fLT, ySp, yDp, yEn, fNK, yRk, aSup, aCpx, aCpy, aCr, aPx, aPy, aR, aCtx, aCls, aHd, aSz, yWd, aTk, aTn, aTt, aTs, aFl, aOt, yVl, yFx, yFy, yFk, yFp, yKl)) → wY_evaluate_95 post n (nI st) (nI dl) (nI cl) (nI pl) (nI nc) (nI nd) fCK fED fEP yAt fH fO fAX fAY fLV fRS fLT (nI (rn_b ((d, ls, es, c, pc, cv :: bv :: zs, x, y) :: r))) (nI (List.length ((d, ls, es, c, pc, cv :: bv :: zs, x, y) :: r))) (nI en) fNK yRk aSup aCpx aCpy aCr aPx aPy aR aCtx aCls aHd aSz yWd aTk aTn aTt aTs aFl aOt yVl yFx yFy yFk yFp yKl) := by
  obtain ⟨c', mc', XC⟩ := rf_xc (dl := dl) (cl := cl) (fCK := fCK) (fED := fED) (fEP := fEP) (fH := fH) (fO := fO) (fHP := fHP) (fNK := fNK) (fRC := fRC) (fAX := fAX) (fAY := fAY) (fRS := fRS) (fLV := fLV) (fLT := fLT) (aCpx := aCpx) (aCpy := aCpy) (aCr := aCr) (aPx := aPx) (aPy := aPy) (aR := aR) (aTj := aTj) (aTs := aTs) (aFl := aFl) (aEl := aEl) (aOt := aOt) (aOk := aOk) H MD mc hl p16 he hd hpN hN eN k17 k18 ek l8 hd' K' A hW W6
  have END : ∀ rC : Int32, ¬ rC = 0 → (¬ W' + kq_n 7 (ty_e ls' es') ≤ 7 → rC = 1) → (W' + kq_n 7 (ty_e ls' es') ≤ 7 → ¬ r.length + 1 < pl → rC = 2) → (W' + kq_n 7 (ty_e ls' es') ≤ 7 → r.length + 1 < pl → ¬ en < 256 → rC = 3) → ¬ (W' + kq_n 7 (ty_e ls' es') ≤ 7 ∧ r.length + 1 < pl ∧ en < 256) → ∃ (rC : Int32) (vC : Nat), (∀ (fTD fTT : Int32) (fAN : Int64) (aFd aFt aFc aFp aFh : Nat → Int32) (aFx aFy aVl : Nat → Int64) (post : Int32 → SX → Prop) (n st : Nat), rn_X aFd aFt aFc aFp aFh aFx aFy aVl (fun c _ _ x => x = cx c) ((d, ls, es, c, pc, cv :: bv :: zs, x, y) :: r) → M + 1 < n → st + (M + 1) < 5400 → (∀ (fTD fTT fDP fEN : Int32) (fAN : Int64) (aFd aFt aFc aFp aFh : Nat → Int32) (aFx aFy aVl : Nat → Int64), (rC = 0 → fAN = lN vC) → post rC (nI dl, nI cl, nI pl, nI nc, nI nd, fCK, fED, fEP, fH, fO, fHP, fNK, fRC, fTD, fTT, fAX, fAY, fRS, fLV, fLT, fDP, fEN, fAN, aSup, aCpx, aCpy, aCr, aIns, aCls, aHd, aCtx, aPx, aPy, aR, aSz, aWd, aTk, aTn, aTt, aTj, aTs, aFl, aEl, aOt, aOk, aKd, aKt, aCal, aFd, aFt, aFc, aFp, aFh, aFx, aFy, aVl)) → wX_execute_79 post n (nI st) (nI dl) (nI cl) (nI pl) (nI nc) (nI nd) fCK fED fEP fH fO fHP fNK fRC fTD fTT fAX fAY fRS fLV fLT (nI (List.length ((d, ls, es, c, pc, cv :: bv :: zs, x, y) :: r))) (nI en) fAN aSup aCpx aCpy aCr aIns aCls aHd aCtx aPx aPy aR aSz aWd aTk aTn aTt aTj aTs aFl aEl aOt aOk aKd aKt aCal aFd aFt aFc aFp aFh aFx aFy aVl) ∧ (∀ (yVl yFx yFy : Nat → Int64) (yFk yFp : Nat → Int32) (post : Int32 → SY → Prop) (n st : Nat), rn_Y yFk yFp yFx yFy yVl ((d, ls, es, c, pc, cv :: bv :: zs, x, y) :: r) → M + 1 < n → st + (M + 1) < 6000 → (∀ (ySp yDp yEn : Int32) (yVl yFx yFy : Nat → Int64) (yFk yFp : Nat → Int32), (rC = 0 → yVl 0 = lN vC) → post rC (nI dl, nI cl, nI pl, nI nc, nI nd, fCK, fED, fEP, yAt, fH, fO, fAX, fAY, fLV, fRS, fLT, ySp, yDp, yEn, fNK, yRk, aSup, aCpx, aCpy, aCr, aPx, aPy, aR, aCtx, aCls, aHd, aSz, yWd, aTk, aTn, aTt, aTs, aFl, aOt, yVl, yFx, yFy, yFk, yFp, yKl)) → wY_evaluate_95 post n (nI st) (nI dl) (nI cl) (nI pl) (nI nc) (nI nd) fCK fED fEP yAt fH fO fAX fAY fLV fRS fLT (nI (rn_b ((d, ls, es, c, pc, cv :: bv :: zs, x, y) :: r))) (nI (List.length ((d, ls, es, c, pc, cv :: bv :: zs, x, y) :: r))) (nI en) fNK yRk aSup aCpx aCpy aCr aPx aPy aR aCtx aCls aHd aSz yWd aTk aTn aTt aTs aFl aOt yVl yFx yFy yFk yFp yKl) := by
    intro rC hr q1 q2 q3 q4
    refine ⟨rC, 0, ?_, ?_⟩
    · intro fTD fTT fAN aFd aFt aFc aFp aFh aFx aFy aVl post n st RX hn hst hp
      obtain ⟨n, rfl⟩ : ∃ m, n = m + 1 := ⟨n - 1, by omega⟩
      obtain ⟨⟨a1, a2, a3, a4, a5, a6, a7, a8, a9⟩, RX2⟩ := RX
      refine sx_cal (by omega) hd hpN hN k17 k18 (by omega) a1 a4 eN ek (XC fTD fTT fAN _ _ _ _ _ _ _ _ _ a5 a3 a2 (fun _ _ _ z => ?_) (fun _ _ _ z1 z2 => ?_) (fun _ _ _ z1 z2 z3 => ?_) (fun z1 z2 z3 => absurd ⟨z1, z2, z3⟩ q4))
      · rw [← q1 z]
        exact br_f hr (hp _ _ _ _ _ _ _ _ _ _ _ _ _ (fun y => absurd y hr))
      · rw [← q2 z1 z2]
        exact br_f hr (hp _ _ _ _ _ _ _ _ _ _ _ _ _ (fun y => absurd y hr))
      · rw [← q3 z1 z2 z3]
        exact br_f hr (hp _ _ _ _ _ _ _ _ _ _ _ _ _ (fun y => absurd y hr))
    · intro yVl yFx yFy yFk yFp post n st RY hn hst hp
      obtain ⟨n, rfl⟩ : ∃ m, n = m + 1 := ⟨n - 1, by omega⟩
      obtain ⟨⟨a1, a2, a3, a4, a5⟩, RY2⟩ := RY
      refine sy_pre (by omega) hd hs hpN hN (by omega) a1 a2 eN ek (sc_Y (b := rn_b r + zs.length) H hd hs (by omega) k17 k18 ek hl p16 he (by omega) a1 hd' K' A hWy W6 (fun z => ?_) (fun z1 z2 => ?_) (fun z1 z2 z3 => ?_) (fun z1 z2 z3 => absurd ⟨z1, z2, z3⟩ q4))
      · rw [← q1 z]
        exact hp _ _ _ _ _ _ _ _ (fun y => absurd y hr)
      · rw [← q2 z1 z2]
        exact hp _ _ _ _ _ _ _ _ (fun y => absurd y hr)
      · rw [← q3 z1 z2 z3]
        exact hp _ _ _ _ _ _ _ _ (fun y => absurd y hr)
  by_cases F : W' + kq_n 7 (ty_e ls' es') ≤ 7
  · by_cases D : r.length + 1 < pl
    · by_cases E : en < 256
      · obtain ⟨q, v, XP, YP⟩ := IH c' mc' F D E
        refine ⟨q, v, ?_, ?_⟩
        · intro fTD fTT fAN aFd aFt aFc aFp aFh aFx aFy aVl post n st RX hn hst hp
          obtain ⟨n, rfl⟩ : ∃ m, n = m + 1 := ⟨n - 1, by omega⟩
          obtain ⟨⟨a1, a2, a3, a4, a5, a6, a7, ⟨a8, a8', a8''⟩, a9⟩, RX2⟩ := RX
          refine sx_cal (by omega) hd hpN hN k17 k18 (by omega) a1 a4 eN ek (XC fTD fTT fAN _ _ _ _ _ _ _ _ _ a5 a3 a2 (fun _ _ _ z => absurd F z) (fun _ _ _ z1 z2 => absurd D z2) (fun _ _ _ z1 z2 z3 => absurd E z3) (fun _ _ _ => br_t rfl (nm_r (nI_1 st) ?_)))
          have b1 : aVl (8 * r.length + zs.length + 1) = lN cv := a8
          rw [a8', b1]
          refine XP _ _ _ _ _ _ _ _ _ _ _ post n (st + 1) ⟨⟨pk_us, pk_us, pk_us, pk_us, pk_us, pk_uLs, pk_uLs, trivial, Nat.zero_le _⟩, ⟨by rw [pk_un (by omega)]; exact a1, by rw [pk_un (by omega)]; exact a2, by rw [pk_un (by omega)]; exact a3, by rw [pk_un (by omega), pk_us], by rw [pk_un (by omega), pk_us], by rw [pk_uLn (by omega)]; exact a6, by rw [pk_uLn (by omega)]; exact a7, a8'', by omega⟩, ?_⟩ (by omega) (by omega) hp
          exact rn_Xc r (fun j hj => ⟨pk_un (by omega), pk_un (by omega), pk_un (by omega), by rw [pk_un (by omega), pk_un (by omega)], by rw [pk_un (by omega), pk_un (by omega)], pk_uLn (by omega), pk_uLn (by omega)⟩) (fun _ _ => rfl) RX2
        · intro yVl yFx yFy yFk yFp post n st RY hn hst hp
          obtain ⟨n, rfl⟩ : ∃ m, n = m + 1 := ⟨n - 1, by omega⟩
          obtain ⟨⟨a1, a2, a3, a4, ⟨a5, a5', a5''⟩⟩, RY2⟩ := RY
          refine sy_pre (by omega) hd hs hpN hN (by omega) a1 a2 eN ek (sc_Y (b := rn_b r + zs.length) H hd hs (by omega) k17 k18 ek hl p16 he (by omega) a1 hd' K' A hWy W6 (fun z => absurd F z) (fun z1 z2 => absurd D z2) (fun z1 z2 z3 => absurd E z3) (fun _ _ _ => ?_))
          have b1 : yVl (rn_b r + zs.length + 1) = lN cv := a5
          rw [a5', b1]
          refine YP _ _ _ _ _ post n (st + 1) ⟨⟨pk_us, pk_us, pk_uLs, pk_uLs, trivial⟩, ⟨by rw [pk_un (by omega)]; exact a1, by rw [pk_un (by omega), pk_us], by rw [pk_uLn (by omega)]; exact a3, by rw [pk_uLn (by omega)]; exact a4, a5''⟩, ?_⟩ (by omega) (by omega) hp
          exact rn_Yc r (fun j hj => ⟨pk_un (by omega), by rw [pk_un (by omega), pk_un (by omega)], pk_uLn (by omega), pk_uLn (by omega)⟩) (fun _ _ => rfl) RY2
      · exact END 3 (by decide) (fun z => absurd F z) (fun _ z => absurd D z) (fun _ _ _ => rfl) (fun z => E z.2.2)
    · exact END 2 (by decide) (fun z => absurd F z) (fun _ _ => rfl) (fun _ z => absurd z D) (fun z => D z.2.1)
  · exact END 1 (by decide) (fun _ => rfl) (fun z => absurd z F) (fun z => absurd z F) (fun z => F z.1)
end
end
section
/-! 34: runs: the whole, by induction on what is left -/
theorem rm_1 {xs : List Nat} (h : 1 ≤ xs.length) : ∃ c zs, xs = c :: zs := by
  cases xs with
  | nil => exact absurd h (by decide)
  | cons c zs => exact ⟨c, zs, rfl⟩
theorem rm_2 {xs : List Nat} (h : 2 ≤ xs.length) : ∃ c b zs, xs = c :: b :: zs := by
  obtain ⟨c, zs, rfl⟩ := rm_1 (xs := xs) (by omega)
  rw [List.length_cons] at h
  obtain ⟨b, zs, rfl⟩ := rm_1 (xs := zs) (by omega)
  exact ⟨c, b, zs, rfl⟩
theorem rm_p (m : Nat) : 256 ^ (1 + (m + 1)) = 256 * 256 ^ (1 + m) := by
  rw [← Nat.add_assoc, Nat.pow_succ, Nat.mul_comm]
theorem rm_m1 {N pc pc' m e M : Nat} (h : (N + 1 - pc) + m + e ≤ M + 1) (h1 : pc' ≤ N) (h2 : pc < pc') : (N + 1 - pc') + m + e ≤ M := by omega
theorem rm_m2 {N N' pc m en M : Nat} (h : (N + 1 - pc) + m + 21 * (256 - en) ≤ M + 1) (h1 : pc < N) (h2 : N' ≤ 20) (h3 : en < 256) : (N' + 1 - 0) + ((N + 1 - (pc + 1)) + m) + 21 * (256 - (en + 1)) ≤ M := by omega
section
variable {dl cl pl nc nd : Nat} {fCK fED fEP fH fO fHP fNK fRC fTD fTT : Int32} {fAX fAY : Int64} {fRS : Int32} {fLV : Int64} {fLT fDP fEN : Int32} {fAN : Int64} {aSup aCpx aCpy aCr aIns aCls aHd aCtx aPx aPy aR aSz aWd aTk aTn aTt aTj aTs aFl aEl aOt aOk aKd aKt aCal aFd aFt aFc aFp aFh : Nat → Int32} {aFx aFy aVl : Nat → Int64} {yAt ySp yDp yEn yRk : Int32} {yWd : Nat → Int32} {yVl yFx yFy : Nat → Int64} {yFk yFp yKl : Nat → Int32} {cx : Nat → Int32} {Mf : Nat → Nat → Nat → Prop}
theorem rn_main (S : (sr nc nd aSup aCpx aCpy aCr aIns aCls aHd aCtx aPx aPy aR aSz aTk aTn)) (C : (ck nc nd aSup aCpx aCpy aCr aIns aCls aHd aCtx aPx aPy aR aSz aWd yWd aTk aTn aTt aTj)) (MD : md_M aSz aWd aTk aIns aTn aTt aKd aKt aCal cx Mf) (p16 : pl ≤ 16) : ∀ (M : Nat) (fs : List rn_F) (en : Nat), rn_m aSz fs + 21 * (256 - en) ≤ M → rn_T nc nd aSup aCpx aCpy aCr aIns aCls aHd aCtx aPx aPy aR aSz aWd yWd aTk aTn aTt aTj fs → rn_K Mf fs → fs.length ≤ pl → en ≤ 256 → ∃ (rC : Int32) (vC : Nat), (∀ (fTD fTT : Int32) (fAN : Int64) (aFd aFt aFc aFp aFh : Nat → Int32) (aFx aFy aVl : Nat → Int64) (post : Int32 → SX → Prop) (n st : Nat), rn_X aFd aFt aFc aFp aFh aFx aFy aVl (fun c _ _ x => x = cx c) fs → M < n → st + M < 5400 → (∀ (fTD fTT fDP fEN : Int32) (fAN : Int64) (aFd aFt aFc aFp aFh : Nat → Int32) (aFx aFy aVl : Nat → Int64), (rC = 0 → fAN = lN vC) → post rC (nI dl, nI cl, nI pl, nI nc, nI nd, fCK, fED, fEP, fH, fO, fHP, fNK, fRC, fTD, fTT, fAX, fAY, fRS, fLV, fLT, fDP, fEN, fAN, aSup, aCpx, aCpy, aCr, aIns, aCls, aHd, aCtx, aPx, aPy, aR, aSz, aWd, aTk, aTn, aTt, aTj, aTs, aFl, aEl, aOt, aOk, aKd, aKt, aCal, aFd, aFt, aFc, aFp, aFh, aFx, aFy, aVl)) → wX_execute_79 post n (nI st) (nI dl) (nI cl) (nI pl) (nI nc) (nI nd) fCK fED fEP fH fO fHP fNK fRC fTD fTT fAX fAY fRS fLV fLT (nI (List.length fs)) (nI en) fAN aSup aCpx aCpy aCr aIns aCls aHd aCtx aPx aPy aR aSz aWd aTk aTn aTt aTj aTs aFl aEl aOt aOk aKd aKt aCal aFd aFt aFc aFp aFh aFx aFy aVl) ∧ (∀ (yVl yFx yFy : Nat → Int64) (yFk yFp : Nat → Int32) (post : Int32 → SY → Prop) (n st : Nat), rn_Y yFk yFp yFx yFy yVl fs → M < n → st + M < 6000 → (∀ (ySp yDp yEn : Int32) (yVl yFx yFy : Nat → Int64) (yFk yFp : Nat → Int32), (rC = 0 → yVl 0 = lN vC) → post rC (nI dl, nI cl, nI pl, nI nc, nI nd, fCK, fED, fEP, yAt, fH, fO, fAX, fAY, fLV, fRS, fLT, ySp, yDp, yEn, fNK, yRk, aSup, aCpx, aCpy, aCr, aPx, aPy, aR, aCtx, aCls, aHd, aSz, yWd, aTk, aTn, aTt, aTs, aFl, aOt, yVl, yFx, yFy, yFk, yFp, yKl)) → wY_evaluate_95 post n (nI st) (nI dl) (nI cl) (nI pl) (nI nc) (nI nd) fCK fED fEP yAt fH fO fAX fAY fLV fRS fLT (nI (rn_b fs)) (nI (List.length fs)) (nI en) fNK yRk aSup aCpx aCpy aCr aPx aPy aR aCtx aCls aHd aSz yWd aTk aTn aTt aTs aFl aOt yVl yFx yFy yFk yFp yKl) := by
  have h12 := S.1.2.1
  intro M
  induction M with
  | zero =>
    intro fs en hm T
    cases fs with
    | nil => exact T.elim
    | cons f r =>
      obtain ⟨d, ls, es, c, pc, xs, x, y⟩ := f
      obtain ⟨⟨W, Ht, Ty, Op, _, hpc, _⟩, _⟩ := T
      have hm' : (mk_v (aSz d) + 1 - pc) + rn_m aSz r + 21 * (256 - en) ≤ 0 := hm
      omega
  | succ M ih =>
    intro fs en hm T K hl he
    cases fs with
    | nil => exact T.elim
    | cons f r =>
      obtain ⟨d, ls, es, c, pc, xs, x, y⟩ := f
      obtain ⟨⟨W, Ht, Ty, Op, ⟨hd, w1, w2, w6, B, kk, hf⟩, hpc, vx, vy, hh, ht, _⟩, TS⟩ := T
      have B0 := B
      obtain ⟨R, JJ, b1, b2, b3, b4, b5⟩ := B
      obtain ⟨N, N20, eN, kinds⟩ := S.2.2.2 d hd
      have mN : mk_v (aSz d) = N := by rw [eN, mk_vn (by omega)]
      rw [mN] at R JJ b1 b2 hpc
      have hm' : (mk_v (aSz d) + 1 - pc) + rn_m aSz r + 21 * (256 - en) ≤ M + 1 := hm
      rw [mN] at hm'
      have hl' : r.length + 1 ≤ pl := hl
      obtain ⟨Kc, Kr⟩ := K
      have s21 := kx_s21 kk
      have rb := rn_bl r _ TS
      have ht8 := (R.2.2.2.1 pc hpc).1
      have hst := (R.2.2.2.1 pc hpc).2
      have hh0 : Ht pc = xs.length := hh
      by_cases eP : pc = N
      · have xl : xs.length = 1 := by rw [eP, b1] at hh0; exact hh0.symm
        obtain ⟨w, t, rfl⟩ := rm_1 (xs := xs) (by omega)
        have tn : t = [] := by
          cases t with
          | nil => rfl
          | cons a b => rw [List.length_cons, List.length_cons] at xl; omega
        subst tn
        have vw : vv (aR d) ls w := by
          have := ht.1
          rw [eP] at this
          rw [← b2]
          exact this
        rw [eP]
        cases r with
        | nil => exact rf_end (by omega) s21 N20 eN
        | cons f2 r2 =>
          obtain ⟨d2, ls2, es2, c2, pc2, xs2, x2, y2⟩ := f2
          obtain ⟨⟨W2, Ht2, Ty2, Op2, F2, hpc2, vx2, vy2, hh2, ht2, q2⟩, TS2⟩ := TS
          have h28 := (F2.2.2.2.2.1.1.2.2.2.1 pc2 hpc2).1
          have hl2 : r2.length + 1 + 1 ≤ pl := hl'
          have hm2 : (N + 1 - pc) + ((mk_v (aSz d2) + 1 - pc2) + rn_m aSz r2) + 21 * (256 - en) ≤ M + 1 := hm'
          refine rf_leave (by omega) (by omega) s21 N20 eN (by omega) (ih _ en ?_ ⟨⟨W2, Ht2, Ty2, Op2, F2, hpc2, vx2, vy2, hh2, ⟨q2 w vw, ht2⟩, trivial⟩, TS2⟩ Kr ?_ he)
          · show (mk_v (aSz d2) + 1 - pc2) + rn_m aSz r2 + 21 * (256 - en) ≤ M
            omega
          · show r2.length + 1 ≤ pl
            omega
      · have hpN : pc < N := by omega
        obtain ⟨k, k18, ek, z0, z1⟩ := kinds pc hpN
        have kk' := kx_k k18 ek
        have JP := JJ pc hpN
        have hkn : ∀ j, j < N → ∃ k, k ≤ 18 ∧ aTk (20 * d + j) = nI k := fun j hj => by
          obtain ⟨k, k18, ek, _⟩ := kinds j hj
          exact ⟨k, k18, ek⟩
        have MK : ∀ (pc' : Nat) (xs' : List Nat), pc' ≤ N → pc < pc' → Ht pc' = xs'.length → rn_t ls (Ty pc') xs' → ∃ (rC : Int32) (vC : Nat), (∀ (fTD fTT : Int32) (fAN : Int64) (aFd aFt aFc aFp aFh : Nat → Int32) (aFx aFy aVl : Nat → Int64) (post : Int32 → SX → Prop) (n st : Nat), rn_X aFd aFt aFc aFp aFh aFx aFy aVl (fun c _ _ x => x = cx c) ((d, ls, es, c, pc', xs', x, y) :: r) → M < n → st + M < 5400 → (∀ (fTD fTT fDP fEN : Int32) (fAN : Int64) (aFd aFt aFc aFp aFh : Nat → Int32) (aFx aFy aVl : Nat → Int64), (rC = 0 → fAN = lN vC) → post rC (nI dl, nI cl, nI pl, nI nc, nI nd, fCK, fED, fEP, fH, fO, fHP, fNK, fRC, fTD, fTT, fAX, fAY, fRS, fLV, fLT, fDP, fEN, fAN, aSup, aCpx, aCpy, aCr, aIns, aCls, aHd, aCtx, aPx, aPy, aR, aSz, aWd, aTk, aTn, aTt, aTj, aTs, aFl, aEl, aOt, aOk, aKd, aKt, aCal, aFd, aFt, aFc, aFp, aFh, aFx, aFy, aVl)) → wX_execute_79 post n (nI st) (nI dl) (nI cl) (nI pl) (nI nc) (nI nd) fCK fED fEP fH fO fHP fNK fRC fTD fTT fAX fAY fRS fLV fLT (nI (List.length ((d, ls, es, c, pc', xs', x, y) :: r))) (nI en) fAN aSup aCpx aCpy aCr aIns aCls aHd aCtx aPx aPy aR aSz aWd aTk aTn aTt aTj aTs aFl aEl aOt aOk aKd aKt aCal aFd aFt aFc aFp aFh aFx aFy aVl) ∧ (∀ (yVl yFx yFy : Nat → Int64) (yFk yFp : Nat → Int32) (post : Int32 → SY → Prop) (n st : Nat), rn_Y yFk yFp yFx yFy yVl ((d, ls, es, c, pc', xs', x, y) :: r) → M < n → st + M < 6000 → (∀ (ySp yDp yEn : Int32) (yVl yFx yFy : Nat → Int64) (yFk yFp : Nat → Int32), (rC = 0 → yVl 0 = lN vC) → post rC (nI dl, nI cl, nI pl, nI nc, nI nd, fCK, fED, fEP, yAt, fH, fO, fAX, fAY, fLV, fRS, fLT, ySp, yDp, yEn, fNK, yRk, aSup, aCpx, aCpy, aCr, aPx, aPy, aR, aCtx, aCls, aHd, aSz, yWd, aTk, aTn, aTt, aTs, aFl, aOt, yVl, yFx, yFy, yFk, yFp, yKl)) → wY_evaluate_95 post n (nI st) (nI dl) (nI cl) (nI pl) (nI nc) (nI nd) fCK fED fEP yAt fH fO fAX fAY fLV fRS fLT (nI (rn_b ((d, ls, es, c, pc', xs', x, y) :: r))) (nI (List.length ((d, ls, es, c, pc', xs', x, y) :: r))) (nI en) fNK yRk aSup aCpx aCpy aCr aPx aPy aR aCtx aCls aHd aSz yWd aTk aTn aTt aTs aFl aOt yVl yFx yFy yFk yFp yKl) := by
          intro pc' xs' h1 h4 h2 h3
          refine ih _ en ?_ ⟨⟨W, Ht, Ty, Op, ⟨hd, w1, w2, w6, B0, kk, hf⟩, by rw [mN]; exact h1, vx, vy, h2, h3, trivial⟩, TS⟩ ⟨Kc, Kr⟩ hl he
          show (mk_v (aSz d) + 1 - pc') + rn_m aSz r + 21 * (256 - en) ≤ M
          rw [mN]
          exact rm_m1 hm' h1 h4
        by_cases k17 : 17 ≤ k
        · obtain ⟨d', ls', es', hd', K', A, h2, hn1, hty, vs1, vs2, vs3⟩ := kt_t S C.1 hd R hpN (by rw [kk']; exact k17) kk hf
          obtain ⟨cv, bv, zs, rfl⟩ := rm_2 (xs := xs) (by omega)
          rw [List.length_cons, List.length_cons] at hh0
          obtain ⟨W', w6', e1, e2, Ht', Ty', Op', B'⟩ := C.2 d' hd'
          obtain ⟨N', N20', eN', _⟩ := S.2.2.2 d' hd'
          have mN' : mk_v (aSz d') = N' := by rw [eN', mk_vn (by omega)]
          have i1 : Ht pc - 1 = zs.length + 1 := by omega
          have i2 : Ht pc - 2 = zs.length := by omega
          rw [i1] at vs2
          rw [i2] at vs1 vs3 hty
          obtain ⟨t1, t2, t3⟩ := ht
          refine rf_call S.1 MD Kc hl' p16 he (by omega) s21 hpN N20 eN k17 k18 ek (by omega) (by omega) hd' K' A e1 e2 w6' ?_
          intro c' mc' F D E
          refine ih _ (en + 1) ?_ ⟨⟨W', Ht', Ty', Op', ⟨hd', e1, e2, w6', B', K', F⟩, Nat.zero_le _, rn_sv vs1 t2, rn_sv vs2 t1, B'.1.1, trivial, trivial⟩, ⟨W, Ht, Ty, Op, ⟨hd, w1, w2, w6, B0, kk, hf⟩, by rw [mN]; exact hpN, vx, vy, ?_, rn_tc zs (fun j hj => hty j hj) t3, fun v hv => rn_vs vs3 hv⟩, TS⟩ ⟨mc', Kc, Kr⟩ ?_ (by omega)
          · show (mk_v (aSz d') + 1 - 0) + ((mk_v (aSz d) + 1 - (pc + 1)) + rn_m aSz r) + 21 * (256 - (en + 1)) ≤ M
            rw [mN, mN']
            exact rm_m2 hm' hpN N20' E
          · omega
          · show r.length + 1 + 1 ≤ pl
            omega
        · have WQ := R.2.2.1 pc hpN
          obtain ⟨WQ1, WQ2, WQ3, WQ4⟩ := WQ
          rw [kk'] at WQ1 WQ2 WQ3 WQ4
          obtain ⟨JP1, JP2⟩ := JP
          rw [kk'] at JP1 JP2
          by_cases k14 : k = 14
          · subst k14
            obtain ⟨q1, q2, q3, _⟩ := WQ2 rfl
            obtain ⟨J, j1, j2, j3, j4, j5⟩ := JP1 rfl
            clear WQ1 WQ2 WQ3 WQ4 JP1 JP2
            obtain ⟨c0, zs, rfl⟩ := rm_1 (xs := xs) (by omega)
            have e1 : zs.length = Ht (pc + 1) := by rw [List.length_cons] at hh0; omega
            obtain ⟨t1, t2⟩ := ht
            have c256 : c0 < 256 := by
              rw [e1, q2] at t1
              obtain ⟨m, g, hv⟩ := t1
              have e : m = 0 := vt_u g ⟨[], 2, by omega, by omega, by decide, rfl, rfl⟩
              subst e
              exact hv
            rw [List.length_cons] at hh0
            have PT : ∀ (ySp yDp yEn : Int32) (yVl yFx yFy : Nat → Int64) (yFk yFp : Nat → Int32) (ps : Int32 → Prop), ps (nI J) → wpY_partner ps (nI dl, nI cl, nI pl, nI nc, nI nd, fCK, fED, fEP, yAt, fH, fO, fAX, fAY, fLV, fRS, fLT, ySp, yDp, yEn, fNK, yRk, aSup, aCpx, aCpy, aCr, aPx, aPy, aR, aCtx, aCls, aHd, aSz, yWd, aTk, aTn, aTt, aTs, aFl, aOt, yVl, yFx, yFy, yFk, yFp, yKl) (nI d) (nI pc) 15 := fun ySp yDp yEn yVl yFx yFy yFk yFp ps hp => sy_pt (z := 15) (by omega) N20 eN hkn R j1 (by omega) j5 hp
            by_cases z : c0 = 0
            · exact rf_if (pc' := J + 1) (by omega) (by omega) s21 hpN N20 eN ek j2 (by omega) (by rw [List.length_cons]; omega) (by rw [List.length_cons]; omega) (fun _ => rfl) (fun y => absurd z y) PT (MK (J + 1) zs (by omega) (by have := j5.1; omega) (by omega) (rn_tc zs (fun j hj => j4 j (by omega)) t2))
            · exact rf_if (pc' := pc + 1) (by omega) (by omega) s21 hpN N20 eN ek j2 (by omega) (by rw [List.length_cons]; omega) (by rw [List.length_cons]; omega) (fun y => absurd y z) (fun _ => rfl) PT (MK (pc + 1) zs (by omega) (by omega) (by omega) (rn_tc zs (fun j hj => q3 j (by omega)) t2))
          · by_cases k15 : k = 15
            · subst k15
              obtain ⟨J, j1, j2, j3, j4, j5⟩ := JP2 rfl
              clear WQ1 WQ2 WQ3 WQ4 JP1 JP2
              have PT : ∀ (ySp yDp yEn : Int32) (yVl yFx yFy : Nat → Int64) (yFk yFp : Nat → Int32) (ps : Int32 → Prop), ps (nI J) → wpY_partner ps (nI dl, nI cl, nI pl, nI nc, nI nd, fCK, fED, fEP, yAt, fH, fO, fAX, fAY, fLV, fRS, fLT, ySp, yDp, yEn, fNK, yRk, aSup, aCpx, aCpy, aCr, aPx, aPy, aR, aCtx, aCls, aHd, aSz, yWd, aTk, aTn, aTt, aTs, aFl, aOt, yVl, yFx, yFy, yFk, yFp, yKl) (nI d) (nI pc) 16 := fun ySp yDp yEn yVl yFx yFy yFk yFp ps hp => sy_pt (z := 16) (by omega) N20 eN hkn R j1 (by omega) j5 hp
              exact rf_else (by omega) (by omega) s21 hpN N20 eN ek j2 PT (MK (J + 1) xs (by omega) (by have := j5.1; omega) (by omega) (rn_tc xs (fun j hj => j4 j (by omega)) ht))
            · by_cases k16 : k = 16
              · obtain ⟨q1, q2, _⟩ := WQ4 k16
                clear WQ1 WQ2 WQ3 WQ4 JP1 JP2
                exact rf_put (xs' := xs) (by omega) (by omega) s21 hpN N20 eN (by omega) k14 k15 ek (by omega) (fun fTD fTT fAN aFd aFt aFc aFp aFh aFx aFy aVl e1 e2 e3 e4 => xs_none (by omega) (by omega) ek (by omega) e1 e2) (fun yVl yFx yFy yFk yFp e1 e2 e3 => ys_none (by omega) e1) (MK (pc + 1) xs (by omega) (by omega) (by omega) (rn_tc xs (fun j hj => q2 j (by omega)) ht))
              · obtain ⟨p, t, p1, p2, K1, p3, p4, _⟩ := WQ1 k14 k15 k16
                clear WQ1 WQ2 WQ3 WQ4 JP1 JP2
                rcases K1 with ⟨rfl, rfl, rfl⟩ | ⟨rfl, rfl, rfl⟩ | ⟨rfl, rfl, rfl⟩ | ⟨rfl, rfl, rfl⟩ | ⟨q4, q6, rfl, _, _, rfl⟩ | ⟨q4, q6, rfl, _, _, rfl⟩ | ⟨rfl, rfl, l, e, x1, x3, xl, ea, rfl⟩ | ⟨rfl, rfl, l, e, x1, x3, xl, ea, rfl⟩ | ⟨rfl, rfl, eb, l, e, x1, x3, xl, ea, rfl⟩ | ⟨rfl, rfl, rfl, l, e, x1, x3, xl, ea⟩ | ⟨rfl, rfl, l, e, x1, x3, xl, ea, rfl⟩ | ⟨q, _⟩ | ⟨q, _⟩
                · obtain ⟨n0, n1, n2⟩ := z0 rfl
                  rw [Nat.sub_zero] at p3 p4
                  exact rf_put (xs' := n0 :: xs) (by omega) (by omega) s21 hpN N20 eN (by omega) k14 k15 ek (by rw [List.length_cons]; have := (R.2.2.2.1 (pc + 1) hpN).1; omega) (fun fTD fTT fAN aFd aFt aFc aFp aFh aFx aFy aVl e1 e2 e3 e4 => xs_leaf (by omega) (by omega) ek (by omega) (by have := (R.2.2.2.1 (pc + 1) hpN).1; omega) e1 e2 (by unfold sx_lv; rw [if_neg (by decide), if_neg (by decide), n2, nI_l (by omega)])) (fun yVl yFx yFy yFk yFp e1 e2 e3 => ys_leaf (by omega) (by omega) (by have := (R.2.2.2.1 (pc + 1) hpN).1; omega) e1 (by unfold sx_lv; rw [if_neg (by decide), if_neg (by decide), n2, nI_l (by omega)])) (MK (pc + 1) (n0 :: xs) (by omega) (by omega) (by rw [List.length_cons]; omega) ⟨by rw [← hh0, p3]; exact rn_1 n1, rn_tc xs (fun j hj => p4 j (by omega)) ht⟩)
                · obtain ⟨n0, n1, n2⟩ := z1 rfl
                  rw [Nat.sub_zero] at p3 p4
                  exact rf_put (xs' := n0 :: xs) (by omega) (by omega) s21 hpN N20 eN (by omega) k14 k15 ek (by rw [List.length_cons]; have := (R.2.2.2.1 (pc + 1) hpN).1; omega) (fun fTD fTT fAN aFd aFt aFc aFp aFh aFx aFy aVl e1 e2 e3 e4 => xs_leaf (by omega) (by omega) ek (by omega) (by have := (R.2.2.2.1 (pc + 1) hpN).1; omega) e1 e2 (by unfold sx_lv; rw [if_neg (by decide), if_neg (by decide), n2, nI_l (by omega)])) (fun yVl yFx yFy yFk yFp e1 e2 e3 => ys_leaf (by omega) (by omega) (by have := (R.2.2.2.1 (pc + 1) hpN).1; omega) e1 (by unfold sx_lv; rw [if_neg (by decide), if_neg (by decide), n2, nI_l (by omega)])) (MK (pc + 1) (n0 :: xs) (by omega) (by omega) (by rw [List.length_cons]; omega) ⟨by rw [← hh0, p3]; exact rn_2 (by omega), rn_tc xs (fun j hj => p4 j (by omega)) ht⟩)
                · rw [Nat.sub_zero] at p3 p4
                  exact rf_put (xs' := x :: xs) (by omega) (by omega) s21 hpN N20 eN (by omega) k14 k15 ek (by rw [List.length_cons]; have := (R.2.2.2.1 (pc + 1) hpN).1; omega) (fun fTD fTT fAN aFd aFt aFc aFp aFh aFx aFy aVl e1 e2 e3 e4 => xs_leaf (by omega) (by omega) ek (by omega) (by have := (R.2.2.2.1 (pc + 1) hpN).1; omega) e1 e2 e3) (fun yVl yFx yFy yFk yFp e1 e2 e3 => ys_leaf (by omega) (by omega) (by have := (R.2.2.2.1 (pc + 1) hpN).1; omega) e1 e2) (MK (pc + 1) (x :: xs) (by omega) (by omega) (by rw [List.length_cons]; omega) ⟨by rw [← hh0, p3]; exact vx, rn_tc xs (fun j hj => p4 j (by omega)) ht⟩)
                · rw [Nat.sub_zero] at p3 p4
                  exact rf_put (xs' := y :: xs) (by omega) (by omega) s21 hpN N20 eN (by omega) k14 k15 ek (by rw [List.length_cons]; have := (R.2.2.2.1 (pc + 1) hpN).1; omega) (fun fTD fTT fAN aFd aFt aFc aFp aFh aFx aFy aVl e1 e2 e3 e4 => xs_leaf (by omega) (by omega) ek (by omega) (by have := (R.2.2.2.1 (pc + 1) hpN).1; omega) e1 e2 e4) (fun yVl yFx yFy yFk yFp e1 e2 e3 => ys_leaf (by omega) (by omega) (by have := (R.2.2.2.1 (pc + 1) hpN).1; omega) e1 e3) (MK (pc + 1) (y :: xs) (by omega) (by omega) (by rw [List.length_cons]; omega) ⟨by rw [← hh0, p3]; exact vy, rn_tc xs (fun j hj => p4 j (by omega)) ht⟩)
                · obtain ⟨cv, bv, zs, rfl⟩ := rm_2 (xs := xs) (by omega)
                  rw [List.length_cons, List.length_cons] at hh0
                  obtain ⟨t1, t2, t3⟩ := ht
                  obtain ⟨v, v256, ev⟩ := sl_ar (k := k) (lN bv) (lN cv)
                  have i2 : Ht pc - 2 = zs.length := by omega
                  rw [i2] at p3 p4
                  exact rf_put (xs' := v :: zs) (by omega) (by omega) s21 hpN N20 eN (by omega) k14 k15 ek (by rw [List.length_cons]; omega) (fun fTD fTT fAN aFd aFt aFc aFp aFh aFx aFy aVl e1 e2 e3 e4 => xs_ar (by omega) (by omega) ek (by omega) (by omega) (by rw [List.length_cons, List.length_cons]; omega) e1 e2 ev) (fun yVl yFx yFy yFk yFp e1 e2 e3 => ys_ar (Or.inl ⟨by omega, by omega⟩) (by rw [List.length_cons, List.length_cons]; omega) e1 (by rw [if_neg (by omega)]; exact ev)) (MK (pc + 1) (v :: zs) (by omega) (by omega) (by rw [List.length_cons]; omega) ⟨by rw [p3]; exact rn_1 v256, rn_tc zs (fun j hj => p4 j hj) t3⟩)
                · obtain ⟨cv, bv, zs, rfl⟩ := rm_2 (xs := xs) (by omega)
                  rw [List.length_cons, List.length_cons] at hh0
                  obtain ⟨t1, t2, t3⟩ := ht
                  obtain ⟨v, v256, ev⟩ := sl_ar (k := k) (lN bv) (lN cv)
                  have i2 : Ht pc - 2 = zs.length := by omega
                  rw [i2] at p3 p4
                  exact rf_put (xs' := v :: zs) (by omega) (by omega) s21 hpN N20 eN (by omega) k14 k15 ek (by rw [List.length_cons]; omega) (fun fTD fTT fAN aFd aFt aFc aFp aFh aFx aFy aVl e1 e2 e3 e4 => xs_ar (by omega) (by omega) ek (by omega) (by omega) (by rw [List.length_cons, List.length_cons]; omega) e1 e2 ev) (fun yVl yFx yFy yFk yFp e1 e2 e3 => ys_ar (Or.inl ⟨by omega, by omega⟩) (by rw [List.length_cons, List.length_cons]; omega) e1 (by rw [if_neg (by omega)]; exact ev)) (MK (pc + 1) (v :: zs) (by omega) (by omega) (by rw [List.length_cons]; omega) ⟨by rw [p3]; exact rn_2 v256, rn_tc zs (fun j hj => p4 j hj) t3⟩)
                · obtain ⟨c0, zs, rfl⟩ := rm_1 (xs := xs) (by omega)
                  rw [List.length_cons] at hh0
                  obtain ⟨t1, t2⟩ := ht
                  have i1 : Ht pc - 1 = zs.length := by omega
                  rw [i1] at p3 p4 ea
                  rw [ea] at t1
                  have hv := rn_e x1 x3 (by omega) t1
                  exact rf_put (xs' := c0 :: zs) (by omega) (by omega) s21 hpN N20 eN (by omega) k14 k15 ek (by rw [List.length_cons]; omega) (fun fTD fTT fAN aFd aFt aFc aFp aFh aFx aFy aVl e1 e2 e3 e4 => xs_none (by omega) (by omega) ek (by omega) e1 e2) (fun yVl yFx yFy yFk yFp e1 e2 e3 => ys_none (by omega) e1) (MK (pc + 1) (c0 :: zs) (by omega) (by omega) (by rw [List.length_cons]; omega) ⟨by rw [p3]; exact rn_i x1 x3 (by rw [tx_ln]; omega) (by rw [ty_gf]; exact hv), rn_tc zs (fun j hj => p4 j hj) t2⟩)
                · obtain ⟨c0, zs, rfl⟩ := rm_1 (xs := xs) (by omega)
                  rw [List.length_cons] at hh0
                  obtain ⟨t1, t2⟩ := ht
                  have i1 : Ht pc - 1 = zs.length := by omega
                  rw [i1] at p3 p4 ea
                  rw [ea] at t1
                  have hv := rn_e (l := false :: l) x1 x3 (by rw [tx_ln]; omega) t1
                  rw [ty_gf] at hv
                  exact rf_put (xs' := c0 :: zs) (by omega) (by omega) s21 hpN N20 eN (by omega) k14 k15 ek (by rw [List.length_cons]; omega) (fun fTD fTT fAN aFd aFt aFc aFp aFh aFx aFy aVl e1 e2 e3 e4 => xs_none (by omega) (by omega) ek (by omega) e1 e2) (fun yVl yFx yFy yFk yFp e1 e2 e3 => ys_none (by omega) e1) (MK (pc + 1) (c0 :: zs) (by omega) (by omega) (by rw [List.length_cons]; omega) ⟨by rw [p3]; exact rn_i x1 x3 (by omega) hv, rn_tc zs (fun j hj => p4 j hj) t2⟩)
                · obtain ⟨cv, bv, zs, rfl⟩ := rm_2 (xs := xs) (by omega)
                  rw [List.length_cons, List.length_cons] at hh0
                  obtain ⟨t1, t2, t3⟩ := ht
                  have i1 : Ht pc - 1 = zs.length + 1 := by omega
                  have i2 : Ht pc - 2 = zs.length := by omega
                  rw [i2] at p3 p4 eb
                  rw [i1] at ea
                  rw [List.length_cons, ea] at t1
                  rw [eb] at t2
                  have hb := rn_1' t2
                  have hv := rn_e x1 x3 (by omega) t1
                  exact rf_put (xs' := (bv + 256 * cv) :: zs) (by omega) (by omega) s21 hpN N20 eN (by omega) k14 k15 ek (by rw [List.length_cons]; omega) (fun fTD fTT fAN aFd aFt aFc aFp aFh aFx aFy aVl e1 e2 e3 e4 => xs_tag (by omega) (by omega) ek (by rw [List.length_cons, List.length_cons]; omega) e1 e2) (fun yVl yFx yFy yFk yFp e1 e2 e3 => ys_ar (Or.inr rfl) (by rw [List.length_cons, List.length_cons]; omega) e1 (by rw [if_pos rfl]; exact sl_t bv cv)) (MK (pc + 1) ((bv + 256 * cv) :: zs) (by omega) (by omega) (by rw [List.length_cons]; omega) ⟨by rw [p3]; exact rn_i x1 x3 (by rw [tx_ln]; omega) (by rw [ty_gt, Nat.add_right_comm, rm_p]; omega), rn_tc zs (fun j hj => p4 j hj) t3⟩)
                · obtain ⟨c0, zs, rfl⟩ := rm_1 (xs := xs) (by omega)
                  rw [List.length_cons] at hh0
                  obtain ⟨t1, t2⟩ := ht
                  have i1 : Ht pc - 1 = zs.length := by omega
                  have bd := sl_bd (hst zs.length (by omega)) kk hf t1
                  rw [i1] at p3 p4
                  exact rf_put (xs' := (if 12 = 12 then c0 % 256 else c0 / 256) :: zs) (by omega) (by omega) s21 hpN N20 eN (by omega) k14 k15 ek (by rw [List.length_cons]; omega) (fun fTD fTT fAN aFd aFt aFc aFp aFh aFx aFy aVl e1 e2 e3 e4 => xs_un (by omega) (by omega) ek (by omega) bd (by rw [List.length_cons]; omega) e1 e2) (fun yVl yFx yFy yFk yFp e1 e2 e3 => ys_un (by omega) bd (by rw [List.length_cons]; omega) e1) (MK (pc + 1) ((if 12 = 12 then c0 % 256 else c0 / 256) :: zs) (by omega) (by omega) (by rw [List.length_cons]; omega) ⟨by rw [p3, if_pos rfl]; exact rn_1 (Nat.mod_lt _ (by decide)), rn_tc zs (fun j hj => p4 j hj) t2⟩)
                · obtain ⟨c0, zs, rfl⟩ := rm_1 (xs := xs) (by omega)
                  rw [List.length_cons] at hh0
                  obtain ⟨t1, t2⟩ := ht
                  have i1 : Ht pc - 1 = zs.length := by omega
                  have bd := sl_bd (hst zs.length (by omega)) kk hf t1
                  rw [i1] at p3 p4 ea
                  rw [ea] at t1
                  have hv := rn_e (l := true :: l) x1 x3 (by rw [tx_ln]; omega) t1
                  rw [ty_gt, Nat.add_right_comm, rm_p] at hv
                  exact rf_put (xs' := (if 13 = 12 then c0 % 256 else c0 / 256) :: zs) (by omega) (by omega) s21 hpN N20 eN (by omega) k14 k15 ek (by rw [List.length_cons]; omega) (fun fTD fTT fAN aFd aFt aFc aFp aFh aFx aFy aVl e1 e2 e3 e4 => xs_un (by omega) (by omega) ek (by omega) bd (by rw [List.length_cons]; omega) e1 e2) (fun yVl yFx yFy yFk yFp e1 e2 e3 => ys_un (by omega) bd (by rw [List.length_cons]; omega) e1) (MK (pc + 1) ((if 13 = 12 then c0 % 256 else c0 / 256) :: zs) (by omega) (by omega) (by rw [List.length_cons]; omega) ⟨by rw [p3, if_neg (by decide)]; exact rn_i x1 x3 (by omega) (Nat.div_lt_of_lt_mul hv), rn_tc zs (fun j hj => p4 j hj) t2⟩)
                · omega
                · omega
end
end
section
/-! 35: runs: arguments, the start, the end -/
def fa_b (l : List Bool) (e : Nat) : Nat := 8 * ty_g l + (if e = 1 then 8 else 1)
def fa_r (v : Int64) (B : Nat) : Int64 := v &&& (((1 : Int64) <<< ((nI B).toInt64 &&& 63)) - 1)
theorem fa_v (v : Int64) {B : Nat} (hB : B ≤ 56) : ∃ w, w < 2 ^ B ∧ fa_r v B = lN w := by
  obtain ⟨n, hn, rfl⟩ := wb_of v
  have h1 : (1 : Int64) <<< ((nI B).toInt64 &&& 63) = lN (1 * 2 ^ B) := wb_shl 1 (by omega)
  have h2 : lN (1 * 2 ^ B) - 1 = lN (2 ^ B - 1) := by
    rw [Nat.one_mul]
    exact lN_sub (b := 1) (Nat.two_pow_pos B)
  refine ⟨n % 2 ^ B, Nat.mod_lt _ (Nat.two_pow_pos B), ?_⟩
  unfold fa_r
  rw [h1, h2, wb_mask hn (by omega)]
theorem fa_w {l : List Bool} {e w : Nat} (hl : l.length ≤ 6) (h : w < 2 ^ fa_b l e) : w < 256 ^ (1 + ty_g l) := by
  have h1 : 2 ^ fa_b l e ≤ 2 ^ (8 * (1 + ty_g l)) := Nat.pow_le_pow_right (by decide) (by unfold fa_b; split <;> omega)
  have h2 : 2 ^ (8 * (1 + ty_g l)) = 256 ^ (1 + ty_g l) := by rw [Nat.pow_mul]
  omega
theorem fa_56 {l : List Bool} {e : Nat} (hl : l.length ≤ 6) : fa_b l e ≤ 56 := by
  have := ty_gl l
  unfold fa_b
  split <;> omega
section
variable {fDL fCL fPL fNC fND fCK fED fEP fH fO fHP fNK fRC fTD fTT : Int32} {fAX fAY : Int64} {fRS : Int32} {fLV : Int64} {fLT fDP fEN : Int32} {fAN : Int64} {aSup aCpx aCpy aCr aIns aCls aHd aCtx aPx aPy aR aSz aWd aTk aTn aTt aTj aTs aFl aEl aOt aOk aKd aKt aCal aFd aFt aFc aFp aFh : Nat → Int32} {aFx aFy aVl : Nat → Int64} {yAt ySp yDp yEn yRk : Int32} {yWd : Nat → Int32} {yVl yFx yFy : Nat → Int64} {yFk yFp yKl : Nat → Int32} {post : Int64 → Prop} {v : Int64} {e : Nat}
theorem fa_x0 (h1 : 1 ≤ e) (h2 : e ≤ 2) {A : Nat} (hp : post (fa_r v (A + (if e = 1 then 8 else 1)))) : ∀ (m i n : Nat), i + m = 7 → m < n → wX_fitArgument_9 post v fDL fCL fPL fNC fND fCK fED fEP fH fO fHP fNK fRC fTD fTT fAX fAY fRS fLV fLT fDP fEN fAN aSup aCpx aCpy aCr aIns aCls aHd aCtx aPx aPy aR aSz aWd aTk aTn aTt aTj aTs aFl aEl aOt aOk aKd aKt aCal aFd aFt aFc aFp aFh aFx aFy aVl n (nI A) (nI e) (nI i) := by
  intro m
  induction m with
  | zero =>
    intro i n hi hn
    obtain ⟨k, rfl⟩ : ∃ k, n = k + 1 := ⟨n - 1, by omega⟩
    refine br_t (nI_le (a := 7) (by omega) (by omega)) ?_
    by_cases z : e = 1
    · subst z
      exact br_t rfl (nm_r (nI_add A 8) hp)
    · rw [if_neg z] at hp
      exact br_f (fun y => z ((nI_eq (b := 1) (by omega) (by omega)).mp y)) (nm_r (nI_add A 1) hp)
  | succ m ih =>
    intro i n hi hn
    obtain ⟨k, rfl⟩ : ∃ k, n = k + 1 := ⟨n - 1, by omega⟩
    exact br_f (nI_ge (b := 7) (by omega) (by decide)) (br_t (nI_lt (b := 8) (by omega) (by decide)) (nm_r (nI_1 i) (ih (i + 1) k (by omega) (by omega))))
theorem fa_x1 (h1 : 1 ≤ e) (h2 : e ≤ 2) : ∀ (l : List Bool) (A i n : Nat), l.length + i ≤ 6 → 7 - i < n → post (fa_r v (A + 8 * ty_g l + (if e = 1 then 8 else 1))) → wX_fitArgument_9 post v fDL fCL fPL fNC fND fCK fED fEP fH fO fHP fNK fRC fTD fTT fAX fAY fRS fLV fLT fDP fEN fAN aSup aCpx aCpy aCr aIns aCls aHd aCtx aPx aPy aR aSz aWd aTk aTn aTt aTj aTs aFl aEl aOt aOk aKd aKt aCal aFd aFt aFc aFp aFh aFx aFy aVl n (nI A) (nI (ty_e l e)) (nI i) := by
  intro l
  induction l with
  | nil =>
    intro A i n hi hn hp
    exact fa_x0 h1 h2 hp (7 - i) i n (by omega) (by omega)
  | cons b l ih =>
    intro A i n hi hn hp
    rw [tx_ln] at hi
    obtain ⟨k, rfl⟩ : ∃ k, n = k + 1 := ⟨n - 1, by omega⟩
    have hb : ty_e (b :: l) e < 2 ^ 31 := by
      have := ty_e21 (l := b :: l) (e := e) (by rw [tx_ln]; omega) (by omega)
      omega
    have h8 : 8 ≤ ty_e (b :: l) e := by
      rw [ty_ec]
      have := ty_c1 (l := l) h1
      omega
    refine br_f (nI_ge (b := 7) (by omega) (by decide)) (br_f (nI_nlt (b := 8) h8 hb) ⟨ty_8, ?_⟩)
    rw [ty_cr hb]
    cases b
    · rw [ty_gf] at hp
      exact br_f (by decide) ⟨ty_8, nm_r (ty_cd hb) (nm_r (nI_1 i) (ih A (i + 1) k (by omega) (by omega) hp))⟩
    · rw [ty_gt, show A + 8 * (ty_g l + 1) = A + 8 + 8 * ty_g l by omega] at hp
      exact br_t rfl (nm_r (nI_add A 8) ⟨ty_8, nm_r (ty_cd hb) (nm_r (nI_1 i) (ih (A + 8) (i + 1) k (by omega) (by omega) hp))⟩)
theorem fa_y1 (h1 : 1 ≤ e) (h2 : e ≤ 2) : ∀ (l : List Bool) (A i n : Nat), l.length + i ≤ 6 → l.length < n → post (fa_r v (A + 8 * ty_g l + (if e = 1 then 8 else 1))) → wY_fitted_9 post v fDL fCL fPL fNC fND fCK fED fEP yAt fH fO fAX fAY fLV fRS fLT ySp yDp yEn fNK yRk aSup aCpx aCpy aCr aPx aPy aR aCtx aCls aHd aSz yWd aTk aTn aTt aTs aFl aOt yVl yFx yFy yFk yFp yKl n (nI A) (nI (ty_e l e)) (nI i) := by
  intro l
  induction l with
  | nil =>
    intro A i n hi hn hp
    rw [List.length_nil] at hi
    obtain ⟨k, rfl⟩ : ∃ k, n = k + 1 := ⟨n - 1, by omega⟩
    refine br_f (nI_ge (b := 7) (by omega) (by decide)) (br_t (nI_le (b := 3) (by rw [ty_en]; omega) (by decide)) ?_)
    have hp' : post (fa_r v (A + (if e = 1 then 8 else 1))) := hp
    by_cases z : e = 1
    · subst z
      exact br_t rfl (nm_r (nI_add A 8) hp')
    · rw [if_neg z] at hp'
      exact br_f (fun y => z ((nI_eq (b := 1) (by omega) (by omega)).mp y)) (nm_r (nI_add A 1) hp')
  | cons b l ih =>
    intro A i n hi hn hp
    rw [tx_ln] at hi hn
    obtain ⟨k, rfl⟩ : ∃ k, n = k + 1 := ⟨n - 1, by omega⟩
    have hb : ty_e (b :: l) e < 2 ^ 31 := by
      have := ty_e21 (l := b :: l) (e := e) (by rw [tx_ln]; omega) (by omega)
      omega
    have c4 := ty_c4 b l e
    refine br_f (nI_ge (b := 7) (by omega) (by decide)) (br_f (nI_ge (a := 3) (by omega) hb) ⟨ty_8, ?_⟩)
    rw [ty_cr hb]
    cases b
    · rw [ty_gf] at hp
      exact br_f (by decide) ⟨ty_8, nm_r (ty_cd hb) (nm_r (nI_1 i) (ih A (i + 1) k (by omega) (by omega) hp))⟩
    · rw [ty_gt, show A + 8 * (ty_g l + 1) = A + 8 + 8 * ty_g l by omega] at hp
      exact br_t rfl (nm_r (nI_add A 8) ⟨ty_8, nm_r (ty_cd hb) (nm_r (nI_1 i) (ih (A + 8) (i + 1) k (by omega) (by omega) hp))⟩)
end
theorem fa_m (v : Int64) {l : List Bool} {e : Nat} (h1 : 1 ≤ e) (h2 : e ≤ 2) (hl : l.length ≤ 6) : ∃ w, w < 256 ^ (1 + ty_g l) ∧ (∀ (u : SX) (post : Int64 → Prop), post (lN w) → wpX_fitArgument post u v (nI (ty_e l e))) ∧ (∀ (u : SY) (post : Int64 → Prop), post (lN w) → wpY_fitted post u v (nI (ty_e l e))) := by
  obtain ⟨w, w1, w2⟩ := fa_v v (fa_56 (e := e) hl)
  have e0 : ∀ x, 0 + 8 * ty_g l + x = 8 * ty_g l + x := fun x => by omega
  refine ⟨w, fa_w hl w1, fun u post hp => ?_, fun u post hp => ?_⟩
  · rw [← w2] at hp
    refine tx_i (P := fun u => wpX_fitArgument post u v (nI (ty_e l e))) (fun fDL fCL fPL fNC fND fCK fED fEP fH fO fHP fNK fRC fTD fTT fAX fAY fRS fLV fLT fDP fEN fAN aSup aCpx aCpy aCr aIns aCls aHd aCtx aPx aPy aR aSz aWd aTk aTn aTt aTj aTs aFl aEl aOt aOk aKd aKt aCal aFd aFt aFc aFp aFh aFx aFy aVl => Exists.intro 8 (fa_x1 h1 h2 l 0 0 8 (by omega) (by omega) ?_)) u
    rw [e0]
    exact hp
  · rw [← w2] at hp
    refine tx_j (P := fun u => wpY_fitted post u v (nI (ty_e l e))) (fun fDL fCL fPL fNC fND fCK fED fEP yAt fH fO fAX fAY fLV fRS fLT ySp yDp yEn fNK yRk aSup aCpx aCpy aCr aPx aPy aR aCtx aCls aHd aSz yWd aTk aTn aTt aTs aFl aOt yVl yFx yFy yFk yFp yKl => Exists.intro 8 (fa_y1 h1 h2 l 0 0 8 (by omega) (by omega) ?_)) u
    rw [e0]
    exact hp
/-- a parameter's type under the root's argument, and the argument fitted to it -/
theorem fa_p {aHd : Nat → Int32} {d W : Nat} {t : Int32} {ls : List Bool} {es : Nat} (v : Int64) (ht : wt_t aHd d W t) (s1 : 1 ≤ es) (s2 : es ≤ 2) (sl : ls.length ≤ 6) (hf : W + (ls.length + 1) ≤ 7) : ∃ w, vv t ls w ∧ (∀ (u u' : SX) (post : Int64 → Prop), post (lN w) → wpX_subst (fun r => wpX_fitArgument post u' v r) u t (nI (ty_e ls es))) ∧ (∀ (u u' : SY) (post : Int64 → Prop), post (lN w) → wpY_subst (fun r => wpY_fitted post u' v r) u t (nI (ty_e ls es))) ∧ ∃ x : Int32, (∀ (u : SX) (post : Int32 → Prop), post x → wpX_subst post u t (nI (ty_e ls es))) ∧ (∀ (u : SY) (post : Int32 → Prop), post x → wpY_subst post u t (nI (ty_e ls es))) ∧ (∀ (u : SX) (post : Int64 → Prop), post (lN w) → wpX_fitArgument post u v x) ∧ (∀ (u : SY) (post : Int64 → Prop), post (lN w) → wpY_fitted post u v x) := by
  obtain ⟨l, e, t1, t3, tl, tc, rfl⟩ := ht
  have G : ∃ (l' : List Bool) (e' : Nat), 1 ≤ e' ∧ e' ≤ 2 ∧ l'.length ≤ 6 ∧ ty_e l (ty_s e (ty_e ls es)) = ty_e l' e' ∧ ty_g l' = ty_g l + (if e = 3 then ty_g ls else 0) ∧ (e = 3 → ty_e l (ty_e ls es) < 2 ^ 31) := by
    by_cases z : e = 3
    · subst z
      have := (tc rfl).1
      have q := ty_e21 (l := l ++ ls) (e := es) (by rw [List.length_append]; omega) (by omega)
      rw [ty_ea] at q
      exact ⟨l ++ ls, es, s1, s2, by rw [List.length_append]; omega, by rw [ty_s3, ty_ea], by rw [ty_ga, if_pos rfl], fun _ => by omega⟩
    · exact ⟨l, e, t1, by omega, tl, by rw [ty_sn z], by rw [if_neg z, Nat.add_zero], fun y => absurd y z⟩
  obtain ⟨l', e', g1, g2, g3, g4, g5, g6⟩ := G
  obtain ⟨w, w1, X, Y⟩ := fa_m v g1 g2 g3
  rw [g5] at w1
  have SX1 : ∀ (u : SX) (post : Int32 → Prop), post (nI (ty_e l' e')) → wpX_subst post u (nI (ty_e l e)) (nI (ty_e ls es)) := fun u post hp => tx_sub u t1 t3 tl g6 (by rw [g4]; exact hp)
  have SY1 : ∀ (u : SY) (post : Int32 → Prop), post (nI (ty_e l' e')) → wpY_subst post u (nI (ty_e l e)) (nI (ty_e ls es)) := fun u post hp => tx_sby u t1 t3 tl (by rw [g4]; exact hp)
  exact ⟨w, rn_i t1 t3 tl w1, fun u u' post hp => SX1 u _ (X u' post hp), fun u u' post hp => SY1 u _ (Y u' post hp), nI (ty_e l' e'), SX1, SY1, X, Y⟩
end
section
/-! 36: runs: execute against evaluate, run -/
theorem ex_0 : (0 : Int32).toNatClampNeg = 0 := by decide
theorem ex_1 : (0 : Int32) + 1 = nI 1 := by decide
section
variable {dl cl pl nc nd : Nat} {fCK fED fEP fH fO fHP fNK fRC fTD fTT : Int32} {fAX fAY : Int64} {fRS : Int32} {fLV : Int64} {fLT fDP fEN : Int32} {fAN : Int64} {aSup aCpx aCpy aCr aIns aCls aHd aCtx aPx aPy aR aSz aWd aTk aTn aTt aTj aTs aFl aEl aOt aOk aKd aKt aCal aFd aFt aFc aFp aFh : Nat → Int32} {aFx aFy aVl : Nat → Int64} {yAt ySp yDp yEn yRk : Int32} {yWd : Nat → Int32} {yVl yFx yFy : Nat → Int64} {yFk yFp yKl : Nat → Int32} {cx : Nat → Int32} {Mf : Nat → Nat → Nat → Prop} {f es c W : Nat} {ls : List Bool}
theorem ex_main (S : (sr nc nd aSup aCpx aCpy aCr aIns aCls aHd aCtx aPx aPy aR aSz aTk aTn)) (C : (ck nc nd aSup aCpx aCpy aCr aIns aCls aHd aCtx aPx aPy aR aSz aWd yWd aTk aTn aTt aTj)) (MD : md_M aSz aWd aTk aIns aTn aTt aKd aKt aCal cx Mf) (p16 : pl ≤ 16) (p2 : 2 ≤ pl) (hf : f < nd) (K : kq_k aSup aIns aHd aCtx f ls es) (s1 : 1 ≤ es) (s2 : es ≤ 2) (sl : ls.length ≤ 6) (eW : aWd f = nI W) (W6 : W ≤ 6) (fit : W + kq_n 7 (ty_e ls es) ≤ 7) (mc : Mf c f (ty_e ls es)) : ∃ (rC : Int32) (vC : Nat),
    (∀ (fTD fTT fDP fEN : Int32) (fAN : Int64) (aFd aFt aFc aFp aFh : Nat → Int32) (aFx aFy aVl : Nat → Int64) (post : Int32 → SX → Prop), (∀ (fTD fTT fDP fEN : Int32) (fAN : Int64) (aFd aFt aFc aFp aFh : Nat → Int32) (aFx aFy aVl : Nat → Int64), (rC = 0 → fAN = lN vC) → post rC (nI dl, nI cl, nI pl, nI nc, nI nd, fCK, fED, fEP, fH, fO, fHP, fNK, fRC, fTD, fTT, fAX, fAY, fRS, fLV, fLT, fDP, fEN, fAN, aSup, aCpx, aCpy, aCr, aIns, aCls, aHd, aCtx, aPx, aPy, aR, aSz, aWd, aTk, aTn, aTt, aTj, aTs, aFl, aEl, aOt, aOk, aKd, aKt, aCal, aFd, aFt, aFc, aFp, aFh, aFx, aFy, aVl)) → wpX_execute post (nI dl, nI cl, nI pl, nI nc, nI nd, fCK, fED, fEP, fH, fO, fHP, fNK, fRC, fTD, fTT, fAX, fAY, fRS, fLV, fLT, fDP, fEN, fAN, aSup, aCpx, aCpy, aCr, aIns, aCls, aHd, aCtx, aPx, aPy, aR, aSz, aWd, aTk, aTn, aTt, aTj, aTs, aFl, aEl, aOt, aOk, aKd, aKt, aCal, aFd, aFt, aFc, aFp, aFh, aFx, aFy, aVl) (nI f) (nI (ty_e ls es)) (cx c)) ∧
    (∀ (ySp yDp yEn : Int32) (yVl yFx yFy : Nat → Int64) (yFk yFp : Nat → Int32) (post : Int32 → SY → Prop), (∀ (ySp yDp yEn : Int32) (yVl yFx yFy : Nat → Int64) (yFk yFp : Nat → Int32), (rC = 0 → yVl 0 = lN vC) → post rC (nI dl, nI cl, nI pl, nI nc, nI nd, fCK, fED, fEP, yAt, fH, fO, fAX, fAY, fLV, fRS, fLT, ySp, yDp, yEn, fNK, yRk, aSup, aCpx, aCpy, aCr, aPx, aPy, aR, aCtx, aCls, aHd, aSz, yWd, aTk, aTn, aTt, aTs, aFl, aOt, yVl, yFx, yFy, yFk, yFp, yKl)) → wpY_evaluate post (nI dl, nI cl, nI pl, nI nc, nI nd, fCK, fED, fEP, yAt, fH, fO, fAX, fAY, fLV, fRS, fLT, ySp, yDp, yEn, fNK, yRk, aSup, aCpx, aCpy, aCr, aPx, aPy, aR, aCtx, aCls, aHd, aSz, yWd, aTk, aTn, aTt, aTs, aFl, aOt, yVl, yFx, yFy, yFk, yFp, yKl) (nI f) (nI (ty_e ls es))) := by
  have H : (sr_H nc nd aSup aIns aCls aHd aCtx) := S.1
  have h12 := H.2.1
  have vf := vp_in_nI (n := f) (N := 12) (by omega) (by decide)
  have cf := nI_clamp (n := f) (by omega)
  have v0 := vp_in_nI (n := 0) (N := 16) (by omega) (by decide)
  obtain ⟨W2, w6, e1, e2, Ht, Ty, Op, B⟩ := C.2 f hf
  have eWW : W2 = W := (nI_eq (by omega) (by omega)).mp (e1.symm.trans eW)
  subst eWW
  obtain ⟨N, N20, eN, _⟩ := S.2.2.2 f hf
  have mN : mk_v (aSz f) = N := by rw [eN, mk_vn (by omega)]
  have B0 := B
  obtain ⟨R, _, _, _, tx, ty, tr⟩ := B
  have hfl : W2 + (ls.length + 1) ≤ 7 := by rw [kt_n 7 ls es s1 (by omega) (by omega)] at fit; exact fit
  obtain ⟨wx, vx, _, _, xx, xX, xY, xF, xG⟩ := fa_p fAX tx s1 s2 sl hfl
  obtain ⟨wy, vy, _, _, yx, yX, yY, yF, yG⟩ := fa_p fAY ty s1 s2 sl hfl
  obtain ⟨rC, vC, XP, YP⟩ := rn_main (dl := dl) (cl := cl) (fCK := fCK) (fED := fED) (fEP := fEP) (fH := fH) (fO := fO) (fHP := fHP) (fNK := fNK) (fRC := fRC) (fAX := fAX) (fAY := fAY) (fRS := fRS) (fLV := fLV) (fLT := fLT) (aTs := aTs) (aFl := aFl) (aEl := aEl) (aOt := aOt) (aOk := aOk) (yAt := yAt) (yRk := yRk) (yKl := yKl) S C MD p16 5376 ((f, ls, es, c, 0, List.nil, wx, wy) :: List.nil) 1 (by
    show (mk_v (aSz f) + 1 - 0) + 0 + 21 * (256 - 1) ≤ 5376
    rw [mN]
    omega) ⟨⟨W2, Ht, Ty, Op, ⟨hf, e1, e2, w6, B0, K, fit⟩, Nat.zero_le _, vx, vy, R.1, trivial, trivial⟩, trivial⟩ ⟨mc, trivial⟩ (by show 1 ≤ pl; omega) (by omega)
  refine ⟨rC, vC, ?_, ?_⟩
  · intro fTD fTT fDP fEN fAN aFd aFt aFc aFp aFh aFx aFy aVl post hp
    unfold wpX_execute
    dsimp only
    rw [cf]
    refine ⟨vf, xX _ _ ⟨vf, yX _ _ (xF _ _ (yF _ _ ?_))⟩⟩
    unfold wpX_enter
    dsimp only
    rw [ex_0, ex_1]
    refine ⟨v0, nm_e ⟨v0, nm_e ⟨v0, nm_e ⟨v0, nm_e ⟨v0, nm_e ⟨v0, nm_e ⟨v0, nm_e (nm_e (nm_e ?_))⟩⟩⟩⟩⟩⟩⟩
    exact Exists.intro 5377 (XP _ _ _ _ _ _ _ _ _ _ _ post 5377 0 ⟨⟨pk_us, pk_us, pk_us, pk_us, pk_us, pk_uLs, pk_uLs, trivial, Nat.zero_le _⟩, trivial⟩ (by omega) (by omega) hp)
  · intro ySp yDp yEn yVl yFx yFy yFk yFp post hp
    unfold wpY_evaluate
    dsimp only
    rw [ky_K]
    refine ky_fi h12 hf K e2 w6 (fun _ => br_f (by decide) ⟨vf, ?_⟩) (fun z => absurd fit z)
    rw [cf]
    refine xY _ _ ⟨vf, yY _ _ (xG _ _ (yG _ _ ?_))⟩
    unfold wpY_enter
    dsimp only
    rw [ex_0, ex_1]
    refine ⟨v0, nm_e ⟨v0, nm_e ⟨v0, nm_e ⟨v0, nm_e (nm_e (nm_e ?_))⟩⟩⟩⟩
    exact Exists.intro 5377 (YP _ _ _ _ _ post 5377 0 ⟨⟨pk_us, pk_us, pk_uLs, pk_uLs, trivial⟩, trivial⟩ (by omega) (by omega) hp)
end
section
variable {dl cl pl nc nd : Nat} {fCK fED fEP fH fO fHP fNK fRC fTD fTT : Int32} {fAX fAY : Int64} {fRS : Int32} {fLV : Int64} {fLT fDP fEN : Int32} {fAN : Int64} {aSup aCpx aCpy aCr aIns aCls aHd aCtx aPx aPy aR aSz aWd aTk aTn aTt aTj aTs aFl aEl aOt aOk aKd aKt aCal aFd aFt aFc aFp aFh : Nat → Int32} {aFx aFy aVl : Nat → Int64} {yAt ySp yDp yEn yRk : Int32} {yWd : Nat → Int32} {yVl yFx yFy : Nat → Int64} {yFk yFp yKl : Nat → Int32} {f es W : Nat} {ls : List Bool}
/-- X's finishRun against the end of Y's run, from one code and one value -/
theorem ex_fin (S : (sr nc nd aSup aCpx aCpy aCr aIns aCls aHd aCtx aPx aPy aR aSz aTk aTn)) (C : (ck nc nd aSup aCpx aCpy aCr aIns aCls aHd aCtx aPx aPy aR aSz aWd yWd aTk aTn aTt aTj)) (hf : f < nd) (s1 : 1 ≤ es) (s2 : es ≤ 2) (sl : ls.length ≤ 6) (eW : aWd f = nI W) (W6 : W ≤ 6) (fit : W + kq_n 7 (ty_e ls es) ≤ 7) : ∃ rt : Int32, (∀ (fTD fTT fDP fEN : Int32) (fAN : Int64) (aFd aFt aFc aFp aFh : Nat → Int32) (aFx aFy aVl : Nat → Int64) (rC : Int32) (post : SX → Prop), (rC = 0 → post (nI dl, nI cl, nI pl, nI nc, nI nd, fCK, fED, fEP, fH, fO, fHP, fNK, fRC, fTD, fTT, fAX, fAY, rC, fAN, rt, fDP, fEN, fAN, aSup, aCpx, aCpy, aCr, aIns, aCls, aHd, aCtx, aPx, aPy, aR, aSz, aWd, aTk, aTn, aTt, aTj, aTs, aFl, aEl, aOt, aOk, aKd, aKt, aCal, aFd, aFt, aFc, aFp, aFh, aFx, aFy, aVl)) → (¬ rC = 0 → post (nI dl, nI cl, nI pl, nI nc, nI nd, fCK, fED, fEP, fH, fO, fHP, fNK, fRC, fTD, fTT, fAX, fAY, rC, 0, 0, fDP, fEN, fAN, aSup, aCpx, aCpy, aCr, aIns, aCls, aHd, aCtx, aPx, aPy, aR, aSz, aWd, aTk, aTn, aTt, aTj, aTs, aFl, aEl, aOt, aOk, aKd, aKt, aCal, aFd, aFt, aFc, aFp, aFh, aFx, aFy, aVl)) → wpX_finishRun post (nI dl, nI cl, nI pl, nI nc, nI nd, fCK, fED, fEP, fH, fO, fHP, fNK, fRC, fTD, fTT, fAX, fAY, fRS, fLV, fLT, fDP, fEN, fAN, aSup, aCpx, aCpy, aCr, aIns, aCls, aHd, aCtx, aPx, aPy, aR, aSz, aWd, aTk, aTn, aTt, aTj, aTs, aFl, aEl, aOt, aOk, aKd, aKt, aCal, aFd, aFt, aFc, aFp, aFh, aFx, aFy, aVl) rC (nI f) (nI (ty_e ls es))) ∧ (∀ (ySp yDp yEn : Int32) (yVl yFx yFy : Nat → Int64) (yFk yFp : Nat → Int32) (rC : Int32) (z : Int64) (post : Int32 → SY → Prop), (rC = 0 → post rC (nI dl, nI cl, nI pl, nI nc, nI nd, fCK, fED, fEP, yAt, fH, fO, fAX, fAY, z, rC, rt, ySp, yDp, yEn, fNK, yRk, aSup, aCpx, aCpy, aCr, aPx, aPy, aR, aCtx, aCls, aHd, aSz, yWd, aTk, aTn, aTt, aTs, aFl, aOt, yVl, yFx, yFy, yFk, yFp, yKl)) → (¬ rC = 0 → post rC (nI dl, nI cl, nI pl, nI nc, nI nd, fCK, fED, fEP, yAt, fH, fO, fAX, fAY, z, rC, 0, ySp, yDp, yEn, fNK, yRk, aSup, aCpx, aCpy, aCr, aPx, aPy, aR, aCtx, aCls, aHd, aSz, yWd, aTk, aTn, aTt, aTs, aFl, aOt, yVl, yFx, yFy, yFk, yFp, yKl)) → wY_run_41 post (nI f) (nI (ty_e ls es)) z (nI dl) (nI cl) (nI pl) (nI nc) (nI nd) fCK fED fEP yAt fH fO fAX fAY fLV rC fLT ySp yDp yEn fNK yRk aSup aCpx aCpy aCr aPx aPy aR aCtx aCls aHd aSz yWd aTk aTn aTt aTs aFl aOt yVl yFx yFy yFk yFp yKl) := by
  have h12 := S.1.2.1
  have vf := vp_in_nI (n := f) (N := 12) (by omega) (by decide)
  have cf := nI_clamp (n := f) (by omega)
  obtain ⟨W2, w6, e1, e2, Ht, Ty, Op, B⟩ := C.2 f hf
  have eWW : W2 = W := (nI_eq (by omega) (by omega)).mp (e1.symm.trans eW)
  subst eWW
  obtain ⟨R, _, _, _, tx, ty, tr⟩ := B
  have hfl : W2 + (ls.length + 1) ≤ 7 := by rw [kt_n 7 ls es s1 (by omega) (by omega)] at fit; exact fit
  obtain ⟨_, _, _, _, rt, rX, rY, _, _⟩ := fa_p 0 tr s1 s2 sl hfl
  refine ⟨rt, fun _ _ _ _ _ _ _ _ _ _ _ _ _ rC post p0 p1 => ?_, fun _ _ _ _ _ _ _ _ rC z post p0 p1 => ?_⟩
  · by_cases h : rC = 0
    · refine br_t h ⟨vf, ?_⟩
      rw [cf]
      exact rX _ _ (p0 h)
    · exact br_f h (p1 h)
  · by_cases h : rC = 0
    · refine br_t h ⟨vf, ?_⟩
      rw [cf]
      exact rY _ _ (p0 h)
    · exact br_f h (p1 h)
end
theorem ex_nc {nc nd : Nat} {aSup aIns aCls aHd aCtx : Nat → Int32} {f es : Nat} {ls : List Bool} (H : (sr_H nc nd aSup aIns aCls aHd aCtx)) (hf : f < nd) (hc : aCls f = -1) (s1 : 1 ≤ es) (s2 : es ≤ 2) (sl : ls.length ≤ 6) (hH : mk_H aIns aCtx aSup 0 (mk_v (aCtx f)) ls es) : kq_k aSup aIns aHd aCtx f ls es := by
  refine Or.inr ⟨?_, s1, s2, sl, hH⟩
  rcases H.2.2.2.2.1 f hf with ⟨_, z⟩ | ⟨c, h, _, _, q3, _⟩
  · rintro (y | y)
    · rw [z] at y; exact absurd y (by decide)
    · rw [z] at y; exact absurd y (by decide)
  · rw [hc] at q3
    exact absurd q3.symm (sr_ne (by have := H.1; omega))
theorem i_vc_run {k : Nat} {u : SX} {v : SY} (I : i_Rel k u v) (hk : k + 5 ≤ 2563) (v1 : Int32) (v2 : Int32) : wpX_run (fun r u' => wpY_run (fun r' v' => r' = r ∧ i_Rel (k + 5) u' v') v v1 v2) u v1 v2 := by
  refine rl_el (P := fun u v => wpX_run (fun r u' => wpY_run (fun r' v' => r' = r ∧ i_Rel (k + 5) u' v') v v1 v2) u v1 v2) ?_ I
  intro dl cl pl nc nd fCK fED fEP fH fO fHP fNK fRC fTD fTT fAX fAY fRS fLV fLT fDP fEN fAN aSup aCpx aCpy aCr aIns aCls aHd aCtx aPx aPy aR aSz aWd aTk aTn aTt aTj aTs aFl aEl aOt aOk aKd aKt aCal aFd aFt aFc aFp aFh aFx aFy aVl yAt ySp yDp yEn yRk yWd yVl yFx yFy yFk yFp yKl R
  have S : (sr nc nd aSup aCpx aCpy aCr aIns aCls aHd aCtx aPx aPy aR aSz aTk aTn) := R.2.1
  have H : (sr_H nc nd aSup aIns aCls aHd aCtx) := S.1
  have h12 := H.2.1
  obtain ⟨_, _, _, _, pl2, pl16, _⟩ := R.1
  unfold wpX_run
  dsimp only
  rcases jr_l (dl := dl) (cl := cl) (pl := pl) (fED := fED) (fEP := fEP) (fH := fH) (fO := fO) (fHP := fHP) (fNK := fNK) (fRC := fRC) (fTD := fTD) (fTT := fTT) (fAX := fAX) (fAY := fAY) (fRS := fRS) (fLV := fLV) (fLT := fLT) (fDP := fDP) (fEN := fEN) (fAN := fAN) (aWd := aWd) (aTt := aTt) (aTj := aTj) (aTs := aTs) (aFl := aFl) (aEl := aEl) (aOt := aOt) (aOk := aOk) (aKd := aKd) (aKt := aKt) (aCal := aCal) (aFd := aFd) (aFt := aFt) (aFc := aFc) (aFp := aFp) (aFh := aFh) (aFx := aFx) (aFy := aFy) (aVl := aVl) (yAt := yAt) (ySp := ySp) (yDp := yDp) (yEn := yEn) (yRk := yRk) (yWd := yWd) (yVl := yVl) (yFx := yFx) (yFy := yFy) (yFk := yFk) (yFp := yFp) (yKl := yKl) S R.2.2.1 v1 v2 with ⟨c, c0, jX, jY⟩ | ⟨f, l, e, hf, rfl, hc, s1, s2, sl, rfl, hH, c1, jX, jY⟩
  · refine jX _ (br_f c0 ?_)
    unfold wpY_run
    dsimp only
    exact jY _ (br_f c0 ⟨rfl, rl_in R⟩)
  · have C : (ck nc nd aSup aCpx aCpy aCr aIns aCls aHd aCtx aPx aPy aR aSz aWd yWd aTk aTn aTt aTj) := R.2.2.2.1 c1
    have K := ex_nc H hf hc s1 s2 sl hH
    obtain ⟨W, w6, e1, e2, _⟩ := C.2 f hf
    refine jX _ (br_t rfl ?_)
    by_cases fit : W + kq_n 7 (ty_e l e) ≤ 7
    · obtain ⟨rC, vC, XP, YP⟩ := ex_main (cx := fun _ => -1) (Mf := fun _ _ _ => True) (c := 0) (dl := dl) (cl := cl) (fCK := fCK) (fED := fED) (fEP := fEP) (fH := fH) (fO := fO) (fHP := fHP) (fNK := fNK) (fRC := fRC) (fAX := fAX) (fAY := fAY) (fRS := fRS) (fLV := fLV) (fLT := fLT) (aTs := aTs) (aFl := aFl) (aEl := aEl) (aOt := aOt) (aOk := aOk) (aKd := aKd) (aKt := aKt) (aCal := aCal) (yAt := yAt) (yRk := yRk) (yKl := yKl) S C (Or.inl ⟨fun _ => rfl, fun _ _ _ => trivial⟩) pl16 pl2 hf K s1 s2 sl e1 w6 fit trivial
      obtain ⟨rt, FX, FY⟩ := ex_fin (dl := dl) (cl := cl) (pl := pl) (fCK := fCK) (fED := fED) (fEP := fEP) (fH := fH) (fO := fO) (fHP := fHP) (fNK := fNK) (fRC := fRC) (fAX := fAX) (fAY := fAY) (fRS := fRS) (fLV := fLV) (fLT := fLT) (aTs := aTs) (aFl := aFl) (aEl := aEl) (aOt := aOt) (aOk := aOk) (aKd := aKd) (aKt := aKt) (aCal := aCal) (yAt := yAt) (yRk := yRk) (yKl := yKl) S C hf s1 s2 sl e1 w6 fit
      refine kx_fi h12 hf K e1 w6 (fun _ => br_f (by decide) ?_) (fun z => absurd fit z)
      refine XP _ _ _ _ _ _ _ _ _ _ _ _ _ _ ?_
      intro fTD fTT fDP fEN fAN aFd aFt aFc aFp aFh aFx aFy aVl hAN
      dsimp only
      unfold wX_run_34
      refine FX fTD fTT fDP fEN fAN aFd aFt aFc aFp aFh aFx aFy aVl rC _ (fun h => ?_) (fun h => ?_)
      · dsimp only
        unfold wpY_run
        dsimp only
        refine jY _ (br_t rfl (YP _ _ _ _ _ _ _ _ _ ?_))
        intro ySp yDp yEn yVl yFx yFy yFk yFp hV
        refine br_t h (FY ySp yDp yEn yVl yFx yFy yFk yFp rC (yVl 0) _ (fun _ => ⟨rfl, ?_⟩) (fun z => absurd h z))
        rw [hAN h, hV h]
        exact rl_in R
      · dsimp only
        unfold wpY_run
        dsimp only
        refine jY _ (br_t rfl (YP _ _ _ _ _ _ _ _ _ ?_))
        intro ySp yDp yEn yVl yFx yFy yFk yFp hV
        exact br_f h (FY ySp yDp yEn yVl yFx yFy yFk yFp rC 0 _ (fun z => absurd z h) (fun _ => ⟨rfl, rl_in R⟩))
    · refine kx_fi h12 hf K e1 w6 (fun z => absurd z fit) (fun _ => br_t rfl ?_)
      unfold wX_run_34
      refine br_f (by decide) ?_
      dsimp only
      unfold wpY_run
      dsimp only
      refine jY _ (br_t rfl ?_)
      unfold wpY_evaluate
      dsimp only
      rw [ky_K]
      exact ky_fi h12 hf K e2 w6 (fun z => absurd z fit) (fun _ => br_t rfl (br_f (by decide) (br_f (by decide) ⟨rfl, rl_in R⟩)))
end
section
/-! 37: the specialised program: looking up keys, and the methods that read it -/
section
variable {dl cl pl nc nd : Nat} {fCK fED fEP fH fO fHP fNK fRC fTD fTT : Int32} {fAX fAY : Int64} {fRS : Int32} {fLV : Int64} {fLT fDP fEN : Int32} {fAN : Int64} {aSup aCpx aCpy aCr aIns aCls aHd aCtx aPx aPy aR aSz aWd aTk aTn aTt aTj aTs aFl aEl aOt aOk aKd aKt aCal aFd aFt aFc aFp aFh : Nat → Int32} {aFx aFy aVl : Nat → Int64} {yAt ySp yDp yEn yRk : Int32} {yWd : Nat → Int32} {yVl yFx yFy : Nat → Int64} {yFk yFp yKl : Nat → Int32} {post : Int32 → Prop} {x1 x2 : Int32} {nk : Nat}
theorem fk_x1 (n24 : nk ≤ 24) (pj : ∀ j, j < nk → aKd j = x1 → aKt j = x2 → (∀ i, i < j → ¬ (aKd i = x1 ∧ aKt i = x2)) → post (nI j)) (pn : (∀ j, j < nk → ¬ (aKd j = x1 ∧ aKt j = x2)) → post (-1)) : ∀ (n k : Nat), k ≤ nk → nk - k < n → (∀ i, i < k → ¬ (aKd i = x1 ∧ aKt i = x2)) → wX_findKey_2 post x1 x2 (nI dl) (nI cl) (nI pl) (nI nc) (nI nd) fCK fED fEP fH fO fHP (nI nk) fRC fTD fTT fAX fAY fRS fLV fLT fDP fEN fAN aSup aCpx aCpy aCr aIns aCls aHd aCtx aPx aPy aR aSz aWd aTk aTn aTt aTj aTs aFl aEl aOt aOk aKd aKt aCal aFd aFt aFc aFp aFh aFx aFy aVl n (nI k) := by
  intro n
  induction n with
  | zero => intro k hk hn; omega
  | succ n ih =>
    intro k hk hn hi
    by_cases e : k = nk
    · subst e
      exact br_t (nI_le (Nat.le_refl _) (by omega)) (pn hi)
    · have vk := vp_in_nI (n := k) (N := 24) (by omega) (by decide)
      have N : ¬ (aKd k = x1 ∧ aKt k = x2) → wX_findKey_2 post x1 x2 (nI dl) (nI cl) (nI pl) (nI nc) (nI nd) fCK fED fEP fH fO fHP (nI nk) fRC fTD fTT fAX fAY fRS fLV fLT fDP fEN fAN aSup aCpx aCpy aCr aIns aCls aHd aCtx aPx aPy aR aSz aWd aTk aTn aTt aTj aTs aFl aEl aOt aOk aKd aKt aCal aFd aFt aFc aFp aFh aFx aFy aVl n (nI (k + 1)) := fun z =>
        ih (k + 1) (by omega) (by omega) (fun i hi' => by
          rcases Nat.lt_or_ge i k with y | y
          · exact hi i y
          · have : i = k := by omega
            rw [this]; exact z)
      refine br_f (nI_ge (by omega) (by omega)) ⟨vk, ?_⟩
      rw [nI_clamp (n := k) (by omega)]
      by_cases e1 : aKd k = x1
      · refine br_t e1 ⟨vk, ?_⟩
        by_cases e2 : aKt k = x2
        · exact br_t e2 (pj k (by omega) e1 e2 hi)
        · exact br_f e2 (nm_r (nI_1 k) (N (fun z => e2 z.2)))
      · exact br_f e1 (nm_r (nI_1 k) (N (fun z => e1 z.1)))
theorem fk_x (n24 : nk ≤ 24) (pj : ∀ j, j < nk → aKd j = x1 → aKt j = x2 → (∀ i, i < j → ¬ (aKd i = x1 ∧ aKt i = x2)) → post (nI j)) (pn : (∀ j, j < nk → ¬ (aKd j = x1 ∧ aKt j = x2)) → post (-1)) : wpX_findKey post (nI dl, nI cl, nI pl, nI nc, nI nd, fCK, fED, fEP, fH, fO, fHP, nI nk, fRC, fTD, fTT, fAX, fAY, fRS, fLV, fLT, fDP, fEN, fAN, aSup, aCpx, aCpy, aCr, aIns, aCls, aHd, aCtx, aPx, aPy, aR, aSz, aWd, aTk, aTn, aTt, aTj, aTs, aFl, aEl, aOt, aOk, aKd, aKt, aCal, aFd, aFt, aFc, aFp, aFh, aFx, aFy, aVl) x1 x2 :=
  Exists.intro 25 (fk_x1 n24 pj pn 25 0 (by omega) (by omega) (fun i hi => absurd hi (by omega)))
theorem fk_y1 (n24 : nk ≤ 25) (hK : ∀ k, k < nk → yKl k / 2097152 = aKd k ∧ yKl k - yKl k / 2097152 * 2097152 = aKt k) (pj : ∀ j, j < nk → aKd j = x1 → aKt j = x2 → (∀ i, i < j → ¬ (aKd i = x1 ∧ aKt i = x2)) → post (nI j)) (pn : (∀ j, j < nk → ¬ (aKd j = x1 ∧ aKt j = x2)) → post (-1)) : ∀ (n k : Nat), k ≤ nk → nk - k < n → (∀ i, i < k → ¬ (aKd i = x1 ∧ aKt i = x2)) → wY_findClone_2 post x1 x2 (nI dl) (nI cl) (nI pl) (nI nc) (nI nd) fCK fED fEP yAt fH fO fAX fAY fLV fRS fLT ySp yDp yEn (nI nk) yRk aSup aCpx aCpy aCr aPx aPy aR aCtx aCls aHd aSz yWd aTk aTn aTt aTs aFl aOt yVl yFx yFy yFk yFp yKl n (nI k) := by
  intro n
  induction n with
  | zero => intro k hk hn; omega
  | succ n ih =>
    intro k hk hn hi
    by_cases e : k = nk
    · subst e
      exact br_t (nI_le (Nat.le_refl _) (by omega)) (pn hi)
    · have vk := vp_in_nI (n := k) (N := 25) (by omega) (by decide)
      have N : ¬ (aKd k = x1 ∧ aKt k = x2) → wY_findClone_2 post x1 x2 (nI dl) (nI cl) (nI pl) (nI nc) (nI nd) fCK fED fEP yAt fH fO fAX fAY fLV fRS fLT ySp yDp yEn (nI nk) yRk aSup aCpx aCpy aCr aPx aPy aR aCtx aCls aHd aSz yWd aTk aTn aTt aTs aFl aOt yVl yFx yFy yFk yFp yKl n (nI (k + 1)) := fun z =>
        ih (k + 1) (by omega) (by omega) (fun i hi' => by
          rcases Nat.lt_or_ge i k with y | y
          · exact hi i y
          · have : i = k := by omega
            rw [this]; exact z)
      refine br_f (nI_ge (by omega) (by omega)) ⟨vk, ty_K, ?_⟩
      obtain ⟨q1, q2⟩ := hK k (by omega)
      rw [nI_clamp (n := k) (by omega), q2, q1]
      by_cases e1 : aKd k = x1
      · refine br_t e1 ⟨vk, ty_K, ?_⟩
        by_cases e2 : aKt k = x2
        · exact br_t e2 (pj k (by omega) e1 e2 hi)
        · exact br_f e2 (nm_r (nI_1 k) (N (fun z => e2 z.2)))
      · exact br_f e1 (nm_r (nI_1 k) (N (fun z => e1 z.1)))
theorem fk_y (n24 : nk ≤ 25) (hK : ∀ k, k < nk → yKl k / 2097152 = aKd k ∧ yKl k - yKl k / 2097152 * 2097152 = aKt k) (pj : ∀ j, j < nk → aKd j = x1 → aKt j = x2 → (∀ i, i < j → ¬ (aKd i = x1 ∧ aKt i = x2)) → post (nI j)) (pn : (∀ j, j < nk → ¬ (aKd j = x1 ∧ aKt j = x2)) → post (-1)) : wpY_findClone post (nI dl, nI cl, nI pl, nI nc, nI nd, fCK, fED, fEP, yAt, fH, fO, fAX, fAY, fLV, fRS, fLT, ySp, yDp, yEn, nI nk, yRk, aSup, aCpx, aCpy, aCr, aPx, aPy, aR, aCtx, aCls, aHd, aSz, yWd, aTk, aTn, aTt, aTs, aFl, aOt, yVl, yFx, yFy, yFk, yFp, yKl) x1 x2 :=
  Exists.intro 26 (fk_y1 n24 hK pj pn 26 0 (by omega) (by omega) (fun i hi => absurd hi (by omega)))
/-- what a program's keys are to Y -/
theorem fk_K {nk : Nat} (h12 : nd ≤ 12) (P : ∀ k, k < nk → aKd k = nI (mk_v (aKd k)) ∧ aKt k = nI (mk_v (aKt k)) ∧ yKl k = nI (mk_v (aKd k) * 2097152 + mk_v (aKt k)) ∧ kq_K nd aSup aIns aHd aCtx (mk_v (aKd k)) (mk_v (aKt k)) ∧ mk_v (aWd (mk_v (aKd k))) + kq_n 7 (mk_v (aKt k)) ≤ 7) : ∀ k, k < nk → (mk_v (aKd k) < nd ∧ mk_v (aKt k) < 2097152) ∧ yKl k / 2097152 = aKd k ∧ yKl k - yKl k / 2097152 * 2097152 = aKt k := by
  intro k hk
  obtain ⟨q1, q2, q3, ⟨q4, ls, es, q5, q6⟩, _⟩ := P k hk
  have s21 := kx_s21 q6
  rw [← q5] at s21
  refine ⟨⟨q4, s21⟩, ?_, ?_⟩
  · rw [q3, ky_d (by omega) s21]; exact q1.symm
  · rw [q3, ky_m (by omega) s21]; exact q2.symm
end
theorem fk_none {nk : Nat} : ¬ nI nk = 0 → nk < 2 ^ 31 → 0 < nk := by
  intro h h31
  rcases Nat.eq_zero_or_pos nk with z | z
  · subst z; exact absurd rfl h
  · exact z
theorem i_vc_cloneField {k : Nat} {u : SX} {v : SY} (I : i_Rel k u v) (hk : k + 5 ≤ 2563) (v1 : Int32) (v2 : Int32) : wpX_cloneField (fun r => wpY_cloneField (fun r' => r' = r ∧ i_Rel (k + 5) u v) v v1 v2) u v1 v2 := by
  refine rl_el (P := fun u v => wpX_cloneField (fun r => wpY_cloneField (fun r' => r' = r ∧ i_Rel (k + 5) u v) v v1 v2) u v1 v2) ?_ I
  intro dl cl pl nc nd fCK fED fEP fH fO fHP fNK fRC fTD fTT fAX fAY fRS fLV fLT fDP fEN fAN aSup aCpx aCpy aCr aIns aCls aHd aCtx aPx aPy aR aSz aWd aTk aTn aTt aTj aTs aFl aEl aOt aOk aKd aKt aCal aFd aFt aFc aFp aFh aFx aFy aVl yAt ySp yDp yEn yRk yWd yVl yFx yFy yFk yFp yKl R
  have R' : i_Rel (k + 5) (nI dl, nI cl, nI pl, nI nc, nI nd, fCK, fED, fEP, fH, fO, fHP, fNK, fRC, fTD, fTT, fAX, fAY, fRS, fLV, fLT, fDP, fEN, fAN, aSup, aCpx, aCpy, aCr, aIns, aCls, aHd, aCtx, aPx, aPy, aR, aSz, aWd, aTk, aTn, aTt, aTj, aTs, aFl, aEl, aOt, aOk, aKd, aKt, aCal, aFd, aFt, aFc, aFp, aFh, aFx, aFy, aVl) (nI dl, nI cl, nI pl, nI nc, nI nd, fCK, fED, fEP, yAt, fH, fO, fAX, fAY, fLV, fRS, fLT, ySp, yDp, yEn, fNK, yRk, aSup, aCpx, aCpy, aCr, aPx, aPy, aR, aCtx, aCls, aHd, aSz, yWd, aTk, aTn, aTt, aTs, aFl, aOt, yVl, yFx, yFy, yFk, yFp, yKl) := rl_in R
  have H : (sr_H nc nd aSup aIns aCls aHd aCtx) := R.2.1.1
  have h12 := H.2.1
  obtain ⟨_, _, _, cl24, _, _, _⟩ := R.1
  rcases R.2.2.2.2 with ⟨p0, n0⟩ | ⟨p1, _, nk, rk, q1, q2, q3, q4, q5, q6, P, _⟩
  · refine br_t p0 (br_t rfl ?_)
    by_cases z : v1 < 0
    · exact br_t z ⟨rfl, R'⟩
    · refine br_f z (br_f ?_ ⟨rfl, R'⟩)
      rw [n0]; exact z
  · have p2 : ¬ fHP = 0 := by rw [p1]; decide
    refine br_f p2 ?_
    rcases pk_ix v1 (n := nk) (by omega) with z | z | ⟨j, hj, rfl⟩
    · exact br_t z (br_t rfl (br_t z ⟨rfl, R'⟩))
    · by_cases y : v1 < 0
      · exact br_t y (br_t rfl (br_t y ⟨rfl, R'⟩))
      · exact br_f y (br_t (by rw [q3]; exact z) (br_t rfl (br_f y (br_f (by rw [q3]; exact Int32.not_lt.mpr z) ⟨rfl, R'⟩))))
    · have n0 : ¬ nI j < 0 := nI_pos (by omega)
      have n1 : ¬ fNK ≤ nI j := by rw [q3]; exact nI_ge hj (by omega)
      have n2 : nI j < fNK := by rw [q3]; exact nI_lt hj (by omega)
      have vx := vp_in_nI (n := j) (N := 24) (by omega) (by decide)
      have vy := vp_in_nI (n := j) (N := 25) (by omega) (by decide)
      have cj := nI_clamp (n := j) (by omega)
      obtain ⟨_, k1, k2⟩ := fk_K h12 P j hj
      refine br_f n0 (br_f n1 (br_f (by decide) ?_))
      by_cases w0 : v2 = 0
      · refine br_t w0 ⟨vx, br_f n0 (br_t n2 (br_t w0 ⟨vy, ty_K, ?_, R'⟩))⟩
        rw [cj]; exact k1
      · by_cases w1 : v2 = 1
        · refine br_f w0 (br_t w1 ⟨vx, br_f n0 (br_t n2 (br_f w0 (br_t w1 ⟨vy, ty_K, ?_, R'⟩)))⟩)
          rw [cj]; exact k2
        · exact br_f w0 (br_f w1 (br_f n0 (br_t n2 (br_f w0 (br_f w1 ⟨rfl, R'⟩)))))
theorem i_vc_findClone {k : Nat} {u : SX} {v : SY} (I : i_Rel k u v) (hk : k + 5 ≤ 2563) (v1 : Int32) (v2 : Int32) : wpX_findClone (fun r => wpY_findClone (fun r' => r' = r ∧ i_Rel (k + 5) u v) v v1 v2) u v1 v2 := by
  refine rl_el (P := fun u v => wpX_findClone (fun r => wpY_findClone (fun r' => r' = r ∧ i_Rel (k + 5) u v) v v1 v2) u v1 v2) ?_ I
  intro dl cl pl nc nd fCK fED fEP fH fO fHP fNK fRC fTD fTT fAX fAY fRS fLV fLT fDP fEN fAN aSup aCpx aCpy aCr aIns aCls aHd aCtx aPx aPy aR aSz aWd aTk aTn aTt aTj aTs aFl aEl aOt aOk aKd aKt aCal aFd aFt aFc aFp aFh aFx aFy aVl yAt ySp yDp yEn yRk yWd yVl yFx yFy yFk yFp yKl R
  have R' : i_Rel (k + 5) (nI dl, nI cl, nI pl, nI nc, nI nd, fCK, fED, fEP, fH, fO, fHP, fNK, fRC, fTD, fTT, fAX, fAY, fRS, fLV, fLT, fDP, fEN, fAN, aSup, aCpx, aCpy, aCr, aIns, aCls, aHd, aCtx, aPx, aPy, aR, aSz, aWd, aTk, aTn, aTt, aTj, aTs, aFl, aEl, aOt, aOk, aKd, aKt, aCal, aFd, aFt, aFc, aFp, aFh, aFx, aFy, aVl) (nI dl, nI cl, nI pl, nI nc, nI nd, fCK, fED, fEP, yAt, fH, fO, fAX, fAY, fLV, fRS, fLT, ySp, yDp, yEn, fNK, yRk, aSup, aCpx, aCpy, aCr, aPx, aPy, aR, aCtx, aCls, aHd, aSz, yWd, aTk, aTn, aTt, aTs, aFl, aOt, yVl, yFx, yFy, yFk, yFp, yKl) := rl_in R
  have H : (sr_H nc nd aSup aIns aCls aHd aCtx) := R.2.1.1
  have h12 := H.2.1
  obtain ⟨_, _, _, cl24, _, _, _⟩ := R.1
  rcases R.2.2.2.2 with ⟨p0, n0⟩ | ⟨p1, _, nk, rk, q1, q2, q3, q4, q5, q6, P, _⟩
  · subst n0
    exact br_t p0 (fk_y (nk := 0) (aKd := aKd) (aKt := aKt) (by omega) (fun j hj => absurd hj (by omega)) (fun j hj => absurd hj (by omega)) (fun _ => ⟨rfl, R'⟩))
  · have p2 : ¬ fHP = 0 := by rw [p1]; decide
    subst q3
    refine br_f p2 (fk_x (by omega) (fun j hj e1 e2 e3 => ?_) (fun e => ?_))
    · refine fk_y (by omega) (fun j hj => (fk_K h12 P j hj).2) (fun j' hj' e1' e2' e3' => ⟨?_, R'⟩) (fun e => absurd ⟨e1, e2⟩ (e j hj))
      rcases Nat.lt_trichotomy j j' with z | z | z
      · exact absurd ⟨e1, e2⟩ (e3' j z)
      · rw [z]
      · exact absurd ⟨e1', e2'⟩ (e3 j' z)
    · exact fk_y (by omega) (fun j hj => (fk_K h12 P j hj).2) (fun j' hj' e1' e2' e3' => absurd ⟨e1', e2'⟩ (e j' hj')) (fun _ => ⟨rfl, R'⟩)
theorem i_vc_info {k : Nat} {u : SX} {v : SY} (I : i_Rel k u v) (hk : k + 5 ≤ 2563) (v1 : Int32) : wpX_info (fun r => wpY_info (fun r' => r' = r ∧ i_Rel (k + 5) u v) v v1) u v1 := by
  refine rl_el (P := fun u v => wpX_info (fun r => wpY_info (fun r' => r' = r ∧ i_Rel (k + 5) u v) v v1) u v1) ?_ I
  intro dl cl pl nc nd fCK fED fEP fH fO fHP fNK fRC fTD fTT fAX fAY fRS fLV fLT fDP fEN fAN aSup aCpx aCpy aCr aIns aCls aHd aCtx aPx aPy aR aSz aWd aTk aTn aTt aTj aTs aFl aEl aOt aOk aKd aKt aCal aFd aFt aFc aFp aFh aFx aFy aVl yAt ySp yDp yEn yRk yWd yVl yFx yFy yFk yFp yKl R
  have R' : i_Rel (k + 5) (nI dl, nI cl, nI pl, nI nc, nI nd, fCK, fED, fEP, fH, fO, fHP, fNK, fRC, fTD, fTT, fAX, fAY, fRS, fLV, fLT, fDP, fEN, fAN, aSup, aCpx, aCpy, aCr, aIns, aCls, aHd, aCtx, aPx, aPy, aR, aSz, aWd, aTk, aTn, aTt, aTj, aTs, aFl, aEl, aOt, aOk, aKd, aKt, aCal, aFd, aFt, aFc, aFp, aFh, aFx, aFy, aVl) (nI dl, nI cl, nI pl, nI nc, nI nd, fCK, fED, fEP, yAt, fH, fO, fAX, fAY, fLV, fRS, fLT, ySp, yDp, yEn, fNK, yRk, aSup, aCpx, aCpy, aCr, aPx, aPy, aR, aCtx, aCls, aHd, aSz, yWd, aTk, aTn, aTt, aTs, aFl, aOt, yVl, yFx, yFy, yFk, yFp, yKl) := rl_in R
  have H : (sr_H nc nd aSup aIns aCls aHd aCtx) := R.2.1.1
  have h12 := H.2.1
  obtain ⟨_, _, _, cl24, _, _, _⟩ := R.1
  rcases pk_ix v1 (n := 12) (by omega) with z | z | ⟨j, hj, rfl⟩
  · have e := fd_lt z
    refine br_t z ?_
    exact br_f (e 0 (by omega)).1 (br_f (e 1 (by omega)).1 (br_f (e 2 (by omega)).1 (br_f (e 3 (by omega)).1 (br_f (e 4 (by omega)).1 (br_f (e 5 (by omega)).1 (br_f (e 6 (by omega)).1 (br_f (e 7 (by omega)).1 (br_f (e 8 (by omega)).1 (br_f (e 9 (by omega)).1 (br_f (e 10 (by omega)).1 (br_f (e 11 (by omega)).1 ⟨rfl, R'⟩)))))))))))
  · have e := fd_ge (by omega) z 12 (by omega) (by omega)
    have f := e.2.2.2
    refine br_f e.1 (br_t e.2.1 ?_)
    exact br_f (f 0 (by omega)) (br_f (f 1 (by omega)) (br_f (f 2 (by omega)) (br_f (f 3 (by omega)) (br_f (f 4 (by omega)) (br_f (f 5 (by omega)) (br_f (f 6 (by omega)) (br_f (f 7 (by omega)) (br_f (f 8 (by omega)) (br_f (f 9 (by omega)) (br_f (f 10 (by omega)) (br_f (f 11 (by omega)) ⟨rfl, R'⟩)))))))))))
  · rcases (show j = 0 ∨ j = 1 ∨ j = 2 ∨ j = 3 ∨ j = 4 ∨ j = 5 ∨ j = 6 ∨ j = 7 ∨ j = 8 ∨ j = 9 ∨ j = 10 ∨ j = 11 by omega) with rfl | rfl | rfl | rfl | rfl | rfl | rfl | rfl | rfl | rfl | rfl | rfl
    · exact br_f (by decide) (br_f (by decide) (br_t rfl (br_t rfl ⟨rfl, R'⟩)))
    · exact br_f (by decide) (br_f (by decide) (br_f (by decide) (br_t rfl (br_f (by decide) (br_t rfl ⟨rfl, R'⟩)))))
    · refine br_f (by decide) (br_f (by decide) (br_f (by decide) (br_f (by decide) (br_t rfl ?_))))
      by_cases z : fCK = 0
      · exact br_t z (br_f (by decide) (br_f (by decide) (br_t rfl (br_t z ⟨rfl, R'⟩))))
      · exact br_f z (br_f (by decide) (br_f (by decide) (br_t rfl (br_f z ⟨rfl, R'⟩))))
    · exact br_f (by decide) (br_f (by decide) (br_f (by decide) (br_f (by decide) (br_f (by decide) (br_t rfl (br_f (by decide) (br_f (by decide) (br_f (by decide) (br_t rfl ⟨rfl, R'⟩)))))))))
    · exact br_f (by decide) (br_f (by decide) (br_f (by decide) (br_f (by decide) (br_f (by decide) (br_f (by decide) (br_t rfl (br_f (by decide) (br_f (by decide) (br_f (by decide) (br_f (by decide) (br_t rfl ⟨rfl, R'⟩)))))))))))
    · exact br_f (by decide) (br_f (by decide) (br_f (by decide) (br_f (by decide) (br_f (by decide) (br_f (by decide) (br_f (by decide) (br_t rfl (br_f (by decide) (br_f (by decide) (br_f (by decide) (br_f (by decide) (br_f (by decide) (br_t rfl ⟨rfl, R'⟩)))))))))))))
    · exact br_f (by decide) (br_f (by decide) (br_f (by decide) (br_f (by decide) (br_f (by decide) (br_f (by decide) (br_f (by decide) (br_f (by decide) (br_t rfl (br_f (by decide) (br_f (by decide) (br_f (by decide) (br_f (by decide) (br_f (by decide) (br_f (by decide) (br_t rfl ⟨rfl, R'⟩)))))))))))))))
    · refine br_f (by decide) (br_f (by decide) (br_f (by decide) (br_f (by decide) (br_f (by decide) (br_f (by decide) (br_f (by decide) (br_f (by decide) (br_f (by decide) (br_t rfl ?_)))))))))
      rcases R.2.2.2.2 with ⟨p0, n0⟩ | ⟨p1, _⟩
      · exact br_t p0 (br_f (by decide) (br_f (by decide) (br_f (by decide) (br_f (by decide) (br_f (by decide) (br_f (by decide) (br_f (by decide) (br_t rfl ⟨n0, R'⟩))))))))
      · exact br_f (by rw [p1]; decide) (br_f (by decide) (br_f (by decide) (br_f (by decide) (br_f (by decide) (br_f (by decide) (br_f (by decide) (br_f (by decide) (br_t rfl ⟨rfl, R'⟩))))))))
    · refine br_f (by decide) (br_f (by decide) (br_f (by decide) (br_f (by decide) (br_f (by decide) (br_f (by decide) (br_f (by decide) (br_f (by decide) (br_f (by decide) (br_f (by decide) (br_t rfl ?_))))))))))
      rcases R.2.2.2.2 with ⟨p0, n0⟩ | ⟨p1, _, nk, rk, q1, q2, q3, q4, q5, q6, P, Q, _⟩
      · subst n0
        exact br_t p0 (br_f (by decide) (br_f (by decide) (br_f (by decide) (br_f (by decide) (br_f (by decide) (br_f (by decide) (br_f (by decide) (br_f (by decide) (br_t rfl ⟨ty_K, ty_K, fk_y (nk := 0) (aKd := aKd) (aKt := aKt) (by omega) (fun j hj => absurd hj (by omega)) (fun j hj => absurd hj (by omega)) (fun _ => ⟨rfl, R'⟩)⟩)))))))))
      · have p2 : ¬ fHP = 0 := by rw [p1]; decide
        subst q3 q4 q5
        obtain ⟨⟨k1, k2⟩, _⟩ := fk_K h12 P rk q2
        refine br_f p2 (br_f (by decide) (br_f (by decide) (br_f (by decide) (br_f (by decide) (br_f (by decide) (br_f (by decide) (br_f (by decide) (br_f (by decide) (br_t rfl ⟨ty_K, ty_K, ?_⟩)))))))))
        rw [ky_m (by omega) k2, ky_d (by omega) k2]
        obtain ⟨g1, g2, _⟩ := P rk q2
        refine fk_y (by omega) (fun j hj => (fk_K h12 P j hj).2) (fun j hj e1 e2 _ => ⟨?_, R'⟩) (fun e => absurd ⟨g1, g2⟩ (e rk q2))
        obtain ⟨g3, g4, _⟩ := P j hj
        obtain ⟨⟨k3, k4⟩, _⟩ := fk_K h12 P j hj
        rw [Q j rk hj q2 ((nI_eq (by omega) (by omega)).mp (g3.symm.trans e1)) ((nI_eq (by omega) (by omega)).mp (g4.symm.trans e2))]
    · exact br_f (by decide) (br_f (by decide) (br_f (by decide) (br_f (by decide) (br_f (by decide) (br_f (by decide) (br_f (by decide) (br_f (by decide) (br_f (by decide) (br_f (by decide) (br_f (by decide) (br_t rfl (br_f (by decide) (br_f (by decide) (br_f (by decide) (br_f (by decide) (br_f (by decide) (br_f (by decide) (br_f (by decide) (br_f (by decide) (br_f (by decide) (br_t rfl ⟨rfl, R'⟩)))))))))))))))))))))
    · exact br_f (by decide) (br_f (by decide) (br_f (by decide) (br_f (by decide) (br_f (by decide) (br_f (by decide) (br_f (by decide) (br_f (by decide) (br_f (by decide) (br_f (by decide) (br_f (by decide) (br_f (by decide) (br_t rfl (br_f (by decide) (br_f (by decide) (br_f (by decide) (br_f (by decide) (br_f (by decide) (br_f (by decide) (br_f (by decide) (br_f (by decide) (br_f (by decide) (br_f (by decide) (br_t rfl ⟨rfl, R'⟩)))))))))))))))))))))))
    · exact br_f (by decide) (br_f (by decide) (br_f (by decide) (br_f (by decide) (br_f (by decide) (br_f (by decide) (br_f (by decide) (br_f (by decide) (br_f (by decide) (br_f (by decide) (br_f (by decide) (br_f (by decide) (br_f (by decide) (br_t rfl (br_f (by decide) (br_f (by decide) (br_f (by decide) (br_f (by decide) (br_f (by decide) (br_f (by decide) (br_f (by decide) (br_f (by decide) (br_f (by decide) (br_f (by decide) (br_f (by decide) (br_t rfl ⟨rfl, R'⟩)))))))))))))))))))))))))
end
section
/-! 38: cloneCallee, runSpecialised -/
section
variable {dl cl pl nc nd : Nat} {fCK fED fEP fH fO fHP fNK fRC fTD fTT : Int32} {fAX fAY : Int64} {fRS : Int32} {fLV : Int64} {fLT fDP fEN : Int32} {fAN : Int64} {aSup aCpx aCpy aCr aIns aCls aHd aCtx aPx aPy aR aSz aWd aTk aTn aTt aTj aTs aFl aEl aOt aOk aKd aKt aCal aFd aFt aFc aFp aFh : Nat → Int32} {aFx aFy aVl : Nat → Int64} {yAt ySp yDp yEn yRk : Int32} {yWd : Nat → Int32} {yVl yFx yFy : Nat → Int64} {yFk yFp yKl : Nat → Int32} {nk : Nat}
/-- a call of a key of the program: its target -/
theorem pc_t (S : (sr nc nd aSup aCpx aCpy aCr aIns aCls aHd aCtx aPx aPy aR aSz aTk aTn)) (C : (ck nc nd aSup aCpx aCpy aCr aIns aCls aHd aCtx aPx aPy aR aSz aWd yWd aTk aTn aTt aTj)) {k i : Nat} (K : kq_K nd aSup aIns aHd aCtx (mk_v (aKd k)) (mk_v (aKt k))) (F : mk_v (aWd (mk_v (aKd k))) + kq_n 7 (mk_v (aKt k)) ≤ 7) (hi : i < mk_v (aSz (mk_v (aKd k)))) (k17 : 17 ≤ wt_k aTk (mk_v (aKd k)) i) : ∃ d' s', d' < nd ∧ s' < 2097152 ∧ kq_K nd aSup aIns aHd aCtx d' s' ∧ kt_W nc aIns aTk aTn aTt (mk_v (aKd k)) (mk_v (aKt k)) i d' s' ∧ kq_t aIns aTk aTn aTt (mk_v (aKd k)) (mk_v (aKt k)) i = (d', s') := by
  obtain ⟨hd, ls, es, e, kk⟩ := K
  have h12 := S.1.2.1
  obtain ⟨W, w6, e1, _, Ht, Ty, Op, B⟩ := C.2 _ hd
  rw [e] at F ⊢
  rw [e1, mk_vn (by omega)] at F
  obtain ⟨d', ls', es', hd', K', A, _⟩ := kt_t S C.1 hd B.1 hi k17 kk F
  exact ⟨d', ty_e ls' es', hd', kx_s21 K', ⟨hd', ls', es', rfl, K'⟩, A, kt_w S.1.1 (by omega) A⟩
end
theorem i_vc_cloneCallee {k : Nat} {u : SX} {v : SY} (I : i_Rel k u v) (hk : k + 5 ≤ 2563) (v1 : Int32) (v2 : Int32) : wpX_cloneCallee (fun r => wpY_cloneCallee (fun r' => r' = r ∧ i_Rel (k + 5) u v) v v1 v2) u v1 v2 := by
  refine rl_el (P := fun u v => wpX_cloneCallee (fun r => wpY_cloneCallee (fun r' => r' = r ∧ i_Rel (k + 5) u v) v v1 v2) u v1 v2) ?_ I
  intro dl cl pl nc nd fCK fED fEP fH fO fHP fNK fRC fTD fTT fAX fAY fRS fLV fLT fDP fEN fAN aSup aCpx aCpy aCr aIns aCls aHd aCtx aPx aPy aR aSz aWd aTk aTn aTt aTj aTs aFl aEl aOt aOk aKd aKt aCal aFd aFt aFc aFp aFh aFx aFy aVl yAt ySp yDp yEn yRk yWd yVl yFx yFy yFk yFp yKl R
  have R' : i_Rel (k + 5) (nI dl, nI cl, nI pl, nI nc, nI nd, fCK, fED, fEP, fH, fO, fHP, fNK, fRC, fTD, fTT, fAX, fAY, fRS, fLV, fLT, fDP, fEN, fAN, aSup, aCpx, aCpy, aCr, aIns, aCls, aHd, aCtx, aPx, aPy, aR, aSz, aWd, aTk, aTn, aTt, aTj, aTs, aFl, aEl, aOt, aOk, aKd, aKt, aCal, aFd, aFt, aFc, aFp, aFh, aFx, aFy, aVl) (nI dl, nI cl, nI pl, nI nc, nI nd, fCK, fED, fEP, yAt, fH, fO, fAX, fAY, fLV, fRS, fLT, ySp, yDp, yEn, fNK, yRk, aSup, aCpx, aCpy, aCr, aPx, aPy, aR, aCtx, aCls, aHd, aSz, yWd, aTk, aTn, aTt, aTs, aFl, aOt, yVl, yFx, yFy, yFk, yFp, yKl) := rl_in R
  have S : (sr nc nd aSup aCpx aCpy aCr aIns aCls aHd aCtx aPx aPy aR aSz aTk aTn) := R.2.1
  have H : (sr_H nc nd aSup aIns aCls aHd aCtx) := S.1
  have h12 := H.2.1
  obtain ⟨_, _, _, cl24, _, _, _⟩ := R.1
  rcases R.2.2.2.2 with ⟨p0, n0⟩ | ⟨p1, c1, nk, rk, q1, q2, q3, q4, q5, q6, P, Q, L⟩
  · refine br_t p0 (br_t rfl ?_)
    by_cases z : v1 < 0
    · exact br_t z ⟨rfl, R'⟩
    · refine br_f z (br_f ?_ ⟨rfl, R'⟩)
      rw [n0]; exact z
  · have p2 : ¬ fHP = 0 := by rw [p1]; decide
    have C : (ck nc nd aSup aCpx aCpy aCr aIns aCls aHd aCtx aPx aPy aR aSz aWd yWd aTk aTn aTt aTj) := R.2.2.2.1 c1
    subst q3
    refine br_f p2 ?_
    rcases pk_ix v1 (n := nk) (by omega) with z | z | ⟨j, hj, rfl⟩
    · exact br_t z (br_t rfl (br_t z ⟨rfl, R'⟩))
    · by_cases y : v1 < 0
      · exact br_t y (br_t rfl (br_t y ⟨rfl, R'⟩))
      · exact br_f y (br_t z (br_t rfl (br_f y (br_f (Int32.not_lt.mpr z) ⟨rfl, R'⟩))))
    · have n0 : ¬ nI j < 0 := nI_pos (by omega)
      have n1 : ¬ nI nk ≤ nI j := nI_ge hj (by omega)
      have n2 : nI j < nI nk := nI_lt hj (by omega)
      have vx := vp_in_nI (n := j) (N := 24) (by omega) (by decide)
      have vy := vp_in_nI (n := j) (N := 25) (by omega) (by decide)
      have cj := nI_clamp (n := j) (by omega)
      obtain ⟨⟨kd, ks⟩, k1, k2⟩ := fk_K h12 P j hj
      obtain ⟨g1, g2, g3, g4, g5⟩ := P j hj
      obtain ⟨N, N20, eN, kinds⟩ := S.2.2.2 _ kd
      have mN : mk_v (aSz (mk_v (aKd j))) = N := by rw [eN, mk_vn (by omega)]
      have Lj := L j
      generalize ed : mk_v (aKd j) = d at *
      generalize es : mk_v (aKt j) = s at *
      have vd := vp_in_nI (n := d) (N := 12) (by omega) (by decide)
      have cd := nI_clamp (n := d) (by omega)
      have eX : aKd (nI j).toNatClampNeg = nI d := by rw [cj]; exact g1
      have eY : yKl (nI j).toNatClampNeg / 2097152 = nI d := by rw [cj, k1]; exact g1
      refine br_f n0 (br_f n1 (br_f (by decide) ?_))
      by_cases z : v2 < 0
      · exact br_t z (br_f n0 (br_t n2 ⟨vy, ty_K, nm_r eY (br_t z ⟨rfl, R'⟩)⟩))
      · obtain ⟨i, hi31, rfl⟩ := nI_of z
        refine br_f z ⟨vx, ?_⟩
        rw [eX, cd, eN]
        by_cases hi : i < N
        · obtain ⟨t, t18, et, _⟩ := kinds i hi
          have tt := kx_k t18 et
          have h1 := nI_lt hi (by omega)
          have cw := nI_clamp (n := 20 * j + i) (by omega)
          have cv := nI_clamp (n := 20 * d + i) (by omega)
          have vz := vp_in_nI (n := 20 * d + i) (N := 240) (by omega) (by decide)
          refine ⟨vd, br_t h1 ?_⟩
          rw [sm_20x, cw]
          refine ⟨vp_in_nI (by omega) (by decide), ?_⟩
          obtain ⟨L1, L2⟩ := Lj i hj (by rw [mN]; exact hi)
          refine br_f n0 (br_t n2 ⟨vy, ty_K, nm_r eY (br_f z ⟨vd, ?_⟩)⟩)
          rw [cd, eN, sm_20y, cv, et]
          refine br_f (nI_ge hi (by omega)) ⟨vz, ?_⟩
          rw [tt] at L1 L2
          by_cases t17 : 17 ≤ t
          · refine br_t (nI_le (a := 17) t17 (by omega)) ⟨vy, ?_⟩
            obtain ⟨m, m1, m2, m3⟩ := L2 t17
            obtain ⟨d', s', hd', hs', _, A, et'⟩ := pc_t (aKd := aKd) (aKt := aKt) (aWd := aWd) (yWd := yWd) (aTj := aTj) S C (k := j) (i := i) (by rw [ed, es]; exact g4) (by rw [ed, es]; exact g5) (by rw [ed, mN]; exact hi) (by rw [ed, tt]; exact t17)
            rw [ed, es] at A et'
            rw [et'] at m3
            obtain ⟨m4, m5⟩ := Prod.mk.inj m3
            rw [cj, g3]
            refine ky_tg H (by omega) (by omega) ks t18 et hd' A ⟨ty_K, ty_K, ?_⟩
            rw [ky_m (by omega) hs', ky_d (by omega) hs']
            obtain ⟨f1, f2, _⟩ := P m m1
            rw [m4] at f1
            rw [m5] at f2
            refine fk_y (by omega) (fun j hj => (fk_K h12 P j hj).2) (fun x hx e1 e2 _ => ⟨?_, R'⟩) (fun e => absurd ⟨f1, f2⟩ (e m m1))
            obtain ⟨f3, f4, _⟩ := P x hx
            obtain ⟨⟨f5, f6⟩, _⟩ := fk_K h12 P x hx
            rw [m2, Q x m hx m1 (by rw [m4]; exact (nI_eq (by omega) (by omega)).mp (f3.symm.trans e1)) (by rw [m5]; exact (nI_eq (by omega) (by omega)).mp (f4.symm.trans e2))]
          · exact br_f (nI_ge (a := t) (b := 17) (by omega) (by decide)) ⟨(L1 (by omega)).symm, R'⟩
        · have h1 := nI_nlt (a := i) (b := N) (by omega) (by omega)
          refine ⟨vd, br_f h1 ?_⟩
          refine br_f n0 (br_t n2 ⟨vy, ty_K, nm_r eY (br_f z ⟨vd, ?_⟩)⟩)
          rw [cd, eN]
          exact br_t (nI_le (by omega) (by omega)) ⟨rfl, R'⟩
section
variable {dl cl pl nc nd : Nat} {fCK fED fEP fH fO fHP fNK fRC fTD fTT : Int32} {fAX fAY : Int64} {fRS : Int32} {fLV : Int64} {fLT fDP fEN : Int32} {fAN : Int64} {aSup aCpx aCpy aCr aIns aCls aHd aCtx aPx aPy aR aSz aWd aTk aTn aTt aTj aTs aFl aEl aOt aOk aKd aKt aCal aFd aFt aFc aFp aFh : Nat → Int32} {aFx aFy aVl : Nat → Int64} {yAt ySp yDp yEn yRk : Int32} {yWd : Nat → Int32} {yVl yFx yFy : Nat → Int64} {yFk yFp yKl : Nat → Int32} {f e : Nat} {l : List Bool}
theorem jr_ok (H : (sr_H nc nd aSup aIns aCls aHd aCtx)) (hf : f < nd) (hc : aCls f = -1) (g1 : 1 ≤ e) (g2 : e ≤ 2) (gl : l.length ≤ 6) (hH : mk_H aIns aCtx aSup 0 (mk_v (aCtx f)) l e) (c1 : fCK = 1) {post : Int32 → Prop} (hp : post 0) : wpY_refusal post (nI dl, nI cl, nI pl, nI nc, nI nd, fCK, fED, fEP, yAt, fH, fO, fAX, fAY, fLV, fRS, fLT, ySp, yDp, yEn, fNK, yRk, aSup, aCpx, aCpy, aCr, aPx, aPy, aR, aCtx, aCls, aHd, aSz, yWd, aTk, aTn, aTt, aTs, aFl, aOt, yVl, yFx, yFy, yFk, yFp, yKl) (nI f) (nI (ty_e l e)) := by
  have h12 := H.2.1
  have vf := vp_in_nI (n := f) (N := 12) (by omega) (by decide)
  have cf := nI_clamp (n := f) (by omega)
  have cx := mk_ctx H hf
  have hh : aHd f = -1 := by
    rcases H.2.2.2.2.1 f hf with ⟨_, z⟩ | ⟨c, h, _, _, q3, _⟩
    · exact z
    · rw [hc] at q3
      exact absurd q3.symm (sr_ne (by have := H.1; omega))
  refine br_f (by rw [c1]; decide) (br_f (nI_pos (by omega)) (br_f (nI_ge hf (by omega)) ⟨vf, br_t (by rw [cf]; exact hh) (sm_tuT _ (k := 6) (by omega) ⟨l, e, g1, by omega, gl, rfl⟩ (br_f (by decide) (tx_gr _ g1 (by omega) gl (fun z => by omega) (fun _ => br_f (by decide) ⟨vf, ?_⟩))))⟩))
  rw [show aCtx (nI f).toNatClampNeg = nI (mk_v (aCtx f)) by rw [cf]; exact cx.1]
  exact wh_Y H (m := 0) (Nat.two_pow_pos nc) cx.2 g1 (by omega) gl (fun z => br_f (by decide) hp) (fun z => absurd hH z)
end
theorem i_vc_runSpecialised {k : Nat} {u : SX} {v : SY} (I : i_Rel k u v) (hk : k + 5 ≤ 2563) : wpX_runSpecialised (fun r u' => wpY_runSpecialised (fun r' v' => r' = r ∧ i_Rel (k + 5) u' v') v) u := by
  refine rl_el (P := fun u v => wpX_runSpecialised (fun r u' => wpY_runSpecialised (fun r' v' => r' = r ∧ i_Rel (k + 5) u' v') v) u) ?_ I
  intro dl cl pl nc nd fCK fED fEP fH fO fHP fNK fRC fTD fTT fAX fAY fRS fLV fLT fDP fEN fAN aSup aCpx aCpy aCr aIns aCls aHd aCtx aPx aPy aR aSz aWd aTk aTn aTt aTj aTs aFl aEl aOt aOk aKd aKt aCal aFd aFt aFc aFp aFh aFx aFy aVl yAt ySp yDp yEn yRk yWd yVl yFx yFy yFk yFp yKl R
  have S : (sr nc nd aSup aCpx aCpy aCr aIns aCls aHd aCtx aPx aPy aR aSz aTk aTn) := R.2.1
  have H : (sr_H nc nd aSup aIns aCls aHd aCtx) := S.1
  have h12 := H.2.1
  obtain ⟨_, _, _, cl24, pl2, pl16, _⟩ := R.1
  rcases R.2.2.2.2 with ⟨p0, n0⟩ | ⟨p1, c1, nk, rk, q1, q2, q3, q4, q5, q6, P, Q, L⟩
  · exact br_t p0 (br_t n0 ⟨rfl, rl_in R⟩)
  · have p2 : ¬ fHP = 0 := by rw [p1]; decide
    have C : (ck nc nd aSup aCpx aCpy aCr aIns aCls aHd aCtx aPx aPy aR aSz aWd yWd aTk aTn aTt aTj) := R.2.2.2.1 c1
    have vr := vp_in_nI (n := rk) (N := 24) (by omega) (by decide)
    have cr := nI_clamp (n := rk) (by omega)
    obtain ⟨⟨kd, ks⟩, k1, k2⟩ := fk_K h12 P rk q2
    obtain ⟨g1, g2, g3, ⟨g4, l, e, ge, kk⟩, g5⟩ := P rk q2
    have k0 : ¬ fNK = 0 := by rw [q3]; exact nI_ne0 (by omega) (by omega)
    have MD : md_M aSz aWd aTk aIns aTn aTt aKd aKt aCal nI (fun c d s => c < nk ∧ mk_v (aKd c) = d ∧ mk_v (aKt c) = s) := Or.inr ⟨nk, ⟨by omega, fun x hx => ⟨(P x hx).1, (P x hx).2.1, (P x hx).2.2.2.2, fun i hi h17 => (L x i hx hi).2 h17⟩⟩, fun _ => rfl, fun _ _ _ => Iff.rfl⟩
    have xKd : aKd fRC.toNatClampNeg = nI (mk_v (aKd rk)) := by rw [q4, cr]; exact g1
    have xKt : aKt fRC.toNatClampNeg = nI (mk_v (aKt rk)) := by rw [q4, cr]; exact g2
    have yD : yRk / 2097152 = nI (mk_v (aKd rk)) := by rw [q5]; exact ky_d (by omega) ks
    have yM : yRk - yRk / 2097152 * 2097152 = nI (mk_v (aKt rk)) := by rw [q5]; exact ky_m (by omega) ks
    generalize edd : mk_v (aKd rk) = d at *
    generalize ess : mk_v (aKt rk) = s at *
    subst ge
    rcases kk with ⟨z, _⟩ | ⟨z, s1, s2, sl, hH⟩
    · rcases H.2.2.2.2.1 d g4 with ⟨_, y⟩ | ⟨c, h, _, _, y, _⟩
      · rcases z with z | z
        · rw [y] at z; exact absurd z (by decide)
        · rw [y] at z; exact absurd z (by decide)
      · rw [q6] at y
        exact absurd y.symm (sr_ne (by have := H.1; omega))
    · have K : kq_k aSup aIns aHd aCtx d l e := Or.inr ⟨z, s1, s2, sl, hH⟩
      obtain ⟨W, w6, e1, e2, _⟩ := C.2 d g4
      have fit : W + kq_n 7 (ty_e l e) ≤ 7 := by
        rw [e1, mk_vn (by omega)] at g5
        exact g5
      obtain ⟨rC, vC, XP, YP⟩ := ex_main (cx := nI) (Mf := fun c d s => c < nk ∧ mk_v (aKd c) = d ∧ mk_v (aKt c) = s) (c := rk) (dl := dl) (cl := cl) (fCK := fCK) (fED := fED) (fEP := fEP) (fH := fH) (fO := fO) (fHP := fHP) (fNK := fNK) (fRC := fRC) (fAX := fAX) (fAY := fAY) (fRS := fRS) (fLV := fLV) (fLT := fLT) (aTs := aTs) (aFl := aFl) (aEl := aEl) (aOt := aOt) (aOk := aOk) (aKd := aKd) (aKt := aKt) (aCal := aCal) (yAt := yAt) (yRk := yRk) (yKl := yKl) S C MD pl16 pl2 g4 K s1 s2 sl e1 w6 fit ⟨q2, edd, ess⟩
      obtain ⟨rt, FX, FY⟩ := ex_fin (dl := dl) (cl := cl) (pl := pl) (fCK := fCK) (fED := fED) (fEP := fEP) (fH := fH) (fO := fO) (fHP := fHP) (fNK := fNK) (fRC := fRC) (fAX := fAX) (fAY := fAY) (fRS := fRS) (fLV := fLV) (fLT := fLT) (aTs := aTs) (aFl := aFl) (aEl := aEl) (aOt := aOt) (aOk := aOk) (aKd := aKd) (aKt := aKt) (aCal := aCal) (yAt := yAt) (yRk := yRk) (yKl := yKl) S C g4 s1 s2 sl e1 w6 fit
      have vR : vp_in fRC 24 := by rw [q4]; exact vr
      refine br_f p2 ⟨vR, nm_r xKd ⟨vR, nm_r xKt ?_⟩⟩
      have XP' := fun (post : Int32 → SX → Prop) => XP fTD fTT fDP fEN fAN aFd aFt aFc aFp aFh aFx aFy aVl post
      rw [← q4] at XP'
      refine XP' _ ?_
      intro fTD fTT fDP fEN fAN aFd aFt aFc aFp aFh aFx aFy aVl hAN
      dsimp only
      have Y : ∀ (post : Int32 → SY → Prop), (∀ (ySp yDp yEn : Int32) (yVl yFx yFy : Nat → Int64) (yFk yFp : Nat → Int32), (rC = 0 → yVl 0 = lN vC) → ((rC = 0 → wY_run_41 post (nI d) (nI (ty_e l e)) (yVl 0) (nI dl) (nI cl) (nI pl) (nI nc) (nI nd) fCK fED fEP yAt fH fO fAX fAY fLV rC fLT ySp yDp yEn fNK yRk aSup aCpx aCpy aCr aPx aPy aR aCtx aCls aHd aSz yWd aTk aTn aTt aTs aFl aOt yVl yFx yFy yFk yFp yKl) ∧ (¬ rC = 0 → wY_run_41 post (nI d) (nI (ty_e l e)) 0 (nI dl) (nI cl) (nI pl) (nI nc) (nI nd) fCK fED fEP yAt fH fO fAX fAY fLV rC fLT ySp yDp yEn fNK yRk aSup aCpx aCpy aCr aPx aPy aR aCtx aCls aHd aSz yWd aTk aTn aTt aTs aFl aOt yVl yFx yFy yFk yFp yKl))) → wpY_runSpecialised post (nI dl, nI cl, nI pl, nI nc, nI nd, fCK, fED, fEP, yAt, fH, fO, fAX, fAY, fLV, fRS, fLT, ySp, yDp, yEn, fNK, yRk, aSup, aCpx, aCpy, aCr, aPx, aPy, aR, aCtx, aCls, aHd, aSz, yWd, aTk, aTn, aTt, aTs, aFl, aOt, yVl, yFx, yFy, yFk, yFp, yKl) := by
        intro post hp
        refine br_f k0 ⟨ty_K, ty_K, ?_⟩
        rw [yM, yD]
        unfold wpY_run
        dsimp only
        exact jr_ok H g4 q6 s1 s2 sl hH c1 (br_t rfl (YP _ _ _ _ _ _ _ _ _ hp))
      refine FX fTD fTT fDP fEN fAN aFd aFt aFc aFp aFh aFx aFy aVl rC _ (fun h => ?_) (fun h => ?_)
      · refine Y _ ?_
        intro ySp yDp yEn yVl yFx yFy yFk yFp hV
        refine br_t h (FY ySp yDp yEn yVl yFx yFy yFk yFp rC (yVl 0) _ (fun _ => ⟨rfl, ?_⟩) (fun z => absurd h z))
        rw [hAN h, hV h]
        exact rl_in R
      · refine Y _ ?_
        intro ySp yDp yEn yVl yFx yFy yFk yFp hV
        exact br_f h (FY ySp yDp yEn yVl yFx yFy yFk yFp rC 0 _ (fun z => absurd z h) (fun _ => ⟨rfl, rl_in R⟩))
end
section
/-! 39: specialise: the search for keys, pure -/
def bf_a (ks : List (Nat × Nat)) (k : Nat × Nat) : List (Nat × Nat) := if k ∈ ks ∨ 25 ≤ ks.length then ks else ks ++ [k]
def bf_x (aIns aTk aTn aTt : Nat → Int32) (d s : Nat) : Nat → Nat → List (Nat × Nat) → List (Nat × Nat)
  | 0, _, ks => ks
  | m + 1, i, ks => bf_x aIns aTk aTn aTt d s m (i + 1) (if 17 ≤ wt_k aTk d i then bf_a ks (kq_t aIns aTk aTn aTt d s i) else ks)
def bf_f (aWd : Nat → Int32) (k : Nat × Nat) : Prop := mk_v (aWd k.1) + kq_n 7 k.2 ≤ 7
theorem bf_fd (aWd : Nat → Int32) (k : Nat × Nat) : bf_f aWd k ∨ ¬ bf_f aWd k := Classical.em _
def bf_s (aIns aTk aTn aTt aSz aWd : Nat → Int32) (k : Nat × Nat) (ks : List (Nat × Nat)) : List (Nat × Nat) := if mk_v (aWd k.1) + kq_n 7 k.2 ≤ 7 then bf_x aIns aTk aTn aTt k.1 k.2 (mk_v (aSz k.1)) 0 ks else ks
def bf_b (aIns aTk aTn aTt aSz aWd : Nat → Int32) : Nat → Nat → List (Nat × Nat) → List (Nat × Nat)
  | 0, _, ks => ks
  | m + 1, i, ks => bf_b aIns aTk aTn aTt aSz aWd m (i + 1) ((ks[i]?).elim ks (fun k => bf_s aIns aTk aTn aTt aSz aWd k ks))
/-- b goes on from a -/
def bf_p (a b : List (Nat × Nat)) : Prop := a.length ≤ b.length ∧ ∀ i, i < a.length → b[i]? = a[i]?
theorem bf_pr (a : List (Nat × Nat)) : bf_p a a := ⟨Nat.le_refl _, fun _ _ => rfl⟩
theorem bf_pt {a b c : List (Nat × Nat)} (h : bf_p a b) (g : bf_p b c) : bf_p a c := ⟨Nat.le_trans h.1 g.1, fun i hi => (g.2 i (Nat.lt_of_lt_of_le hi h.1)).trans (h.2 i hi)⟩
theorem bf_pl {a b : List (Nat × Nat)} (h : bf_p a b) {i : Nat} {k : Nat × Nat} (e : a[i]? = some k) : b[i]? = some k := by
  obtain ⟨hi, _⟩ := List.getElem?_eq_some_iff.mp e
  rw [h.2 i hi]
  exact e
theorem bf_pm {a b : List (Nat × Nat)} (h : bf_p a b) {k : Nat × Nat} (e : k ∈ a) : k ∈ b := by
  obtain ⟨i, hi⟩ := List.mem_iff_getElem?.mp e
  exact List.mem_iff_getElem?.mpr ⟨i, bf_pl h hi⟩
theorem bf_ap (ks : List (Nat × Nat)) (k : Nat × Nat) : bf_p ks (bf_a ks k) := by
  unfold bf_a
  split
  · exact bf_pr ks
  · refine ⟨by rw [List.length_append]; omega, fun i hi => List.getElem?_append_left hi⟩
theorem bf_a25 {ks : List (Nat × Nat)} (h : ks.length ≤ 25) (k : Nat × Nat) : (bf_a ks k).length ≤ 25 := by
  unfold bf_a
  split
  · exact h
  · next z =>
    rw [List.length_append]
    have : ¬ 25 ≤ ks.length := fun y => z (Or.inr y)
    show ks.length + 1 ≤ 25
    omega
theorem bf_am {ks : List (Nat × Nat)} {k x : Nat × Nat} (h : x ∈ bf_a ks k) : x ∈ ks ∨ x = k := by
  unfold bf_a at h
  split at h
  · exact Or.inl h
  · rcases List.mem_append.mp h with y | y
    · exact Or.inl y
    · exact Or.inr (List.mem_singleton.mp y)
theorem bf_ai {ks : List (Nat × Nat)} {k : Nat × Nat} (h : (bf_a ks k).length < 25) : k ∈ bf_a ks k := by
  unfold bf_a at h ⊢
  split
  · next z =>
    rw [if_pos z] at h
    rcases z with y | y
    · exact y
    · omega
  · exact List.mem_append.mpr (Or.inr (List.mem_singleton.mpr rfl))
/-- no key twice -/
def bf_j (ks : List (Nat × Nat)) : Prop := ∀ (i j : Nat) (k : Nat × Nat), ks[i]? = some k → ks[j]? = some k → i = j
theorem bf_aj {ks : List (Nat × Nat)} (h : bf_j ks) (k : Nat × Nat) : bf_j (bf_a ks k) := by
  unfold bf_a
  split
  · exact h
  · next z =>
    have nk : ¬ k ∈ ks := fun y => z (Or.inl y)
    intro i j x hi hj
    have A : ∀ i, (ks ++ [k])[i]? = some x → (i < ks.length ∧ ks[i]? = some x) ∨ (i = ks.length ∧ x = k) := by
      intro i hi
      rcases Nat.lt_or_ge i ks.length with y | y
      · rw [List.getElem?_append_left y] at hi
        exact Or.inl ⟨y, hi⟩
      · rw [List.getElem?_append_right y] at hi
        obtain ⟨y2, y3⟩ := List.getElem?_eq_some_iff.mp hi
        have y4 : i - ks.length < 1 := y2
        have y5 : i - ks.length = 0 := by omega
        refine Or.inr ⟨by omega, ?_⟩
        rw [y5] at hi
        exact (Option.some.inj hi).symm
    rcases A i hi with ⟨a1, a2⟩ | ⟨a1, a2⟩
    · rcases A j hj with ⟨b1, b2⟩ | ⟨b1, b2⟩
      · exact h i j x a2 b2
      · subst b2
        exact absurd (List.mem_iff_getElem?.mpr ⟨i, a2⟩) nk
    · rcases A j hj with ⟨b1, b2⟩ | ⟨b1, b2⟩
      · subst a2
        exact absurd (List.mem_iff_getElem?.mpr ⟨j, b2⟩) nk
      · omega
section
variable {aIns aTk aTn aTt aSz aWd : Nat → Int32} {d s : Nat}
theorem bf_xp : ∀ (m i : Nat) (ks : List (Nat × Nat)), bf_p ks (bf_x aIns aTk aTn aTt d s m i ks) := by
  intro m
  induction m with
  | zero => intro i ks; exact bf_pr ks
  | succ m ih =>
    intro i ks
    unfold bf_x
    split
    · exact bf_pt (bf_ap _ _) (ih _ _)
    · exact ih _ _
theorem bf_x25 : ∀ (m i : Nat) (ks : List (Nat × Nat)), ks.length ≤ 25 → (bf_x aIns aTk aTn aTt d s m i ks).length ≤ 25 := by
  intro m
  induction m with
  | zero => intro i ks h; exact h
  | succ m ih =>
    intro i ks h
    unfold bf_x
    split
    · exact ih _ _ (bf_a25 h _)
    · exact ih _ _ h
theorem bf_xm {Q : Nat × Nat → Prop} : ∀ (m i : Nat) (ks : List (Nat × Nat)), (∀ x, x ∈ ks → Q x) → (∀ j, i ≤ j → j < i + m → 17 ≤ wt_k aTk d j → Q (kq_t aIns aTk aTn aTt d s j)) → ∀ x, x ∈ bf_x aIns aTk aTn aTt d s m i ks → Q x := by
  intro m
  induction m with
  | zero => intro i ks h _; exact h
  | succ m ih =>
    intro i ks h ht
    unfold bf_x
    split
    · next z =>
      refine ih _ _ (fun x hx => ?_) (fun j h1 h2 h3 => ht j (by omega) (by omega) h3)
      rcases bf_am hx with y | y
      · exact h x y
      · rw [y]; exact ht i (Nat.le_refl _) (by omega) z
    · exact ih _ _ h (fun j h1 h2 h3 => ht j (by omega) (by omega) h3)
theorem bf_xj : ∀ (m i : Nat) (ks : List (Nat × Nat)), bf_j ks → bf_j (bf_x aIns aTk aTn aTt d s m i ks) := by
  intro m
  induction m with
  | zero => intro i ks h; exact h
  | succ m ih =>
    intro i ks h
    unfold bf_x
    split
    · exact ih _ _ (bf_aj h _)
    · exact ih _ _ h
theorem bf_xc : ∀ (m i : Nat) (ks : List (Nat × Nat)), (bf_x aIns aTk aTn aTt d s m i ks).length < 25 → ∀ j, i ≤ j → j < i + m → 17 ≤ wt_k aTk d j → kq_t aIns aTk aTn aTt d s j ∈ bf_x aIns aTk aTn aTt d s m i ks := by
  intro m
  induction m with
  | zero => intro i ks _ j h1 h2; omega
  | succ m ih =>
    intro i ks hl j h1 h2 h3
    have e : bf_x aIns aTk aTn aTt d s (m + 1) i ks = bf_x aIns aTk aTn aTt d s m (i + 1) (if 17 ≤ wt_k aTk d i then bf_a ks (kq_t aIns aTk aTn aTt d s i) else ks) := rfl
    rw [e] at hl ⊢
    by_cases y : j = i
    · subst y
      rw [if_pos h3] at hl ⊢
      have p := bf_xp (aIns := aIns) (aTk := aTk) (aTn := aTn) (aTt := aTt) (d := d) (s := s) m (j + 1) (bf_a ks (kq_t aIns aTk aTn aTt d s j))
      exact bf_pm p (bf_ai (by have := p.1; omega))
    · exact ih _ _ hl j (by omega) (by omega) h3
theorem bf_bn {m i : Nat} {ks : List (Nat × Nat)} (h : ks.length ≤ i) : bf_b aIns aTk aTn aTt aSz aWd m i ks = ks := by
  induction m generalizing i with
  | zero => rfl
  | succ m ih =>
    have e : ks[i]? = none := List.getElem?_eq_none h
    show bf_b aIns aTk aTn aTt aSz aWd m (i + 1) ((ks[i]?).elim ks _) = ks
    rw [e]
    exact ih (by omega)
theorem bf_bs {m i : Nat} {ks : List (Nat × Nat)} {k : Nat × Nat} (h : ks[i]? = some k) : bf_b aIns aTk aTn aTt aSz aWd (m + 1) i ks = bf_b aIns aTk aTn aTt aSz aWd m (i + 1) (bf_s aIns aTk aTn aTt aSz aWd k ks) := by
  show bf_b aIns aTk aTn aTt aSz aWd m (i + 1) ((ks[i]?).elim ks _) = _
  rw [h]
  rfl
theorem bf_sp (k : Nat × Nat) (ks : List (Nat × Nat)) : bf_p ks (bf_s aIns aTk aTn aTt aSz aWd k ks) := by
  unfold bf_s
  split
  · exact bf_xp _ _ _
  · exact bf_pr _
theorem bf_s25 (k : Nat × Nat) {ks : List (Nat × Nat)} (h : ks.length ≤ 25) : (bf_s aIns aTk aTn aTt aSz aWd k ks).length ≤ 25 := by
  unfold bf_s
  split
  · exact bf_x25 _ _ _ h
  · exact h
theorem bf_bp : ∀ (m i : Nat) (ks : List (Nat × Nat)), bf_p ks (bf_b aIns aTk aTn aTt aSz aWd m i ks) := by
  intro m
  induction m with
  | zero => intro i ks; exact bf_pr ks
  | succ m ih =>
    intro i ks
    rcases Nat.lt_or_ge i ks.length with z | z
    · rw [bf_bs (List.getElem?_eq_some_iff.mpr ⟨z, rfl⟩)]
      exact bf_pt (bf_sp _ _) (ih _ _)
    · rw [bf_bn z]
      exact bf_pr ks
theorem bf_b25 : ∀ (m i : Nat) (ks : List (Nat × Nat)), ks.length ≤ 25 → (bf_b aIns aTk aTn aTt aSz aWd m i ks).length ≤ 25 := by
  intro m
  induction m with
  | zero => intro i ks h; exact h
  | succ m ih =>
    intro i ks h
    rcases Nat.lt_or_ge i ks.length with z | z
    · rw [bf_bs (List.getElem?_eq_some_iff.mpr ⟨z, rfl⟩)]
      exact ih _ _ (bf_s25 _ h)
    · rw [bf_bn z]
      exact h
theorem bf_bj : ∀ (m i : Nat) (ks : List (Nat × Nat)), bf_j ks → bf_j (bf_b aIns aTk aTn aTt aSz aWd m i ks) := by
  intro m
  induction m with
  | zero => intro i ks h; exact h
  | succ m ih =>
    intro i ks h
    rcases Nat.lt_or_ge i ks.length with z | z
    · rw [bf_bs (List.getElem?_eq_some_iff.mpr ⟨z, rfl⟩)]
      refine ih _ _ ?_
      unfold bf_s
      split
      · exact bf_xj _ _ _ h
      · exact h
    · rw [bf_bn z]
      exact h
/-- a property of keys that targets of fitting keys keep -/
theorem bf_bm {Q : Nat × Nat → Prop} (hQ : ∀ k, Q k → bf_f aWd k → ∀ j, j < mk_v (aSz k.1) → 17 ≤ wt_k aTk k.1 j → Q (kq_t aIns aTk aTn aTt k.1 k.2 j)) : ∀ (m i : Nat) (ks : List (Nat × Nat)), (∀ x, x ∈ ks → Q x) → ∀ x, x ∈ bf_b aIns aTk aTn aTt aSz aWd m i ks → Q x := by
  intro m
  induction m with
  | zero => intro i ks h; exact h
  | succ m ih =>
    intro i ks h
    rcases Nat.lt_or_ge i ks.length with z | z
    · have e : ks[i]? = some ks[i] := List.getElem?_eq_some_iff.mpr ⟨z, rfl⟩
      rw [bf_bs e]
      refine ih _ _ ?_
      unfold bf_s
      split
      · next y => exact bf_xm _ _ _ h (fun j h1 h2 h3 => hQ _ (h _ (List.mem_of_getElem? e)) y j (by omega) h3)
      · exact h
    · rw [bf_bn z]
      exact h
/-- the end is closed, if it isn't full -/
theorem bf_bc : ∀ (m i : Nat) (ks : List (Nat × Nat)), i + m = 25 → (bf_b aIns aTk aTn aTt aSz aWd m i ks).length < 25 → ∀ (j : Nat) (k : Nat × Nat), i ≤ j → (bf_b aIns aTk aTn aTt aSz aWd m i ks)[j]? = some k → bf_f aWd k → ∀ q, q < mk_v (aSz k.1) → 17 ≤ wt_k aTk k.1 q → kq_t aIns aTk aTn aTt k.1 k.2 q ∈ bf_b aIns aTk aTn aTt aSz aWd m i ks := by
  intro m
  induction m with
  | zero =>
    intro i ks hi hl j k h1 h2
    obtain ⟨h3, _⟩ := List.getElem?_eq_some_iff.mp h2
    omega
  | succ m ih =>
    intro i ks hi hl j k h1 h2 h3 q hq h17
    rcases Nat.lt_or_ge i ks.length with z | z
    · have e : ks[i]? = some ks[i] := List.getElem?_eq_some_iff.mpr ⟨z, rfl⟩
      rw [bf_bs e] at hl h2 ⊢
      by_cases y : j = i
      · subst y
        have p := bf_bp (aIns := aIns) (aTk := aTk) (aTn := aTn) (aTt := aTt) (aSz := aSz) (aWd := aWd) m (j + 1) (bf_s aIns aTk aTn aTt aSz aWd ks[j] ks)
        have e2 := bf_pl p (bf_pl (bf_sp (aIns := aIns) (aTk := aTk) (aTn := aTn) (aTt := aTt) (aSz := aSz) (aWd := aWd) ks[j] ks) e)
        rw [e2] at h2
        have ek := Option.some.inj h2
        have es : bf_s aIns aTk aTn aTt aSz aWd ks[j] ks = bf_x aIns aTk aTn aTt k.1 k.2 (mk_v (aSz k.1)) 0 ks := by
          rw [ek]
          exact if_pos h3
        rw [es] at p hl
        rw [es]
        exact bf_pm p (bf_xc _ _ _ (by have := p.1; omega) q (Nat.zero_le _) (by omega) h17)
      · exact ih _ _ (by omega) hl j k (by omega) h2 h3 q hq h17
    · rw [bf_bn z] at h2
      obtain ⟨h4, _⟩ := List.getElem?_eq_some_iff.mp h2
      omega
end
end
section
/-! 40: specialise: X's search -/
def bx_R (aKd aKt : Nat → Int32) (ks : List (Nat × Nat)) : Prop := ∀ (i : Nat) (k : Nat × Nat), ks[i]? = some k → aKd i = nI k.1 ∧ aKt i = nI k.2
def bk_V (nd : Nat) (aSup aIns aHd aCtx : Nat → Int32) (ks : List (Nat × Nat)) : Prop := ∀ k, k ∈ ks → kq_K nd aSup aIns aHd aCtx k.1 k.2
theorem bf_ga {ks : List (Nat × Nat)} {k x : Nat × Nat} {i : Nat} (hi : (ks ++ [k])[i]? = some x) : (i < ks.length ∧ ks[i]? = some x) ∨ (i = ks.length ∧ x = k) := by
  rcases Nat.lt_or_ge i ks.length with y | y
  · rw [List.getElem?_append_left y] at hi
    exact Or.inl ⟨y, hi⟩
  · rw [List.getElem?_append_right y] at hi
    obtain ⟨y2, y3⟩ := List.getElem?_eq_some_iff.mp hi
    have y4 : i - ks.length < 1 := y2
    have y5 : i - ks.length = 0 := by omega
    refine Or.inr ⟨by omega, ?_⟩
    rw [y5] at hi
    exact (Option.some.inj hi).symm
theorem bx_ap {aKd aKt : Nat → Int32} {ks : List (Nat × Nat)} {d s : Nat} (h : bx_R aKd aKt ks) : bx_R (upd aKd ks.length (nI d)) (upd aKt ks.length (nI s)) (ks ++ [(d, s)]) := by
  intro i k hi
  rcases bf_ga hi with ⟨a1, a2⟩ | ⟨a1, a2⟩
  · rw [pk_un (by omega), pk_un (by omega)]
    exact h i k a2
  · subst a1 a2
    exact ⟨pk_us, pk_us⟩
section
variable {nd : Nat} {aSup aIns aHd aCtx : Nat → Int32}
theorem bk_b {d s : Nat} (h12 : nd ≤ 12) (K : kq_K nd aSup aIns aHd aCtx d s) : d < 12 ∧ s < 2097152 := by
  obtain ⟨hd, ls, es, e, kk⟩ := K
  have := kx_s21 kk
  rw [e]
  exact ⟨by omega, this⟩
end
section
variable {dl cl pl nc nd : Nat} {fCK fED fEP fH fO fHP fNK fRC fTD fTT : Int32} {fAX fAY : Int64} {fRS : Int32} {fLV : Int64} {fLT fDP fEN : Int32} {fAN : Int64} {aSup aCpx aCpy aCr aIns aCls aHd aCtx aPx aPy aR aSz aWd aTk aTn aTt aTj aTs aFl aEl aOt aOk aKd aKt aCal aFd aFt aFc aFp aFh : Nat → Int32} {aFx aFy aVl : Nat → Int64} {yAt ySp yDp yEn yRk : Int32} {yWd : Nat → Int32} {yVl yFx yFy : Nat → Int64} {yFk yFp yKl : Nat → Int32} {d s : Nat} {ks : List (Nat × Nat)}
theorem bx_t (S : (sr nc nd aSup aCpx aCpy aCr aIns aCls aHd aCtx aPx aPy aR aSz aTk aTn)) (C : (ck nc nd aSup aCpx aCpy aCr aIns aCls aHd aCtx aPx aPy aR aSz aWd yWd aTk aTn aTt aTj)) {i : Nat} (K : kq_K nd aSup aIns aHd aCtx d s) (F : mk_v (aWd d) + kq_n 7 s ≤ 7) (hi : i < mk_v (aSz d)) (k17 : 17 ≤ wt_k aTk d i) : ∃ d' s', d' < nd ∧ s' < 2097152 ∧ kq_K nd aSup aIns aHd aCtx d' s' ∧ kt_W nc aIns aTk aTn aTt d s i d' s' ∧ kq_t aIns aTk aTn aTt d s i = (d', s') := by
  obtain ⟨hd, ls, es, e, kk⟩ := K
  have h12 := S.1.2.1
  obtain ⟨W, w6, e1, _, Ht, Ty, Op, B⟩ := C.2 _ hd
  rw [e] at F ⊢
  rw [e1, mk_vn (by omega)] at F
  obtain ⟨d', ls', es', hd', K', A, _⟩ := kt_t S C.1 hd B.1 hi k17 kk F
  exact ⟨d', ty_e ls' es', hd', kx_s21 K', ⟨hd', ls', es', rfl, K'⟩, A, kt_w S.1.1 (by omega) A⟩
theorem bx_add {post : Int32 → SX → Prop} (h12 : nd ≤ 12) (hR : bx_R aKd aKt ks) (hV : bk_V nd aSup aIns aHd aCtx ks) (hl : ks.length ≤ cl) (c24 : cl ≤ 24) (hd : d < 12) (hs : s < 2097152) (p1 : ∀ kd kt : Nat → Int32, bx_R kd kt (bf_a ks (d, s)) → (bf_a ks (d, s)).length ≤ cl → post 1 (nI dl, nI cl, nI pl, nI nc, nI nd, fCK, fED, fEP, fH, fO, fHP, nI (bf_a ks (d, s)).length, fRC, fTD, fTT, fAX, fAY, fRS, fLV, fLT, fDP, fEN, fAN, aSup, aCpx, aCpy, aCr, aIns, aCls, aHd, aCtx, aPx, aPy, aR, aSz, aWd, aTk, aTn, aTt, aTj, aTs, aFl, aEl, aOt, aOk, kd, kt, aCal, aFd, aFt, aFc, aFp, aFh, aFx, aFy, aVl)) (p0 : cl < (bf_a ks (d, s)).length → post 0 (nI dl, nI cl, nI pl, nI nc, nI nd, fCK, fED, fEP, fH, fO, fHP, nI ks.length, fRC, fTD, fTT, fAX, fAY, fRS, fLV, fLT, fDP, fEN, fAN, aSup, aCpx, aCpy, aCr, aIns, aCls, aHd, aCtx, aPx, aPy, aR, aSz, aWd, aTk, aTn, aTt, aTj, aTs, aFl, aEl, aOt, aOk, aKd, aKt, aCal, aFd, aFt, aFc, aFp, aFh, aFx, aFy, aVl)) : wpX_addKey post (nI dl, nI cl, nI pl, nI nc, nI nd, fCK, fED, fEP, fH, fO, fHP, nI ks.length, fRC, fTD, fTT, fAX, fAY, fRS, fLV, fLT, fDP, fEN, fAN, aSup, aCpx, aCpy, aCr, aIns, aCls, aHd, aCtx, aPx, aPy, aR, aSz, aWd, aTk, aTn, aTt, aTj, aTs, aFl, aEl, aOt, aOk, aKd, aKt, aCal, aFd, aFt, aFc, aFp, aFh, aFx, aFy, aVl) (nI d) (nI s) := by
  unfold wpX_addKey
  dsimp only
  refine fk_x (nk := ks.length) (by omega) (fun j hj e1 e2 _ => ?_) (fun e => ?_)
  · have g : ks[j]? = some ks[j] := List.getElem?_eq_some_iff.mpr ⟨hj, rfl⟩
    obtain ⟨r1, r2⟩ := hR j _ g
    obtain ⟨b1, b2⟩ := bk_b h12 (hV _ (List.mem_of_getElem? g))
    have q1 : (ks[j]).1 = d := (nI_eq (by omega) (by omega)).mp (r1.symm.trans e1)
    have q2 : (ks[j]).2 = s := (nI_eq (by omega) (by omega)).mp (r2.symm.trans e2)
    have qm : (d, s) ∈ ks := by
      have : ks[j] = (d, s) := Prod.ext q1 q2
      rw [← this]
      exact List.mem_of_getElem? g
    have ea : bf_a ks (d, s) = ks := if_pos (Or.inl qm)
    rw [ea] at p1
    exact br_f (nI_pos (by omega)) (p1 aKd aKt hR hl)
  · have nm : ¬ ((d, s) ∈ ks ∨ 25 ≤ ks.length) := by
      rintro (z | z)
      · obtain ⟨j, g⟩ := List.mem_iff_getElem?.mp z
        obtain ⟨hj, _⟩ := List.getElem?_eq_some_iff.mp g
        exact e j hj (hR j _ g)
      · omega
    have ea : bf_a ks (d, s) = ks ++ [(d, s)] := if_neg nm
    have el : (bf_a ks (d, s)).length = ks.length + 1 := by rw [ea, List.length_append]; rfl
    refine br_t (by decide) ?_
    by_cases z : ks.length < cl
    · have v := vp_in_nI (n := ks.length) (N := 24) (by omega) (by decide)
      refine br_t (nI_lt z (by omega)) ?_
      rw [nI_clamp (n := ks.length) (by omega)]
      rw [el] at p1
      exact ⟨v, nm_e ⟨v, nm_e (nm_r (nI_1 _) (p1 _ _ (by rw [ea]; exact bx_ap hR) (by omega)))⟩⟩
    · exact br_f (nI_nlt (by omega) (by omega)) (p0 (by omega))
theorem bx_ex {post : Int32 → SX → Prop} (S : (sr nc nd aSup aCpx aCpy aCr aIns aCls aHd aCtx aPx aPy aR aSz aTk aTn)) (C : (ck nc nd aSup aCpx aCpy aCr aIns aCls aHd aCtx aPx aPy aR aSz aWd yWd aTk aTn aTt aTj)) (c24 : cl ≤ 24) {N : Nat} (K : kq_K nd aSup aIns aHd aCtx d s) (F : mk_v (aWd d) + kq_n 7 s ≤ 7) (eN : aSz d = nI N) (N20 : N ≤ 20) (kinds : ∀ i, i < N → sr_t aTk aTn (20 * d + i)) : ∀ (m i : Nat) (ks : List (Nat × Nat)) (fTD fTT : Int32) (aKd aKt : Nat → Int32) (n : Nat), i + m = N → bx_R aKd aKt ks → bk_V nd aSup aIns aHd aCtx ks → ks.length ≤ cl → m < n →
    ((bf_x aIns aTk aTn aTt d s m i ks).length ≤ cl → ∀ (fTD fTT : Int32) (aKd aKt : Nat → Int32), bx_R aKd aKt (bf_x aIns aTk aTn aTt d s m i ks) → post 1 (nI dl, nI cl, nI pl, nI nc, nI nd, fCK, fED, fEP, fH, fO, fHP, nI (bf_x aIns aTk aTn aTt d s m i ks).length, fRC, fTD, fTT, fAX, fAY, fRS, fLV, fLT, fDP, fEN, fAN, aSup, aCpx, aCpy, aCr, aIns, aCls, aHd, aCtx, aPx, aPy, aR, aSz, aWd, aTk, aTn, aTt, aTj, aTs, aFl, aEl, aOt, aOk, aKd, aKt, aCal, aFd, aFt, aFc, aFp, aFh, aFx, aFy, aVl)) →
    (cl < (bf_x aIns aTk aTn aTt d s m i ks).length → ∀ (fTD fTT fNK : Int32) (aKd aKt : Nat → Int32), post 0 (nI dl, nI cl, nI pl, nI nc, nI nd, fCK, fED, fEP, fH, fO, fHP, fNK, fRC, fTD, fTT, fAX, fAY, fRS, fLV, fLT, fDP, fEN, fAN, aSup, aCpx, aCpy, aCr, aIns, aCls, aHd, aCtx, aPx, aPy, aR, aSz, aWd, aTk, aTn, aTt, aTj, aTs, aFl, aEl, aOt, aOk, aKd, aKt, aCal, aFd, aFt, aFc, aFp, aFh, aFx, aFy, aVl)) → wX_expandKey_28 post (nI d) (nI s) n (nI i) (nI dl) (nI cl) (nI pl) (nI nc) (nI nd) fCK fED fEP fH fO fHP (nI ks.length) fRC fTD fTT fAX fAY fRS fLV fLT fDP fEN fAN aSup aCpx aCpy aCr aIns aCls aHd aCtx aPx aPy aR aSz aWd aTk aTn aTt aTj aTs aFl aEl aOt aOk aKd aKt aCal aFd aFt aFc aFp aFh aFx aFy aVl := by
  have H : (sr_H nc nd aSup aIns aCls aHd aCtx) := S.1
  have h12 := H.2.1
  have hd := K.1
  have vd := vp_in_nI (n := d) (N := 12) (by omega) (by decide)
  have cd := nI_clamp (n := d) (by omega)
  obtain ⟨_, s21⟩ := bk_b h12 K
  have mN : mk_v (aSz d) = N := by rw [eN, mk_vn (by omega)]
  intro m
  induction m with
  | zero =>
    intro i ks fTD fTT aKd aKt n hi hR hV hl hn p1 p0
    obtain ⟨n, rfl⟩ : ∃ q, n = q + 1 := ⟨n - 1, by omega⟩
    refine ⟨vd, ?_⟩
    rw [cd, eN]
    exact br_t (nI_le (by omega) (by omega)) (p1 hl _ _ _ _ hR)
  | succ m ih =>
    intro i ks fTD fTT aKd aKt n hi hR hV hl hn p1 p0
    obtain ⟨n, rfl⟩ : ∃ q, n = q + 1 := ⟨n - 1, by omega⟩
    obtain ⟨k, k18, ek, _⟩ := kinds i (by omega)
    have kk := kx_k k18 ek
    refine ⟨vd, ?_⟩
    rw [cd, eN]
    refine br_f (nI_ge (by omega) (by omega)) (nm_r (sm_20x d i) ?_)
    rw [nI_clamp (n := 20 * d + i) (by omega), ek]
    refine ⟨vp_in_nI (by omega) (by decide), ?_⟩
    have eb : bf_x aIns aTk aTn aTt d s (m + 1) i ks = bf_x aIns aTk aTn aTt d s m (i + 1) (if 17 ≤ wt_k aTk d i then bf_a ks (kq_t aIns aTk aTn aTt d s i) else ks) := rfl
    rw [eb] at p1 p0
    by_cases k17 : k < 17
    · rw [if_neg (by rw [kk]; omega)] at p1 p0
      exact br_t (nI_lt (b := 17) k17 (by decide)) (nm_r (nI_1 i) (ih (i + 1) ks _ _ _ _ n (by omega) hR hV hl (by omega) p1 p0))
    · rw [if_pos (by rw [kk]; omega)] at p1 p0
      obtain ⟨d', s', hd', hs', K', A, et⟩ := bx_t S C (i := i) K F (by rw [mN]; omega) (by rw [kk]; omega)
      rw [et] at p1 p0
      refine br_f (nI_nlt (b := 17) (by omega) (by omega)) (kx_ft H.1 (by omega) (by omega) k18 ek A ?_)
      refine bx_add h12 hR hV hl c24 (by omega) hs' (fun kd kt r1 r2 => br_f (by decide) (nm_r (nI_1 i) ?_)) (fun z => br_t rfl ?_)
      · refine ih (i + 1) (bf_a ks (d', s')) _ _ kd kt n (by omega) r1 (fun x hx => ?_) r2 (by omega) p1 p0
        rcases bf_am hx with y | y
        · exact hV x y
        · rw [y]; exact K'
      · have := (bf_xp (aIns := aIns) (aTk := aTk) (aTn := aTn) (aTt := aTt) (d := d) (s := s) m (i + 1) (bf_a ks (d', s'))).1
        exact p0 (by omega) _ _ _ _ _
theorem bx_ek {post : Int32 → SX → Prop} {j : Nat} {k : Nat × Nat} (S : (sr nc nd aSup aCpx aCpy aCr aIns aCls aHd aCtx aPx aPy aR aSz aTk aTn)) (C : (ck nc nd aSup aCpx aCpy aCr aIns aCls aHd aCtx aPx aPy aR aSz aWd yWd aTk aTn aTt aTj)) (c24 : cl ≤ 24) (hR : bx_R aKd aKt ks) (hV : bk_V nd aSup aIns aHd aCtx ks) (hl : ks.length ≤ cl) (g : ks[j]? = some k) (p1 : (bf_s aIns aTk aTn aTt aSz aWd k ks).length ≤ cl → ∀ (fTD fTT : Int32) (aKd aKt : Nat → Int32), bx_R aKd aKt (bf_s aIns aTk aTn aTt aSz aWd k ks) → post 1 (nI dl, nI cl, nI pl, nI nc, nI nd, fCK, fED, fEP, fH, fO, fHP, nI (bf_s aIns aTk aTn aTt aSz aWd k ks).length, fRC, fTD, fTT, fAX, fAY, fRS, fLV, fLT, fDP, fEN, fAN, aSup, aCpx, aCpy, aCr, aIns, aCls, aHd, aCtx, aPx, aPy, aR, aSz, aWd, aTk, aTn, aTt, aTj, aTs, aFl, aEl, aOt, aOk, aKd, aKt, aCal, aFd, aFt, aFc, aFp, aFh, aFx, aFy, aVl)) (p0 : cl < (bf_s aIns aTk aTn aTt aSz aWd k ks).length → ∀ (fTD fTT fNK : Int32) (aKd aKt : Nat → Int32), post 0 (nI dl, nI cl, nI pl, nI nc, nI nd, fCK, fED, fEP, fH, fO, fHP, fNK, fRC, fTD, fTT, fAX, fAY, fRS, fLV, fLT, fDP, fEN, fAN, aSup, aCpx, aCpy, aCr, aIns, aCls, aHd, aCtx, aPx, aPy, aR, aSz, aWd, aTk, aTn, aTt, aTj, aTs, aFl, aEl, aOt, aOk, aKd, aKt, aCal, aFd, aFt, aFc, aFp, aFh, aFx, aFy, aVl)) : wpX_expandKey post (nI dl, nI cl, nI pl, nI nc, nI nd, fCK, fED, fEP, fH, fO, fHP, nI ks.length, fRC, fTD, fTT, fAX, fAY, fRS, fLV, fLT, fDP, fEN, fAN, aSup, aCpx, aCpy, aCr, aIns, aCls, aHd, aCtx, aPx, aPy, aR, aSz, aWd, aTk, aTn, aTt, aTj, aTs, aFl, aEl, aOt, aOk, aKd, aKt, aCal, aFd, aFt, aFc, aFp, aFh, aFx, aFy, aVl) (nI j) := by
  have H : (sr_H nc nd aSup aIns aCls aHd aCtx) := S.1
  have h12 := H.2.1
  obtain ⟨hj, _⟩ := List.getElem?_eq_some_iff.mp g
  obtain ⟨r1, r2⟩ := hR j k g
  have vj := vp_in_nI (n := j) (N := 24) (by omega) (by decide)
  have K := hV k (List.mem_of_getElem? g)
  have K0 := K
  obtain ⟨hd, ls, es, e, kk⟩ := K0
  obtain ⟨W, w6, e1, _⟩ := C.2 _ hd
  obtain ⟨N, N20, eN, kinds⟩ := S.2.2.2 _ hd
  have mN : mk_v (aSz k.1) = N := by rw [eN, mk_vn (by omega)]
  have eW : mk_v (aWd k.1) = W := by rw [e1, mk_vn (by omega)]
  unfold wpX_expandKey
  dsimp only
  rw [nI_clamp (n := j) (by omega), r1, r2]
  refine ⟨vj, nm_e ⟨vj, nm_e ?_⟩⟩
  rw [e]
  refine kx_fi h12 hd kk e1 w6 (fun F => br_f (by decide) ?_) (fun F => br_t rfl ?_)
  · rw [← e] at F ⊢
    have es : bf_s aIns aTk aTn aTt aSz aWd k ks = bf_x aIns aTk aTn aTt k.1 k.2 N 0 ks := by
      unfold bf_s
      rw [eW, if_pos F, mN]
    rw [es] at p1 p0
    exact Exists.intro (N + 1) (bx_ex S C c24 K (by rw [eW]; exact F) eN N20 kinds N 0 ks _ _ _ _ (N + 1) (by omega) hR hV hl (by omega) p1 p0)
  · rw [← e] at F
    have es : bf_s aIns aTk aTn aTt aSz aWd k ks = ks := by
      unfold bf_s
      rw [eW, if_neg F]
    rw [es] at p1
    exact p1 hl _ _ _ _ hR
theorem bx_sV (S : (sr nc nd aSup aCpx aCpy aCr aIns aCls aHd aCtx aPx aPy aR aSz aTk aTn)) (C : (ck nc nd aSup aCpx aCpy aCr aIns aCls aHd aCtx aPx aPy aR aSz aWd yWd aTk aTn aTt aTj)) {k : Nat × Nat} (hk : kq_K nd aSup aIns aHd aCtx k.1 k.2) (hV : bk_V nd aSup aIns aHd aCtx ks) : bk_V nd aSup aIns aHd aCtx (bf_s aIns aTk aTn aTt aSz aWd k ks) := by
  unfold bf_s
  split
  · next F =>
    refine bf_xm (Q := fun k => kq_K nd aSup aIns aHd aCtx k.1 k.2) _ _ _ hV (fun j h1 h2 h3 => ?_)
    obtain ⟨d', s', _, _, K', _, et⟩ := bx_t S C hk F (by omega) h3
    rw [et]
    exact K'
  · exact hV
theorem bx_lp {post : Int32 → SX → Prop} {x1 x2 : Int32} (S : (sr nc nd aSup aCpx aCpy aCr aIns aCls aHd aCtx aPx aPy aR aSz aTk aTn)) (C : (ck nc nd aSup aCpx aCpy aCr aIns aCls aHd aCtx aPx aPy aR aSz aWd yWd aTk aTn aTt aTj)) (c24 : cl ≤ 24) : ∀ (m i : Nat) (ks : List (Nat × Nat)) (fTD fTT : Int32) (aKd aKt : Nat → Int32) (n : Nat), i + m = 25 → bx_R aKd aKt ks → bk_V nd aSup aIns aHd aCtx ks → ks.length ≤ cl → m < n →
    ((bf_b aIns aTk aTn aTt aSz aWd m i ks).length ≤ cl → ∀ (fTD fTT : Int32) (aKd aKt : Nat → Int32), bx_R aKd aKt (bf_b aIns aTk aTn aTt aSz aWd m i ks) → wX_specialise_64 post x1 x2 (nI dl) (nI cl) (nI pl) (nI nc) (nI nd) fCK fED fEP fH fO fHP (nI (bf_b aIns aTk aTn aTt aSz aWd m i ks).length) fRC fTD fTT fAX fAY fRS fLV fLT fDP fEN fAN aSup aCpx aCpy aCr aIns aCls aHd aCtx aPx aPy aR aSz aWd aTk aTn aTt aTj aTs aFl aEl aOt aOk aKd aKt aCal aFd aFt aFc aFp aFh aFx aFy aVl) →
    (cl < (bf_b aIns aTk aTn aTt aSz aWd m i ks).length → ∀ (fTD fTT : Int32) (aKd aKt : Nat → Int32), post 4 (nI dl, nI cl, nI pl, nI nc, nI nd, fCK, fED, fEP, fH, fO, 0, 0, -1, fTD, fTT, fAX, fAY, fRS, fLV, fLT, fDP, fEN, fAN, aSup, aCpx, aCpy, aCr, aIns, aCls, aHd, aCtx, aPx, aPy, aR, aSz, aWd, aTk, aTn, aTt, aTj, aTs, aFl, aEl, aOt, aOk, aKd, aKt, aCal, aFd, aFt, aFc, aFp, aFh, aFx, aFy, aVl)) → wX_specialise_27 post x1 x2 n (nI i) (nI dl) (nI cl) (nI pl) (nI nc) (nI nd) fCK fED fEP fH fO fHP (nI ks.length) fRC fTD fTT fAX fAY fRS fLV fLT fDP fEN fAN aSup aCpx aCpy aCr aIns aCls aHd aCtx aPx aPy aR aSz aWd aTk aTn aTt aTj aTs aFl aEl aOt aOk aKd aKt aCal aFd aFt aFc aFp aFh aFx aFy aVl := by
  intro m
  induction m with
  | zero =>
    intro i ks fTD fTT aKd aKt n hi hR hV hl hn p1 p0
    obtain ⟨n, rfl⟩ : ∃ q, n = q + 1 := ⟨n - 1, by omega⟩
    exact br_t (nI_le (a := 24) (by omega) (by omega)) (p1 hl _ _ _ _ hR)
  | succ m ih =>
    intro i ks fTD fTT aKd aKt n hi hR hV hl hn p1 p0
    obtain ⟨n, rfl⟩ : ∃ q, n = q + 1 := ⟨n - 1, by omega⟩
    rcases Nat.lt_or_ge i ks.length with z | z
    · have g : ks[i]? = some ks[i] := List.getElem?_eq_some_iff.mpr ⟨z, rfl⟩
      rw [bf_bs g] at p1 p0
      have V' := bx_sV S C (hV _ (List.mem_of_getElem? g)) hV
      refine br_f (nI_ge (b := 24) (by omega) (by decide)) (br_f (nI_ge z (by omega)) ?_)
      refine bx_ek S C c24 hR hV hl g (fun q fTD fTT aKd aKt r => br_f (by decide) (nm_r (nI_1 i) ?_)) (fun q fTD fTT fNK aKd aKt => br_t rfl (sm_dp ?_))
      · exact ih (i + 1) _ fTD fTT aKd aKt n (by omega) r V' q (by omega) p1 p0
      · have := (bf_bp (aIns := aIns) (aTk := aTk) (aTn := aTn) (aTt := aTt) (aSz := aSz) (aWd := aWd) m (i + 1) (bf_s aIns aTk aTn aTt aSz aWd ks[i] ks)).1
        exact p0 (by omega) _ _ _ _
    · rw [bf_bn z] at p1
      by_cases y : 24 ≤ i
      · exact br_t (nI_le (a := 24) y (by omega)) (p1 hl _ _ _ _ hR)
      · exact br_f (nI_ge (b := 24) (by omega) (by decide)) (br_t (nI_le z (by omega)) (p1 hl _ _ _ _ hR))
end
end
section
/-! 41: specialise: Y's search -/
def by_R (yKl : Nat → Int32) (ks : List (Nat × Nat)) : Prop := ∀ (i : Nat) (k : Nat × Nat), ks[i]? = some k → yKl i = nI (k.1 * 2097152 + k.2)
theorem by_ap {yKl : Nat → Int32} {ks : List (Nat × Nat)} {d s : Nat} (h : by_R yKl ks) : by_R (upd yKl ks.length (nI (d * 2097152 + s))) (ks ++ [(d, s)]) := by
  intro i k hi
  rcases bf_ga hi with ⟨a1, a2⟩ | ⟨a1, a2⟩
  · rw [pk_un (by omega)]
    exact h i k a2
  · subst a1 a2
    exact pk_us
section
variable {dl cl pl nc nd : Nat} {fCK fED fEP fH fO fHP fNK fRC fTD fTT : Int32} {fAX fAY : Int64} {fRS : Int32} {fLV : Int64} {fLT fDP fEN : Int32} {fAN : Int64} {aSup aCpx aCpy aCr aIns aCls aHd aCtx aPx aPy aR aSz aWd aTk aTn aTt aTj aTs aFl aEl aOt aOk aKd aKt aCal aFd aFt aFc aFp aFh : Nat → Int32} {aFx aFy aVl : Nat → Int64} {yAt ySp yDp yEn yRk : Int32} {yWd : Nat → Int32} {yVl yFx yFy : Nat → Int64} {yFk yFp yKl : Nat → Int32} {d s : Nat} {ks : List (Nat × Nat)}
theorem by_add {post : SY → Prop} (h12 : nd ≤ 12) (hR : by_R yKl ks) (hV : bk_V nd aSup aIns aHd aCtx ks) (l25 : ks.length ≤ 25) (hd : d < 12) (hs : s < 2097152) (hp : ∀ kl : Nat → Int32, by_R kl (bf_a ks (d, s)) → post (nI dl, nI cl, nI pl, nI nc, nI nd, fCK, fED, fEP, yAt, fH, fO, fAX, fAY, fLV, fRS, fLT, ySp, yDp, yEn, nI (bf_a ks (d, s)).length, yRk, aSup, aCpx, aCpy, aCr, aPx, aPy, aR, aCtx, aCls, aHd, aSz, yWd, aTk, aTn, aTt, aTs, aFl, aOt, yVl, yFx, yFy, yFk, yFp, kl)) : wpY_addKey post (nI dl, nI cl, nI pl, nI nc, nI nd, fCK, fED, fEP, yAt, fH, fO, fAX, fAY, fLV, fRS, fLT, ySp, yDp, yEn, nI ks.length, yRk, aSup, aCpx, aCpy, aCr, aPx, aPy, aR, aCtx, aCls, aHd, aSz, yWd, aTk, aTn, aTt, aTs, aFl, aOt, yVl, yFx, yFy, yFk, yFp, yKl) (nI (d * 2097152 + s)) := by
  have L : ∀ (n j : Nat), j ≤ ks.length → ks.length - j < n → (∀ i, i < j → ¬ ks[i]? = some (d, s)) → wY_addKey_2 post (nI (d * 2097152 + s)) (nI dl) (nI cl) (nI pl) (nI nc) (nI nd) fCK fED fEP yAt fH fO fAX fAY fLV fRS fLT ySp yDp yEn (nI ks.length) yRk aSup aCpx aCpy aCr aPx aPy aR aCtx aCls aHd aSz yWd aTk aTn aTt aTs aFl aOt yVl yFx yFy yFk yFp yKl n (nI j) := by
    intro n
    induction n with
    | zero => intro j h1 h2; omega
    | succ n ih =>
      intro j h1 h2 h3
      rcases Nat.lt_or_ge j ks.length with z | z
      · have g : ks[j]? = some ks[j] := List.getElem?_eq_some_iff.mpr ⟨z, rfl⟩
        have r := hR j _ g
        obtain ⟨b1, b2⟩ := bk_b h12 (hV _ (List.mem_of_getElem? g))
        refine br_f (nI_ge z (by omega)) ⟨vp_in_nI (by omega) (by decide), ?_⟩
        rw [nI_clamp (n := j) (by omega), r]
        by_cases e : ks[j] = (d, s)
        · have ea : bf_a ks (d, s) = ks := if_pos (Or.inl (by rw [← e]; exact List.mem_of_getElem? g))
          rw [ea] at hp
          exact br_t (by rw [e]) (hp yKl hR)
        · refine br_f (fun y => ?_) (nm_r (nI_1 j) (ih (j + 1) (by omega) (by omega) (fun i hi => ?_)))
          · have q := (nI_eq (by omega) (by omega)).mp y
            exact e (Prod.ext (show (ks[j]).1 = d by omega) (show (ks[j]).2 = s by omega))
          · rcases Nat.lt_or_ge i j with w | w
            · exact h3 i w
            · have : i = j := by omega
              subst this
              rw [g]
              exact fun y => e (Option.some.inj y)
      · have ej : j = ks.length := by omega
        have nm : ¬ (d, s) ∈ ks := by
          intro y
          obtain ⟨i, g⟩ := List.mem_iff_getElem?.mp y
          obtain ⟨hi, _⟩ := List.getElem?_eq_some_iff.mp g
          exact h3 i (by omega) g
        refine br_t (nI_le z (by omega)) ?_
        by_cases y : ks.length < 25
        · have ea : bf_a ks (d, s) = ks ++ [(d, s)] := if_neg (fun w => w.elim nm (fun w => by omega))
          have el : (bf_a ks (d, s)).length = ks.length + 1 := by rw [ea, List.length_append]; rfl
          rw [el] at hp
          refine br_t (nI_lt (b := 25) y (by decide)) ?_
          rw [nI_clamp (n := ks.length) (by omega)]
          exact ⟨vp_in_nI y (by decide), nm_e (nm_r (nI_1 _) (hp _ (by rw [ea]; exact by_ap hR)))⟩
        · have ea : bf_a ks (d, s) = ks := if_pos (Or.inr (by omega))
          rw [ea] at hp
          exact br_f (nI_nlt (b := 25) (by omega) (by omega)) (hp yKl hR)
  exact Exists.intro 26 (L 26 0 (by omega) (by omega) (fun i hi => absurd hi (by omega)))
theorem by_ex {post : Int32 → SY → Prop} {x4 : Int32} {n0 j N : Nat} (S : (sr nc nd aSup aCpx aCpy aCr aIns aCls aHd aCtx aPx aPy aR aSz aTk aTn)) (C : (ck nc nd aSup aCpx aCpy aCr aIns aCls aHd aCtx aPx aPy aR aSz aWd yWd aTk aTn aTt aTj)) (K : kq_K nd aSup aIns aHd aCtx d s) (F : mk_v (aWd d) + kq_n 7 s ≤ 7) (eN : aSz d = nI N) (N20 : N ≤ 20) (kinds : ∀ i, i < N → sr_t aTk aTn (20 * d + i)) (j25 : j < 25) : ∀ (m i : Nat) (ks : List (Nat × Nat)) (yKl : Nat → Int32) (n : Nat), i + m = N → by_R yKl ks → bk_V nd aSup aIns aHd aCtx ks → ks.length ≤ 25 → ks[j]? = some (d, s) → m < n →
    (∀ yKl : Nat → Int32, by_R yKl (bf_x aIns aTk aTn aTt d s m i ks) → wY_specialise_42 post n0 x4 (nI (j + 1)) (nI dl) (nI cl) (nI pl) (nI nc) (nI nd) fCK fED fEP yAt fH fO fAX fAY fLV fRS fLT ySp yDp yEn (nI (bf_x aIns aTk aTn aTt d s m i ks).length) yRk aSup aCpx aCpy aCr aPx aPy aR aCtx aCls aHd aSz yWd aTk aTn aTt aTs aFl aOt yVl yFx yFy yFk yFp yKl) → wY_specialise_101 post (wY_specialise_42 post n0) x4 (nI j) (nI N) n (nI i) (nI dl) (nI cl) (nI pl) (nI nc) (nI nd) fCK fED fEP yAt fH fO fAX fAY fLV fRS fLT ySp yDp yEn (nI ks.length) yRk aSup aCpx aCpy aCr aPx aPy aR aCtx aCls aHd aSz yWd aTk aTn aTt aTs aFl aOt yVl yFx yFy yFk yFp yKl := by
  have H : (sr_H nc nd aSup aIns aCls aHd aCtx) := S.1
  have h12 := H.2.1
  have hd := K.1
  obtain ⟨_, s21⟩ := bk_b h12 K
  have mN : mk_v (aSz d) = N := by rw [eN, mk_vn (by omega)]
  have vj := vp_in_nI (n := j) (N := 25) j25 (by decide)
  have cj := nI_clamp (n := j) (by omega)
  intro m
  induction m with
  | zero =>
    intro i ks yKl n hi hR hV hl g hn hp
    obtain ⟨n, rfl⟩ : ∃ q, n = q + 1 := ⟨n - 1, by omega⟩
    exact br_t (nI_le (by omega) (by omega)) (nm_r (nI_1 j) (hp yKl hR))
  | succ m ih =>
    intro i ks yKl n hi hR hV hl g hn hp
    obtain ⟨n, rfl⟩ : ∃ q, n = q + 1 := ⟨n - 1, by omega⟩
    obtain ⟨k, k18, ek, _⟩ := kinds i (by omega)
    have kk := kx_k k18 ek
    have r := hR j (d, s) g
    dsimp only at r
    refine br_f (nI_ge (by omega) (by omega)) ⟨vj, ty_K, ?_⟩
    rw [cj, r, ky_d (by omega) s21, sm_20y, nI_clamp (n := 20 * d + i) (by omega), ek]
    refine ⟨vp_in_nI (by omega) (by decide), ?_⟩
    have eb : bf_x aIns aTk aTn aTt d s (m + 1) i ks = bf_x aIns aTk aTn aTt d s m (i + 1) (if 17 ≤ wt_k aTk d i then bf_a ks (kq_t aIns aTk aTn aTt d s i) else ks) := rfl
    rw [eb] at hp
    by_cases k17 : k < 17
    · rw [if_neg (by rw [kk]; omega)] at hp
      exact br_t (nI_lt (b := 17) k17 (by decide)) (nm_r (nI_1 i) (ih (i + 1) ks yKl n (by omega) hR hV hl g (by omega) hp))
    · rw [if_pos (by rw [kk]; omega)] at hp
      obtain ⟨d', s', hd', hs', K', A, et⟩ := bx_t S C (i := i) K F (by rw [mN]; omega) (by rw [kk]; omega)
      rw [et] at hp
      refine br_f (nI_nlt (b := 17) (by omega) (by omega)) ⟨vj, ky_tg H (by omega) (by omega) s21 k18 ek hd' A ?_⟩
      refine by_add h12 hR hV hl (by omega) hs' (fun kl r1 => nm_r (nI_1 i) ?_)
      refine ih (i + 1) (bf_a ks (d', s')) kl n (by omega) r1 (fun x hx => ?_) (bf_a25 hl _) (bf_pl (bf_ap _ _) g) (by omega) hp
      rcases bf_am hx with y | y
      · exact hV x y
      · rw [y]; exact K'
/-- whether a key that doesn't fit was met -/
def by_g (aWd : Nat → Int32) (ks : List (Nat × Nat)) (i : Nat) (x4 : Int32) : Prop := (x4 = 0 ∧ ∀ (j : Nat) (k : Nat × Nat), j < i → ks[j]? = some k → bf_f aWd k) ∨ (x4 = 1 ∧ ∃ (j : Nat) (k : Nat × Nat), ks[j]? = some k ∧ ¬ bf_f aWd k)
theorem by_gs {i : Nat} {x4 : Int32} {ks' : List (Nat × Nat)} {k : Nat × Nat} (h : by_g aWd ks i x4) (p : bf_p ks ks') (hi : i < ks.length) (e : ks[i]? = some k) (F : bf_f aWd k) : by_g aWd ks' (i + 1) x4 := by
  rcases h with ⟨h1, h2⟩ | ⟨h1, j, k2, h3, h4⟩
  · refine Or.inl ⟨h1, fun j x hj hx => ?_⟩
    rw [p.2 j (by omega)] at hx
    by_cases y : j = i
    · subst y
      rw [e] at hx
      rw [← Option.some.inj hx]
      exact F
    · exact h2 j x (by omega) hx
  · exact Or.inr ⟨h1, j, k2, bf_pl p h3, h4⟩
theorem by_lp {post : Int32 → SY → Prop} (S : (sr nc nd aSup aCpx aCpy aCr aIns aCls aHd aCtx aPx aPy aR aSz aTk aTn)) (C : (ck nc nd aSup aCpx aCpy aCr aIns aCls aHd aCtx aPx aPy aR aSz aWd yWd aTk aTn aTt aTj)) : ∀ (m i : Nat) (ks : List (Nat × Nat)) (yKl : Nat → Int32) (x4 : Int32) (n : Nat), i + m = 25 → by_R yKl ks → bk_V nd aSup aIns aHd aCtx ks → ks.length ≤ 25 → by_g aWd ks i x4 → m < n →
    (∀ (yKl : Nat → Int32) (x4 : Int32), by_R yKl (bf_b aIns aTk aTn aTt aSz aWd m i ks) → by_g aWd (bf_b aIns aTk aTn aTt aSz aWd m i ks) 25 x4 → wY_specialise_167 post x4 (nI dl) (nI cl) (nI pl) (nI nc) (nI nd) fCK fED fEP yAt fH fO fAX fAY fLV fRS fLT ySp yDp yEn (nI (bf_b aIns aTk aTn aTt aSz aWd m i ks).length) yRk aSup aCpx aCpy aCr aPx aPy aR aCtx aCls aHd aSz yWd aTk aTn aTt aTs aFl aOt yVl yFx yFy yFk yFp yKl) → wY_specialise_42 post n x4 (nI i) (nI dl) (nI cl) (nI pl) (nI nc) (nI nd) fCK fED fEP yAt fH fO fAX fAY fLV fRS fLT ySp yDp yEn (nI ks.length) yRk aSup aCpx aCpy aCr aPx aPy aR aCtx aCls aHd aSz yWd aTk aTn aTt aTs aFl aOt yVl yFx yFy yFk yFp yKl := by
  have H : (sr_H nc nd aSup aIns aCls aHd aCtx) := S.1
  have h12 := H.2.1
  have W : ∀ {i : Nat} {ks : List (Nat × Nat)} {x4 : Int32}, ks.length ≤ i → by_g aWd ks i x4 → by_g aWd ks 25 x4 := by
    intro i ks x4 hl h
    rcases h with ⟨h1, h2⟩ | h
    · refine Or.inl ⟨h1, fun j k _ e => ?_⟩
      obtain ⟨hj, _⟩ := List.getElem?_eq_some_iff.mp e
      exact h2 j k (by omega) e
    · exact Or.inr h
  intro m
  induction m with
  | zero =>
    intro i ks yKl x4 n hi hR hV hl hg hn hp
    obtain ⟨n, rfl⟩ : ∃ q, n = q + 1 := ⟨n - 1, by omega⟩
    exact br_t (nI_le (a := 25) (by omega) (by omega)) (hp yKl x4 hR (show by_g aWd ks 25 x4 from W (i := i) (by omega) hg))
  | succ m ih =>
    intro i ks yKl x4 n hi hR hV hl hg hn hp
    obtain ⟨n, rfl⟩ : ∃ q, n = q + 1 := ⟨n - 1, by omega⟩
    refine br_f (nI_ge (b := 25) (by omega) (by decide)) ?_
    rcases Nat.lt_or_ge i ks.length with z | z
    · have g : ks[i]? = some ks[i] := List.getElem?_eq_some_iff.mpr ⟨z, rfl⟩
      rw [bf_bs g] at hp
      have V' := bx_sV S C (hV _ (List.mem_of_getElem? g)) hV
      have P' := bf_sp (aIns := aIns) (aTk := aTk) (aTn := aTn) (aTt := aTt) (aSz := aSz) (aWd := aWd) ks[i] ks
      have L' := bf_s25 (aIns := aIns) (aTk := aTk) (aTn := aTn) (aTt := aTt) (aSz := aSz) (aWd := aWd) ks[i] hl
      have vi := vp_in_nI (n := i) (N := 25) (by omega) (by decide)
      have ci := nI_clamp (n := i) (by omega)
      have r := hR i _ g
      have K := hV _ (List.mem_of_getElem? g)
      have gB : ¬ bf_f aWd ks[i] → by_g aWd ks (i + 1) 1 := fun F => Or.inr ⟨rfl, i, ks[i], g, F⟩
      have gG : bf_f aWd ks[i] → by_g aWd (bf_s aIns aTk aTn aTt aSz aWd ks[i] ks) (i + 1) x4 := fun F => by_gs hg P' z g F
      generalize ks[i] = k at *
      obtain ⟨d, s⟩ := k
      have K0 := K
      obtain ⟨hd, ls, es, e, kk⟩ := K0
      have r' : yKl i = nI (d * 2097152 + s) := r
      have hd' : d < nd := hd
      obtain ⟨_, s21⟩ := bk_b h12 K
      have s21' : s < 2097152 := s21
      obtain ⟨Wd, w6, e1, e2, _⟩ := C.2 d hd
      obtain ⟨N, N20, eN, kinds⟩ := S.2.2.2 d hd
      have mN : mk_v (aSz d) = N := by rw [eN, mk_vn (by omega)]
      have eW : mk_v (aWd d) = Wd := by rw [e1, mk_vn (by omega)]
      have vd := vp_in_nI (n := d) (N := 12) (by omega) (by decide)
      have e' : s = ty_e ls es := e
      refine br_f (nI_ge z (by omega)) ⟨vi, ?_⟩
      rw [ci, r']
      have FI : ∀ {ps : Int32 → Prop}, (Wd + kq_n 7 s ≤ 7 → ps 1) → (¬ Wd + kq_n 7 s ≤ 7 → ps 0) → wpY_fits ps (nI dl, nI cl, nI pl, nI nc, nI nd, fCK, fED, fEP, yAt, fH, fO, fAX, fAY, fLV, fRS, fLT, ySp, yDp, yEn, nI ks.length, yRk, aSup, aCpx, aCpy, aCr, aPx, aPy, aR, aCtx, aCls, aHd, aSz, yWd, aTk, aTn, aTt, aTs, aFl, aOt, yVl, yFx, yFy, yFk, yFp, yKl) (nI (d * 2097152 + s)) := by
        intro ps q1 q0
        rw [e'] at q1 q0 ⊢
        exact ky_fi h12 hd kk e2 w6 q1 q0
      refine FI (fun F => br_f (by decide) ⟨vi, ty_K, ?_⟩) (fun F => br_t rfl ?_)
      · have es' : bf_s aIns aTk aTn aTt aSz aWd (d, s) ks = bf_x aIns aTk aTn aTt d s N 0 ks := by
          unfold bf_s
          rw [eW, if_pos F, mN]
        have G := gG (show mk_v (aWd d) + kq_n 7 s ≤ 7 by rw [eW]; exact F)
        rw [es'] at hp V' L' G P'
        rw [ky_d (by omega) s21', nI_clamp (n := d) (by omega)]
        refine ⟨vd, nm_r eN (Exists.intro (N + 1) (by_ex S C K (by rw [eW]; exact F) eN N20 kinds (by omega) N 0 ks yKl (N + 1) (by omega) hR hV hl g (by omega) (fun kl rk => ?_)))⟩
        exact ih (i + 1) _ kl x4 n (by omega) rk V' L' G (by omega) hp
      · have es' : bf_s aIns aTk aTn aTt aSz aWd (d, s) ks = ks := by
          unfold bf_s
          rw [eW, if_neg F]
        rw [es'] at hp
        have G := gB (show ¬ mk_v (aWd d) + kq_n 7 s ≤ 7 by rw [eW]; exact F)
        exact Exists.intro 1 (br_t (by decide) (nm_r (nI_1 i) (ih (i + 1) ks yKl 1 n (by omega) hR hV hl G (by omega) hp)))
    · rw [bf_bn z] at hp
      exact br_t (nI_le z (by omega)) (hp yKl x4 hR (W z hg))
end
end
section
/-! 42: specialise: the two sorts -/
def so_S {α : Type} (n : Nat) (A A0 : Nat → α) : Prop := (∀ j, j < n → ∃ i, i < n ∧ A j = A0 i) ∧ (∀ i, i < n → ∃ j, j < n ∧ A j = A0 i) ∧ (∀ i j, i < n → j < n → A i = A j → i = j)
def so_s (p q j : Nat) : Nat := if j = p then q else if j = q then p else j
def so_w {α : Type} (A : Nat → α) (p q : Nat) : Nat → α := fun j => A (so_s p q j)
theorem so_ss (p q j : Nat) : so_s p q (so_s p q j) = j := by
  unfold so_s
  by_cases h1 : j = p
  · rw [if_pos h1]
    by_cases h2 : q = p
    · rw [if_pos h2]; omega
    · rw [if_neg h2, if_pos rfl]; exact h1.symm
  · rw [if_neg h1]
    by_cases h2 : j = q
    · rw [if_pos h2, if_pos rfl]; exact h2.symm
    · rw [if_neg h2, if_neg h1, if_neg h2]
theorem so_sn {p q j n : Nat} (hp : p < n) (hq : q < n) (hj : j < n) : so_s p q j < n := by
  unfold so_s
  split
  · exact hq
  · split
    · exact hp
    · exact hj
theorem so_wS {α : Type} {n p q : Nat} {A A0 : Nat → α} (h : so_S n A A0) (hp : p < n) (hq : q < n) : so_S n (so_w A p q) A0 := by
  obtain ⟨h1, h2, h3⟩ := h
  refine ⟨fun j hj => h1 _ (so_sn hp hq hj), fun i hi => ?_, fun i j hi hj e => ?_⟩
  · obtain ⟨j, hj, e⟩ := h2 i hi
    exact ⟨so_s p q j, so_sn hp hq hj, by unfold so_w; rw [so_ss]; exact e⟩
  · have := h3 _ _ (so_sn hp hq hi) (so_sn hp hq hj) e
    rw [← so_ss p q i, this, so_ss]
theorem so_uu (a : Nat → Int32) (p q : Nat) : upd (upd a p (a q)) q (a p) = so_w a p q := by
  funext j
  unfold so_w so_s upd
  by_cases h1 : j = q
  · rw [if_pos h1]
    by_cases h2 : j = p
    · rw [if_pos h2, ← h1, h2]
    · rw [if_neg h2, if_pos h1]
  · rw [if_neg h1]
    by_cases h2 : j = p
    · rw [if_pos h2, if_pos h2]
    · rw [if_neg h2, if_neg h2, if_neg h1]
theorem so_u {n : Nat} {f g : Nat → Nat} (hf : ∀ a b, a < b → b < n → f a < f b) (hg : ∀ a b, a < b → b < n → g a < g b) (h1 : ∀ j, j < n → ∃ i, i < n ∧ f j = g i) (h2 : ∀ i, i < n → ∃ j, j < n ∧ g i = f j) : ∀ j, j < n → f j = g j := by
  intro j
  induction j using Nat.strongRecOn with
  | ind j ih =>
    intro hj
    have A : g j ≤ f j := by
      obtain ⟨i, hi, e⟩ := h1 j hj
      rcases Nat.lt_trichotomy i j with z | z | z
      · have e1 := ih i z hi
        have e2 := hf i j z hj
        omega
      · rw [e, z]; exact Nat.le_refl _
      · have := hg j i z hi
        omega
    have B : f j ≤ g j := by
      obtain ⟨i, hi, e⟩ := h2 j hj
      rcases Nat.lt_trichotomy i j with z | z | z
      · have e1 := ih i z hi
        have e2 := hg i j z hj
        omega
      · rw [e, z]; exact Nat.le_refl _
      · have := hf j i z hi
        omega
    omega
def so_c (aKd aKt : Nat → Int32) (j : Nat) : Nat := mk_v (aKd j) * 2097152 + mk_v (aKt j)
/-- the keys to be sorted -/
def so_V (n : Nat) (A0 : Nat → Int32 × Int32) : Prop := ∀ i, i < n → ∃ d s, d < 12 ∧ s < 2097152 ∧ A0 i = (nI d, nI s)
section
variable {n : Nat} {aKd aKt : Nat → Int32} {A0 : Nat → Int32 × Int32}
theorem so_v (V : so_V n A0) (h : so_S n (fun j => (aKd j, aKt j)) A0) {j : Nat} (hj : j < n) : aKd j = nI (mk_v (aKd j)) ∧ aKt j = nI (mk_v (aKt j)) ∧ mk_v (aKd j) < 12 ∧ mk_v (aKt j) < 2097152 := by
  obtain ⟨i, hi, e⟩ := h.1 j hj
  obtain ⟨d, s, hd, hs, e2⟩ := V i hi
  rw [e2] at e
  obtain ⟨e3, e4⟩ := Prod.mk.inj e
  have e3' : aKd j = nI d := e3
  have e4' : aKt j = nI s := e4
  rw [e3', e4', mk_vn (by omega), mk_vn (by omega)]
  exact ⟨rfl, rfl, hd, hs⟩
theorem so_ci (V : so_V n A0) (h : so_S n (fun j => (aKd j, aKt j)) A0) {i j : Nat} (hi : i < n) (hj : j < n) (e : so_c aKd aKt i = so_c aKd aKt j) : i = j := by
  obtain ⟨a1, a2, a3, a4⟩ := so_v V h hi
  obtain ⟨b1, b2, b3, b4⟩ := so_v V h hj
  unfold so_c at e
  refine h.2.2 i j hi hj (Prod.ext ?_ ?_)
  · show aKd i = aKd j
    rw [a1, b1]
    exact congrArg nI (by omega)
  · show aKt i = aKt j
    rw [a2, b2]
    exact congrArg nI (by omega)
end
section
variable {dl cl pl nc nd : Nat} {fCK fED fEP fH fO fHP fNK fRC fTD fTT : Int32} {fAX fAY : Int64} {fRS : Int32} {fLV : Int64} {fLT fDP fEN : Int32} {fAN : Int64} {aSup aCpx aCpy aCr aIns aCls aHd aCtx aPx aPy aR aSz aWd aTk aTn aTt aTj aTs aFl aEl aOt aOk aKd aKt aCal aFd aFt aFc aFp aFh : Nat → Int32} {aFx aFy aVl : Nat → Int64} {nk : Nat} {A0 : Nat → Int32 × Int32}
theorem so_kb {post : Int32 → Prop} {a b : Nat} (n24 : nk ≤ 24) (V : so_V nk A0) (h : so_S nk (fun j => (aKd j, aKt j)) A0) (ha : a < nk) (hb : b < nk) (p1 : so_c aKd aKt a < so_c aKd aKt b → post 1) (p0 : ¬ so_c aKd aKt a < so_c aKd aKt b → post 0) : wpX_keyBefore post (nI dl, nI cl, nI pl, nI nc, nI nd, fCK, fED, fEP, fH, fO, fHP, fNK, fRC, fTD, fTT, fAX, fAY, fRS, fLV, fLT, fDP, fEN, fAN, aSup, aCpx, aCpy, aCr, aIns, aCls, aHd, aCtx, aPx, aPy, aR, aSz, aWd, aTk, aTn, aTt, aTj, aTs, aFl, aEl, aOt, aOk, aKd, aKt, aCal, aFd, aFt, aFc, aFp, aFh, aFx, aFy, aVl) (nI a) (nI b) := by
  have va := vp_in_nI (n := a) (N := 24) (by omega) (by decide)
  have vb := vp_in_nI (n := b) (N := 24) (by omega) (by decide)
  obtain ⟨a1, a2, a3, a4⟩ := so_v V h ha
  obtain ⟨b1, b2, b3, b4⟩ := so_v V h hb
  unfold so_c at p1 p0
  unfold wpX_keyBefore
  dsimp only
  rw [nI_clamp (n := a) (by omega), nI_clamp (n := b) (by omega), a1, a2, b1, b2]
  generalize mk_v (aKd a) = x at *
  generalize mk_v (aKd b) = y at *
  generalize mk_v (aKt a) = z at *
  generalize mk_v (aKt b) = w at *
  refine ⟨va, vb, ?_⟩
  by_cases e : x = y
  · refine br_t (by rw [e]) ⟨va, vb, ?_⟩
    by_cases f : w ≤ z
    · exact br_t (nI_le f (by omega)) (p0 (by omega))
    · exact br_f (nI_ge (by omega) (by omega)) (p1 (by omega))
  · refine br_f (fun q => e ((nI_eq (by omega) (by omega)).mp q)) ⟨va, vb, ?_⟩
    by_cases f : y ≤ x
    · exact br_t (nI_le f (by omega)) (p0 (by omega))
    · exact br_f (nI_ge (by omega) (by omega)) (p1 (by omega))
theorem so_x16 {post : SX → Prop} {n0 i : Nat} (n24 : nk ≤ 24) (V : so_V nk A0) (h : so_S nk (fun j => (aKd j, aKt j)) A0) (hi : i < nk) (hp : ∀ l, i ≤ l → l < nk → (∀ b, i ≤ b → b < nk → so_c aKd aKt l ≤ so_c aKd aKt b) → wX_sortKeys_2 post (nI dl) (nI cl) (nI pl) (nI nc) (nI nd) fCK fED fEP fH fO fHP (nI nk) fRC fTD fTT fAX fAY fRS fLV fLT fDP fEN fAN n0 (nI (i + 1)) aSup aCpx aCpy aCr aIns aCls aHd aCtx aPx aPy aR aSz aWd aTk aTn aTt aTj aTs aFl aEl aOt aOk (so_w aKd i l) (so_w aKt i l) aCal aFd aFt aFc aFp aFh aFx aFy aVl) : ∀ (m j l n : Nat), j + m = nk → i ≤ j → i ≤ l → l < nk → m < n → (∀ b, i ≤ b → b < j → so_c aKd aKt l ≤ so_c aKd aKt b) → wX_sortKeys_16 post (wX_sortKeys_2 post (nI dl) (nI cl) (nI pl) (nI nc) (nI nd) fCK fED fEP fH fO fHP (nI nk) fRC fTD fTT fAX fAY fRS fLV fLT fDP fEN fAN n0) (nI i) (nI dl) (nI cl) (nI pl) (nI nc) (nI nd) fCK fED fEP fH fO fHP (nI nk) fRC fTD fTT fAX fAY fRS fLV fLT fDP fEN fAN aSup aCpx aCpy aCr aIns aCls aHd aCtx aPx aPy aR aSz aWd aTk aTn aTt aTj aTs aFl aEl aOt aOk aKd aKt aCal aFd aFt aFc aFp aFh aFx aFy aVl n (nI l) (nI j) := by
  have vi := vp_in_nI (n := i) (N := 24) (by omega) (by decide)
  have ci := nI_clamp (n := i) (by omega)
  intro m
  induction m with
  | zero =>
    intro j l n hj ij hl hl' hn hb
    obtain ⟨n, rfl⟩ : ∃ q, n = q + 1 := ⟨n - 1, by omega⟩
    have vl := vp_in_nI (n := l) (N := 24) (by omega) (by decide)
    have H := hp l hl hl' (fun b h1 h2 => hb b h1 (by omega))
    rw [← so_uu aKd, ← so_uu aKt] at H
    refine br_t (nI_le (by omega) (by omega)) ?_
    rw [ci, nI_clamp (n := l) (by omega)]
    exact ⟨vi, nm_e ⟨vi, nm_e ⟨vl, vi, nm_e ⟨vl, vi, nm_e ⟨vl, nm_e ⟨vl, nm_e (nm_r (nI_1 i) H)⟩⟩⟩⟩⟩⟩
  | succ m ih =>
    intro j l n hj ij hl hl' hn hb
    obtain ⟨n, rfl⟩ : ∃ q, n = q + 1 := ⟨n - 1, by omega⟩
    refine br_f (nI_ge (by omega) (by omega)) (so_kb n24 V h (by omega) hl' (fun z => br_f (by decide) (nm_r (nI_1 j) ?_)) (fun z => br_t rfl (nm_r (nI_1 j) ?_)))
    · refine ih (j + 1) j n (by omega) (by omega) ij (by omega) (by omega) (fun b h1 h2 => ?_)
      rcases Nat.lt_or_ge b j with y | y
      · have := hb b h1 y; omega
      · have : b = j := by omega
        rw [this]; exact Nat.le_refl _
    · refine ih (j + 1) l n (by omega) (by omega) hl hl' (by omega) (fun b h1 h2 => ?_)
      rcases Nat.lt_or_ge b j with y | y
      · exact hb b h1 y
      · have : b = j := by omega
        rw [this]; omega
end
end
section
/-! 43: specialise: the sorts, whole -/
theorem so_sb {i l b : Nat} (hil : i ≤ l) : (b < i → so_s i l b = b) ∧ (i < b → i ≤ so_s i l b ∧ so_s i l b ≠ l) ∧ so_s i l i = l := by
  unfold so_s
  refine ⟨fun h => ?_, fun h => ?_, if_pos rfl⟩
  · rw [if_neg (by omega), if_neg (by omega)]
  · rw [if_neg (by omega)]
    split
    · omega
    · omega
theorem so_cw (aKd aKt : Nat → Int32) (i l j : Nat) : so_c (so_w aKd i l) (so_w aKt i l) j = so_c aKd aKt (so_s i l j) := rfl
section
variable {dl cl pl nc nd : Nat} {fCK fED fEP fH fO fHP fNK fRC fTD fTT : Int32} {fAX fAY : Int64} {fRS : Int32} {fLV : Int64} {fLT fDP fEN : Int32} {fAN : Int64} {aSup aCpx aCpy aCr aIns aCls aHd aCtx aPx aPy aR aSz aWd aTk aTn aTt aTj aTs aFl aEl aOt aOk aKd aKt aCal aFd aFt aFc aFp aFh : Nat → Int32} {aFx aFy aVl : Nat → Int64} {yAt ySp yDp yEn yRk : Int32} {yWd : Nat → Int32} {yVl yFx yFy : Nat → Int64} {yFk yFp yKl : Nat → Int32} {nk : Nat} {A0 : Nat → Int32 × Int32}
theorem so_x2 {post : SX → Prop} (n24 : nk ≤ 24) (V : so_V nk A0) (hp : ∀ kd kt : Nat → Int32, so_S nk (fun j => (kd j, kt j)) A0 → (∀ a b, a < b → b < nk → so_c kd kt a < so_c kd kt b) → post (nI dl, nI cl, nI pl, nI nc, nI nd, fCK, fED, fEP, fH, fO, fHP, nI nk, fRC, fTD, fTT, fAX, fAY, fRS, fLV, fLT, fDP, fEN, fAN, aSup, aCpx, aCpy, aCr, aIns, aCls, aHd, aCtx, aPx, aPy, aR, aSz, aWd, aTk, aTn, aTt, aTj, aTs, aFl, aEl, aOt, aOk, kd, kt, aCal, aFd, aFt, aFc, aFp, aFh, aFx, aFy, aVl)) : ∀ (m i : Nat) (aKd aKt : Nat → Int32) (n : Nat), i + m = nk → m < n → so_S nk (fun j => (aKd j, aKt j)) A0 → (∀ a b, a < i → a < b → b < nk → so_c aKd aKt a < so_c aKd aKt b) → wX_sortKeys_2 post (nI dl) (nI cl) (nI pl) (nI nc) (nI nd) fCK fED fEP fH fO fHP (nI nk) fRC fTD fTT fAX fAY fRS fLV fLT fDP fEN fAN n (nI i) aSup aCpx aCpy aCr aIns aCls aHd aCtx aPx aPy aR aSz aWd aTk aTn aTt aTj aTs aFl aEl aOt aOk aKd aKt aCal aFd aFt aFc aFp aFh aFx aFy aVl := by
  intro m
  induction m with
  | zero =>
    intro i aKd aKt n hi hn h hs
    obtain ⟨n, rfl⟩ : ∃ q, n = q + 1 := ⟨n - 1, by omega⟩
    exact br_t (nI_le (by omega) (by omega)) (hp aKd aKt h (fun a b h1 h2 => hs a b (by omega) h1 h2))
  | succ m ih =>
    intro i aKd aKt n hi hn h hs
    obtain ⟨n, rfl⟩ : ∃ q, n = q + 1 := ⟨n - 1, by omega⟩
    refine br_f (nI_ge (by omega) (by omega)) (nm_r (nI_1 i) (Exists.intro (nk + 1) (so_x16 n24 V h (by omega) (fun l h1 h2 h3 => ?_) (nk - (i + 1)) (i + 1) i (nk + 1) (by omega) (by omega) (Nat.le_refl _) (by omega) (by omega) (fun b h1 h2 => ?_))))
    · have h' := so_wS h (show i < nk by omega) h2
      refine ih (i + 1) _ _ n (by omega) (by omega) h' (fun a b q1 q2 q3 => ?_)
      rw [so_cw, so_cw]
      obtain ⟨s1, _, s3⟩ := so_sb (b := a) h1
      obtain ⟨t1, t2, _⟩ := so_sb (b := b) h1
      have hb := so_sn (p := i) (q := l) (show i < nk by omega) h2 q3
      rcases Nat.lt_or_ge a i with z | z
      · rw [s1 z]
        refine hs a _ z ?_ hb
        rcases Nat.lt_or_ge b i with y | y
        · rw [t1 y]; exact q2
        · rcases Nat.lt_or_ge i b with x | x
          · have := (t2 x).1; omega
          · have e : b = i := by omega
            rw [e, s3]; omega
      · have e : a = i := by omega
        rw [e, s3]
        obtain ⟨u1, u2⟩ := t2 (by omega)
        have q := h3 _ u1 hb
        rcases Nat.lt_or_ge (so_c aKd aKt l) (so_c aKd aKt (so_s i l b)) with y | y
        · exact y
        · exact absurd (so_ci V h hb h2 (by omega)) u2
    · have : b = i := by omega
      rw [this]; exact Nat.le_refl _
/-! Y: bubble sort -/
def so_N (n : Nat) (B0 : Nat → Int32) : Prop := ∀ i, i < n → ∃ c, c < 2 ^ 31 ∧ B0 i = nI c
theorem so_nv {B0 : Nat → Int32} (V : so_N nk B0) (h : so_S nk yKl B0) {j : Nat} (hj : j < nk) : yKl j = nI (mk_v (yKl j)) ∧ mk_v (yKl j) < 2 ^ 31 := by
  obtain ⟨i, hi, e⟩ := h.1 j hj
  obtain ⟨c, hc, e2⟩ := V i hi
  rw [e, e2, mk_vn hc]
  exact ⟨rfl, hc⟩
/-- after p passes -/
def so_T (nk p : Nat) (f : Nat → Nat) : Prop := ∀ a b, nk ≤ b + p → a < b → b < nk → f a ≤ f b
theorem so_y1 {post : Int32 → SY → Prop} {x4 x5 : Int32} {n0 p : Nat} {B0 : Nat → Int32} (n24 : nk ≤ 25) (V : so_N nk B0) (hp : ∀ kl : Nat → Int32, so_S nk kl B0 → so_T nk (p + 1) (fun j => mk_v (kl j)) → wY_specialise_203 post x4 x5 (nI dl) (nI cl) (nI pl) (nI nc) (nI nd) fCK fED fEP yAt fH fO fAX fAY fLV fRS fLT ySp yDp yEn (nI nk) yRk n0 (nI (p + 1)) aSup aCpx aCpy aCr aPx aPy aR aCtx aCls aHd aSz yWd aTk aTn aTt aTs aFl aOt yVl yFx yFy yFk yFp kl) : ∀ (m j : Nat) (yKl : Nat → Int32) (n : Nat), j + m + 1 = nk → m < n → p < nk → so_S nk yKl B0 → so_T nk p (fun j => mk_v (yKl j)) → (∀ c, c ≤ j → c + p + 1 ≤ nk → (c = j ∨ c + p + 1 = nk) → ∀ a, a < c → mk_v (yKl a) ≤ mk_v (yKl c)) → wY_specialise_215 post (wY_specialise_203 post x4 x5 (nI dl) (nI cl) (nI pl) (nI nc) (nI nd) fCK fED fEP yAt fH fO fAX fAY fLV fRS fLT ySp yDp yEn (nI nk) yRk n0) x4 x5 (nI p) (nI dl) (nI cl) (nI pl) (nI nc) (nI nd) fCK fED fEP yAt fH fO fAX fAY fLV fRS fLT ySp yDp yEn (nI nk) yRk n (nI j) aSup aCpx aCpy aCr aPx aPy aR aCtx aCls aHd aSz yWd aTk aTn aTt aTs aFl aOt yVl yFx yFy yFk yFp yKl := by
  intro m
  induction m with
  | zero =>
    intro j yKl n hj hn hpn h hT hI
    obtain ⟨n, rfl⟩ : ∃ q, n = q + 1 := ⟨n - 1, by omega⟩
    refine br_t ?_ (nm_r (nI_1 p) (hp yKl h (fun a b h1 h2 h3 => ?_)))
    · rw [nI_1]; exact nI_le (by omega) (by omega)
    · rcases Nat.lt_or_ge (b + p) nk with z | z
      · exact hI b (by omega) (by omega) (Or.inr (by omega)) a h2
      · exact hT a b z h2 h3
  | succ m ih =>
    intro j yKl n hj hn hpn h hT hI
    obtain ⟨n, rfl⟩ : ∃ q, n = q + 1 := ⟨n - 1, by omega⟩
    have v0 := vp_in_nI (n := j) (N := 25) (by omega) (by decide)
    have v1 := vp_in_nI (n := j + 1) (N := 25) (by omega) (by decide)
    obtain ⟨a1, a2⟩ := so_nv V h (j := j) (by omega)
    obtain ⟨b1, b2⟩ := so_nv V h (j := j + 1) (by omega)
    refine br_f ?_ ⟨v0, ?_⟩
    · rw [nI_1]; exact nI_ge (by omega) (by omega)
    · rw [nI_1, nI_clamp (n := j) (by omega), nI_clamp (n := j + 1) (by omega)]
      refine nm_e ⟨v1, ?_⟩
      by_cases z : mk_v (yKl j) ≤ mk_v (yKl (j + 1))
      · refine br_t (by rw [a1, b1]; exact nI_le z b2) (nm_e (ih (j + 1) yKl n (by omega) (by omega) hpn h hT (fun c h1 h2 h3 a ha => ?_)))
        rcases Nat.lt_or_ge j c with y | y
        · have e : c = j + 1 := by omega
          subst e
          rcases Nat.lt_or_ge a j with w | w
          · have := hI j (Nat.le_refl _) (by omega) (Or.inl rfl) a w
            omega
          · have : a = j := by omega
            rw [this]; exact z
        · exact hI c y h2 (Or.inr (by omega)) a ha
      · have h' := so_wS h (show j < nk by omega) (show j + 1 < nk by omega)
        have jp : j + 1 + p < nk := by
          rcases Nat.lt_or_ge (j + 1 + p) nk with y | y
          · exact y
          · exact absurd (hT j (j + 1) (by omega) (by omega) (by omega)) z
        have W0 : so_w yKl j (j + 1) j = yKl (j + 1) := by unfold so_w so_s; rw [if_pos rfl]
        have W1 : so_w yKl j (j + 1) (j + 1) = yKl j := by unfold so_w so_s; rw [if_neg (by omega), if_pos rfl]
        have Wn : ∀ x, x ≠ j → x ≠ j + 1 → so_w yKl j (j + 1) x = yKl x := fun x e1 e2 => by unfold so_w so_s; rw [if_neg e1, if_neg e2]
        refine br_f (by rw [a1, b1]; exact nI_ge (by omega) a2) ⟨v1, v0, nm_e ⟨v1, nm_e (nm_e ?_)⟩⟩
        rw [so_uu]
        refine ih (j + 1) _ n (by omega) (by omega) hpn h' (fun a b h1 h2 h3 => ?_) (fun c h1 h2 h3 a ha => ?_)
        · show mk_v (so_w yKl j (j + 1) a) ≤ mk_v (so_w yKl j (j + 1) b)
          rw [Wn b (by omega) (by omega)]
          have sa : so_s j (j + 1) a < b := by
            unfold so_s
            (repeat' split) <;> omega
          exact hT _ b h1 sa h3
        · rcases Nat.lt_or_ge j c with y | y
          · have e : c = j + 1 := by omega
            subst e
            rw [W1]
            by_cases w : a = j
            · rw [w, W0]; omega
            · rw [Wn a w (by omega)]
              exact hI j (Nat.le_refl _) (by omega) (Or.inl rfl) a (by omega)
          · omega
theorem so_y2 {post : Int32 → SY → Prop} {B0 : Nat → Int32} (n24 : nk ≤ 25) (V : so_N nk B0) (hp : ∀ kl : Nat → Int32, so_S nk kl B0 → (∀ a b, a < b → b < nk → mk_v (kl a) < mk_v (kl b)) → post 0 (nI dl, nI cl, nI pl, nI nc, nI nd, fCK, fED, fEP, yAt, fH, fO, fAX, fAY, fLV, fRS, fLT, ySp, yDp, yEn, nI nk, yRk, aSup, aCpx, aCpy, aCr, aPx, aPy, aR, aCtx, aCls, aHd, aSz, yWd, aTk, aTn, aTt, aTs, aFl, aOt, yVl, yFx, yFy, yFk, yFp, kl)) : ∀ (m p : Nat) (yKl : Nat → Int32) (n : Nat), p + m = nk → m < n → so_S nk yKl B0 → so_T nk p (fun j => mk_v (yKl j)) → wY_specialise_203 post 0 0 (nI dl) (nI cl) (nI pl) (nI nc) (nI nd) fCK fED fEP yAt fH fO fAX fAY fLV fRS fLT ySp yDp yEn (nI nk) yRk n (nI p) aSup aCpx aCpy aCr aPx aPy aR aCtx aCls aHd aSz yWd aTk aTn aTt aTs aFl aOt yVl yFx yFy yFk yFp yKl := by
  intro m
  induction m with
  | zero =>
    intro p yKl n hm hn h hT
    obtain ⟨n, rfl⟩ : ∃ q, n = q + 1 := ⟨n - 1, by omega⟩
    refine br_t (nI_le (by omega) (by omega)) (br_t rfl (br_t rfl (hp yKl h (fun a b h1 h2 => ?_))))
    have q : mk_v (yKl a) ≤ mk_v (yKl b) := hT a b (by omega) h1 h2
    rcases Nat.lt_or_ge (mk_v (yKl a)) (mk_v (yKl b)) with z | z
    · exact z
    · obtain ⟨a1, a2⟩ := so_nv V h (j := a) (by omega)
      obtain ⟨b1, b2⟩ := so_nv V h (j := b) h2
      have e : a = b := h.2.2 a b (by omega) h2 (by rw [a1, b1]; exact congrArg nI (by omega))
      omega
  | succ m ih =>
    intro p yKl n hm hn h hT
    obtain ⟨n, rfl⟩ : ∃ q, n = q + 1 := ⟨n - 1, by omega⟩
    refine br_f (nI_ge (by omega) (by omega)) (Exists.intro (nk + 1) (so_y1 n24 V (fun kl k1 k2 => ?_) (nk - 1) 0 yKl (nk + 1) (by omega) (by omega) (by omega) h hT (fun c h1 _ _ a ha => by omega)))
    exact ih (p + 1) kl n (by omega) (by omega) k1 k2
end
end
section
/-! 44: specialise: all keys fit, the keys after the sorts, the callees -/
def lk_A (ks : List (Nat × Nat)) (i : Nat) : Int32 × Int32 := (ks[i]?).elim (0, 0) (fun k => (nI k.1, nI k.2))
def lk_B (ks : List (Nat × Nat)) (i : Nat) : Int32 := (ks[i]?).elim 0 (fun k => nI (k.1 * 2097152 + k.2))
theorem lk_a {ks : List (Nat × Nat)} {i : Nat} {k : Nat × Nat} (e : ks[i]? = some k) : lk_A ks i = (nI k.1, nI k.2) := by
  unfold lk_A
  rw [e]
  rfl
theorem lk_b {ks : List (Nat × Nat)} {i : Nat} {k : Nat × Nat} (e : ks[i]? = some k) : lk_B ks i = nI (k.1 * 2097152 + k.2) := by
  unfold lk_B
  rw [e]
  rfl
section
variable {nd : Nat} {aSup aIns aHd aCtx aKd aKt yKl : Nat → Int32} {ks : List (Nat × Nat)}
theorem lk_g {i : Nat} (h : i < ks.length) : ks[i]? = some ks[i] := List.getElem?_eq_some_iff.mpr ⟨h, rfl⟩
theorem lk_V (h12 : nd ≤ 12) (hV : bk_V nd aSup aIns aHd aCtx ks) : so_V ks.length (lk_A ks) := by
  intro i hi
  obtain ⟨b1, b2⟩ := bk_b h12 (hV _ (List.mem_of_getElem? (lk_g hi)))
  exact ⟨_, _, b1, b2, lk_a (lk_g hi)⟩
theorem lk_N (h12 : nd ≤ 12) (hV : bk_V nd aSup aIns aHd aCtx ks) : so_N ks.length (lk_B ks) := by
  intro i hi
  obtain ⟨b1, b2⟩ := bk_b h12 (hV _ (List.mem_of_getElem? (lk_g hi)))
  exact ⟨_, by omega, lk_b (lk_g hi)⟩
theorem lk_S (h12 : nd ≤ 12) (hV : bk_V nd aSup aIns aHd aCtx ks) (hR : bx_R aKd aKt ks) (hJ : bf_j ks) : so_S ks.length (fun j => (aKd j, aKt j)) (lk_A ks) := by
  have E : ∀ j, j < ks.length → (aKd j, aKt j) = lk_A ks j := fun j hj => by
    obtain ⟨r1, r2⟩ := hR j _ (lk_g hj)
    rw [lk_a (lk_g hj), r1, r2]
  refine ⟨fun j hj => ⟨j, hj, E j hj⟩, fun j hj => ⟨j, hj, E j hj⟩, fun i j hi hj e => ?_⟩
  have e' : (aKd i, aKt i) = (aKd j, aKt j) := e
  rw [E i hi, E j hj, lk_a (lk_g hi), lk_a (lk_g hj)] at e'
  obtain ⟨e1, e2⟩ := Prod.mk.inj e'
  obtain ⟨b1, b2⟩ := bk_b h12 (hV _ (List.mem_of_getElem? (lk_g hi)))
  obtain ⟨c1, c2⟩ := bk_b h12 (hV _ (List.mem_of_getElem? (lk_g hj)))
  have q : ks[i] = ks[j] := Prod.ext ((nI_eq (by omega) (by omega)).mp e1) ((nI_eq (by omega) (by omega)).mp e2)
  exact hJ i j _ (lk_g hi) (by rw [q]; exact lk_g hj)
theorem lk_T (h12 : nd ≤ 12) (hV : bk_V nd aSup aIns aHd aCtx ks) (hR : by_R yKl ks) (hJ : bf_j ks) : so_S ks.length yKl (lk_B ks) := by
  have E : ∀ j, j < ks.length → yKl j = lk_B ks j := fun j hj => by
    rw [lk_b (lk_g hj), hR j _ (lk_g hj)]
  refine ⟨fun j hj => ⟨j, hj, E j hj⟩, fun j hj => ⟨j, hj, E j hj⟩, fun i j hi hj e => ?_⟩
  rw [E i hi, E j hj, lk_b (lk_g hi), lk_b (lk_g hj)] at e
  obtain ⟨b1, b2⟩ := bk_b h12 (hV _ (List.mem_of_getElem? (lk_g hi)))
  obtain ⟨c1, c2⟩ := bk_b h12 (hV _ (List.mem_of_getElem? (lk_g hj)))
  have e2 := (nI_eq (by omega) (by omega)).mp e
  have q : ks[i] = ks[j] := Prod.ext (by omega) (by omega)
  exact hJ i j _ (lk_g hi) (by rw [q]; exact lk_g hj)
/-- a place of the sorted arrays holds a key -/
theorem lk_1 (h12 : nd ≤ 12) (hV : bk_V nd aSup aIns aHd aCtx ks) (h : so_S ks.length (fun j => (aKd j, aKt j)) (lk_A ks)) {j : Nat} (hj : j < ks.length) : (mk_v (aKd j), mk_v (aKt j)) ∈ ks ∧ aKd j = nI (mk_v (aKd j)) ∧ aKt j = nI (mk_v (aKt j)) := by
  obtain ⟨i, hi, e⟩ := h.1 j hj
  obtain ⟨b1, b2⟩ := bk_b h12 (hV _ (List.mem_of_getElem? (lk_g hi)))
  rw [lk_a (lk_g hi)] at e
  obtain ⟨e1, e2⟩ := Prod.mk.inj e
  have e1' : aKd j = nI (ks[i]).1 := e1
  have e2' : aKt j = nI (ks[i]).2 := e2
  rw [e1', e2', mk_vn (by omega), mk_vn (by omega)]
  exact ⟨List.mem_of_getElem? (lk_g hi), rfl, rfl⟩
theorem lk_2 (h12 : nd ≤ 12) (hV : bk_V nd aSup aIns aHd aCtx ks) (h : so_S ks.length (fun j => (aKd j, aKt j)) (lk_A ks)) {k : Nat × Nat} (hk : k ∈ ks) : ∃ j, j < ks.length ∧ aKd j = nI k.1 ∧ aKt j = nI k.2 ∧ (mk_v (aKd j), mk_v (aKt j)) = k := by
  obtain ⟨i, g⟩ := List.mem_iff_getElem?.mp hk
  obtain ⟨hi, _⟩ := List.getElem?_eq_some_iff.mp g
  obtain ⟨j, hj, e⟩ := h.2.1 i hi
  obtain ⟨b1, b2⟩ := bk_b h12 (hV _ hk)
  rw [lk_a g] at e
  obtain ⟨e1, e2⟩ := Prod.mk.inj e
  have e1' : aKd j = nI k.1 := e1
  have e2' : aKt j = nI k.2 := e2
  refine ⟨j, hj, e1', e2', ?_⟩
  rw [e1', e2', mk_vn (by omega), mk_vn (by omega)]
theorem lk_3 (h12 : nd ≤ 12) (hV : bk_V nd aSup aIns aHd aCtx ks) (h : so_S ks.length (fun j => (aKd j, aKt j)) (lk_A ks)) {i j : Nat} (hi : i < ks.length) (hj : j < ks.length) (e1 : mk_v (aKd i) = mk_v (aKd j)) (e2 : mk_v (aKt i) = mk_v (aKt j)) : i = j := by
  obtain ⟨_, a1, a2⟩ := lk_1 h12 hV h hi
  obtain ⟨_, b1, b2⟩ := lk_1 h12 hV h hj
  refine h.2.2 i j hi hj (Prod.ext ?_ ?_)
  · show aKd i = aKd j
    rw [a1, b1, e1]
  · show aKt i = aKt j
    rw [a2, b2, e2]
end
section
variable {dl cl pl nc nd : Nat} {fCK fED fEP fH fO fHP fNK fRC fTD fTT : Int32} {fAX fAY : Int64} {fRS : Int32} {fLV : Int64} {fLT fDP fEN : Int32} {fAN : Int64} {aSup aCpx aCpy aCr aIns aCls aHd aCtx aPx aPy aR aSz aWd aTk aTn aTt aTj aTs aFl aEl aOt aOk aKd aKt aCal aFd aFt aFc aFp aFh : Nat → Int32} {aFx aFy aVl : Nat → Int64} {yAt ySp yDp yEn yRk : Int32} {yWd : Nat → Int32} {yVl yFx yFy : Nat → Int64} {yFk yFp yKl : Nat → Int32} {ks : List (Nat × Nat)}
theorem lk_f {post : Int32 → Prop} (S : (sr nc nd aSup aCpx aCpy aCr aIns aCls aHd aCtx aPx aPy aR aSz aTk aTn)) (C : (ck nc nd aSup aCpx aCpy aCr aIns aCls aHd aCtx aPx aPy aR aSz aWd yWd aTk aTn aTt aTj)) (l24 : ks.length ≤ 24) (hR : bx_R aKd aKt ks) (hV : bk_V nd aSup aIns aHd aCtx ks) (p1 : (∀ (j : Nat) (k : Nat × Nat), ks[j]? = some k → bf_f aWd k) → post 1) (p0 : (∃ (j : Nat) (k : Nat × Nat), ks[j]? = some k ∧ ¬ bf_f aWd k) → post 0) : ∀ (m i n : Nat), i + m = ks.length → m < n → (∀ (j : Nat) (k : Nat × Nat), j < i → ks[j]? = some k → bf_f aWd k) → wX_allKeysFit_2 post (nI dl) (nI cl) (nI pl) (nI nc) (nI nd) fCK fED fEP fH fO fHP (nI ks.length) fRC fTD fTT fAX fAY fRS fLV fLT fDP fEN fAN aSup aCpx aCpy aCr aIns aCls aHd aCtx aPx aPy aR aSz aWd aTk aTn aTt aTj aTs aFl aEl aOt aOk aKd aKt aCal aFd aFt aFc aFp aFh aFx aFy aVl n (nI i) := by
  have h12 := S.1.2.1
  intro m
  induction m with
  | zero =>
    intro i n hi hn hj
    obtain ⟨n, rfl⟩ : ∃ q, n = q + 1 := ⟨n - 1, by omega⟩
    refine br_t (nI_le (by omega) (by omega)) (p1 (fun j k e => ?_))
    obtain ⟨h, _⟩ := List.getElem?_eq_some_iff.mp e
    exact hj j k (by omega) e
  | succ m ih =>
    intro i n hi hn hj
    obtain ⟨n, rfl⟩ : ∃ q, n = q + 1 := ⟨n - 1, by omega⟩
    have g := lk_g (ks := ks) (i := i) (by omega)
    have vi := vp_in_nI (n := i) (N := 24) (by omega) (by decide)
    obtain ⟨r1, r2⟩ := hR i _ g
    have K := hV _ (List.mem_of_getElem? g)
    generalize ks[i] = k at *
    obtain ⟨hd, ls, es, e, kk⟩ := K
    obtain ⟨W, w6, e1, _⟩ := C.2 _ hd
    have eW : mk_v (aWd k.1) = W := by rw [e1, mk_vn (by omega)]
    refine br_f (nI_ge (by omega) (by omega)) ⟨vi, vi, ?_⟩
    rw [nI_clamp (n := i) (by omega), r1, r2, e]
    refine kx_fi h12 hd kk e1 w6 (fun F => br_f (by decide) (nm_r (nI_1 i) (ih (i + 1) n (by omega) (by omega) (fun j x hj' hx => ?_)))) (fun F => br_t rfl (p0 ⟨i, k, g, ?_⟩))
    · rcases Nat.lt_or_ge j i with z | z
      · exact hj j x z hx
      · have : j = i := by omega
        subst this
        rw [g] at hx
        rw [← Option.some.inj hx]
        unfold bf_f
        rw [eW, e]
        exact F
    · unfold bf_f
      rw [eW, e]
      exact F
/-- the callee of token i of clone k is right -/
def lk_D (aSz aTk aIns aTn aTt aKd aKt aCal : Nat → Int32) (nk k i : Nat) : Prop := i < mk_v (aSz (mk_v (aKd k))) → (wt_k aTk (mk_v (aKd k)) i < 17 → aCal (20 * k + i) = -1) ∧ (17 ≤ wt_k aTk (mk_v (aKd k)) i → ∃ j, j < nk ∧ aCal (20 * k + i) = nI j ∧ (mk_v (aKd j), mk_v (aKt j)) = kq_t aIns aTk aTn aTt (mk_v (aKd k)) (mk_v (aKt k)) i)
theorem lk_u {nk k i k0 i0 : Nat} {x : Int32} (h : lk_D aSz aTk aIns aTn aTt aKd aKt aCal nk k i) (ne : 20 * k + i ≠ 20 * k0 + i0) : lk_D aSz aTk aIns aTn aTt aKd aKt (upd aCal (20 * k0 + i0) x) nk k i := by
  intro hi
  rw [pk_un ne]
  exact h hi
theorem lk_19 {post : SX → Prop} {n0 k N : Nat} (S : (sr nc nd aSup aCpx aCpy aCr aIns aCls aHd aCtx aPx aPy aR aSz aTk aTn)) (C : (ck nc nd aSup aCpx aCpy aCr aIns aCls aHd aCtx aPx aPy aR aSz aWd yWd aTk aTn aTt aTj)) (l24 : ks.length ≤ 24) (hV : bk_V nd aSup aIns aHd aCtx ks) (h : so_S ks.length (fun j => (aKd j, aKt j)) (lk_A ks)) (hF : ∀ x, x ∈ ks → bf_f aWd x) (hC : ∀ x, x ∈ ks → ∀ q, q < mk_v (aSz x.1) → 17 ≤ wt_k aTk x.1 q → kq_t aIns aTk aTn aTt x.1 x.2 q ∈ ks) (hz : ∀ j, j < ks.length → mk_v (aSz (mk_v (aKd j))) ≤ 20) (hk : k < ks.length) (eN : aSz (mk_v (aKd k)) = nI N) (N20 : N ≤ 20) (kinds : ∀ i, i < N → sr_t aTk aTn (20 * mk_v (aKd k) + i)) : ∀ (m i : Nat) (fTD fTT : Int32) (aCal : Nat → Int32) (n : Nat), i + m = N → m < n → (∀ k' i', k' < k → lk_D aSz aTk aIns aTn aTt aKd aKt aCal ks.length k' i') → (∀ i', i' < i → lk_D aSz aTk aIns aTn aTt aKd aKt aCal ks.length k i') →
    (∀ (fTD fTT : Int32) (aCal : Nat → Int32), (∀ k' i', k' < k + 1 → lk_D aSz aTk aIns aTn aTt aKd aKt aCal ks.length k' i') → wX_linkCallees_2 post n0 (nI (k + 1)) (nI dl) (nI cl) (nI pl) (nI nc) (nI nd) fCK fED fEP fH fO fHP (nI ks.length) fRC fTD fTT fAX fAY fRS fLV fLT fDP fEN fAN aSup aCpx aCpy aCr aIns aCls aHd aCtx aPx aPy aR aSz aWd aTk aTn aTt aTj aTs aFl aEl aOt aOk aKd aKt aCal aFd aFt aFc aFp aFh aFx aFy aVl) → wX_linkCallees_19 post (wX_linkCallees_2 post n0) (nI k) (nI (mk_v (aKd k))) n (nI i) (nI dl) (nI cl) (nI pl) (nI nc) (nI nd) fCK fED fEP fH fO fHP (nI ks.length) fRC fTD fTT fAX fAY fRS fLV fLT fDP fEN fAN aSup aCpx aCpy aCr aIns aCls aHd aCtx aPx aPy aR aSz aWd aTk aTn aTt aTj aTs aFl aEl aOt aOk aKd aKt aCal aFd aFt aFc aFp aFh aFx aFy aVl := by
  have H : (sr_H nc nd aSup aIns aCls aHd aCtx) := S.1
  have h12 := H.2.1
  obtain ⟨km, k1, k2⟩ := lk_1 h12 hV h hk
  have K := hV _ km
  have Fk := hF _ km
  have Ck := hC _ km
  obtain ⟨d12, s21⟩ := bk_b h12 K
  have vk := vp_in_nI (n := k) (N := 24) (by omega) (by decide)
  have ck := nI_clamp (n := k) (by omega)
  have mN : mk_v (aSz (mk_v (aKd k))) = N := by rw [eN, mk_vn (by omega)]
  intro m
  induction m with
  | zero =>
    intro i fTD fTT aCal n hi hn D1 D2 hp
    obtain ⟨n, rfl⟩ : ∃ q, n = q + 1 := ⟨n - 1, by omega⟩
    have vd := vp_in_nI (n := mk_v (aKd k)) (N := 12) d12 (by decide)
    refine ⟨vd, ?_⟩
    rw [nI_clamp (n := mk_v (aKd k)) (by omega), eN]
    refine br_t (nI_le (by omega) (by omega)) (nm_r (nI_1 k) (hp _ _ _ (fun k' i' hk' => ?_)))
    rcases Nat.lt_or_ge k' k with z | z
    · exact D1 k' i' z
    · have : k' = k := by omega
      subst this
      rcases Nat.lt_or_ge i' i with y | y
      · exact D2 i' y
      · intro q
        rw [mN] at q
        omega
  | succ m ih =>
    intro i fTD fTT aCal n hi hn D1 D2 hp
    obtain ⟨n, rfl⟩ : ∃ q, n = q + 1 := ⟨n - 1, by omega⟩
    have vd := vp_in_nI (n := mk_v (aKd k)) (N := 12) d12 (by decide)
    obtain ⟨t, t18, et, _⟩ := kinds i (by omega)
    have tt := kx_k t18 et
    have cw := nI_clamp (n := 20 * mk_v (aKd k) + i) (by omega)
    have P78 : ∀ (x5 fTD fTT : Int32), ((t < 17 → x5 = -1) ∧ (17 ≤ t → ∃ j, j < ks.length ∧ x5 = nI j ∧ (mk_v (aKd j), mk_v (aKt j)) = kq_t aIns aTk aTn aTt (mk_v (aKd k)) (mk_v (aKt k)) i)) → wX_linkCallees_78 post (wX_linkCallees_2 post n0) (wX_linkCallees_19 post (wX_linkCallees_2 post n0) (nI k) (nI (mk_v (aKd k))) n) (nI k) (nI (mk_v (aKd k))) (nI i) x5 (nI dl) (nI cl) (nI pl) (nI nc) (nI nd) fCK fED fEP fH fO fHP (nI ks.length) fRC fTD fTT fAX fAY fRS fLV fLT fDP fEN fAN aSup aCpx aCpy aCr aIns aCls aHd aCtx aPx aPy aR aSz aWd aTk aTn aTt aTj aTs aFl aEl aOt aOk aKd aKt aCal aFd aFt aFc aFp aFh aFx aFy aVl := by
      intro x5 fTD fTT hx
      unfold wX_linkCallees_78
      rw [sm_20x, nI_clamp (n := 20 * k + i) (by omega)]
      refine ⟨vp_in_nI (by omega) (by decide), nm_e (nm_r (nI_1 i) (ih (i + 1) fTD fTT _ n (by omega) (by omega) (fun k' i' hk' => ?_) (fun i' hi' => ?_) hp))⟩
      · intro q
        have q20 := hz k' (by omega)
        exact lk_u (D1 k' i' hk') (by omega) q
      · rcases Nat.lt_or_ge i' i with z | z
        · exact lk_u (D2 i' z) (by omega)
        · have : i' = i := by omega
          subst this
          intro _
          rw [pk_us, tt]
          exact hx
    refine ⟨vd, ?_⟩
    rw [nI_clamp (n := mk_v (aKd k)) (by omega), eN]
    refine br_f (nI_ge (by omega) (by omega)) (nm_r (sm_20x _ _) ?_)
    rw [cw, et]
    refine ⟨vp_in_nI (by omega) (by decide), ?_⟩
    by_cases t17 : t < 17
    · exact br_t (nI_lt (b := 17) t17 (by decide)) (P78 _ _ _ ⟨fun _ => rfl, fun z => by omega⟩)
    · obtain ⟨d', s', hd', hs', K', A, etg⟩ := bx_t S C (i := i) K Fk (by rw [mN]; omega) (by rw [tt]; omega)
      have mem := Ck i (by rw [mN]; omega) (by rw [tt]; omega)
      rw [etg] at mem
      obtain ⟨j, hj, j1, j2, j3⟩ := lk_2 h12 hV h mem
      refine br_f (nI_nlt (b := 17) (by omega) (by omega)) ⟨vk, ?_⟩
      rw [ck, k2]
      refine kx_ft H.1 (by omega) (by omega) t18 et A (fk_x (by omega) (fun x hx e1 e2 _ => P78 _ _ _ ⟨fun z => by omega, fun _ => ⟨x, hx, rfl, ?_⟩⟩) (fun e => absurd ⟨j1, j2⟩ (e j hj)))
      rw [etg, e1, e2, mk_vn (by omega), mk_vn (by omega)]
theorem lk_2w {post : SX → Prop} (S : (sr nc nd aSup aCpx aCpy aCr aIns aCls aHd aCtx aPx aPy aR aSz aTk aTn)) (C : (ck nc nd aSup aCpx aCpy aCr aIns aCls aHd aCtx aPx aPy aR aSz aWd yWd aTk aTn aTt aTj)) (l24 : ks.length ≤ 24) (hV : bk_V nd aSup aIns aHd aCtx ks) (h : so_S ks.length (fun j => (aKd j, aKt j)) (lk_A ks)) (hF : ∀ x, x ∈ ks → bf_f aWd x) (hC : ∀ x, x ∈ ks → ∀ q, q < mk_v (aSz x.1) → 17 ≤ wt_k aTk x.1 q → kq_t aIns aTk aTn aTt x.1 x.2 q ∈ ks) (hp : ∀ (fTD fTT : Int32) (aCal : Nat → Int32), (∀ k i, k < ks.length → lk_D aSz aTk aIns aTn aTt aKd aKt aCal ks.length k i) → post (nI dl, nI cl, nI pl, nI nc, nI nd, fCK, fED, fEP, fH, fO, fHP, nI ks.length, fRC, fTD, fTT, fAX, fAY, fRS, fLV, fLT, fDP, fEN, fAN, aSup, aCpx, aCpy, aCr, aIns, aCls, aHd, aCtx, aPx, aPy, aR, aSz, aWd, aTk, aTn, aTt, aTj, aTs, aFl, aEl, aOt, aOk, aKd, aKt, aCal, aFd, aFt, aFc, aFp, aFh, aFx, aFy, aVl)) : ∀ (m k : Nat) (fTD fTT : Int32) (aCal : Nat → Int32) (n : Nat), k + m = ks.length → m < n → (∀ k' i', k' < k → lk_D aSz aTk aIns aTn aTt aKd aKt aCal ks.length k' i') → wX_linkCallees_2 post n (nI k) (nI dl) (nI cl) (nI pl) (nI nc) (nI nd) fCK fED fEP fH fO fHP (nI ks.length) fRC fTD fTT fAX fAY fRS fLV fLT fDP fEN fAN aSup aCpx aCpy aCr aIns aCls aHd aCtx aPx aPy aR aSz aWd aTk aTn aTt aTj aTs aFl aEl aOt aOk aKd aKt aCal aFd aFt aFc aFp aFh aFx aFy aVl := by
  have H : (sr_H nc nd aSup aIns aCls aHd aCtx) := S.1
  have h12 := H.2.1
  have hz : ∀ j, j < ks.length → mk_v (aSz (mk_v (aKd j))) ≤ 20 := fun j hj => by
    obtain ⟨N, N20, eN, _⟩ := S.2.2.2 _ (hV _ (lk_1 h12 hV h hj).1).1
    rw [eN, mk_vn (by omega)]
    exact N20
  intro m
  induction m with
  | zero =>
    intro k fTD fTT aCal n hk hn D
    obtain ⟨n, rfl⟩ : ∃ q, n = q + 1 := ⟨n - 1, by omega⟩
    exact br_t (nI_le (by omega) (by omega)) (hp _ _ _ (fun k' i hk' => D k' i (by omega)))
  | succ m ih =>
    intro k fTD fTT aCal n hk hn D
    obtain ⟨n, rfl⟩ : ∃ q, n = q + 1 := ⟨n - 1, by omega⟩
    obtain ⟨km, k1, k2⟩ := lk_1 h12 hV h (show k < ks.length by omega)
    obtain ⟨N, N20, eN, kinds⟩ := S.2.2.2 _ (hV _ km).1
    refine br_f (nI_ge (by omega) (by omega)) ⟨vp_in_nI (by omega) (by decide), ?_⟩
    rw [nI_clamp (n := k) (by omega)]
    refine nm_r k1 (Exists.intro (N + 1) (lk_19 S C l24 hV h hF hC hz (by omega) eN N20 kinds N 0 fTD fTT aCal (N + 1) (by omega) (by omega) D (fun i hi => absurd hi (by omega)) ?_))
    intro fTD fTT aCal D'
    exact ih (k + 1) fTD fTT aCal n (by omega) (by omega) D'
end
end
section
/-! 45: specialise -/
section
variable {dl cl pl nc nd : Nat} {fCK fED fEP fH fO fHP fNK fRC fTD fTT : Int32} {fAX fAY : Int64} {fRS : Int32} {fLV : Int64} {fLT fDP fEN : Int32} {fAN : Int64} {aSup aCpx aCpy aCr aIns aCls aHd aCtx aPx aPy aR aSz aWd aTk aTn aTt aTj aTs aFl aEl aOt aOk aKd aKt aCal aFd aFt aFc aFp aFh : Nat → Int32} {aFx aFy aVl : Nat → Int64} {yAt ySp yDp yEn yRk : Int32} {yWd : Nat → Int32} {yVl yFx yFy : Nat → Int64} {yFk yFp yKl : Nat → Int32} {f s : Nat}
/-- the keys that the search ends with -/
def sp_k (aIns aTk aTn aTt aSz aWd : Nat → Int32) (f s : Nat) : List (Nat × Nat) := bf_b aIns aTk aTn aTt aSz aWd 25 0 (bf_a [] (f, s))
theorem sp_0 (k : Nat × Nat) : bf_a [] k = [k] := if_neg (fun z => z.elim (fun y => absurd y (List.not_mem_nil)) (fun y => absurd y (by decide)))
theorem sp_V (S : (sr nc nd aSup aCpx aCpy aCr aIns aCls aHd aCtx aPx aPy aR aSz aTk aTn)) (C : (ck nc nd aSup aCpx aCpy aCr aIns aCls aHd aCtx aPx aPy aR aSz aWd yWd aTk aTn aTt aTj)) (K : kq_K nd aSup aIns aHd aCtx f s) : bk_V nd aSup aIns aHd aCtx (sp_k aIns aTk aTn aTt aSz aWd f s) := by
  refine bf_bm (Q := fun k => kq_K nd aSup aIns aHd aCtx k.1 k.2) (fun k hk F j hj h17 => ?_) 25 0 _ (fun x hx => ?_)
  · obtain ⟨d', s', _, _, K', _, et⟩ := bx_t S C hk F hj h17
    rw [et]
    exact K'
  · rw [sp_0] at hx
    rw [List.mem_singleton.mp hx]
    exact K
theorem sp_j : bf_j (sp_k aIns aTk aTn aTt aSz aWd f s) := bf_bj 25 0 _ (bf_aj (fun i j k h => by rw [List.getElem?_nil] at h; exact absurd h (by simp)) _)
theorem sp_m : (f, s) ∈ sp_k aIns aTk aTn aTt aSz aWd f s := bf_pm (bf_bp 25 0 _) (by rw [sp_0]; exact List.mem_singleton.mpr rfl)
theorem sp_c (hl : (sp_k aIns aTk aTn aTt aSz aWd f s).length < 25) (hF : ∀ x, x ∈ sp_k aIns aTk aTn aTt aSz aWd f s → bf_f aWd x) : ∀ x, x ∈ sp_k aIns aTk aTn aTt aSz aWd f s → ∀ q, q < mk_v (aSz x.1) → 17 ≤ wt_k aTk x.1 q → kq_t aIns aTk aTn aTt x.1 x.2 q ∈ sp_k aIns aTk aTn aTt aSz aWd f s := by
  intro x hx q hq h17
  obtain ⟨j, g⟩ := List.mem_iff_getElem?.mp hx
  exact bf_bc 25 0 _ (by omega) hl j x (Nat.zero_le _) g (hF x hx) q hq h17
theorem sp_f (h : ∀ (j : Nat) (k : Nat × Nat), (sp_k aIns aTk aTn aTt aSz aWd f s)[j]? = some k → bf_f aWd k) : ∀ x, x ∈ sp_k aIns aTk aTn aTt aSz aWd f s → bf_f aWd x := by
  intro x hx
  obtain ⟨j, g⟩ := List.mem_iff_getElem?.mp hx
  exact h j x g
theorem sp_X {post : Int32 → SX → Prop} (S : (sr nc nd aSup aCpx aCpy aCr aIns aCls aHd aCtx aPx aPy aR aSz aTk aTn)) (C : (ck nc nd aSup aCpx aCpy aCr aIns aCls aHd aCtx aPx aPy aR aSz aWd yWd aTk aTn aTt aTj)) (c1 : 1 ≤ cl) (c24 : cl ≤ 24) (K : kq_K nd aSup aIns aHd aCtx f s) (jX : ∀ ps : Int32 → Prop, ps 0 → wpX_judgeRoot ps (nI dl, nI cl, nI pl, nI nc, nI nd, fCK, fED, fEP, fH, fO, fHP, fNK, fRC, fTD, fTT, fAX, fAY, fRS, fLV, fLT, fDP, fEN, fAN, aSup, aCpx, aCpy, aCr, aIns, aCls, aHd, aCtx, aPx, aPy, aR, aSz, aWd, aTk, aTn, aTt, aTj, aTs, aFl, aEl, aOt, aOk, aKd, aKt, aCal, aFd, aFt, aFc, aFp, aFh, aFx, aFy, aVl) (nI f) (nI s))
    (pL : cl < (sp_k aIns aTk aTn aTt aSz aWd f s).length → ∀ (fTD fTT : Int32) (aKd aKt : Nat → Int32), post 4 (nI dl, nI cl, nI pl, nI nc, nI nd, fCK, fED, fEP, fH, fO, 0, 0, -1, fTD, fTT, fAX, fAY, fRS, fLV, fLT, fDP, fEN, fAN, aSup, aCpx, aCpy, aCr, aIns, aCls, aHd, aCtx, aPx, aPy, aR, aSz, aWd, aTk, aTn, aTt, aTj, aTs, aFl, aEl, aOt, aOk, aKd, aKt, aCal, aFd, aFt, aFc, aFp, aFh, aFx, aFy, aVl))
    (pB : (sp_k aIns aTk aTn aTt aSz aWd f s).length ≤ cl → (∃ (j : Nat) (k : Nat × Nat), (sp_k aIns aTk aTn aTt aSz aWd f s)[j]? = some k ∧ ¬ bf_f aWd k) → ∀ (fTD fTT : Int32) (aKd aKt : Nat → Int32), post 1 (nI dl, nI cl, nI pl, nI nc, nI nd, fCK, fED, fEP, fH, fO, 0, 0, -1, fTD, fTT, fAX, fAY, fRS, fLV, fLT, fDP, fEN, fAN, aSup, aCpx, aCpy, aCr, aIns, aCls, aHd, aCtx, aPx, aPy, aR, aSz, aWd, aTk, aTn, aTt, aTj, aTs, aFl, aEl, aOt, aOk, aKd, aKt, aCal, aFd, aFt, aFc, aFp, aFh, aFx, aFy, aVl))
    (pO : (sp_k aIns aTk aTn aTt aSz aWd f s).length ≤ cl → (∀ (j : Nat) (k : Nat × Nat), (sp_k aIns aTk aTn aTt aSz aWd f s)[j]? = some k → bf_f aWd k) → ∀ (fTD fTT : Int32) (aKd aKt aCal : Nat → Int32) (rk : Nat), so_S (sp_k aIns aTk aTn aTt aSz aWd f s).length (fun j => (aKd j, aKt j)) (lk_A (sp_k aIns aTk aTn aTt aSz aWd f s)) → (∀ a b, a < b → b < (sp_k aIns aTk aTn aTt aSz aWd f s).length → so_c aKd aKt a < so_c aKd aKt b) → (∀ k i, k < (sp_k aIns aTk aTn aTt aSz aWd f s).length → lk_D aSz aTk aIns aTn aTt aKd aKt aCal (sp_k aIns aTk aTn aTt aSz aWd f s).length k i) → rk < (sp_k aIns aTk aTn aTt aSz aWd f s).length → mk_v (aKd rk) = f → mk_v (aKt rk) = s → post 0 (nI dl, nI cl, nI pl, nI nc, nI nd, fCK, fED, fEP, fH, fO, 1, nI (sp_k aIns aTk aTn aTt aSz aWd f s).length, nI rk, fTD, fTT, fAX, fAY, fRS, fLV, fLT, fDP, fEN, fAN, aSup, aCpx, aCpy, aCr, aIns, aCls, aHd, aCtx, aPx, aPy, aR, aSz, aWd, aTk, aTn, aTt, aTj, aTs, aFl, aEl, aOt, aOk, aKd, aKt, aCal, aFd, aFt, aFc, aFp, aFh, aFx, aFy, aVl)) : wpX_specialise post (nI dl, nI cl, nI pl, nI nc, nI nd, fCK, fED, fEP, fH, fO, fHP, fNK, fRC, fTD, fTT, fAX, fAY, fRS, fLV, fLT, fDP, fEN, fAN, aSup, aCpx, aCpy, aCr, aIns, aCls, aHd, aCtx, aPx, aPy, aR, aSz, aWd, aTk, aTn, aTt, aTj, aTs, aFl, aEl, aOt, aOk, aKd, aKt, aCal, aFd, aFt, aFc, aFp, aFh, aFx, aFy, aVl) (nI f) (nI s) := by
  have H : (sr_H nc nd aSup aIns aCls aHd aCtx) := S.1
  have h12 := H.2.1
  obtain ⟨f12, s21⟩ := bk_b h12 K
  have hV := sp_V S C K
  unfold wpX_specialise
  dsimp only
  refine jX _ (br_t rfl (sm_dp ?_))
  dsimp only
  have V0 : bk_V nd aSup aIns aHd aCtx [] := fun k hk => absurd hk (List.not_mem_nil)
  have L1 : (bf_a [] (f, s)).length = 1 := by rw [sp_0]; rfl
  have V1 : bk_V nd aSup aIns aHd aCtx (bf_a [] (f, s)) := fun x hx => by
    rw [sp_0] at hx
    rw [List.mem_singleton.mp hx]
    exact K
  refine bx_add (ks := []) h12 (fun i k h => by rw [List.getElem?_nil] at h; exact absurd h (by simp)) V0 (Nat.zero_le _) c24 f12 s21 (fun kd kt r1 r2 => ?_) (fun z => by omega)
  refine Exists.intro 26 (bx_lp S C c24 25 0 (bf_a [] (f, s)) fTD fTT kd kt 26 (by omega) r1 V1 r2 (by omega) (fun q fTD fTT aKd aKt r => ?_) (fun q fTD fTT aKd aKt => pL q fTD fTT aKd aKt))
  change (sp_k aIns aTk aTn aTt aSz aWd f s).length ≤ cl at q
  change bx_R aKd aKt (sp_k aIns aTk aTn aTt aSz aWd f s) at r
  change wX_specialise_64 post (nI f) (nI s) (nI dl) (nI cl) (nI pl) (nI nc) (nI nd) fCK fED fEP fH fO 0 (nI (sp_k aIns aTk aTn aTt aSz aWd f s).length) (-1) fTD fTT fAX fAY fRS fLV fLT fDP fEN fAN aSup aCpx aCpy aCr aIns aCls aHd aCtx aPx aPy aR aSz aWd aTk aTn aTt aTj aTs aFl aEl aOt aOk aKd aKt aCal aFd aFt aFc aFp aFh aFx aFy aVl
  have hJ : bf_j (sp_k aIns aTk aTn aTt aSz aWd f s) := sp_j
  have hM : (f, s) ∈ sp_k aIns aTk aTn aTt aSz aWd f s := sp_m
  have hC0 := sp_c (aIns := aIns) (aTk := aTk) (aTn := aTn) (aTt := aTt) (aSz := aSz) (aWd := aWd) (f := f) (s := s) (by omega)
  have hf0 := sp_f (aIns := aIns) (aTk := aTk) (aTn := aTn) (aTt := aTt) (aSz := aSz) (aWd := aWd) (f := f) (s := s)
  generalize sp_k aIns aTk aTn aTt aSz aWd f s = ks at *
  unfold wX_specialise_64
  refine Exists.intro (ks.length + 1) (lk_f S C (by omega) r hV (fun F => br_f (by decide) ?_) (fun B => br_t rfl (sm_dp (pB q B fTD fTT aKd aKt))) ks.length 0 (ks.length + 1) (by omega) (by omega) (fun j k hj => absurd hj (by omega)))
  have hF := hf0 F
  refine Exists.intro (ks.length + 1) (so_x2 (by omega) (lk_V h12 hV) (fun kd kt s1 s2 => ?_) ks.length 0 aKd aKt (ks.length + 1) (by omega) (by omega) (lk_S h12 hV r hJ) (fun a b h1 => absurd h1 (by omega)))
  refine Exists.intro (ks.length + 1) (lk_2w S C (by omega) hV s1 hF (hC0 hF) (fun fTD fTT aCal D => ?_) ks.length 0 fTD fTT aCal (ks.length + 1) (by omega) (by omega) (fun k i hk => absurd hk (by omega)))
  obtain ⟨j, hj, j1, j2, j3⟩ := lk_2 h12 hV s1 hM
  refine fk_x (by omega) (fun x hx e1 e2 _ => pO q F fTD fTT kd kt aCal x s1 s2 D hx ?_ ?_) (fun e => absurd ⟨j1, j2⟩ (e j hj))
  · rw [e1, mk_vn (by omega)]
  · rw [e2, mk_vn (by omega)]
theorem sp_Y {post : Int32 → SY → Prop} (S : (sr nc nd aSup aCpx aCpy aCr aIns aCls aHd aCtx aPx aPy aR aSz aTk aTn)) (C : (ck nc nd aSup aCpx aCpy aCr aIns aCls aHd aCtx aPx aPy aR aSz aWd yWd aTk aTn aTt aTj)) (c24 : cl ≤ 24) (K : kq_K nd aSup aIns aHd aCtx f s) (jY : ∀ ps : Int32 → Prop, ps 0 → wpY_refusal ps (nI dl, nI cl, nI pl, nI nc, nI nd, fCK, fED, fEP, yAt, fH, fO, fAX, fAY, fLV, fRS, fLT, ySp, yDp, yEn, fNK, yRk, aSup, aCpx, aCpy, aCr, aPx, aPy, aR, aCtx, aCls, aHd, aSz, yWd, aTk, aTn, aTt, aTs, aFl, aOt, yVl, yFx, yFy, yFk, yFp, yKl) (nI f) (nI s))
    (pL : cl < (sp_k aIns aTk aTn aTt aSz aWd f s).length → ∀ yKl : Nat → Int32, post 4 (nI dl, nI cl, nI pl, nI nc, nI nd, fCK, fED, fEP, yAt, fH, fO, fAX, fAY, fLV, fRS, fLT, ySp, yDp, yEn, 0, nI (f * 2097152 + s), aSup, aCpx, aCpy, aCr, aPx, aPy, aR, aCtx, aCls, aHd, aSz, yWd, aTk, aTn, aTt, aTs, aFl, aOt, yVl, yFx, yFy, yFk, yFp, yKl))
    (pB : (sp_k aIns aTk aTn aTt aSz aWd f s).length ≤ cl → (∃ (j : Nat) (k : Nat × Nat), (sp_k aIns aTk aTn aTt aSz aWd f s)[j]? = some k ∧ ¬ bf_f aWd k) → ∀ yKl : Nat → Int32, post 1 (nI dl, nI cl, nI pl, nI nc, nI nd, fCK, fED, fEP, yAt, fH, fO, fAX, fAY, fLV, fRS, fLT, ySp, yDp, yEn, 0, nI (f * 2097152 + s), aSup, aCpx, aCpy, aCr, aPx, aPy, aR, aCtx, aCls, aHd, aSz, yWd, aTk, aTn, aTt, aTs, aFl, aOt, yVl, yFx, yFy, yFk, yFp, yKl))
    (pO : (sp_k aIns aTk aTn aTt aSz aWd f s).length ≤ cl → (∀ (j : Nat) (k : Nat × Nat), (sp_k aIns aTk aTn aTt aSz aWd f s)[j]? = some k → bf_f aWd k) → ∀ yKl : Nat → Int32, so_S (sp_k aIns aTk aTn aTt aSz aWd f s).length yKl (lk_B (sp_k aIns aTk aTn aTt aSz aWd f s)) → (∀ a b, a < b → b < (sp_k aIns aTk aTn aTt aSz aWd f s).length → mk_v (yKl a) < mk_v (yKl b)) → post 0 (nI dl, nI cl, nI pl, nI nc, nI nd, fCK, fED, fEP, yAt, fH, fO, fAX, fAY, fLV, fRS, fLT, ySp, yDp, yEn, nI (sp_k aIns aTk aTn aTt aSz aWd f s).length, nI (f * 2097152 + s), aSup, aCpx, aCpy, aCr, aPx, aPy, aR, aCtx, aCls, aHd, aSz, yWd, aTk, aTn, aTt, aTs, aFl, aOt, yVl, yFx, yFy, yFk, yFp, yKl)) : wpY_specialise post (nI dl, nI cl, nI pl, nI nc, nI nd, fCK, fED, fEP, yAt, fH, fO, fAX, fAY, fLV, fRS, fLT, ySp, yDp, yEn, fNK, yRk, aSup, aCpx, aCpy, aCr, aPx, aPy, aR, aCtx, aCls, aHd, aSz, yWd, aTk, aTn, aTt, aTs, aFl, aOt, yVl, yFx, yFy, yFk, yFp, yKl) (nI f) (nI s) := by
  have H : (sr_H nc nd aSup aIns aCls aHd aCtx) := S.1
  have h12 := H.2.1
  obtain ⟨f12, s21⟩ := bk_b h12 K
  have hV := sp_V S C K
  unfold wpY_specialise
  dsimp only
  refine jY _ (br_t rfl (nm_r (ky_K f s) ?_))
  have V0 : bk_V nd aSup aIns aHd aCtx [] := fun k hk => absurd hk (List.not_mem_nil)
  have V1 : bk_V nd aSup aIns aHd aCtx (bf_a [] (f, s)) := fun x hx => by
    rw [sp_0] at hx
    rw [List.mem_singleton.mp hx]
    exact K
  refine by_add (ks := []) h12 (fun i k h => by rw [List.getElem?_nil] at h; exact absurd h (by simp)) V0 (Nat.zero_le _) f12 s21 (fun kl r1 => ?_)
  refine Exists.intro 26 (by_lp S C 25 0 (bf_a [] (f, s)) kl 0 26 (by omega) r1 V1 (bf_a25 (Nat.zero_le _) _) (Or.inl ⟨rfl, fun j k hj => absurd hj (by omega)⟩) (by omega) (fun yKl x4 r g => ?_))
  change by_R yKl (sp_k aIns aTk aTn aTt aSz aWd f s) at r
  change by_g aWd (sp_k aIns aTk aTn aTt aSz aWd f s) 25 x4 at g
  change wY_specialise_167 post x4 (nI dl) (nI cl) (nI pl) (nI nc) (nI nd) fCK fED fEP yAt fH fO fAX fAY fLV fRS fLT ySp yDp yEn (nI (sp_k aIns aTk aTn aTt aSz aWd f s).length) (nI (f * 2097152 + s)) aSup aCpx aCpy aCr aPx aPy aR aCtx aCls aHd aSz yWd aTk aTn aTt aTs aFl aOt yVl yFx yFy yFk yFp yKl
  have hJ : bf_j (sp_k aIns aTk aTn aTt aSz aWd f s) := sp_j
  have l25 : (sp_k aIns aTk aTn aTt aSz aWd f s).length ≤ 25 := bf_b25 25 0 _ (bf_a25 (Nat.zero_le _) _)
  generalize sp_k aIns aTk aTn aTt aSz aWd f s = ks at *
  by_cases q : ks.length ≤ cl
  · refine br_t (nI_le q (by omega)) ?_
    rcases g with ⟨rfl, g⟩ | ⟨rfl, g⟩
    · refine br_t rfl (br_t rfl (Exists.intro (ks.length + 1) (so_y2 l25 (lk_N h12 hV) (fun kl s1 s2 => pO q (fun j k e => g j k ?_ e) kl s1 s2) ks.length 0 yKl (ks.length + 1) (by omega) (by omega) (lk_T h12 hV r hJ) (fun a b h1 h2 h3 => by omega))))
      obtain ⟨hj, _⟩ := List.getElem?_eq_some_iff.mp e
      omega
    · exact br_t rfl (br_f (by decide) (Exists.intro 1 (br_t (by decide) (br_t rfl (br_f (by decide) (pB q g yKl))))))
  · exact br_f (nI_ge (by omega) (by omega)) (br_f (by decide) (Exists.intro 1 (br_t (by decide) (br_f (by decide) (pL (by omega) yKl)))))
end
theorem i_vc_specialise {k : Nat} {u : SX} {v : SY} (I : i_Rel k u v) (hk : k + 5 ≤ 2563) (v1 : Int32) (v2 : Int32) : wpX_specialise (fun r u' => wpY_specialise (fun r' v' => r' = r ∧ i_Rel (k + 5) u' v') v v1 v2) u v1 v2 := by
  refine rl_el (P := fun u v => wpX_specialise (fun r u' => wpY_specialise (fun r' v' => r' = r ∧ i_Rel (k + 5) u' v') v v1 v2) u v1 v2) ?_ I
  intro dl cl pl nc nd fCK fED fEP fH fO fHP fNK fRC fTD fTT fAX fAY fRS fLV fLT fDP fEN fAN aSup aCpx aCpy aCr aIns aCls aHd aCtx aPx aPy aR aSz aWd aTk aTn aTt aTj aTs aFl aEl aOt aOk aKd aKt aCal aFd aFt aFc aFp aFh aFx aFy aVl yAt ySp yDp yEn yRk yWd yVl yFx yFy yFk yFp yKl R
  have S : (sr nc nd aSup aCpx aCpy aCr aIns aCls aHd aCtx aPx aPy aR aSz aTk aTn) := R.2.1
  have H : (sr_H nc nd aSup aIns aCls aHd aCtx) := S.1
  have h12 := H.2.1
  obtain ⟨_, _, cl1, cl24, _, _, _⟩ := R.1
  rcases jr_l (dl := dl) (cl := cl) (pl := pl) (fED := fED) (fEP := fEP) (fH := fH) (fO := fO) (fHP := fHP) (fNK := fNK) (fRC := fRC) (fTD := fTD) (fTT := fTT) (fAX := fAX) (fAY := fAY) (fRS := fRS) (fLV := fLV) (fLT := fLT) (fDP := fDP) (fEN := fEN) (fAN := fAN) (aWd := aWd) (aTt := aTt) (aTj := aTj) (aTs := aTs) (aFl := aFl) (aEl := aEl) (aOt := aOt) (aOk := aOk) (aKd := aKd) (aKt := aKt) (aCal := aCal) (aFd := aFd) (aFt := aFt) (aFc := aFc) (aFp := aFp) (aFh := aFh) (aFx := aFx) (aFy := aFy) (aVl := aVl) (yAt := yAt) (ySp := ySp) (yDp := yDp) (yEn := yEn) (yRk := yRk) (yWd := yWd) (yVl := yVl) (yFx := yFx) (yFy := yFy) (yFk := yFk) (yFp := yFp) (yKl := yKl) S R.2.2.1 v1 v2 with ⟨c, c0, jX, jY⟩ | ⟨f, l, e, hf, rfl, hc, s1, s2, sl, rfl, hH, c1, jX, jY⟩
  · unfold wpX_specialise
    dsimp only
    refine jX _ (br_f c0 ?_)
    unfold wpY_specialise
    dsimp only
    exact jY _ (br_f c0 ⟨rfl, rl_in R⟩)
  · have C : (ck nc nd aSup aCpx aCpy aCr aIns aCls aHd aCtx aPx aPy aR aSz aWd yWd aTk aTn aTt aTj) := R.2.2.2.1 c1
    have K : kq_K nd aSup aIns aHd aCtx f (ty_e l e) := ⟨hf, l, e, rfl, ex_nc H hf hc s1 s2 sl hH⟩
    have hV := sp_V S C K
    refine sp_X S C cl1 cl24 K jX ?_ ?_ ?_
    · intro q fTD fTT aKd aKt
      refine sp_Y S C cl24 K jY (fun _ yKl => ⟨rfl, ?_⟩) (fun z => by omega) (fun z => by omega)
      exact rl_in ⟨R.1, S, R.2.2.1, R.2.2.2.1, Or.inl ⟨rfl, rfl⟩⟩
    · intro q B fTD fTT aKd aKt
      refine sp_Y S C cl24 K jY (fun z => by omega) (fun _ _ yKl => ⟨rfl, ?_⟩) (fun _ F => ?_)
      · exact rl_in ⟨R.1, S, R.2.2.1, R.2.2.2.1, Or.inl ⟨rfl, rfl⟩⟩
      · obtain ⟨j, x, g, nf⟩ := B
        exact absurd (F j x g) nf
    · intro q F fTD fTT aKd aKt aCal rk so1 so2 D hr er1 er2
      refine sp_Y S C cl24 K jY (fun z => by omega) (fun _ B => ?_) (fun _ _ yKl so3 so4 => ⟨rfl, ?_⟩)
      · obtain ⟨j, x, g, nf⟩ := B
        exact absurd (F j x g) nf
      · have hF := sp_f F
        generalize sp_k aIns aTk aTn aTt aSz aWd f (ty_e l e) = ks at *
        have E : ∀ j, j < ks.length → so_c aKd aKt j = mk_v (yKl j) := by
          refine so_u so2 so4 (fun j hj => ?_) (fun i hi => ?_)
          · obtain ⟨m, a1, a2⟩ := lk_1 h12 hV so1 hj
            obtain ⟨i, g⟩ := List.mem_iff_getElem?.mp m
            obtain ⟨hi, _⟩ := List.getElem?_eq_some_iff.mp g
            obtain ⟨x, hx, ex⟩ := so3.2.1 i hi
            obtain ⟨b1, b2⟩ := bk_b h12 (hV _ m)
            refine ⟨x, hx, ?_⟩
            rw [ex, lk_b g, mk_vn (by dsimp only at b1 b2 ⊢; omega)]
            rfl
          · obtain ⟨x, hx, ex⟩ := so3.1 i hi
            obtain ⟨j, hj, j1, j2, j3⟩ := lk_2 h12 hV so1 (List.mem_of_getElem? (lk_g hx))
            obtain ⟨b1, b2⟩ := bk_b h12 (hV _ (List.mem_of_getElem? (lk_g hx)))
            refine ⟨j, hj, ?_⟩
            unfold so_c
            rw [ex, lk_b (lk_g hx), j1, j2, mk_vn (by omega), mk_vn (by omega), mk_vn (by omega)]
        refine rl_in ⟨R.1, S, R.2.2.1, R.2.2.2.1, Or.inr ⟨rfl, c1, ks.length, rk, q, hr, rfl, rfl, by rw [er1, er2], by rw [er1]; exact hc, fun j hj => ?_, fun i j hi hj e1 e2 => lk_3 h12 hV so1 hi hj e1 e2, fun j i hj hi => D j i hj hi⟩⟩
        obtain ⟨m, a1, a2⟩ := lk_1 h12 hV so1 hj
        refine ⟨a1, a2, ?_, hV _ m, hF _ m⟩
        obtain ⟨x, hx, ex⟩ := so3.1 j hj
        obtain ⟨b1, b2⟩ := bk_b h12 (hV _ (List.mem_of_getElem? (lk_g hx)))
        have e1 := E j hj
        rw [ex, lk_b (lk_g hx), mk_vn (by omega)] at e1
        rw [ex, lk_b (lk_g hx), ← e1]
        rfl
end
