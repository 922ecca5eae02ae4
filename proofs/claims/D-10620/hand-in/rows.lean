section
theorem bp_b (x : Int32) : x.toInt8.toInt32 &&& 255 = x &&& 255 := by
  apply Int32.toBitVec_inj.mp
  rw [Int32.toBitVec_and, Int32.toBitVec_and, Int8.toBitVec_toInt32, Int32.toBitVec_toInt8]
  apply BitVec.eq_of_getLsbD_eq
  intro i hi
  rw [BitVec.getLsbD_and, BitVec.getLsbD_and]
  have hm : ∀ i < 32, 8 ≤ i → (255 : Int32).toBitVec.getLsbD i = false := by decide
  rcases Nat.lt_or_ge i 8 with z | z
  · rw [BitVec.getLsbD_signExtend, BitVec.getLsbD_signExtend, if_pos z, if_pos hi]
    simp only [z, hi, decide_true, Bool.true_and]
  · rw [hm i hi z]; simp
theorem wb_tb (n : Nat) : (lN n).toBitVec = BitVec.ofNat 64 n := rfl
theorem wb_inj {a b : Int64} (h : a.toBitVec = b.toBitVec) : a = b := Int64.toBitVec_inj.mp h
theorem wb_tn {n : Nat} (h : n < 2 ^ 64) : (lN n).toBitVec.toNat = n := by rw [wb_tb, BitVec.toNat_ofNat, Nat.mod_eq_of_lt h]
theorem wb_c : ∀ k, k < 64 → ((nI k).toInt64 &&& 63) = lN k := by decide +kernel
theorem wb_cu : ∀ k, k < 64 → ((nI k).toInt64.toUInt64 &&& Int64.toUInt64 63) = UInt64.ofNat k := by decide +kernel
theorem wb_sm : ∀ k, k < 64 → (BitVec.ofNat 64 k).smod 64 = BitVec.ofNat 64 k := by decide +kernel
theorem wb_pw {a b : Nat} (h : a ≤ b) : 2 ^ b = 2 ^ a * 2 ^ (b - a) := by rw [← Nat.pow_add]; congr 1; omega
theorem wb_lt2 {a b : Nat} (h : a < b) : 2 ^ a < 2 ^ b := Nat.pow_lt_pow_right (by decide) h
theorem wb_mod (n : Nat) : lN n = lN (n % 2 ^ 64) := wb_inj (by rw [wb_tb, wb_tb]; apply BitVec.eq_of_toNat_eq; rw [BitVec.toNat_ofNat, BitVec.toNat_ofNat, Nat.mod_mod])
theorem wb_shr {n k : Nat} (hn : n < 2 ^ 64) (hk : k < 64) : ((lN n).toUInt64 >>> ((nI k).toInt64.toUInt64 &&& Int64.toUInt64 63)).toInt64 = lN (n / 2 ^ k) := by
  rw [wb_cu k hk]
  apply wb_inj
  apply BitVec.eq_of_toNat_eq
  show ((lN n).toUInt64 >>> UInt64.ofNat k).toNat = (BitVec.ofNat 64 _).toNat
  have h1 : (UInt64.ofNat k).toNat = k := by
    show (BitVec.ofNat 64 k).toNat = k
    rw [BitVec.toNat_ofNat, Nat.mod_eq_of_lt (by omega)]
  have h2 : (lN n).toUInt64.toNat = n := wb_tn hn
  rw [UInt64.toNat_shiftRight, h1, h2, Nat.mod_eq_of_lt hk, Nat.shiftRight_eq_div_pow, BitVec.toNat_ofNat, Nat.mod_eq_of_lt (Nat.lt_of_le_of_lt (Nat.div_le_self _ _) hn)]
theorem wb_shl (n : Nat) {k : Nat} (hk : k < 64) : lN n <<< ((nI k).toInt64 &&& 63) = lN (n * 2 ^ k) := by
  rw [wb_c k hk]
  apply wb_inj
  rw [Int64.toBitVec_shiftLeft, wb_tb, wb_tb, wb_tb, wb_sm k hk]
  apply BitVec.eq_of_toNat_eq
  rw [BitVec.shiftLeft_eq', BitVec.toNat_shiftLeft, BitVec.toNat_ofNat, BitVec.toNat_ofNat, BitVec.toNat_ofNat, Nat.mod_eq_of_lt (show k < 2 ^ 64 by omega), Nat.shiftLeft_eq, Nat.mul_mod, Nat.mod_mod, ← Nat.mul_mod]
theorem wb_and {a b : Nat} (ha : a < 2 ^ 64) (hb : b < 2 ^ 64) : lN a &&& lN b = lN (a &&& b) := by
  apply wb_inj
  rw [Int64.toBitVec_and, wb_tb, wb_tb, wb_tb]
  apply BitVec.eq_of_toNat_eq
  rw [BitVec.toNat_and, BitVec.toNat_ofNat, BitVec.toNat_ofNat, BitVec.toNat_ofNat, Nat.mod_eq_of_lt ha, Nat.mod_eq_of_lt hb, Nat.mod_eq_of_lt (Nat.and_lt_two_pow _ hb)]
theorem wb_or {a b : Nat} (ha : a < 2 ^ 64) (hb : b < 2 ^ 64) : lN a ||| lN b = lN (a ||| b) := by
  apply wb_inj
  rw [Int64.toBitVec_or, wb_tb, wb_tb, wb_tb]
  apply BitVec.eq_of_toNat_eq
  rw [BitVec.toNat_or, BitVec.toNat_ofNat, BitVec.toNat_ofNat, BitVec.toNat_ofNat, Nat.mod_eq_of_lt ha, Nat.mod_eq_of_lt hb, Nat.mod_eq_of_lt (Nat.or_lt_two_pow ha hb)]
theorem wb_mask {n k : Nat} (hn : n < 2 ^ 64) (hk : k < 64) : lN n &&& lN (2 ^ k - 1) = lN (n % 2 ^ k) := by
  rw [wb_and hn (by have := wb_lt2 hk; omega), Nat.and_two_pow_sub_one_eq_mod]
theorem wb_a1 {n : Nat} (hn : n < 2 ^ 64) : lN n &&& 1 = lN (n % 2) := wb_mask (k := 1) hn (by decide)
theorem zq_utn {n : Nat} (h : n < 2 ^ 64) : (UInt64.ofNat n).toNat = n := Nat.mod_eq_of_lt h
theorem zq_gor {k p a b : Nat} (hp : 2 ^ k = p) (ha : a < p) (h : b * p + a < 2 ^ 64) : lN (b * p) ||| lN a = lN (b * p + a) := by
  subst hp
  have h1 : b * 2 ^ k ||| a = b * 2 ^ k + a := by rw [← Nat.shiftLeft_eq, Nat.shiftLeft_add_eq_or_of_lt ha]
  have h3 : UInt64.ofNat (b * 2 ^ k) ||| UInt64.ofNat a = UInt64.ofNat (b * 2 ^ k + a) := UInt64.toNat_inj.mp (by rw [UInt64.toNat_or, zq_utn (by omega), zq_utn (by omega), zq_utn h, h1])
  have h2 := congrArg UInt64.toInt64 h3
  exact h2
/-! ===== own rows over those ===== -/
theorem zq_llt {x y : Int64} {A B : Prop} (a b : Nat) (f : a < b → A) (g : b ≤ a → B) (hx : x = lN a := by rfl) (hy : y = lN b := by rfl) (ha : a < 2 ^ 63 := by omega) (hb : b < 2 ^ 63 := by omega) : (x < y → A) ∧ (¬ x < y → B) := by
  subst hx hy
  exact ⟨fun h => f ((pk_lLT ha hb).mp h), fun h => g (Nat.le_of_not_lt (fun z => h ((pk_lLT ha hb).mpr z)))⟩
theorem zq_lle {x y : Int64} {A B : Prop} (a b : Nat) (f : a ≤ b → A) (g : b < a → B) (hx : x = lN a := by rfl) (hy : y = lN b := by rfl) (ha : a < 2 ^ 63 := by omega) (hb : b < 2 ^ 63 := by omega) : (x ≤ y → A) ∧ (¬ x ≤ y → B) := by
  subst hx hy
  exact ⟨fun h => f ((pk_lLE ha hb).mp h), fun h => g (Nat.lt_of_not_le (fun z => h ((pk_lLE ha hb).mpr z)))⟩
theorem zq_s11 {n : Nat} (h : n < 2 ^ 63) : ((lN n).toUInt64 >>> ((11 : Int32).toInt64.toUInt64 &&& Int64.toUInt64 63)).toInt64 = lN (n / 2048) :=
  wb_shr (k := 11) (by omega) (by decide)
theorem zq_s24 {n : Nat} (h : n < 2 ^ 63) : (((lN n).toUInt64 >>> ((24 : Int32).toInt64.toUInt64 &&& Int64.toUInt64 63)).toInt64).toInt32 &&& 255 = nI (n / 16777216 % 256) := by
  have e : ((lN n).toUInt64 >>> ((24 : Int32).toInt64.toUInt64 &&& Int64.toUInt64 63)).toInt64 = lN (n / 2 ^ 24) := wb_shr (k := 24) (by omega) (by decide)
  rw [e, lN_i, pk_and (nI (n / 2 ^ 24)) 8 (by decide)]
  have e2 : (nI (n / 2 ^ 24)).toBitVec.toNat = n / 2 ^ 24 % 2 ^ 32 := BitVec.toNat_ofNat _ _
  rw [e2]
  congr 1
  omega
theorem zq_s32 {n : Nat} (h : n < 2 ^ 63) : (((lN n).toUInt64 >>> ((32 : Int32).toInt64.toUInt64 &&& Int64.toUInt64 63)).toInt64).toInt32 = nI (n / 4294967296) := by
  have e : ((lN n).toUInt64 >>> ((32 : Int32).toInt64.toUInt64 &&& Int64.toUInt64 63)).toInt64 = lN (n / 2 ^ 32) := wb_shr (k := 32) (by omega) (by decide)
  rw [e, lN_i]
theorem zq_l8 (n : Nat) : lN n <<< ((8 : Int32).toInt64 &&& 63) = lN (n * 256) :=
  wb_shl n (k := 8) (by decide)
theorem zq_m24 {n : Nat} (h : n < 2 ^ 63) : (lN n &&& 16777215) <<< ((8 : Int32).toInt64 &&& 63) = lN (n % 16777216 * 256) := by
  have e : lN n &&& 16777215 = lN (n % 2 ^ 24) := wb_mask (k := 24) (by omega) (by decide)
  rw [e, zq_l8]
theorem zq_m32 {n : Nat} (h : n < 2 ^ 32) : lN n &&& 4294967295 = lN n := by
  have e : lN n &&& 4294967295 = lN (n % 2 ^ 32) := wb_mask (k := 32) (by omega) (by decide)
  rw [e, Nat.mod_eq_of_lt h]
theorem zq_next {n b : Nat} (hn : n < 2 ^ 48) (hb : b < 256) : (lN n <<< ((8 : Int32).toInt64 &&& 63)) ||| (nI b).toInt64 = lN (n * 256 + b) := by
  rw [zq_l8, nI_l (by omega)]
  exact zq_gor (k := 8) rfl hb (by omega)
theorem zq_b8 (y : Nat) (hy : y < 2 ^ 31) : (nI y).toInt8.toInt32 &&& 255 = nI (y % 256) := by
  rw [bp_b]
  exact pk_andN (by omega) 8 (by decide)
theorem zq_bit {v k : Nat} (hv : v < 2 ^ 31) (hk : k < 32) : ((nI v).toUInt32 >>> ((nI k).toUInt32 &&& Int32.toUInt32 31)).toInt32 &&& 1 = nI (v / 2 ^ k % 2) := by
  have hc : ∀ k, k < 32 → (((nI k).toUInt32 &&& Int32.toUInt32 31).toBitVec % 32).toNat = k := by decide +kernel
  rw [pk_ushrN (by omega) (nI k) k (hc k hk)]
  exact pk_andN (Nat.lt_of_le_of_lt (Nat.div_le_self _ _) (by omega)) 1 (by decide)
end
section
/-! ===== the picture: a range coder over unbounded numbers; a state is (low end, range, shifts, chances) ===== -/
/-- how a chance learns from a bit -/
def zq_ln (c b : Nat) : Nat := if b = 0 then c + (2048 - c) / 32 else c - c / 32
def zq_lnP (P : Nat → Nat) (t b : Nat) : Nat → Nat := fun j => if j = t then zq_ln (P j) b else P j
abbrev zq_T : Type := Nat × Nat × Nat × (Nat → Nat)
def zq_mid (s : zq_T) (t b : Nat) : zq_T :=
  (if b = 0 then s.1 else s.1 + s.2.1 / 2048 * s.2.2.2 t, if b = 0 then s.2.1 / 2048 * s.2.2.2 t else s.2.1 - s.2.1 / 2048 * s.2.2.2 t, s.2.2.1, zq_lnP s.2.2.2 t b)
def zq_nrm (s : zq_T) : zq_T := if s.2.1 < 16777216 then (s.1 * 256, s.2.1 * 256, s.2.2.1 + 1, s.2.2.2) else s
def zq_tr : List (Nat × Nat) → zq_T → zq_T
  | [], s => s
  | o :: os, s => zq_tr os (zq_nrm (zq_mid s o.1 o.2))
def zq_ok (s : zq_T) : Prop := 16777216 ≤ s.2.1 ∧ s.2.1 < 4294967296 ∧ ∀ j, 31 ≤ s.2.2.2 j ∧ s.2.2.2 j ≤ 2017
/-- t lies inside s -/
def zq_in (s t : zq_T) : Prop := s.2.2.1 ≤ t.2.2.1 ∧ s.1 * 256 ^ (t.2.2.1 - s.2.2.1) ≤ t.1 ∧ t.1 + t.2.1 ≤ (s.1 + s.2.1) * 256 ^ (t.2.2.1 - s.2.2.1)
theorem zq_in_refl (s : zq_T) : zq_in s s := by
  unfold zq_in
  rw [Nat.sub_self]
  omega
theorem zq_in_trans {s t u : zq_T} (h : zq_in s t) (g : zq_in t u) : zq_in s u := by
  obtain ⟨h1, h2, h3⟩ := h
  obtain ⟨g1, g2, g3⟩ := g
  have e : u.2.2.1 - s.2.2.1 = (t.2.2.1 - s.2.2.1) + (u.2.2.1 - t.2.2.1) := by omega
  refine ⟨by omega, ?_, ?_⟩
  · rw [e, Nat.pow_add, ← Nat.mul_assoc]
    exact Nat.le_trans (Nat.mul_le_mul_right _ h2) g2
  · rw [e, Nat.pow_add, ← Nat.mul_assoc]
    exact Nat.le_trans g3 (Nat.mul_le_mul_right _ h3)
theorem zq_bd1 {R c : Nat} (hR : 16777216 ≤ R) (h1 : 31 ≤ c) (h2 : c ≤ 2017) : 65536 ≤ R / 2048 * c ∧ R / 2048 * c + 65536 ≤ R := by
  have a := Nat.mul_le_mul_left (R / 2048) h1
  have b := Nat.mul_le_mul_left (R / 2048) h2
  omega
theorem zq_ln_ok {c b : Nat} (h1 : 31 ≤ c) (h2 : c ≤ 2017) : 31 ≤ zq_ln c b ∧ zq_ln c b ≤ 2017 := by
  unfold zq_ln
  split <;> omega
theorem zq_mid_ok {s : zq_T} (h : zq_ok s) (t b : Nat) : 65536 ≤ (zq_mid s t b).2.1 ∧ (zq_mid s t b).2.1 < 4294967296 ∧ ∀ j, 31 ≤ (zq_mid s t b).2.2.2 j ∧ (zq_mid s t b).2.2.2 j ≤ 2017 := by
  obtain ⟨h1, h2, h3⟩ := h
  have B := zq_bd1 h1 (h3 t).1 (h3 t).2
  refine ⟨?_, ?_, fun j => ?_⟩
  · show 65536 ≤ (if b = 0 then _ else _)
    split <;> omega
  · show (if b = 0 then _ else _) < _
    split <;> omega
  · show 31 ≤ (if j = t then zq_ln (s.2.2.2 j) b else s.2.2.2 j) ∧ (if j = t then zq_ln (s.2.2.2 j) b else s.2.2.2 j) ≤ 2017
    split
    · exact zq_ln_ok (h3 j).1 (h3 j).2
    · exact h3 j
theorem zq_nrm_lt {s : zq_T} (h : s.2.1 < 16777216) : zq_nrm s = (s.1 * 256, s.2.1 * 256, s.2.2.1 + 1, s.2.2.2) := if_pos h
theorem zq_nrm_ge {s : zq_T} (h : 16777216 ≤ s.2.1) : zq_nrm s = s := if_neg (by omega)
theorem zq_nrm_ok {s : zq_T} (h1 : 65536 ≤ s.2.1) (h2 : s.2.1 < 4294967296) (h3 : ∀ j, 31 ≤ s.2.2.2 j ∧ s.2.2.2 j ≤ 2017) : zq_ok (zq_nrm s) := by
  rcases Nat.lt_or_ge s.2.1 16777216 with z | z
  · rw [zq_nrm_lt z]
    exact ⟨show 16777216 ≤ s.2.1 * 256 by omega, show s.2.1 * 256 < 4294967296 by omega, h3⟩
  · rw [zq_nrm_ge z]
    exact ⟨z, h2, h3⟩
theorem zq_st_ok {s : zq_T} (h : zq_ok s) (t b : Nat) : zq_ok (zq_nrm (zq_mid s t b)) := by
  have g := zq_mid_ok h t b
  exact zq_nrm_ok g.1 g.2.1 g.2.2
theorem zq_mid_in {s : zq_T} (h : zq_ok s) (t b : Nat) : zq_in s (zq_mid s t b) := by
  obtain ⟨h1, h2, h3⟩ := h
  have B := zq_bd1 h1 (h3 t).1 (h3 t).2
  have e : (zq_mid s t b).2.2.1 - s.2.2.1 = 0 := Nat.sub_self _
  refine ⟨Nat.le_refl _, ?_, ?_⟩
  · rw [e]
    show s.1 * 256 ^ 0 ≤ (if b = 0 then _ else _)
    split <;> omega
  · rw [e]
    show (if b = 0 then _ else _) + (if b = 0 then _ else _) ≤ _
    split <;> omega
theorem zq_nrm_in (s : zq_T) : zq_in s (zq_nrm s) := by
  rcases Nat.lt_or_ge s.2.1 16777216 with z | z
  · rw [zq_nrm_lt z]
    have e : s.2.2.1 + 1 - s.2.2.1 = 1 := by omega
    refine ⟨Nat.le_succ _, ?_, ?_⟩
    · show s.1 * 256 ^ (s.2.2.1 + 1 - s.2.2.1) ≤ s.1 * 256
      rw [e]
      omega
    · show s.1 * 256 + s.2.1 * 256 ≤ (s.1 + s.2.1) * 256 ^ (s.2.2.1 + 1 - s.2.2.1)
      rw [e]
      omega
  · rw [zq_nrm_ge z]
    exact zq_in_refl s
theorem zq_tr_in : ∀ (os : List (Nat × Nat)) (s : zq_T), zq_ok s → zq_in s (zq_tr os s) ∧ zq_ok (zq_tr os s)
  | [], s, h => ⟨zq_in_refl s, h⟩
  | o :: os, s, h => by
    have g := zq_tr_in os _ (zq_st_ok h o.1 o.2)
    exact ⟨zq_in_trans (zq_mid_in h o.1 o.2) (zq_in_trans (zq_nrm_in _) g.1), g.2⟩
theorem zq_tr_app : ∀ (xs ys : List (Nat × Nat)) (s : zq_T), zq_tr (xs ++ ys) s = zq_tr ys (zq_tr xs s)
  | [], _, _ => rfl
  | o :: xs, ys, s => zq_tr_app xs ys _
theorem zq_nrm_k (s : zq_T) : (zq_nrm s).2.2.1 ≤ s.2.2.1 + 1 := by
  rcases Nat.lt_or_ge s.2.1 16777216 with z | z
  · rw [zq_nrm_lt z]
    exact Nat.le_refl _
  · rw [zq_nrm_ge z]
    exact Nat.le_succ _
theorem zq_tr_k : ∀ (os : List (Nat × Nat)) (s : zq_T), (zq_tr os s).2.2.1 ≤ s.2.2.1 + os.length
  | [], s => Nat.le_refl _
  | o :: os, s => by
    have g := zq_tr_k os (zq_nrm (zq_mid s o.1 o.2))
    have g2 : (zq_nrm (zq_mid s o.1 o.2)).2.2.1 ≤ s.2.2.1 + 1 := zq_nrm_k (zq_mid s o.1 o.2)
    show (zq_tr os (zq_nrm (zq_mid s o.1 o.2))).2.2.1 ≤ s.2.2.1 + (os.length + 1)
    omega
/-! ===== the decisions ===== -/
def zq_to (a v : Nat) : Nat → Nat → List (Nat × Nat)
  | 0, _ => []
  | k + 1, nd => (a + nd, v / 2 ^ k % 2) :: zq_to a v k (2 * nd + v / 2 ^ k % 2)
def zq_bd (n v : Nat) : Nat → Nat → Nat → List (Nat × Nat)
  | 0, _, _ => []
  | f + 1, b, i => if n ≤ i then [] else if i = 0 ∨ n - i < 2 then (b, 0) :: (zq_to 66 v 8 1 ++ zq_bd n v f 0 (i + 1)) else (b, 1) :: (zq_to 322 (min 9 (n - i) - 2) 3 1 ++ (zq_to 330 0 6 1 ++ zq_bd n v f 1 (i + min 9 (n - i))))
def zq_all (n v : Nat) : List (Nat × Nat) := zq_to 2 n 6 1 ++ zq_bd n v 48 0 0
def zq_s0 : zq_T := (0, 4294967295, 0, fun _ => 1024)
theorem zq_s0_ok : zq_ok zq_s0 := ⟨by decide, by decide, fun _ => ⟨show 31 ≤ 1024 by decide, show 1024 ≤ 2017 by decide⟩⟩
theorem zq_to_len (a v : Nat) : ∀ (k nd : Nat), (zq_to a v k nd).length = k
  | 0, _ => rfl
  | k + 1, nd => by
    show (zq_to a v k _).length + 1 = k + 1
    rw [zq_to_len a v k]
theorem zq_bd_end {n v f b i : Nat} (h : n ≤ i) : zq_bd n v f b i = [] := by
  cases f with
  | zero => rfl
  | succ f => exact if_pos h
theorem zq_bd_lit {n v f b i : Nat} (h : i < n) (h2 : i = 0 ∨ n - i < 2) : zq_bd n v (f + 1) b i = (b, 0) :: (zq_to 66 v 8 1 ++ zq_bd n v f 0 (i + 1)) := by
  show (if n ≤ i then _ else _) = _
  rw [if_neg (by omega), if_pos h2]
theorem zq_bd_cpy {n v f b i : Nat} (h : i < n) (h2 : ¬ (i = 0 ∨ n - i < 2)) : zq_bd n v (f + 1) b i = (b, 1) :: (zq_to 322 (min 9 (n - i) - 2) 3 1 ++ (zq_to 330 0 6 1 ++ zq_bd n v f 1 (i + min 9 (n - i)))) := by
  show (if n ≤ i then _ else _) = _
  rw [if_neg (by omega), if_neg h2]
theorem zq_bd_len (n v : Nat) : ∀ (f b i : Nat), 1 ≤ i → 9 * (zq_bd n v f b i).length ≤ 10 * (n - i + 8)
  | 0, b, i, h => by
    show 9 * 0 ≤ _
    omega
  | f + 1, b, i, h => by
    rcases Nat.lt_or_ge i n with z | z
    · by_cases h2 : i = 0 ∨ n - i < 2
      · rw [zq_bd_lit z h2, zq_bd_end (show n ≤ i + 1 by omega)]
        show 9 * ((zq_to 66 v 8 1 ++ []).length + 1) ≤ _
        rw [List.append_nil, zq_to_len]
        omega
      · have g := zq_bd_len n v f 1 (i + min 9 (n - i)) (by omega)
        rw [zq_bd_cpy z h2]
        show 9 * ((zq_to 322 (min 9 (n - i) - 2) 3 1 ++ (zq_to 330 0 6 1 ++ zq_bd n v f 1 (i + min 9 (n - i)))).length + 1) ≤ _
        rw [List.length_append, List.length_append, zq_to_len, zq_to_len]
        by_cases h9 : 9 ≤ n - i
        · rw [Nat.min_eq_left h9] at g ⊢
          omega
        · have e : min 9 (n - i) = n - i := by omega
          rw [e, zq_bd_end (show n ≤ i + (n - i) by omega)]
          show 9 * (3 + (6 + 0) + 1) ≤ _
          omega
    · rw [zq_bd_end z]
      show 9 * 0 ≤ _
      omega
theorem zq_all_len {n v : Nat} (hn : n ≤ 48) (h0 : 1 ≤ n) : (zq_all n v).length ≤ 100 := by
  unfold zq_all
  rw [List.length_append, zq_to_len, zq_bd_lit (f := 47) (show 0 < n by omega) (Or.inl rfl)]
  have g := zq_bd_len n v 47 0 (0 + 1) (by omega)
  show 6 + ((zq_to 66 v 8 1 ++ zq_bd n v 47 0 (0 + 1)).length + 1) ≤ 100
  rw [List.length_append, zq_to_len]
  omega
/-! ===== big-endian bytes ===== -/
def zq_by (a : Nat → Int32) (m W : Nat) : Prop := ∀ j, j < m → a j &&& 255 = nI (W / 256 ^ (m - 1 - j) % 256)
theorem zq_by_put {a : Nat → Int32} {m W b : Nat} {x : Int32} (h : zq_by a m W) (hb : b < 256) (hx : x &&& 255 = nI b) : zq_by (upd a m x) (m + 1) (W * 256 + b) := by
  intro j hj
  by_cases e : j = m
  · rw [e, pk_us, hx]
    have e2 : m + 1 - 1 - m = 0 := by omega
    rw [e2]
    congr 1
    omega
  · rw [pk_un e, h j (by omega)]
    have e2 : m + 1 - 1 - j = (m - 1 - j) + 1 := by omega
    rw [e2, Nat.pow_succ, Nat.mul_comm (256 ^ (m - 1 - j)) 256, ← Nat.div_div_eq_div_mul]
    have e3 : (W * 256 + b) / 256 = W := by omega
    rw [e3]
/-- what stands in the fields of the writer, against the picture's low end L, range R and number of shifts k -/
def zq_ph (L R k w hd q wr : Nat) (a3 : Nat → Int32) : Prop :=
  ∃ W, L + 4294967296 = (W * 256 + hd + 1) * 256 ^ q * 4294967296 + w ∧ w + R < 8589934592 ∧ hd ≤ 255 ∧ (hd = 255 → w + R < 4294967296) ∧ wr + q = k ∧ zq_by a3 wr W
def zq_ch (a4 : Nat → Int32) (P : Nat → Nat) : Prop := ∀ j, j < 394 → a4 j = nI (P j)
/-- the writer, with the decisions that are still to come; sF: the picture behind the last one -/
def zq_E (sF : zq_T) (os : List (Nat × Nat)) (R w hd q wr : Nat) (a3 a4 : Nat → Int32) : Prop :=
  ∃ (L k : Nat) (P : Nat → Nat), zq_ok (L, R, k, P) ∧ zq_tr os (L, R, k, P) = sF ∧ k + os.length ≤ 300 ∧ zq_ph L R k w hd q wr a3 ∧ zq_ch a4 P
/-- the reader -/
def zq_D (F K : Nat) (os : List (Nat × Nat)) (R c ra : Nat) (a4 : Nat → Int32) : Prop :=
  ∃ (L k : Nat) (P : Nat → Nat), zq_ok (L, R, k, P) ∧ (zq_tr os (L, R, k, P)).1 = F ∧ (zq_tr os (L, R, k, P)).2.2.1 = K ∧ c + L = F / 256 ^ (K - k) ∧ ra = k + 5 ∧ zq_ch a4 P
/-- a number that lies inside a state: its head is in the state's range -/
theorem zq_win {s t : zq_T} (h : zq_in s t) (ht : 0 < t.2.1) : s.2.2.1 ≤ t.2.2.1 ∧ s.1 ≤ t.1 / 256 ^ (t.2.2.1 - s.2.2.1) ∧ t.1 / 256 ^ (t.2.2.1 - s.2.2.1) < s.1 + s.2.1 := by
  obtain ⟨h1, h2, h3⟩ := h
  have hp : 0 < 256 ^ (t.2.2.1 - s.2.2.1) := Nat.pow_pos (by decide)
  exact ⟨h1, (Nat.le_div_iff_mul_le hp).mpr h2, (Nat.div_lt_iff_lt_mul hp).mpr (by omega)⟩
/-- one byte more of a number -/
theorem zq_dig {F e : Nat} : F / 256 ^ (e + 1) * 256 + F / 256 ^ e % 256 = F / 256 ^ e := by
  rw [Nat.pow_succ, ← Nat.div_div_eq_div_mul]
  omega
end
section
section
variable {dl pl fi co he hc ba wt ra ml md : Int32} {lo rg cd : Int64} {a1 a2 a3 a4 : Nat → Int32}
/-! ===== the writer's walk, method by method ===== -/
theorem zq_pb {post : St2 → Prop} {y wr W : Nat} (hy : y < 2 ^ 31) (hw : wr < 352) (hby : zq_by a3 wr W)
    (H : ∀ a3' : Nat → Int32, zq_by a3' (wr + 1) (W * 256 + y % 256) → post (dl, pl, fi, co, lo, rg, he, hc, 0, nI (wr + 1), cd, ra, ml, md, a1, a2, a3', a4)) :
    wpX_putByte post (dl, pl, fi, co, lo, rg, he, hc, 0, nI wr, cd, ra, ml, md, a1, a2, a3, a4) (nI y) := by
  have e : (0 : Int32) + nI wr = nI wr := Int32.zero_add _
  refine pk_le 352 wr (fun z => absurd z (by omega)) (fun _ => ⟨pk_in wr 1408 (by omega) e, nm_e (nm_r (nI_1 wr) ?_)⟩)
  rw [e, nI_clamp (by omega)]
  exact H _ (zq_by_put hby (by omega) (zq_b8 y hy))
theorem zq_up {c : Nat} (h : c ≤ 2048) : nI c + ((2048 - nI c) >>> ((5 : Int32) &&& 31)) = nI (c + (2048 - c) / 32) := by
  have e : (2048 : Int32) - nI c = nI (2048 - c) := pk_sub (a := 2048) h
  have e2 : nI (2048 - c) >>> ((5 : Int32) &&& 31) = nI ((2048 - c) / 32) := pk_shrN (by omega) _ 5 (by decide)
  rw [e, e2, nI_add]
theorem zq_dn {c : Nat} (h : c ≤ 2048) : nI c - (nI c >>> ((5 : Int32) &&& 31)) = nI (c - c / 32) := by
  have e2 : nI c >>> ((5 : Int32) &&& 31) = nI (c / 32) := pk_shrN (by omega) _ 5 (by decide)
  rw [e2, pk_sub (Nat.div_le_self _ _)]
theorem zq_ch_put {P : Nat → Nat} {t b c : Nat} (hch : zq_ch a4 P) (hc : c = zq_ln (P t) b) : zq_ch (upd a4 t (nI c)) (zq_lnP P t b) := by
  intro j hj
  show upd a4 t (nI c) j = nI (if j = t then zq_ln (P j) b else P j)
  by_cases e : j = t
  · rw [e, pk_us, if_pos rfl, hc]
  · rw [pk_un e, if_neg e]
    exact hch j hj
theorem zq_lrn {post : St2 → Prop} {t b : Nat} {P : Nat → Nat} (ht : t < 394) (hb : b < 2) (hch : zq_ch a4 P) (hP : ∀ j, 31 ≤ P j ∧ P j ≤ 2017)
    (H : ∀ a4' : Nat → Int32, zq_ch a4' (zq_lnP P t b) → post (dl, pl, fi, co, lo, rg, he, hc, ba, wt, cd, ra, ml, md, a1, a2, a3, a4')) : wpX_learn post (dl, pl, fi, co, lo, rg, he, hc, ba, wt, cd, ra, ml, md, a1, a2, a3, a4) (nI t) (nI b) := by
  have hv : vp_in (nI t) 394 := vp_in_nI ht (by decide)
  have h3 := hP t
  refine pk_eq b 0 (fun z => ⟨hv, hv, hv, nm_e ?_⟩) (fun z => ⟨hv, hv, hv, nm_e ?_⟩)
  · rw [nI_clamp (by omega), hch t ht, zq_up (by omega)]
    exact H _ (zq_ch_put hch (by rw [z]; rfl))
  · rw [nI_clamp (by omega), hch t ht, zq_dn (by omega)]
    exact H _ (zq_ch_put hch (by unfold zq_ln; rw [if_neg z]))
theorem zq_91 {post : St2 → Prop} {w : Nat} {y : Int32} (hw : w < 2 ^ 63) (hx : hc + 1 = y) (H : post (dl, pl, fi, co, lN (w % 16777216 * 256), rg, he, y, ba, wt, cd, ra, ml, md, a1, a2, a3, a4)) : wX_shiftLow_91 post dl pl fi co (lN w) rg he hc ba wt cd ra ml md a1 a2 a3 a4 :=
  nm_r hx (nm_r (zq_m24 hw) H)
theorem zq_70 {post : St2 → Prop} {w : Nat} (hw : w < 2 ^ 63) (H : post (dl, pl, fi, co, lN (w % 16777216 * 256), rg, nI (w / 16777216 % 256), nI 1, ba, wt, cd, ra, ml, md, a1, a2, a3, a4)) : wX_shiftLow_70 post dl pl fi co (lN w) rg he hc ba wt cd ra ml md a1 a2 a3 a4 :=
  nm_r (zq_s24 hw) (zq_91 hw (by decide) H)
theorem zq_38 {post : St2 → Prop} {c h : Nat} (hc1 : c ≤ 1) (hh : h ≤ 345) : ∀ (m f : Nat), m < f → ∀ (j wr W Y : Nat) (a3 : Nat → Int32), j + m = h → wr + m ≤ 345 → zq_by a3 wr W → W + 1 = Y + c →
    (∀ (a3' : Nat → Int32) (W' : Nat), zq_by a3' (wr + m) W' → W' + 1 = Y * 256 ^ m + c → wX_shiftLow_70 post dl pl fi co lo rg he (nI h) 0 (nI (wr + m)) cd ra ml md a1 a2 a3' a4) →
    wX_shiftLow_38 post (nI c) f 255 (nI j) dl pl fi co lo rg he (nI h) 0 (nI wr) cd ra ml md a1 a2 a3 a4 := by
  intro m
  induction m with
  | zero =>
    intro f hf j wr W Y a3 hj hw hby hY H
    obtain ⟨g, rfl⟩ : ∃ g, f = g + 1 := ⟨f - 1, by omega⟩
    exact pk_le h j (fun _ => H a3 W hby (by rw [hY, Nat.pow_zero, Nat.mul_one])) (fun z => absurd z (by omega))
  | succ m ih =>
    intro f hf j wr W Y a3 hj hw hby hY H
    obtain ⟨g, rfl⟩ : ∃ g, f = g + 1 := ⟨f - 1, by omega⟩
    refine pk_le h j (fun z => absurd z (by omega)) (fun _ => pk_le 352 j (fun z => absurd z (by omega)) (fun _ => ?_))
    have e : (255 : Int32) + nI c = nI (255 + c) := nI_add 255 c
    rw [e]
    refine zq_pb (by omega) (by omega) hby (fun a3' hby' => nm_r (nI_1 j) ?_)
    refine ih g (by omega) (j + 1) (wr + 1) (W * 256 + (255 + c) % 256) (Y * 256) a3' (by omega) (by omega) hby' ?_ (fun a3'' W' hb' hY' => ?_)
    · rcases (show c = 0 ∨ c = 1 by omega) with rfl | rfl <;> omega
    · have e2 : wr + 1 + m = wr + (m + 1) := by omega
      rw [e2] at hb' ⊢
      exact H a3'' W' hb' (by rw [hY', Nat.pow_succ, Nat.mul_comm (256 ^ m) 256, Nat.mul_assoc])
theorem zq_22 {post : St2 → Prop} {L R k w hd q wr : Nat} (h : zq_ph L R k w hd q wr a3) (hk : k ≤ 340) (hR : R * 256 ≤ 4294967296) (hcase : w < 4278190080 ∨ 4294967296 ≤ w)
    (H : ∀ (hd' q' wr' : Nat) (a3' : Nat → Int32), zq_ph (L * 256) (R * 256) (k + 1) (w % 16777216 * 256) hd' q' wr' a3' → (w = 0 → hd' = 0 ∧ q' = 0) → post (dl, pl, fi, co, lN (w % 16777216 * 256), rg, nI hd', nI (q' + 1), 0, nI wr', cd, ra, ml, md, a1, a2, a3', a4)) :
    wX_shiftLow_22 post dl pl fi co (lN w) rg (nI hd) (nI (q + 1)) 0 (nI wr) cd ra ml md a1 a2 a3 a4 := by
  obtain ⟨W, e1, e2, e3, e4, e5, hby⟩ := h
  have hc1 : w / 4294967296 ≤ 1 := by omega
  have hc2 : hd + w / 4294967296 < 256 := by omega
  refine nm_r (zq_s32 (by omega)) ⟨q + 2, ?_⟩
  refine pk_le (q + 1) 0 (fun z => absurd z (by omega)) (fun _ => pk_le 352 0 (fun z => absurd z (by omega)) (fun _ => ?_))
  rw [nI_add]
  refine zq_pb (by omega) (by omega) hby (fun a3' hby' => nm_r (nI_1 0) ?_)
  refine zq_38 hc1 (by omega) q (q + 1) (by omega) 1 (wr + 1) _ (W * 256 + hd + 1) a3' (by omega) (by omega) hby' (by omega) (fun a3'' W' hb' hY' => zq_70 (by omega) ?_)
  refine H (w / 16777216 % 256) 0 (wr + 1 + q) a3'' ⟨W', ?_, by omega, by omega, by omega, by omega, hb'⟩ (fun z => ⟨by omega, rfl⟩)
  rw [Nat.pow_zero, Nat.mul_one]
  generalize (W * 256 + hd + 1) * 256 ^ q = X at e1 hY'
  omega
theorem zq_sl {post : St2 → Prop} {L R k w hd q wr : Nat} (h : zq_ph L R k w hd q wr a3) (hk : k ≤ 340) (hR : R * 256 ≤ 4294967296)
    (H : ∀ (hd' q' wr' : Nat) (a3' : Nat → Int32), zq_ph (L * 256) (R * 256) (k + 1) (w % 16777216 * 256) hd' q' wr' a3' → (w = 0 → hd' = 0 ∧ q' = 0) → post (dl, pl, fi, co, lN (w % 16777216 * 256), rg, nI hd', nI (q' + 1), 0, nI wr', cd, ra, ml, md, a1, a2, a3', a4)) :
    wpX_shiftLow post (dl, pl, fi, co, lN w, rg, nI hd, nI (q + 1), 0, nI wr, cd, ra, ml, md, a1, a2, a3, a4) := by
  have hw : w < 8589934592 := by
    obtain ⟨W, e1, e2, _⟩ := h
    omega
  refine zq_llt w 4278190080 (fun z => zq_22 h hk hR (Or.inl z) H) (fun z => zq_lle w 4294967295 (fun z2 => ?_) (fun z2 => zq_22 h hk hR (Or.inr z2) H))
  refine zq_91 (by omega) (nI_1 (q + 1)) (H hd (q + 1) wr a3 ?_ (fun z0 => absurd z (by omega)))
  obtain ⟨W, e1, e2, e3, e4, e5, hby⟩ := h
  refine ⟨W, ?_, by omega, e3, by omega, by omega, hby⟩
  rw [Nat.pow_succ, ← Nat.mul_assoc]
  generalize (W * 256 + hd + 1) * 256 ^ q = X at e1
  omega
theorem zq_nrmL {L R k : Nat} {P : Nat → Nat} (h : R < 16777216) : zq_nrm (L, R, k, P) = (L * 256, R * 256, k + 1, P) := if_pos h
theorem zq_nrmG {L R k : Nat} {P : Nat → Nat} (h : 16777216 ≤ R) : zq_nrm (L, R, k, P) = (L, R, k, P) := if_neg (show ¬ R < 16777216 by omega)
theorem zq_48 {post : St2 → Prop} {t b L R k w hd q wr : Nat} {P : Nat → Nat} {s' : zq_T} (ht : t < 394) (hb : b < 2) (hR : R < 4294967296) (hP : ∀ j, 31 ≤ P j ∧ P j ≤ 2017) (hk : k ≤ 340) (hp : zq_ph L R k w hd q wr a3) (hch : zq_ch a4 P)
    (hs : zq_nrm (L, R, k, zq_lnP P t b) = s')
    (H : ∀ (w' hd' q' wr' : Nat) (a3' a4' : Nat → Int32), zq_ph s'.1 s'.2.1 s'.2.2.1 w' hd' q' wr' a3' → zq_ch a4' s'.2.2.2 → post (dl, pl, fi, co, lN w', lN s'.2.1, nI hd', nI (q' + 1), 0, nI wr', cd, ra, ml, md, a1, a2, a3', a4')) :
    wX_writeBit_48 post (nI t) (nI b) dl pl fi co (lN w) (lN R) (nI hd) (nI (q + 1)) 0 (nI wr) cd ra ml md a1 a2 a3 a4 := by
  refine zq_lrn ht hb hch hP (fun a4' hch' => ?_)
  refine zq_lle 16777216 R (fun z => ?_) (fun z => nm_r (zq_l8 R) ?_)
  · rw [zq_nrmG z] at hs
    subst hs
    exact H w hd q wr a3 a4' hp hch'
  · rw [zq_nrmL z] at hs
    subst hs
    exact zq_sl hp hk (by omega) (fun hd' q' wr' a3' hp' _ => H _ hd' q' wr' a3' a4' hp' hch')
theorem zq_ph_mono {L R k w hd q wr R' d : Nat} (h : zq_ph L R k w hd q wr a3) (hd1 : d + R' ≤ R) : zq_ph (L + d) R' k (w + d) hd q wr a3 := by
  obtain ⟨W, e1, e2, e3, e4, e5, hby⟩ := h
  exact ⟨W, by omega, by omega, e3, by omega, e5, hby⟩
theorem zq_bnd {R t : Nat} {P : Nat → Nat} (hR : R < 4294967296) (ht : t < 394) (hch : zq_ch a4 P) (hP : ∀ j, 31 ≤ P j ∧ P j ≤ 2017) :
    (((lN R).toUInt64 >>> ((11 : Int32).toInt64.toUInt64 &&& Int64.toUInt64 63)).toInt64) * ((a4 (nI t).toNatClampNeg).toInt64) = lN (R / 2048 * P t) := by
  have h := hP t
  rw [nI_clamp (by omega), hch t ht, nI_l (by omega), zq_s11 (by omega), lN_mul]
theorem zq_wb {post : St2 → Prop} {sF : zq_T} {os : List (Nat × Nat)} {t b R w hd q wr : Nat} (ht : t < 394) (hb : b < 2) (h : zq_E sF ((t, b) :: os) R w hd q wr a3 a4)
    (H : ∀ (R' w' hd' q' wr' : Nat) (a3' a4' : Nat → Int32), zq_E sF os R' w' hd' q' wr' a3' a4' → post (dl, pl, fi, co, lN w', lN R', nI hd', nI (q' + 1), 0, nI wr', cd, ra, ml, md, a1, a2, a3', a4')) :
    wpX_writeBit post (dl, pl, fi, co, lN w, lN R, nI hd, nI (q + 1), 0, nI wr, cd, ra, ml, md, a1, a2, a3, a4) (nI t) (nI b) := by
  obtain ⟨L, k, P, hok, htr, hk, hp, hch⟩ := h
  have hk' : k + (os.length + 1) ≤ 300 := hk
  have hok2 : 16777216 ≤ R ∧ R < 4294967296 ∧ ∀ j, 31 ≤ P j ∧ P j ≤ 2017 := hok
  obtain ⟨h1, h2, h3⟩ := hok2
  have B := zq_bd1 h1 (h3 t).1 (h3 t).2
  have kk : (zq_nrm (zq_mid (L, R, k, P) t b)).2.2.1 ≤ k + 1 := zq_nrm_k (zq_mid (L, R, k, P) t b)
  have fin : ∀ (w' hd' q' wr' : Nat) (a3' a4' : Nat → Int32), zq_ph (zq_nrm (zq_mid (L, R, k, P) t b)).1 (zq_nrm (zq_mid (L, R, k, P) t b)).2.1 (zq_nrm (zq_mid (L, R, k, P) t b)).2.2.1 w' hd' q' wr' a3' → zq_ch a4' (zq_nrm (zq_mid (L, R, k, P) t b)).2.2.2 → post (dl, pl, fi, co, lN w', lN (zq_nrm (zq_mid (L, R, k, P) t b)).2.1, nI hd', nI (q' + 1), 0, nI wr', cd, ra, ml, md, a1, a2, a3', a4') :=
    fun w' hd' q' wr' a3' a4' g1 g2 => H _ w' hd' q' wr' a3' a4' ⟨(zq_nrm (zq_mid (L, R, k, P) t b)).1, (zq_nrm (zq_mid (L, R, k, P) t b)).2.2.1, (zq_nrm (zq_mid (L, R, k, P) t b)).2.2.2, zq_st_ok hok t b, htr, by omega, g1, g2⟩
  refine ⟨vp_in_nI ht (by decide), nm_r (zq_bnd h2 ht hch h3) (pk_eq b 0 (fun z => ?_) (fun z => nm_r (lN_add _ _) (nm_r (lN_sub (by omega)) ?_)))⟩
  · subst z
    exact zq_48 ht hb (by omega) h3 (by omega) (zq_ph_mono (d := 0) hp (by omega)) hch rfl fin
  · obtain rfl : b = 1 := by omega
    exact zq_48 ht hb (by omega) h3 (by omega) (zq_ph_mono hp (by omega)) hch rfl fin
theorem zq_t8 {post : St2 → Prop} {sF : zq_T} {a v C : Nat} (hv : v < 2 ^ 16) (hC : a + C ≤ 394) : ∀ (k f : Nat), k < f → ∀ (nd : Nat) (os : List (Nat × Nat)) (R w hd q wr : Nat) (a3 a4 : Nat → Int32), k ≤ 16 → nd * 2 ^ k + v % 2 ^ k < 2 * C → zq_E sF (zq_to a v k nd ++ os) R w hd q wr a3 a4 →
    (∀ (R' w' hd' q' wr' : Nat) (a3' a4' : Nat → Int32), zq_E sF os R' w' hd' q' wr' a3' a4' → post (dl, pl, fi, co, lN w', lN R', nI hd', nI (q' + 1), 0, nI wr', cd, ra, ml, md, a1, a2, a3', a4')) →
    wX_writeTree_8 post (nI a) (nI v) f (nI nd) (nI k + (-1)) dl pl fi co (lN w) (lN R) (nI hd) (nI (q + 1)) 0 (nI wr) cd ra ml md a1 a2 a3 a4 := by
  intro k
  induction k with
  | zero =>
    intro f hf nd os R w hd q wr a3 a4 hk hnd h H
    obtain ⟨g, rfl⟩ : ∃ g, f = g + 1 := ⟨f - 1, by omega⟩
    exact br_t (by decide) (H R w hd q wr a3 a4 h)
  | succ k ih =>
    intro f hf nd os R w hd q wr a3 a4 hk hnd h H
    obtain ⟨g, rfl⟩ : ∃ g, f = g + 1 := ⟨f - 1, by omega⟩
    rw [pk_m1]
    have hb2 : v / 2 ^ k % 2 < 2 := Nat.mod_lt _ (by decide)
    have hp : 0 < 2 ^ k := Nat.pow_pos (by decide)
    have e1 : v % 2 ^ (k + 1) = v / 2 ^ k % 2 * 2 ^ k + v % 2 ^ k := by
      rw [Nat.mod_pow_succ, Nat.mul_comm, Nat.add_comm]
    have e2 : nd * 2 ^ (k + 1) = 2 * nd * 2 ^ k := by
      rw [Nat.pow_succ, Nat.mul_comm (2 ^ k) 2, ← Nat.mul_assoc, Nat.mul_comm nd 2]
    have e3 : (2 * nd + v / 2 ^ k % 2) * 2 ^ k + v % 2 ^ k < 2 * C := by
      rw [Nat.add_mul, ← e2, Nat.add_assoc, ← e1]
      exact hnd
    have e4 : nd < C := by
      have g1 : 2 * nd * 1 ≤ 2 * nd * 2 ^ k := Nat.mul_le_mul_left _ hp
      omega
    refine br_f (nI_pos (by omega)) (nm_r (zq_bit (by omega) (by omega)) ?_)
    rw [nI_add]
    refine zq_wb (by omega) hb2 h (fun R' w' hd' q' wr' a3' a4' h' => nm_r (e' := nI (2 * nd + v / 2 ^ k % 2)) ?_ (nm_e ?_))
    · show nI 2 * nI nd + nI _ = _
      rw [pk_mul, nI_add]
    · exact ih g (by omega) _ os R' w' hd' q' wr' a3' a4' (by omega) e3 h' H
theorem zq_wt {post : St2 → Prop} {sF : zq_T} {os : List (Nat × Nat)} {a v C k R w hd q wr : Nat} {x y : Int32} (hx : x - 1 = nI k + (-1)) (hy : y = nI v) (hC : a + C ≤ 394) (hk : k ≤ 16) (hc2 : 2 ^ k = C) (hv : v < C) (h : zq_E sF (zq_to a v k 1 ++ os) R w hd q wr a3 a4)
    (H : ∀ (R' w' hd' q' wr' : Nat) (a3' a4' : Nat → Int32), zq_E sF os R' w' hd' q' wr' a3' a4' → post (dl, pl, fi, co, lN w', lN R', nI hd', nI (q' + 1), 0, nI wr', cd, ra, ml, md, a1, a2, a3', a4')) :
    wpX_writeTree post (dl, pl, fi, co, lN w, lN R, nI hd, nI (q + 1), 0, nI wr, cd, ra, ml, md, a1, a2, a3, a4) (nI a) x y := by
  subst hy
  refine nm_r hx ⟨k + 1, ?_⟩
  refine zq_t8 (C := C) (by omega) hC k (k + 1) (by omega) 1 os R w hd q wr a3 a4 hk ?_ h H
  rw [hc2, Nat.mod_eq_of_lt hv]
  omega
end
end
section
section
variable {dl pl fi co he hc ba wt ra ml md : Int32} {lo rg cd : Int64} {a1 a2 a3 a4 : Nat → Int32}
/-! ===== the chances anew; the longest match; squeeze; send ===== -/
theorem zq_fill {s : Nat → Int32} {i k : Nat} {x y : Int32} (hk : k = i) (h : ∀ j, j < i → s j = y) (hx : x = y) : ∀ j, j < i + 1 → upd s k x j = y := by
  intro j hj
  rw [hk]
  by_cases e : j = i
  · rw [e, pk_us, hx]
  · rw [pk_un e]
    exact h j (by omega)
theorem zq_sc {post : St2 → Prop} (H : ∀ a4' : Nat → Int32, zq_ch a4' (fun _ => 1024) → post (dl, pl, fi, co, lo, rg, he, hc, ba, wt, cd, ra, ml, md, a1, a2, a3, a4')) : wpX_startChances post (dl, pl, fi, co, lo, rg, he, hc, ba, wt, cd, ra, ml, md, a1, a2, a3, a4) :=
  pk_loop (fun n i s => wX_startChances_2 post dl pl fi co lo rg he hc ba wt cd ra ml md n (nI i) a1 a2 a3 s) (fun i s => ∀ j, j < i → s j = nI 1024) 394 0 a4 (by omega) (fun j hj => absurd hj (by omega))
    (fun n s h => pk_le 394 394 (fun _ => H s h) (fun z => absurd z (by omega)))
    (fun n i s hi h hw => pk_le 394 i (fun z => absurd z (by omega)) (fun _ => ⟨pk_in i 394 hi, nm_e (nm_r (nI_1 i) (hw _ (zq_fill (nI_clamp (by omega)) h rfl)))⟩))
theorem zq_ma {post : Int32 → Prop} {n v i d : Nat} (hn : n ≤ 48) (ha : ∀ j, j < n → a1 j = nI v) (hi : i < n) (hd : 1 ≤ d) (hd2 : d ≤ i) (H : post (nI (min 9 (n - i)))) : wpX_matchAt post (nI n, pl, fi, co, lo, rg, he, hc, ba, wt, cd, ra, ml, md, a1, a2, a3, a4) (nI i) (nI d) :=
  pk_loop (σ := Unit) (fun f x _ => wX_matchAt_2 post (nI i) (nI d) (nI n) pl fi co lo rg he hc ba wt cd ra ml md a1 a2 a3 a4 f (nI x)) (fun _ _ => True) (min 9 (n - i)) 0 () (by omega) trivial
    (fun f _ _ => pk_le 9 (min 9 (n - i)) (fun _ => H) (fun z => pk_le n (i + min 9 (n - i)) (fun _ => H) (fun z => absurd z (by omega)) rfl (nI_add i _)))
    (fun f x _ hx _ hw => pk_le 9 x (fun z => absurd z (by omega)) (fun _ => pk_le n (i + x) (fun z => absurd z (by omega)) (fun _ => ⟨pk_in (i + x) 48 (by omega) (nI_add i x), pk_in (i + x - d) 48 (by omega) (by rw [nI_add, pk_sub (by omega)]), br_t (by rw [nI_add, pk_sub (by omega), nI_clamp (by omega), nI_clamp (by omega), ha _ (by omega), ha _ (by omega)]) (nm_r (nI_1 x) (hw () trivial))⟩) rfl (nI_add i x)))
theorem zq_fm {post : St2 → Prop} {n v i : Nat} (hn : n ≤ 48) (ha : ∀ j, j < n → a1 j = nI v) (hi : i < n)
    (H : ∀ (m : Nat) (md' : Int32), m ≤ 9 → (i = 0 ∨ n - i < 2 → m < 2) → (¬ (i = 0 ∨ n - i < 2) → m = min 9 (n - i) ∧ md' = 1) → post (nI n, pl, fi, co, lo, rg, he, hc, ba, wt, cd, ra, nI m, md', a1, a2, a3, a4)) : wpX_findMatch post (nI n, pl, fi, co, lo, rg, he, hc, ba, wt, cd, ra, ml, md, a1, a2, a3, a4) (nI i) := by
  rcases Nat.eq_zero_or_pos i with h0 | h0
  · exact ⟨1, pk_lt i 1 (fun _ => H 0 0 (by omega) (fun _ => by omega) (fun z => absurd (Or.inl h0) z)) (fun z => absurd z (by omega))⟩
  · have go : ∃ f, wX_findMatch_12 post (nI i) (nI n) pl fi co lo rg he hc ba wt cd ra a1 a2 a3 a4 f (nI 2) (nI (min 9 (n - i))) 1 :=
      pk_loop (σ := Unit) (fun f x _ => wX_findMatch_12 post (nI i) (nI n) pl fi co lo rg he hc ba wt cd ra a1 a2 a3 a4 f (nI x) (nI (min 9 (n - i))) 1) (fun x _ => 2 ≤ x) (i + 1) 2 () (by omega) (Nat.le_refl 2)
        (fun f _ _ => pk_lt i (i + 1) (fun _ => H (min 9 (n - i)) 1 (by omega) (fun _ => by omega) (fun _ => ⟨rfl, rfl⟩)) (fun z => absurd z (by omega)))
        (fun f x _ hx hx2 hw => pk_lt i x (fun z => absurd z (by omega)) (fun _ => zq_ma hn ha hi (by omega) (by omega) (pk_le (min 9 (n - i)) (min 9 (n - i)) (fun _ => nm_r (nI_1 x) (hw () (Nat.le_succ_of_le hx2))) (fun z => absurd z (by omega)))))
    obtain ⟨f, hf⟩ := go
    exact ⟨f + 1, pk_lt i 1 (fun z => absurd z (by omega)) (fun _ => zq_ma (d := 1) hn ha hi (by omega) (by omega) (pk_le (min 9 (n - i)) 0 (fun z => absurd z (by omega)) (fun _ => nm_r (nI_1 1) hf)))⟩
theorem zq_f1 {post : St2 → Prop} {g j L k w hd q wr : Nat} (hj : j < 5) (hk : k ≤ 340) (h : zq_ph L 0 k w hd q wr a3)
    (H : ∀ (hd' q' wr' : Nat) (a3' : Nat → Int32), zq_ph (L * 256) 0 (k + 1) (w % 16777216 * 256) hd' q' wr' a3' → (w = 0 → hd' = 0 ∧ q' = 0) → wX_squeeze_155 post g (nI (j + 1)) dl pl fi co (lN (w % 16777216 * 256)) rg (nI hd') (nI (q' + 1)) 0 (nI wr') cd ra ml md a1 a2 a3' a4) :
    wX_squeeze_155 post (g + 1) (nI j) dl pl fi co (lN w) rg (nI hd) (nI (q + 1)) 0 (nI wr) cd ra ml md a1 a2 a3 a4 :=
  pk_le 5 j (fun z => absurd z (by omega)) (fun _ => zq_sl h hk (by omega) (fun hd' q' wr' a3' hp hz => nm_r (nI_1 j) (H hd' q' wr' a3' hp hz)))
theorem zq_fl {post : St2 → Prop} {L R k w hd q wr : Nat} (h : zq_ph L R k w hd q wr a3) (hk : k ≤ 300)
    (H : ∀ (lo : Int64) (he hc : Int32) (a3 : Nat → Int32), zq_by a3 (k + 5) L → post (dl, pl, fi, co, lo, rg, he, hc, 0, nI (k + 5), cd, ra, ml, md, a1, a2, a3, a4)) : ∃ fu, wX_squeeze_155 post fu 0 dl pl fi co (lN w) rg (nI hd) (nI (q + 1)) 0 (nI wr) cd ra ml md a1 a2 a3 a4 := by
  have h0 : zq_ph L 0 k w hd q wr a3 := zq_ph_mono (d := 0) h (by omega)
  refine ⟨6, zq_f1 (j := 0) (by omega) (by omega) h0 (fun hd1 q1 wr1 b1 h1 _ => zq_f1 (j := 1) (by omega) (by omega) h1 (fun hd2 q2 wr2 b2 h2 _ => zq_f1 (j := 2) (by omega) (by omega) h2 (fun hd3 q3 wr3 b3 h3 _ => zq_f1 (j := 3) (by omega) (by omega) h3 (fun hd4 q4 wr4 b4 h4 _ => zq_f1 (j := 4) (by omega) (by omega) h4 (fun hd5 q5 wr5 b5 h5 z5 => ?_)))))⟩
  obtain ⟨rfl, rfl⟩ := z5 (by omega)
  obtain ⟨W, e1, _, _, _, e5, hby⟩ := h5
  obtain rfl : wr5 = k + 5 := by omega
  have eW : W = L := by
    rw [Nat.pow_zero, Nat.mul_one] at e1
    omega
  rw [eW] at hby
  exact pk_le 5 5 (fun _ => H _ _ _ _ hby) (fun z => absurd z (by omega))
theorem zq_q48 {post : St2 → Prop} {sF : zq_T} {n v : Nat} (hn : n ≤ 48) (hv : v < 256) (ha : ∀ j, j < n → a1 j = nI v)
    (HF : ∀ (R w hd q wr : Nat) (a3 a4 : Nat → Int32) (ml md : Int32), zq_E sF [] R w hd q wr a3 a4 → ∃ fu, wX_squeeze_155 post fu 0 (nI n) pl fi co (lN w) (lN R) (nI hd) (nI (q + 1)) 0 (nI wr) cd ra ml md a1 a2 a3 a4) :
    ∀ (f g : Nat), f < g → ∀ (b i R w hd q wr : Nat) (a3 a4 : Nat → Int32) (ml md : Int32), f ≤ 48 → b < 2 → i ≤ n → 48 ≤ f + i → zq_E sF (zq_bd n v f b i) R w hd q wr a3 a4 →
    wX_squeeze_48 post g (nI b) (nI i) (nI (48 - f)) (nI n) pl fi co (lN w) (lN R) (nI hd) (nI (q + 1)) 0 (nI wr) cd ra ml md a1 a2 a3 a4 := by
  intro f
  induction f with
  | zero =>
    intro g hg b i R w hd q wr a3 a4 ml md hf hb hi h48 h
    obtain ⟨g', rfl⟩ : ∃ g', g = g' + 1 := ⟨g - 1, by omega⟩
    exact pk_le 48 48 (fun _ => HF R w hd q wr a3 a4 ml md h) (fun z => absurd z (by omega))
  | succ f ih =>
    intro g hg b i R w hd q wr a3 a4 ml md hf hb hi h48 h
    obtain ⟨g', rfl⟩ : ∃ g', g = g' + 1 := ⟨g - 1, by omega⟩
    have es : nI (48 - (f + 1)) + 1 = nI (48 - f) := by
      rw [nI_1]
      congr 1
      omega
    refine pk_le 48 (48 - (f + 1)) (fun z => absurd z (by omega)) (fun _ => pk_le n i (fun z => HF R w hd q wr a3 a4 ml md (by rw [zq_bd_end z] at h; exact h)) (fun z => zq_fm hn ha z (fun m md' hm9 hm1 hm2 => pk_lt m 2 (fun z2 => ?_) (fun z2 => ?_))))
    · have h2 : i = 0 ∨ n - i < 2 := Classical.byContradiction (fun z3 => by have := (hm2 z3).1; omega)
      rw [zq_bd_lit z h2] at h
      refine zq_wb (t := b) (b := 0) (by omega) (by omega) h (fun R1 w1 hd1 q1 wr1 b3 b4 h1 => ⟨pk_in i 48 (by omega), ?_⟩)
      refine zq_wt (a := 66) (v := v) (C := 256) (k := 8) (by decide) (by rw [nI_clamp (by omega)]; exact ha i z) (by decide) (by decide) (by decide) hv h1 (fun R2 w2 hd2 q2 wr2 c3 c4 h2' => nm_r (nI_1 i) (nm_r es ?_))
      exact ih g' (by omega) 0 (i + 1) R2 w2 hd2 q2 wr2 c3 c4 _ _ (by omega) (by omega) (by omega) (by omega) h2'
    · have h2 : ¬ (i = 0 ∨ n - i < 2) := fun z3 => by have := hm1 z3; omega
      obtain ⟨hm, rfl⟩ := hm2 h2
      rw [zq_bd_cpy z h2, ← hm] at h
      refine zq_wb (t := b) (b := 1) (by omega) (by omega) h (fun R1 w1 hd1 q1 wr1 b3 b4 h1 => ?_)
      refine zq_wt (a := 322) (v := m - 2) (C := 8) (k := 3) (by decide) (pk_sub (a := m) (b := 2) z2) (by decide) (by decide) (by decide) (by omega) h1 (fun R2 w2 hd2 q2 wr2 c3 c4 h2' => ?_)
      refine zq_wt (a := 330) (v := 0) (C := 64) (k := 6) (by decide) (by decide) (by decide) (by decide) (by decide) (by omega) h2' (fun R3 w3 hd3 q3 wr3 d3 d4 h3' => nm_r (nI_add i m) (nm_r es ?_))
      exact ih g' (by omega) 1 (i + m) R3 w3 hd3 q3 wr3 d3 d4 _ _ (by omega) (by omega) (by omega) (by omega) h3'
theorem zq_sqz {post : St2 → Prop} {n v : Nat} (hn : n ≤ 48) (hn1 : 1 ≤ n) (hv : v < 256) (ha : ∀ j, j < n → a1 j = nI v)
    (H : ∀ (lo rg : Int64) (he hc ml md wt : Int32) (a3 a4 : Nat → Int32), zq_by a3 ((zq_tr (zq_all n v) zq_s0).2.2.1 + 5) (zq_tr (zq_all n v) zq_s0).1 → post (nI n, pl, fi, co, lo, rg, he, hc, 0, wt, cd, ra, ml, md, a1, a2, a3, a4)) : wpX_squeeze post (nI n, pl, fi, co, lo, rg, he, hc, 0, wt, cd, ra, ml, md, a1, a2, a3, a4) := by
  refine zq_sc (fun a4' hch => ?_)
  have len := zq_all_len (v := v) hn hn1
  have hE : zq_E (zq_tr (zq_all n v) zq_s0) (zq_all n v) 4294967295 0 0 0 0 a3 a4' :=
    ⟨0, 0, fun _ => 1024, zq_s0_ok, rfl, by omega, ⟨0, by decide, by decide, by decide, by decide, by decide, fun j hj => absurd hj (by omega)⟩, hch⟩
  refine zq_wt (a := 2) (v := n) (C := 64) (k := 6) (R := 4294967295) (w := 0) (hd := 0) (q := 0) (wr := 0) (by decide) rfl (by decide) (by decide) (by decide) (by omega) hE (fun R1 w1 hd1 q1 wr1 b3 b4 h1 => ⟨49, ?_⟩)
  refine zq_q48 hn hv ha (fun R w hd q wr a3 a4 ml md h => ?_) 48 49 (by omega) 0 0 R1 w1 hd1 q1 wr1 b3 b4 _ _ (by omega) (by omega) (by omega) (by omega) h1
  obtain ⟨L, k, P, hok, htr, hk, hp, hch'⟩ := h
  have e1 : L = (zq_tr (zq_all n v) zq_s0).1 := congrArg (fun s : zq_T => s.1) htr
  have e2 : k = (zq_tr (zq_all n v) zq_s0).2.2.1 := congrArg (fun s : zq_T => s.2.2.1) htr
  have hk' : k ≤ 300 := hk
  refine zq_fl hp hk' (fun lo he hc a3 hby => H lo (lN R) he hc ml md _ a3 a4 ?_)
  rw [← e1, ← e2]
  exact hby
theorem zq_snd {post : Int32 → St2 → Prop} {n v : Nat} (hn : n ≤ 48) (hn1 : 1 ≤ n) (hv : v < 256) (ha : ∀ j, j < n → a1 j = nI v)
    (H : ∀ (lo rg : Int64) (he hc ml md wt : Int32) (a3 a4 : Nat → Int32), zq_by a3 ((zq_tr (zq_all n v) zq_s0).2.2.1 + 5) (zq_tr (zq_all n v) zq_s0).1 → post 1 (nI n, pl, 0, 1, lo, rg, he, hc, 0, wt, cd, ra, ml, md, a1, a2, a3, a4)) : wpX_send post (nI n, pl, 0, 0, lo, rg, he, hc, ba, wt, cd, ra, ml, md, a1, a2, a3, a4) := by
  refine br_t (by decide) (nm_r (e' := 0) (by decide) (zq_sqz hn hn1 hv ha (fun lo rg he hc ml md wt a3 a4 hby => nm_r (e' := 1) (by decide) (H lo rg he hc ml md wt a3 a4 hby))))
end
end
section
section
variable {dl pl fi co he hc ba wt ra ml md : Int32} {lo rg cd : Int64} {a1 a2 a3 a4 : Nat → Int32}
/-! ===== the reader's walk ===== -/
theorem zq_tb {post : Int32 → St2 → Prop} {F m r : Nat} (hm : m ≤ 352) (hby : zq_by a3 m F) (hr : r < m) (H : post (nI (F / 256 ^ (m - 1 - r) % 256)) (dl, pl, fi, co, lo, rg, he, hc, 0, wt, cd, nI (r + 1), ml, md, a1, a2, a3, a4)) : wpX_takeByte post (dl, pl, fi, co, lo, rg, he, hc, 0, wt, cd, nI r, ml, md, a1, a2, a3, a4) := by
  have e : (0 : Int32) + nI r = nI r := Int32.zero_add _
  refine pk_le 352 r (fun z => absurd z (by omega)) (fun _ => ⟨pk_in r 1408 (by omega) e, ?_⟩)
  rw [e, nI_clamp (by omega), hby r hr]
  exact nm_r (nI_1 r) H
theorem zq_r65 {post : Int32 → St2 → Prop} {F K t b L R k c r : Nat} {P : Nat → Nat} {s' : zq_T} (hK : K ≤ 300) (hby : zq_by a3 (K + 5) F) (ht : t < 394) (hb : b < 2) (hP : ∀ j, 31 ≤ P j ∧ P j ≤ 2017) (hR : R < 4294967296) (hcR : c < R)
    (hcL : c + L = F / 256 ^ (K - k)) (hr : r = k + 5) (hch : zq_ch a4 P) (hs : zq_nrm (L, R, k, zq_lnP P t b) = s') (hsk : s'.2.2.1 ≤ K)
    (H : ∀ (c' r' : Nat) (a4' : Nat → Int32), c' + s'.1 = F / 256 ^ (K - s'.2.2.1) → r' = s'.2.2.1 + 5 → zq_ch a4' s'.2.2.2 → post (nI b) (dl, pl, fi, co, lo, lN s'.2.1, he, hc, 0, wt, lN c', nI r', ml, md, a1, a2, a3, a4')) :
    wX_readBit_65 post (nI t) (nI b) dl pl fi co lo (lN R) he hc 0 wt (lN c) (nI r) ml md a1 a2 a3 a4 := by
  refine zq_lrn ht hb hch hP (fun a4' hch' => zq_lle 16777216 R (fun z => ?_) (fun z => nm_r (zq_l8 R) ?_))
  · rw [zq_nrmG z] at hs
    subst hs
    exact H c r a4' hcL hr hch'
  · rw [zq_nrmL z] at hs
    subst hs
    have hk1 : k + 1 ≤ K := hsk
    refine zq_tb (m := K + 5) (by omega) hby (by omega) (nm_r (zq_next (by omega) (Nat.mod_lt _ (by decide))) ?_)
    refine H _ _ a4' ?_ ?_ hch'
    · show c * 256 + F / 256 ^ (K + 5 - 1 - r) % 256 + L * 256 = F / 256 ^ (K - (k + 1))
      have e1 : K + 5 - 1 - r = K - (k + 1) := by omega
      have e2 : K - k = (K - (k + 1)) + 1 := by omega
      have e3 := zq_dig (F := F) (e := K - (k + 1))
      rw [e2] at hcL
      rw [e1]
      omega
    · show r + 1 = k + 1 + 5
      omega
theorem zq_rb {post : Int32 → St2 → Prop} {F K : Nat} {os : List (Nat × Nat)} {t b R c r : Nat} (hK : K ≤ 300) (hby : zq_by a3 (K + 5) F) (ht : t < 394) (hb : b < 2) (h : zq_D F K ((t, b) :: os) R c r a4)
    (H : ∀ (R' c' r' : Nat) (a4' : Nat → Int32), zq_D F K os R' c' r' a4' → post (nI b) (dl, pl, fi, co, lo, lN R', he, hc, 0, wt, lN c', nI r', ml, md, a1, a2, a3, a4')) :
    wpX_readBit post (dl, pl, fi, co, lo, lN R, he, hc, 0, wt, lN c, nI r, ml, md, a1, a2, a3, a4) (nI t) := by
  obtain ⟨L, k, P, hok, hF, hKk, hcL, hr, hch⟩ := h
  have hok2 : 16777216 ≤ R ∧ R < 4294967296 ∧ ∀ j, 31 ≤ P j ∧ P j ≤ 2017 := hok
  obtain ⟨h1, h2, h3⟩ := hok2
  have B := zq_bd1 h1 (h3 t).1 (h3 t).2
  have T := zq_tr_in os _ (zq_st_ok hok t b)
  have pos : 0 < (zq_tr os (zq_nrm (zq_mid (L, R, k, P) t b))).2.1 := Nat.lt_of_lt_of_le (by decide) T.2.1
  have W1 := zq_win (zq_in_trans (zq_nrm_in (zq_mid (L, R, k, P) t b)) T.1) pos
  have W2 := T.1.1
  have hF' : (zq_tr os (zq_nrm (zq_mid (L, R, k, P) t b))).1 = F := hF
  have hK' : (zq_tr os (zq_nrm (zq_mid (L, R, k, P) t b))).2.2.1 = K := hKk
  rw [hF', hK'] at W1
  rw [hK'] at W2
  have W3 : k ≤ K ∧ (zq_mid (L, R, k, P) t b).1 ≤ F / 256 ^ (K - k) ∧ F / 256 ^ (K - k) < (zq_mid (L, R, k, P) t b).1 + (zq_mid (L, R, k, P) t b).2.1 := W1
  have fin : ∀ (c' r' : Nat) (a4' : Nat → Int32), c' + (zq_nrm (zq_mid (L, R, k, P) t b)).1 = F / 256 ^ (K - (zq_nrm (zq_mid (L, R, k, P) t b)).2.2.1) → r' = (zq_nrm (zq_mid (L, R, k, P) t b)).2.2.1 + 5 → zq_ch a4' (zq_nrm (zq_mid (L, R, k, P) t b)).2.2.2 → post (nI b) (dl, pl, fi, co, lo, lN (zq_nrm (zq_mid (L, R, k, P) t b)).2.1, he, hc, 0, wt, lN c', nI r', ml, md, a1, a2, a3, a4') :=
    fun c' r' a4' g1 g2 g3 => H _ c' r' a4' ⟨(zq_nrm (zq_mid (L, R, k, P) t b)).1, (zq_nrm (zq_mid (L, R, k, P) t b)).2.2.1, (zq_nrm (zq_mid (L, R, k, P) t b)).2.2.2, zq_st_ok hok t b, hF', hK', g1, g2, g3⟩
  have W4 : F / 256 ^ (K - k) < L + R := by
    have W5 := (zq_win (zq_tr_in ((t, b) :: os) _ hok).1 pos)
    have W6 : F / 256 ^ (K - k) < L + R := by
      have W7 := W5.2.2
      rw [hF, hKk] at W7
      exact W7
    exact W6
  refine ⟨vp_in_nI ht (by decide), nm_r (zq_bnd h2 ht hch h3) (zq_lle (R / 2048 * P t) c (fun z => ?_) (fun z => ?_))⟩
  · have hb1 : b = 1 := by
      rcases (show b = 0 ∨ b = 1 by omega) with rfl | rfl
      · have W8 : F / 256 ^ (K - k) < L + R / 2048 * P t := W3.2.2
        omega
      · rfl
    subst hb1
    exact br_f (by decide) (nm_r (lN_sub z) (nm_r (lN_sub (by omega)) (zq_r65 (b := 1) (L := L + R / 2048 * P t) (R := R - R / 2048 * P t) (c := c - R / 2048 * P t) (k := k) (P := P) hK hby ht hb h3 (by omega) (by omega) (by omega) hr hch rfl W2 fin)))
  · have hb0 : b = 0 := by
      rcases (show b = 0 ∨ b = 1 by omega) with rfl | rfl
      · rfl
      · have W8 : L + R / 2048 * P t ≤ F / 256 ^ (K - k) := W3.2.1
        omega
    subst hb0
    exact br_t rfl (zq_r65 (b := 0) (L := L) (R := R / 2048 * P t) (c := c) (k := k) (P := P) hK hby ht hb h3 (by omega) (by omega) hcL hr hch rfl W2 fin)
theorem zq_rt5 {post : Int32 → St2 → Prop} {F K a v C m : Nat} (hK : K ≤ 300) (hby : zq_by a3 (K + 5) F) (hC : a + C ≤ 394) (hsh : (1 : Int32) <<< (nI m &&& 31) = nI C) (hm : m ≤ 16) (hv : v < C) :
    ∀ (k f : Nat), k < f → ∀ (nd : Nat) (os : List (Nat × Nat)) (R c r : Nat) (a4 : Nat → Int32), k ≤ m → nd * 2 ^ k + v % 2 ^ k = C + v → zq_D F K (zq_to a v k nd ++ os) R c r a4 →
    (∀ (R' c' r' : Nat) (a4' : Nat → Int32), zq_D F K os R' c' r' a4' → post (nI v) (dl, pl, fi, co, lo, lN R', he, hc, 0, wt, lN c', nI r', ml, md, a1, a2, a3, a4')) →
    wX_readTree_5 post (nI a) (nI m) f (nI nd) (nI (m - k)) dl pl fi co lo (lN R) he hc 0 wt (lN c) (nI r) ml md a1 a2 a3 a4 := by
  intro k
  induction k with
  | zero =>
    intro f hf nd os R c r a4 hk hnd h H
    obtain ⟨g, rfl⟩ : ∃ g, f = g + 1 := ⟨f - 1, by omega⟩
    have e : nI nd - ((1 : Int32) <<< (nI m &&& 31)) = nI v := by
      rw [Nat.pow_zero, Nat.mod_one, Nat.mul_one, Nat.add_zero] at hnd
      rw [hsh, hnd, pk_sub (Nat.le_add_right _ _), Nat.add_sub_cancel_left]
    refine pk_le m (m - 0) (fun _ => ?_) (fun z => absurd z (by omega))
    rw [e]
    exact H R c r a4 h
  | succ k ih =>
    intro f hf nd os R c r a4 hk hnd h H
    obtain ⟨g, rfl⟩ : ∃ g, f = g + 1 := ⟨f - 1, by omega⟩
    have hb2 : v / 2 ^ k % 2 < 2 := Nat.mod_lt _ (by decide)
    have hp : 0 < 2 ^ k := Nat.pow_pos (by decide)
    have e1 : v % 2 ^ (k + 1) = v / 2 ^ k % 2 * 2 ^ k + v % 2 ^ k := by
      rw [Nat.mod_pow_succ, Nat.mul_comm, Nat.add_comm]
    have e2 : nd * 2 ^ (k + 1) = 2 * nd * 2 ^ k := by
      rw [Nat.pow_succ, Nat.mul_comm (2 ^ k) 2, ← Nat.mul_assoc, Nat.mul_comm nd 2]
    have e3 : (2 * nd + v / 2 ^ k % 2) * 2 ^ k + v % 2 ^ k = C + v := by
      rw [Nat.add_mul, ← e2, Nat.add_assoc, ← e1]
      exact hnd
    have e4 : nd < C := by
      have g1 : 2 * nd * 1 ≤ 2 * nd * 2 ^ k := Nat.mul_le_mul_left _ hp
      omega
    refine pk_le m (m - (k + 1)) (fun z => absurd z (by omega)) (fun _ => ?_)
    rw [nI_add]
    refine zq_rb hK hby (by omega) hb2 h (fun R' c' r' a4' h' => nm_r (e' := nI (2 * nd + v / 2 ^ k % 2)) ?_ (nm_r (e' := nI (m - k)) ?_ ?_))
    · show nI 2 * nI nd + nI _ = _
      rw [pk_mul, nI_add]
    · rw [nI_1]
      congr 1
      omega
    · exact ih g (by omega) _ os R' c' r' a4' (by omega) e3 h' H
theorem zq_rt {post : Int32 → St2 → Prop} {F K a v C m : Nat} {os : List (Nat × Nat)} {R c r : Nat} (hK : K ≤ 300) (hby : zq_by a3 (K + 5) F) (hC : a + C ≤ 394) (hsh : (1 : Int32) <<< (nI m &&& 31) = nI C) (hm : m ≤ 16) (h2 : 2 ^ m = C) (hv : v < C) (h : zq_D F K (zq_to a v m 1 ++ os) R c r a4)
    (H : ∀ (R' c' r' : Nat) (a4' : Nat → Int32), zq_D F K os R' c' r' a4' → post (nI v) (dl, pl, fi, co, lo, lN R', he, hc, 0, wt, lN c', nI r', ml, md, a1, a2, a3, a4')) :
    wpX_readTree post (dl, pl, fi, co, lo, lN R, he, hc, 0, wt, lN c, nI r, ml, md, a1, a2, a3, a4) (nI a) (nI m) := by
  have g := zq_rt5 (post := post) (dl := dl) (pl := pl) (fi := fi) (co := co) (he := he) (hc := hc) (wt := wt) (ml := ml) (md := md) (lo := lo) (a1 := a1) (a2 := a2) hK hby hC hsh hm hv m (m + 1) (by omega) 1 os R c r a4 (by omega) (by rw [h2, Nat.mod_eq_of_lt hv, Nat.one_mul]) h H
  rw [Nat.sub_self] at g
  exact ⟨m + 1, g⟩
theorem zq_cb {post : St2 → Prop} {m i v : Nat} (hi : 1 ≤ i) (him : i + m ≤ 48) (ha : ∀ j, j < i → a2 j = nI v) (H : ∀ a2' : Nat → Int32, (∀ j, j < i + m → a2' j = nI v) → post (dl, nI (i + m), fi, co, lo, rg, he, hc, ba, wt, cd, ra, ml, md, a1, a2', a3, a4)) : wpX_copyBack post (dl, nI i, fi, co, lo, rg, he, hc, ba, wt, cd, ra, ml, md, a1, a2, a3, a4) (nI m) 1 :=
  pk_loop (fun n j s => wX_copyBack_2 post (nI m) 1 dl fi co lo rg he hc ba wt cd ra ml md n (nI j) (nI (i + j)) a1 s a3 a4) (fun j s => ∀ x, x < i + j → s x = nI v) m 0 a2 (by omega) ha
    (fun n s h => pk_le m m (fun _ => H s h) (fun z => absurd z (by omega)))
    (fun n j s hj h hw => pk_le m j (fun z => absurd z (by omega)) (fun _ => pk_le 48 (i + j) (fun z => absurd z (by omega)) (fun _ => pk_lt (i + j) 1 (fun z => absurd z (by omega)) (fun _ =>
      have e : nI (i + j) - 1 = nI (i + j - 1) := pk_sub (b := 1) (by omega)
      ⟨pk_in (i + j - 1) 48 (by omega) e, pk_in (i + j) 48 (by omega), nm_e (nm_r (nI_1 (i + j)) (nm_r (nI_1 j) (hw _ (zq_fill (nI_clamp (by omega)) h (by rw [e, nI_clamp (by omega)]; exact h _ (by omega))))))⟩))))
theorem zq_u74 {post : St2 → Prop} {F K n v : Nat} (hK : K ≤ 300) (hby : zq_by a3 (K + 5) F) (hn : n ≤ 48) (hv : v < 256)
    (HF : ∀ (rg cd : Int64) (ra : Int32) (a2 a4 : Nat → Int32), (∀ j, j < n → a2 j = nI v) → post (dl, nI n, fi, co, lo, rg, he, hc, 0, wt, cd, ra, ml, md, a1, a2, a3, a4)) :
    ∀ (f g : Nat), f < g → ∀ (b i R c r : Nat) (a2 a4 : Nat → Int32), f ≤ 48 → b < 2 → i ≤ n → 48 ≤ f + i → (∀ j, j < i → a2 j = nI v) → zq_D F K (zq_bd n v f b i) R c r a4 →
    wX_unsqueeze_74 post (nI n) g (nI b) (nI (48 - f)) dl (nI i) fi co lo (lN R) he hc 0 wt (lN c) (nI r) ml md a1 a2 a3 a4 := by
  intro f
  induction f with
  | zero =>
    intro g hg b i R c r a2 a4 hf hb hi h48 ha h
    obtain ⟨g', rfl⟩ : ∃ g', g = g' + 1 := ⟨g - 1, by omega⟩
    obtain rfl : i = n := by omega
    exact pk_le 48 48 (fun _ => HF _ _ _ a2 a4 ha) (fun z => absurd z (by omega))
  | succ f ih =>
    intro g hg b i R c r a2 a4 hf hb hi h48 ha h
    obtain ⟨g', rfl⟩ : ∃ g', g = g' + 1 := ⟨g - 1, by omega⟩
    have es : nI (48 - (f + 1)) + 1 = nI (48 - f) := by
      rw [nI_1]
      congr 1
      omega
    refine pk_le 48 (48 - (f + 1)) (fun z => absurd z (by omega)) (fun _ => pk_le n i (fun z => ?_) (fun z => ?_))
    · obtain rfl : i = n := by omega
      exact HF _ _ _ a2 a4 ha
    · by_cases h2 : i = 0 ∨ n - i < 2
      · rw [zq_bd_lit z h2] at h
        refine zq_rb (t := b) (b := 0) hK hby (by omega) (by omega) h (fun R1 c1 r1 b4 h1 => br_f (by decide) ?_)
        refine zq_rt (a := 66) (v := v) (C := 256) (m := 8) hK hby (by decide) (by decide) (by decide) (by decide) hv h1 (fun R2 c2 r2 d4 h2' => ⟨pk_in i 48 (by omega), nm_e (nm_r (nI_1 i) (nm_r es ?_))⟩)
        exact ih g' (by omega) 0 (i + 1) R2 c2 r2 _ d4 (by omega) (by omega) (by omega) (by omega) (zq_fill (nI_clamp (by omega)) ha rfl) h2'
      · rw [zq_bd_cpy z h2] at h
        have hm : 2 ≤ min 9 (n - i) ∧ min 9 (n - i) ≤ 9 ∧ i + min 9 (n - i) ≤ n := by omega
        generalize min 9 (n - i) = m at h hm
        obtain ⟨m2, m9, mn⟩ := hm
        have e2 : nI (m - 2) + 2 = nI m := by
          show nI (m - 2) + nI 2 = nI m
          rw [nI_add]
          congr 1
          omega
        refine zq_rb (t := b) (b := 1) hK hby (by omega) (by omega) h (fun R1 c1 r1 b4 h1 => br_t (by decide) ?_)
        refine zq_rt (a := 322) (v := m - 2) (C := 8) (m := 3) hK hby (by decide) (by decide) (by decide) (by decide) (by omega) h1 (fun R2 c2 r2 d4 h2' => nm_r e2 ?_)
        refine zq_rt (a := 330) (v := 0) (C := 64) (m := 6) hK hby (by decide) (by decide) (by decide) (by decide) (by decide) h2' (fun R3 c3 r3 e4 h3' => nm_r (e' := 1) (by decide) ?_)
        refine zq_cb (by omega) (by omega) ha (fun a2' ha' => nm_r es ?_)
        exact ih g' (by omega) 1 (i + m) R3 c3 r3 a2' e4 (by omega) (by omega) (by omega) (by omega) ha' h3'
theorem zq_head {F K : Nat} (h : F / 256 ^ K < 4294967295) : F / 256 ^ (K + 5) = 0 ∧ ∀ j, j ≤ 5 → F / 256 ^ (K + 5 - j) < 4294967296 := by
  have g : ∀ i, F / 256 ^ (K + i) = F / 256 ^ K / 256 ^ i := fun i => by rw [Nat.pow_add, Nat.div_div_eq_div_mul]
  refine ⟨?_, fun j hj => ?_⟩
  · rw [g]
    exact Nat.div_eq_of_lt (Nat.lt_trans h (by decide))
  · have e : K + 5 - j = K + (5 - j) := by omega
    rw [e, g]
    exact Nat.lt_of_le_of_lt (Nat.div_le_self _ _) (by omega)
theorem zq_uns {post : St2 → Prop} {F K n v : Nat} (hK : K ≤ 300) (hF : (zq_tr (zq_all n v) zq_s0).1 = F) (hKK : (zq_tr (zq_all n v) zq_s0).2.2.1 = K) (hby : zq_by a3 (K + 5) F) (hn : n ≤ 48) (hv : v < 256)
    (HF : ∀ (rg cd : Int64) (ra : Int32) (a2 a4 : Nat → Int32), (∀ j, j < n → a2 j = nI v) → post (dl, nI n, fi, co, lo, rg, he, hc, 0, wt, cd, ra, ml, md, a1, a2, a3, a4)) : wpX_unsqueeze post (dl, pl, fi, co, lo, rg, he, hc, 0, wt, cd, ra, ml, md, a1, a2, a3, a4) := by
  refine zq_sc (fun a4' hch => ?_)
  have T := zq_tr_in (zq_all n v) zq_s0 zq_s0_ok
  have W := (zq_win T.1 (Nat.lt_of_lt_of_le (by decide) T.2.1)).2.2
  rw [hF, hKK] at W
  have W0 : F / 256 ^ K < 4294967295 := by
    have W1 : F / 256 ^ (K - 0) < 0 + 4294967295 := W
    rw [Nat.sub_zero] at W1
    omega
  obtain ⟨w0, w1⟩ := zq_head W0
  have D0 : zq_D F K (zq_all n v) 4294967295 (F / 256 ^ K) 5 a4' := ⟨0, 0, fun _ => 1024, zq_s0_ok, hF, hKK, rfl, rfl, hch⟩
  have go : ∃ f, wX_unsqueeze_23 post f (nI 0) dl pl fi co lo (lN 4294967295) he hc 0 wt (lN (F / 256 ^ (K + 5 - 0))) (nI 0) ml md a1 a2 a3 a4' :=
    pk_loop (σ := Unit) (fun f j _ => wX_unsqueeze_23 post f (nI j) dl pl fi co lo (lN 4294967295) he hc 0 wt (lN (F / 256 ^ (K + 5 - j))) (nI j) ml md a1 a2 a3 a4') (fun _ _ => True) 5 0 () (by omega) trivial
      (fun f _ _ => pk_le 5 5 (fun _ => zq_rt (a := 2) (v := n) (C := 64) (m := 6) hK hby (by decide) (by decide) (by decide) (by decide) (by omega) D0 (fun R1 c1 r1 b4 h1 => ⟨49, zq_u74 hK hby hn hv HF 48 49 (by omega) 0 0 R1 c1 r1 a2 b4 (by omega) (by omega) (by omega) (by omega) (fun j hj => absurd hj (by omega)) h1⟩)) (fun z => absurd z (by omega)))
      (fun f j _ hj _ hw => pk_le 5 j (fun z => absurd z (by omega)) (fun _ => by
        have g0 := w1 j (by omega)
        have g1 := w1 (j + 1) (by omega)
        have e1 : K + 5 - 1 - j = K + 5 - (j + 1) := by omega
        have e2 : K + 5 - j = K + 5 - (j + 1) + 1 := by omega
        have e3 := zq_dig (F := F) (e := K + 5 - (j + 1))
        refine zq_tb (m := K + 5) (by omega) hby (by omega) (nm_r (e' := lN (F / 256 ^ (K + 5 - (j + 1)))) ?_ (nm_r (nI_1 j) (hw () trivial)))
        rw [zq_next (by omega) (Nat.mod_lt _ (by decide)), e1, e2, e3]
        exact zq_m32 (by omega)))
  rw [Nat.sub_zero, w0] at go
  exact go
theorem zq_rcv {post : Int32 → St2 → Prop} {n v : Nat} (hn : n ≤ 48) (hn1 : 1 ≤ n) (hv : v < 256) (hby : zq_by a3 ((zq_tr (zq_all n v) zq_s0).2.2.1 + 5) (zq_tr (zq_all n v) zq_s0).1)
    (H : ∀ (fi co ra : Int32) (rg cd : Int64) (a2 a4 : Nat → Int32), (∀ j, j < n → a2 j = nI v) → post (nI n) (dl, nI n, fi, co, lo, rg, he, hc, 0, wt, cd, ra, ml, md, a1, a2, a3, a4)) : wpX_receive post (dl, pl, 0, 1, lo, rg, he, hc, ba, wt, cd, ra, ml, md, a1, a2, a3, a4) := by
  have len := zq_all_len (v := v) hn hn1
  have hk := zq_tr_k (zq_all n v) zq_s0
  have hk2 : (zq_tr (zq_all n v) zq_s0).2.2.1 ≤ 0 + (zq_all n v).length := hk
  exact br_f (by decide) (nm_r (e' := 0) (by decide) (zq_uns (by omega) rfl rfl hby hn hv (fun rg cd ra a2 a4 ha => nm_e (nm_e (H _ _ ra rg cd a2 a4 ha)))))
end
end
section
section
variable {dl pl fi co he hc ba wt ra ml md : Int32} {lo rg cd : Int64} {a1 a2 a3 a4 : Nat → Int32}
/-! ===== the law ===== -/
theorem zq_98 {post : Int32 → St0 → Prop} {mc ms kc ks n v : Nat} {x0 x3 z0 : Int32} (hn : n ≤ 48) (hn1 : 1 ≤ n) (hv : v < 256) (hz : z0 = nI n) (hx : x0 &&& 255 = nI v) (hp : post 1 ())
    (hby : zq_by a3 ((zq_tr (zq_all n v) zq_s0).2.2.1 + 5) (zq_tr (zq_all n v) zq_s0).1) : wL_lawOf_98 post mc ms x0 x3 z0 kc ks dl pl 0 1 lo rg he hc ba wt cd ra ml md a1 a2 a3 a4 := by
  subst hz
  refine zq_rcv hn hn1 hv hby (fun fi co ra rg cd a2 a4 ha => br_t rfl ?_)
  by_cases h0 : x3 < 0
  · exact br_t h0 (br_t h0 (br_t rfl hp))
  · obtain ⟨p, hp2, rfl⟩ := nI_of h0
    exact br_f h0 (pk_lt p n (fun z => ⟨pk_in p 48 (by omega), br_f h0 (pk_le n p (fun z2 => absurd z2 (by omega)) (fun _ => br_t (by rw [nI_clamp hp2, ha p z, hx]) hp))⟩) (fun z => br_f h0 (pk_le n p (fun _ => br_t rfl hp) (fun z2 => absurd z2 (by omega)))))
theorem zq_72 {post : Int32 → St0 → Prop} {mc ms kc ks n v : Nat} {x0 x2 x3 x5 z0 z1 : Int32} (hn : n ≤ 48) (hn1 : 1 ≤ n) (hv : v < 256) (hz : z1 = z0) (h0 : x5 = 0 → n = 1) (h1 : ¬ x5 = 0 → 1 + x2 = nI n) (hx : x0 &&& 255 = nI v) (hp : post 1 ())
    (ha : ∀ j, j < n → a1 j = nI v) : wL_lawOf_72 post mc ms x0 x2 x3 x5 z0 z1 kc ks (nI n) pl 0 0 lo rg he hc ba wt cd ra ml md a1 a2 a3 a4 :=
  br_t hz (zq_snd hn hn1 hv ha (fun lo rg he hc ml md wt a3 a4 hby => br_t rfl ⟨fun e => zq_98 hn hn1 hv (by rw [h0 e]; rfl) hx hp hby, fun e => zq_98 hn hn1 hv (h1 e) hx hp hby⟩))
theorem zq_one {x : Int32} (h1 : ¬ x < 1) (h2 : ¬ 1 < x) : x = 1 := by
  rw [Int32.lt_iff_toInt_lt] at h1 h2
  apply Int32.toInt_inj.mp
  omega
theorem zq_rpB {post : Int32 → St2 → Prop} {x y : Int32} (h : ¬ (x = 1 ∧ ¬ y < 1 ∧ ¬ 47 < y)) (H : post (-1) (nI 1, pl, fi, co, lo, rg, he, hc, ba, wt, cd, ra, ml, md, a1, a2, a3, a4)) : wpX_repeat post (nI 1, pl, fi, co, lo, rg, he, hc, ba, wt, cd, ra, ml, md, a1, a2, a3, a4) x y := by
  refine ⟨fun _ => H, fun h1 => ⟨fun _ => H, fun h2 => ⟨fun _ => H, fun h3 => ⟨fun h4 => absurd ⟨zq_one h1 h2, h3, ?_⟩ h, fun _ => H⟩⟩⟩⟩
  have e : (48 : Int32) - nI 1 = 47 := by decide
  rw [e] at h4
  exact Int32.not_lt.mpr h4
theorem zq_rpG {post : Int32 → St2 → Prop} {c v : Nat} (hc1 : 1 ≤ c) (hc2 : c ≤ 47) (ha : a1 0 = nI v) (H : ∀ a1' : Nat → Int32, (∀ j, j < 1 + c → a1' j = nI v) → post (nI (1 + c)) (nI (1 + c), pl, fi, co, lo, rg, he, hc, ba, wt, cd, ra, ml, md, a1', a2, a3, a4)) : wpX_repeat post (nI 1, pl, fi, co, lo, rg, he, hc, ba, wt, cd, ra, ml, md, a1, a2, a3, a4) 1 (nI c) := by
  refine br_f (by decide) (br_f (by decide) (pk_lt c 1 (fun z => absurd z (by omega)) (fun _ => pk_le c 47 (fun _ => ?_) (fun z => absurd z (by omega)) rfl (by decide))))
  exact pk_loop (fun n j s => wX_repeat_33 post 1 (nI c) pl fi co lo rg he hc ba wt cd ra ml md n (nI j) (nI (1 + j)) s a2 a3 a4) (fun j s => ∀ x, x < 1 + j → s x = nI v) c 0 a1 (by omega) (fun j hj => by rw [show j = 0 by omega]; exact ha)
    (fun n s h => pk_le c c (fun _ => H s h) (fun z => absurd z (by omega)))
    (fun n j s hj h hw => pk_le c j (fun z => absurd z (by omega)) (fun _ =>
      have e : nI (1 + j) - 1 = nI (1 + j - 1) := pk_sub (b := 1) (by omega)
      ⟨pk_in (1 + j - 1) 48 (by omega) e, pk_in (1 + j) 48 (by omega), nm_e (nm_r (nI_1 (1 + j)) (nm_r (nI_1 j) (hw _ (zq_fill (nI_clamp (by omega)) h (by rw [e, nI_clamp (by omega)]; exact h _ (by omega))))))⟩))
theorem zq_51b {post : Int32 → St0 → Prop} {mc ms kc ks v : Nat} {x0 x1 x2 x3 : Int32} (hv : v < 256) (hx : x0 &&& 255 = nI v) (hp : post 1 ()) (ha : a1 0 = nI v) (h : ¬ (x1 = 1 ∧ ¬ x2 < 1 ∧ ¬ 47 < x2)) : wL_lawOf_51 post mc ms x0 x1 x2 x3 0 kc ks (nI 1) pl 0 0 lo rg he hc ba wt cd ra ml md a1 a2 a3 a4 :=
  zq_rpB h (br_t rfl (zq_72 (n := 1) (by decide) (by decide) hv rfl (fun _ => rfl) (fun z => absurd rfl z) hx hp (fun j hj => by rw [show j = 0 by omega]; exact ha)))
theorem zq_51g {post : Int32 → St0 → Prop} {mc ms kc ks v c : Nat} {x0 x3 : Int32} (hc1 : 1 ≤ c) (hc2 : c ≤ 47) (hv : v < 256) (hx : x0 &&& 255 = nI v) (hp : post 1 ()) (ha : a1 0 = nI v) : wL_lawOf_51 post mc ms x0 1 (nI c) x3 1 kc ks (nI 1) pl 0 0 lo rg he hc ba wt cd ra ml md a1 a2 a3 a4 :=
  zq_rpG hc1 hc2 ha (fun a1' ha' => br_f (by decide) (zq_72 (n := 1 + c) (by omega) (by omega) hv (nI_add 1 c).symm (fun z => absurd z (by decide)) (fun _ => nI_add 1 c) hx hp ha'))
theorem zq_law {post : Int32 → St0 → Prop} (hp : post 1 ()) (p0 p1 p2 p3 : Int32) : wpL_lawOf post 442 7056 () p0 p1 p2 p3 := by
  obtain ⟨v, hv, hx⟩ := pk_andE p0 (m := 255) 8 (by decide)
  refine ⟨by decide, by decide, 4, 1898, by decide, by decide, ?_⟩
  refine ⟨by decide, by decide, by decide, by decide, by decide, by decide, by decide, by decide, ?_⟩
  refine br_t rfl (br_t rfl (br_t (by decide) ⟨pk_in 0 48 (by decide), nm_e (nm_r (e' := nI 1) (by decide) (br_t rfl ?_))⟩))
  have ha : upd (fun _ => 0) (0 : Int32).toNatClampNeg (p0 &&& 255) 0 = nI v := by rw [sb_cl0, pk_us, hx]
  refine ⟨fun h1 => ⟨fun h2 => zq_51b hv hx hp ha (fun z => z.2.1 h2), fun h2 => ⟨fun h3 => zq_51b hv hx hp ha (fun z => z.2.2 h3), fun h3 => ?_⟩⟩, fun h1 => zq_51b hv hx hp ha (fun z => h1 z.1)⟩
  subst h1
  obtain ⟨c, hc, rfl⟩ := nI_of (x := p2) (fun z => h2 (Int32.lt_trans z (by decide)))
  have c1 : 1 ≤ c := Nat.le_of_not_lt (fun z => h2 (nI_lt (b := 1) z (by decide)))
  have c2 : c ≤ 47 := Nat.le_of_not_lt (fun z => h3 (nI_lt (a := 47) z hc))
  exact zq_51g c1 c2 hv hx hp ha
theorem zq_cell {post : Int32 → Prop} {L : Nat} {xs : Nat → Int32} (hL : L ≤ 4) (c : Nat) (hc : c < 4) (H : ∀ r, post r) : wpL_cellAt post L xs () (nI c) :=
  pk_le L c (fun _ => H 0) (fun z => ⟨pk_in c L z, H _⟩)
end
end
section
theorem i_vc (xs : Nat → Int32) (L : Nat) (hL : L ≤ 4) : wpL_law (fun r => r = 1) L xs :=
  zq_cell hL 0 (by decide) (fun r1 => zq_cell hL 1 (by decide) (fun r2 => zq_cell hL 2 (by decide) (fun r3 => zq_cell hL 3 (by decide) (fun r4 => ⟨442, 7056, by decide, by decide, zq_law (post := fun r _ => r = 1) rfl r1 r2 r3 r4⟩))))
end
