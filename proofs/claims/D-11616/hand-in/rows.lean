section
/-! ===== the coder, on natural numbers ===== -/
/-- value, range, shifts, chances -/
abbrev sq_En : Type := Nat × Nat × Nat × (Nat → Nat)
def sq_bd (r c : Nat) : Nat := r / 2048 * c
def sq_E1 (E r c b : Nat) : Nat := if b = 0 then E else E + sq_bd r c
def sq_r1 (r c b : Nat) : Nat := if b = 0 then sq_bd r c else r - sq_bd r c
def sq_c1 (c b : Nat) : Nat := if b = 0 then c + (2048 - c) / 32 else c - c / 32
def sq_up (f : Nat → Nat) (k x : Nat) : Nat → Nat := fun j => if j = k then x else f j
def sq_st (s : sq_En) (d : Nat × Nat) : sq_En :=
  if sq_r1 s.2.1 (s.2.2.2 d.1) d.2 < 16777216
  then (sq_E1 s.1 s.2.1 (s.2.2.2 d.1) d.2 * 256, sq_r1 s.2.1 (s.2.2.2 d.1) d.2 * 256, s.2.2.1 + 1, sq_up s.2.2.2 d.1 (sq_c1 (s.2.2.2 d.1) d.2))
  else (sq_E1 s.1 s.2.1 (s.2.2.2 d.1) d.2, sq_r1 s.2.1 (s.2.2.2 d.1) d.2, s.2.2.1, sq_up s.2.2.2 d.1 (sq_c1 (s.2.2.2 d.1) d.2))
def sq_run (s : sq_En) : List (Nat × Nat) → sq_En
  | [] => s
  | d :: L => sq_run (sq_st s d) L
def sq_ok (s : sq_En) : Prop := 16777216 ≤ s.2.1 ∧ s.2.1 < 4294967296 ∧ ∀ k, 31 ≤ s.2.2.2 k ∧ s.2.2.2 k ≤ 2017
theorem sq_run_app (L M : List (Nat × Nat)) : ∀ s, sq_run s (L ++ M) = sq_run (sq_run s L) M := by
  induction L with
  | nil => intro s; rfl
  | cons d L ih => intro s; exact ih (sq_st s d)
theorem sq_c1_ok {c : Nat} (b : Nat) (h1 : 31 ≤ c) (h2 : c ≤ 2017) : 31 ≤ sq_c1 c b ∧ sq_c1 c b ≤ 2017 := by
  unfold sq_c1
  split <;> omega
theorem sq_bd_ok {r c : Nat} (h1 : 16777216 ≤ r) (c1 : 31 ≤ c) (c2 : c ≤ 2017) : 253952 ≤ sq_bd r c ∧ sq_bd r c + 253952 ≤ r := by
  unfold sq_bd
  have hq : 8192 ≤ r / 2048 := by omega
  have hr : r / 2048 * 2048 ≤ r := Nat.div_mul_le_self r 2048
  have e1 : r / 2048 * 31 ≤ r / 2048 * c := Nat.mul_le_mul_left _ c1
  have e2 : r / 2048 * c ≤ r / 2048 * 2017 := Nat.mul_le_mul_left _ c2
  generalize r / 2048 * c = x at *
  omega
theorem sq_r1_ok {r c : Nat} (b : Nat) (h1 : 16777216 ≤ r) (c1 : 31 ≤ c) (c2 : c ≤ 2017) : 253952 ≤ sq_r1 r c b ∧ sq_r1 r c b ≤ r := by
  have h := sq_bd_ok h1 c1 c2
  unfold sq_r1
  split <;> omega
theorem sq_E1_ok {r c : Nat} (E b : Nat) (h1 : 16777216 ≤ r) (c1 : 31 ≤ c) (c2 : c ≤ 2017) : E ≤ sq_E1 E r c b ∧ sq_E1 E r c b + sq_r1 r c b ≤ E + r := by
  have h := sq_bd_ok h1 c1 c2
  unfold sq_r1 sq_E1
  split <;> omega
theorem sq_up_ok {f : Nat → Nat} {k x : Nat} (hf : ∀ j, 31 ≤ f j ∧ f j ≤ 2017) (hx : 31 ≤ x ∧ x ≤ 2017) : ∀ j, 31 ≤ sq_up f k x j ∧ sq_up f k x j ≤ 2017 := by
  intro j
  unfold sq_up
  split
  · exact hx
  · exact hf j
theorem sq_st_ok {s : sq_En} (d : Nat × Nat) (h : sq_ok s) : sq_ok (sq_st s d) := by
  obtain ⟨h1, h2, h3⟩ := h
  have hr := sq_r1_ok d.2 h1 (h3 d.1).1 (h3 d.1).2
  have hc := sq_up_ok (k := d.1) h3 (sq_c1_ok d.2 (h3 d.1).1 (h3 d.1).2)
  unfold sq_st
  split
  · rename_i z
    refine ⟨?_, ?_, hc⟩
    · show 16777216 ≤ sq_r1 s.2.1 (s.2.2.2 d.1) d.2 * 256
      omega
    · show sq_r1 s.2.1 (s.2.2.2 d.1) d.2 * 256 < 4294967296
      omega
  · rename_i z
    refine ⟨?_, ?_, hc⟩
    · show 16777216 ≤ sq_r1 s.2.1 (s.2.2.2 d.1) d.2
      omega
    · show sq_r1 s.2.1 (s.2.2.2 d.1) d.2 < 4294967296
      omega
theorem sq_run_ok (L : List (Nat × Nat)) : ∀ s, sq_ok s → sq_ok (sq_run s L) := by
  induction L with
  | nil => intro s h; exact h
  | cons d L ih => intro s h; exact ih _ (sq_st_ok d h)
/-- one decision: a shift or none -/
theorem sq_st_cases (s : sq_En) (d : Nat × Nat) : (sq_r1 s.2.1 (s.2.2.2 d.1) d.2 < 16777216 ∧ (sq_st s d).1 = sq_E1 s.1 s.2.1 (s.2.2.2 d.1) d.2 * 256 ∧ (sq_st s d).2.1 = sq_r1 s.2.1 (s.2.2.2 d.1) d.2 * 256 ∧ (sq_st s d).2.2.1 = s.2.2.1 + 1)
    ∨ (¬ sq_r1 s.2.1 (s.2.2.2 d.1) d.2 < 16777216 ∧ (sq_st s d).1 = sq_E1 s.1 s.2.1 (s.2.2.2 d.1) d.2 ∧ (sq_st s d).2.1 = sq_r1 s.2.1 (s.2.2.2 d.1) d.2 ∧ (sq_st s d).2.2.1 = s.2.2.1) := by
  unfold sq_st
  split
  · rename_i z
    exact Or.inl ⟨z, rfl, rfl, rfl⟩
  · rename_i z
    exact Or.inr ⟨z, rfl, rfl, rfl⟩
theorem sq_nest (L : List (Nat × Nat)) : ∀ s, sq_ok s → ∃ k, (sq_run s L).2.2.1 = s.2.2.1 + k ∧ k ≤ L.length ∧ s.1 * 256 ^ k ≤ (sq_run s L).1 ∧ (sq_run s L).1 + (sq_run s L).2.1 ≤ (s.1 + s.2.1) * 256 ^ k := by
  induction L with
  | nil => intro s h; exact ⟨0, rfl, Nat.le_refl 0, by simp [sq_run], by simp [sq_run]⟩
  | cons d L ih =>
    intro s h
    obtain ⟨k, h1, h2, h3, h4⟩ := ih (sq_st s d) (sq_st_ok d h)
    have hE := sq_E1_ok s.1 d.2 h.1 (h.2.2 d.1).1 (h.2.2 d.1).2
    have e0 : sq_run s (d :: L) = sq_run (sq_st s d) L := rfl
    rw [e0]
    rcases sq_st_cases s d with ⟨_, e1, e2, e3⟩ | ⟨_, e1, e2, e3⟩
    · refine ⟨k + 1, by rw [h1, e3]; omega, by simp only [List.length_cons]; omega, ?_, ?_⟩
      · refine Nat.le_trans ?_ h3
        rw [e1, Nat.pow_succ, Nat.mul_comm (256 ^ k) 256, ← Nat.mul_assoc]
        exact Nat.mul_le_mul_right _ (Nat.mul_le_mul_right _ hE.1)
      · refine Nat.le_trans h4 ?_
        rw [e1, e2, Nat.pow_succ, Nat.mul_comm (256 ^ k) 256, ← Nat.mul_assoc, ← Nat.add_mul]
        exact Nat.mul_le_mul_right _ (Nat.mul_le_mul_right _ hE.2)
    · refine ⟨k, by rw [h1, e3], by simp only [List.length_cons]; omega, ?_, ?_⟩
      · refine Nat.le_trans ?_ h3
        rw [e1]
        exact Nat.mul_le_mul_right _ hE.1
      · refine Nat.le_trans h4 ?_
        rw [e1, e2]
        exact Nat.mul_le_mul_right _ hE.2
/-! ===== bytes as one number ===== -/
def sq_by (x : Int32) : Nat := (x &&& 255).toNatClampNeg
def sq_NB (a : Nat → Int32) (b : Nat) : Nat → Nat
  | 0 => 0
  | w + 1 => sq_NB a b w * 256 + sq_by (a (b + w))
theorem sq_by_nI (x : Int32) : sq_by x < 256 ∧ x &&& 255 = nI (sq_by x) := by
  obtain ⟨j, hj, e⟩ := pk_andE x (m := 255) 8 (by decide)
  have hj' : j < 256 := hj
  have e2 : sq_by x = j := by
    unfold sq_by
    rw [e, nI_clamp (by omega)]
  rw [e2]
  exact ⟨hj', e⟩
theorem sq_NB_congr {a a' : Nat → Int32} {b : Nat} (w : Nat) (h : ∀ j, j < w → a' (b + j) = a (b + j)) : sq_NB a' b w = sq_NB a b w := by
  induction w with
  | zero => rfl
  | succ w ih =>
    show sq_NB a' b w * 256 + sq_by (a' (b + w)) = sq_NB a b w * 256 + sq_by (a (b + w))
    rw [ih (fun j hj => h j (by omega)), h w (by omega)]
theorem sq_NB_le (a : Nat → Int32) (b w k : Nat) : sq_NB a b w * 256 ^ k ≤ sq_NB a b (w + k) ∧ sq_NB a b (w + k) < (sq_NB a b w + 1) * 256 ^ k := by
  induction k with
  | zero => simp
  | succ k ih =>
    have e : sq_NB a b (w + (k + 1)) = sq_NB a b (w + k) * 256 + sq_by (a (b + (w + k))) := rfl
    have hb := (sq_by_nI (a (b + (w + k)))).1
    rw [e, Nat.pow_succ, ← Nat.mul_assoc, ← Nat.mul_assoc]
    generalize sq_NB a b w * 256 ^ k = X at *
    generalize (sq_NB a b w + 1) * 256 ^ k = Y at *
    omega
/-- what the reader sees at the next decision -/
theorem sq_dec {s : sq_En} {d : Nat × Nat} {L : List (Nat × Nat)} {a : Nat → Int32} {b T : Nat} (hs : sq_ok s) (hT : (sq_run s (d :: L)).2.2.1 = T) (hN : sq_NB a b (5 + T) = (sq_run s (d :: L)).1) :
    sq_E1 s.1 s.2.1 (s.2.2.2 d.1) d.2 ≤ sq_NB a b (5 + s.2.2.1) ∧ sq_NB a b (5 + s.2.2.1) < sq_E1 s.1 s.2.1 (s.2.2.2 d.1) d.2 + sq_r1 s.2.1 (s.2.2.2 d.1) d.2 ∧ (sq_st s d).2.2.1 ≤ T := by
  have e0 : sq_run s (d :: L) = sq_run (sq_st s d) L := rfl
  rw [e0] at hT hN
  obtain ⟨k, h1, h2, h3, h4⟩ := sq_nest L (sq_st s d) (sq_st_ok d hs)
  have hok := sq_run_ok L _ (sq_st_ok d hs)
  have hpos := hok.1
  have main : ∀ m, T = s.2.2.1 + m → sq_E1 s.1 s.2.1 (s.2.2.2 d.1) d.2 * 256 ^ m ≤ sq_NB a b (5 + T) → sq_NB a b (5 + T) < (sq_E1 s.1 s.2.1 (s.2.2.2 d.1) d.2 + sq_r1 s.2.1 (s.2.2.2 d.1) d.2) * 256 ^ m →
      sq_E1 s.1 s.2.1 (s.2.2.2 d.1) d.2 ≤ sq_NB a b (5 + s.2.2.1) ∧ sq_NB a b (5 + s.2.2.1) < sq_E1 s.1 s.2.1 (s.2.2.2 d.1) d.2 + sq_r1 s.2.1 (s.2.2.2 d.1) d.2 := by
    intro m hm l1 l2
    have q := sq_NB_le a b (5 + s.2.2.1) m
    rw [show 5 + s.2.2.1 + m = 5 + T by omega] at q
    constructor
    · have z := Nat.lt_of_mul_lt_mul_right (Nat.lt_of_le_of_lt l1 q.2)
      omega
    · exact Nat.lt_of_mul_lt_mul_right (Nat.lt_of_le_of_lt q.1 l2)
  rw [← hN] at h3 h4
  rcases sq_st_cases s d with ⟨_, e1, e2, e3⟩ | ⟨_, e1, e2, e3⟩
  · have m1 := main (k + 1) (by omega) (by
      rw [e1] at h3
      rw [Nat.pow_succ, Nat.mul_comm (256 ^ k) 256, ← Nat.mul_assoc]
      exact h3) (by
      rw [e1, e2, ← Nat.add_mul] at h4
      rw [Nat.pow_succ, Nat.mul_comm (256 ^ k) 256, ← Nat.mul_assoc]
      omega)
    exact ⟨m1.1, m1.2, by omega⟩
  · have m1 := main k (by omega) (by rw [e1] at h3; exact h3) (by rw [e1, e2] at h4; omega)
    exact ⟨m1.1, m1.2, by omega⟩
/-! ===== the writer's numbers: w bytes out, one held, m of 255 behind it, low ===== -/
def sq_ie (a : Nat → Int32) (b w h m lo rg t E : Nat) : Prop :=
  w + m = t ∧ h ≤ 255 ∧ 1 ≤ rg ∧ lo + rg ≤ 8589934592 ∧ (h = 255 → lo + rg ≤ 4294967296) ∧ E + 4294967296 = (sq_NB a b w * 256 + h + 1) * 256 ^ m * 4294967296 + lo
/-- no byte comes out -/
theorem sq_shA {a : Nat → Int32} {b w h m lo rg rg' t E : Nat} (H : sq_ie a b w h m lo rg t E) (h1 : 4278190080 ≤ lo) (h2 : lo ≤ 4294967295) (hr : rg ≤ 16777216) (g1 : 1 ≤ rg') (g2 : rg' ≤ rg * 256) :
    sq_ie a b w h (m + 1) (lo % 16777216 * 256) rg' (t + 1) (E * 256) := by
  obtain ⟨e1, e2, e3, e4, e5, e6⟩ := H
  refine ⟨by omega, e2, g1, by omega, fun z => ?_, ?_⟩
  · have := e5 z
    omega
  · rw [Nat.pow_succ, ← Nat.mul_assoc]
    generalize (sq_NB a b w * 256 + h + 1) * 256 ^ m = X at *
    omega
/-- the held bytes come out: a' holds them -/
theorem sq_shB {a a' : Nat → Int32} {b w h m lo rg rg' t E : Nat} (H : sq_ie a b w h m lo rg t E) (h1 : lo < 4278190080 ∨ 4294967295 < lo) (hr : rg ≤ 16777216) (g1 : 1 ≤ rg') (g2 : rg' ≤ rg * 256)
    (hN : sq_NB a' b (w + m + 1) + 1 = (sq_NB a b w * 256 + h + 1) * 256 ^ m + lo / 4294967296) :
    sq_ie a' b (w + m + 1) (lo / 16777216 % 256) 0 (lo % 16777216 * 256) rg' (t + 1) (E * 256) := by
  obtain ⟨e1, e2, e3, e4, e5, e6⟩ := H
  refine ⟨by omega, by omega, g1, by omega, fun z => by omega, ?_⟩
  rw [Nat.pow_zero, Nat.mul_one]
  generalize (sq_NB a b w * 256 + h + 1) * 256 ^ m = X at *
  generalize sq_NB a' b (w + m + 1) = N at *
  omega
/-- a carry never meets a held 255 -/
theorem sq_ie_c {a : Nat → Int32} {b w h m lo rg t E : Nat} (H : sq_ie a b w h m lo rg t E) : lo / 4294967296 ≤ 1 ∧ h + lo / 4294967296 ≤ 255 := by
  obtain ⟨e1, e2, e3, e4, e5, e6⟩ := H
  refine ⟨by omega, ?_⟩
  by_cases z : h = 255
  · have := e5 z
    omega
  · omega
/-- a decision without a shift -/
theorem sq_ie_st {a : Nat → Int32} {b w h m lo rg t E x rg' : Nat} (H : sq_ie a b w h m lo rg t E) (h1 : 1 ≤ rg') (h2 : x + rg' ≤ rg) : sq_ie a b w h m (lo + x) rg' t (E + x) := by
  obtain ⟨e1, e2, e3, e4, e5, e6⟩ := H
  exact ⟨e1, e2, h1, by omega, fun z => by have := e5 z; omega, by omega⟩
end
section
/-! ===== rows of the kit's BITS family (wb_, bp_b, the 'or' row), a starting text ===== -/
theorem bp_b (x : Int32) : x.toInt8.toInt32 &&& 255 = x &&& 255 := by
  apply Int32.toBitVec_inj.mp
  rw [Int32.toBitVec_and, Int32.toBitVec_and, Int8.toBitVec_toInt32, Int32.toBitVec_toInt8]
  apply BitVec.eq_of_getLsbD_eq
  intro i hi
  rw [BitVec.getLsbD_and, BitVec.getLsbD_and]
  have hm : ∀ i < 32, 8 ≤ i → (255 : Int32).toBitVec.getLsbD i = false := by decide
  rcases Nat.lt_or_ge i 8 with z | z
  · rw [BitVec.getLsbD_signExtend, BitVec.getLsbD_signExtend, if_pos z, if_pos hi]
    simp only [z, hi, decide_true, Bool.true_and]
  · rw [hm i hi z]; simp
theorem wb_tb (n : Nat) : (lN n).toBitVec = BitVec.ofNat 64 n := rfl
theorem wb_inj {a b : Int64} (h : a.toBitVec = b.toBitVec) : a = b := Int64.toBitVec_inj.mp h
theorem wb_tn {n : Nat} (h : n < 2 ^ 64) : (lN n).toBitVec.toNat = n := by rw [wb_tb, BitVec.toNat_ofNat, Nat.mod_eq_of_lt h]
theorem wb_c : ∀ k, k < 64 → ((nI k).toInt64 &&& 63) = lN k := by decide +kernel
theorem wb_cu : ∀ k, k < 64 → ((nI k).toInt64.toUInt64 &&& Int64.toUInt64 63) = UInt64.ofNat k := by decide +kernel
theorem wb_sm : ∀ k, k < 64 → (BitVec.ofNat 64 k).smod 64 = BitVec.ofNat 64 k := by decide +kernel
theorem wb_lt2 {a b : Nat} (h : a < b) : 2 ^ a < 2 ^ b := Nat.pow_lt_pow_right (by decide) h
theorem wb_shr {n k : Nat} (hn : n < 2 ^ 64) (hk : k < 64) : ((lN n).toUInt64 >>> ((nI k).toInt64.toUInt64 &&& Int64.toUInt64 63)).toInt64 = lN (n / 2 ^ k) := by
  rw [wb_cu k hk]
  apply wb_inj
  apply BitVec.eq_of_toNat_eq
  show ((lN n).toUInt64 >>> UInt64.ofNat k).toNat = (BitVec.ofNat 64 _).toNat
  have h1 : (UInt64.ofNat k).toNat = k := by
    show (BitVec.ofNat 64 k).toNat = k
    rw [BitVec.toNat_ofNat, Nat.mod_eq_of_lt (by omega)]
  have h2 : (lN n).toUInt64.toNat = n := wb_tn hn
  rw [UInt64.toNat_shiftRight, h1, h2, Nat.mod_eq_of_lt hk, Nat.shiftRight_eq_div_pow, BitVec.toNat_ofNat, Nat.mod_eq_of_lt (Nat.lt_of_le_of_lt (Nat.div_le_self _ _) hn)]
theorem wb_shl (n : Nat) {k : Nat} (hk : k < 64) : lN n <<< ((nI k).toInt64 &&& 63) = lN (n * 2 ^ k) := by
  rw [wb_c k hk]
  apply wb_inj
  rw [Int64.toBitVec_shiftLeft, wb_tb, wb_tb, wb_tb, wb_sm k hk]
  apply BitVec.eq_of_toNat_eq
  rw [BitVec.shiftLeft_eq', BitVec.toNat_shiftLeft, BitVec.toNat_ofNat, BitVec.toNat_ofNat, BitVec.toNat_ofNat, Nat.mod_eq_of_lt (show k < 2 ^ 64 by omega), Nat.shiftLeft_eq, Nat.mul_mod, Nat.mod_mod, ← Nat.mul_mod]
theorem wb_and {a b : Nat} (ha : a < 2 ^ 64) (hb : b < 2 ^ 64) : lN a &&& lN b = lN (a &&& b) := by
  apply wb_inj
  rw [Int64.toBitVec_and, wb_tb, wb_tb, wb_tb]
  apply BitVec.eq_of_toNat_eq
  rw [BitVec.toNat_and, BitVec.toNat_ofNat, BitVec.toNat_ofNat, BitVec.toNat_ofNat, Nat.mod_eq_of_lt ha, Nat.mod_eq_of_lt hb, Nat.mod_eq_of_lt (Nat.and_lt_two_pow _ hb)]
theorem wb_mask {n k : Nat} (hn : n < 2 ^ 64) (hk : k < 64) : lN n &&& lN (2 ^ k - 1) = lN (n % 2 ^ k) := by
  rw [wb_and hn (by have := wb_lt2 hk; omega), Nat.and_two_pow_sub_one_eq_mod]
theorem sq_utn {n : Nat} (h : n < 2 ^ 64) : (UInt64.ofNat n).toNat = n := Nat.mod_eq_of_lt h
theorem sq_gor {k p a b : Nat} (hp : 2 ^ k = p) (ha : a < p) (h : b * p + a < 2 ^ 64) : lN (b * p) ||| lN a = lN (b * p + a) := by
  subst hp
  have h1 : b * 2 ^ k ||| a = b * 2 ^ k + a := by rw [← Nat.shiftLeft_eq, Nat.shiftLeft_add_eq_or_of_lt ha]
  have h3 : UInt64.ofNat (b * 2 ^ k) ||| UInt64.ofNat a = UInt64.ofNat (b * 2 ^ k + a) := UInt64.toNat_inj.mp (by rw [UInt64.toNat_or, sq_utn (by omega), sq_utn (by omega), sq_utn h, h1])
  have h2 := congrArg UInt64.toInt64 h3
  exact h2
/-! ===== the printed terms, over nI and lN ===== -/
theorem sq_su : ∀ n, n < 32 → (((nI n).toUInt32 &&& Int32.toUInt32 31).toBitVec % 32).toNat = n := by decide +kernel
theorem sq_lLT {x y : Int64} {A B : Prop} (a b : Nat) (f : a < b → A) (g : b ≤ a → B) (hx : x = lN a := by rfl) (hy : y = lN b := by rfl) (ha : a < 2 ^ 63 := by omega) (hb : b < 2 ^ 63 := by omega) : (x < y → A) ∧ (¬ x < y → B) := by
  subst hx hy
  rw [pk_lLT ha hb]
  exact ⟨f, fun z => g (by omega)⟩
theorem sq_lLE {x y : Int64} {A B : Prop} (a b : Nat) (f : a ≤ b → A) (g : b < a → B) (hx : x = lN a := by rfl) (hy : y = lN b := by rfl) (ha : a < 2 ^ 63 := by omega) (hb : b < 2 ^ 63 := by omega) : (x ≤ y → A) ∧ (¬ x ≤ y → B) := by
  subst hx hy
  rw [pk_lLE ha hb]
  exact ⟨f, fun z => g (by omega)⟩
theorem sq_m24 {lo : Nat} (h : lo < 2 ^ 64) : (lN lo &&& 16777215) <<< ((8 : Int32).toInt64 &&& 63) = lN (lo % 16777216 * 256) := by
  have e1 : lN lo &&& 16777215 = lN (lo % 16777216) := wb_mask (k := 24) h (by decide)
  rw [e1]
  exact wb_shl _ (k := 8) (by decide)
theorem sq_s8 (r : Nat) : lN r <<< ((8 : Int32).toInt64 &&& 63) = lN (r * 256) := wb_shl r (k := 8) (by decide)
theorem sq_bound {r c : Nat} (hr : r < 2 ^ 64) (hc : c < 2 ^ 31) : ((lN r).toUInt64 >>> ((11 : Int32).toInt64.toUInt64 &&& Int64.toUInt64 63)).toInt64 * (nI c).toInt64 = lN (r / 2048 * c) := by
  have e1 : ((lN r).toUInt64 >>> ((11 : Int32).toInt64.toUInt64 &&& Int64.toUInt64 63)).toInt64 = lN (r / 2048) := wb_shr (k := 11) hr (by decide)
  rw [e1, nI_l hc, lN_mul]
theorem sq_carry {lo : Nat} (h : lo < 2 ^ 64) : (((lN lo).toUInt64 >>> ((32 : Int32).toInt64.toUInt64 &&& Int64.toUInt64 63)).toInt64).toInt32 = nI (lo / 4294967296) := by
  have e1 : ((lN lo).toUInt64 >>> ((32 : Int32).toInt64.toUInt64 &&& Int64.toUInt64 63)).toInt64 = lN (lo / 4294967296) := wb_shr (k := 32) h (by decide)
  rw [e1, lN_i]
theorem sq_held {lo : Nat} (h : lo < 2 ^ 50) : (((lN lo).toUInt64 >>> ((24 : Int32).toInt64.toUInt64 &&& Int64.toUInt64 63)).toInt64).toInt32 &&& 255 = nI (lo / 16777216 % 256) := by
  have e1 : ((lN lo).toUInt64 >>> ((24 : Int32).toInt64.toUInt64 &&& Int64.toUInt64 63)).toInt64 = lN (lo / 16777216) := wb_shr (k := 24) (by omega) (by decide)
  rw [e1, lN_i]
  exact pk_andN (by omega) 8 (by decide)
theorem sq_vbit {v k : Nat} (hv : v < 2 ^ 32) (hk : k < 32) : ((nI v).toUInt32 >>> ((nI k).toUInt32 &&& Int32.toUInt32 31)).toInt32 &&& 1 = nI (v / 2 ^ k % 2) := by
  rw [pk_ushrN hv (nI k) k (sq_su k hk)]
  exact pk_andN (Nat.lt_of_le_of_lt (Nat.div_le_self _ _) hv) 1 (by decide)
theorem sq_code {c x : Nat} (hc : c < 2 ^ 32) (hx : x < 256) : (lN c <<< ((8 : Int32).toInt64 &&& 63)) ||| (nI x).toInt64 = lN (c * 256 + x) := by
  rw [sq_s8, nI_l (by omega)]
  exact sq_gor (k := 8) rfl hx (by omega)
theorem sq_mask32 {c : Nat} (hc : c < 2 ^ 32) : lN c &&& 4294967295 = lN c := by
  have e : lN c &&& 4294967295 = lN (c % 2 ^ 32) := wb_mask (k := 32) (by omega) (by decide)
  rw [e, Nat.mod_eq_of_lt hc]
theorem sq_by8 {n : Nat} (h : n < 2 ^ 31) : sq_by ((nI n).toInt8.toInt32) = n % 256 := by
  unfold sq_by
  rw [bp_b, pk_andN (m := 255) (show n < 2 ^ 32 by omega) 8 (by decide), nI_clamp (by omega)]
theorem sq_ln0 {c : Nat} (h1 : 31 ≤ c) (h2 : c ≤ 2017) : nI c + ((2048 - nI c) >>> ((5 : Int32) &&& 31)) = nI (c + (2048 - c) / 32) := by
  have e1 : (2048 : Int32) - nI c = nI (2048 - c) := pk_sub (a := 2048) (by omega)
  rw [e1, pk_shrN (by omega) ((5 : Int32) &&& 31) 5 (by decide), nI_add]
theorem sq_ln1 {c : Nat} (h1 : 31 ≤ c) (h2 : c ≤ 2017) : nI c - (nI c >>> ((5 : Int32) &&& 31)) = nI (c - c / 32) := by
  rw [pk_shrN (by omega) ((5 : Int32) &&& 31) 5 (by decide)]
  exact pk_sub (by omega)
end
section
section
variable {dl pl fi co he hc ba wr ra ml md : Int32} {lw rg cd : Int64} {a1 a2 a3 a4 : Nat → Int32}
/-! ===== learn ===== -/
theorem sq_ch_up {a4 : Nat → Int32} {ch : Nat → Nat} {k i y : Nat} {x : Int32} (h : ∀ j, j < 394 → a4 j = nI (ch j)) (hi : i = k) (hx : x = nI y) : ∀ j, j < 394 → upd a4 i x j = nI (sq_up ch k y j) := by
  intro j hj
  subst hi
  unfold sq_up
  by_cases e : j = i
  · rw [if_pos e, e, pk_us, hx]
  · rw [if_neg e, pk_un e, h j hj]
theorem sq_learn {post : St2 → Prop} {k b : Nat} {ch : Nat → Nat} (hk : k < 394) (hb : b ≤ 1) (h4 : ∀ j, j < 394 → a4 j = nI (ch j)) (c1 : 31 ≤ ch k) (c2 : ch k ≤ 2017)
    (H : ∀ a4', (∀ j, j < 394 → a4' j = nI (sq_up ch k (sq_c1 (ch k) b) j)) → post (dl, pl, fi, co, lw, rg, he, hc, ba, wr, cd, ra, ml, md, a1, a2, a3, a4')) :
    wpX_learn post (dl, pl, fi, co, lw, rg, he, hc, ba, wr, cd, ra, ml, md, a1, a2, a3, a4) (nI k) (nI b) := by
  have hk' : (nI k).toNatClampNeg = k := nI_clamp (by omega)
  refine pk_eq b 0 (fun z => ⟨pk_in k 394 hk, pk_in k 394 hk, pk_in k 394 hk, nm_e (H _ ?_)⟩) (fun z => ⟨pk_in k 394 hk, pk_in k 394 hk, pk_in k 394 hk, nm_e (H _ ?_)⟩)
  · refine sq_ch_up h4 hk' ?_
    rw [hk', h4 k hk, sq_ln0 c1 c2, sq_c1, if_pos z]
  · refine sq_ch_up h4 hk' ?_
    rw [hk', h4 k hk, sq_ln1 c1 c2, sq_c1, if_neg z]
/-! ===== putByte ===== -/
theorem sq_putByte {post : St2 → Prop} {b w : Nat} {x : Int32} (hb : b + 352 ≤ 1408) (hw : w < 352)
    (H : post (dl, pl, fi, co, lw, rg, he, hc, nI b, nI (w + 1), cd, ra, ml, md, a1, a2, upd a3 (b + w) x.toInt8.toInt32, a4)) :
    wpX_putByte post (dl, pl, fi, co, lw, rg, he, hc, nI b, nI w, cd, ra, ml, md, a1, a2, a3, a4) x := by
  have e : (nI b + nI w).toNatClampNeg = b + w := by rw [nI_add, nI_clamp (by omega)]
  exact pk_le 352 w (fun z => absurd z (by omega)) (fun _ => ⟨pk_in (b + w) 1408 (by omega) (nI_add b w), nm_r (by rw [e]) (nm_r (nI_1 w) H)⟩)
/-! ===== shiftLow ===== -/
def sq_v (h : Nat) : Nat → Nat
  | 0 => h
  | _ + 1 => 255
def sq_X (N h c : Nat) : Nat → Nat
  | 0 => N
  | k + 1 => sq_X N h c k * 256 + (sq_v h k + c) % 256
theorem sq_X_eq {N h c : Nat} (h1 : c ≤ 1) (h2 : h + c ≤ 255) (m : Nat) : sq_X N h c (m + 1) + 1 = (N * 256 + h + 1) * 256 ^ m + c := by
  induction m with
  | zero =>
    show N * 256 + (h + c) % 256 + 1 = (N * 256 + h + 1) * 1 + c
    omega
  | succ m ih =>
    have e : sq_X N h c (m + 1 + 1) = sq_X N h c (m + 1) * 256 + (255 + c) % 256 := rfl
    rw [e, Nat.pow_succ, ← Nat.mul_assoc]
    generalize (N * 256 + h + 1) * 256 ^ m = Y at *
    generalize sq_X N h c (m + 1) = Z at *
    omega
theorem sq_sh38 {post : St2 → Prop} {b w h c m : Nat} (hb : b + 352 ≤ 1408) (hw : w + m < 352) (hh : h ≤ 255) (h1 : c ≤ 1)
    (H : ∀ a3', (∀ j, j < b ∨ b + 352 ≤ j → a3' j = a3 j) → sq_NB a3' b (w + (m + 1)) = sq_X (sq_NB a3 b w) h c (m + 1) → wX_shiftLow_70 post dl pl fi co lw rg he (nI (m + 1)) (nI b) (nI (w + (m + 1))) cd ra ml md a1 a2 a3' a4) :
    ∃ n, wX_shiftLow_38 post (nI c) n (nI h) 0 dl pl fi co lw rg he (nI (m + 1)) (nI b) (nI w) cd ra ml md a1 a2 a3 a4 := by
  refine pk_loop (fun n k s => wX_shiftLow_38 post (nI c) n (nI (sq_v h k)) (nI k) dl pl fi co lw rg he (nI (m + 1)) (nI b) (nI (w + k)) cd ra ml md a1 a2 s a4)
    (fun k s => (∀ j, j < b + w ∨ b + w + k ≤ j → s j = a3 j) ∧ sq_NB s b (w + k) = sq_X (sq_NB a3 b w) h c k) (m + 1) 0 a3 (by omega) ⟨fun j hj => rfl, rfl⟩ ?_ ?_
  · intro n s hs
    refine pk_le (m + 1) (m + 1) (fun _ => H s (fun j hj => hs.1 j (by omega)) hs.2) (fun z => absurd z (by omega))
  · intro n k s hk hs hW
    have hv : sq_v h k ≤ 255 := by
      cases k with
      | zero => exact hh
      | succ k => exact Nat.le_refl 255
    have e : nI (sq_v h k) + nI c = nI (sq_v h k + c) := nI_add _ _
    refine pk_le (m + 1) k (fun z => absurd z (by omega)) (fun _ => pk_le 352 k (fun z => absurd z (by omega)) (fun _ => sq_putByte hb (by omega) (nm_r (nI_1 k) (hW _ ⟨?_, ?_⟩))))
    · intro j hj
      rw [pk_un (by omega)]
      exact hs.1 j (by omega)
    · show sq_NB (upd s (b + (w + k)) _) b (w + k) * 256 + sq_by (upd s (b + (w + k)) _ (b + (w + k))) = sq_X (sq_NB a3 b w) h c k * 256 + (sq_v h k + c) % 256
      rw [pk_us, sq_NB_congr (a := s) (w + k) (fun j hj => pk_un (by omega)), hs.2, e, sq_by8 (by omega)]
theorem sq_shiftLow {post : St2 → Prop} {b w h m lo r r' t E : Nat} (hb : b + 352 ≤ 1408) (ht : t < 352) (K : sq_ie a3 b w h m lo r t E) (hr : r ≤ 16777216) (g1 : 1 ≤ r') (g2 : r' ≤ r * 256)
    (H : ∀ w' h' m' a3', sq_ie a3' b w' h' m' (lo % 16777216 * 256) r' (t + 1) (E * 256) → (∀ j, j < b ∨ b + 352 ≤ j → a3' j = a3 j) → post (dl, pl, fi, co, lN (lo % 16777216 * 256), rg, nI h', nI (m' + 1), nI b, nI w', cd, ra, ml, md, a1, a2, a3', a4)) :
    wpX_shiftLow post (dl, pl, fi, co, lN lo, rg, nI h, nI (m + 1), nI b, nI w, cd, ra, ml, md, a1, a2, a3, a4) := by
  have hlo : lo < 8589934592 := by
    have := K.2.2.1
    have := K.2.2.2.1
    omega
  have hwm : w + m = t := K.1
  have hh : h ≤ 255 := K.2.1
  have hcc := sq_ie_c K
  have B : (lo < 4278190080 ∨ 4294967295 < lo) → wX_shiftLow_22 post dl pl fi co (lN lo) rg (nI h) (nI (m + 1)) (nI b) (nI w) cd ra ml md a1 a2 a3 a4 := by
    intro z
    refine nm_r (sq_carry (by omega)) (sq_sh38 hb (by omega) hh hcc.1 (fun a3' f1 f2 => ?_))
    refine nm_r (sq_held (by omega)) (nm_r (nI_1 0) (nm_r (sq_m24 (by omega)) ?_))
    refine H (w + (m + 1)) _ 0 a3' (sq_shB K z hr g1 g2 ?_) f1
    rw [show w + m + 1 = w + (m + 1) by omega, f2]
    exact sq_X_eq hcc.1 hcc.2 m
  refine sq_lLT lo 4278190080 (fun z => B (Or.inl z)) (fun z => sq_lLE lo 4294967295 (fun y => ?_) (fun y => B (Or.inr y)))
  refine nm_r (nI_1 (m + 1)) (nm_r (sq_m24 (by omega)) (H w h (m + 1) a3 (sq_shA K z y hr g1 g2) (fun j hj => rfl)))
/-! ===== writeBit ===== -/
/-- the writer's state stands for s; o: the ring before, outside of the block -/
def sq_ei (b : Nat) (o : Nat → Int32) (s : sq_En) (lw rg : Int64) (he hc wr : Int32) (a3 a4 : Nat → Int32) : Prop :=
  sq_ok s ∧ (∀ j, j < 394 → a4 j = nI (s.2.2.2 j)) ∧ (∀ j, j < b ∨ b + 352 ≤ j → a3 j = o j) ∧ rg = lN s.2.1 ∧ ∃ w h m lo, lw = lN lo ∧ he = nI h ∧ hc = nI (m + 1) ∧ wr = nI w ∧ sq_ie a3 b w h m lo s.2.1 s.2.2.1 s.1
theorem sq_wb48 {post : St2 → Prop} {o : Nat → Int32} {ch : Nat → Nat} {k b p w h m lo r t E : Nat} (hb : b + 352 ≤ 1408) (ht : t < 352) (hp : p < 394) (hk : k ≤ 1) (h4 : ∀ j, j < 394 → a4 j = nI (ch j)) (c1 : 31 ≤ ch p) (c2 : ch p ≤ 2017)
    (h3 : ∀ j, j < b ∨ b + 352 ≤ j → a3 j = o j) (K : sq_ie a3 b w h m lo r t E) (hr : r < 4294967296)
    (H1 : r < 16777216 → ∀ w' h' m' lo' a3' a4', sq_ie a3' b w' h' m' lo' (r * 256) (t + 1) (E * 256) → (∀ j, j < b ∨ b + 352 ≤ j → a3' j = o j) → (∀ j, j < 394 → a4' j = nI (sq_up ch p (sq_c1 (ch p) k) j)) → post (dl, pl, fi, co, lN lo', lN (r * 256), nI h', nI (m' + 1), nI b, nI w', cd, ra, ml, md, a1, a2, a3', a4'))
    (H2 : ¬ r < 16777216 → ∀ a4', (∀ j, j < 394 → a4' j = nI (sq_up ch p (sq_c1 (ch p) k) j)) → post (dl, pl, fi, co, lN lo, lN r, nI h, nI (m + 1), nI b, nI w, cd, ra, ml, md, a1, a2, a3, a4')) :
    wX_writeBit_48 post (nI p) (nI k) dl pl fi co (lN lo) (lN r) (nI h) (nI (m + 1)) (nI b) (nI w) cd ra ml md a1 a2 a3 a4 := by
  refine sq_learn hp hk h4 c1 c2 (fun a4' f4 => sq_lLE 16777216 r (fun z => H2 (by omega) a4' f4) (fun z => nm_r (sq_s8 r) ?_))
  refine sq_shiftLow hb ht K (by omega) (r' := r * 256) (by have := K.2.2.1; omega) (Nat.le_refl _) (fun w' h' m' a3' f1 f2 => ?_)
  exact H1 z w' h' m' _ a3' a4' f1 (fun j hj => (f2 j hj).trans (h3 j hj)) f4
theorem sq_writeBit {post : St2 → Prop} {o : Nat → Int32} {s : sq_En} {k b p : Nat} (hb : b + 352 ≤ 1408) (ht : s.2.2.1 < 352) (hp : p < 394) (hk : k ≤ 1) (K : sq_ei b o s lw rg he hc wr a3 a4)
    (H : ∀ lw' rg' he' hc' wr' a3' a4', sq_ei b o (sq_st s (p, k)) lw' rg' he' hc' wr' a3' a4' → post (dl, pl, fi, co, lw', rg', he', hc', nI b, wr', cd, ra, ml, md, a1, a2, a3', a4')) :
    wpX_writeBit post (dl, pl, fi, co, lw, rg, he, hc, nI b, wr, cd, ra, ml, md, a1, a2, a3, a4) (nI p) (nI k) := by
  obtain ⟨ok, h4, h3, rfl, w, h, m, lo, rfl, rfl, rfl, rfl, K⟩ := K
  obtain ⟨E, r, t, ch⟩ := s
  have c1 : 31 ≤ ch p := (ok.2.2 p).1
  have c2 : ch p ≤ 2017 := (ok.2.2 p).2
  have r1 : 16777216 ≤ r := ok.1
  have r2 : r < 4294967296 := ok.2.1
  have hbd := sq_bd_ok r1 c1 c2
  have ok' := sq_st_ok (p, k) ok
  have hp' : (nI p).toNatClampNeg = p := nI_clamp (by omega)
  refine ⟨pk_in p 394 hp, nm_r (e' := lN (sq_bd r (ch p))) ?_ ?_⟩
  · rw [hp', h4 p hp]
    exact sq_bound (show r < 2 ^ 64 by omega) (show ch p < 2 ^ 31 by omega)
  · refine pk_eq k 0 (fun z => ?_) (fun z => nm_r (lN_add lo (sq_bd r (ch p))) (nm_r (lN_sub (show sq_bd r (ch p) ≤ r by omega)) ?_))
    · have K' : sq_ie a3 b w h m lo (sq_bd r (ch p)) t E := by
        have q := sq_ie_st (x := 0) (rg' := sq_bd r (ch p)) K (by omega) (show 0 + sq_bd r (ch p) ≤ r by omega)
        exact q
      have e1 : sq_r1 r (ch p) k = sq_bd r (ch p) := if_pos z
      have e2 : sq_E1 E r (ch p) k = E := if_pos z
      refine sq_wb48 hb ht hp hk h4 c1 c2 h3 K' (by omega) (fun y w' h' m' lo' a3' a4' f1 f2 f3 => ?_) (fun y a4' f3 => ?_)
      · have es : sq_st (E, r, t, ch) (p, k) = (E * 256, sq_bd r (ch p) * 256, t + 1, sq_up ch p (sq_c1 (ch p) k)) := by
          have y' : sq_r1 r (ch p) k < 16777216 := by rw [e1]; exact y
          have q : sq_st (E, r, t, ch) (p, k) = (sq_E1 E r (ch p) k * 256, sq_r1 r (ch p) k * 256, t + 1, sq_up ch p (sq_c1 (ch p) k)) := if_pos y'
          rw [q, e1, e2]
        rw [es] at ok' H
        exact H _ _ _ _ _ _ _ ⟨ok', f3, f2, rfl, w', h', m', lo', rfl, rfl, rfl, rfl, f1⟩
      · have es : sq_st (E, r, t, ch) (p, k) = (E, sq_bd r (ch p), t, sq_up ch p (sq_c1 (ch p) k)) := by
          have y' : ¬ sq_r1 r (ch p) k < 16777216 := by rw [e1]; exact y
          have q : sq_st (E, r, t, ch) (p, k) = (sq_E1 E r (ch p) k, sq_r1 r (ch p) k, t, sq_up ch p (sq_c1 (ch p) k)) := if_neg y'
          rw [q, e1, e2]
        rw [es] at ok' H
        exact H _ _ _ _ _ _ _ ⟨ok', f3, h3, rfl, w, h, m, lo, rfl, rfl, rfl, rfl, K'⟩
    · have K' : sq_ie a3 b w h m (lo + sq_bd r (ch p)) (r - sq_bd r (ch p)) t (E + sq_bd r (ch p)) := sq_ie_st K (by omega) (by show _ + (r - _) ≤ r; omega)
      have e1 : sq_r1 r (ch p) k = r - sq_bd r (ch p) := if_neg z
      have e2 : sq_E1 E r (ch p) k = E + sq_bd r (ch p) := if_neg z
      refine sq_wb48 hb ht hp hk h4 c1 c2 h3 K' (show r - sq_bd r (ch p) < 4294967296 by omega) (fun y w' h' m' lo' a3' a4' f1 f2 f3 => ?_) (fun y a4' f3 => ?_)
      · have es : sq_st (E, r, t, ch) (p, k) = ((E + sq_bd r (ch p)) * 256, (r - sq_bd r (ch p)) * 256, t + 1, sq_up ch p (sq_c1 (ch p) k)) := by
          have y' : sq_r1 r (ch p) k < 16777216 := by rw [e1]; exact y
          have q : sq_st (E, r, t, ch) (p, k) = (sq_E1 E r (ch p) k * 256, sq_r1 r (ch p) k * 256, t + 1, sq_up ch p (sq_c1 (ch p) k)) := if_pos y'
          rw [q, e1, e2]
        rw [es] at ok' H
        exact H _ _ _ _ _ _ _ ⟨ok', f3, f2, rfl, w', h', m', lo', rfl, rfl, rfl, rfl, f1⟩
      · have es : sq_st (E, r, t, ch) (p, k) = (E + sq_bd r (ch p), r - sq_bd r (ch p), t, sq_up ch p (sq_c1 (ch p) k)) := by
          have y' : ¬ sq_r1 r (ch p) k < 16777216 := by rw [e1]; exact y
          have q : sq_st (E, r, t, ch) (p, k) = (sq_E1 E r (ch p) k, sq_r1 r (ch p) k, t, sq_up ch p (sq_c1 (ch p) k)) := if_neg y'
          rw [q, e1, e2]
        rw [es] at ok' H
        exact H _ _ _ _ _ _ _ ⟨ok', f3, h3, rfl, w, h, m, _, rfl, rfl, rfl, rfl, K'⟩
/-! ===== writeTree ===== -/
/-- the decisions of one tree: j bits are left, the walk stands at node -/
def sq_tr (p v : Nat) : Nat → Nat → List (Nat × Nat)
  | 0, _ => []
  | j + 1, node => (p + node, v / 2 ^ j % 2) :: sq_tr p v j (2 * node + v / 2 ^ j % 2)
def sq_dn : Nat → Int32
  | 0 => -1
  | j + 1 => nI j
theorem sq_dn_m1 (j : Nat) : nI j + (-1) = sq_dn j := by
  cases j with
  | zero => rfl
  | succ j => exact pk_m1 j
theorem sq_nodes {node j M k : Nat} (h : (node + 1) * 2 ^ (j + 1) ≤ M) (hk : k ≤ 1) : 2 * node + 2 ≤ M ∧ (2 * node + k + 1) * 2 ^ j ≤ M := by
  rw [Nat.pow_succ] at h
  have hq : 1 ≤ 2 ^ j := Nat.one_le_two_pow
  have e : (node + 1) * (2 ^ j * 2) = (2 * node + 2) * 2 ^ j := by
    rw [Nat.mul_comm (2 ^ j) 2, ← Nat.mul_assoc]
    congr 1
    omega
  rw [e] at h
  constructor
  · have : (2 * node + 2) * 1 ≤ (2 * node + 2) * 2 ^ j := Nat.mul_le_mul_left _ hq
    omega
  · exact Nat.le_trans (Nat.mul_le_mul_right _ (by omega)) h
theorem sq_st_t (s : sq_En) (d : Nat × Nat) : (sq_st s d).2.2.1 ≤ s.2.2.1 + 1 := by
  rcases sq_st_cases s d with ⟨_, _, _, e⟩ | ⟨_, _, _, e⟩ <;> omega
theorem sq_wt8 {post : St2 → Prop} {o : Nat → Int32} {b p v M : Nat} (hb : b + 352 ≤ 1408) (hv : v < 2 ^ 32) (hM : 2 * p + M ≤ 788) : ∀ (j node : Nat) (s : sq_En) (lw rg : Int64) (he hc wr : Int32) (a3 a4 : Nat → Int32), j ≤ 31 → (node + 1) * 2 ^ j ≤ M → s.2.2.1 + j ≤ 352 → sq_ei b o s lw rg he hc wr a3 a4 →
    (∀ lw' rg' he' hc' wr' a3' a4', sq_ei b o (sq_run s (sq_tr p v j node)) lw' rg' he' hc' wr' a3' a4' → post (dl, pl, fi, co, lw', rg', he', hc', nI b, wr', cd, ra, ml, md, a1, a2, a3', a4')) →
    wX_writeTree_8 post (nI p) (nI v) (j + 1) (nI node) (sq_dn j) dl pl fi co lw rg he hc (nI b) wr cd ra ml md a1 a2 a3 a4 := by
  intro j
  induction j with
  | zero =>
    intro node s lw rg he hc wr a3 a4 _ _ _ K H
    exact br_t (show sq_dn 0 < 0 by decide) (H _ _ _ _ _ _ _ K)
  | succ j ih =>
    intro node s lw rg he hc wr a3 a4 hj hn ht K H
    have hk : v / 2 ^ j % 2 ≤ 1 := by omega
    have hnd := sq_nodes hn hk
    have hst := sq_st_t s (p + node, v / 2 ^ j % 2)
    refine br_f (show ¬ nI j < 0 from nI_pos (by omega)) (nm_r (sq_vbit hv (by omega)) ?_)
    rw [nI_add p node]
    refine sq_writeBit hb (by omega) (by omega) hk K (fun lw' rg' he' hc' wr' a3' a4' K' => ?_)
    refine nm_r (e' := nI (2 * node + v / 2 ^ j % 2)) ?_ (nm_r (sq_dn_m1 j) ?_)
    · rw [show (2 : Int32) = nI 2 from rfl, pk_mul, nI_add]
    · exact ih _ _ _ _ _ _ _ _ _ (by omega) hnd.2 (by omega) K' H
theorem sq_writeTree {post : St2 → Prop} {o : Nat → Int32} {s : sq_En} {b v : Nat} (p n : Nat) (hb : b + 352 ≤ 1408) (hv : v < 2 ^ 32) (hn : n ≤ 8) (hM : p + 2 ^ (n + 1) ≤ 394) (ht : s.2.2.1 + (n + 1) ≤ 352) (K : sq_ei b o s lw rg he hc wr a3 a4)
    (H : ∀ lw' rg' he' hc' wr' a3' a4', sq_ei b o (sq_run s (sq_tr p v (n + 1) 1)) lw' rg' he' hc' wr' a3' a4' → post (dl, pl, fi, co, lw', rg', he', hc', nI b, wr', cd, ra, ml, md, a1, a2, a3', a4')) :
    wpX_writeTree post (dl, pl, fi, co, lw, rg, he, hc, nI b, wr, cd, ra, ml, md, a1, a2, a3, a4) (nI p) (nI (n + 1)) (nI v) := by
  refine nm_r (e' := sq_dn (n + 1)) (nI_pred n) ⟨n + 1 + 1, ?_⟩
  exact sq_wt8 (M := 2 ^ (n + 1 + 1)) hb hv (by rw [Nat.pow_succ]; omega) (n + 1) 1 s lw rg he hc wr a3 a4 (by omega) (by rw [Nat.pow_succ 2 (n + 1)]; omega) ht K H
end
end
section
section
variable {dl pl fi co he hc ba wr ra ml md : Int32} {lw rg cd : Int64} {a1 a2 a3 a4 : Nat → Int32}
/-- l places from i on stand x places earlier too -/
def sq_same (a1 : Nat → Int32) (i x l : Nat) : Prop := ∀ j, j < l → a1 (i + j) = a1 (i + j - x)
theorem sq_matchAt2 {post : Int32 → Prop} {n i x : Nat} (hn : n ≤ 48) (hx : x ≤ i) (H : ∀ l, l ≤ 9 → i + l ≤ n → sq_same a1 i x l → post (nI l)) :
    ∀ f l, 9 - l < f → l ≤ 9 → i + l ≤ n → sq_same a1 i x l → wX_matchAt_2 post (nI i) (nI x) (nI n) pl fi co lw rg he hc ba wr cd ra ml md a1 a2 a3 a4 f (nI l) := by
  intro f
  induction f with
  | zero => intro l h; exact absurd h (by omega)
  | succ f ih =>
    intro l hf h9 hl hs
    refine pk_le 9 l (fun z => H l h9 hl hs) (fun z => ?_)
    have e1 : nI i + nI l = nI (i + l) := nI_add i l
    have e2 : nI i + nI l - nI x = nI (i + l - x) := by rw [e1]; exact pk_sub (by omega)
    refine pk_le n (i + l) (fun y => H l h9 hl hs) (fun y => ⟨pk_in (i + l) 48 (by omega) e1, pk_in (i + l - x) 48 (by omega) e2, br_c (fun g => nm_r (nI_1 l) (ih (l + 1) (by omega) (by omega) (by omega) ?_)) (fun g => H l h9 hl hs)⟩) rfl e1
    intro j hj
    by_cases e : j = l
    · rw [e2, e1, nI_clamp (by omega), nI_clamp (by omega)] at g
      rw [e]
      exact g
    · exact hs j (by omega)
theorem sq_matchAt {post : Int32 → Prop} {n i x : Nat} (hn : n ≤ 48) (hi : i ≤ n) (hx : x ≤ i) (H : ∀ l, l ≤ 9 → i + l ≤ n → sq_same a1 i x l → post (nI l)) :
    wpX_matchAt post (nI n, pl, fi, co, lw, rg, he, hc, ba, wr, cd, ra, ml, md, a1, a2, a3, a4) (nI i) (nI x) :=
  ⟨10, sq_matchAt2 hn hx H 10 0 (by omega) (by omega) (by omega) (fun j hj => absurd hj (by omega))⟩
/-- what findMatch leaves -/
def sq_mt (a1 : Nat → Int32) (n i l x : Nat) : Prop := l ≤ 9 ∧ i + l ≤ n ∧ x ≤ i ∧ (1 ≤ l → 1 ≤ x) ∧ sq_same a1 i x l
theorem sq_findMatch12 {post : St2 → Prop} {n i : Nat} (hn : n ≤ 48) (hi : i ≤ n) (H : ∀ l x, sq_mt a1 n i l x → post (nI n, pl, fi, co, lw, rg, he, hc, ba, wr, cd, ra, nI l, nI x, a1, a2, a3, a4)) :
    ∀ f y l x, i + 1 - y < f → 1 ≤ y → y ≤ i + 1 → sq_mt a1 n i l x → wX_findMatch_12 post (nI i) (nI n) pl fi co lw rg he hc ba wr cd ra a1 a2 a3 a4 f (nI y) (nI l) (nI x) := by
  intro f
  induction f with
  | zero => intro y l x h; exact absurd h (by omega)
  | succ f ih =>
    intro y l x hf hy hy2 hm
    have hl : l ≤ 9 := hm.1
    refine pk_lt i y (fun z => H l x hm) (fun z => sq_matchAt hn hi (show y ≤ i by omega) (fun l' g1 g2 g3 => ?_))
    refine pk_le l' l (fun q => nm_r (nI_1 y) (ih (y + 1) l x (by omega) (by omega) (by omega) hm)) (fun q => nm_r (nI_1 y) (ih (y + 1) l' y (by omega) (by omega) (by omega) ⟨g1, g2, by omega, fun _ => hy, g3⟩))
theorem sq_findMatch {post : St2 → Prop} {n i : Nat} (hn : n ≤ 48) (hi : i ≤ n) (H : ∀ l x, sq_mt a1 n i l x → post (nI n, pl, fi, co, lw, rg, he, hc, ba, wr, cd, ra, nI l, nI x, a1, a2, a3, a4)) :
    wpX_findMatch post (nI n, pl, fi, co, lw, rg, he, hc, ba, wr, cd, ra, ml, md, a1, a2, a3, a4) (nI i) :=
  ⟨i + 1, sq_findMatch12 hn hi H (i + 1) 1 0 0 (by omega) (by omega) (by omega) ⟨by omega, by omega, by omega, fun z => absurd z (by omega), fun j hj => absurd hj (by omega)⟩⟩
end
end
section
section
variable {dl pl fi co he hc ba wr ra ml md : Int32} {lw rg cd : Int64} {a1 a2 a3 a4 : Nat → Int32}
theorem sq_startChances {post : St2 → Prop} (H : ∀ a4', (∀ j, j < 394 → a4' j = nI 1024) → post (dl, pl, fi, co, lw, rg, he, hc, ba, wr, cd, ra, ml, md, a1, a2, a3, a4')) :
    wpX_startChances post (dl, pl, fi, co, lw, rg, he, hc, ba, wr, cd, ra, ml, md, a1, a2, a3, a4) := by
  refine pk_loop (fun n i s => wX_startChances_2 post dl pl fi co lw rg he hc ba wr cd ra ml md n (nI i) a1 a2 a3 s) (fun i s => ∀ j, j < i → s j = nI 1024) 394 0 a4 (by omega) (fun j hj => absurd hj (by omega)) ?_ ?_
  · intro n s hs
    exact pk_le 394 394 (fun _ => H s hs) (fun z => absurd z (by omega))
  · intro n i s hi hs hW
    refine pk_le 394 i (fun z => absurd z (by omega)) (fun _ => ⟨pk_in i 394 hi, nm_e (nm_r (nI_1 i) (hW _ (fun j hj => ?_)))⟩)
    rw [nI_clamp (by omega)]
    by_cases e : j = i
    · rw [e, pk_us]
      rfl
    · rw [pk_un e]
      exact hs j (by omega)
/-! ===== tokens ===== -/
/-- the tokens T say d from i on, to n: (l, x): l < 2: the byte x; else l bytes from x back -/
def sq_tk (d : Nat → Nat) (n : Nat) : List (Nat × Nat) → Nat → Prop
  | [], i => i = n
  | (l, x) :: T, i => i < n ∧ ((l < 2 ∧ x = d i ∧ x < 256 ∧ sq_tk d n T (i + 1)) ∨ (2 ≤ l ∧ l ≤ 9 ∧ 1 ≤ x ∧ x ≤ i ∧ i + l ≤ n ∧ (∀ j, j < l → d (i + j) = d (i + j - x)) ∧ sq_tk d n T (i + l)))
def sq_tl (bf x : Nat) (T : List (Nat × Nat)) : List (Nat × Nat) := (bf, 0) :: (sq_tr 66 x 8 1 ++ T)
def sq_tc (bf l x : Nat) (T : List (Nat × Nat)) : List (Nat × Nat) := (bf, 1) :: (sq_tr 322 (l - 2) 3 1 ++ (sq_tr 330 (x - 1) 6 1 ++ T))
def sq_td : Nat → List (Nat × Nat) → List (Nat × Nat)
  | _, [] => []
  | bf, (l, x) :: T => if l < 2 then sq_tl bf x (sq_td 0 T) else sq_tc bf l x (sq_td 1 T)
def sq_dr (a1 : Nat → Int32) (d : Nat → Nat) (n : Nat) : Prop := ∀ k, k < n → a1 k = nI (d k) ∧ d k < 256
theorem sq_run_tl (s : sq_En) (bf x : Nat) (T : List (Nat × Nat)) : sq_run s (sq_tl bf x T) = sq_run (sq_run (sq_st s (bf, 0)) (sq_tr 66 x 8 1)) T := sq_run_app _ _ _
theorem sq_run_tc (s : sq_En) (bf l x : Nat) (T : List (Nat × Nat)) : sq_run s (sq_tc bf l x T) = sq_run (sq_run (sq_run (sq_st s (bf, 1)) (sq_tr 322 (l - 2) 3 1)) (sq_tr 330 (x - 1) 6 1)) T := by
  show sq_run (sq_st s (bf, 1)) (sq_tr 322 (l - 2) 3 1 ++ (sq_tr 330 (x - 1) 6 1 ++ T)) = _
  rw [sq_run_app, sq_run_app]
theorem sq_tr_len (p v : Nat) : ∀ j node, (sq_tr p v j node).length = j := by
  intro j
  induction j with
  | zero => intro node; rfl
  | succ j ih => intro node; show (sq_tr p v j _).length + 1 = j + 1; rw [ih]
theorem sq_tr_t {s : sq_En} (h : sq_ok s) (p v j node : Nat) : (sq_run s (sq_tr p v j node)).2.2.1 ≤ s.2.2.1 + j := by
  obtain ⟨k, h1, h2, _⟩ := sq_nest (sq_tr p v j node) s h
  rw [sq_tr_len] at h2
  omega
theorem sq_sq48 {post : St2 → Prop} {o : Nat → Int32} {d : Nat → Nat} {n b : Nat} (hb : b + 352 ≤ 1408) (hn : n ≤ 37) (hd : sq_dr a1 d n) : ∀ (f i q bf : Nat) (s : sq_En) (lw rg : Int64) (he hc wr ml md : Int32) (a3 a4 : Nat → Int32), n - i < f → i ≤ n → q ≤ i → bf ≤ 1 → s.2.2.1 ≤ 6 + 9 * i → sq_ei b o s lw rg he hc wr a3 a4 →
    (∀ T lw' rg' he' hc' wr' ml' md' a3' a4', sq_tk d n T i → (sq_run s (sq_td bf T)).2.2.1 ≤ 6 + 9 * n → sq_ei b o (sq_run s (sq_td bf T)) lw' rg' he' hc' wr' a3' a4' → ∃ fu, wX_squeeze_155 post fu 0 (nI n) pl fi co lw' rg' he' hc' (nI b) wr' cd ra ml' md' a1 a2 a3' a4') →
    wX_squeeze_48 post f (nI bf) (nI i) (nI q) (nI n) pl fi co lw rg he hc (nI b) wr cd ra ml md a1 a2 a3 a4 := by
  intro f
  induction f with
  | zero => intro i q bf s lw rg he hc wr ml md a3 a4 h; exact absurd h (by omega)
  | succ f ih =>
    intro i q bf s lw rg he hc wr ml md a3 a4 hf hi hq hbf ht K H
    refine pk_le 48 q (fun z => absurd z (by omega)) (fun _ => pk_le n i (fun z => ?_) (fun z => ?_))
    · exact H [] _ _ _ _ _ _ _ _ _ (show i = n by omega) (show s.2.2.1 ≤ _ by omega) K
    · refine sq_findMatch (by omega) hi (fun l x hm => ?_)
      obtain ⟨m1, m2, m3, m4, m5⟩ := hm
      have hok : sq_ok s := K.1
      refine pk_lt l 2 (fun y => ?_) (fun y => ?_)
      · have t1 := sq_st_t s (bf, 0)
        have ok1 := sq_st_ok (bf, 0) hok
        have t2 := sq_tr_t ok1 66 (d i) (7 + 1) 1
        have hdi := hd i z
        refine sq_writeBit (k := 0) hb (by omega) (by omega) (by omega) K (fun lw1 rg1 he1 hc1 wr1 a31 a41 K1 => ⟨pk_in i 48 (by omega), ?_⟩)
        rw [nI_clamp (show i < 2 ^ 31 by omega), hdi.1]
        refine sq_writeTree 66 7 hb (by omega) (by omega) (by decide) (by omega) K1 (fun lw2 rg2 he2 hc2 wr2 a32 a42 K2 => ?_)
        refine nm_r (nI_1 i) (nm_r (nI_1 q) (ih (i + 1) (q + 1) 0 _ _ _ _ _ _ _ _ _ _ (by omega) (by omega) (by omega) (by omega) (by omega) K2 ?_))
        intro T lw' rg' he' hc' wr' ml' md' a3' a4' hT hTt K3
        have e : sq_run s (sq_td bf ((l, d i) :: T)) = sq_run (sq_run (sq_st s (bf, 0)) (sq_tr 66 (d i) 8 1)) (sq_td 0 T) := by
          show sq_run s (if l < 2 then _ else _) = _
          rw [if_pos y, sq_run_tl]
        refine H ((l, d i) :: T) lw' rg' he' hc' wr' ml' md' a3' a4' ⟨z, Or.inl ⟨y, rfl, hdi.2, hT⟩⟩ ?_ ?_
        · rw [e]; exact hTt
        · rw [e]; exact K3
      · have t1 := sq_st_t s (bf, 1)
        have ok1 := sq_st_ok (bf, 1) hok
        have t2 := sq_tr_t ok1 322 (l - 2) (2 + 1) 1
        have ok2 := sq_run_ok (sq_tr 322 (l - 2) (2 + 1) 1) _ ok1
        have t3 := sq_tr_t ok2 330 (x - 1) (5 + 1) 1
        have hx := m4 (by omega)
        have el : nI l - 2 = nI (l - 2) := pk_sub (b := 2) y
        have ex : nI x - 1 = nI (x - 1) := pk_sub (b := 1) hx
        refine sq_writeBit (k := 1) hb (by omega) (by omega) (by omega) K (fun lw1 rg1 he1 hc1 wr1 a31 a41 K1 => ?_)
        show wpX_writeTree _ _ 322 3 (nI l - 2)
        rw [el]
        refine sq_writeTree 322 2 hb (by omega) (by omega) (by decide) (by omega) K1 (fun lw2 rg2 he2 hc2 wr2 a32 a42 K2 => ?_)
        show wpX_writeTree _ _ 330 6 (nI x - 1)
        rw [ex]
        refine sq_writeTree 330 5 hb (by omega) (by omega) (by decide) (by omega) K2 (fun lw3 rg3 he3 hc3 wr3 a33 a43 K3 => ?_)
        refine nm_r (nI_add i l) (nm_r (nI_1 q) (ih (i + l) (q + 1) 1 _ _ _ _ _ _ _ _ _ _ (by omega) (by omega) (by omega) (by omega) (by omega) K3 ?_))
        intro T lw' rg' he' hc' wr' ml' md' a3' a4' hT hTt K4
        have e : sq_run s (sq_td bf ((l, x) :: T)) = sq_run (sq_run (sq_run (sq_st s (bf, 1)) (sq_tr 322 (l - 2) 3 1)) (sq_tr 330 (x - 1) 6 1)) (sq_td 1 T) := by
          show sq_run s (if l < 2 then _ else _) = _
          rw [if_neg (by omega), sq_run_tc]
        refine H ((l, x) :: T) lw' rg' he' hc' wr' ml' md' a3' a4' ⟨z, Or.inr ⟨y, m1, hx, m3, m2, fun j hj => ?_, hT⟩⟩ ?_ ?_
        · have g := m5 j hj
          have g1 := hd (i + j) (by omega)
          have g2 := hd (i + j - x) (by omega)
          rw [g1.1, g2.1] at g
          exact (nI_eq (by omega) (by omega)).mp g
        · rw [e]; exact hTt
        · rw [e]; exact K4
/-! ===== the end: five shifts ===== -/
def sq_lo (lo : Nat) : Nat → Nat
  | 0 => lo
  | k + 1 => sq_lo lo k % 16777216 * 256
theorem sq_lo5 (lo : Nat) : sq_lo lo 5 = 0 := by
  show ((((lo % 16777216 * 256) % 16777216 * 256) % 16777216 * 256) % 16777216 * 256) % 16777216 * 256 = 0
  omega
theorem sq_sq155 {post : St2 → Prop} {o : Nat → Int32} {b t E lo : Nat} (hb : b + 352 ≤ 1408) (ht : t + 5 ≤ 352)
    (H : ∀ w h m lw' he' hc' wr' a3', sq_ie a3' b w h m (sq_lo lo 5) 1 (t + 5) (E * 256 ^ 5) → (∀ j, j < b ∨ b + 352 ≤ j → a3' j = o j) → post (dl, pl, fi, co, lw', rg, he', hc', nI b, wr', cd, ra, ml, md, a1, a2, a3', a4)) :
    ∀ (r k w h m : Nat) (a3 : Nat → Int32), k + r = 5 → sq_ie a3 b w h m (sq_lo lo k) 1 (t + k) (E * 256 ^ k) → (∀ j, j < b ∨ b + 352 ≤ j → a3 j = o j) →
    wX_squeeze_155 post (r + 1) (nI k) dl pl fi co (lN (sq_lo lo k)) rg (nI h) (nI (m + 1)) (nI b) (nI w) cd ra ml md a1 a2 a3 a4 := by
  intro r
  induction r with
  | zero =>
    intro k w h m a3 hk K h3
    have hk5 : k = 5 := by omega
    subst hk5
    exact pk_le 5 5 (fun _ => H w h m _ _ _ _ a3 K h3) (fun z => absurd z (by omega))
  | succ r ih =>
    intro k w h m a3 hk K h3
    refine pk_le 5 k (fun z => absurd z (by omega)) (fun _ => sq_shiftLow (r' := 1) hb (by omega) K (by omega) (by omega) (by omega) (fun w' h' m' a3' f1 f2 => ?_))
    refine nm_r (nI_1 k) (ih (k + 1) w' h' m' a3' (by omega) ?_ (fun j hj => (f2 j hj).trans (h3 j hj)))
    have e : E * 256 ^ k * 256 = E * 256 ^ (k + 1) := by rw [Nat.pow_succ, Nat.mul_assoc]
    rw [e] at f1
    exact f1
theorem sq_end {a : Nat → Int32} {b w h m t E : Nat} (K : sq_ie a b w h m 0 1 (t + 5) (E * 256 ^ 5)) : sq_NB a b (5 + t) = E := by
  obtain ⟨e1, e2, e3, e4, e5, e6⟩ := K
  cases m with
  | zero =>
    rw [Nat.pow_zero, Nat.mul_one] at e6
    rw [show 5 + t = w by omega]
    generalize sq_NB a b w = N at *
    omega
  | succ m =>
    rw [Nat.pow_succ 256 m, ← Nat.mul_assoc] at e6
    generalize (sq_NB a b w * 256 + h + 1) * 256 ^ m = X at *
    omega
/-! ===== a block ===== -/
def sq_s0 : sq_En := (0, 4294967295, 0, fun _ => 1024)
def sq_all (n : Nat) (T : List (Nat × Nat)) : List (Nat × Nat) := sq_tr 2 n 6 1 ++ sq_td 0 T
/-- the block at b holds d's first n -/
def sq_blk (a : Nat → Int32) (b : Nat) (d : Nat → Nat) (n : Nat) : Prop :=
  ∃ T, sq_tk d n T 0 ∧ (sq_run sq_s0 (sq_all n T)).2.2.1 + 5 ≤ 352 ∧ sq_NB a b (5 + (sq_run sq_s0 (sq_all n T)).2.2.1) = (sq_run sq_s0 (sq_all n T)).1
theorem sq_s0_ok : sq_ok sq_s0 := ⟨by decide, by decide, fun k => ⟨by show 31 ≤ 1024; decide, by show 1024 ≤ 2017; decide⟩⟩
theorem sq_squeeze {post : St2 → Prop} {d : Nat → Nat} {n b : Nat} (hb : b + 352 ≤ 1408) (hn : n ≤ 37) (hd : sq_dr a1 d n)
    (H : ∀ lw' rg' he' hc' wr' ml' md' a3' a4', sq_blk a3' b d n → (∀ j, j < b ∨ b + 352 ≤ j → a3' j = a3 j) → post (nI n, pl, fi, co, lw', rg', he', hc', nI b, wr', cd, ra, ml', md', a1, a2, a3', a4')) :
    wpX_squeeze post (nI n, pl, fi, co, lw, rg, he, hc, nI b, wr, cd, ra, ml, md, a1, a2, a3, a4) := by
  refine sq_startChances (fun a4' h4 => ?_)
  have t1 := sq_tr_t sq_s0_ok 2 n (5 + 1) 1
  have t0 : sq_s0.2.2.1 = 0 := rfl
  have K0 : sq_ei b a3 sq_s0 (lN 0) (lN 4294967295) (nI 0) (nI (0 + 1)) (nI 0) a3 a4' :=
    ⟨sq_s0_ok, h4, fun j _ => rfl, rfl, 0, 0, 0, 0, rfl, rfl, rfl, rfl, by
      refine ⟨rfl, by omega, ?_, ?_, fun z => absurd z (by omega), ?_⟩
      · show 1 ≤ 4294967295; omega
      · show 0 + 4294967295 ≤ 8589934592; omega
      · show 0 + 4294967296 = (0 * 256 + 0 + 1) * 256 ^ 0 * 4294967296 + 0; omega⟩
  refine sq_writeTree 2 5 (s := sq_s0) hb (by omega) (by omega) (by decide) (by omega) K0 (fun lw1 rg1 he1 hc1 wr1 a31 a41 K1 => ⟨n + 1, ?_⟩)
  refine sq_sq48 hb hn hd (n + 1) 0 0 0 _ _ _ _ _ _ _ _ _ _ (by omega) (by omega) (by omega) (by omega) (by omega) K1 ?_
  intro T lw2 rg2 he2 hc2 wr2 ml2 md2 a32 a42 hT hTt K2
  rw [← sq_run_app] at hTt K2
  obtain ⟨ok, h42, h32, rfl, w, h, m, lo, rfl, rfl, rfl, rfl, K3⟩ := K2
  have K4 := sq_ie_st (x := 0) (rg' := 1) K3 (by omega) (by have := K3.2.2.1; omega)
  refine ⟨6, sq_sq155 (o := a3) (t := (sq_run sq_s0 (sq_all n T)).2.2.1) (E := (sq_run sq_s0 (sq_all n T)).1) (lo := lo) hb (by show (sq_run sq_s0 (sq_tr 2 n (5 + 1) 1 ++ sq_td 0 T)).2.2.1 + 5 ≤ 352; omega) ?_ 5 0 w h m a32 (by omega) ?_ h32⟩
  · intro w' h' m' lw' he' hc' wr' a3' f1 f2
    rw [sq_lo5] at f1
    exact H _ _ _ _ _ _ _ _ _ ⟨T, hT, by show (sq_run sq_s0 (sq_tr 2 n (5 + 1) 1 ++ sq_td 0 T)).2.2.1 + 5 ≤ 352; omega, sq_end f1⟩ f2
  · rw [Nat.pow_zero, Nat.mul_one]
    exact K4
end
end
section
section
variable {dl pl fi co he hc ba wr ra ml md : Int32} {lw rg cd : Int64} {a1 a2 a3 a4 : Nat → Int32}
/-! ===== takeByte ===== -/
theorem sq_takeByte {post : Int32 → St2 → Prop} {b k : Nat} (hb : b + 352 ≤ 1408) (hk : k < 352)
    (H : post (nI (sq_by (a3 (b + k)))) (dl, pl, fi, co, lw, rg, he, hc, nI b, wr, cd, nI (k + 1), ml, md, a1, a2, a3, a4)) :
    wpX_takeByte post (dl, pl, fi, co, lw, rg, he, hc, nI b, wr, cd, nI k, ml, md, a1, a2, a3, a4) := by
  have e : (nI b + nI k).toNatClampNeg = b + k := by rw [nI_add, nI_clamp (by omega)]
  refine pk_le 352 k (fun z => absurd z (by omega)) (fun _ => ⟨pk_in (b + k) 1408 (by omega) (nI_add b k), ?_⟩)
  rw [e, (sq_by_nI (a3 (b + k))).2]
  exact nm_r (nI_1 k) H
/-! ===== readBit ===== -/
/-- the reader stands at s, the decisions L are still to come -/
def sq_di (a3 : Nat → Int32) (b : Nat) (s : sq_En) (L : List (Nat × Nat)) (rg cd : Int64) (ra : Int32) (a4 : Nat → Int32) : Prop :=
  sq_ok s ∧ (∀ j, j < 394 → a4 j = nI (s.2.2.2 j)) ∧ rg = lN s.2.1 ∧ ra = nI (5 + s.2.2.1) ∧ ((sq_run s L).2.2.1 + 5 ≤ 352 ∧ sq_NB a3 b (5 + (sq_run s L).2.2.1) = (sq_run s L).1) ∧ ∃ c, cd = lN c ∧ c + s.1 = sq_NB a3 b (5 + s.2.2.1) ∧ c < s.2.1
theorem sq_rb65 {post : Int32 → St2 → Prop} {ch : Nat → Nat} {k b p r c q : Nat} (hb : b + 352 ≤ 1408) (hp : p < 394) (hk : k ≤ 1) (h4 : ∀ j, j < 394 → a4 j = nI (ch j)) (c1 : 31 ≤ ch p) (c2 : ch p ≤ 2017) (hc' : c < r) (hr : r < 4294967296)
    (hq : r < 16777216 → q < 352)
    (H1 : r < 16777216 → ∀ a4', (∀ j, j < 394 → a4' j = nI (sq_up ch p (sq_c1 (ch p) k) j)) → post (nI k) (dl, pl, fi, co, lw, lN (r * 256), he, hc, nI b, wr, lN (c * 256 + sq_by (a3 (b + q))), nI (q + 1), ml, md, a1, a2, a3, a4'))
    (H2 : ¬ r < 16777216 → ∀ a4', (∀ j, j < 394 → a4' j = nI (sq_up ch p (sq_c1 (ch p) k) j)) → post (nI k) (dl, pl, fi, co, lw, lN r, he, hc, nI b, wr, lN c, nI q, ml, md, a1, a2, a3, a4')) :
    wX_readBit_65 post (nI p) (nI k) dl pl fi co lw (lN r) he hc (nI b) wr (lN c) (nI q) ml md a1 a2 a3 a4 := by
  refine sq_learn hp hk h4 c1 c2 (fun a4' f4 => sq_lLE 16777216 r (fun z => H2 (by omega) a4' f4) (fun z => nm_r (sq_s8 r) ?_))
  refine sq_takeByte hb (hq z) (nm_r (sq_code (by omega) (sq_by_nI _).1) (H1 z a4' f4))
theorem sq_readBit {post : Int32 → St2 → Prop} {s : sq_En} {L : List (Nat × Nat)} {k b p : Nat} (hb : b + 352 ≤ 1408) (hp : p < 394) (hk : k ≤ 1) (K : sq_di a3 b s ((p, k) :: L) rg cd ra a4)
    (H : ∀ rg' cd' ra' a4', sq_di a3 b (sq_st s (p, k)) L rg' cd' ra' a4' → post (nI k) (dl, pl, fi, co, lw, rg', he, hc, nI b, wr, cd', ra', ml, md, a1, a2, a3, a4')) :
    wpX_readBit post (dl, pl, fi, co, lw, rg, he, hc, nI b, wr, cd, ra, ml, md, a1, a2, a3, a4) (nI p) := by
  obtain ⟨ok, h4, rfl, rfl, ⟨g1, g2⟩, c, rfl, g3, g4⟩ := K
  have D := sq_dec ok rfl g2
  have ok' := sq_st_ok (p, k) ok
  have hcs := sq_st_cases s (p, k)
  have erun : sq_run s ((p, k) :: L) = sq_run (sq_st s (p, k)) L := rfl
  rw [erun] at g1 g2 D
  obtain ⟨E, r, t, ch⟩ := s
  have c1 : 31 ≤ ch p := (ok.2.2 p).1
  have c2 : ch p ≤ 2017 := (ok.2.2 p).2
  have r1 : 16777216 ≤ r := ok.1
  have r2 : r < 4294967296 := ok.2.1
  have hbd := sq_bd_ok r1 c1 c2
  have hp' : (nI p).toNatClampNeg = p := nI_clamp (by omega)
  dsimp only at D g3 g4 hcs
  have fin : ∀ cc : Nat, cc + sq_E1 E r (ch p) k = sq_NB a3 b (5 + t) → cc < sq_r1 r (ch p) k → sq_r1 r (ch p) k < 4294967296 → wX_readBit_65 post (nI p) (nI k) dl pl fi co lw (lN (sq_r1 r (ch p) k)) he hc (nI b) wr (lN cc) (nI (5 + t)) ml md a1 a2 a3 a4 := by
    intro cc e1 e2 e3
    refine sq_rb65 hb hp hk h4 c1 c2 e2 e3 ?_ ?_ ?_
    · intro z
      rcases hcs with ⟨_, _, _, q⟩ | ⟨z', _⟩
      · have := D.2.2
        omega
      · exact absurd z z'
    · intro z a4' f4
      have es : sq_st (E, r, t, ch) (p, k) = (sq_E1 E r (ch p) k * 256, sq_r1 r (ch p) k * 256, t + 1, sq_up ch p (sq_c1 (ch p) k)) := if_pos z
      rw [es] at ok' g1 g2 H
      refine H _ _ _ _ ⟨ok', f4, rfl, rfl, ⟨g1, g2⟩, _, rfl, ?_, ?_⟩
      · show cc * 256 + sq_by (a3 (b + (5 + t))) + sq_E1 E r (ch p) k * 256 = sq_NB a3 b (5 + t) * 256 + sq_by (a3 (b + (5 + t)))
        rw [← e1]
        omega
      · show cc * 256 + sq_by (a3 (b + (5 + t))) < sq_r1 r (ch p) k * 256
        have := (sq_by_nI (a3 (b + (5 + t)))).1
        omega
    · intro z a4' f4
      have es : sq_st (E, r, t, ch) (p, k) = (sq_E1 E r (ch p) k, sq_r1 r (ch p) k, t, sq_up ch p (sq_c1 (ch p) k)) := if_neg z
      rw [es] at ok' g1 g2 H
      exact H _ _ _ _ ⟨ok', f4, rfl, rfl, ⟨g1, g2⟩, _, rfl, e1, e2⟩
  refine ⟨pk_in p 394 hp, nm_r (e' := lN (sq_bd r (ch p))) ?_ ?_⟩
  · rw [hp', h4 p hp]
    exact sq_bound (show r < 2 ^ 64 by omega) (show ch p < 2 ^ 31 by omega)
  · by_cases z : k = 0
    · have e1 : sq_r1 r (ch p) k = sq_bd r (ch p) := if_pos z
      have e2 : sq_E1 E r (ch p) k = E := if_pos z
      rw [e1, e2] at D fin
      refine sq_lLE (sq_bd r (ch p)) c (fun y => absurd y (by omega)) (fun y => ?_)
      have q := fin c g3 (by omega) (by omega)
      subst z
      exact br_t rfl q
    · have z1 : k = 1 := by omega
      have e1 : sq_r1 r (ch p) k = r - sq_bd r (ch p) := if_neg z
      have e2 : sq_E1 E r (ch p) k = E + sq_bd r (ch p) := if_neg z
      rw [e1, e2] at D fin
      refine sq_lLE (sq_bd r (ch p)) c (fun y => ?_) (fun y => absurd y (by omega))
      have q := fin (c - sq_bd r (ch p)) (by omega) (by omega) (by omega)
      subst z1
      exact br_f (by decide) (nm_r (lN_sub y) (nm_r (lN_sub (show sq_bd r (ch p) ≤ r by omega)) q))
/-! ===== readTree ===== -/
theorem sq_half {v j node : Nat} : (2 * node + v / 2 ^ j % 2) * 2 ^ j + v % 2 ^ j = node * 2 ^ (j + 1) + v % 2 ^ (j + 1) := by
  rw [Nat.pow_succ, Nat.mod_mul, Nat.add_mul, Nat.mul_comm 2 node, Nat.mul_assoc, Nat.mul_comm 2 (2 ^ j), Nat.mul_comm (2 ^ j) (v / 2 ^ j % 2)]
  omega
theorem sq_rt5 {post : Int32 → St2 → Prop} {L : List (Nat × Nat)} {b p v M n : Nat} (hb : b + 352 ≤ 1408) (hM : 2 * p + M ≤ 788) (hn : n ≤ 8) : ∀ (j node i : Nat) (s : sq_En) (rg cd : Int64) (ra : Int32) (a4 : Nat → Int32), i + j = n → (node + 1) * 2 ^ j ≤ M → sq_di a3 b s (sq_tr p v j node ++ L) rg cd ra a4 →
    (∀ s' rg' cd' ra' a4', sq_di a3 b s' L rg' cd' ra' a4' → post (nI (node * 2 ^ j + v % 2 ^ j) - ((1 : Int32) <<< (nI n &&& 31))) (dl, pl, fi, co, lw, rg', he, hc, nI b, wr, cd', ra', ml, md, a1, a2, a3, a4')) →
    wX_readTree_5 post (nI p) (nI n) (j + 1) (nI node) (nI i) dl pl fi co lw rg he hc (nI b) wr cd ra ml md a1 a2 a3 a4 := by
  intro j
  induction j with
  | zero =>
    intro node i s rg cd ra a4 hi _ K H
    have q := H s rg cd ra a4 K
    rw [Nat.pow_zero, Nat.mul_one, Nat.mod_one, Nat.add_zero] at q
    exact pk_le n i (fun _ => q) (fun z => absurd z (by omega))
  | succ j ih =>
    intro node i s rg cd ra a4 hi hnd K H
    have hk : v / 2 ^ j % 2 ≤ 1 := by omega
    have hnd2 := sq_nodes hnd hk
    refine pk_le n i (fun z => absurd z (by omega)) (fun _ => ?_)
    rw [nI_add p node]
    refine sq_readBit hb (by omega) hk K (fun rg' cd' ra' a4' K' => ?_)
    refine nm_r (e' := nI (2 * node + v / 2 ^ j % 2)) ?_ (nm_r (nI_1 i) ?_)
    · rw [show (2 : Int32) = nI 2 from rfl, pk_mul, nI_add]
    · refine ih _ _ _ _ _ _ _ (by omega) hnd2.2 K' ?_
      rw [sq_half]
      exact H
theorem sq_readTree {post : Int32 → St2 → Prop} {s : sq_En} {L : List (Nat × Nat)} {b v : Nat} (p n : Nat) (hb : b + 352 ≤ 1408) (hn : n ≤ 8) (hv : v < 2 ^ n) (hM : p + 2 ^ n ≤ 394) (K : sq_di a3 b s (sq_tr p v n 1 ++ L) rg cd ra a4)
    (H : ∀ s' rg' cd' ra' a4', sq_di a3 b s' L rg' cd' ra' a4' → post (nI v) (dl, pl, fi, co, lw, rg', he, hc, nI b, wr, cd', ra', ml, md, a1, a2, a3, a4')) :
    wpX_readTree post (dl, pl, fi, co, lw, rg, he, hc, nI b, wr, cd, ra, ml, md, a1, a2, a3, a4) (nI p) (nI n) := by
  have hp2 : 2 ^ n ≤ 256 := Nat.pow_le_pow_right (n := 2) (by omega) hn
  have sl : ∀ k, k < 9 → ((nI k &&& 31).toBitVec.smod 32).toNat = k := by decide
  have e : nI (1 * 2 ^ n + v % 2 ^ n) - ((1 : Int32) <<< (nI n &&& 31)) = nI v := by
    have e1 : (1 : Int32) <<< (nI n &&& 31) = nI (1 * 2 ^ n) := pk_shlN (n := 1) _ n (sl n (by omega)) (by omega)
    rw [e1, pk_sub (by omega), Nat.mod_eq_of_lt hv, Nat.add_sub_cancel_left]
  refine ⟨n + 1, sq_rt5 (v := v) (L := L) (M := 2 ^ (n + 1)) hb (by rw [Nat.pow_succ]; omega) hn n 1 0 s rg cd ra a4 (by omega) (by rw [Nat.pow_succ]; omega) K ?_⟩
  intro s' rg' cd' ra' a4' K'
  rw [e]
  exact H s' rg' cd' ra' a4' K'
/-! ===== copyBack ===== -/
theorem sq_copyBack {post : St2 → Prop} {d : Nat → Nat} {i l x : Nat} (hl : i + l ≤ 48) (hx1 : 1 ≤ x) (hx : x ≤ i) (hs : ∀ j, j < l → d (i + j) = d (i + j - x)) (h2 : ∀ k, k < i → a2 k = nI (d k))
    (H : ∀ a2', (∀ k, k < i + l → a2' k = nI (d k)) → post (dl, nI (i + l), fi, co, lw, rg, he, hc, ba, wr, cd, ra, ml, md, a1, a2', a3, a4)) :
    wpX_copyBack post (dl, nI i, fi, co, lw, rg, he, hc, ba, wr, cd, ra, ml, md, a1, a2, a3, a4) (nI l) (nI x) := by
  refine pk_loop (fun n k s => wX_copyBack_2 post (nI l) (nI x) dl fi co lw rg he hc ba wr cd ra ml md n (nI k) (nI (i + k)) a1 s a3 a4) (fun k s => ∀ j, j < i + k → s j = nI (d j)) l 0 a2 (by omega) h2 ?_ ?_
  · intro n s h
    exact pk_le l l (fun _ => H s h) (fun z => absurd z (by omega))
  · intro n k s hk h hW
    have e1 : nI (i + k) - nI x = nI (i + k - x) := pk_sub (by omega)
    refine pk_le l k (fun z => absurd z (by omega)) (fun _ => pk_le 48 (i + k) (fun z => absurd z (by omega)) (fun _ => pk_lt (i + k) x (fun z => absurd z (by omega)) (fun _ => ⟨pk_in (i + k - x) 48 (by omega) e1, pk_in (i + k) 48 (by omega), nm_e (nm_r (nI_1 (i + k)) (nm_r (nI_1 k) (hW _ ?_)))⟩)))
    intro j hj
    rw [e1, nI_clamp (by omega), nI_clamp (by omega)]
    by_cases e : j = i + k
    · rw [e, pk_us, h _ (by omega), hs k hk]
    · rw [pk_un e]
      exact h j (by omega)
/-! ===== unsqueeze ===== -/
theorem sq_un74 {post : St2 → Prop} {d : Nat → Nat} {n b : Nat} (hb : b + 352 ≤ 1408) (hn : n ≤ 48)
    (H : ∀ rg' cd' ra' a2' a4', (∀ k, k < n → a2' k = nI (d k)) → post (dl, nI n, fi, co, lw, rg', he, hc, nI b, wr, cd', ra', ml, md, a1, a2', a3, a4')) :
    ∀ (f : Nat) (T : List (Nat × Nat)) (i q bf : Nat) (s : sq_En) (rg cd : Int64) (ra : Int32) (a2 a4 : Nat → Int32), n - i < f → i ≤ n → q ≤ i → bf ≤ 1 → sq_tk d n T i → sq_di a3 b s (sq_td bf T) rg cd ra a4 → (∀ k, k < i → a2 k = nI (d k)) →
    wX_unsqueeze_74 post (nI n) f (nI bf) (nI q) dl (nI i) fi co lw rg he hc (nI b) wr cd ra ml md a1 a2 a3 a4 := by
  intro f
  induction f with
  | zero => intro T i q bf s rg cd ra a2 a4 h; exact absurd h (by omega)
  | succ f ih =>
    intro T i q bf s rg cd ra a2 a4 hf hi hq hbf hT K h2
    by_cases hin : i = n
    · subst hin
      exact br_c (fun _ => H _ _ _ _ _ h2) (fun _ => pk_le i i (fun _ => H _ _ _ _ _ h2) (fun z => absurd z (by omega)))
    · cases T with
      | nil => exact absurd hT hin
      | cons lx T =>
        obtain ⟨l, x⟩ := lx
        obtain ⟨hi2, hT⟩ := hT
        refine pk_le 48 q (fun z => absurd z (by omega)) (fun _ => pk_le n i (fun z => absurd z (by omega)) (fun _ => ?_))
        rcases hT with ⟨y, rfl, hx, hT⟩ | ⟨y, m1, m2, m3, m4, m5, hT⟩
        · have e : sq_td bf ((l, d i) :: T) = (bf, 0) :: (sq_tr 66 (d i) 8 1 ++ sq_td 0 T) := if_pos y
          rw [e] at K
          refine sq_readBit hb (by omega) (by omega) K (fun rg1 cd1 ra1 a41 K1 => br_f (by decide) ?_)
          refine sq_readTree 66 8 hb (by omega) hx (by decide) K1 (fun s2 rg2 cd2 ra2 a42 K2 => ⟨pk_in i 48 (by omega), nm_e (nm_r (nI_1 i) (nm_r (nI_1 q) ?_))⟩)
          refine ih T (i + 1) (q + 1) 0 _ _ _ _ _ _ (by omega) (by omega) (by omega) (by omega) hT K2 (fun k hk => ?_)
          rw [nI_clamp (by omega)]
          by_cases e : k = i
          · rw [e, pk_us]
          · rw [pk_un e]
            exact h2 k (by omega)
        · have e : sq_td bf ((l, x) :: T) = (bf, 1) :: (sq_tr 322 (l - 2) 3 1 ++ (sq_tr 330 (x - 1) 6 1 ++ sq_td 1 T)) := if_neg (by omega)
          rw [e] at K
          refine sq_readBit hb (by omega) (by omega) K (fun rg1 cd1 ra1 a41 K1 => br_t rfl ?_)
          refine sq_readTree 322 3 hb (by omega) (show l - 2 < 2 ^ 3 by omega) (by decide) K1 (fun s2 rg2 cd2 ra2 a42 K2 => nm_r (e' := nI l) ?_ ?_)
          · have q1 : nI (l - 2) + 2 = nI (l - 2 + 2) := nI_add (l - 2) 2
            rw [q1, show l - 2 + 2 = l by omega]
          · refine sq_readTree 330 6 hb (by omega) (show x - 1 < 2 ^ 6 by omega) (by decide) K2 (fun s3 rg3 cd3 ra3 a43 K3 => nm_r (e' := nI x) ?_ ?_)
            · rw [nI_1, show x - 1 + 1 = x by omega]
            · refine sq_copyBack (by omega) m2 m3 m5 h2 (fun a2' h2' => nm_r (nI_1 q) ?_)
              exact ih T (i + l) (q + 1) 1 _ _ _ _ _ _ (by omega) (by omega) (by omega) (by omega) hT K3 h2'
theorem sq_un23 {post : St2 → Prop} {b : Nat} (hb : b + 352 ≤ 1408) (hN : sq_NB a3 b 5 < 4294967296)
    (H : wpX_readTree (fun r u => match u with | (dl, pl, fi, co, lw, rg, he, hc, ba, wr, cd, ra, ml, md, a1, a2, a3, a4) => ∃ fu, wX_unsqueeze_74 post r fu 0 0 dl 0 fi co lw rg he hc ba wr cd ra ml md a1 a2 a3 a4) (dl, pl, fi, co, lw, rg, he, hc, nI b, wr, lN (sq_NB a3 b 5), nI 5, ml, md, a1, a2, a3, a4) 2 6) :
    ∀ r k, k + r = 5 → wX_unsqueeze_23 post (r + 1) (nI k) dl pl fi co lw rg he hc (nI b) wr (lN (sq_NB a3 b k)) (nI k) ml md a1 a2 a3 a4 := by
  intro r
  induction r with
  | zero =>
    intro k hk
    have hk5 : k = 5 := by omega
    subst hk5
    exact pk_le 5 5 (fun _ => H) (fun z => absurd z (by omega))
  | succ r ih =>
    intro k hk
    have q1 := sq_NB_le a3 b (k + 1) (4 - k)
    rw [show k + 1 + (4 - k) = 5 by omega] at q1
    have q2 : sq_NB a3 b (k + 1) * 1 ≤ sq_NB a3 b (k + 1) * 256 ^ (4 - k) := Nat.mul_le_mul_left _ (Nat.one_le_pow _ _ (by omega))
    have e : sq_NB a3 b (k + 1) = sq_NB a3 b k * 256 + sq_by (a3 (b + k)) := rfl
    refine pk_le 5 k (fun z => absurd z (by omega)) (fun _ => sq_takeByte hb (by omega) (nm_r (e' := lN (sq_NB a3 b (k + 1))) ?_ (nm_r (nI_1 k) (ih (k + 1) (by omega)))))
    rw [sq_code (by omega) (sq_by_nI _).1, ← e, sq_mask32 (by omega)]
theorem sq_unsqueeze {post : St2 → Prop} {d : Nat → Nat} {n b : Nat} (hb : b + 352 ≤ 1408) (hn : n ≤ 48) (B : sq_blk a3 b d n)
    (H : ∀ rg' cd' ra' a2' a4', (∀ k, k < n → a2' k = nI (d k)) → post (dl, nI n, fi, co, lw, rg', he, hc, nI b, wr, cd', ra', ml, md, a1, a2', a3, a4')) :
    wpX_unsqueeze post (dl, pl, fi, co, lw, rg, he, hc, nI b, wr, cd, ra, ml, md, a1, a2, a3, a4) := by
  obtain ⟨T, hT, g1, g2⟩ := B
  refine sq_startChances (fun a4' h4 => ?_)
  have hN : sq_NB a3 b 5 < 4294967295 := by
    obtain ⟨k, h1, _, _, h3⟩ := sq_nest (sq_all n T) sq_s0 sq_s0_ok
    have q := sq_NB_le a3 b 5 k
    have ek : (sq_run sq_s0 (sq_all n T)).2.2.1 = k := by rw [h1]; exact Nat.zero_add k
    rw [ek] at g2
    have pos := (sq_run_ok (sq_all n T) sq_s0 sq_s0_ok).1
    have z : sq_NB a3 b 5 * 256 ^ k < (sq_s0.1 + sq_s0.2.1) * 256 ^ k := by
      refine Nat.lt_of_le_of_lt q.1 ?_
      rw [g2]
      omega
    have z2 := Nat.lt_of_mul_lt_mul_right z
    have z3 : sq_s0.1 + sq_s0.2.1 = 4294967295 := rfl
    omega
  refine ⟨6, sq_un23 (r := 5) (k := 0) hb (by omega) ?_ (by omega)⟩
  have K : sq_di a3 b sq_s0 (sq_tr 2 n 6 1 ++ sq_td 0 T) (lN 4294967295) (lN (sq_NB a3 b 5)) (nI 5) a4' :=
    ⟨sq_s0_ok, h4, rfl, rfl, ⟨g1, g2⟩, _, rfl, rfl, hN⟩
  refine sq_readTree 2 6 hb (by omega) (show n < 2 ^ 6 by omega) (by decide) K (fun s' rg' cd' ra' a4'' K' => ⟨n + 1, ?_⟩)
  exact sq_un74 hb hn H (n + 1) T 0 0 0 s' rg' cd' ra' a2 a4'' (by omega) (by omega) (by omega) (by omega) hT K' (fun k hk => absurd hk (by omega))
end
end
section
section
variable {dl pl fi co he hc ba wr ra ml md : Int32} {lw rg cd : Int64} {a1 a2 a3 a4 : Nat → Int32}
theorem sq_blk_congr {a a' : Nat → Int32} {b n : Nat} {d : Nat → Nat} (h : ∀ j, b ≤ j → j < b + 352 → a' j = a j) (B : sq_blk a b d n) : sq_blk a' b d n := by
  obtain ⟨T, h1, h2, h3⟩ := B
  refine ⟨T, h1, h2, ?_⟩
  rw [← h3]
  exact sq_NB_congr _ (fun j hj => h (b + j) (by omega) (by omega))
/-! ===== send, receive ===== -/
theorem sq_base (f c : Nat) (hf : f < 4) (hc : c ≤ 4) : 352 * ((nI f + nI c) &&& 3) = nI (352 * ((f + c) % 4)) := by
  have e : nI (f + c) &&& 3 = nI ((f + c) % 2 ^ 2) := pk_andN (by omega) 2 (by decide)
  rw [nI_add, e]
  exact pk_mul 352 _
theorem sq_send {post : Int32 → St2 → Prop} {n f c : Nat} {d : Nat → Nat} (hn : n ≤ 37) (hd : sq_dr a1 d n) (hf : f < 4) (hc4 : c < 4)
    (H : ∀ lw' rg' he' hc' ba' wr' ml' md' a3' a4', sq_blk a3' (352 * ((f + c) % 4)) d n → (∀ q d' n', q < 4 → q ≠ (f + c) % 4 → sq_blk a3 (352 * q) d' n' → sq_blk a3' (352 * q) d' n') → post (nI (c + 1)) (nI n, pl, nI f, nI (c + 1), lw', rg', he', hc', ba', wr', cd, ra, ml', md', a1, a2, a3', a4')) :
    wpX_send post (nI n, pl, nI f, nI c, lw, rg, he, hc, ba, wr, cd, ra, ml, md, a1, a2, a3, a4) := by
  refine pk_lt c 4 (fun _ => nm_r (sq_base f c hf (by omega)) ?_) (fun z => absurd z (by omega))
  have hm : (f + c) % 4 < 4 := Nat.mod_lt _ (by omega)
  refine sq_squeeze (by omega) hn hd (fun lw' rg' he' hc' wr' ml' md' a3' a4' B F => nm_r (nI_1 c) (H _ _ _ _ _ _ _ _ _ _ B ?_))
  intro q d' n' hq hne B'
  exact sq_blk_congr (fun j h1 h2 => F j (by omega)) B'
theorem sq_send_no {post : Int32 → St2 → Prop} (H : post (-1) (dl, pl, fi, nI 4, lw, rg, he, hc, ba, wr, cd, ra, ml, md, a1, a2, a3, a4)) :
    wpX_send post (dl, pl, fi, nI 4, lw, rg, he, hc, ba, wr, cd, ra, ml, md, a1, a2, a3, a4) :=
  pk_lt 4 4 (fun z => absurd z (by omega)) (fun _ => H)
theorem sq_receive {post : Int32 → St2 → Prop} {n f c : Nat} {d : Nat → Nat} (hn : n ≤ 48) (hf : f < 4) (hc1 : 1 ≤ c) (hc4 : c ≤ 4) (B : sq_blk a3 (352 * f) d n)
    (H : ∀ rg' ba' cd' ra' a2' a4', (∀ k, k < n → a2' k = nI (d k)) → post (nI n) (dl, nI n, nI ((f + 1) % 4), nI (c - 1), lw, rg', he, hc, ba', wr, cd', ra', ml, md, a1, a2', a3, a4')) :
    wpX_receive post (dl, pl, nI f, nI c, lw, rg, he, hc, ba, wr, cd, ra, ml, md, a1, a2, a3, a4) := by
  have e1 : (nI f + 1) &&& 3 = nI ((f + 1) % 4) := by
    rw [nI_1]
    exact pk_andN (m := 3) (show f + 1 < 2 ^ 32 by omega) 2 (by decide)
  have e2 : nI c - 1 = nI (c - 1) := pk_sub (b := 1) hc1
  refine pk_eq c 0 (fun z => absurd z (by omega)) (fun _ => nm_r (pk_mul 352 f) (sq_unsqueeze (by omega) hn B (fun rg' cd' ra' a2' a4' h2 => ?_)))
  exact nm_r e1 (nm_r e2 (H _ _ _ _ _ _ h2))
theorem sq_receive_no {post : Int32 → St2 → Prop} (H : post (-1) (dl, pl, fi, nI 0, lw, rg, he, hc, ba, wr, cd, ra, ml, md, a1, a2, a3, a4)) :
    wpX_receive post (dl, pl, fi, nI 0, lw, rg, he, hc, ba, wr, cd, ra, ml, md, a1, a2, a3, a4) :=
  pk_eq 0 0 (fun _ => H) (fun z => absurd rfl z)
/-! ===== put, repeat, edit ===== -/
theorem sq_dr_up {a1 : Nat → Int32} {d : Nat → Nat} {n v : Nat} {x : Int32} (h : sq_dr a1 d n) (hx : x = nI v) (hv : v < 256) : sq_dr (upd a1 n x) (sq_up d n v) (n + 1) := by
  intro k hk
  unfold sq_up
  by_cases e : k = n
  · rw [if_pos e, e, pk_us]
    exact ⟨hx, hv⟩
  · rw [if_neg e, pk_un e]
    exact h k (by omega)
theorem sq_put {post : Int32 → St2 → Prop} {n : Nat} {v : Int32} {d : Nat → Nat} (hn : n < 48) (hd : sq_dr a1 d n)
    (H : ∀ a1', sq_dr a1' (sq_up d n (sq_by v)) (n + 1) → post (nI (n + 1)) (nI (n + 1), pl, fi, co, lw, rg, he, hc, ba, wr, cd, ra, ml, md, a1', a2, a3, a4)) :
    wpX_put post (nI n, pl, fi, co, lw, rg, he, hc, ba, wr, cd, ra, ml, md, a1, a2, a3, a4) v :=
  pk_lt n 48 (fun _ => ⟨pk_in n 48 hn, nm_r (by rw [nI_clamp (by omega)]) (nm_r (nI_1 n) (H _ (sq_dr_up hd (sq_by_nI v).2 (sq_by_nI v).1)))⟩) (fun z => absurd z (by omega))
theorem sq_repeat {post : Int32 → St2 → Prop} {n x c : Nat} {d : Nat → Nat} (hd : sq_dr a1 d n) (hx1 : 1 ≤ x) (hx : x ≤ n) (hc1 : 1 ≤ c) (hc2 : n + c ≤ 48)
    (H : ∀ a1' d', (∀ k, k < n → d' k = d k) → (∀ k, n ≤ k → k < n + c → d' k = d' (k - x)) → sq_dr a1' d' (n + c) → post (nI (n + c)) (nI (n + c), pl, fi, co, lw, rg, he, hc, ba, wr, cd, ra, ml, md, a1', a2, a3, a4)) :
    wpX_repeat post (nI n, pl, fi, co, lw, rg, he, hc, ba, wr, cd, ra, ml, md, a1, a2, a3, a4) (nI x) (nI c) := by
  refine pk_lt x 1 (fun z => absurd z (by omega)) (fun _ => pk_lt n x (fun z => absurd z (by omega)) (fun _ => pk_lt c 1 (fun z => absurd z (by omega)) (fun _ => pk_le c (48 - n) (fun _ => ?_) (fun z => absurd z (by omega)) rfl (pk_sub (a := 48) (by omega)))))
  refine pk_loop (fun m k s => wX_repeat_33 post (nI x) (nI c) pl fi co lw rg he hc ba wr cd ra ml md m (nI k) (nI (n + k)) s a2 a3 a4)
    (fun k s => ∃ d', (∀ j, j < n → d' j = d j) ∧ (∀ j, n ≤ j → j < n + k → d' j = d' (j - x)) ∧ sq_dr s d' (n + k)) c 0 a1 (by omega) ⟨d, fun _ _ => rfl, fun j h1 h2 => absurd h2 (by omega), hd⟩ ?_ ?_
  · intro m s hs
    obtain ⟨d', h1, h2, h3⟩ := hs
    exact pk_le c c (fun _ => H s d' h1 h2 h3) (fun z => absurd z (by omega))
  · intro m k s hk hs hW
    obtain ⟨d', h1, h2, h3⟩ := hs
    have e1 : nI (n + k) - nI x = nI (n + k - x) := pk_sub (by omega)
    have g := h3 (n + k - x) (by omega)
    refine pk_le c k (fun z => absurd z (by omega)) (fun _ => ⟨pk_in (n + k - x) 48 (by omega) e1, pk_in (n + k) 48 (by omega), nm_r (e' := upd s (n + k) (nI (d' (n + k - x)))) ?_ (nm_r (nI_1 (n + k)) (nm_r (nI_1 k) (hW _ ⟨sq_up d' (n + k) (d' (n + k - x)), ?_, ?_, ?_⟩)))⟩)
    · rw [e1, nI_clamp (by omega), nI_clamp (by omega), g.1]
    · intro j hj
      unfold sq_up
      rw [if_neg (by omega)]
      exact h1 j hj
    · intro j hj1 hj2
      unfold sq_up
      by_cases e : j = n + k
      · rw [if_pos e, if_neg (by omega), e]
      · rw [if_neg e, if_neg (by omega)]
        exact h2 j hj1 (by omega)
    · exact sq_dr_up h3 rfl g.2
theorem sq_edit {post : St2 → Prop} {m : Nat} {d : Nat → Nat} (hm : m ≤ 48) (h2 : ∀ k, k < m → a2 k = nI (d k)) (h3 : ∀ k, k < m → d k < 256)
    (H : ∀ a1', sq_dr a1' d m → post (nI m, nI m, fi, co, lw, rg, he, hc, ba, wr, cd, ra, ml, md, a1', a2, a3, a4)) :
    wpX_edit post (dl, nI m, fi, co, lw, rg, he, hc, ba, wr, cd, ra, ml, md, a1, a2, a3, a4) := by
  refine pk_loop (fun n i s => wX_edit_2 post dl (nI m) fi co lw rg he hc ba wr cd ra ml md n (nI i) s a2 a3 a4) (fun i s => sq_dr s d i) m 0 a1 (by omega) (fun j hj => absurd hj (by omega)) ?_ ?_
  · intro n s hs
    exact pk_le m m (fun _ => H s hs) (fun z => absurd z (by omega))
  · intro n i s hi hs hW
    refine pk_le m i (fun z => absurd z (by omega)) (fun _ => ⟨pk_in i 48 (by omega), pk_in i 48 (by omega), nm_r (e' := upd s i (a2 i)) (by rw [nI_clamp (by omega)]) (nm_r (nI_1 i) (hW _ (fun k hk => ?_)))⟩)
    by_cases e : k = i
    · rw [e, pk_us]
      exact ⟨h2 i hi, h3 i hi⟩
    · rw [pk_un e]
      exact hs k (by omega)
/-! ===== at, find ===== -/
theorem sq_at {post : Int32 → Prop} {m p : Nat} {d : Nat → Nat} (h2 : ∀ k, k < m → a2 k = nI (d k)) (hp : p < m) (hm : m ≤ 48) (H : post (nI (d p))) :
    wpX_at post (dl, nI m, fi, co, lw, rg, he, hc, ba, wr, cd, ra, ml, md, a1, a2, a3, a4) (nI p) := by
  refine br_f (nI_pos (by omega)) (pk_lt p m (fun _ => ⟨pk_in p 48 (by omega), ?_⟩) (fun z => absurd z (by omega)))
  rw [nI_clamp (by omega), h2 p hp]
  exact H
theorem sq_at_no {post : Int32 → Prop} {m p : Nat} (hp : m ≤ p) (hm : p ≤ 100) (H : post (-1)) :
    wpX_at post (dl, nI m, fi, co, lw, rg, he, hc, ba, wr, cd, ra, ml, md, a1, a2, a3, a4) (nI p) :=
  br_f (nI_pos (by omega)) (pk_lt p m (fun z => absurd z (by omega)) (fun _ => H))
theorem sq_find_at {post : Int32 → Prop} {m k : Nat} {v : Int32} (hk : k < m) (hm : m ≤ 48) (e : a2 k = v &&& 255) (H : post (nI k)) :
    wpX_find post (dl, nI m, fi, co, lw, rg, he, hc, ba, wr, cd, ra, ml, md, a1, a2, a3, a4) v (nI k) := by
  refine br_t (nI_pos' (by omega)) ⟨1, pk_le m k (fun z => absurd z (by omega)) (fun _ => ⟨pk_in k 48 (by omega), br_t ?_ H⟩)⟩
  rw [nI_clamp (by omega)]
  exact e
theorem sq_find_no {post : Int32 → Prop} {m : Nat} {v : Int32} (hm : m ≤ 48) (hv : ∀ k, k < m → ¬ a2 k = v &&& 255) (H : post (-1)) :
    wpX_find post (dl, nI m, fi, co, lw, rg, he, hc, ba, wr, cd, ra, ml, md, a1, a2, a3, a4) v 0 := by
  refine br_t (by decide) (pk_loop (σ := Unit) (fun n k _ => wX_find_10 post v dl (nI m) fi co lw rg he hc ba wr cd ra ml md a1 a2 a3 a4 n (nI k)) (fun _ _ => True) m 0 () (by omega) trivial ?_ ?_)
  · intro n _ _
    exact pk_le m m (fun _ => H) (fun z => absurd z (by omega))
  · intro n k _ hk _ hW
    refine pk_le m k (fun z => absurd z (by omega)) (fun _ => ⟨pk_in k 48 (by omega), br_f ?_ (nm_r (nI_1 k) (hW () trivial))⟩)
    rw [nI_clamp (by omega)]
    exact hv k hk
theorem sq_by_inc (v : Int32) : sq_by (v + 1) ≠ sq_by v := by
  have e1 : sq_by (v + 1) = (v + 1).toBitVec.toNat % 256 := by
    unfold sq_by
    rw [pk_and (v + 1) (m := 255) 8 (by decide), nI_clamp (by omega)]
  have e2 : sq_by v = v.toBitVec.toNat % 256 := by
    unfold sq_by
    rw [pk_and v (m := 255) 8 (by decide), nI_clamp (by omega)]
  have e3 : (v + 1).toBitVec.toNat = (v.toBitVec.toNat + 1) % 2 ^ 32 := by
    rw [Int32.toBitVec_add, BitVec.toNat_add]
    rfl
  omega
end
end
section
section
variable {he hc ba wr ra ml md : Int32} {lw rg cd : Int64} {a1 a2 a3 a4 : Nat → Int32}
/-- a, b, c over and over -/
def sq_abc (x y z i : Nat) : Nat := if i % 3 = 0 then x else if i % 3 = 1 then y else z
theorem sq_law297 {a b c : Int32} {mc ms kc ks o w m : Nat} {d0 d1 d2 d3 : Nat → Nat} (hm : m = 4 + o) (ho : o ≤ 8) (hw1 : 1 ≤ w) (hw : w ≤ 32)
    (g0 : d0 0 = sq_by a) (g02 : d0 2 = sq_by c) (g1 : ∀ i, i < o → d1 (3 + i) = sq_abc (sq_by a) (sq_by b) (sq_by c) i) (g3 : ∀ k, k < 1 + w → d3 k = sq_by c)
    (hd : sq_dr a1 d0 3) (h2 : ∀ k, k < m → a2 k = nI (d1 k)) (B0 : sq_blk a3 (352 * 0) d0 3) (B2 : sq_blk a3 (352 * 2) d2 0) (B3 : sq_blk a3 (352 * 3) d3 (1 + w)) :
    ∃ fu, wL_lawOf_297 (fun r _ => r = 1) mc ms a b c (nI o) (nI w) kc ks (nI 3) (nI m) (nI 2) (nI 3) lw rg he hc ba wr cd ra ml md a1 a2 a3 a4 fu 0 := by
  have ea : a &&& 255 = nI (sq_by a) := (sq_by_nI a).2
  have eb : b &&& 255 = nI (sq_by b) := (sq_by_nI b).2
  have ec : c &&& 255 = nI (sq_by c) := (sq_by_nI c).2
  refine pk_loop (σ := Unit) (fun n i _ => wL_lawOf_297 (fun r _ => r = 1) mc ms a b c (nI o) (nI w) kc ks (nI 3) (nI m) (nI 2) (nI 3) lw rg he hc ba wr cd ra ml md a1 a2 a3 a4 n (nI i)) (fun _ _ => True) 8 0 () (by omega) trivial ?_ ?_
  · intro n _ _
    refine pk_le 8 8 (fun _ => ?_) (fun z => absurd z (by omega))
    refine sq_receive (f := 2) (c := 3) (by omega) (by omega) (by omega) (by omega) B2 (fun rg1 ba1 cd1 ra1 a21 a41 p1 => br_t rfl ?_)
    refine sq_at_no (p := 0) (by omega) (by omega) (br_t rfl (br_t rfl ?_))
    refine sq_receive (f := 3) (c := 2) (by omega) (by omega) (by omega) (by omega) B3 (fun rg2 ba2 cd2 ra2 a22 a42 p2 => br_t (nI_add 1 w).symm (br_t rfl ?_))
    refine sq_at (p := 0) p2 (by omega) (by omega) (br_t (by rw [ec, g3 0 (by omega)]) ?_)
    refine sq_at p2 (by omega) (by omega) (br_t (by rw [ec, g3 w (by omega)]) ?_)
    rw [nI_1]
    refine sq_at_no (by omega) (by omega) (br_t rfl ?_)
    refine sq_find_at (by omega) (by omega) (by rw [ec, p2 w (by omega), g3 w (by omega)]) (br_t rfl ?_)
    refine sq_find_no (by omega) (fun k hk => ?_) (br_t rfl ?_)
    · rw [p2 k hk, g3 k hk, (sq_by_nI (c + 1)).2]
      have q1 := (sq_by_nI (c + 1)).1
      have q2 := (sq_by_nI c).1
      rw [nI_eq (by omega) (by omega)]
      exact fun z => sq_by_inc c z.symm
    refine sq_put (n := 3) (by omega) hd (fun a13 hd3 => br_t rfl ?_)
    refine sq_receive (f := 0) (c := 1) (by omega) (by omega) (by omega) (by omega) B0 (fun rg4 ba4 cd4 ra4 a24 a44 p4 => br_t rfl ?_)
    refine sq_receive_no (br_t rfl ?_)
    refine sq_at (p := 2) p4 (by omega) (by omega) (br_t (by rw [ec, g02]) (br_t rfl ?_))
    refine sq_send (f := 1) (c := 0) (by omega) hd3 (by omega) (by omega) (fun lw5 rg5 he5 hc5 ba5 wr5 ml5 md5 a35 a45 B5 _ => br_t rfl ?_)
    refine sq_receive (f := 1) (c := 1) (by omega) (by omega) (by omega) (by omega) B5 (fun rg6 ba6 cd6 ra6 a26 a46 p6 => br_t rfl ?_)
    refine sq_at (p := 3) p6 (by omega) (by omega) (br_t (by rw [eb]; rfl) ?_)
    refine sq_at (p := 0) p6 (by omega) (by omega) (br_t (by rw [ea, ← g0]; rfl) rfl)
  · intro n i _ hi _ hW
    have hJ := hW () trivial
    have e3 : nI i - nI i / 3 * 3 = nI (i % 3) := pk_rem (d := 3) (by omega) (by omega) (by omega)
    have main : ∀ z : Int32, (i < o → z &&& 255 = nI (d1 (3 + i))) → wL_lawOf_328 (fun r _ => r = 1) mc ms (wL_lawOf_297 (fun r _ => r = 1) mc ms a b c (nI o) (nI w) kc ks (nI 3) (nI m) (nI 2) (nI 3) lw rg he hc ba wr cd ra ml md a1 a2 a3 a4 n) a b c (nI o) (nI w) (nI i) z kc ks (nI 3) (nI m) (nI 2) (nI 3) lw rg he hc ba wr cd ra ml md a1 a2 a3 a4 := by
      intro z hz
      refine pk_le o i (fun _ => nm_r (nI_1 i) hJ) (fun y => ?_)
      have e : 3 + nI i = nI (3 + i) := nI_add 3 i
      rw [e]
      exact sq_at h2 (by omega) (by omega) (br_t (hz y).symm (nm_r (nI_1 i) hJ))
    refine pk_le 8 i (fun z => absurd z (by omega)) (fun _ => ⟨by decide, ?_⟩)
    refine pk_eq (i % 3) 0 (fun z => main a (fun y => ?_)) (fun z => ⟨by decide, pk_eq (i % 3) 1 (fun z1 => main b (fun y => ?_)) (fun z1 => main c (fun y => ?_)) e3⟩) e3
    · rw [ea, g1 i y, sq_abc, if_pos z]
    · rw [eb, g1 i y, sq_abc, if_neg z, if_pos z1]
    · rw [ec, g1 i y, sq_abc, if_neg z, if_neg z1]
end
end
section
theorem sq_d1 {d d0 : Nat → Nat} {x y z o : Nat} (h0 : d0 0 = x) (h1 : d0 1 = y) (h2 : d0 2 = z) (e1 : ∀ k, k < 3 → d k = d0 k) (e2 : ∀ k, 3 ≤ k → k < 3 + o → d k = d (k - 3)) : ∀ n k, k ≤ n → k < 3 + o → d k = sq_abc x y z k := by
  intro n
  induction n with
  | zero =>
    intro k hk _
    rw [show k = 0 by omega, e1 0 (by omega), h0]
    rfl
  | succ n ih =>
    intro k hk hk2
    by_cases h : k < 3
    · rw [e1 k h]
      rcases (show k = 0 ∨ k = 1 ∨ k = 2 by omega) with e | e | e
      · rw [e, h0]; rfl
      · rw [e, h1]; rfl
      · rw [e, h2]; rfl
    · rw [e2 k (by omega) hk2, ih (k - 3) (by omega) (by omega)]
      unfold sq_abc
      rw [show (k - 3) % 3 = k % 3 by omega]
theorem sq_d3 {d d0 : Nat → Nat} {x w : Nat} (h0 : d0 0 = x) (e1 : ∀ k, k < 1 → d k = d0 k) (e2 : ∀ k, 1 ≤ k → k < 1 + w → d k = d (k - 1)) : ∀ k, k < 1 + w → d k = x := by
  intro k
  induction k with
  | zero => intro _; rw [e1 0 (by omega), h0]
  | succ k ih =>
    intro hk
    rw [e2 (k + 1) (by omega) hk]
    exact ih (by omega)
section
variable {he hc ba wr ra ml md : Int32} {lw rg cd : Int64} {a1 a2 a3 a4 : Nat → Int32}
theorem sq_erase {post : St2 → Prop} {dl pl fi co : Int32} (H : post (nI 0, pl, fi, co, lw, rg, he, hc, ba, wr, cd, ra, ml, md, a1, a2, a3, a4)) :
    wpX_erase post (dl, pl, fi, co, lw, rg, he, hc, ba, wr, cd, ra, ml, md, a1, a2, a3, a4) := H
theorem sq_law29 {a b c : Int32} {mc ms kc ks o w : Nat} (ho1 : 1 ≤ o) (ho : o ≤ 8) (hw1 : 1 ≤ w) (hw : w ≤ 32) :
    ∃ fu, wL_lawOf_29 (fun r _ => r = 1) mc ms a b c (nI o) (nI w) kc ks fu 0 (nI 0) (nI 0) (nI 0) (nI 0) lw rg he hc ba wr cd ra ml md a1 a2 a3 a4 := by
  have ea : a &&& 255 = nI (sq_by a) := (sq_by_nI a).2
  have eb : b &&& 255 = nI (sq_by b) := (sq_by_nI b).2
  have ec : c &&& 255 = nI (sq_by c) := (sq_by_nI c).2
  have dz : ∀ (f : Nat → Int32) (d : Nat → Nat), sq_dr f d 0 := fun f d k hk => absurd hk (by omega)
  refine ⟨4, pk_le 3 0 (fun z => absurd z (by omega)) (fun _ => br_t rfl ?_)⟩
  refine sq_put (n := 0) (by omega) (dz _ (fun _ => 0)) (fun a1a ha => nm_r (nI_1 0) ?_)
  refine pk_le 3 1 (fun z => absurd z (by omega)) (fun _ => br_f (by decide) (br_t rfl ?_))
  refine sq_put (n := 1) (by omega) ha (fun a1b hb => nm_r (nI_1 1) ?_)
  refine pk_le 3 2 (fun z => absurd z (by omega)) (fun _ => br_f (by decide) (br_f (by decide) ?_))
  refine sq_put (n := 2) (by omega) hb (fun a1c hd0 => nm_r (nI_1 2) ?_)
  refine pk_le 3 3 (fun _ => ?_) (fun z => absurd z (by omega))
  generalize hD0 : sq_up (sq_up (sq_up (fun _ => 0) 0 (sq_by a)) 1 (sq_by b)) 2 (sq_by c) = d0 at hd0
  have g00 : d0 0 = sq_by a := by rw [← hD0]; rfl
  have g01 : d0 1 = sq_by b := by rw [← hD0]; rfl
  have g02 : d0 2 = sq_by c := by rw [← hD0]; rfl
  refine sq_send (n := 3) (f := 0) (c := 0) (by omega) hd0 (by omega) (by omega) (fun lw1 rg1 he1 hc1 ba1 wr1 ml1 md1 a31 a41 B0 _ => br_t rfl ?_)
  refine sq_repeat (n := 3) (x := 3) hd0 (by omega) (by omega) ho1 (by omega) (fun a1d d1' k1 k2 hd1' => br_t (nI_add 3 o).symm ?_)
  have G1 := sq_d1 g00 g01 g02 k1 k2
  refine sq_put (by omega) hd1' (fun a1e hd1 => br_t ?_ ?_)
  · rw [show 3 + o + 1 = 4 + o by omega]
    exact (nI_add 4 o).symm
  refine sq_send (f := 0) (c := 1) (by omega) hd1 (by omega) (by omega) (fun lw2 rg2 he2 hc2 ba2 wr2 ml2 md2 a32 a42 B1 F1 => br_t rfl ?_)
  have B0 := F1 0 _ _ (by omega) (by omega) B0
  refine sq_erase ?_
  refine sq_send (n := 0) (f := 0) (c := 2) (by omega) (dz _ (fun _ => 0)) (by omega) (by omega) (fun lw3 rg3 he3 hc3 ba3 wr3 ml3 md3 a33 a43 B2 F2 => br_t rfl ?_)
  have B0 := F2 0 _ _ (by omega) (by omega) B0
  have B1 := F2 1 _ _ (by omega) (by omega) B1
  refine sq_put (n := 0) (by omega) (dz _ (fun _ => 0)) (fun a1f hf => br_t rfl ?_)
  refine sq_repeat (n := 1) (x := 1) hf (by omega) (by omega) hw1 (by omega) (fun a1g d3 k3 k4 hd3 => br_t (nI_add 1 w).symm ?_)
  have G3 := sq_d3 (x := sq_by c) rfl k3 k4
  refine sq_send (f := 0) (c := 3) (by omega) hd3 (by omega) (by omega) (fun lw4 rg4 he4 hc4 ba4 wr4 ml4 md4 a34 a44 B3 F3 => br_t rfl ?_)
  have B0 := F3 0 _ _ (by omega) (by omega) B0
  have B1 := F3 1 _ _ (by omega) (by omega) B1
  have B2 := F3 2 _ _ (by omega) (by omega) B2
  refine sq_send_no (br_t rfl ?_)
  refine sq_receive (f := 0) (c := 4) (by omega) (by omega) (by omega) (by omega) B0 (fun rg5 ba5 cd5 ra5 a25 a45 p5 => br_t rfl ?_)
  refine sq_at (p := 0) p5 (by omega) (by omega) (br_t (by rw [ea, g00]) ?_)
  refine sq_at (p := 1) p5 (by omega) (by omega) (br_t (by rw [eb, g01]) ?_)
  refine sq_at (p := 2) p5 (by omega) (by omega) (br_t (by rw [ec, g02]) ?_)
  refine sq_at_no (p := 3) (by omega) (by omega) (br_t rfl ?_)
  refine sq_edit (by omega) p5 (fun k hk => (hd0 k hk).2) (fun a1h hd5 => ?_)
  refine sq_send (n := 3) (f := 1) (c := 3) (by omega) hd5 (by omega) (by omega) (fun lw6 rg6 he6 hc6 ba6 wr6 ml6 md6 a36 a46 B4 F4 => br_t rfl ?_)
  have B1 := F4 1 _ _ (by omega) (by omega) B1
  have B2 := F4 2 _ _ (by omega) (by omega) B2
  have B3 := F4 3 _ _ (by omega) (by omega) B3
  have em : 4 + nI o = nI (3 + o + 1) := by
    rw [show 3 + o + 1 = 4 + o by omega]
    exact nI_add 4 o
  have e3 : 3 + nI o = nI (3 + o) := nI_add 3 o
  refine sq_receive (f := 1) (c := 4) (by omega) (by omega) (by omega) (by omega) B1 (fun rg7 ba7 cd7 ra7 a27 a47 p7 => br_t em.symm (br_t em.symm ?_))
  rw [e3]
  refine sq_at p7 (by omega) (by omega) (br_t ?_ ?_)
  · rw [eb]
    unfold sq_up
    rw [if_pos rfl]
  · refine sq_law297 (d1 := sq_up d1' (3 + o) (sq_by b)) (by omega) ho hw1 hw g00 g02 (fun i hi => ?_) G3 hd5 p7 B4 B2 B3
    unfold sq_up
    rw [if_neg (by omega), G1 (3 + i) (3 + i) (by omega) (by omega)]
    unfold sq_abc
    rw [show (3 + i) % 3 = i % 3 by omega]
end
theorem sq_cell {post : Int32 → Prop} {L : Nat} {xs : Nat → Int32} (hL : L ≤ 5) (k : Nat) (hk : k < 5) (H : ∀ r, post r) : wpL_cellAt post L xs () (nI k) :=
  pk_le L k (fun _ => H 0) (fun z => ⟨pk_in k L z, H _⟩)
theorem sq_lawOf (a b c x y : Int32) : wpL_lawOf (fun r _ => r = 1) 5 1916 () a b c x y := by
  obtain ⟨j, hj, e1⟩ := pk_andE x (m := 7) 3 (by decide)
  obtain ⟨k, hk, e2⟩ := pk_andE y (m := 31) 5 (by decide)
  have f1 : 1 + (x &&& 7) = nI (1 + j) := by rw [e1]; exact nI_add 1 j
  have f2 : 1 + (y &&& 31) = nI (1 + k) := by rw [e2]; exact nI_add 1 k
  refine ⟨by omega, by omega, 4, 1898, by omega, by omega, ?_⟩
  refine ⟨by omega, by omega, by omega, by omega, by omega, by omega, by omega, by omega, nm_r f1 (nm_r f2 ?_)⟩
  exact sq_law29 (by omega) (by omega) (by omega) (by omega)
theorem i_vc (xs : Nat → Int32) (L : Nat) (hL : L ≤ 5) : wpL_law (fun r => r = 1) L xs :=
  sq_cell hL 0 (by omega) (fun r1 => sq_cell hL 1 (by omega) (fun r2 => sq_cell hL 2 (by omega) (fun r3 => sq_cell hL 3 (by omega) (fun r4 => sq_cell hL 4 (by omega) (fun r5 => ⟨5, 1916, by omega, by omega, sq_lawOf r1 r2 r3 r4 r5⟩)))))
end
