section
/-! ===== rows of kit/laws/BITS.to-paste: nI and lN under and, xor, shifts ===== -/
theorem nx_and (a b : Nat) : nI a &&& nI b = nI (a &&& b) := by
  apply Int32.toBitVec_inj.1
  show BitVec.ofNat 32 a &&& BitVec.ofNat 32 b = BitVec.ofNat 32 (a &&& b)
  apply BitVec.eq_of_getLsbD_eq
  intro i hi
  simp [hi]
theorem nx_xor (a b : Nat) : nI a ^^^ nI b = nI (a ^^^ b) := by
  apply Int32.toBitVec_inj.1
  show BitVec.ofNat 32 a ^^^ BitVec.ofNat 32 b = BitVec.ofNat 32 (a ^^^ b)
  apply BitVec.eq_of_getLsbD_eq
  intro i hi
  simp [hi]
theorem wb_tb (n : Nat) : (lN n).toBitVec = BitVec.ofNat 64 n := rfl
theorem wb_inj {a b : Int64} (h : a.toBitVec = b.toBitVec) : a = b := Int64.toBitVec_inj.mp h
theorem wb_tn {n : Nat} (h : n < 2 ^ 64) : (lN n).toBitVec.toNat = n := by rw [wb_tb, BitVec.toNat_ofNat, Nat.mod_eq_of_lt h]
theorem wb_of (x : Int64) : ∃ n, n < 2 ^ 64 ∧ x = lN n := ⟨x.toBitVec.toNat, x.toBitVec.isLt, wb_inj (by rw [wb_tb]; simp)⟩
theorem wb_of32 (x : Int32) : ∃ n, n < 2 ^ 32 ∧ x = nI n := ⟨x.toBitVec.toNat, x.toBitVec.isLt, Int32.toBitVec_inj.mp (by show _ = BitVec.ofNat 32 _; simp)⟩
theorem wb_c : ∀ k, k < 64 → ((nI k).toInt64 &&& 63) = lN k := by decide +kernel
theorem wb_cu : ∀ k, k < 64 → ((nI k).toInt64.toUInt64 &&& Int64.toUInt64 63) = UInt64.ofNat k := by decide +kernel
theorem wb_sm : ∀ k, k < 64 → (BitVec.ofNat 64 k).smod 64 = BitVec.ofNat 64 k := by decide +kernel
theorem wb_lt2 {a b : Nat} (h : a < b) : 2 ^ a < 2 ^ b := Nat.pow_lt_pow_right (by decide) h
theorem wb_shr {n k : Nat} (hn : n < 2 ^ 64) (hk : k < 64) : ((lN n).toUInt64 >>> ((nI k).toInt64.toUInt64 &&& Int64.toUInt64 63)).toInt64 = lN (n / 2 ^ k) := by
  rw [wb_cu k hk]
  apply wb_inj
  apply BitVec.eq_of_toNat_eq
  show ((lN n).toUInt64 >>> UInt64.ofNat k).toNat = (BitVec.ofNat 64 _).toNat
  have h1 : (UInt64.ofNat k).toNat = k := by
    show (BitVec.ofNat 64 k).toNat = k
    rw [BitVec.toNat_ofNat, Nat.mod_eq_of_lt (by omega)]
  have h2 : (lN n).toUInt64.toNat = n := wb_tn hn
  rw [UInt64.toNat_shiftRight, h1, h2, Nat.mod_eq_of_lt hk, Nat.shiftRight_eq_div_pow, BitVec.toNat_ofNat, Nat.mod_eq_of_lt (Nat.lt_of_le_of_lt (Nat.div_le_self _ _) hn)]
theorem wb_shl (n : Nat) {k : Nat} (hk : k < 64) : lN n <<< ((nI k).toInt64 &&& 63) = lN (n * 2 ^ k) := by
  rw [wb_c k hk]
  apply wb_inj
  rw [Int64.toBitVec_shiftLeft, wb_tb, wb_tb, wb_tb, wb_sm k hk]
  apply BitVec.eq_of_toNat_eq
  rw [BitVec.shiftLeft_eq', BitVec.toNat_shiftLeft, BitVec.toNat_ofNat, BitVec.toNat_ofNat, BitVec.toNat_ofNat, Nat.mod_eq_of_lt (show k < 2 ^ 64 by omega), Nat.shiftLeft_eq, Nat.mul_mod, Nat.mod_mod, ← Nat.mul_mod]
theorem wb_and {a b : Nat} (ha : a < 2 ^ 64) (hb : b < 2 ^ 64) : lN a &&& lN b = lN (a &&& b) := by
  apply wb_inj
  rw [Int64.toBitVec_and, wb_tb, wb_tb, wb_tb]
  apply BitVec.eq_of_toNat_eq
  rw [BitVec.toNat_and, BitVec.toNat_ofNat, BitVec.toNat_ofNat, BitVec.toNat_ofNat, Nat.mod_eq_of_lt ha, Nat.mod_eq_of_lt hb, Nat.mod_eq_of_lt (Nat.and_lt_two_pow _ hb)]
theorem wb_mask {n k : Nat} (hn : n < 2 ^ 64) (hk : k < 64) : lN n &&& lN (2 ^ k - 1) = lN (n % 2 ^ k) := by
  rw [wb_and hn (by have := wb_lt2 hk; omega), Nat.and_two_pow_sub_one_eq_mod]
/-! ===== my own: one bit of an int ===== -/
theorem wn_sm : ∀ k, k < 32 → ((nI k &&& 31).toBitVec.smod 32).toNat = k := by decide +kernel
theorem wn_and1 (n : Nat) : nI n &&& 1 = nI (n % 2) := by
  show nI n &&& nI 1 = _
  rw [nx_and, Nat.and_one_is_mod]
theorem wn_bitI {n k : Nat} (hn : n < 2 ^ 31) (hk : k < 32) : (nI n >>> (nI k &&& 31)) &&& 1 = nI (n / 2 ^ k % 2) := by
  rw [pk_shrN hn _ k (wn_sm k hk), wn_and1]
theorem wn_bitL {n k : Nat} (hn : n < 2 ^ 64) (hk : k < 64) : (((lN n).toUInt64 >>> ((nI k).toInt64.toUInt64 &&& Int64.toUInt64 63)).toInt64).toInt32 &&& 1 = nI (n / 2 ^ k % 2) := by
  rw [wb_shr hn hk, lN_i, wn_and1]
theorem wn_m15 (n : Nat) : nI n &&& 32767 = nI (n % 32768) := by
  show nI n &&& nI 32767 = _
  rw [nx_and, show (32767 : Nat) = 2 ^ 15 - 1 from rfl, Nat.and_two_pow_sub_one_eq_mod]
/-! ===== the pure picture of a frame ===== -/
/-- the plain bit k of the frame F = (id, length, data); c: the check number -/
def wn_pb (F : Nat × Nat × Nat) (k c : Nat) : Nat :=
  if k < 1 then 0 else if k < 12 then F.1 / 2 ^ (11 - k) % 2 else if k < 15 then 0 else if k < 19 then F.2.1 / 2 ^ (18 - k) % 2
  else if k < 19 + 8 * F.2.1 then F.2.2 / 2 ^ (18 + 8 * F.2.1 - k) % 2 else c / 2 ^ (33 + 8 * F.2.1 - k) % 2
def wn_crc (c b : Nat) : Nat := (2 * c % 32768) ^^^ (if b ^^^ (c / 2 ^ 14 % 2) = 1 then 17817 else 0)
/-- what a listener is at: plain bits, last bit (2: none), how often in a row, check number -/
abbrev wn_S : Type := Nat × Nat × Nat × Nat
def wn_ob (F : Nat × Nat × Nat) (s : wn_S) : Nat := if s.2.2.1 = 5 then 1 - s.2.1 else wn_pb F s.1 s.2.2.2
def wn_nx (F : Nat × Nat × Nat) (s : wn_S) : wn_S :=
  if s.2.2.1 = 5 then (s.1, 1 - s.2.1, 1, s.2.2.2)
  else (s.1 + 1, wn_pb F s.1 s.2.2.2, (if wn_pb F s.1 s.2.2.2 = s.2.1 then s.2.2.1 + 1 else 1), (if s.1 < 19 + 8 * F.2.1 then wn_crc s.2.2.2 (wn_pb F s.1 s.2.2.2) else s.2.2.2))
def wn_at (F : Nat × Nat × Nat) : Nat → wn_S
  | 0 => (0, 2, 0, 0)
  | t + 1 => wn_nx F (wn_at F t)
def wn_K (F : Nat × Nat × Nat) : Nat := 34 + 8 * F.2.1
def wn_J (t : Nat) (s : wn_S) : Prop := s.2.2.1 ≤ 5 ∧ s.2.1 ≤ 2 ∧ (1 ≤ s.2.2.1 → s.2.1 ≤ 1) ∧ s.2.2.2 < 32768 ∧ 4 * t + s.2.2.1 ≤ 5 * s.1 ∧ s.1 ≤ t
theorem wn_pb_le (F : Nat × Nat × Nat) (k c : Nat) : wn_pb F k c ≤ 1 := by
  unfold wn_pb
  repeat' split
  all_goals omega
theorem wn_crc_lt (c b : Nat) : wn_crc c b < 32768 := by
  unfold wn_crc
  refine Nat.xor_lt_two_pow (n := 15) (by omega) ?_
  split <;> omega
theorem wn_J_nx {F : Nat × Nat × Nat} {t : Nat} {s : wn_S} (h : wn_J t s) : wn_J (t + 1) (wn_nx F s) := by
  obtain ⟨k, l, r, c⟩ := s
  obtain ⟨h1, h2, h3, h4, h5, h6⟩ := h
  dsimp only at h1 h2 h3 h4 h5 h6
  have hb := wn_pb_le F k c
  have hc := wn_crc_lt c (wn_pb F k c)
  unfold wn_nx wn_J
  dsimp only
  by_cases e : r = 5
  · rw [if_pos e]
    dsimp only
    refine ⟨by omega, by omega, fun _ => by omega, h4, by omega, by omega⟩
  · rw [if_neg e]
    dsimp only
    have hq : (if k < 19 + 8 * F.2.1 then wn_crc c (wn_pb F k c) else c) < 32768 := by split <;> assumption
    refine ⟨?_, by omega, fun _ => hb, hq, ?_, by omega⟩
    · split <;> omega
    · split <;> omega
theorem wn_J_0 : wn_J 0 (0, 2, 0, 0) := ⟨by decide, by decide, fun z => absurd z (by decide), by decide, by decide, by decide⟩
theorem wn_J_at (F : Nat × Nat × Nat) : ∀ t, wn_J t (wn_at F t)
  | 0 => wn_J_0
  | t + 1 => wn_J_nx (wn_J_at F t)
theorem wn_k_nx (F : Nat × Nat × Nat) (s : wn_S) : s.1 ≤ (wn_nx F s).1 ∧ (wn_nx F s).1 ≤ s.1 + 1 := by
  unfold wn_nx
  split
  · exact ⟨Nat.le_refl _, Nat.le_succ _⟩
  · exact ⟨Nat.le_succ _, Nat.le_refl _⟩
/-- N bits of the wire are the frame up to its tail -/
def wn_Len (F : Nat × Nat × Nat) (N : Nat) : Prop := (wn_at F N).1 = wn_K F ∧ ∀ t, t < N → (wn_at F t).1 < wn_K F
theorem wn_Len_ex (F : Nat × Nat × Nat) (hl : F.2.1 ≤ 8) : ∃ N, wn_Len F N := by
  have hx : ∃ t, wn_K F ≤ (wn_at F t).1 := by
    refine ⟨130, ?_⟩
    have := (wn_J_at F 130).2.2.2.2.1
    unfold wn_K
    omega
  obtain ⟨N, h1, h2⟩ := pk_least (fun t => wn_K F ≤ (wn_at F t).1) hx
  refine ⟨N, ?_, fun t ht => Nat.lt_of_not_le (h2 t ht)⟩
  cases N with
  | zero =>
    have : (wn_at F 0).1 = 0 := rfl
    unfold wn_K at h1
    omega
  | succ N =>
    have a := h2 N (Nat.lt_succ_self N)
    have b := (wn_k_nx F (wn_at F N)).2
    have e : wn_at F (N + 1) = wn_nx F (wn_at F N) := rfl
    rw [e] at h1 ⊢
    omega
theorem wn_Len_bd {F : Nat × Nat × Nat} {N : Nat} (hl : F.2.1 ≤ 8) (h : wn_Len F N) : 34 ≤ N ∧ N ≤ 122 := by
  have a := (wn_J_at F N).2.2.2.2
  have b := h.1
  unfold wn_K at b
  omega
theorem wn_Len_un {F : Nat × Nat × Nat} {N M : Nat} (h : wn_Len F N) (h1 : (wn_at F M).1 = wn_K F) (h2 : ∀ t, t < M → (wn_at F t).1 < wn_K F) : M = N := by
  rcases Nat.lt_trichotomy M N with z | z | z
  · have := h.2 M z
    omega
  · exact z
  · have := h2 N z
    have := h.1
    omega
/-- the last bit as an int -/
def wn_l (l : Nat) : Int32 := if l = 2 then -1 else nI l
theorem wn_l_eq {b l : Nat} (hb : b ≤ 1) (hl : l ≤ 2) : nI b = wn_l l ↔ b = l :=
  (by decide +kernel : ∀ b, b < 2 → ∀ l, l < 3 → (nI b = wn_l l ↔ b = l)) b (by omega) l (by omega)
theorem wn_l_sub {l : Nat} (hl : l ≤ 1) : 1 - wn_l l = nI (1 - l) := (by decide +kernel : ∀ l, l < 2 → 1 - wn_l l = nI (1 - l)) l (by omega)
theorem wn_l_b {l : Nat} (hl : l ≤ 1) : wn_l l = nI l := (by decide +kernel : ∀ l, l < 2 → wn_l l = nI l) l (by omega)
theorem wn_half (x m : Nat) : 2 * (x / 2 ^ (m + 1)) + x / 2 ^ m % 2 = x / 2 ^ m := by
  rw [Nat.pow_succ, ← Nat.div_div_eq_div_mul]
  omega
/-- the check number's step, as both sides compute it -/
theorem wn_crcI {c b : Nat} (hc : c < 32768) : nI b ^^^ ((nI c >>> ((14 : Int32) &&& 31)) &&& 1) = nI (b ^^^ (c / 2 ^ 14 % 2)) := by
  rw [show (14 : Int32) = nI 14 from rfl, wn_bitI (by omega) (by decide), nx_xor]
theorem wn_xle {b c : Nat} (hb : b ≤ 1) : b ^^^ (c / 2 ^ 14 % 2) < 2 := by
  refine Nat.xor_lt_two_pow (n := 1) (by omega) (by omega)
end
section
/-! ===== the law's own bits ===== -/
theorem wn_crc1 {c b : Nat} (e : b ^^^ (c / 2 ^ 14 % 2) = 1) : (nI (2 * c) &&& 32767) ^^^ 17817 = nI (wn_crc c b) := by
  unfold wn_crc
  rw [if_pos e, wn_m15]
  exact nx_xor _ 17817
theorem wn_crc0 {c b : Nat} (e : ¬ b ^^^ (c / 2 ^ 14 % 2) = 1) : (nI (2 * c) &&& 32767) ^^^ 0 = nI (wn_crc c b) := by
  unfold wn_crc
  rw [if_neg e, wn_m15]
  exact nx_xor _ 0
theorem wn_shl1 {c : Nat} (hc : c < 32768) : nI c <<< ((1 : Int32) &&& 31) = nI (2 * c) := by
  rw [pk_shlN ((1 : Int32) &&& 31) 1 (by decide) (by omega), Nat.pow_one, Nat.mul_comm]
theorem wn_two (c : Nat) : 2 * nI c = nI (2 * c) := pk_mul 2 c
section
variable {post : Int32 → Prop} {J : Int32 → Int32 → Int32 → Int32 → Int32 → Int32 → Prop} {x0 x1 x4 : Int32} {x2 : Int64} {x9 x10 : Int32}
theorem wn_b224 {x5 x8 x11 x12 z0 : Int32} (H : ∀ y, J (x5 + 1) x12 z0 x8 y (x11 + 1)) : wL_bits_224 post J x0 x1 x2 x4 x5 x8 x9 x10 x11 x12 z0 :=
  nm_e (br_c (fun _ => nm_e (H _)) (fun _ => nm_e (H _)))
theorem wn_b209 {x8 : Int32} {t l r k b : Nat} (hb : b ≤ 1) (hl : l ≤ 2) (H : ∀ y, J (nI (t + 1)) (nI b) (nI (if b = l then r + 1 else 1)) x8 y (nI (k + 1))) : wL_bits_209 post J x0 x1 x2 x4 (nI t) (wn_l l) (nI r) x8 x9 x10 (nI k) (nI b) := by
  refine ek_if (wn_l_eq hb hl) (fun e => wn_b224 (fun y => ?_)) (fun e => wn_b224 (fun y => ?_))
  · have h := H y
    rw [if_pos e] at h
    rw [nI_1, nI_1, nI_1]
    exact h
  · have h := H y
    rw [if_neg e] at h
    rw [nI_1, nI_1]
    exact h
theorem wn_b191 {x8 : Int32} {t l r k b : Nat} (hb : b ≤ 1) (hl : l ≤ 2) (hr : r ≤ 5) (hr5 : r = 5 → l ≤ 1)
    (H : ∀ y, J (nI (if r = 5 then t + 2 else t + 1)) (nI b) (nI (if r = 5 then (if b = 1 - l then 2 else 1) else (if b = l then r + 1 else 1))) x8 y (nI (k + 1))) :
    wL_bits_191 post J x0 x1 x2 x4 (nI t) (wn_l l) (nI r) x8 x9 x10 (nI k) (nI b) := by
  refine pk_eq r 5 (fun e => ?_) (fun e => ?_)
  · have e1 : 1 - wn_l l = wn_l (1 - l) := by rw [wn_l_sub (hr5 e), wn_l_b (by omega)]
    refine nm_r e1 (nm_r (nI_1 t) (wn_b209 (r := 1) hb (by omega) (fun y => ?_)))
    have h := H y
    rw [if_pos e, if_pos e] at h
    exact h
  · refine wn_b209 hb hl (fun y => ?_)
    have h := H y
    rw [if_neg e, if_neg e] at h
    exact h
theorem wn_b148 {t l r c k b p : Nat} (hb : b ≤ 1) (hl : l ≤ 2) (hr : r ≤ 5) (hr5 : r = 5 → l ≤ 1) (hc : c < 32768) (hk : k < 1000) (hp : p < 1000)
    (H : ∀ y, J (nI (if r = 5 then t + 2 else t + 1)) (nI b) (nI (if r = 5 then (if b = 1 - l then 2 else 1) else (if b = l then r + 1 else 1))) (nI (if k < p then wn_crc c b else c)) y (nI (k + 1))) :
    wL_bits_148 post J x0 x1 x2 x4 (nI t) (wn_l l) (nI r) (nI c) x9 (nI p) (nI k) (nI b) := by
  refine pk_le p k (fun z => wn_b191 hb hl hr hr5 (fun y => ?_)) (fun z => nm_r (wn_crcI hc) ?_)
  · have h := H y
    rw [if_neg (Nat.not_lt.mpr z)] at h
    exact h
  · have hx := wn_xle (c := c) hb
    rw [wn_shl1 hc]
    refine pk_eq (b ^^^ (c / 2 ^ 14 % 2)) 1 (fun e => nm_r (wn_crc1 e) (wn_b191 hb hl hr hr5 (fun y => ?_))) (fun e => nm_r (wn_crc0 e) (wn_b191 hb hl hr hr5 (fun y => ?_)))
    · have h := H y
      rw [if_pos z] at h
      exact h
    · have h := H y
      rw [if_pos z] at h
      exact h
/-- from the loop's head to the bit -/
theorem wn_bcas {x5 x6 x7 : Int32} {F : Nat × Nat × Nat} {k c : Nat} (h0 : F.1 < 2048) (h1 : F.2.1 ≤ 8) (h2 : F.2.2 < 2 ^ 64) (hk : k < wn_K F) (hc : c < 32768)
    (H : wL_bits_148 post J (nI F.1) (nI F.2.1) (lN F.2.2) x4 x5 x6 x7 (nI c) x9 (nI (19 + 8 * F.2.1)) (nI k) (nI (wn_pb F k c))) :
    ((nI k < 1 → (wL_bits_67 post J (nI F.1) (nI F.2.1) (lN F.2.2) x4 x5 x6 x7 (nI c) x9 (nI (19 + 8 * F.2.1)) (nI k) 0)) ∧ (¬ nI k < 1 → (((12 ≤ nI k → (wL_bits_67 post J (nI F.1) (nI F.2.1) (lN F.2.2) x4 x5 x6 x7 (nI c) x9 (nI (19 + 8 * F.2.1)) (nI k) 0)) ∧ (¬ 12 ≤ nI k → (∀ x12_26 : Int32, x12_26 = (nI F.1 >>> ((11 - nI k) &&& 31)) &&& 1 → (wL_bits_148 post J (nI F.1) (nI F.2.1) (lN F.2.2) x4 x5 x6 x7 (nI c) x9 (nI (19 + 8 * F.2.1)) (nI k) x12_26))))))) := by
  unfold wn_K at hk
  have z67 : ((k < 1 ∨ 12 ≤ k) → wL_bits_67 post J (nI F.1) (nI F.2.1) (lN F.2.2) x4 x5 x6 x7 (nI c) x9 (nI (19 + 8 * F.2.1)) (nI k) 0) := by
    intro ho
    have z95 : ((k < 15 ∨ 19 ≤ k) → wL_bits_95 post J (nI F.1) (nI F.2.1) (lN F.2.2) x4 x5 x6 x7 (nI c) x9 (nI (19 + 8 * F.2.1)) (nI k) 0) := by
      intro ho2
      have z126 : ((k < 19 ∨ 19 + 8 * F.2.1 ≤ k) → wL_bits_126 post J (nI F.1) (nI F.2.1) (lN F.2.2) x4 x5 x6 x7 (nI c) x9 (nI (19 + 8 * F.2.1)) (nI k) 0) := by
        intro ho3
        refine pk_lt k (19 + 8 * F.2.1) (fun z => ?_) (fun z => ?_)
        · have e : wn_pb F k c = 0 := by
            unfold wn_pb
            rcases ho with ho | ho
            · rw [if_pos ho]
            · rw [if_neg (by omega), if_neg (by omega), if_pos (by omega)]
          rw [e] at H
          exact H
        · have e : wn_pb F k c = c / 2 ^ (33 + 8 * F.2.1 - k) % 2 := by
            unfold wn_pb
            rw [if_neg (by omega), if_neg (by omega), if_neg (by omega), if_neg (by omega), if_neg (by omega)]
          rw [e] at H
          refine nm_r ?_ H
          have e2 : (nI (19 + 8 * F.2.1) + 14) - nI k = nI (33 + 8 * F.2.1 - k) := by
            rw [show nI (19 + 8 * F.2.1) + 14 = nI (19 + 8 * F.2.1 + 14) from nI_add _ 14, pk_sub (by omega)]
            congr 1
            omega
          rw [e2]
          exact wn_bitI (by omega) (by omega)
      refine pk_lt k 19 (fun z => z126 (Or.inl z)) (fun z => pk_le (19 + 8 * F.2.1) k (fun z2 => z126 (Or.inr z2)) (fun z2 => ?_))
      have e : wn_pb F k c = F.2.2 / 2 ^ (18 + 8 * F.2.1 - k) % 2 := by
        unfold wn_pb
        rw [if_neg (by omega), if_neg (by omega), if_neg (by omega), if_neg (by omega), if_pos (by omega)]
      rw [e] at H
      refine nm_r ?_ H
      have e2 : (nI (19 + 8 * F.2.1) - 1) - nI k = nI (18 + 8 * F.2.1 - k) := by
        rw [show nI (19 + 8 * F.2.1) - 1 = nI (19 + 8 * F.2.1 - 1) from pk_sub (b := 1) (by omega), pk_sub (by omega)]
        congr 1
        omega
      rw [e2]
      exact wn_bitL h2 (by omega)
    refine pk_lt k 15 (fun z => z95 (Or.inl z)) (fun z => pk_le 19 k (fun z2 => z95 (Or.inr z2)) (fun z2 => ?_))
    have e : wn_pb F k c = F.2.1 / 2 ^ (18 - k) % 2 := by
      unfold wn_pb
      rw [if_neg (by omega), if_neg (by omega), if_neg (by omega), if_pos (by omega)]
    rw [e] at H
    refine nm_r ?_ H
    rw [show (18 : Int32) - nI k = nI (18 - k) from pk_sub (a := 18) (by omega)]
    exact wn_bitI (by omega) (by omega)
  refine pk_lt k 1 (fun z => z67 (Or.inl z)) (fun z => pk_le 12 k (fun z2 => z67 (Or.inr z2)) (fun z2 => ?_))
  have e : wn_pb F k c = F.1 / 2 ^ (11 - k) % 2 := by
    unfold wn_pb
    rw [if_neg (by omega), if_pos (by omega)]
  rw [e] at H
  refine nm_r ?_ H
  rw [show (11 : Int32) - nI k = nI (11 - k) from pk_sub (a := 11) (by omega)]
  exact wn_bitI (by omega) (by omega)
end
theorem wn_bits {post : Int32 → Prop} {F : Nat × Nat × Nat} {N : Nat} (h0 : F.1 < 2048) (h1 : F.2.1 ≤ 8) (h2 : F.2.2 < 2 ^ 64) (hN : wn_Len F N) (H : post (nI N)) :
    wpL_bits post () (nI F.1) (nI F.2.1) (lN F.2.2) 1 := by
  refine nm_r (show (19 : Int32) + 8 * nI F.2.1 = nI (19 + 8 * F.2.1) from by rw [show (8 : Int32) * nI F.2.1 = nI (8 * F.2.1) from pk_mul 8 _]; exact nI_add 19 _) ?_
  refine lp6 (fun n x5 x6 x7 x8 x9 x11 => wL_bits_27 post (nI F.1) (nI F.2.1) (lN F.2.2) 1 (nI (19 + 8 * F.2.1)) n x5 x6 x7 x8 x9 x11)
    (fun x5 x6 x7 x8 _ x11 => ∃ t, x5 = nI t ∧ x6 = wn_l (wn_at F t).2.1 ∧ x7 = nI (wn_at F t).2.2.1 ∧ x8 = nI (wn_at F t).2.2.2 ∧ x11 = nI (wn_at F t).1 ∧ (wn_at F t).1 ≤ wn_K F ∧ ∀ t', t' < t → (wn_at F t').1 < wn_K F)
    (fun _ _ _ _ _ x11 => wn_K F - x11.toNatClampNeg) ?_ 0 (-1) 0 0 0 0
    ⟨0, rfl, rfl, rfl, rfl, rfl, Nat.zero_le _, fun t' h => absurd h (by omega)⟩
  intro n x5 x6 x7 x8 x9 x11 ⟨t, e5, e6, e7, e8, e11, hK, hlt⟩ ih
  have hJ := wn_J_at F t
  have hn1 : wn_at F (t + 1) = wn_nx F (wn_at F t) := rfl
  have hn2 : wn_at F (t + 2) = wn_nx F (wn_at F (t + 1)) := rfl
  have hKv : wn_K F = 34 + 8 * F.2.1 := rfl
  generalize hs : wn_at F t = s at *
  obtain ⟨k, l, r, c⟩ := s
  obtain ⟨j1, j2, j3, j4, j5, j6⟩ := hJ
  dsimp only at e6 e7 e8 e11 hK j1 j2 j3 j4 j5 j6
  subst e5 e6 e7 e8 e11
  refine pk_le (wn_K F) k (fun z => br_f (by decide) ?_) (fun z => ?_) (show nI (19 + 8 * F.2.1) + 15 = nI (wn_K F) from by rw [hKv, show nI (19 + 8 * F.2.1) + 15 = nI (19 + 8 * F.2.1 + 15) from nI_add _ 15]; congr 1; omega)
  · rw [wn_Len_un hN (M := t) (by rw [hs]; dsimp only; omega) hlt]
    exact H
  · refine wn_bcas h0 h1 h2 z j4 (wn_b148 (wn_pb_le F k c) j2 j1 (fun e => j3 (by omega)) j4 (by omega) (by omega) (fun y => ?_))
    have hm : wn_K F - (nI (k + 1)).toNatClampNeg < wn_K F - (nI k).toNatClampNeg := by
      rw [nI_clamp (by omega), nI_clamp (by omega)]
      omega
    have hbl : wn_l (wn_pb F k c) = nI (wn_pb F k c) := wn_l_b (wn_pb_le F k c)
    by_cases e : r = 5
    · rw [if_pos e, if_pos e]
      have q1 : wn_at F (t + 1) = (k, 1 - l, 1, c) := by
        rw [hn1]
        unfold wn_nx
        rw [if_pos e]
      have q2 : wn_at F (t + 2) = (k + 1, wn_pb F k c, (if wn_pb F k c = 1 - l then 2 else 1), (if k < 19 + 8 * F.2.1 then wn_crc c (wn_pb F k c) else c)) := by
        rw [hn2, q1]
        rfl
      refine ih _ _ _ _ _ _ ⟨t + 2, rfl, ?_, ?_, ?_, ?_, ?_, ?_⟩ hm
      · rw [q2]; exact hbl.symm
      · rw [q2]
      · rw [q2]
      · rw [q2]
      · rw [q2]; exact z
      · intro t' ht'
        rcases Nat.lt_or_ge t' t with g | g
        · exact hlt t' g
        · rcases Nat.lt_or_ge t' (t + 1) with g2 | g2
          · rw [show t' = t by omega, hs]; exact z
          · rw [show t' = t + 1 by omega, q1]; exact z
    · rw [if_neg e, if_neg e]
      have q1 : wn_at F (t + 1) = (k + 1, wn_pb F k c, (if wn_pb F k c = l then r + 1 else 1), (if k < 19 + 8 * F.2.1 then wn_crc c (wn_pb F k c) else c)) := by
        rw [hn1]
        unfold wn_nx
        rw [if_neg e]
      refine ih _ _ _ _ _ _ ⟨t + 1, rfl, ?_, ?_, ?_, ?_, ?_, ?_⟩ hm
      · rw [q1]; exact hbl.symm
      · rw [q1]
      · rw [q1]
      · rw [q1]
      · rw [q1]; exact z
      · intro t' ht'
        rcases Nat.lt_or_ge t' t with g | g
        · exact hlt t' g
        · rw [show t' = t by omega, hs]; exact z
end
section
/-! ===== views of the state ===== -/
abbrev wn_HV : Type := Int32 × Int32 × Int32 × Int32 × Int32
abbrev wn_BV : Type := Int32 × Int32 × Int32 × Int32 × Int32 × Int32 × Int32 × Int64 × Int32 × Int32 × Int32 × Int32 × Int32 × Int32 × Int32
abbrev wn_FV : Type := Int32 × Int32 × Int32 × Int32 × Int32 × Int32 × Int32 × Int32 × Int32
/-- phase, left, clock, sentCount, disturbIn -/
def wn_h (u : St2) : wn_HV := match u with
  | (ph, le, cl, se, di, a1, a2, a3, a4, a5, a6, a7, a8, a9, a10, a11, a12, a13, a14, a15, a16, a17, a18, a19, a20, a21, a22, a23, a24, a25) => (ph, le, cl, se, di)
/-- what of node n doesn't belong to listening -/
def wn_bv (u : St2) (n : Nat) : wn_BV := match u with
  | (ph, le, cl, se, di, a1, a2, a3, a4, a5, a6, a7, a8, a9, a10, a11, a12, a13, a14, a15, a16, a17, a18, a19, a20, a21, a22, a23, a24, a25) => (a1 n, a2 n, a3 n, a4 n, a6 n, a7 (4 * n), a8 (4 * n), a9 (4 * n), a10 n, a11 (6 * n), a11 (6 * n + 1), a12 (6 * n), a12 (6 * n + 1), a14 n, a16 n)
/-- role, plainCount, lastBit, inRow, check, heardId, heardLength, heardCheck, tailCount of node n -/
def wn_fv (u : St2) (n : Nat) : wn_FV := match u with
  | (ph, le, cl, se, di, a1, a2, a3, a4, a5, a6, a7, a8, a9, a10, a11, a12, a13, a14, a15, a16, a17, a18, a19, a20, a21, a22, a23, a24, a25) => (a15 n, a17 n, a18 n, a19 n, a20 n, a21 n, a22 n, a24 n, a25 n)
/-- the listener has heard the frame F up to s; tc bits of the tail -/
def wn_li (F : Nat × Nat × Nat) (s : wn_S) (tc : Nat) (v : wn_FV) : Prop := match v with
  | (_, x17, x18, x19, x20, x21, x22, x24, x25) => x17 = nI s.1 ∧ x18 = wn_l s.2.1 ∧ x19 = nI s.2.2.1 ∧ x20 = nI s.2.2.2 ∧ x21 = nI (F.1 / 2 ^ (12 - s.1)) ∧ x22 = nI (F.2.1 / 2 ^ (19 - s.1)) ∧ x24 = nI (s.2.2.2 / 2 ^ (wn_K F - s.1)) ∧ x25 = nI tc
/-! the views of a tuple, and of two tuples that are alike in it (never by rfl over two tuples: the kernel runs away) -/
section
variable {ph le cl se di : Int32} {a1 : Nat → Int32} {a2 : Nat → Int32} {a3 : Nat → Int32} {a4 : Nat → Int32} {a5 : Nat → Int32} {a6 : Nat → Int32} {a7 : Nat → Int32} {a8 : Nat → Int32} {a9 : Nat → Int64} {a10 : Nat → Int32} {a11 : Nat → Int32} {a12 : Nat → Int32} {a13 : Nat → Int64} {a14 : Nat → Int32} {a15 : Nat → Int32} {a16 : Nat → Int32} {a17 : Nat → Int32} {a18 : Nat → Int32} {a19 : Nat → Int32} {a20 : Nat → Int32} {a21 : Nat → Int32} {a22 : Nat → Int32} {a23 : Nat → Int64} {a24 : Nat → Int32} {a25 : Nat → Int32}
variable {ph' le' cl' se' di' : Int32} {a1' : Nat → Int32} {a2' : Nat → Int32} {a3' : Nat → Int32} {a4' : Nat → Int32} {a5' : Nat → Int32} {a6' : Nat → Int32} {a7' : Nat → Int32} {a8' : Nat → Int32} {a9' : Nat → Int64} {a10' : Nat → Int32} {a11' : Nat → Int32} {a12' : Nat → Int32} {a13' : Nat → Int64} {a14' : Nat → Int32} {a15' : Nat → Int32} {a16' : Nat → Int32} {a17' : Nat → Int32} {a18' : Nat → Int32} {a19' : Nat → Int32} {a20' : Nat → Int32} {a21' : Nat → Int32} {a22' : Nat → Int32} {a23' : Nat → Int64} {a24' : Nat → Int32} {a25' : Nat → Int32}
variable {F : Nat × Nat × Nat} {s : wn_S} {tc n : Nat}
theorem wn_h_mk : wn_h (ph, le, cl, se, di, a1, a2, a3, a4, a5, a6, a7, a8, a9, a10, a11, a12, a13, a14, a15, a16, a17, a18, a19, a20, a21, a22, a23, a24, a25) = (ph, le, cl, se, di) := rfl
theorem wn_bv_mk : wn_bv (ph, le, cl, se, di, a1, a2, a3, a4, a5, a6, a7, a8, a9, a10, a11, a12, a13, a14, a15, a16, a17, a18, a19, a20, a21, a22, a23, a24, a25) n = (a1 n, a2 n, a3 n, a4 n, a6 n, a7 (4 * n), a8 (4 * n), a9 (4 * n), a10 n, a11 (6 * n), a11 (6 * n + 1), a12 (6 * n), a12 (6 * n + 1), a14 n, a16 n) := rfl
theorem wn_fv_mk : wn_fv (ph, le, cl, se, di, a1, a2, a3, a4, a5, a6, a7, a8, a9, a10, a11, a12, a13, a14, a15, a16, a17, a18, a19, a20, a21, a22, a23, a24, a25) n = (a15 n, a17 n, a18 n, a19 n, a20 n, a21 n, a22 n, a24 n, a25 n) := rfl
theorem wn_h_same : wn_h (ph, le, cl, se, di, a1', a2', a3', a4', a5', a6', a7', a8', a9', a10', a11', a12', a13', a14', a15', a16', a17', a18', a19', a20', a21', a22', a23', a24', a25') = wn_h (ph, le, cl, se, di, a1, a2, a3, a4, a5, a6, a7, a8, a9, a10, a11, a12, a13, a14, a15, a16, a17, a18, a19, a20, a21, a22, a23, a24, a25) := wn_h_mk.trans wn_h_mk.symm
theorem wn_bv_same : wn_bv (ph', le', cl', se', di', a1, a2, a3, a4, a5', a6, a7, a8, a9, a10, a11, a12, a13', a14, a15', a16, a17', a18', a19', a20', a21', a22', a23', a24', a25') n = wn_bv (ph, le, cl, se, di, a1, a2, a3, a4, a5, a6, a7, a8, a9, a10, a11, a12, a13, a14, a15, a16, a17, a18, a19, a20, a21, a22, a23, a24, a25) n := wn_bv_mk.trans wn_bv_mk.symm
theorem wn_fv_same : wn_fv (ph', le', cl', se', di', a1', a2', a3', a4', a5', a6', a7', a8', a9', a10', a11', a12', a13', a14', a15, a16', a17, a18, a19, a20, a21, a22, a23', a24, a25) n = wn_fv (ph, le, cl, se, di, a1, a2, a3, a4, a5, a6, a7, a8, a9, a10, a11, a12, a13, a14, a15, a16, a17, a18, a19, a20, a21, a22, a23, a24, a25) n := wn_fv_mk.trans wn_fv_mk.symm
theorem wn_li_mk : wn_li F s tc (wn_fv (ph, le, cl, se, di, a1, a2, a3, a4, a5, a6, a7, a8, a9, a10, a11, a12, a13, a14, a15, a16, a17, a18, a19, a20, a21, a22, a23, a24, a25) n) ↔ (a17 n = nI s.1 ∧ a18 n = wn_l s.2.1 ∧ a19 n = nI s.2.2.1 ∧ a20 n = nI s.2.2.2 ∧ a21 n = nI (F.1 / 2 ^ (12 - s.1)) ∧ a22 n = nI (F.2.1 / 2 ^ (19 - s.1)) ∧ a24 n = nI (s.2.2.2 / 2 ^ (wn_K F - s.1)) ∧ a25 n = nI tc) := Iff.rfl
theorem wn_li_same (h : wn_li F s tc (wn_fv (ph, le, cl, se, di, a1, a2, a3, a4, a5, a6, a7, a8, a9, a10, a11, a12, a13, a14, a15, a16, a17, a18, a19, a20, a21, a22, a23, a24, a25) n)) : wn_li F s tc (wn_fv (ph', le', cl', se', di', a1', a2', a3', a4', a5', a6', a7', a8', a9', a10', a11', a12', a13', a14', a15', a16', a17, a18, a19, a20, a21, a22, a23', a24, a25) n) := wn_li_mk.mpr (wn_li_mk.mp h)
end
/-- a waiting frame -/
def wn_wt (G : Nat × Nat × Nat) (x7 x8 : Int32) (x9 : Int64) : Prop := G.1 < 2048 ∧ G.2.1 ≤ 8 ∧ x7 = nI G.1 ∧ x8 = nI G.2.1 ∧ ∃ d, d < 2 ^ 64 ∧ x9 = lN d ∧ ∀ j, j < 8 * G.2.1 → d / 2 ^ j % 2 = G.2.2 / 2 ^ j % 2
theorem wn_z {x m M : Nat} (h : x < 2 ^ m) (hm : m ≤ M) : x / 2 ^ M = 0 := Nat.div_eq_of_lt (Nat.lt_of_lt_of_le h (Nat.pow_le_pow_right (by decide) hm))
theorem wn_K19 {len k : Nat} (hk : 19 ≤ k) : (19 + 8 * nI (len / 2 ^ (19 - k))) + 15 = nI (34 + 8 * len) := by
  rw [show 19 - k = 0 by omega, Nat.pow_zero, Nat.div_one, show (8 : Int32) * nI len = nI (8 * len) from pk_mul 8 _, show (19 : Int32) + nI (8 * len) = nI (19 + 8 * len) from nI_add 19 _, show nI (19 + 8 * len) + 15 = nI (19 + 8 * len + 15) from nI_add _ 15]
  congr 1
  omega
section
variable {ph le cl se di : Int32} {a1 : Nat → Int32} {a2 : Nat → Int32} {a3 : Nat → Int32} {a4 : Nat → Int32} {a5 : Nat → Int32} {a6 : Nat → Int32} {a7 : Nat → Int32} {a8 : Nat → Int32} {a9 : Nat → Int64} {a10 : Nat → Int32} {a11 : Nat → Int32} {a12 : Nat → Int32} {a13 : Nat → Int64} {a14 : Nat → Int32} {a15 : Nat → Int32} {a16 : Nat → Int32} {a17 : Nat → Int32} {a18 : Nat → Int32} {a19 : Nat → Int32} {a20 : Nat → Int32} {a21 : Nat → Int32} {a22 : Nat → Int32} {a23 : Nat → Int64} {a24 : Nat → Int32} {a25 : Nat → Int32}
theorem wn_inTail {post : Int32 → Prop} {F : Nat × Nat × Nat} {n k : Nat} (hn : n < 5) (h1 : F.2.1 ≤ 8) (hk : k ≤ wn_K F) (h17 : a17 n = nI k) (h22 : a22 n = nI (F.2.1 / 2 ^ (19 - k))) (H0 : k < wn_K F → post 0) (H1 : k = wn_K F → post 1) :
    wpX_inTail post (ph, le, cl, se, di, a1, a2, a3, a4, a5, a6, a7, a8, a9, a10, a11, a12, a13, a14, a15, a16, a17, a18, a19, a20, a21, a22, a23, a24, a25) (nI n) := by
  have hKv : wn_K F = 34 + 8 * F.2.1 := rfl
  unfold wpX_inTail
  dsimp only
  rw [nI_clamp (show n < 2 ^ 31 by omega), h17]
  refine ⟨pk_in n 5 hn, pk_lt k 19 (fun z => H0 (by omega)) (fun z => ⟨pk_in n 5 hn, ?_⟩)⟩
  unfold wpX_plainBits
  dsimp only
  rw [nI_clamp (show n < 2 ^ 31 by omega), h17, h22, wn_K19 z]
  exact ⟨pk_in n 5 hn, pk_le 19 k (fun _ => ⟨pk_in n 5 hn, pk_eq k (34 + 8 * F.2.1) (fun e => H1 e) (fun e => H0 (by omega))⟩) (fun z2 => absurd z2 (by omega))⟩
theorem wn_isStuffed {post : Int32 → Prop} {F : Nat × Nat × Nat} {n k r : Nat} (hn : n < 5) (h1 : F.2.1 ≤ 8) (hk : k < wn_K F) (hr : r ≤ 5) (h17 : a17 n = nI k) (h22 : a22 n = nI (F.2.1 / 2 ^ (19 - k))) (h19 : a19 n = nI r)
    (H1 : r = 5 → post 1) (H0 : r ≠ 5 → post 0) : wpX_isStuffed post (ph, le, cl, se, di, a1, a2, a3, a4, a5, a6, a7, a8, a9, a10, a11, a12, a13, a14, a15, a16, a17, a18, a19, a20, a21, a22, a23, a24, a25) (nI n) := by
  unfold wpX_isStuffed
  dsimp only
  rw [nI_clamp (show n < 2 ^ 31 by omega), h19]
  exact ⟨pk_in n 5 hn, pk_eq r 5 (fun e => wn_inTail hn h1 (Nat.le_of_lt hk) h17 h22 (fun _ => br_t rfl (H1 e)) (fun z => absurd z (Nat.ne_of_lt hk))) (fun e => H0 e)⟩
theorem wn_plainBit {post : Int32 → Prop} {G : Nat × Nat × Nat} {n k c : Nat} (hn : n < 5) (hk : k < wn_K G) (hc : c < 32768) (h16 : a16 n = 0) (h17 : a17 n = nI k) (h20 : a20 n = nI c) (hw : wn_wt G (a7 (4 * n)) (a8 (4 * n)) (a9 (4 * n)))
    (H : post (nI (wn_pb G k c))) : wpX_plainBit post (ph, le, cl, se, di, a1, a2, a3, a4, a5, a6, a7, a8, a9, a10, a11, a12, a13, a14, a15, a16, a17, a18, a19, a20, a21, a22, a23, a24, a25) (nI n) := by
  obtain ⟨g0, g1, h7, h8, d, hd, h9, hb⟩ := hw
  unfold wn_K at hk
  have e4 : 4 * nI n + 0 = nI (4 * n) := by
    rw [show (4 : Int32) * nI n = nI (4 * n) from pk_mul 4 n]
    exact nI_add _ 0
  have c4 : (nI (4 * n)).toNatClampNeg = 4 * n := nI_clamp (by omega)
  have i4 : vp_in (nI (4 * n)) 20 := pk_in (4 * n) 20 (by omega)
  have i5 : vp_in (nI n) 5 := pk_in n 5 hn
  have cn : (nI n).toNatClampNeg = n := nI_clamp (by omega)
  unfold wpX_plainBit
  dsimp only
  rw [cn, h16, h17]
  refine ⟨i5, nm_r e4 ⟨i5, nm_e ⟨i4, nm_r (show 8 * a8 (nI (4 * n)).toNatClampNeg = nI (8 * G.2.1) from by rw [c4, h8]; exact pk_mul 8 _) ?_⟩⟩⟩
  have z54 : ((k < 1 ∨ 12 ≤ k) → wX_plainBit_54 post (nI n) (nI (4 * n)) (nI k) (nI (8 * G.2.1)) ph le cl se di a1 a2 a3 a4 a5 a6 a7 a8 a9 a10 a11 a12 a13 a14 a15 a16 a17 a18 a19 a20 a21 a22 a23 a24 a25) := by
    intro ho
    have z80 : ((k < 15 ∨ 19 ≤ k) → wX_plainBit_80 post (nI n) (nI (4 * n)) (nI k) (nI (8 * G.2.1)) ph le cl se di a1 a2 a3 a4 a5 a6 a7 a8 a9 a10 a11 a12 a13 a14 a15 a16 a17 a18 a19 a20 a21 a22 a23 a24 a25) := by
      intro ho2
      have e19 : (19 : Int32) + nI (8 * G.2.1) = nI (19 + 8 * G.2.1) := nI_add 19 _
      have z115 : ((k < 19 ∨ 19 + 8 * G.2.1 ≤ k) → wX_plainBit_115 post (nI n) (nI k) (nI (8 * G.2.1)) ph le cl se di a1 a2 a3 a4 a5 a6 a7 a8 a9 a10 a11 a12 a13 a14 a15 a16 a17 a18 a19 a20 a21 a22 a23 a24 a25) := by
        intro ho3
        unfold wX_plainBit_115
        rw [cn, h20, e19]
        refine pk_le 19 k (fun z => ⟨i5, ?_⟩) (fun z => ?_)
        · have e : wn_pb G k c = c / 2 ^ (33 + 8 * G.2.1 - k) % 2 := by
            unfold wn_pb
            rw [if_neg (by omega), if_neg (by omega), if_neg (by omega), if_neg (by omega), if_neg (by omega)]
          rw [e] at H
          have e2 : ((nI (19 + 8 * G.2.1) + 15) - 1) - nI k = nI (33 + 8 * G.2.1 - k) := by
            rw [show nI (19 + 8 * G.2.1) + 15 = nI (19 + 8 * G.2.1 + 15) from nI_add _ 15, show nI (19 + 8 * G.2.1 + 15) - 1 = nI (19 + 8 * G.2.1 + 15 - 1) from pk_sub (b := 1) (by omega), pk_sub (by omega)]
            congr 1
            omega
          rw [e2, wn_bitI (by omega) (by omega)]
          exact H
        · have e : wn_pb G k c = 0 := by
            unfold wn_pb
            rcases ho with ho | ho
            · rw [if_pos ho]
            · rw [if_neg (by omega), if_neg (by omega), if_pos (by omega)]
          rw [e] at H
          exact H
      unfold wX_plainBit_80
      rw [c4, e19, h9]
      refine pk_lt k 19 (fun z => z115 (Or.inl z)) (fun z => pk_le (19 + 8 * G.2.1) k (fun z2 => z115 (Or.inr z2)) (fun z2 => ⟨i4, ?_⟩))
      have e : wn_pb G k c = G.2.2 / 2 ^ (18 + 8 * G.2.1 - k) % 2 := by
        unfold wn_pb
        rw [if_neg (by omega), if_neg (by omega), if_neg (by omega), if_neg (by omega), if_pos (by omega)]
      rw [e, ← hb _ (by omega)] at H
      have e2 : (nI (19 + 8 * G.2.1) - 1) - nI k = nI (18 + 8 * G.2.1 - k) := by
        rw [show nI (19 + 8 * G.2.1) - 1 = nI (19 + 8 * G.2.1 - 1) from pk_sub (b := 1) (by omega), pk_sub (by omega)]
        congr 1
        omega
      rw [e2, wn_bitL hd (by omega)]
      exact H
    unfold wX_plainBit_54
    rw [c4, h8]
    refine pk_lt k 15 (fun z => z80 (Or.inl z)) (fun z => pk_le 19 k (fun z2 => z80 (Or.inr z2)) (fun z2 => ⟨i4, ?_⟩))
    have e : wn_pb G k c = G.2.1 / 2 ^ (18 - k) % 2 := by
      unfold wn_pb
      rw [if_neg (by omega), if_neg (by omega), if_neg (by omega), if_pos (by omega)]
    rw [e] at H
    rw [show (18 : Int32) - nI k = nI (18 - k) from pk_sub (a := 18) (by omega), wn_bitI (by omega) (by omega)]
    exact H
  refine pk_lt k 1 (fun z => z54 (Or.inl z)) (fun z => pk_le 12 k (fun z2 => z54 (Or.inr z2)) (fun z2 => ⟨i4, ?_⟩))
  have e : wn_pb G k c = G.1 / 2 ^ (11 - k) % 2 := by
    unfold wn_pb
    rw [if_neg (by omega), if_pos (by omega)]
  rw [e] at H
  rw [c4, h7, show (11 : Int32) - nI k = nI (11 - k) from pk_sub (a := 11) (by omega), wn_bitI (by omega) (by omega)]
  exact H
/-- a sender ahead of the tail -/
theorem wn_outputS {post : Int32 → Prop} {F G : Nat × Nat × Nat} {n : Nat} {s : wn_S} {tc t : Nat} (hn : n < 5) (h1 : F.2.1 ≤ 8) (hJ : wn_J t s) (hk : s.1 < wn_K F) (hg : s.1 < wn_K G) (h15 : a15 n = 1) (h16 : a16 n = 0)
    (hl : wn_li F s tc (wn_fv (ph, le, cl, se, di, a1, a2, a3, a4, a5, a6, a7, a8, a9, a10, a11, a12, a13, a14, a15, a16, a17, a18, a19, a20, a21, a22, a23, a24, a25) n)) (hw : wn_wt G (a7 (4 * n)) (a8 (4 * n)) (a9 (4 * n))) (H : post (nI (wn_ob G s))) : wpX_output post (ph, le, cl, se, di, a1, a2, a3, a4, a5, a6, a7, a8, a9, a10, a11, a12, a13, a14, a15, a16, a17, a18, a19, a20, a21, a22, a23, a24, a25) (nI n) := by
  obtain ⟨k, l, r, c⟩ := s
  obtain ⟨j1, j2, j3, j4, j5, j6⟩ := hJ
  dsimp only at hk hg j1 j2 j3 j4 j5 j6
  have hl' : a17 n = nI k ∧ a18 n = wn_l l ∧ a19 n = nI r ∧ a20 n = nI c ∧ a21 n = nI (F.1 / 2 ^ (12 - k)) ∧ a22 n = nI (F.2.1 / 2 ^ (19 - k)) ∧ a24 n = nI (c / 2 ^ (wn_K F - k)) ∧ a25 n = nI tc := hl
  obtain ⟨h17, h18, h19, h20, h21, h22, h24, h25⟩ := hl'
  have i5 : vp_in (nI n) 5 := pk_in n 5 hn
  have cn : (nI n).toNatClampNeg = n := nI_clamp (by omega)
  unfold wpX_output
  dsimp only
  rw [cn]
  refine wn_inTail hn h1 (Nat.le_of_lt hk) h17 h22 (fun _ => br_t rfl ⟨i5, br_t h15 ?_⟩) (fun z => absurd z (Nat.ne_of_lt hk))
  refine wn_isStuffed hn h1 hk j1 h17 h22 h19 (fun e => br_f (by decide) ⟨i5, ?_⟩) (fun e => br_t rfl (wn_plainBit hn hg j4 h16 h17 h20 hw ?_))
  · have e2 : wn_ob G (k, l, r, c) = 1 - l := if_pos e
    rw [e2] at H
    rw [h18, wn_l_sub (j3 (by omega))]
    exact H
  · have e2 : wn_ob G (k, l, r, c) = wn_pb G k c := if_neg e
    rw [e2] at H
    exact H
/-- a receiver ahead of the tail -/
theorem wn_outputR {post : Int32 → Prop} {F : Nat × Nat × Nat} {n : Nat} {s : wn_S} {tc : Nat} (hn : n < 5) (h1 : F.2.1 ≤ 8) (hk : s.1 < wn_K F) (h15 : a15 n = 2)
    (hl : wn_li F s tc (wn_fv (ph, le, cl, se, di, a1, a2, a3, a4, a5, a6, a7, a8, a9, a10, a11, a12, a13, a14, a15, a16, a17, a18, a19, a20, a21, a22, a23, a24, a25) n)) (H : post 1) : wpX_output post (ph, le, cl, se, di, a1, a2, a3, a4, a5, a6, a7, a8, a9, a10, a11, a12, a13, a14, a15, a16, a17, a18, a19, a20, a21, a22, a23, a24, a25) (nI n) := by
  obtain ⟨h17, h18, h19, h20, h21, h22, h24, h25⟩ := hl
  have i5 : vp_in (nI n) 5 := pk_in n 5 hn
  have cn : (nI n).toNatClampNeg = n := nI_clamp (by omega)
  unfold wpX_output
  dsimp only
  rw [cn]
  exact wn_inTail hn h1 (Nat.le_of_lt hk) h17 h22 (fun _ => br_t rfl ⟨i5, br_f (by rw [h15]; decide) H⟩) (fun z => absurd z (Nat.ne_of_lt hk))
/-- in the tail -/
theorem wn_outputT {post : Int32 → Prop} {F : Nat × Nat × Nat} {n : Nat} {s : wn_S} {tc : Nat} (hn : n < 5) (h1 : F.2.1 ≤ 8) (hk : s.1 = wn_K F) (h15 : a15 n = 1 ∨ a15 n = 2) (htc : tc < 1000)
    (hl : wn_li F s tc (wn_fv (ph, le, cl, se, di, a1, a2, a3, a4, a5, a6, a7, a8, a9, a10, a11, a12, a13, a14, a15, a16, a17, a18, a19, a20, a21, a22, a23, a24, a25) n)) (H0 : a15 n = 2 → tc = 1 → post 0) (H1 : (a15 n = 1 ∨ tc ≠ 1) → post 1) : wpX_output post (ph, le, cl, se, di, a1, a2, a3, a4, a5, a6, a7, a8, a9, a10, a11, a12, a13, a14, a15, a16, a17, a18, a19, a20, a21, a22, a23, a24, a25) (nI n) := by
  obtain ⟨h17, h18, h19, h20, h21, h22, h24, h25⟩ := hl
  have i5 : vp_in (nI n) 5 := pk_in n 5 hn
  have cn : (nI n).toNatClampNeg = n := nI_clamp (by omega)
  unfold wpX_output
  dsimp only
  rw [cn]
  refine wn_inTail hn h1 (Nat.le_of_eq hk) h17 h22 (fun z => absurd hk (Nat.ne_of_lt z)) (fun _ => br_f (by decide) ⟨i5, ?_⟩)
  rcases h15 with e | e
  · exact br_f (by rw [e]; decide) (H1 (Or.inl e))
  · refine br_t e ⟨i5, ?_⟩
    rw [h25]
    refine pk_eq tc 1 (fun z => ⟨i5, i5, br_t ?_ (H0 e z)⟩) (fun z => H1 (Or.inr z))
    rw [h24, h20, hk, Nat.sub_self, Nat.pow_zero, Nat.div_one]
theorem wn_tp148 {post : St2 → Prop} {n b c : Nat} (hn : n < 5) (hb : b ≤ 1) (hc : c < 32768) (h20 : a20 n = nI c) (H : post (ph, le, cl, se, di, a1, a2, a3, a4, a5, a6, a7, a8, a9, a10, a11, a12, a13, a14, a15, a16, a17, a18, a19, upd a20 n (nI (wn_crc c b)), a21, a22, a23, a24, a25)) : wX_takePlain_148 post (nI n) (nI b) ph le cl se di a1 a2 a3 a4 a5 a6 a7 a8 a9 a10 a11 a12 a13 a14 a15 a16 a17 a18 a19 a20 a21 a22 a23 a24 a25 := by
  have i5 : vp_in (nI n) 5 := pk_in n 5 hn
  have cn : (nI n).toNatClampNeg = n := nI_clamp (by omega)
  unfold wX_takePlain_148
  rw [cn, h20, wn_crcI hc, wn_two]
  have hx := wn_xle (c := c) hb
  exact ⟨i5, nm_e ⟨i5, pk_eq (b ^^^ (c / 2 ^ 14 % 2)) 1 (fun e => ⟨i5, nm_r (by rw [wn_crc1 e]) H⟩) (fun e => ⟨i5, nm_r (by rw [wn_crc0 e]) H⟩)⟩⟩
theorem wn_tp136 {post : St2 → Prop} {n k b c m len : Nat} (hn : n < 5) (hb : b ≤ 1) (hc : c < 32768) (hk : k < 1000) (hm : 19 ≤ k → m = 19 + 8 * len) (hm2 : m < 1000) (h20 : a20 n = nI c)
    (H1 : k < 19 + 8 * len → post (ph, le, cl, se, di, a1, a2, a3, a4, a5, a6, a7, a8, a9, a10, a11, a12, a13, a14, a15, a16, a17, a18, a19, upd a20 n (nI (wn_crc c b)), a21, a22, a23, a24, a25)) (H2 : 19 + 8 * len ≤ k → post (ph, le, cl, se, di, a1, a2, a3, a4, a5, a6, a7, a8, a9, a10, a11, a12, a13, a14, a15, a16, a17, a18, a19, a20, a21, a22, a23, a24, a25)) : wX_takePlain_136 post (nI n) (nI b) (nI k) (nI m) ph le cl se di a1 a2 a3 a4 a5 a6 a7 a8 a9 a10 a11 a12 a13 a14 a15 a16 a17 a18 a19 a20 a21 a22 a23 a24 a25 :=
  pk_lt k 19 (fun z => wn_tp148 hn hb hc h20 (H1 (by omega))) (fun z => pk_le m k (fun z2 => H2 (by have := hm z; omega)) (fun z2 => wn_tp148 hn hb hc h20 (H1 (by have := hm z; omega))))
theorem wn_takePlain {post : St2 → Prop} {F : Nat × Nat × Nat} {n k c : Nat} (hn : n < 5) (h0 : F.1 < 2048) (h1 : F.2.1 ≤ 8) (hk : k < wn_K F) (hc : c < 32768)
    (h17 : a17 n = nI k) (h20 : a20 n = nI c) (h21 : a21 n = nI (F.1 / 2 ^ (12 - k))) (h22 : a22 n = nI (F.2.1 / 2 ^ (19 - k))) (h24 : a24 n = nI (c / 2 ^ (wn_K F - k)))
    (H : ∀ (b20 b21 b22 : Nat → Int32) (b23 : Nat → Int64) (b24 : Nat → Int32), (∀ j, j ≠ n → b20 j = a20 j ∧ b21 j = a21 j ∧ b22 j = a22 j ∧ b24 j = a24 j) →
      b20 n = nI (if k < 19 + 8 * F.2.1 then wn_crc c (wn_pb F k c) else c) → b21 n = nI (F.1 / 2 ^ (12 - (k + 1))) → b22 n = nI (F.2.1 / 2 ^ (19 - (k + 1))) →
      b24 n = nI ((if k < 19 + 8 * F.2.1 then wn_crc c (wn_pb F k c) else c) / 2 ^ (wn_K F - (k + 1))) → post (ph, le, cl, se, di, a1, a2, a3, a4, a5, a6, a7, a8, a9, a10, a11, a12, a13, a14, a15, a16, a17, a18, a19, b20, b21, b22, b23, b24, a25)) :
    wpX_takePlain post (ph, le, cl, se, di, a1, a2, a3, a4, a5, a6, a7, a8, a9, a10, a11, a12, a13, a14, a15, a16, a17, a18, a19, a20, a21, a22, a23, a24, a25) (nI n) (nI (wn_pb F k c)) := by
  have i5 : vp_in (nI n) 5 := pk_in n 5 hn
  have cn : (nI n).toNatClampNeg = n := nI_clamp (by omega)
  have hb := wn_pb_le F k c
  have hKv : wn_K F = 34 + 8 * F.2.1 := rfl
  have hq := wn_crc_lt c (wn_pb F k c)
  have hm : (19 : Int32) + 8 * nI (F.2.1 / 2 ^ (19 - k)) = nI (19 + 8 * (F.2.1 / 2 ^ (19 - k))) := by
    rw [show (8 : Int32) * nI (F.2.1 / 2 ^ (19 - k)) = nI (8 * (F.2.1 / 2 ^ (19 - k))) from pk_mul 8 _]
    exact nI_add 19 _
  have hm1 : 19 ≤ k → 19 + 8 * (F.2.1 / 2 ^ (19 - k)) = 19 + 8 * F.2.1 := fun z => by rw [show 19 - k = 0 by omega, Nat.pow_zero, Nat.div_one]
  have hm2 : 19 + 8 * (F.2.1 / 2 ^ (19 - k)) < 1000 := by
    have := Nat.div_le_self F.2.1 (2 ^ (19 - k))
    omega
  have s21 : ¬ (1 ≤ k ∧ k < 12) → F.1 / 2 ^ (12 - k) = F.1 / 2 ^ (12 - (k + 1)) := by
    intro z
    rcases Nat.lt_or_ge k 1 with g | g
    · rw [wn_z (m := 11) h0 (by omega), wn_z (m := 11) h0 (by omega)]
    · rw [show 12 - k = 12 - (k + 1) by omega]
  have s22 : ¬ (15 ≤ k ∧ k < 19) → F.2.1 / 2 ^ (19 - k) = F.2.1 / 2 ^ (19 - (k + 1)) := by
    intro z
    rcases Nat.lt_or_ge k 15 with g | g
    · rw [wn_z (m := 4) (by omega) (by omega), wn_z (m := 4) (by omega) (by omega)]
    · rw [show 19 - k = 19 - (k + 1) by omega]
  have s24 : k < 19 + 8 * F.2.1 → c / 2 ^ (wn_K F - k) = wn_crc c (wn_pb F k c) / 2 ^ (wn_K F - (k + 1)) := by
    intro z
    rw [wn_z (m := 15) (by omega) (by omega), wn_z (m := 15) hq (by omega)]
  unfold wpX_takePlain
  dsimp only
  rw [cn, h17, h22, hm]
  refine ⟨i5, nm_e ⟨i5, nm_e ?_⟩⟩
  -- no field
  have zA : (k < 1 ∨ (12 ≤ k ∧ k < 15)) → wX_takePlain_136 post (nI n) (nI (wn_pb F k c)) (nI k) (nI (19 + 8 * (F.2.1 / 2 ^ (19 - k)))) ph le cl se di a1 a2 a3 a4 a5 a6 a7 a8 a9 a10 a11 a12 a13 a14 a15 a16 a17 a18 a19 a20 a21 a22 a23 a24 a25 := by
    intro ho
    refine wn_tp136 hn hb hc (by omega) hm1 hm2 h20 (fun z => ?_) (fun z => absurd z (by omega))
    refine H _ _ _ _ _ (fun j hj => ⟨pk_un hj, rfl, rfl, rfl⟩) ?_ ?_ ?_ ?_
    · rw [if_pos z, pk_us]
    · rw [h21, s21 (by omega)]
    · rw [h22, s22 (by omega)]
    · rw [if_pos z, h24, s24 z]
  have z51 : (k < 1 ∨ 12 ≤ k) → wX_takePlain_51 post (nI n) (nI (wn_pb F k c)) (nI k) (nI (19 + 8 * (F.2.1 / 2 ^ (19 - k)))) ph le cl se di a1 a2 a3 a4 a5 a6 a7 a8 a9 a10 a11 a12 a13 a14 a15 a16 a17 a18 a19 a20 a21 a22 a23 a24 a25 := by
    intro ho
    have z82 : (k < 15 ∨ 19 ≤ k) → wX_takePlain_82 post (nI n) (nI (wn_pb F k c)) (nI k) (nI (19 + 8 * (F.2.1 / 2 ^ (19 - k)))) ph le cl se di a1 a2 a3 a4 a5 a6 a7 a8 a9 a10 a11 a12 a13 a14 a15 a16 a17 a18 a19 a20 a21 a22 a23 a24 a25 := by
      intro ho2
      have z114 : (k < 19 ∨ 19 + 8 * F.2.1 ≤ k) → wX_takePlain_114 post (nI n) (nI (wn_pb F k c)) (nI k) (nI (19 + 8 * (F.2.1 / 2 ^ (19 - k)))) ph le cl se di a1 a2 a3 a4 a5 a6 a7 a8 a9 a10 a11 a12 a13 a14 a15 a16 a17 a18 a19 a20 a21 a22 a23 a24 a25 := by
        intro ho3
        unfold wX_takePlain_114
        rw [cn]
        refine pk_lt k 19 (fun z => zA (by omega)) (fun z => ⟨i5, i5, nm_e ?_⟩)
        refine wn_tp136 hn hb hc (by omega) hm1 hm2 h20 (fun z2 => absurd z2 (by omega)) (fun z2 => ?_)
        have e : wn_pb F k c = c / 2 ^ (33 + 8 * F.2.1 - k) % 2 := by
          unfold wn_pb
          rw [if_neg (by omega), if_neg (by omega), if_neg (by omega), if_neg (by omega), if_neg (by omega)]
        refine H _ _ _ _ _ (fun j hj => ⟨rfl, rfl, rfl, pk_un hj⟩) ?_ ?_ ?_ ?_
        · rw [if_neg (by omega), h20]
        · rw [h21, s21 (by omega)]
        · rw [h22, s22 (by omega)]
        · rw [if_neg (by omega), pk_us, h24, wn_two, nI_add, e, hKv, show 34 + 8 * F.2.1 - k = (33 + 8 * F.2.1 - k) + 1 by omega, wn_half, show 34 + 8 * F.2.1 - (k + 1) = 33 + 8 * F.2.1 - k by omega]
      unfold wX_takePlain_82
      rw [cn]
      refine pk_lt k 19 (fun z => z114 (Or.inl z)) (fun z => pk_le (19 + 8 * (F.2.1 / 2 ^ (19 - k))) k (fun z2 => z114 (Or.inr (by have := hm1 z; omega))) (fun z2 => ⟨i5, i5, nm_e ?_⟩))
      refine wn_tp136 hn hb hc (by omega) hm1 hm2 h20 (fun z3 => ?_) (fun z3 => absurd z3 (by have := hm1 z; omega))
      refine H _ _ _ _ _ (fun j hj => ⟨pk_un hj, rfl, rfl, rfl⟩) ?_ ?_ ?_ ?_
      · rw [if_pos z3, pk_us]
      · rw [h21, s21 (by omega)]
      · rw [h22, s22 (by omega)]
      · rw [if_pos z3, h24, s24 z3]
    unfold wX_takePlain_51
    rw [cn]
    refine pk_lt k 15 (fun z => z82 (Or.inl z)) (fun z => pk_le 19 k (fun z2 => z82 (Or.inr z2)) (fun z2 => ⟨i5, i5, nm_e ?_⟩))
    refine wn_tp136 hn hb hc (by omega) hm1 hm2 h20 (fun z3 => ?_) (fun z3 => absurd z3 (by omega))
    have e : wn_pb F k c = F.2.1 / 2 ^ (18 - k) % 2 := by
      unfold wn_pb
      rw [if_neg (by omega), if_neg (by omega), if_neg (by omega), if_pos (by omega)]
    refine H _ _ _ _ _ (fun j hj => ⟨pk_un hj, rfl, pk_un hj, rfl⟩) ?_ ?_ ?_ ?_
    · rw [if_pos z3, pk_us]
    · rw [h21, s21 (by omega)]
    · rw [pk_us, h22, wn_two, nI_add, e, show 19 - k = (18 - k) + 1 by omega, wn_half, show 19 - (k + 1) = 18 - k by omega]
    · rw [if_pos z3, h24, s24 z3]
  refine pk_lt k 1 (fun z => z51 (Or.inl z)) (fun z => pk_le 12 k (fun z2 => z51 (Or.inr z2)) (fun z2 => ⟨i5, i5, nm_e ?_⟩))
  refine wn_tp136 hn hb hc (by omega) hm1 hm2 h20 (fun z3 => ?_) (fun z3 => absurd z3 (by omega))
  have e : wn_pb F k c = F.1 / 2 ^ (11 - k) % 2 := by
    unfold wn_pb
    rw [if_neg (by omega), if_pos (by omega)]
  refine H _ _ _ _ _ (fun j hj => ⟨pk_un hj, pk_un hj, rfl, rfl⟩) ?_ ?_ ?_ ?_
  · rw [if_pos z3, pk_us]
  · rw [pk_us, h21, wn_two, nI_add, e, show 12 - k = (11 - k) + 1 by omega, wn_half, show 12 - (k + 1) = 11 - k by omega]
  · rw [h22, s22 (by omega)]
  · rw [if_pos z3, h24, s24 z3]
end
end
section
/-! ===== listen, beginListening, bitsOf ===== -/
section
variable {ph le cl se di : Int32} {a1 : Nat → Int32} {a2 : Nat → Int32} {a3 : Nat → Int32} {a4 : Nat → Int32} {a5 : Nat → Int32} {a6 : Nat → Int32} {a7 : Nat → Int32} {a8 : Nat → Int32} {a9 : Nat → Int64} {a10 : Nat → Int32} {a11 : Nat → Int32} {a12 : Nat → Int32} {a13 : Nat → Int64} {a14 : Nat → Int32} {a15 : Nat → Int32} {a16 : Nat → Int32} {a17 : Nat → Int32} {a18 : Nat → Int32} {a19 : Nat → Int32} {a20 : Nat → Int32} {a21 : Nat → Int32} {a22 : Nat → Int32} {a23 : Nat → Int64} {a24 : Nat → Int32} {a25 : Nat → Int32}
theorem wn_listen {post : St2 → Prop} {F : Nat × Nat × Nat} {n : Nat} {s : wn_S} {tc t : Nat} (hn : n < 5) (h0 : F.1 < 2048) (h1 : F.2.1 ≤ 8) (hJ : wn_J t s) (hk : s.1 < wn_K F)
    (hl : wn_li F s tc (wn_fv (ph, le, cl, se, di, a1, a2, a3, a4, a5, a6, a7, a8, a9, a10, a11, a12, a13, a14, a15, a16, a17, a18, a19, a20, a21, a22, a23, a24, a25) n))
    (H : ∀ u' : St2, wn_h u' = wn_h (ph, le, cl, se, di, a1, a2, a3, a4, a5, a6, a7, a8, a9, a10, a11, a12, a13, a14, a15, a16, a17, a18, a19, a20, a21, a22, a23, a24, a25) → (∀ j, wn_bv u' j = wn_bv (ph, le, cl, se, di, a1, a2, a3, a4, a5, a6, a7, a8, a9, a10, a11, a12, a13, a14, a15, a16, a17, a18, a19, a20, a21, a22, a23, a24, a25) j) → (∀ j, j ≠ n → wn_fv u' j = wn_fv (ph, le, cl, se, di, a1, a2, a3, a4, a5, a6, a7, a8, a9, a10, a11, a12, a13, a14, a15, a16, a17, a18, a19, a20, a21, a22, a23, a24, a25) j) → (wn_fv u' n).1 = a15 n → wn_li F (wn_nx F s) tc (wn_fv u' n) → post u') :
    wpX_listen post (ph, le, cl, se, di, a1, a2, a3, a4, a5, a6, a7, a8, a9, a10, a11, a12, a13, a14, a15, a16, a17, a18, a19, a20, a21, a22, a23, a24, a25) (nI n) (nI (wn_ob F s)) := by
  obtain ⟨k, l, r, c⟩ := s
  obtain ⟨j1, j2, j3, j4, j5, j6⟩ := hJ
  dsimp only at hk j1 j2 j3 j4 j5 j6
  have hl' : a17 n = nI k ∧ a18 n = wn_l l ∧ a19 n = nI r ∧ a20 n = nI c ∧ a21 n = nI (F.1 / 2 ^ (12 - k)) ∧ a22 n = nI (F.2.1 / 2 ^ (19 - k)) ∧ a24 n = nI (c / 2 ^ (wn_K F - k)) ∧ a25 n = nI tc := hl
  obtain ⟨h17, h18, h19, h20, h21, h22, h24, h25⟩ := hl'
  have i5 : vp_in (nI n) 5 := pk_in n 5 hn
  have cn : (nI n).toNatClampNeg = n := nI_clamp (by omega)
  have hpb := wn_pb_le F k c
  unfold wpX_listen
  dsimp only
  rw [cn, h18, h19]
  refine wn_inTail hn h1 (Nat.le_of_lt hk) h17 h22 (fun _ => br_t rfl ?_) (fun z => absurd z (Nat.ne_of_lt hk))
  refine wn_isStuffed hn h1 hk j1 h17 h22 h19 (fun e => ⟨i5, ?_⟩) (fun e => ⟨i5, ?_⟩)
  · have e2 : wn_ob F (k, l, r, c) = 1 - l := if_pos e
    have e3 : wn_nx F (k, l, r, c) = (k, 1 - l, 1, c) := if_pos e
    have hl1 := j3 (by omega)
    rw [e2]
    rw [e3] at H
    refine ek_if (wn_l_eq (by omega) j2) (fun z => absurd z (by omega)) (fun _ => ?_)
    unfold wX_listen_52
    rw [cn]
    refine ⟨i5, nm_e ⟨i5, nm_e (br_f (by decide) ?_)⟩⟩
    refine H _ wn_h_same (fun j => wn_bv_same) (fun j hj => ?_) rfl ?_
    · show (a15 j, a17 j, upd a18 n (nI (1 - l)) j, upd a19 n 1 j, a20 j, a21 j, a22 j, a24 j, a25 j) = (a15 j, a17 j, a18 j, a19 j, a20 j, a21 j, a22 j, a24 j, a25 j)
      rw [pk_un hj, pk_un hj]
    · show a17 n = nI k ∧ upd a18 n (nI (1 - l)) n = wn_l (1 - l) ∧ upd a19 n 1 n = nI 1 ∧ a20 n = nI c ∧ a21 n = nI (F.1 / 2 ^ (12 - k)) ∧ a22 n = nI (F.2.1 / 2 ^ (19 - k)) ∧ a24 n = nI (c / 2 ^ (wn_K F - k)) ∧ a25 n = nI tc
      refine ⟨h17, ?_, pk_us, h20, h21, h22, h24, h25⟩
      rw [pk_us, wn_l_b (by omega)]
  · have e2 : wn_ob F (k, l, r, c) = wn_pb F k c := if_neg e
    have e3 : wn_nx F (k, l, r, c) = (k + 1, wn_pb F k c, (if wn_pb F k c = l then r + 1 else 1), (if k < 19 + 8 * F.2.1 then wn_crc c (wn_pb F k c) else c)) := if_neg e
    rw [e2]
    rw [e3] at H
    have main : ∀ y : Nat, y = (if wn_pb F k c = l then r + 1 else 1) → wX_listen_52 post (nI n) (nI (wn_pb F k c)) 0 (nI y) (nI n) ph le cl se di a1 a2 a3 a4 a5 a6 a7 a8 a9 a10 a11 a12 a13 a14 a15 a16 a17 a18 a19 a20 a21 a22 a23 a24 a25 := by
      intro y hy
      rw [← hy] at H
      unfold wX_listen_52
      rw [cn]
      refine ⟨i5, nm_e ⟨i5, nm_e (br_t rfl ?_)⟩⟩
      refine wn_takePlain hn h0 h1 hk j4 h17 h20 h21 h22 h24 (fun b20 b21 b22 b23 b24 hb q20 q21 q22 q24 => ?_)
      refine ⟨i5, i5, nm_e ?_⟩
      refine H _ wn_h_same (fun j => wn_bv_same) (fun j hj => ?_) rfl ?_
      · obtain ⟨f20, f21, f22, f24⟩ := hb j hj
        show (a15 j, upd a17 n (a17 n + 1) j, upd a18 n (nI (wn_pb F k c)) j, upd a19 n (nI y) j, b20 j, b21 j, b22 j, b24 j, a25 j) = (a15 j, a17 j, a18 j, a19 j, a20 j, a21 j, a22 j, a24 j, a25 j)
        rw [pk_un hj, pk_un hj, pk_un hj, f20, f21, f22, f24]
      · show upd a17 n (a17 n + 1) n = nI (k + 1) ∧ upd a18 n (nI (wn_pb F k c)) n = wn_l (wn_pb F k c) ∧ upd a19 n (nI y) n = nI y ∧ b20 n = nI (if k < 19 + 8 * F.2.1 then wn_crc c (wn_pb F k c) else c) ∧ b21 n = nI (F.1 / 2 ^ (12 - (k + 1))) ∧ b22 n = nI (F.2.1 / 2 ^ (19 - (k + 1))) ∧ b24 n = nI ((if k < 19 + 8 * F.2.1 then wn_crc c (wn_pb F k c) else c) / 2 ^ (wn_K F - (k + 1))) ∧ a25 n = nI tc
        refine ⟨?_, ?_, pk_us, q20, q21, q22, q24, h25⟩
        · rw [pk_us, h17, nI_1]
        · rw [pk_us, wn_l_b hpb]
    refine ek_if (wn_l_eq hpb j2) (fun z => ⟨i5, ?_⟩) (fun z => ?_)
    · rw [nI_1]
      exact main (r + 1) (by rw [if_pos z])
    · exact main 1 (by rw [if_neg z])
/-- a bit of the tail -/
theorem wn_listenT {post : St2 → Prop} {F : Nat × Nat × Nat} {n : Nat} {s : wn_S} {tc : Nat} {x : Int32} (hn : n < 5) (h1 : F.2.1 ≤ 8) (hk : s.1 = wn_K F)
    (hl : wn_li F s tc (wn_fv (ph, le, cl, se, di, a1, a2, a3, a4, a5, a6, a7, a8, a9, a10, a11, a12, a13, a14, a15, a16, a17, a18, a19, a20, a21, a22, a23, a24, a25) n))
    (H : ∀ u' : St2, wn_h u' = wn_h (ph, le, cl, se, di, a1, a2, a3, a4, a5, a6, a7, a8, a9, a10, a11, a12, a13, a14, a15, a16, a17, a18, a19, a20, a21, a22, a23, a24, a25) → (∀ j, wn_bv u' j = wn_bv (ph, le, cl, se, di, a1, a2, a3, a4, a5, a6, a7, a8, a9, a10, a11, a12, a13, a14, a15, a16, a17, a18, a19, a20, a21, a22, a23, a24, a25) j) → (∀ j, j ≠ n → wn_fv u' j = wn_fv (ph, le, cl, se, di, a1, a2, a3, a4, a5, a6, a7, a8, a9, a10, a11, a12, a13, a14, a15, a16, a17, a18, a19, a20, a21, a22, a23, a24, a25) j) → (wn_fv u' n).1 = a15 n → wn_li F s (tc + 1) (wn_fv u' n) → post u') :
    wpX_listen post (ph, le, cl, se, di, a1, a2, a3, a4, a5, a6, a7, a8, a9, a10, a11, a12, a13, a14, a15, a16, a17, a18, a19, a20, a21, a22, a23, a24, a25) (nI n) x := by
  obtain ⟨h17, h18, h19, h20, h21, h22, h24, h25⟩ := hl
  have i5 : vp_in (nI n) 5 := pk_in n 5 hn
  have cn : (nI n).toNatClampNeg = n := nI_clamp (by omega)
  unfold wpX_listen
  dsimp only
  rw [cn]
  refine wn_inTail hn h1 (Nat.le_of_eq hk) h17 h22 (fun z => absurd hk (Nat.ne_of_lt z)) (fun _ => br_f (by decide) ⟨i5, i5, nm_e ?_⟩)
  refine H _ wn_h_same (fun j => wn_bv_same) (fun j hj => ?_) rfl ?_
  · show (a15 j, a17 j, a18 j, a19 j, a20 j, a21 j, a22 j, a24 j, upd a25 n (a25 n + 1) j) = (a15 j, a17 j, a18 j, a19 j, a20 j, a21 j, a22 j, a24 j, a25 j)
    rw [pk_un hj]
  · refine ⟨h17, h18, h19, h20, h21, h22, h24, ?_⟩
    show upd a25 n (a25 n + 1) n = nI (tc + 1)
    rw [pk_us, h25, nI_1]
theorem wn_beginL {post : St2 → Prop} {F : Nat × Nat × Nat} {n : Nat} (hn : n < 5) (h0 : F.1 < 2048) (h1 : F.2.1 ≤ 8)
    (H : ∀ u' : St2, wn_h u' = wn_h (ph, le, cl, se, di, a1, a2, a3, a4, a5, a6, a7, a8, a9, a10, a11, a12, a13, a14, a15, a16, a17, a18, a19, a20, a21, a22, a23, a24, a25) → (∀ j, wn_bv u' j = wn_bv (ph, le, cl, se, di, a1, a2, a3, a4, a5, a6, a7, a8, a9, a10, a11, a12, a13, a14, a15, a16, a17, a18, a19, a20, a21, a22, a23, a24, a25) j) → (∀ j, j ≠ n → wn_fv u' j = wn_fv (ph, le, cl, se, di, a1, a2, a3, a4, a5, a6, a7, a8, a9, a10, a11, a12, a13, a14, a15, a16, a17, a18, a19, a20, a21, a22, a23, a24, a25) j) → (wn_fv u' n).1 = a15 n → wn_li F (wn_at F 0) 0 (wn_fv u' n) → post u') :
    wpX_beginListening post (ph, le, cl, se, di, a1, a2, a3, a4, a5, a6, a7, a8, a9, a10, a11, a12, a13, a14, a15, a16, a17, a18, a19, a20, a21, a22, a23, a24, a25) (nI n) := by
  have i5 : vp_in (nI n) 5 := pk_in n 5 hn
  have cn : (nI n).toNatClampNeg = n := nI_clamp (by omega)
  unfold wpX_beginListening
  dsimp only
  rw [cn]
  refine ⟨i5, nm_e ⟨i5, nm_e ⟨i5, nm_e ⟨i5, nm_e ⟨i5, nm_e ⟨i5, nm_e ⟨i5, nm_e ⟨i5, nm_e ⟨i5, nm_e ?_⟩⟩⟩⟩⟩⟩⟩⟩⟩
  refine H _ wn_h_same (fun j => wn_bv_same) (fun j hj => ?_) rfl ?_
  · show (a15 j, upd a17 n 0 j, upd a18 n (-1) j, upd a19 n 0 j, upd a20 n 0 j, upd a21 n 0 j, upd a22 n 0 j, upd a24 n 0 j, upd a25 n 0 j) = (a15 j, a17 j, a18 j, a19 j, a20 j, a21 j, a22 j, a24 j, a25 j)
    rw [pk_un hj, pk_un hj, pk_un hj, pk_un hj, pk_un hj, pk_un hj, pk_un hj, pk_un hj]
  · show upd a17 n 0 n = nI 0 ∧ upd a18 n (-1) n = wn_l 2 ∧ upd a19 n 0 n = nI 0 ∧ upd a20 n 0 n = nI 0 ∧ upd a21 n 0 n = nI (F.1 / 2 ^ (12 - 0)) ∧ upd a22 n 0 n = nI (F.2.1 / 2 ^ (19 - 0)) ∧ upd a24 n 0 n = nI (0 / 2 ^ (wn_K F - 0)) ∧ upd a25 n 0 n = nI 0
    rw [wn_z (m := 11) h0 (by omega), wn_z (m := 4) (x := F.2.1) (by omega) (by omega), Nat.zero_div]
    exact ⟨pk_us, pk_us, pk_us, pk_us, pk_us, pk_us, pk_us, pk_us⟩
/-- the data, cut to its length -/
theorem wn_cutTo {post : Int64 → Prop} {len d : Nat} (hl : len ≤ 8) (hd : d < 2 ^ 64) (H : ∀ d', d' < 2 ^ 64 → (∀ j, j < 8 * len → d' / 2 ^ j % 2 = d / 2 ^ j % 2) → post (lN d')) : wpX_cutTo post () (nI len) (lN d) := by
  refine pk_eq len 8 (fun _ => H d hd (fun j _ => rfl)) (fun e => ?_)
  rw [show (8 : Int32) * nI len = nI (8 * len) from pk_mul 8 _, show (1 : Int64) = lN 1 from rfl, wb_shl 1 (show 8 * len < 64 by omega), Nat.one_mul]
  have hp : 1 ≤ 2 ^ (8 * len) := Nat.one_le_two_pow
  rw [show lN (2 ^ (8 * len)) - lN 1 = lN (2 ^ (8 * len) - 1) from lN_sub hp, wb_mask hd (by omega)]
  refine H _ (Nat.lt_of_le_of_lt (Nat.mod_le _ _) hd) (fun j hj => ?_)
  have a := Nat.testBit_mod_two_pow d (8 * len) j
  rw [Nat.testBit_eq_decide_div_mod_eq, Nat.testBit_eq_decide_div_mod_eq, decide_eq_true hj, Bool.true_and] at a
  have b := decide_eq_decide.mp a
  omega
theorem wn_setFrame {post : St2 → Prop} {F : Nat × Nat × Nat} {n : Nat} (hn : n < 5) (h0 : F.1 < 2048) (h1 : F.2.1 ≤ 8) (h2 : F.2.2 < 2 ^ 64)
    (H : ∀ (b7 b8 : Nat → Int32) (b9 : Nat → Int64), (∀ j, j ≠ 4 * n → b7 j = a7 j ∧ b8 j = a8 j ∧ b9 j = a9 j) → wn_wt F (b7 (4 * n)) (b8 (4 * n)) (b9 (4 * n)) → post (ph, le, cl, se, di, a1, a2, a3, a4, a5, a6, b7, b8, b9, a10, a11, a12, a13, a14, a15, a16, a17, a18, a19, a20, a21, a22, a23, a24, a25)) :
    wpX_setFrame post (ph, le, cl, se, di, a1, a2, a3, a4, a5, a6, a7, a8, a9, a10, a11, a12, a13, a14, a15, a16, a17, a18, a19, a20, a21, a22, a23, a24, a25) (nI (4 * n)) (nI F.1) (nI F.2.1) (lN F.2.2) := by
  have i20 : vp_in (nI (4 * n)) 20 := pk_in (4 * n) 20 (by omega)
  have cn : (nI (4 * n)).toNatClampNeg = 4 * n := nI_clamp (by omega)
  unfold wpX_setFrame
  dsimp only
  rw [cn]
  refine ⟨i20, nm_e ⟨i20, nm_e (wn_cutTo h1 h2 (fun d' hd' hb => ⟨i20, nm_e ?_⟩))⟩⟩
  refine H _ _ _ (fun j hj => ⟨pk_un hj, pk_un hj, pk_uLn hj⟩) ⟨h0, h1, pk_us, pk_us, d', hd', pk_uLs, hb⟩
/-- the measured frame: the answer is its bits and the tail; the nodes stay as they are -/
theorem wn_bitsOf {post : Int32 → St2 → Prop} {F : Nat × Nat × Nat} {d N : Nat} (h0 : F.1 < 2048) (h1 : F.2.1 ≤ 8) (h2 : d < 2 ^ 64) (hd : ∀ j, j < 8 * F.2.1 → d / 2 ^ j % 2 = F.2.2 / 2 ^ j % 2) (hN : wn_Len F N)
    (H : ∀ u' : St2, wn_h u' = wn_h (ph, le, cl, se, di, a1, a2, a3, a4, a5, a6, a7, a8, a9, a10, a11, a12, a13, a14, a15, a16, a17, a18, a19, a20, a21, a22, a23, a24, a25) → (∀ j, j < 4 → wn_bv u' j = wn_bv (ph, le, cl, se, di, a1, a2, a3, a4, a5, a6, a7, a8, a9, a10, a11, a12, a13, a14, a15, a16, a17, a18, a19, a20, a21, a22, a23, a24, a25) j) → (∀ j, j < 4 → wn_fv u' j = wn_fv (ph, le, cl, se, di, a1, a2, a3, a4, a5, a6, a7, a8, a9, a10, a11, a12, a13, a14, a15, a16, a17, a18, a19, a20, a21, a22, a23, a24, a25) j) → post (nI N + 10) u') :
    wpX_bitsOf post (ph, le, cl, se, di, a1, a2, a3, a4, a5, a6, a7, a8, a9, a10, a11, a12, a13, a14, a15, a16, a17, a18, a19, a20, a21, a22, a23, a24, a25) (nI F.1) (nI F.2.1) (lN d) := by
  have hNb := wn_Len_bd h1 hN
  unfold wpX_bitsOf
  dsimp only
  refine pk_lt F.1 0 (fun z => absurd z (by omega)) (fun _ => pk_le 2048 F.1 (fun z => absurd z (by omega)) (fun _ => br_f (by decide) ?_))
  refine pk_lt F.2.1 0 (fun z => absurd z (by omega)) (fun _ => pk_le F.2.1 8 (fun _ => ?_) (fun z => absurd z (by omega)))
  refine wn_setFrame (F := (F.1, F.2.1, d)) (n := 4) (by decide) h0 h1 h2 (fun b7 b8 b9 hb hw => nm_e (nm_e ?_))
  have hw' : wn_wt F (b7 16) (b8 16) (b9 16) := by
    obtain ⟨_, _, w7, w8, e, he, w9, hj⟩ := hw
    exact ⟨h0, h1, w7, w8, e, he, w9, fun j hj' => by rw [hj j hj']; exact hd j hj'⟩
  refine wn_beginL (F := F) (n := 4) (by decide) h0 h1 (fun u1 q1 q2 q3 q4 q5 => ?_)
  obtain ⟨ph', le', cl', se', di', a1', a2', a3', a4', a5', a6', a7', a8', a9', a10', a11', a12', a13', a14', a15', a16', a17', a18', a19', a20', a21', a22', a23', a24', a25'⟩ := u1
  dsimp only
  refine pk_loop (σ := St2)
    (fun fu i u => wX_bitsOf_50 post fu (nI i) u.1 u.2.1 u.2.2.1 u.2.2.2.1 u.2.2.2.2.1 u.2.2.2.2.2.1 u.2.2.2.2.2.2.1 u.2.2.2.2.2.2.2.1 u.2.2.2.2.2.2.2.2.1 u.2.2.2.2.2.2.2.2.2.1 u.2.2.2.2.2.2.2.2.2.2.1 u.2.2.2.2.2.2.2.2.2.2.2.1 u.2.2.2.2.2.2.2.2.2.2.2.2.1 u.2.2.2.2.2.2.2.2.2.2.2.2.2.1 u.2.2.2.2.2.2.2.2.2.2.2.2.2.2.1 u.2.2.2.2.2.2.2.2.2.2.2.2.2.2.2.1 u.2.2.2.2.2.2.2.2.2.2.2.2.2.2.2.2.1 u.2.2.2.2.2.2.2.2.2.2.2.2.2.2.2.2.2.1 u.2.2.2.2.2.2.2.2.2.2.2.2.2.2.2.2.2.2.1 u.2.2.2.2.2.2.2.2.2.2.2.2.2.2.2.2.2.2.2.1 u.2.2.2.2.2.2.2.2.2.2.2.2.2.2.2.2.2.2.2.2.1 u.2.2.2.2.2.2.2.2.2.2.2.2.2.2.2.2.2.2.2.2.2.1 u.2.2.2.2.2.2.2.2.2.2.2.2.2.2.2.2.2.2.2.2.2.2.1 u.2.2.2.2.2.2.2.2.2.2.2.2.2.2.2.2.2.2.2.2.2.2.2.1 u.2.2.2.2.2.2.2.2.2.2.2.2.2.2.2.2.2.2.2.2.2.2.2.2.1 u.2.2.2.2.2.2.2.2.2.2.2.2.2.2.2.2.2.2.2.2.2.2.2.2.2.1 u.2.2.2.2.2.2.2.2.2.2.2.2.2.2.2.2.2.2.2.2.2.2.2.2.2.2.1 u.2.2.2.2.2.2.2.2.2.2.2.2.2.2.2.2.2.2.2.2.2.2.2.2.2.2.2.1 u.2.2.2.2.2.2.2.2.2.2.2.2.2.2.2.2.2.2.2.2.2.2.2.2.2.2.2.2.1 u.2.2.2.2.2.2.2.2.2.2.2.2.2.2.2.2.2.2.2.2.2.2.2.2.2.2.2.2.2)
    (fun i u => wn_h u = wn_h (ph, le, cl, se, di, a1, a2, a3, a4, a5, a6, a7, a8, a9, a10, a11, a12, a13, a14, a15, a16, a17, a18, a19, a20, a21, a22, a23, a24, a25) ∧ (∀ j, j < 4 → wn_bv u j = wn_bv (ph, le, cl, se, di, a1, a2, a3, a4, a5, a6, a7, a8, a9, a10, a11, a12, a13, a14, a15, a16, a17, a18, a19, a20, a21, a22, a23, a24, a25) j) ∧ (∀ j, j < 4 → wn_fv u j = wn_fv (ph, le, cl, se, di, a1, a2, a3, a4, a5, a6, a7, a8, a9, a10, a11, a12, a13, a14, a15, a16, a17, a18, a19, a20, a21, a22, a23, a24, a25) j) ∧ (wn_fv u 4).1 = 1 ∧ wn_bv u 4 = wn_bv (ph, le, cl, se, di, a1, a2, a3, a4, a5, a6, b7, b8, b9, a10, a11, a12, a13, a14, a15, upd a16 4 0, a17, a18, a19, a20, a21, a22, a23, a24, a25) 4 ∧ wn_li F (wn_at F i) 0 (wn_fv u 4)) N 0 (ph', le', cl', se', di', a1', a2', a3', a4', a5', a6', a7', a8', a9', a10', a11', a12', a13', a14', a15', a16', a17', a18', a19', a20', a21', a22', a23', a24', a25') (Nat.zero_le _) ?_ ?_ ?_
  · -- the beginning
    refine ⟨q1.trans wn_h_same, fun j hj => (q2 j).trans ?_, fun j hj => (q3 j (by omega)).trans ?_, ?_, (q2 4).trans wn_bv_same, q5⟩
    · show (a1 j, a2 j, a3 j, a4 j, a6 j, b7 (4 * j), b8 (4 * j), b9 (4 * j), a10 j, a11 (6 * j), a11 (6 * j + 1), a12 (6 * j), a12 (6 * j + 1), a14 j, upd a16 4 0 j) = (a1 j, a2 j, a3 j, a4 j, a6 j, a7 (4 * j), a8 (4 * j), a9 (4 * j), a10 j, a11 (6 * j), a11 (6 * j + 1), a12 (6 * j), a12 (6 * j + 1), a14 j, a16 j)
      obtain ⟨f7, f8, f9⟩ := hb (4 * j) (by omega)
      rw [f7, f8, f9, pk_un (by omega)]
    · show (upd a15 4 1 j, a17 j, a18 j, a19 j, a20 j, a21 j, a22 j, a24 j, a25 j) = (a15 j, a17 j, a18 j, a19 j, a20 j, a21 j, a22 j, a24 j, a25 j)
      rw [pk_un (by omega)]
    · rw [q4]
      exact pk_us
  · -- the end
    rintro fu ⟨ph'', le'', cl'', se'', di'', a1'', a2'', a3'', a4'', a5'', a6'', a7'', a8'', a9'', a10'', a11'', a12'', a13'', a14'', a15'', a16'', a17'', a18'', a19'', a20'', a21'', a22'', a23'', a24'', a25''⟩ ⟨r1, r2, r3, r4, r5, r6⟩
    show wX_bitsOf_50 post (fu + 1) (nI N) ph'' le'' cl'' se'' di'' a1'' a2'' a3'' a4'' a5'' a6'' a7'' a8'' a9'' a10'' a11'' a12'' a13'' a14'' a15'' a16'' a17'' a18'' a19'' a20'' a21'' a22'' a23'' a24'' a25''
    have hk := hN.1
    obtain ⟨h17, _, _, _, _, h22, _, _⟩ := r6
    refine pk_le 140 N (fun z => absurd z (by omega)) (fun _ => ?_)
    refine wn_inTail (n := 4) (by decide) h1 (Nat.le_of_eq hk) h17 h22 (fun z => absurd hk (Nat.ne_of_lt z)) (fun _ => br_f (by decide) ?_)
    exact H _ r1 r2 r3
  · -- a bit
    rintro fu i ⟨ph'', le'', cl'', se'', di'', a1'', a2'', a3'', a4'', a5'', a6'', a7'', a8'', a9'', a10'', a11'', a12'', a13'', a14'', a15'', a16'', a17'', a18'', a19'', a20'', a21'', a22'', a23'', a24'', a25''⟩ hi ⟨r1, r2, r3, r4, r5, r6⟩ ih
    show wX_bitsOf_50 post (fu + 1) (nI i) ph'' le'' cl'' se'' di'' a1'' a2'' a3'' a4'' a5'' a6'' a7'' a8'' a9'' a10'' a11'' a12'' a13'' a14'' a15'' a16'' a17'' a18'' a19'' a20'' a21'' a22'' a23'' a24'' a25''
    have hk := hN.2 i hi
    have hJ := wn_J_at F i
    refine pk_le 140 i (fun z => absurd z (by omega)) (fun _ => ?_)
    have g17 : a17'' 4 = nI (wn_at F i).1 := r6.1
    have g22 : a22'' 4 = nI (F.2.1 / 2 ^ (19 - (wn_at F i).1)) := r6.2.2.2.2.2.1
    refine wn_inTail (n := 4) (by decide) h1 (Nat.le_of_lt hk) g17 g22 (fun _ => br_t rfl ?_) (fun z => absurd z (Nat.ne_of_lt hk))
    have g15 : a15'' 4 = 1 := r4
    have g5 : (a1'' 4, a2'' 4, a3'' 4, a4'' 4, a6'' 4, a7'' 16, a8'' 16, a9'' 16, a10'' 4, a11'' 24, a11'' 25, a12'' 24, a12'' 25, a14'' 4, a16'' 4) = (a1 4, a2 4, a3 4, a4 4, a6 4, b7 16, b8 16, b9 16, a10 4, a11 24, a11 25, a12 24, a12 25, a14 4, upd a16 4 0 4) := r5
    simp only [Prod.mk.injEq] at g5
    obtain ⟨_, _, _, _, _, g7, g8, g9, _, _, _, _, _, _, g16⟩ := g5
    rw [pk_us] at g16
    refine wn_outputS (n := 4) (by decide) h1 hJ hk hk g15 g16 r6 (by show wn_wt F (a7'' 16) (a8'' 16) (a9'' 16); rw [g7, g8, g9]; exact hw') ?_
    refine wn_listen (n := 4) (by decide) h0 h1 hJ hk r6 (fun u3 s1 s2 s3 s4 s5 => ?_)
    have t := ih u3 ⟨s1.trans r1, fun j hj => (s2 j).trans (r2 j hj), fun j hj => (s3 j (by omega)).trans (r3 j hj), s4.trans g15, (s2 4).trans r5, s5⟩
    obtain ⟨ph3, le3, cl3, se3, di3, c1, c2, c3, c4, c5, c6, c7, c8, c9, c10, c11, c12, c13, c14, c15, c16, c17, c18, c19, c20, c21, c22, c23, c24, c25⟩ := u3
    exact nm_r (nI_1 i) t
end
end
section
/-! ===== a frame on the wire ===== -/
def wn_ws (W : Option (Nat × Nat × Nat)) (x6 x7 x8 : Int32) (x9 : Int64) : Prop := match W with
  | none => x6 = 0
  | some G => x6 = 1 ∧ wn_wt G x7 x8 x9
def wn_bx (b : List (Nat × Nat)) (x10 x11 y11 x12 y12 : Int32) : Prop := match b with
  | [] => x10 = 0
  | [f] => x10 = 1 ∧ x11 = nI f.1 ∧ x12 = nI f.2
  | [f, g] => x10 = 2 ∧ x11 = nI f.1 ∧ x12 = nI f.2 ∧ y11 = nI g.1 ∧ y12 = nI g.2
  | _ => False
/-- a node outside of listening: on, no errors, no filter; the frame that waits, the inbox -/
def wn_bs (W : Option (Nat × Nat × Nat)) (b : List (Nat × Nat)) (v : wn_BV) : Prop := match v with
  | (x1, x2, x3, x4, x6, x7, x8, x9, x10, x11, y11, x12, y12, x14, x16) => x1 = 1 ∧ x2 = 0 ∧ x3 = 0 ∧ x4 = 0 ∧ x14 = 0 ∧ x16 = 0 ∧ wn_ws W x6 x7 x8 x9 ∧ wn_bx b x10 x11 y11 x12 y12
/-- node n after t bits of the frame F (N bits and the tail), whose sender is w -/
def wn_ok (F : Nat × Nat × Nat) (N w t : Nat) (W : Nat → Option (Nat × Nat × Nat)) (n : Nat) (v : wn_FV) : Prop :=
  wn_li F (wn_at F (min t N)) (t - N) v ∧ (n = w → v.1 = 1) ∧ (n ≠ w → v.1 = 2 ∨ (v.1 = 1 ∧ ∃ G, W n = some G ∧ F.1 < G.1 ∧ (wn_at F (min t N)).1 < 12 ∧ F.1 / 2 ^ (12 - (wn_at F (min t N)).1) = G.1 / 2 ^ (12 - (wn_at F (min t N)).1)))
def wn_FX (F : Nat × Nat × Nat) (N w : Nat) (W : Nat → Option (Nat × Nat × Nat)) : Prop := F.1 < 2048 ∧ F.2.1 ≤ 8 ∧ wn_Len F N ∧ w < 4 ∧ W w = some F
/-- the wire's bit -/
def wn_lv (F : Nat × Nat × Nat) (N t : Nat) : Nat := if t < N then wn_ob F (wn_at F t) else if t = N + 1 then 0 else 1
theorem wn_ob_le (F : Nat × Nat × Nat) (s : wn_S) : wn_ob F s ≤ 1 := by
  unfold wn_ob
  have := wn_pb_le F s.1 s.2.2.2
  split <;> omega
theorem wn_lv_le (F : Nat × Nat × Nat) (N t : Nat) : wn_lv F N t ≤ 1 := by
  unfold wn_lv
  have := wn_ob_le F (wn_at F t)
  split
  · omega
  · split <;> omega
/-- who gives way: the least id goes on -/
theorem wn_arb {F G : Nat × Nat × Nat} {s : wn_S} (h0 : F.1 < 2048) (g0 : G.1 < 2048) (hl : F.1 < G.1) (hk : s.1 < 12) (hp : F.1 / 2 ^ (12 - s.1) = G.1 / 2 ^ (12 - s.1)) :
    wn_ob F s ≤ wn_ob G s ∧ (wn_ob G s = wn_ob F s → (wn_nx F s).1 < 12 ∧ F.1 / 2 ^ (12 - (wn_nx F s).1) = G.1 / 2 ^ (12 - (wn_nx F s).1)) := by
  obtain ⟨k, l, r, c⟩ := s
  dsimp only at hk hp
  by_cases e : r = 5
  · have e1 : wn_ob F (k, l, r, c) = 1 - l := if_pos e
    have e2 : wn_ob G (k, l, r, c) = 1 - l := if_pos e
    have e3 : wn_nx F (k, l, r, c) = (k, 1 - l, 1, c) := if_pos e
    rw [e1, e2, e3]
    exact ⟨Nat.le_refl _, fun _ => ⟨hk, hp⟩⟩
  · have e1 : wn_ob F (k, l, r, c) = wn_pb F k c := if_neg e
    have e2 : wn_ob G (k, l, r, c) = wn_pb G k c := if_neg e
    have e3 : (wn_nx F (k, l, r, c)).1 = k + 1 := by
      unfold wn_nx
      rw [if_neg e]
    rw [e1, e2, e3]
    rcases Nat.lt_or_ge k 1 with z | z
    · have f1 : wn_pb F k c = 0 := by unfold wn_pb; rw [if_pos z]
      have f2 : wn_pb G k c = 0 := by unfold wn_pb; rw [if_pos z]
      rw [f1, f2]
      refine ⟨Nat.le_refl _, fun _ => ⟨by omega, ?_⟩⟩
      rw [wn_z (m := 11) h0 (by omega), wn_z (m := 11) g0 (by omega)]
    · have f1 : wn_pb F k c = F.1 / 2 ^ (11 - k) % 2 := by unfold wn_pb; rw [if_neg (by omega), if_pos hk]
      have f2 : wn_pb G k c = G.1 / 2 ^ (11 - k) % 2 := by unfold wn_pb; rw [if_neg (by omega), if_pos hk]
      rw [f1, f2]
      have q1 := wn_half F.1 (11 - k)
      have q2 := wn_half G.1 (11 - k)
      rw [show (11 - k) + 1 = 12 - k by omega] at q1 q2
      rw [hp] at q1
      have q3 : F.1 / 2 ^ (11 - k) ≤ G.1 / 2 ^ (11 - k) := Nat.div_le_div_right (Nat.le_of_lt hl)
      refine ⟨by omega, fun g => ?_⟩
      have q4 : F.1 / 2 ^ (11 - k) = G.1 / 2 ^ (11 - k) := by omega
      rw [show 12 - (k + 1) = 11 - k by omega]
      refine ⟨?_, q4⟩
      rcases Nat.lt_or_ge (k + 1) 12 with y | y
      · exact y
      · rw [show 11 - k = 0 by omega, Nat.pow_zero, Nat.div_one, Nat.div_one] at q4
        omega
section
variable {ph le cl se di : Int32} {a1 : Nat → Int32} {a2 : Nat → Int32} {a3 : Nat → Int32} {a4 : Nat → Int32} {a5 : Nat → Int32} {a6 : Nat → Int32} {a7 : Nat → Int32} {a8 : Nat → Int32} {a9 : Nat → Int64} {a10 : Nat → Int32} {a11 : Nat → Int32} {a12 : Nat → Int32} {a13 : Nat → Int64} {a14 : Nat → Int32} {a15 : Nat → Int32} {a16 : Nat → Int32} {a17 : Nat → Int32} {a18 : Nat → Int32} {a19 : Nat → Int32} {a20 : Nat → Int32} {a21 : Nat → Int32} {a22 : Nat → Int32} {a23 : Nat → Int64} {a24 : Nat → Int32} {a25 : Nat → Int32}
variable {F : Nat × Nat × Nat} {N w t : Nat} {W : Nat → Option (Nat × Nat × Nat)} {b : List (Nat × Nat)} {n : Nat}
theorem wn_bs_wt {G : Nat × Nat × Nat} (hb : wn_bs (W n) b (wn_bv (ph, le, cl, se, di, a1, a2, a3, a4, a5, a6, a7, a8, a9, a10, a11, a12, a13, a14, a15, a16, a17, a18, a19, a20, a21, a22, a23, a24, a25) n)) (hW : W n = some G) : a6 n = 1 ∧ wn_wt G (a7 (4 * n)) (a8 (4 * n)) (a9 (4 * n)) := by
  obtain ⟨_, _, _, _, _, _, h, _⟩ := hb
  rw [hW] at h
  exact h
section
variable {ph' le' cl' se' di' : Int32} {a1' : Nat → Int32} {a2' : Nat → Int32} {a3' : Nat → Int32} {a4' : Nat → Int32} {a5' : Nat → Int32} {a6' : Nat → Int32} {a7' : Nat → Int32} {a8' : Nat → Int32} {a9' : Nat → Int64} {a10' : Nat → Int32} {a11' : Nat → Int32} {a12' : Nat → Int32} {a13' : Nat → Int64} {a14' : Nat → Int32} {a15' : Nat → Int32} {a16' : Nat → Int32} {a17' : Nat → Int32} {a18' : Nat → Int32} {a19' : Nat → Int32} {a20' : Nat → Int32} {a21' : Nat → Int32} {a22' : Nat → Int32} {a23' : Nat → Int64} {a24' : Nat → Int32} {a25' : Nat → Int32}
theorem wn_bs_same {Wn : Option (Nat × Nat × Nat)} (h : wn_bs Wn b (wn_bv (ph, le, cl, se, di, a1, a2, a3, a4, a5, a6, a7, a8, a9, a10, a11, a12, a13, a14, a15, a16, a17, a18, a19, a20, a21, a22, a23, a24, a25) n)) : wn_bs Wn b (wn_bv (ph', le', cl', se', di', a1, a2, a3, a4, a5', a6, a7, a8, a9, a10, a11, a12, a13', a14, a15', a16, a17', a18', a19', a20', a21', a22', a23', a24', a25') n) := by
  rw [wn_bv_mk] at h ⊢
  exact h
theorem wn_ok_same (h : wn_ok F N w t W n (wn_fv (ph, le, cl, se, di, a1, a2, a3, a4, a5, a6, a7, a8, a9, a10, a11, a12, a13, a14, a15, a16, a17, a18, a19, a20, a21, a22, a23, a24, a25) n)) : wn_ok F N w t W n (wn_fv (ph', le', cl', se', di', a1', a2', a3', a4', a5', a6', a7', a8', a9', a10', a11', a12', a13', a14', a15, a16', a17, a18, a19, a20, a21, a22, a23', a24, a25) n) := by
  rw [wn_fv_mk] at h ⊢
  exact h
end
theorem wn_bs_16 (hb : wn_bs (W n) b (wn_bv (ph, le, cl, se, di, a1, a2, a3, a4, a5, a6, a7, a8, a9, a10, a11, a12, a13, a14, a15, a16, a17, a18, a19, a20, a21, a22, a23, a24, a25) n)) : a16 n = 0 := hb.2.2.2.2.2.1
theorem wn_out {post : Int32 → Prop} (hX : wn_FX F N w W) (hn : n < 4) (hb : wn_bs (W n) b (wn_bv (ph, le, cl, se, di, a1, a2, a3, a4, a5, a6, a7, a8, a9, a10, a11, a12, a13, a14, a15, a16, a17, a18, a19, a20, a21, a22, a23, a24, a25) n)) (ho : wn_ok F N w t W n (wn_fv (ph, le, cl, se, di, a1, a2, a3, a4, a5, a6, a7, a8, a9, a10, a11, a12, a13, a14, a15, a16, a17, a18, a19, a20, a21, a22, a23, a24, a25) n)) (ht : t ≤ N + 9)
    (H : ∀ o, o ≤ 1 → wn_lv F N t ≤ o → (t < N → n = w → o = wn_lv F N t) → (N ≤ t → n ≠ w → o = wn_lv F N t) → post (nI o)) : wpX_output post (ph, le, cl, se, di, a1, a2, a3, a4, a5, a6, a7, a8, a9, a10, a11, a12, a13, a14, a15, a16, a17, a18, a19, a20, a21, a22, a23, a24, a25) (nI n) := by
  obtain ⟨h0, h1, hN, hw, hW⟩ := hX
  obtain ⟨hl, hr1, hr2⟩ := ho
  have h16 := wn_bs_16 hb
  rcases Nat.lt_or_ge t N with z | z
  · rw [Nat.min_eq_left (Nat.le_of_lt z)] at hl hr2
    have hk := hN.2 t z
    have hJ := wn_J_at F t
    have elv : wn_lv F N t = wn_ob F (wn_at F t) := if_pos z
    rw [elv] at H
    have hob := wn_ob_le F (wn_at F t)
    by_cases e : n = w
    · subst e
      obtain ⟨_, hwt⟩ := wn_bs_wt hb hW
      exact wn_outputS (by omega) h1 hJ hk hk (hr1 rfl) h16 hl hwt (H _ hob (Nat.le_refl _) (fun _ _ => rfl) (fun y => absurd y (by omega)))
    · rcases hr2 e with g | ⟨g, G, hG, g1, g2, g3⟩
      · exact wn_outputR (by omega) h1 hk g hl (H 1 (Nat.le_refl _) hob (fun _ y => absurd y e) (fun y => absurd y (by omega)))
      · obtain ⟨_, hwt⟩ := wn_bs_wt hb hG
        have ha := wn_arb h0 hwt.1 g1 g2 g3
        exact wn_outputS (by omega) h1 hJ hk (show (wn_at F t).1 < 34 + 8 * G.2.1 by omega) g h16 hl hwt (H _ (wn_ob_le _ _) ha.1 (fun _ y => absurd y e) (fun y => absurd y (by omega)))
  · rw [Nat.min_eq_right z] at hl hr2
    have hk := hN.1
    have hK : wn_K F = 34 + 8 * F.2.1 := rfl
    have hro : a15 n = 1 ∨ a15 n = 2 := by
      by_cases e : n = w
      · exact Or.inl (hr1 e)
      · rcases hr2 e with g | ⟨g, _⟩
        · exact Or.inr g
        · exact Or.inl g
    have hro2 : n ≠ w → a15 n = 2 := by
      intro e
      rcases hr2 e with g | ⟨g, G, hG, g1, g2, g3⟩
      · exact g
      · omega
    have hne : ¬ ((1 : Int32) = 2) := by decide
    refine wn_outputT (by omega) h1 hk hro (by omega) hl (fun g1 g2 => ?_) (fun g => ?_)
    · have elv : wn_lv F N t = 0 := by unfold wn_lv; rw [if_neg (by omega), if_pos (by omega)]
      rw [elv] at H
      exact H 0 (by omega) (Nat.le_refl _) (fun y => absurd y (by omega)) (fun _ _ => rfl)
    · refine H 1 (Nat.le_refl _) (wn_lv_le _ _ _) (fun y => absurd y (by omega)) (fun _ e => ?_)
      have g2 : t - N ≠ 1 := by
        rcases g with g | g
        · rw [hro2 e] at g
          exact absurd g.symm hne
        · exact g
      unfold wn_lv
      rw [if_neg (by omega), if_neg (by omega)]
theorem wn_hear110 {post : Int32 → St2 → Prop} {x4 : Int32} (h0 : F.1 < 2048) (h1 : F.2.1 ≤ 8) (hN : wn_Len F N) (hn : n < 4) (hl : wn_li F (wn_at F (min t N)) (t - N) (wn_fv (ph, le, cl, se, di, a1, a2, a3, a4, a5, a6, a7, a8, a9, a10, a11, a12, a13, a14, a15, a16, a17, a18, a19, a20, a21, a22, a23, a24, a25) n))
    (H : ∀ u' : St2, wn_h u' = wn_h (ph, le, cl, se, di, a1, a2, a3, a4, a5, a6, a7, a8, a9, a10, a11, a12, a13, a14, a15, a16, a17, a18, a19, a20, a21, a22, a23, a24, a25) → (∀ j, wn_bv u' j = wn_bv (ph, le, cl, se, di, a1, a2, a3, a4, a5, a6, a7, a8, a9, a10, a11, a12, a13, a14, a15, a16, a17, a18, a19, a20, a21, a22, a23, a24, a25) j) → (∀ j, j ≠ n → wn_fv u' j = wn_fv (ph, le, cl, se, di, a1, a2, a3, a4, a5, a6, a7, a8, a9, a10, a11, a12, a13, a14, a15, a16, a17, a18, a19, a20, a21, a22, a23, a24, a25) j) → (wn_fv u' n).1 = a15 n → wn_li F (wn_at F (min (t + 1) N)) (t + 1 - N) (wn_fv u' n) → post 0 u') :
    wX_hear_110 post (nI n) (nI (wn_lv F N t)) 0 x4 0 ph le cl se di a1 a2 a3 a4 a5 a6 a7 a8 a9 a10 a11 a12 a13 a14 a15 a16 a17 a18 a19 a20 a21 a22 a23 a24 a25 := by
  unfold wX_hear_110
  rcases Nat.lt_or_ge t N with z | z
  · rw [Nat.min_eq_left (Nat.le_of_lt z)] at hl
    have elv : wn_lv F N t = wn_ob F (wn_at F t) := if_pos z
    rw [elv]
    refine wn_listen (by omega) h0 h1 (wn_J_at F t) (hN.2 t z) hl (fun u' q1 q2 q3 q4 q5 => ?_)
    have q6 : wn_li F (wn_at F (min (t + 1) N)) (t + 1 - N) (wn_fv u' n) := by
      rw [Nat.min_eq_left (by omega), show t + 1 - N = t - N by omega]
      exact q5
    have q7 := H u' q1 q2 q3 q4 q6
    obtain ⟨ph', le', cl', se', di', a1', a2', a3', a4', a5', a6', a7', a8', a9', a10', a11', a12', a13', a14', a15', a16', a17', a18', a19', a20', a21', a22', a23', a24', a25'⟩ := u'
    exact br_t rfl (br_t rfl q7)
  · rw [Nat.min_eq_right z] at hl
    refine wn_listenT (by omega) h1 hN.1 hl (fun u' q1 q2 q3 q4 q5 => ?_)
    have q6 : wn_li F (wn_at F (min (t + 1) N)) (t + 1 - N) (wn_fv u' n) := by
      rw [Nat.min_eq_right (by omega), show t + 1 - N = t - N + 1 by omega]
      exact q5
    have q7 := H u' q1 q2 q3 q4 q6
    obtain ⟨ph', le', cl', se', di', a1', a2', a3', a4', a5', a6', a7', a8', a9', a10', a11', a12', a13', a14', a15', a16', a17', a18', a19', a20', a21', a22', a23', a24', a25'⟩ := u'
    exact br_t rfl (br_t rfl q7)
theorem wn_kle (hN : wn_Len F N) : (wn_at F (min t N)).1 ≤ wn_K F := by
  rcases Nat.lt_or_ge t N with z | z
  · rw [Nat.min_eq_left (Nat.le_of_lt z)]
    exact Nat.le_of_lt (hN.2 t z)
  · rw [Nat.min_eq_right z]
    exact Nat.le_of_eq hN.1
theorem wn_hear70 {post : Int32 → St2 → Prop} {z0 : Int32} (h0 : F.1 < 2048) (h1 : F.2.1 ≤ 8) (hN : wn_Len F N) (hn : n < 4) (ht : t ≤ N + 9) (hl : wn_li F (wn_at F (min t N)) (t - N) (wn_fv (ph, le, cl, se, di, a1, a2, a3, a4, a5, a6, a7, a8, a9, a10, a11, a12, a13, a14, a15, a16, a17, a18, a19, a20, a21, a22, a23, a24, a25) n))
    (H : ∀ u' : St2, wn_h u' = wn_h (ph, le, cl, se, di, a1, a2, a3, a4, a5, a6, a7, a8, a9, a10, a11, a12, a13, a14, a15, a16, a17, a18, a19, a20, a21, a22, a23, a24, a25) → (∀ j, wn_bv u' j = wn_bv (ph, le, cl, se, di, a1, a2, a3, a4, a5, a6, a7, a8, a9, a10, a11, a12, a13, a14, a15, a16, a17, a18, a19, a20, a21, a22, a23, a24, a25) j) → (∀ j, j ≠ n → wn_fv u' j = wn_fv (ph, le, cl, se, di, a1, a2, a3, a4, a5, a6, a7, a8, a9, a10, a11, a12, a13, a14, a15, a16, a17, a18, a19, a20, a21, a22, a23, a24, a25) j) → (wn_fv u' n).1 = a15 n → wn_li F (wn_at F (min (t + 1) N)) (t + 1 - N) (wn_fv u' n) → post 0 u') :
    wX_hear_70 post (nI n) (nI (wn_lv F N t)) 0 z0 ph le cl se di a1 a2 a3 a4 a5 a6 a7 a8 a9 a10 a11 a12 a13 a14 a15 a16 a17 a18 a19 a20 a21 a22 a23 a24 a25 := by
  have i5 : vp_in (nI n) 5 := pk_in n 5 (by omega)
  have cn : (nI n).toNatClampNeg = n := nI_clamp (by omega)
  have hz := wn_hear110 (post := post) (x4 := z0) h0 h1 hN hn hl H
  have h17 : a17 n = nI (wn_at F (min t N)).1 := hl.1
  have h22 : a22 n = nI (F.2.1 / 2 ^ (19 - (wn_at F (min t N)).1)) := hl.2.2.2.2.2.1
  have h25 : a25 n = nI (t - N) := hl.2.2.2.2.2.2.2
  have hv := wn_lv_le F N t
  unfold wX_hear_70
  rw [cn, h25]
  refine ⟨i5, br_c (fun _ => ?_) (fun _ => hz)⟩
  refine wn_inTail (by omega) h1 (wn_kle hN) h17 h22 (fun _ => br_t rfl hz) (fun e => br_f (by decide) ⟨i5, ?_⟩)
  refine pk_eq (t - N) 1 (fun e1 => pk_eq (wn_lv F N t) 1 (fun e2 => ?_) (fun _ => hz)) (fun _ => hz)
  have elv : wn_lv F N t = 0 := by unfold wn_lv; rw [if_neg (by omega), if_pos (by omega)]
  omega
theorem wn_hear37 {post : Int32 → St2 → Prop} (h0 : F.1 < 2048) (h1 : F.2.1 ≤ 8) (hN : wn_Len F N) (hn : n < 4) (ht : t ≤ N + 9) (hl : wn_li F (wn_at F (min t N)) (t - N) (wn_fv (ph, le, cl, se, di, a1, a2, a3, a4, a5, a6, a7, a8, a9, a10, a11, a12, a13, a14, a15, a16, a17, a18, a19, a20, a21, a22, a23, a24, a25) n))
    (H : ∀ u' : St2, wn_h u' = wn_h (ph, le, cl, se, di, a1, a2, a3, a4, a5, a6, a7, a8, a9, a10, a11, a12, a13, a14, a15, a16, a17, a18, a19, a20, a21, a22, a23, a24, a25) → (∀ j, wn_bv u' j = wn_bv (ph, le, cl, se, di, a1, a2, a3, a4, a5, a6, a7, a8, a9, a10, a11, a12, a13, a14, a15, a16, a17, a18, a19, a20, a21, a22, a23, a24, a25) j) → (∀ j, j ≠ n → wn_fv u' j = wn_fv (ph, le, cl, se, di, a1, a2, a3, a4, a5, a6, a7, a8, a9, a10, a11, a12, a13, a14, a15, a16, a17, a18, a19, a20, a21, a22, a23, a24, a25) j) → (wn_fv u' n).1 = a15 n → wn_li F (wn_at F (min (t + 1) N)) (t + 1 - N) (wn_fv u' n) → post 0 u') :
    wX_hear_37 post (nI n) (nI (wn_lv F N t)) 0 ph le cl se di a1 a2 a3 a4 a5 a6 a7 a8 a9 a10 a11 a12 a13 a14 a15 a16 a17 a18 a19 a20 a21 a22 a23 a24 a25 := by
  have i5 : vp_in (nI n) 5 := pk_in n 5 (by omega)
  have cn : (nI n).toNatClampNeg = n := nI_clamp (by omega)
  have hz0 := wn_hear70 (post := post) (z0 := 0) h0 h1 hN hn ht hl H
  have hz1 := wn_hear70 (post := post) (z0 := 1) h0 h1 hN hn ht hl H
  have h17 : a17 n = nI (wn_at F (min t N)).1 := hl.1
  have h22 : a22 n = nI (F.2.1 / 2 ^ (19 - (wn_at F (min t N)).1)) := hl.2.2.2.2.2.1
  unfold wX_hear_37
  rw [cn]
  refine ⟨i5, br_c (fun _ => hz0) (fun _ => ?_)⟩
  exact wn_inTail (by omega) h1 (wn_kle hN) h17 h22 (fun _ => br_t rfl hz1) (fun _ => br_f (by decide) ⟨i5, br_c (fun _ => hz1) (fun _ => hz0)⟩)
theorem wn_hear {post : Int32 → St2 → Prop} (hX : wn_FX F N w W) (hn : n < 4) (hb : wn_bs (W n) b (wn_bv (ph, le, cl, se, di, a1, a2, a3, a4, a5, a6, a7, a8, a9, a10, a11, a12, a13, a14, a15, a16, a17, a18, a19, a20, a21, a22, a23, a24, a25) n)) (ho : wn_ok F N w t W n (wn_fv (ph, le, cl, se, di, a1, a2, a3, a4, a5, a6, a7, a8, a9, a10, a11, a12, a13, a14, a15, a16, a17, a18, a19, a20, a21, a22, a23, a24, a25) n)) (ht : t ≤ N + 9)
    (H : ∀ u' : St2, wn_h u' = wn_h (ph, le, cl, se, di, a1, a2, a3, a4, a5, a6, a7, a8, a9, a10, a11, a12, a13, a14, a15, a16, a17, a18, a19, a20, a21, a22, a23, a24, a25) → (∀ j, wn_bv u' j = wn_bv (ph, le, cl, se, di, a1, a2, a3, a4, a5, a6, a7, a8, a9, a10, a11, a12, a13, a14, a15, a16, a17, a18, a19, a20, a21, a22, a23, a24, a25) j) → (∀ j, j ≠ n → wn_fv u' j = wn_fv (ph, le, cl, se, di, a1, a2, a3, a4, a5, a6, a7, a8, a9, a10, a11, a12, a13, a14, a15, a16, a17, a18, a19, a20, a21, a22, a23, a24, a25) j) → wn_ok F N w (t + 1) W n (wn_fv u' n) → post 0 u') :
    wpX_hear post (ph, le, cl, se, di, a1, a2, a3, a4, a5, a6, a7, a8, a9, a10, a11, a12, a13, a14, a15, a16, a17, a18, a19, a20, a21, a22, a23, a24, a25) (nI n) (nI (wn_lv F N t)) 0 := by
  obtain ⟨h0, h1, hN, hw, hW⟩ := hX
  have h16 := wn_bs_16 hb
  obtain ⟨hl, hr1, hr2⟩ := ho
  have i5 : vp_in (nI n) 5 := pk_in n 5 (by omega)
  have cn : (nI n).toNatClampNeg = n := nI_clamp (by omega)
  have hne : ¬ ((1 : Int32) = 2) := by decide
  have hne' : ¬ ((2 : Int32) = 1) := by decide
  have hKv : wn_K F = 34 + 8 * F.2.1 := rfl
  have h17 : a17 n = nI (wn_at F (min t N)).1 := hl.1
  have hkle : (wn_at F (min t N)).1 ≤ wn_K F := wn_kle hN
  have hob := wn_ob_le F (wn_at F t)
  unfold wpX_hear
  dsimp only
  rw [cn, h17]
  refine ⟨i5, ?_⟩
  by_cases e : n = w
  · have h15 : a15 n = 1 := hr1 e
    have hz := wn_hear37 (post := post) h0 h1 hN hn ht hl (fun u' q1 q2 q3 q4 q5 => H u' q1 q2 q3 ⟨q5, fun _ => q4.trans h15, fun y => absurd e y⟩)
    refine br_t h15 ⟨i5, pk_le 12 (wn_at F (min t N)).1 (fun _ => hz) (fun y => ?_)⟩
    have z : t < N := by
      rcases Nat.lt_or_ge t N with z | z
      · exact z
      · rw [Nat.min_eq_right z, hN.1] at y
        omega
    rw [Nat.min_eq_left (Nat.le_of_lt z)] at hl
    have elv : wn_lv F N t = wn_ob F (wn_at F t) := if_pos z
    subst e
    obtain ⟨_, hwt⟩ := wn_bs_wt hb hW
    have hk := hN.2 t z
    refine wn_outputS (by omega) h1 (wn_J_at F t) hk hk h15 h16 hl hwt (br_t (by rw [elv]) hz)
  · rcases hr2 e with g | ⟨g, G, hG, g1, g2, g3⟩
    · have g' : a15 n = 2 := g
      exact br_f (by rw [g']; decide) (wn_hear37 h0 h1 hN hn ht hl (fun u' q1 q2 q3 q4 q5 => H u' q1 q2 q3 ⟨q5, fun y => absurd y e, fun _ => Or.inl (q4.trans g')⟩))
    · have g' : a15 n = 1 := g
      have z : t < N := by
        rcases Nat.lt_or_ge t N with z | z
        · exact z
        · rw [Nat.min_eq_right z, hN.1] at g2
          omega
      obtain ⟨_, hwt⟩ := wn_bs_wt hb hG
      have elv : wn_lv F N t = wn_ob F (wn_at F t) := if_pos z
      refine br_t g' ⟨i5, pk_le 12 (wn_at F (min t N)).1 (fun y => absurd y (by omega)) (fun y => ?_)⟩
      have hl0 := hl
      rw [Nat.min_eq_left (Nat.le_of_lt z)] at hl g2 g3
      have hk := hN.2 t z
      have ha := wn_arb h0 hwt.1 g1 g2 g3
      have hobG := wn_ob_le G (wn_at F t)
      refine wn_outputS (by omega) h1 (wn_J_at F t) hk (show (wn_at F t).1 < 34 + 8 * G.2.1 by omega) g' h16 hl hwt ?_
      rw [elv]
      refine pk_eq (wn_ob G (wn_at F t)) (wn_ob F (wn_at F t)) (fun y2 => ?_) (fun y2 => ⟨i5, nm_e ?_⟩)
      · rw [← elv]
        refine wn_hear37 h0 h1 hN hn ht hl0 (fun u' q1 q2 q3 q4 q5 => H u' q1 q2 q3 ⟨q5, fun y => absurd y e, fun _ => Or.inr ⟨q4.trans g', G, hG, g1, ?_⟩⟩)
        rw [Nat.min_eq_left (show t + 1 ≤ N by omega)]
        exact ha.2 y2
      · rw [← elv]
        refine wn_hear37 h0 h1 hN hn ht (wn_li_same hl0) (fun u' q1 q2 q3 q4 q5 => H u' (q1.trans wn_h_same) (fun j => (q2 j).trans wn_bv_same) (fun j hj => (q3 j hj).trans ?_) ⟨q5, fun y => absurd y e, fun _ => Or.inl (q4.trans pk_us)⟩)
        show (upd a15 n 2 j, a17 j, a18 j, a19 j, a20 j, a21 j, a22 j, a24 j, a25 j) = (a15 j, a17 j, a18 j, a19 j, a20 j, a21 j, a22 j, a24 j, a25 j)
        rw [pk_un hj]
end
end
section
/-! ===== the end of a frame, and a frame's bit ===== -/
theorem wn_and2 : ∀ l, l < 2 → ∀ o, o < 2 → ∀ v, v < 2 → v ≤ l → v ≤ o → v ≤ l &&& o ∧ l &&& o ≤ 1 ∧ (l = v → l &&& o = v) ∧ (o = v → l &&& o = v) := by
  intro l hl o ho v hv h1 h2
  have a : l = 0 ∨ l = 1 := by omega
  have b : o = 0 ∨ o = 1 := by omega
  have c : v = 0 ∨ v = 1 := by omega
  rcases a with rfl | rfl <;> rcases b with rfl | rfl <;> rcases c with rfl | rfl <;> first | exact absurd h1 (by decide) | exact absurd h2 (by decide) | exact ⟨by decide, by decide, by decide, by decide⟩
def wn_W1 (W : Nat → Option (Nat × Nat × Nat)) (w : Nat) (x : Option (Nat × Nat × Nat)) : Nat → Option (Nat × Nat × Nat) := fun j => if j = w then x else W j
def wn_B1 (B : Nat → List (Nat × Nat)) (w : Nat) (F : Nat × Nat × Nat) : Nat → List (Nat × Nat) := fun j => if j = w then B j else B j ++ [(F.1, F.2.1)]
section
variable {ph le cl se di : Int32} {a1 : Nat → Int32} {a2 : Nat → Int32} {a3 : Nat → Int32} {a4 : Nat → Int32} {a5 : Nat → Int32} {a6 : Nat → Int32} {a7 : Nat → Int32} {a8 : Nat → Int32} {a9 : Nat → Int64} {a10 : Nat → Int32} {a11 : Nat → Int32} {a12 : Nat → Int32} {a13 : Nat → Int64} {a14 : Nat → Int32} {a15 : Nat → Int32} {a16 : Nat → Int32} {a17 : Nat → Int32} {a18 : Nat → Int32} {a19 : Nat → Int32} {a20 : Nat → Int32} {a21 : Nat → Int32} {a22 : Nat → Int32} {a23 : Nat → Int64} {a24 : Nat → Int32} {a25 : Nat → Int32}
variable {F : Nat × Nat × Nat} {N w t : Nat} {W : Nat → Option (Nat × Nat × Nat)} {B : Nat → List (Nat × Nat)} {b : List (Nat × Nat)} {n : Nat}
theorem wn_remove {post : St2 → Prop} (hn : n < 5) (h6 : a6 n = 1) (h16 : a16 n = 0)
    (H : ∀ b6 b16 : Nat → Int32, (∀ j, j ≠ n → b6 j = a6 j ∧ b16 j = a16 j) → b6 n = 0 → b16 n = 0 → post (ph, le, cl, se, di, a1, a2, a3, a4, a5, b6, a7, a8, a9, a10, a11, a12, a13, a14, a15, b16, a17, a18, a19, a20, a21, a22, a23, a24, a25)) : wpX_removeFrame post (ph, le, cl, se, di, a1, a2, a3, a4, a5, a6, a7, a8, a9, a10, a11, a12, a13, a14, a15, a16, a17, a18, a19, a20, a21, a22, a23, a24, a25) (nI n) 0 := by
  have i5 : vp_in (nI n) 5 := pk_in n 5 hn
  have cn : (nI n).toNatClampNeg = n := nI_clamp (by omega)
  unfold wpX_removeFrame
  dsimp only
  rw [cn, h6]
  refine ⟨i5, i5, nm_e ⟨1, ?_⟩⟩
  unfold wX_removeFrame_12
  rw [cn, h16]
  refine ⟨i5, br_t (by rw [pk_us]; decide) ⟨i5, i5, br_t (by decide) ⟨i5, nm_e ?_⟩⟩⟩
  exact H _ _ (fun j hj => ⟨pk_un hj, pk_un hj⟩) (by rw [pk_us]; decide) (by rw [pk_us]; decide)
theorem wn_deliver {post : St2 → Prop} (h1 : F.2.1 ≤ 8) (hN : wn_Len F N) (hn : n < 4) (ht : N ≤ t) {Wn : Option (Nat × Nat × Nat)} (hb : wn_bs Wn b (wn_bv (ph, le, cl, se, di, a1, a2, a3, a4, a5, a6, a7, a8, a9, a10, a11, a12, a13, a14, a15, a16, a17, a18, a19, a20, a21, a22, a23, a24, a25) n)) (hlen : b.length ≤ 1) (hl : wn_li F (wn_at F (min t N)) (t - N) (wn_fv (ph, le, cl, se, di, a1, a2, a3, a4, a5, a6, a7, a8, a9, a10, a11, a12, a13, a14, a15, a16, a17, a18, a19, a20, a21, a22, a23, a24, a25) n))
    (H : ∀ u' : St2, wn_h u' = wn_h (ph, le, cl, se, di, a1, a2, a3, a4, a5, a6, a7, a8, a9, a10, a11, a12, a13, a14, a15, a16, a17, a18, a19, a20, a21, a22, a23, a24, a25) → (∀ j, j < 4 → j ≠ n → wn_bv u' j = wn_bv (ph, le, cl, se, di, a1, a2, a3, a4, a5, a6, a7, a8, a9, a10, a11, a12, a13, a14, a15, a16, a17, a18, a19, a20, a21, a22, a23, a24, a25) j) → (∀ j, wn_fv u' j = wn_fv (ph, le, cl, se, di, a1, a2, a3, a4, a5, a6, a7, a8, a9, a10, a11, a12, a13, a14, a15, a16, a17, a18, a19, a20, a21, a22, a23, a24, a25) j) → wn_bs Wn (b ++ [(F.1, F.2.1)]) (wn_bv u' n) → post u') : wpX_deliver post (ph, le, cl, se, di, a1, a2, a3, a4, a5, a6, a7, a8, a9, a10, a11, a12, a13, a14, a15, a16, a17, a18, a19, a20, a21, a22, a23, a24, a25) (nI n) := by
  have i5 : vp_in (nI n) 5 := pk_in n 5 (by omega)
  have i4 : vp_in (nI n) 4 := pk_in n 4 hn
  have cn : (nI n).toNatClampNeg = n := nI_clamp (by omega)
  have hKv : wn_K F = 34 + 8 * F.2.1 := rfl
  obtain ⟨h17, h18, h19, h20, h21, h22, h24, h25⟩ := hl
  rw [Nat.min_eq_right ht] at h17 h18 h19 h20 h21 h22 h24
  rw [hN.1, show 12 - wn_K F = 0 by omega, Nat.pow_zero, Nat.div_one] at h21
  rw [hN.1, show 19 - wn_K F = 0 by omega, Nat.pow_zero, Nat.div_one] at h22
  rw [hN.1, Nat.sub_self, Nat.pow_zero, Nat.div_one] at h24
  obtain ⟨b1, b2, b3, b4, b14, b16, bW, bB⟩ := hb
  have c4 : a4 n = 0 := b4
  unfold wpX_deliver
  dsimp only
  rw [cn, h20, h21, h22, h24, c4]
  refine ⟨i5, i4, i4, br_t (by simp) ⟨i5, i5, br_t rfl ⟨i4, ?_⟩⟩⟩
  have e6 : ∀ c : Nat, 6 * nI n + nI c = nI (6 * n + c) := fun c => by
    rw [show (6 : Int32) * nI n = nI (6 * n) from pk_mul 6 n]
    exact nI_add _ _
  have main : ∀ c : Nat, c ≤ 1 → a10 n = nI c → (wn_bx (b ++ [(F.1, F.2.1)]) (nI (c + 1)) (upd a11 (6 * n + c) (nI F.1) (6 * n)) (upd a11 (6 * n + c) (nI F.1) (6 * n + 1)) (upd a12 (6 * n + c) (nI F.2.1) (6 * n)) (upd a12 (6 * n + c) (nI F.2.1) (6 * n + 1))) →
      (a10 n = 6 → (vp_in (nI n) 4 ∧ (vp_in (nI n) 4 ∧ ∀ a14_26 : Nat → Int32, a14_26 = upd a14 n ((a14 n) + 1) → (post (ph, le, cl, se, di, a1, a2, a3, a4, a5, a6, a7, a8, a9, a10, a11, a12, a13, a14_26, a15, a16, a17, a18, a19, a20, a21, a22, a23, a24, a25))))) ∧ (¬ a10 n = 6 → (vp_in (nI n) 4 ∧ (∀ x2_11 : Int32, x2_11 = (6 * nI n) + (a10 n) → (vp_in (nI n) 5 ∧ (vp_in x2_11 24 ∧ ∀ a11_14 : Nat → Int32, a11_14 = upd a11 x2_11.toNatClampNeg (nI F.1) → (vp_in (nI n) 5 ∧ (vp_in x2_11 24 ∧ ∀ a12_17 : Nat → Int32, a12_17 = upd a12 x2_11.toNatClampNeg (nI F.2.1) → (vp_in (nI n) 5 ∧ (vp_in x2_11 24 ∧ ∀ a13_20 : Nat → Int64, a13_20 = vp_updL a13 x2_11.toNatClampNeg (a23 n) → (vp_in (nI n) 4 ∧ (vp_in (nI n) 4 ∧ ∀ a10_23 : Nat → Int32, a10_23 = upd a10 n ((a10 n) + 1) → (post (ph, le, cl, se, di, a1, a2, a3, a4, a5, a6, a7, a8, a9, a10_23, a11_14, a12_17, a13_20, a14, a15, a16, a17, a18, a19, a20, a21, a22, a23, a24, a25))))))))))))) := by
    intro c hc h10 hbx
    have ii : vp_in (nI (6 * n + c)) 24 := pk_in (6 * n + c) 24 (by omega)
    rw [h10]
    refine pk_eq c 6 (fun z => absurd z (by omega)) (fun _ => ⟨i4, nm_r (e6 c) ?_⟩)
    rw [show (nI (6 * n + c)).toNatClampNeg = 6 * n + c from nI_clamp (by omega)]
    refine ⟨i5, ii, nm_e ⟨i5, ii, nm_e ⟨i5, ii, nm_e ⟨i4, i4, nm_e ?_⟩⟩⟩⟩
    refine H _ wn_h_same (fun j hj hne => ?_) (fun j => wn_fv_same) ?_
    · show (a1 j, a2 j, a3 j, a4 j, a6 j, a7 (4 * j), a8 (4 * j), a9 (4 * j), upd a10 n (nI c + 1) j, upd a11 (6 * n + c) (nI F.1) (6 * j), upd a11 (6 * n + c) (nI F.1) (6 * j + 1), upd a12 (6 * n + c) (nI F.2.1) (6 * j), upd a12 (6 * n + c) (nI F.2.1) (6 * j + 1), a14 j, a16 j) = (a1 j, a2 j, a3 j, a4 j, a6 j, a7 (4 * j), a8 (4 * j), a9 (4 * j), a10 j, a11 (6 * j), a11 (6 * j + 1), a12 (6 * j), a12 (6 * j + 1), a14 j, a16 j)
      rw [pk_un hne, pk_un (show 6 * j ≠ 6 * n + c by omega), pk_un (show 6 * j + 1 ≠ 6 * n + c by omega), pk_un (show 6 * j ≠ 6 * n + c by omega), pk_un (show 6 * j + 1 ≠ 6 * n + c by omega)]
    · refine ⟨b1, b2, b3, b4, b14, b16, bW, ?_⟩
      show wn_bx (b ++ [(F.1, F.2.1)]) (upd a10 n (nI c + 1) n) (upd a11 (6 * n + c) (nI F.1) (6 * n)) (upd a11 (6 * n + c) (nI F.1) (6 * n + 1)) (upd a12 (6 * n + c) (nI F.2.1) (6 * n)) (upd a12 (6 * n + c) (nI F.2.1) (6 * n + 1))
      rw [pk_us, nI_1]
      exact hbx
  match b, hlen, bB with
  | [], _, bB =>
    refine main 0 (by omega) bB ⟨rfl, pk_us, pk_us⟩
  | [f], _, bB =>
    obtain ⟨q1, q2, q3⟩ := bB
    have q2' : a11 (6 * n) = nI f.1 := q2
    have q3' : a12 (6 * n) = nI f.2 := q3
    refine main 1 (by omega) q1 ⟨rfl, ?_, ?_, pk_us, pk_us⟩
    · rw [pk_un (by omega)]; exact q2'
    · rw [pk_un (by omega)]; exact q3'
/-- not yet at the end of the tail -/
theorem wn_fin0 {post : St2 → Prop} (h : ∀ j, j < 4 → ∃ c : Nat, c < 10 ∧ a25 j = nI c) (H : post (ph, le, cl, se, di, a1, a2, a3, a4, a5, a6, a7, a8, a9, a10, a11, a12, a13, a14, a15, a16, a17, a18, a19, a20, a21, a22, a23, a24, a25)) : wpX_finishIfSent post (ph, le, cl, se, di, a1, a2, a3, a4, a5, a6, a7, a8, a9, a10, a11, a12, a13, a14, a15, a16, a17, a18, a19, a20, a21, a22, a23, a24, a25) := by
  unfold wpX_finishIfSent
  dsimp only
  refine pk_loop (σ := Unit) (fun fu i _ => wX_finishIfSent_4 post ph le cl se di a1 a2 a3 a4 a5 a6 a7 a8 a9 a10 a11 a12 a13 a14 a15 a16 a17 a18 a19 a20 a21 a22 a23 a24 a25 fu 0 (nI i)) (fun _ _ => True) 4 0 () (by omega) trivial ?_ ?_
  · intro fu _ _
    exact pk_le 4 4 (fun _ => br_t rfl H) (fun z => absurd z (by omega))
  · intro fu i _ hi _ ih
    have i5 : vp_in (nI i) 5 := pk_in i 5 (by omega)
    obtain ⟨c, hc, h25⟩ := h i hi
    have t := ih () trivial
    show wX_finishIfSent_4 post ph le cl se di a1 a2 a3 a4 a5 a6 a7 a8 a9 a10 a11 a12 a13 a14 a15 a16 a17 a18 a19 a20 a21 a22 a23 a24 a25 (fu + 1) 0 (nI i)
    unfold wX_finishIfSent_4
    rw [show (nI i).toNatClampNeg = i from nI_clamp (by omega), h25]
    refine pk_le 4 i (fun z => absurd z (by omega)) (fun _ => br_t rfl ⟨i5, br_c (fun _ => ⟨i5, pk_eq c 10 (fun z => absurd z (by omega)) (fun _ => nm_r (nI_1 i) t)⟩) (fun _ => nm_r (nI_1 i) t)⟩)
/-- the end of the tail: who has sent takes its frame out, who has heard puts it into its inbox -/
theorem wn_fin1 {post : St2 → Prop} (hX : wn_FX F N w W) (hb : ∀ j, j < 4 → wn_bs (W j) (B j) (wn_bv (ph, le, cl, se, di, a1, a2, a3, a4, a5, a6, a7, a8, a9, a10, a11, a12, a13, a14, a15, a16, a17, a18, a19, a20, a21, a22, a23, a24, a25) j) ∧ (B j).length ≤ 1) (ho : ∀ j, j < 4 → wn_ok F N w (N + 10) W j (wn_fv (ph, le, cl, se, di, a1, a2, a3, a4, a5, a6, a7, a8, a9, a10, a11, a12, a13, a14, a15, a16, a17, a18, a19, a20, a21, a22, a23, a24, a25) j))
    (H : ∀ u' : St2, wn_h u' = (3, 3, cl, se + 1, di) → (∀ j, j < 4 → wn_bs (wn_W1 W w none j) (wn_B1 B w F j) (wn_bv u' j)) → post u') : wpX_finishIfSent post (ph, le, cl, se, di, a1, a2, a3, a4, a5, a6, a7, a8, a9, a10, a11, a12, a13, a14, a15, a16, a17, a18, a19, a20, a21, a22, a23, a24, a25) := by
  obtain ⟨h0, h1, hN, hw, hW⟩ := hX
  have hKv : wn_K F = 34 + 8 * F.2.1 := rfl
  have hmin : min (N + 10) N = N := by omega
  have hwr : a15 w = 1 := (ho w hw).2.1 rfl
  have hor : ∀ j, j < 4 → j ≠ w → ¬ a15 j = 1 ∧ a15 j = 2 := by
    intro j hj e
    rcases (ho j hj).2.2 e with g | ⟨g, G, hG, g1, g2, g3⟩
    · have g' : a15 j = 2 := g
      exact ⟨by rw [g']; decide, g'⟩
    · rw [hmin, hN.1] at g2
      omega
  have h25 : ∀ j, j < 4 → a25 j = 10 := by
    intro j hj
    have q : a25 j = nI (N + 10 - N) := (ho j hj).1.2.2.2.2.2.2.2
    rw [q, show N + 10 - N = 10 by omega]
    rfl
  unfold wpX_finishIfSent
  dsimp only
  refine pk_loop (σ := Unit) (fun fu i _ => wX_finishIfSent_4 post ph le cl se di a1 a2 a3 a4 a5 a6 a7 a8 a9 a10 a11 a12 a13 a14 a15 a16 a17 a18 a19 a20 a21 a22 a23 a24 a25 fu (nI (if w < i then 1 else 0)) (nI i)) (fun _ _ => True) 4 0 () (by omega) trivial ?_ ?_
  · intro fu _ _
    show wX_finishIfSent_4 post ph le cl se di a1 a2 a3 a4 a5 a6 a7 a8 a9 a10 a11 a12 a13 a14 a15 a16 a17 a18 a19 a20 a21 a22 a23 a24 a25 (fu + 1) (nI (if w < 4 then 1 else 0)) (nI 4)
    rw [if_pos hw]
    refine pk_le 4 4 (fun _ => br_f (by decide) ?_) (fun z => absurd z (by omega))
    refine pk_loop (σ := St2) (fun fu i u => wX_finishIfSent_53 post fu (nI i) u.1 u.2.1 u.2.2.1 u.2.2.2.1 u.2.2.2.2.1 u.2.2.2.2.2.1 u.2.2.2.2.2.2.1 u.2.2.2.2.2.2.2.1 u.2.2.2.2.2.2.2.2.1 u.2.2.2.2.2.2.2.2.2.1 u.2.2.2.2.2.2.2.2.2.2.1 u.2.2.2.2.2.2.2.2.2.2.2.1 u.2.2.2.2.2.2.2.2.2.2.2.2.1 u.2.2.2.2.2.2.2.2.2.2.2.2.2.1 u.2.2.2.2.2.2.2.2.2.2.2.2.2.2.1 u.2.2.2.2.2.2.2.2.2.2.2.2.2.2.2.1 u.2.2.2.2.2.2.2.2.2.2.2.2.2.2.2.2.1 u.2.2.2.2.2.2.2.2.2.2.2.2.2.2.2.2.2.1 u.2.2.2.2.2.2.2.2.2.2.2.2.2.2.2.2.2.2.1 u.2.2.2.2.2.2.2.2.2.2.2.2.2.2.2.2.2.2.2.1 u.2.2.2.2.2.2.2.2.2.2.2.2.2.2.2.2.2.2.2.2.1 u.2.2.2.2.2.2.2.2.2.2.2.2.2.2.2.2.2.2.2.2.2.1 u.2.2.2.2.2.2.2.2.2.2.2.2.2.2.2.2.2.2.2.2.2.2.1 u.2.2.2.2.2.2.2.2.2.2.2.2.2.2.2.2.2.2.2.2.2.2.2.1 u.2.2.2.2.2.2.2.2.2.2.2.2.2.2.2.2.2.2.2.2.2.2.2.2.1 u.2.2.2.2.2.2.2.2.2.2.2.2.2.2.2.2.2.2.2.2.2.2.2.2.2.1 u.2.2.2.2.2.2.2.2.2.2.2.2.2.2.2.2.2.2.2.2.2.2.2.2.2.2.1 u.2.2.2.2.2.2.2.2.2.2.2.2.2.2.2.2.2.2.2.2.2.2.2.2.2.2.2.1 u.2.2.2.2.2.2.2.2.2.2.2.2.2.2.2.2.2.2.2.2.2.2.2.2.2.2.2.2.1 u.2.2.2.2.2.2.2.2.2.2.2.2.2.2.2.2.2.2.2.2.2.2.2.2.2.2.2.2.2)
      (fun i u => wn_h u = wn_h (ph, le, cl, se, di, a1, a2, a3, a4, a5, a6, a7, a8, a9, a10, a11, a12, a13, a14, a15, a16, a17, a18, a19, a20, a21, a22, a23, a24, a25) ∧ (∀ j, j < 4 → j < i → wn_bs (wn_W1 W w none j) (wn_B1 B w F j) (wn_bv u j)) ∧ (∀ j, j < 4 → i ≤ j → wn_bs (W j) (B j) (wn_bv u j) ∧ wn_fv u j = wn_fv (ph, le, cl, se, di, a1, a2, a3, a4, a5, a6, a7, a8, a9, a10, a11, a12, a13, a14, a15, a16, a17, a18, a19, a20, a21, a22, a23, a24, a25) j)) 4 0 (ph, le, cl, se, di, a1, a2, a3, a4, a5, a6, a7, a8, a9, a10, a11, a12, a13, a14, a15, a16, a17, a18, a19, a20, a21, a22, a23, a24, a25) (by omega) ?_ ?_ ?_
    · exact ⟨rfl, fun j _ hj => absurd hj (by omega), fun j hj _ => ⟨(hb j hj).1, rfl⟩⟩
    · rintro fu ⟨ph', le', cl', se', di', a1', a2', a3', a4', a5', a6', a7', a8', a9', a10', a11', a12', a13', a14', a15', a16', a17', a18', a19', a20', a21', a22', a23', a24', a25'⟩ ⟨r1, r2, r3⟩
      show wX_finishIfSent_53 post (fu + 1) (nI 4) ph' le' cl' se' di' a1' a2' a3' a4' a5' a6' a7' a8' a9' a10' a11' a12' a13' a14' a15' a16' a17' a18' a19' a20' a21' a22' a23' a24' a25'
      have r1' : (ph', le', cl', se', di') = (ph, le, cl, se, di) := r1
      simp only [Prod.mk.injEq] at r1'
      obtain ⟨_, _, e3, e4, e5⟩ := r1'
      refine pk_le 4 4 (fun _ => nm_e ?_) (fun z => absurd z (by omega))
      refine H _ ?_ (fun j hj => wn_bs_same (r2 j hj hj))
      show ((3 : Int32), (3 : Int32), cl', se' + 1, di') = (3, 3, cl, se + 1, di)
      rw [e3, e4, e5]
    · rintro fu i ⟨ph', le', cl', se', di', a1', a2', a3', a4', a5', a6', a7', a8', a9', a10', a11', a12', a13', a14', a15', a16', a17', a18', a19', a20', a21', a22', a23', a24', a25'⟩ hi ⟨r1, r2, r3⟩ ih
      show wX_finishIfSent_53 post (fu + 1) (nI i) ph' le' cl' se' di' a1' a2' a3' a4' a5' a6' a7' a8' a9' a10' a11' a12' a13' a14' a15' a16' a17' a18' a19' a20' a21' a22' a23' a24' a25'
      have i5 : vp_in (nI i) 5 := pk_in i 5 (by omega)
      have i4 : vp_in (nI i) 4 := pk_in i 4 hi
      have ci : (nI i).toNatClampNeg = i := nI_clamp (by omega)
      obtain ⟨p1, p2⟩ := r3 i hi (Nat.le_refl i)
      have p2' : (a15' i, a17' i, a18' i, a19' i, a20' i, a21' i, a22' i, a24' i, a25' i) = (a15 i, a17 i, a18 i, a19 i, a20 i, a21 i, a22 i, a24 i, a25 i) := p2
      have p15 : a15' i = a15 i := congrArg (fun v => v.1) p2'
      unfold wX_finishIfSent_53
      rw [ci]
      refine pk_le 4 i (fun z => absurd z (by omega)) (fun _ => ⟨i5, ?_⟩)
      by_cases e : i = w
      · -- the sender
        have W1i : wn_W1 W w none i = none := if_pos e
        have B1i : wn_B1 B w F i = B i := if_pos e
        have e15 : a15' i = 1 := by rw [p15, e]; exact hwr
        have hWi : W i = some F := by rw [e]; exact hW
        have h6 := (wn_bs_wt p1 hWi).1
        have h16 := wn_bs_16 p1
        rw [h16]
        refine br_t e15 ⟨i5, wn_remove (by omega) h6 h16 (fun b6 b16 hf f6 f16 => ⟨i4, i4, ?_⟩)⟩
        obtain ⟨b1, b2, b3, b4, b14, b16', bW, bB⟩ := p1
        have e2 : a2' i = 0 := b2
        rw [e2]
        refine br_t (by decide) ⟨i4, ?_⟩
        rw [ci]
        refine nm_e ⟨i5, nm_e (nm_r (nI_1 i) (ih (ph', le', cl', se', di', a1', upd a2' i (0 - 0), a3', a4', a5', b6, a7', a8', a9', a10', a11', a12', a13', a14', upd a15' i 0, b16, a17', a18', a19', a20', a21', a22', a23', a24', a25') ⟨wn_h_same.trans r1, fun j hj hji => ?_, fun j hj hji => ?_⟩))⟩
        · by_cases ej : j = i
          · subst ej
            rw [W1i, B1i]
            exact ⟨b1, (by show upd a2' j (0 - 0) j = 0; rw [pk_us]; decide), b3, b4, b14, f16, f6, bB⟩
          · obtain ⟨y6, y16⟩ := hf j ej
            have := r2 j hj (by omega)
            obtain ⟨d1, d2, d3, d4, d14, d16, dW, dB⟩ := this
            refine ⟨d1, (by show upd a2' i (0 - 0) j = 0; rw [pk_un ej]; exact d2), d3, d4, d14, (by show b16 j = 0; rw [y16]; exact d16), ?_, dB⟩
            show wn_ws (wn_W1 W w none j) (b6 j) (a7' (4 * j)) (a8' (4 * j)) (a9' (4 * j))
            rw [y6]
            exact dW
        · have ej : j ≠ i := by omega
          obtain ⟨y6, y16⟩ := hf j ej
          obtain ⟨⟨d1, d2, d3, d4, d14, d16, dW, dB⟩, df⟩ := r3 j hj (by omega)
          refine ⟨⟨d1, (by show upd a2' i (0 - 0) j = 0; rw [pk_un ej]; exact d2), d3, d4, d14, (by show b16 j = 0; rw [y16]; exact d16), ?_, dB⟩, ?_⟩
          · show wn_ws (W j) (b6 j) (a7' (4 * j)) (a8' (4 * j)) (a9' (4 * j))
            rw [y6]
            exact dW
          · refine Eq.trans ?_ df
            show (upd a15' i 0 j, a17' j, a18' j, a19' j, a20' j, a21' j, a22' j, a24' j, a25' j) = (a15' j, a17' j, a18' j, a19' j, a20' j, a21' j, a22' j, a24' j, a25' j)
            rw [pk_un ej]
      · -- a receiver
        have W1i : wn_W1 W w none i = W i := if_neg e
        have B1i : wn_B1 B w F i = B i ++ [(F.1, F.2.1)] := if_neg e
        have e15 := hor i hi e
        rw [← p15] at e15
        refine br_f e15.1 ⟨i5, br_t e15.2 ?_⟩
        have hli := (ho i hi).1
        rw [← p2] at hli
        refine wn_deliver (t := N + 10) h1 hN hi (by omega) p1 (hb i hi).2 hli (fun u2 s1 s2 s3 s4 => ?_)
        obtain ⟨ph'', le'', cl'', se'', di'', a1'', a2'', a3'', a4'', a5'', a6'', a7'', a8'', a9'', a10'', a11'', a12'', a13'', a14'', a15'', a16'', a17'', a18'', a19'', a20'', a21'', a22'', a23'', a24'', a25''⟩ := u2
        dsimp only
        obtain ⟨b1, b2, b3, b4, b14, b16', bW, bB⟩ := s4
        have e3 : a3'' i = 0 := b3
        rw [e3]
        refine ⟨i4, i4, br_t (by decide) ⟨i4, ?_⟩⟩
        rw [ci]
        refine nm_e ⟨i5, nm_e (nm_r (nI_1 i) (ih (ph'', le'', cl'', se'', di'', a1'', a2'', upd a3'' i (0 - 0), a4'', a5'', a6'', a7'', a8'', a9'', a10'', a11'', a12'', a13'', a14'', upd a15'' i 0, a16'', a17'', a18'', a19'', a20'', a21'', a22'', a23'', a24'', a25'') ⟨wn_h_same.trans (s1.trans r1), fun j hj hji => ?_, fun j hj hji => ?_⟩))⟩
        · by_cases ej : j = i
          · subst ej
            rw [W1i, B1i]
            exact ⟨b1, b2, (by show upd a3'' j (0 - 0) j = 0; rw [pk_us]; decide), b4, b14, b16', bW, bB⟩
          · have := r2 j hj (by omega)
            rw [← s2 j hj ej] at this
            obtain ⟨d1, d2, d3, d4, d14, d16, dW, dB⟩ := this
            exact ⟨d1, d2, (by show upd a3'' i (0 - 0) j = 0; rw [pk_un ej]; exact d3), d4, d14, d16, dW, dB⟩
        · have ej : j ≠ i := by omega
          obtain ⟨this, df⟩ := r3 j hj (by omega)
          rw [← s2 j hj ej] at this
          rw [← s3 j] at df
          obtain ⟨d1, d2, d3, d4, d14, d16, dW, dB⟩ := this
          refine ⟨⟨d1, d2, (by show upd a3'' i (0 - 0) j = 0; rw [pk_un ej]; exact d3), d4, d14, d16, dW, dB⟩, ?_⟩
          refine Eq.trans ?_ df
          show (upd a15'' i 0 j, a17'' j, a18'' j, a19'' j, a20'' j, a21'' j, a22'' j, a24'' j, a25'' j) = (a15'' j, a17'' j, a18'' j, a19'' j, a20'' j, a21'' j, a22'' j, a24'' j, a25'' j)
          rw [pk_un ej]
  · intro fu i _ hi _ ih
    have i5 : vp_in (nI i) 5 := pk_in i 5 (by omega)
    have t := ih () trivial
    show wX_finishIfSent_4 post ph le cl se di a1 a2 a3 a4 a5 a6 a7 a8 a9 a10 a11 a12 a13 a14 a15 a16 a17 a18 a19 a20 a21 a22 a23 a24 a25 (fu + 1) (nI (if w < i then 1 else 0)) (nI i)
    unfold wX_finishIfSent_4
    rw [show (nI i).toNatClampNeg = i from nI_clamp (by omega), h25 i hi]
    refine pk_le 4 i (fun z => absurd z (by omega)) (fun _ => ?_)
    rcases Nat.lt_trichotomy i w with z | z | z
    · rw [if_neg (show ¬ w < i by omega)]
      rw [if_neg (show ¬ w < i + 1 by omega)] at t
      exact br_t rfl ⟨i5, br_f (hor i hi (by omega)).1 (nm_r (nI_1 i) t)⟩
    · rw [if_neg (show ¬ w < i by omega)]
      rw [if_pos (show w < i + 1 by omega)] at t
      exact br_t rfl ⟨i5, br_t (by rw [z]; exact hwr) ⟨i5, br_t rfl (nm_r (nI_1 i) t)⟩⟩
    · rw [if_pos (show w < i by omega)]
      rw [if_pos (show w < i + 1 by omega)] at t
      exact br_f (by decide) (nm_r (nI_1 i) t)
/-- one bit of the frame -/
theorem wn_frameBit {post : St2 → Prop} (hX : wn_FX F N w W) (ht : t ≤ N + 9) (hb : ∀ j, j < 4 → wn_bs (W j) (B j) (wn_bv (ph, le, cl, se, di, a1, a2, a3, a4, a5, a6, a7, a8, a9, a10, a11, a12, a13, a14, a15, a16, a17, a18, a19, a20, a21, a22, a23, a24, a25) j) ∧ (B j).length ≤ 1) (ho : ∀ j, j < 4 → wn_ok F N w t W j (wn_fv (ph, le, cl, se, di, a1, a2, a3, a4, a5, a6, a7, a8, a9, a10, a11, a12, a13, a14, a15, a16, a17, a18, a19, a20, a21, a22, a23, a24, a25) j))
    (H0 : t < N + 9 → ∀ u' : St2, wn_h u' = wn_h (ph, le, cl, se, di, a1, a2, a3, a4, a5, a6, a7, a8, a9, a10, a11, a12, a13, a14, a15, a16, a17, a18, a19, a20, a21, a22, a23, a24, a25) → (∀ j, j < 4 → wn_bs (W j) (B j) (wn_bv u' j)) → (∀ j, j < 4 → wn_ok F N w (t + 1) W j (wn_fv u' j)) → post u')
    (H1 : t = N + 9 → ∀ u' : St2, wn_h u' = (3, 3, cl, se + 1, di) → (∀ j, j < 4 → wn_bs (wn_W1 W w none j) (wn_B1 B w F j) (wn_bv u' j)) → post u') :
    wpX_frameBit post (ph, le, cl, se, di, a1, a2, a3, a4, a5, a6, a7, a8, a9, a10, a11, a12, a13, a14, a15, a16, a17, a18, a19, a20, a21, a22, a23, a24, a25) 0 := by
  have hX' := hX
  obtain ⟨h0, h1, hN, hw, hW⟩ := hX'
  have hv := wn_lv_le F N t
  have hro : ∀ v, ∀ j, wn_ok F N w t W j v → ¬ v.1 = 0 := by
    intro v j h
    by_cases e : j = w
    · rw [h.2.1 e]; decide
    · rcases h.2.2 e with g | ⟨g, _⟩
      · rw [g]; decide
      · rw [g]; decide
  -- the level
  obtain ⟨m, hm, hmt⟩ : ∃ m, m < 4 ∧ ((t < N ∧ m = w) ∨ (N ≤ t ∧ m ≠ w)) := by
    rcases Nat.lt_or_ge t N with z | z
    · exact ⟨w, hw, Or.inl ⟨z, rfl⟩⟩
    · by_cases e : w = 0
      · exact ⟨1, by omega, Or.inr ⟨z, by omega⟩⟩
      · exact ⟨0, by omega, Or.inr ⟨z, by omega⟩⟩
  unfold wpX_frameBit
  dsimp only
  refine pk_loop (σ := Nat) (fun fu i l => wX_frameBit_4 post 0 ph le cl se di a1 a2 a3 a4 a5 a6 a7 a8 a9 a10 a11 a12 a13 a14 a15 a16 a17 a18 a19 a20 a21 a22 a23 a24 a25 fu (nI l) (nI i)) (fun i l => l ≤ 1 ∧ wn_lv F N t ≤ l ∧ (m < i → l = wn_lv F N t)) 4 0 1 (by omega) ⟨Nat.le_refl _, hv, fun z => absurd z (by omega)⟩ ?_ ?_
  · intro fu l ⟨l1, l2, l3⟩
    show wX_frameBit_4 post 0 ph le cl se di a1 a2 a3 a4 a5 a6 a7 a8 a9 a10 a11 a12 a13 a14 a15 a16 a17 a18 a19 a20 a21 a22 a23 a24 a25 (fu + 1) (nI l) (nI 4)
    rw [l3 hm]
    refine pk_le 4 4 (fun _ => ?_) (fun z => absurd z (by omega))
    -- all hear
    refine pk_loop (σ := St2) (fun fu i u => wX_frameBit_41 post 0 (nI (wn_lv F N t)) fu 0 (nI i) u.1 u.2.1 u.2.2.1 u.2.2.2.1 u.2.2.2.2.1 u.2.2.2.2.2.1 u.2.2.2.2.2.2.1 u.2.2.2.2.2.2.2.1 u.2.2.2.2.2.2.2.2.1 u.2.2.2.2.2.2.2.2.2.1 u.2.2.2.2.2.2.2.2.2.2.1 u.2.2.2.2.2.2.2.2.2.2.2.1 u.2.2.2.2.2.2.2.2.2.2.2.2.1 u.2.2.2.2.2.2.2.2.2.2.2.2.2.1 u.2.2.2.2.2.2.2.2.2.2.2.2.2.2.1 u.2.2.2.2.2.2.2.2.2.2.2.2.2.2.2.1 u.2.2.2.2.2.2.2.2.2.2.2.2.2.2.2.2.1 u.2.2.2.2.2.2.2.2.2.2.2.2.2.2.2.2.2.1 u.2.2.2.2.2.2.2.2.2.2.2.2.2.2.2.2.2.2.1 u.2.2.2.2.2.2.2.2.2.2.2.2.2.2.2.2.2.2.2.1 u.2.2.2.2.2.2.2.2.2.2.2.2.2.2.2.2.2.2.2.2.1 u.2.2.2.2.2.2.2.2.2.2.2.2.2.2.2.2.2.2.2.2.2.1 u.2.2.2.2.2.2.2.2.2.2.2.2.2.2.2.2.2.2.2.2.2.2.1 u.2.2.2.2.2.2.2.2.2.2.2.2.2.2.2.2.2.2.2.2.2.2.2.1 u.2.2.2.2.2.2.2.2.2.2.2.2.2.2.2.2.2.2.2.2.2.2.2.2.1 u.2.2.2.2.2.2.2.2.2.2.2.2.2.2.2.2.2.2.2.2.2.2.2.2.2.1 u.2.2.2.2.2.2.2.2.2.2.2.2.2.2.2.2.2.2.2.2.2.2.2.2.2.2.1 u.2.2.2.2.2.2.2.2.2.2.2.2.2.2.2.2.2.2.2.2.2.2.2.2.2.2.2.1 u.2.2.2.2.2.2.2.2.2.2.2.2.2.2.2.2.2.2.2.2.2.2.2.2.2.2.2.2.1 u.2.2.2.2.2.2.2.2.2.2.2.2.2.2.2.2.2.2.2.2.2.2.2.2.2.2.2.2.2)
      (fun i u => wn_h u = wn_h (ph, le, cl, se, di, a1, a2, a3, a4, a5, a6, a7, a8, a9, a10, a11, a12, a13, a14, a15, a16, a17, a18, a19, a20, a21, a22, a23, a24, a25) ∧ (∀ j, wn_bv u j = wn_bv (ph, le, cl, se, di, a1, a2, a3, a4, a5, a6, a7, a8, a9, a10, a11, a12, a13, a14, a15, a16, a17, a18, a19, a20, a21, a22, a23, a24, a25) j) ∧ (∀ j, j < 4 → j < i → wn_ok F N w (t + 1) W j (wn_fv u j)) ∧ (∀ j, j < 4 → i ≤ j → wn_ok F N w t W j (wn_fv u j))) 4 0 (ph, le, cl, se, di, a1, a2, a3, a4, a5, a6, a7, a8, a9, a10, a11, a12, a13, a14, a15, a16, a17, a18, a19, a20, a21, a22, a23, a24, a25) (by omega) ?_ ?_ ?_
    · exact ⟨rfl, fun j => rfl, fun j _ hj => absurd hj (by omega), fun j hj _ => ho j hj⟩
    · rintro fu ⟨ph', le', cl', se', di', a1', a2', a3', a4', a5', a6', a7', a8', a9', a10', a11', a12', a13', a14', a15', a16', a17', a18', a19', a20', a21', a22', a23', a24', a25'⟩ ⟨r1, r2, r3, r4⟩
      show wX_frameBit_41 post 0 (nI (wn_lv F N t)) (fu + 1) 0 (nI 4) ph' le' cl' se' di' a1' a2' a3' a4' a5' a6' a7' a8' a9' a10' a11' a12' a13' a14' a15' a16' a17' a18' a19' a20' a21' a22' a23' a24' a25'
      refine pk_le 4 4 (fun _ => br_t rfl ?_) (fun z => absurd z (by omega))
      have hb' : ∀ j, j < 4 → wn_bs (W j) (B j) (wn_bv (ph', le', cl', se', di', a1', a2', a3', a4', a5', a6', a7', a8', a9', a10', a11', a12', a13', a14', a15', a16', a17', a18', a19', a20', a21', a22', a23', a24', a25') j) := fun j hj => by rw [r2 j]; exact (hb j hj).1
      have ho' : ∀ j, j < 4 → wn_ok F N w (t + 1) W j (wn_fv (ph', le', cl', se', di', a1', a2', a3', a4', a5', a6', a7', a8', a9', a10', a11', a12', a13', a14', a15', a16', a17', a18', a19', a20', a21', a22', a23', a24', a25') j) := fun j hj => r3 j hj hj
      rcases Nat.lt_or_ge t (N + 9) with z | z
      · refine wn_fin0 (fun j hj => ⟨t + 1 - N, by omega, (ho' j hj).1.2.2.2.2.2.2.2⟩) ?_
        exact H0 z _ r1 hb' ho'
      · have ez : t = N + 9 := by omega
        have r1' : (ph', le', cl', se', di') = (ph, le, cl, se, di) := r1
        simp only [Prod.mk.injEq] at r1'
        obtain ⟨_, _, e3, e4, e5⟩ := r1'
        refine wn_fin1 (F := F) (N := N) (w := w) (W := W) (B := B) hX (fun j hj => ⟨hb' j hj, (hb j hj).2⟩) (fun j hj => by have := ho' j hj; rw [show t + 1 = N + 10 by omega] at this; exact this) (fun u' q1 q2 => ?_)
        rw [e3, e4, e5] at q1
        have q3 := H1 ez u' q1 q2
        obtain ⟨ph'', le'', cl'', se'', di'', a1'', a2'', a3'', a4'', a5'', a6'', a7'', a8'', a9'', a10'', a11'', a12'', a13'', a14'', a15'', a16'', a17'', a18'', a19'', a20'', a21'', a22'', a23'', a24'', a25''⟩ := u'
        exact q3
    · rintro fu i ⟨ph', le', cl', se', di', a1', a2', a3', a4', a5', a6', a7', a8', a9', a10', a11', a12', a13', a14', a15', a16', a17', a18', a19', a20', a21', a22', a23', a24', a25'⟩ hi ⟨r1, r2, r3, r4⟩ ih
      show wX_frameBit_41 post 0 (nI (wn_lv F N t)) (fu + 1) 0 (nI i) ph' le' cl' se' di' a1' a2' a3' a4' a5' a6' a7' a8' a9' a10' a11' a12' a13' a14' a15' a16' a17' a18' a19' a20' a21' a22' a23' a24' a25'
      have i5 : vp_in (nI i) 5 := pk_in i 5 (by omega)
      have ci : (nI i).toNatClampNeg = i := nI_clamp (by omega)
      have p1 := r4 i hi (Nat.le_refl i)
      have p2 : wn_bs (W i) (B i) (wn_bv (ph', le', cl', se', di', a1', a2', a3', a4', a5', a6', a7', a8', a9', a10', a11', a12', a13', a14', a15', a16', a17', a18', a19', a20', a21', a22', a23', a24', a25') i) := by rw [r2 i]; exact (hb i hi).1
      have p3 : ¬ a15' i = 0 := hro _ _ p1
      unfold wX_frameBit_41
      rw [ci]
      refine pk_le 4 i (fun z => absurd z (by omega)) (fun _ => ⟨i5, br_f p3 ?_⟩)
      refine wn_hear hX hi p2 p1 ht (fun u2 s1 s2 s3 s4 => ?_)
      have t2 := ih u2 ⟨s1.trans r1, fun j => (s2 j).trans (r2 j), fun j hj hji => ?_, fun j hj hji => ?_⟩
      · obtain ⟨ph'', le'', cl'', se'', di'', a1'', a2'', a3'', a4'', a5'', a6'', a7'', a8'', a9'', a10'', a11'', a12'', a13'', a14'', a15'', a16'', a17'', a18'', a19'', a20'', a21'', a22'', a23'', a24'', a25''⟩ := u2
        exact br_t rfl (br_t rfl (nm_r (nI_1 i) t2))
      · by_cases ej : j = i
        · rw [ej]; exact s4
        · rw [s3 j ej]; exact r3 j hj (by omega)
      · rw [s3 j (by omega)]; exact r4 j hj (by omega)
  · intro fu i l hi ⟨l1, l2, l3⟩ ih
    have i5 : vp_in (nI i) 5 := pk_in i 5 (by omega)
    have ci : (nI i).toNatClampNeg = i := nI_clamp (by omega)
    have p3 : ¬ a15 i = 0 := hro _ _ (ho i hi)
    show wX_frameBit_4 post 0 ph le cl se di a1 a2 a3 a4 a5 a6 a7 a8 a9 a10 a11 a12 a13 a14 a15 a16 a17 a18 a19 a20 a21 a22 a23 a24 a25 (fu + 1) (nI l) (nI i)
    unfold wX_frameBit_4
    rw [ci]
    refine pk_le 4 i (fun z => absurd z (by omega)) (fun _ => ⟨i5, br_f p3 ?_⟩)
    refine wn_out hX hi (hb i hi).1 (ho i hi) ht (fun o o1 o2 o3 o4 => ?_)
    obtain ⟨y1, y2, y3, y4⟩ := wn_and2 l (by omega) o (by omega) (wn_lv F N t) (by omega) l2 o2
    refine nm_r (nx_and l o) (nm_r (nI_1 i) (ih (l &&& o) ⟨y2, y1, fun z => ?_⟩))
    by_cases em : m = i
    · apply y4
      rcases hmt with ⟨z1, z2⟩ | ⟨z1, z2⟩
      · exact o3 z1 (by omega)
      · exact o4 z1 (by omega)
    · exact y3 (l3 (by omega))
end
end
section
/-! ===== beginFrame, step, run ===== -/
section
variable {ph le cl se di : Int32} {a1 : Nat → Int32} {a2 : Nat → Int32} {a3 : Nat → Int32} {a4 : Nat → Int32} {a5 : Nat → Int32} {a6 : Nat → Int32} {a7 : Nat → Int32} {a8 : Nat → Int32} {a9 : Nat → Int64} {a10 : Nat → Int32} {a11 : Nat → Int32} {a12 : Nat → Int32} {a13 : Nat → Int64} {a14 : Nat → Int32} {a15 : Nat → Int32} {a16 : Nat → Int32} {a17 : Nat → Int32} {a18 : Nat → Int32} {a19 : Nat → Int32} {a20 : Nat → Int32} {a21 : Nat → Int32} {a22 : Nat → Int32} {a23 : Nat → Int64} {a24 : Nat → Int32} {a25 : Nat → Int32}
variable {F : Nat × Nat × Nat} {N w t : Nat} {W : Nat → Option (Nat × Nat × Nat)} {B : Nat → List (Nat × Nat)} {b : List (Nat × Nat)} {n : Nat}
theorem wn_bs_6 {Wn : Option (Nat × Nat × Nat)} (hb : wn_bs Wn b (wn_bv (ph, le, cl, se, di, a1, a2, a3, a4, a5, a6, a7, a8, a9, a10, a11, a12, a13, a14, a15, a16, a17, a18, a19, a20, a21, a22, a23, a24, a25) n)) : (Wn = none ∧ a6 n = 0) ∨ (∃ G, Wn = some G ∧ a6 n = 1 ∧ wn_wt G (a7 (4 * n)) (a8 (4 * n)) (a9 (4 * n))) := by
  obtain ⟨_, _, _, _, _, _, h, _⟩ := hb
  cases Wn with
  | none => exact Or.inl ⟨rfl, h⟩
  | some G => exact Or.inr ⟨G, rfl, h.1, h.2⟩
theorem wn_bs_1 {Wn : Option (Nat × Nat × Nat)} (hb : wn_bs Wn b (wn_bv (ph, le, cl, se, di, a1, a2, a3, a4, a5, a6, a7, a8, a9, a10, a11, a12, a13, a14, a15, a16, a17, a18, a19, a20, a21, a22, a23, a24, a25) n)) : ¬ a1 n = 0 := by
  have h : a1 n = 1 := hb.1
  rw [h]
  decide
theorem wn_choose {post : Int32 → Prop} (hn : n < 5) (h6 : a6 n = 0 ∨ a6 n = 1) (H : post 0) : wpX_choose post (ph, le, cl, se, di, a1, a2, a3, a4, a5, a6, a7, a8, a9, a10, a11, a12, a13, a14, a15, a16, a17, a18, a19, a20, a21, a22, a23, a24, a25) (nI n) := by
  unfold wpX_choose
  dsimp only
  refine ⟨1, ?_⟩
  unfold wX_choose_4
  rw [show (nI n).toNatClampNeg = n from nI_clamp (by omega)]
  refine ⟨pk_in n 5 hn, br_t ?_ H⟩
  rcases h6 with e | e
  · rw [e]; decide
  · rw [e]; decide
theorem wn_beginF {post : St2 → Prop} (hX : wn_FX F N w W) (hlow : ∀ j, j < 4 → j ≠ w → ∀ G, W j = some G → F.1 < G.1) (hb : ∀ j, j < 4 → wn_bs (W j) (B j) (wn_bv (ph, le, cl, se, di, a1, a2, a3, a4, a5, a6, a7, a8, a9, a10, a11, a12, a13, a14, a15, a16, a17, a18, a19, a20, a21, a22, a23, a24, a25) j))
    (H : ∀ u' : St2, wn_h u' = (1, le, cl, se, di) → (∀ j, j < 4 → wn_bs (W j) (B j) (wn_bv u' j)) → (∀ j, j < 4 → wn_ok F N w 0 W j (wn_fv u' j)) → post u') : wpX_beginFrame post (ph, le, cl, se, di, a1, a2, a3, a4, a5, a6, a7, a8, a9, a10, a11, a12, a13, a14, a15, a16, a17, a18, a19, a20, a21, a22, a23, a24, a25) := by
  obtain ⟨h0, h1, hN, hw, hW⟩ := hX
  unfold wpX_beginFrame
  dsimp only
  refine pk_loop (σ := St2) (fun fu i u => wX_beginFrame_7 post fu (nI i) u.1 u.2.1 u.2.2.1 u.2.2.2.1 u.2.2.2.2.1 u.2.2.2.2.2.1 u.2.2.2.2.2.2.1 u.2.2.2.2.2.2.2.1 u.2.2.2.2.2.2.2.2.1 u.2.2.2.2.2.2.2.2.2.1 u.2.2.2.2.2.2.2.2.2.2.1 u.2.2.2.2.2.2.2.2.2.2.2.1 u.2.2.2.2.2.2.2.2.2.2.2.2.1 u.2.2.2.2.2.2.2.2.2.2.2.2.2.1 u.2.2.2.2.2.2.2.2.2.2.2.2.2.2.1 u.2.2.2.2.2.2.2.2.2.2.2.2.2.2.2.1 u.2.2.2.2.2.2.2.2.2.2.2.2.2.2.2.2.1 u.2.2.2.2.2.2.2.2.2.2.2.2.2.2.2.2.2.1 u.2.2.2.2.2.2.2.2.2.2.2.2.2.2.2.2.2.2.1 u.2.2.2.2.2.2.2.2.2.2.2.2.2.2.2.2.2.2.2.1 u.2.2.2.2.2.2.2.2.2.2.2.2.2.2.2.2.2.2.2.2.1 u.2.2.2.2.2.2.2.2.2.2.2.2.2.2.2.2.2.2.2.2.2.1 u.2.2.2.2.2.2.2.2.2.2.2.2.2.2.2.2.2.2.2.2.2.2.1 u.2.2.2.2.2.2.2.2.2.2.2.2.2.2.2.2.2.2.2.2.2.2.2.1 u.2.2.2.2.2.2.2.2.2.2.2.2.2.2.2.2.2.2.2.2.2.2.2.2.1 u.2.2.2.2.2.2.2.2.2.2.2.2.2.2.2.2.2.2.2.2.2.2.2.2.2.1 u.2.2.2.2.2.2.2.2.2.2.2.2.2.2.2.2.2.2.2.2.2.2.2.2.2.2.1 u.2.2.2.2.2.2.2.2.2.2.2.2.2.2.2.2.2.2.2.2.2.2.2.2.2.2.2.1 u.2.2.2.2.2.2.2.2.2.2.2.2.2.2.2.2.2.2.2.2.2.2.2.2.2.2.2.2.1 u.2.2.2.2.2.2.2.2.2.2.2.2.2.2.2.2.2.2.2.2.2.2.2.2.2.2.2.2.2)
    (fun i u => wn_h u = (1, le, cl, se, di) ∧ (∀ j, j < 4 → wn_bs (W j) (B j) (wn_bv u j)) ∧ (∀ j, j < 4 → j < i → wn_ok F N w 0 W j (wn_fv u j))) 4 0 (1, le, cl, se, di, a1, a2, a3, a4, a5, a6, a7, a8, a9, a10, a11, a12, a13, a14, a15, a16, a17, a18, a19, a20, a21, a22, a23, a24, a25) (by omega) ?_ ?_ ?_
  · exact ⟨wn_h_mk, fun j hj => wn_bs_same (hb j hj), fun j _ hj => absurd hj (by omega)⟩
  · rintro fu ⟨ph', le', cl', se', di', a1', a2', a3', a4', a5', a6', a7', a8', a9', a10', a11', a12', a13', a14', a15', a16', a17', a18', a19', a20', a21', a22', a23', a24', a25'⟩ ⟨r1, r2, r3⟩
    show wX_beginFrame_7 post (fu + 1) (nI 4) ph' le' cl' se' di' a1' a2' a3' a4' a5' a6' a7' a8' a9' a10' a11' a12' a13' a14' a15' a16' a17' a18' a19' a20' a21' a22' a23' a24' a25'
    exact pk_le 4 4 (fun _ => H _ r1 r2 (fun j hj => r3 j hj hj)) (fun z => absurd z (by omega))
  · rintro fu i ⟨ph', le', cl', se', di', a1', a2', a3', a4', a5', a6', a7', a8', a9', a10', a11', a12', a13', a14', a15', a16', a17', a18', a19', a20', a21', a22', a23', a24', a25'⟩ hi ⟨r1, r2, r3⟩ ih
    show wX_beginFrame_7 post (fu + 1) (nI i) ph' le' cl' se' di' a1' a2' a3' a4' a5' a6' a7' a8' a9' a10' a11' a12' a13' a14' a15' a16' a17' a18' a19' a20' a21' a22' a23' a24' a25'
    have i5 : vp_in (nI i) 5 := pk_in i 5 (by omega)
    have i4 : vp_in (nI i) 4 := pk_in i 4 hi
    have ci : (nI i).toNatClampNeg = i := nI_clamp (by omega)
    have hbi := r2 i hi
    have q1 := wn_bs_1 hbi
    unfold wX_beginFrame_7
    rw [ci]
    refine pk_le 4 i (fun z => absurd z (by omega)) (fun _ => ⟨i5, nm_e ⟨i4, br_f q1 ?_⟩⟩)
    refine wn_beginL (F := F) (by omega) h0 h1 (fun u1 s1 s2 s3 s4 s5 => ?_)
    obtain ⟨ph'', le'', cl'', se'', di'', a1'', a2'', a3'', a4'', a5'', a6'', a7'', a8'', a9'', a10'', a11'', a12'', a13'', a14'', a15'', a16'', a17'', a18'', a19'', a20'', a21'', a22'', a23'', a24'', a25''⟩ := u1
    dsimp only
    have hbi2 : wn_bs (W i) (B i) (wn_bv (ph'', le'', cl'', se'', di'', a1'', a2'', a3'', a4'', a5'', a6'', a7'', a8'', a9'', a10'', a11'', a12'', a13'', a14'', a15'', a16'', a17'', a18'', a19'', a20'', a21'', a22'', a23'', a24'', a25'') i) := by rw [s2 i]; exact wn_bs_same hbi
    have main : ∀ x : Int32, ((i = w → x = 1) ∧ (i ≠ w → x = 2 ∨ (x = 1 ∧ ∃ G, W i = some G ∧ F.1 < G.1 ∧ (wn_at F (min 0 N)).1 < 12 ∧ F.1 / 2 ^ (12 - (wn_at F (min 0 N)).1) = G.1 / 2 ^ (12 - (wn_at F (min 0 N)).1)))) →
        wX_beginFrame_52 post (wX_beginFrame_7 post fu) (nI i) x (nI i) ph'' le'' cl'' se'' di'' a1'' a2'' a3'' a4'' a5'' a6'' a7'' a8'' a9'' a10'' a11'' a12'' a13'' a14'' a15'' a16'' a17'' a18'' a19'' a20'' a21'' a22'' a23'' a24'' a25'' := by
      intro x hx
      unfold wX_beginFrame_52
      rw [ci]
      refine ⟨i5, nm_e ?_⟩
      have h6 : a6'' i = 0 ∨ a6'' i = 1 := by
        rcases wn_bs_6 hbi2 with ⟨_, e⟩ | ⟨G, _, e, _⟩
        · exact Or.inl e
        · exact Or.inr e
      refine wn_choose (by omega) h6 ⟨i5, nm_e (nm_r (nI_1 i) (ih (ph'', le'', cl'', se'', di'', a1'', a2'', a3'', a4'', a5'', a6'', a7'', a8'', a9'', a10'', a11'', a12'', a13'', a14'', upd a15'' i x, upd a16'' i 0, a17'', a18'', a19'', a20'', a21'', a22'', a23'', a24'', a25'') ⟨(wn_h_same.trans s1).trans (wn_h_same.trans r1), fun j hj => ?_, fun j hj hji => ?_⟩))⟩
      · have := r2 j hj
        rw [show wn_bv (ph', le', cl', se', di', a1', a2', a3', a4', a5', a6', a7', a8', a9', a10', a11', a12', a13', a14', a15', a16', a17', a18', a19', a20', a21', a22', a23', a24', a25') j = wn_bv (ph'', le'', cl'', se'', di'', a1'', a2'', a3'', a4'', a5'', a6'', a7'', a8'', a9'', a10'', a11'', a12'', a13'', a14'', a15'', a16'', a17'', a18'', a19'', a20'', a21'', a22'', a23'', a24'', a25'') j from wn_bv_same.trans (s2 j).symm] at this
        obtain ⟨d1, d2, d3, d4, d14, d16, dW, dB⟩ := this
        refine ⟨d1, d2, d3, d4, d14, ?_, dW, dB⟩
        show upd a16'' i 0 j = 0
        by_cases ej : j = i
        · rw [ej, pk_us]
        · rw [pk_un ej]; exact d16
      · by_cases ej : j = i
        · rw [ej]
          refine ⟨?_, ?_, ?_⟩
          · rw [Nat.zero_min, Nat.zero_sub]
            exact wn_li_same s5
          · intro e
            show upd a15'' i x i = 1
            rw [pk_us]; exact hx.1 e
          · intro e
            show upd a15'' i x i = 2 ∨ (upd a15'' i x i = 1 ∧ _)
            rw [pk_us]; exact hx.2 e
        · have e1 : wn_fv (ph'', le'', cl'', se'', di'', a1'', a2'', a3'', a4'', a5'', a6'', a7'', a8'', a9'', a10'', a11'', a12'', a13'', a14'', upd a15'' i x, upd a16'' i 0, a17'', a18'', a19'', a20'', a21'', a22'', a23'', a24'', a25'') j = wn_fv (ph'', le'', cl'', se'', di'', a1'', a2'', a3'', a4'', a5'', a6'', a7'', a8'', a9'', a10'', a11'', a12'', a13'', a14'', a15'', a16'', a17'', a18'', a19'', a20'', a21'', a22'', a23'', a24'', a25'') j := by
            show (upd a15'' i x j, a17'' j, a18'' j, a19'' j, a20'' j, a21'' j, a22'' j, a24'' j, a25'' j) = (a15'' j, a17'' j, a18'' j, a19'' j, a20'' j, a21'' j, a22'' j, a24'' j, a25'' j)
            rw [pk_un ej]
          have e2 : wn_fv (ph', le', cl', se', di', a1', a2', a3', a4', a5', a6', a7', a8', a9', a10', a11', a12', a13', a14', upd a15' i 0, a16', a17', a18', a19', a20', a21', a22', a23', a24', a25') j = wn_fv (ph', le', cl', se', di', a1', a2', a3', a4', a5', a6', a7', a8', a9', a10', a11', a12', a13', a14', a15', a16', a17', a18', a19', a20', a21', a22', a23', a24', a25') j := by
            show (upd a15' i 0 j, a17' j, a18' j, a19' j, a20' j, a21' j, a22' j, a24' j, a25' j) = (a15' j, a17' j, a18' j, a19' j, a20' j, a21' j, a22' j, a24' j, a25' j)
            rw [pk_un ej]
          rw [e1, s3 j ej, e2]
          exact r3 j hj (by omega)
    rcases wn_bs_6 hbi2 with ⟨e, e6⟩ | ⟨G, e, e6, hwt⟩
    · rw [e6]
      refine ⟨i5, br_t (by decide) (main 2 ⟨fun y => ?_, fun _ => Or.inl rfl⟩)⟩
      rw [y, hW] at e
      exact absurd e (by simp)
    · rw [e6]
      refine ⟨i5, br_f (by decide) (main 1 ⟨fun _ => rfl, fun y => Or.inr ⟨rfl, G, e, hlow i hi y G e, ?_⟩⟩)⟩
      rw [Nat.zero_min]
      refine ⟨show 0 < 12 by decide, ?_⟩
      show F.1 / 2 ^ 12 = G.1 / 2 ^ 12
      have := hwt.1
      rw [wn_z (m := 11) h0 (by omega), wn_z (m := 11) this (by omega)]
theorem wn_any1 {post : Int32 → Prop} (hw : w < 4) (hW : W w = some F) (hb : ∀ j, j < 4 → wn_bs (W j) (B j) (wn_bv (ph, le, cl, se, di, a1, a2, a3, a4, a5, a6, a7, a8, a9, a10, a11, a12, a13, a14, a15, a16, a17, a18, a19, a20, a21, a22, a23, a24, a25) j)) (H : post 1) : wpX_anyWaits post (ph, le, cl, se, di, a1, a2, a3, a4, a5, a6, a7, a8, a9, a10, a11, a12, a13, a14, a15, a16, a17, a18, a19, a20, a21, a22, a23, a24, a25) := by
  unfold wpX_anyWaits
  dsimp only
  refine pk_loop (σ := Unit) (fun fu i _ => wX_anyWaits_2 post ph le cl se di a1 a2 a3 a4 a5 a6 a7 a8 a9 a10 a11 a12 a13 a14 a15 a16 a17 a18 a19 a20 a21 a22 a23 a24 a25 fu (nI i)) (fun i _ => ∀ j, j < i → j < 4 → W j = none) 4 0 () (by omega) (fun j hj => absurd hj (by omega)) ?_ ?_
  · intro fu _ h
    have := h w hw hw
    rw [hW] at this
    exact absurd this (by simp)
  · intro fu i _ hi h ih
    show wX_anyWaits_2 post ph le cl se di a1 a2 a3 a4 a5 a6 a7 a8 a9 a10 a11 a12 a13 a14 a15 a16 a17 a18 a19 a20 a21 a22 a23 a24 a25 (fu + 1) (nI i)
    unfold wX_anyWaits_2
    rw [show (nI i).toNatClampNeg = i from nI_clamp (by omega)]
    refine pk_le 4 i (fun z => absurd z (by omega)) (fun _ => ⟨pk_in i 4 hi, br_f (wn_bs_1 (hb i hi)) ⟨pk_in i 5 (by omega), ?_⟩⟩)
    rcases wn_bs_6 (hb i hi) with ⟨e, e6⟩ | ⟨G, e, e6, hwt⟩
    · rw [e6]
      refine br_t (by decide) (nm_r (nI_1 i) (ih () (fun j hj hj4 => ?_)))
      by_cases ej : j = i
      · rw [ej]; exact e
      · exact h j (by omega) hj4
    · rw [e6]
      exact br_f (by decide) H
theorem wn_any0 {post : Int32 → Prop} (hW : ∀ j, j < 4 → W j = none) (hb : ∀ j, j < 4 → wn_bs (W j) (B j) (wn_bv (ph, le, cl, se, di, a1, a2, a3, a4, a5, a6, a7, a8, a9, a10, a11, a12, a13, a14, a15, a16, a17, a18, a19, a20, a21, a22, a23, a24, a25) j)) (H : post 0) : wpX_anyWaits post (ph, le, cl, se, di, a1, a2, a3, a4, a5, a6, a7, a8, a9, a10, a11, a12, a13, a14, a15, a16, a17, a18, a19, a20, a21, a22, a23, a24, a25) := by
  unfold wpX_anyWaits
  dsimp only
  refine pk_loop (σ := Unit) (fun fu i _ => wX_anyWaits_2 post ph le cl se di a1 a2 a3 a4 a5 a6 a7 a8 a9 a10 a11 a12 a13 a14 a15 a16 a17 a18 a19 a20 a21 a22 a23 a24 a25 fu (nI i)) (fun i _ => True) 4 0 () (by omega) trivial ?_ ?_
  · intro fu _ h
    exact pk_le 4 4 (fun _ => H) (fun z => absurd z (by omega))
  · intro fu i _ hi h ih
    show wX_anyWaits_2 post ph le cl se di a1 a2 a3 a4 a5 a6 a7 a8 a9 a10 a11 a12 a13 a14 a15 a16 a17 a18 a19 a20 a21 a22 a23 a24 a25 (fu + 1) (nI i)
    unfold wX_anyWaits_2
    rw [show (nI i).toNatClampNeg = i from nI_clamp (by omega)]
    refine pk_le 4 i (fun z => absurd z (by omega)) (fun _ => ⟨pk_in i 4 hi, br_f (wn_bs_1 (hb i hi)) ⟨pk_in i 5 (by omega), ?_⟩⟩)
    rcases wn_bs_6 (hb i hi) with ⟨e, e6⟩ | ⟨G, e, e6, hwt⟩
    · rw [e6]
      exact br_t (by decide) (nm_r (nI_1 i) (ih () trivial))
    · rw [hW i hi] at e
      exact absurd e (by simp)
theorem wn_stepF {post : St2 → Prop} (hp : ¬ ph = 0) (H : post (ph, le, cl + 1, se, 0, a1, a2, a3, a4, a5, a6, a7, a8, a9, a10, a11, a12, a13, a14, a15, a16, a17, a18, a19, a20, a21, a22, a23, a24, a25)) : wpX_step post (ph, le, cl, se, 0, a1, a2, a3, a4, a5, a6, a7, a8, a9, a10, a11, a12, a13, a14, a15, a16, a17, a18, a19, a20, a21, a22, a23, a24, a25) := by
  unfold wpX_step
  dsimp only
  exact nm_e (br_t (by decide) (nm_r (show (0 : Int32) - 0 = 0 by decide) (br_f hp H)))
theorem wn_stepI {post : St2 → Prop} (hX : wn_FX F N w W) (hlow : ∀ j, j < 4 → j ≠ w → ∀ G, W j = some G → F.1 < G.1) (hb : ∀ j, j < 4 → wn_bs (W j) (B j) (wn_bv (0, le, cl, se, 0, a1, a2, a3, a4, a5, a6, a7, a8, a9, a10, a11, a12, a13, a14, a15, a16, a17, a18, a19, a20, a21, a22, a23, a24, a25) j))
    (H : ∀ u' : St2, wn_h u' = (1, le, cl + 1, se, 0) → (∀ j, j < 4 → wn_bs (W j) (B j) (wn_bv u' j)) → (∀ j, j < 4 → wn_ok F N w 0 W j (wn_fv u' j)) → post u') : wpX_step post (0, le, cl, se, 0, a1, a2, a3, a4, a5, a6, a7, a8, a9, a10, a11, a12, a13, a14, a15, a16, a17, a18, a19, a20, a21, a22, a23, a24, a25) := by
  unfold wpX_step
  dsimp only
  refine nm_e (br_t (by decide) (nm_r (show (0 : Int32) - 0 = 0 by decide) (br_t rfl ?_)))
  refine wn_any1 (w := w) (W := W) (F := F) (B := B) hX.2.2.2.1 hX.2.2.2.2 (fun j hj => wn_bs_same (hb j hj)) (br_f (by decide) ?_)
  refine wn_beginF hX hlow (fun j hj => wn_bs_same (hb j hj)) (fun u' q1 q2 q3 => ?_)
  have q4 := H u' q1 q2 q3
  obtain ⟨ph', le', cl', se', di', a1', a2', a3', a4', a5', a6', a7', a8', a9', a10', a11', a12', a13', a14', a15', a16', a17', a18', a19', a20', a21', a22', a23', a24', a25'⟩ := u'
  exact q4
theorem wn_stepN {post : St2 → Prop} (hW : ∀ j, j < 4 → W j = none) (hb : ∀ j, j < 4 → wn_bs (W j) (B j) (wn_bv (0, le, cl, se, 0, a1, a2, a3, a4, a5, a6, a7, a8, a9, a10, a11, a12, a13, a14, a15, a16, a17, a18, a19, a20, a21, a22, a23, a24, a25) j)) (H : post (0, le, cl + 1, se, 0, a1, a2, a3, a4, a5, a6, a7, a8, a9, a10, a11, a12, a13, a14, a15, a16, a17, a18, a19, a20, a21, a22, a23, a24, a25)) : wpX_step post (0, le, cl, se, 0, a1, a2, a3, a4, a5, a6, a7, a8, a9, a10, a11, a12, a13, a14, a15, a16, a17, a18, a19, a20, a21, a22, a23, a24, a25) := by
  unfold wpX_step
  dsimp only
  refine nm_e (br_t (by decide) (nm_r (show (0 : Int32) - 0 = 0 by decide) (br_t rfl ?_)))
  exact wn_any0 (W := W) (B := B) hW (fun j hj => wn_bs_same (hb j hj)) (br_t rfl H)
end
/-- one bit's time -/
def wn_tick (P : St2 → Prop) (u : St2) : Prop := wpX_step (fun u => match u with
  | (ph, le, cl, se, di, a1, a2, a3, a4, a5, a6, a7, a8, a9, a10, a11, a12, a13, a14, a15, a16, a17, a18, a19, a20, a21, a22, a23, a24, a25) => (ph = 1 → wpX_frameBit P (ph, le, cl, se, di, a1, a2, a3, a4, a5, a6, a7, a8, a9, a10, a11, a12, a13, a14, a15, a16, a17, a18, a19, a20, a21, a22, a23, a24, a25) 0) ∧ (¬ ph = 1 → (ph = 0 → P (ph, le, cl, se, di, a1, a2, a3, a4, a5, a6, a7, a8, a9, a10, a11, a12, a13, a14, a15, a16, a17, a18, a19, a20, a21, a22, a23, a24, a25)) ∧ (¬ ph = 0 → wpX_wait1 P (ph, le, cl, se, di, a1, a2, a3, a4, a5, a6, a7, a8, a9, a10, a11, a12, a13, a14, a15, a16, a17, a18, a19, a20, a21, a22, a23, a24, a25)))) u
theorem wn_run {post : Int32 → St2 → Prop} {m : Nat} (hm : m ≤ 2000) (I : Nat → St2 → Prop) {u0 : St2} (h0 : I 0 u0) (hd : ∀ i u, I i u → (wn_h u).2.2.2.2 = 0)
    (hs : ∀ i u, i < m → I i u → ∀ P : St2 → Prop, (∀ u', I (i + 1) u' → P u') → wn_tick P u) (H : ∀ u, I m u → post ((wn_h u).2.2.2.1 - (wn_h u0).2.2.2.1) u) : wpX_run post u0 (nI m) := by
  obtain ⟨ph, le, cl, se, di, a1, a2, a3, a4, a5, a6, a7, a8, a9, a10, a11, a12, a13, a14, a15, a16, a17, a18, a19, a20, a21, a22, a23, a24, a25⟩ := u0
  unfold wpX_run
  dsimp only
  refine pk_lt m 0 (fun z => absurd z (by omega)) (fun _ => pk_le m 2000 (fun _ => ?_) (fun z => absurd z (by omega)))
  refine pk_loop (σ := St2) (fun fu i u => wX_run_20 post (nI m) se fu (nI i) u.1 u.2.1 u.2.2.1 u.2.2.2.1 u.2.2.2.2.1 u.2.2.2.2.2.1 u.2.2.2.2.2.2.1 u.2.2.2.2.2.2.2.1 u.2.2.2.2.2.2.2.2.1 u.2.2.2.2.2.2.2.2.2.1 u.2.2.2.2.2.2.2.2.2.2.1 u.2.2.2.2.2.2.2.2.2.2.2.1 u.2.2.2.2.2.2.2.2.2.2.2.2.1 u.2.2.2.2.2.2.2.2.2.2.2.2.2.1 u.2.2.2.2.2.2.2.2.2.2.2.2.2.2.1 u.2.2.2.2.2.2.2.2.2.2.2.2.2.2.2.1 u.2.2.2.2.2.2.2.2.2.2.2.2.2.2.2.2.1 u.2.2.2.2.2.2.2.2.2.2.2.2.2.2.2.2.2.1 u.2.2.2.2.2.2.2.2.2.2.2.2.2.2.2.2.2.2.1 u.2.2.2.2.2.2.2.2.2.2.2.2.2.2.2.2.2.2.2.1 u.2.2.2.2.2.2.2.2.2.2.2.2.2.2.2.2.2.2.2.2.1 u.2.2.2.2.2.2.2.2.2.2.2.2.2.2.2.2.2.2.2.2.2.1 u.2.2.2.2.2.2.2.2.2.2.2.2.2.2.2.2.2.2.2.2.2.2.1 u.2.2.2.2.2.2.2.2.2.2.2.2.2.2.2.2.2.2.2.2.2.2.2.1 u.2.2.2.2.2.2.2.2.2.2.2.2.2.2.2.2.2.2.2.2.2.2.2.2.1 u.2.2.2.2.2.2.2.2.2.2.2.2.2.2.2.2.2.2.2.2.2.2.2.2.2.1 u.2.2.2.2.2.2.2.2.2.2.2.2.2.2.2.2.2.2.2.2.2.2.2.2.2.2.1 u.2.2.2.2.2.2.2.2.2.2.2.2.2.2.2.2.2.2.2.2.2.2.2.2.2.2.2.1 u.2.2.2.2.2.2.2.2.2.2.2.2.2.2.2.2.2.2.2.2.2.2.2.2.2.2.2.2.1 u.2.2.2.2.2.2.2.2.2.2.2.2.2.2.2.2.2.2.2.2.2.2.2.2.2.2.2.2.2) I m 0 (ph, le, cl, se, di, a1, a2, a3, a4, a5, a6, a7, a8, a9, a10, a11, a12, a13, a14, a15, a16, a17, a18, a19, a20, a21, a22, a23, a24, a25) (by omega) h0 ?_ ?_
  · rintro fu ⟨ph', le', cl', se', di', a1', a2', a3', a4', a5', a6', a7', a8', a9', a10', a11', a12', a13', a14', a15', a16', a17', a18', a19', a20', a21', a22', a23', a24', a25'⟩ h
    show wX_run_20 post (nI m) se (fu + 1) (nI m) ph' le' cl' se' di' a1' a2' a3' a4' a5' a6' a7' a8' a9' a10' a11' a12' a13' a14' a15' a16' a17' a18' a19' a20' a21' a22' a23' a24' a25'
    exact pk_le m m (fun _ => H _ h) (fun z => absurd z (by omega))
  · rintro fu i ⟨ph', le', cl', se', di', a1', a2', a3', a4', a5', a6', a7', a8', a9', a10', a11', a12', a13', a14', a15', a16', a17', a18', a19', a20', a21', a22', a23', a24', a25'⟩ hi h ih
    show wX_run_20 post (nI m) se (fu + 1) (nI i) ph' le' cl' se' di' a1' a2' a3' a4' a5' a6' a7' a8' a9' a10' a11' a12' a13' a14' a15' a16' a17' a18' a19' a20' a21' a22' a23' a24' a25'
    have e5 : di' = 0 := hd _ _ h
    refine pk_le m i (fun z => absurd z (by omega)) (fun _ => br_f (by rw [e5]; decide) ?_)
    refine hs i _ hi h (fun u => match u with | (ph'', le'', cl'', se'', di'', a1'', a2'', a3'', a4'', a5'', a6'', a7'', a8'', a9'', a10'', a11'', a12'', a13'', a14'', a15'', a16'', a17'', a18'', a19'', a20'', a21'', a22'', a23'', a24'', a25'') => ∀ y : Int32, y = nI i + 1 → wX_run_20 post (nI m) se fu y ph'' le'' cl'' se'' di'' a1'' a2'' a3'' a4'' a5'' a6'' a7'' a8'' a9'' a10'' a11'' a12'' a13'' a14'' a15'' a16'' a17'' a18'' a19'' a20'' a21'' a22'' a23'' a24'' a25'') (fun u' hu' => ?_)
    have t := ih u' hu'
    obtain ⟨ph'', le'', cl'', se'', di'', a1'', a2'', a3'', a4'', a5'', a6'', a7'', a8'', a9'', a10'', a11'', a12'', a13'', a14'', a15'', a16'', a17'', a18'', a19'', a20'', a21'', a22'', a23'', a24'', a25''⟩ := u'
    exact nm_r (nI_1 i) t
end
section
/-! ===== the states between the law's calls ===== -/
def wn_FR (F : Nat × Nat × Nat) (N w : Nat) (W : Nat → Option (Nat × Nat × Nat)) (B : Nat → List (Nat × Nat)) (t c s : Nat) (u : St2) : Prop :=
  (∃ le : Int32, wn_h u = (1, le, nI c, nI s, 0)) ∧ (∀ j, j < 4 → wn_bs (W j) (B j) (wn_bv u j)) ∧ (∀ j, j < 4 → wn_ok F N w t W j (wn_fv u j))
def wn_PA (W : Nat → Option (Nat × Nat × Nat)) (B : Nat → List (Nat × Nat)) (ph le : Nat) (c s : Nat) (u : St2) : Prop :=
  wn_h u = (nI ph, nI le, nI c, nI s, 0) ∧ (∀ j, j < 4 → wn_bs (W j) (B j) (wn_bv u j))
def wn_ID (W : Nat → Option (Nat × Nat × Nat)) (B : Nat → List (Nat × Nat)) (c s : Nat) (u : St2) : Prop :=
  (∃ le : Int32, wn_h u = (0, le, nI c, nI s, 0)) ∧ (∀ j, j < 4 → wn_bs (W j) (B j) (wn_bv u j))
section
variable {F : Nat × Nat × Nat} {N w t c s : Nat} {W : Nat → Option (Nat × Nat × Nat)} {B : Nat → List (Nat × Nat)} {P : St2 → Prop} {u : St2}
theorem wn_tickF (hX : wn_FX F N w W) (hB : ∀ j, j < 4 → (B j).length ≤ 1) (h : wn_FR F N w W B t c s u) (ht : t < N + 9) (H : ∀ u', wn_FR F N w W B (t + 1) (c + 1) s u' → P u') : wn_tick P u := by
  obtain ⟨ph, le, cl, se, di, a1, a2, a3, a4, a5, a6, a7, a8, a9, a10, a11, a12, a13, a14, a15, a16, a17, a18, a19, a20, a21, a22, a23, a24, a25⟩ := u
  obtain ⟨⟨le0, h1⟩, h2, h3⟩ := h
  have h1' : (ph, le, cl, se, di) = ((1 : Int32), le0, nI c, nI s, (0 : Int32)) := h1
  simp only [Prod.mk.injEq] at h1'
  obtain ⟨e1, e2, e3, e4, e5⟩ := h1'
  subst e1 e2 e3 e4 e5
  unfold wn_tick
  refine wn_stepF (by decide) (br_t rfl ?_)
  refine wn_frameBit (F := F) (N := N) (w := w) (W := W) (B := B) (t := t) hX (by omega) (fun j hj => ⟨wn_bs_same (h2 j hj), hB j hj⟩) (fun j hj => wn_ok_same (h3 j hj)) (fun _ u' q1 q2 q3 => ?_) (fun z => absurd z (by omega))
  rw [nI_1] at q1
  exact H u' ⟨⟨le, q1⟩, q2, q3⟩
theorem wn_tickE (hX : wn_FX F N w W) (hB : ∀ j, j < 4 → (B j).length ≤ 1) (h : wn_FR F N w W B (N + 9) c s u) (H : ∀ u', wn_PA (wn_W1 W w none) (wn_B1 B w F) 3 3 (c + 1) (s + 1) u' → P u') : wn_tick P u := by
  obtain ⟨ph, le, cl, se, di, a1, a2, a3, a4, a5, a6, a7, a8, a9, a10, a11, a12, a13, a14, a15, a16, a17, a18, a19, a20, a21, a22, a23, a24, a25⟩ := u
  obtain ⟨⟨le0, h1⟩, h2, h3⟩ := h
  have h1' : (ph, le, cl, se, di) = ((1 : Int32), le0, nI c, nI s, (0 : Int32)) := h1
  simp only [Prod.mk.injEq] at h1'
  obtain ⟨e1, e2, e3, e4, e5⟩ := h1'
  subst e1 e2 e3 e4 e5
  unfold wn_tick
  refine wn_stepF (by decide) (br_t rfl ?_)
  refine wn_frameBit (F := F) (N := N) (w := w) (W := W) (B := B) (t := N + 9) hX (by omega) (fun j hj => ⟨wn_bs_same (h2 j hj), hB j hj⟩) (fun j hj => wn_ok_same (h3 j hj)) (fun z => absurd z (by omega)) (fun _ u' q1 q2 => ?_)
  rw [nI_1, nI_1] at q1
  exact H u' ⟨q1, q2⟩
theorem wn_tickB (hX : wn_FX F N w W) (hB : ∀ j, j < 4 → (B j).length ≤ 1) (hlow : ∀ j, j < 4 → j ≠ w → ∀ G, W j = some G → F.1 < G.1) (h : wn_ID W B c s u) (H : ∀ u', wn_FR F N w W B 1 (c + 1) s u' → P u') : wn_tick P u := by
  obtain ⟨ph, le, cl, se, di, a1, a2, a3, a4, a5, a6, a7, a8, a9, a10, a11, a12, a13, a14, a15, a16, a17, a18, a19, a20, a21, a22, a23, a24, a25⟩ := u
  obtain ⟨⟨le0, h1⟩, h2⟩ := h
  have h1' : (ph, le, cl, se, di) = ((0 : Int32), le0, nI c, nI s, (0 : Int32)) := h1
  simp only [Prod.mk.injEq] at h1'
  obtain ⟨e1, e2, e3, e4, e5⟩ := h1'
  subst e1 e2 e3 e4 e5
  unfold wn_tick
  refine wn_stepI hX hlow h2 (fun u1 p1 p2 p3 => ?_)
  obtain ⟨ph', le', cl', se', di', a1', a2', a3', a4', a5', a6', a7', a8', a9', a10', a11', a12', a13', a14', a15', a16', a17', a18', a19', a20', a21', a22', a23', a24', a25'⟩ := u1
  have p1' : (ph', le', cl', se', di') = ((1 : Int32), le, nI c + 1, nI s, (0 : Int32)) := p1
  simp only [Prod.mk.injEq] at p1'
  obtain ⟨f1, f2, f3, f4, f5⟩ := p1'
  subst f1 f2 f3 f4 f5
  refine br_t rfl ?_
  refine wn_frameBit (F := F) (N := N) (w := w) (W := W) (B := B) (t := 0) hX (by omega) (fun j hj => ⟨p2 j hj, hB j hj⟩) p3 (fun _ u' q1 q2 q3 => ?_) (fun z => absurd z (by omega))
  rw [nI_1] at q1
  exact H u' ⟨⟨le', q1⟩, q2, q3⟩
theorem wn_tickN (hW : ∀ j, j < 4 → W j = none) (h : wn_ID W B c s u) (H : ∀ u', wn_ID W B (c + 1) s u' → P u') : wn_tick P u := by
  obtain ⟨ph, le, cl, se, di, a1, a2, a3, a4, a5, a6, a7, a8, a9, a10, a11, a12, a13, a14, a15, a16, a17, a18, a19, a20, a21, a22, a23, a24, a25⟩ := u
  obtain ⟨⟨le0, h1⟩, h2⟩ := h
  have h1' : (ph, le, cl, se, di) = ((0 : Int32), le0, nI c, nI s, (0 : Int32)) := h1
  simp only [Prod.mk.injEq] at h1'
  obtain ⟨e1, e2, e3, e4, e5⟩ := h1'
  subst e1 e2 e3 e4 e5
  unfold wn_tick
  refine wn_stepN (W := W) (B := B) hW h2 (br_f (by decide) (br_t rfl (H _ ⟨⟨le, ?_⟩, fun j hj => wn_bs_same (h2 j hj)⟩)))
  show ((0 : Int32), le, nI c + 1, nI s, (0 : Int32)) = (0, le, nI (c + 1), nI s, 0)
  rw [nI_1]
theorem wn_tickP {l : Nat} (hl : l < 1000) (h : wn_PA W B 3 (l + 2) c s u) (H : ∀ u', wn_PA W B 3 (l + 1) (c + 1) s u' → P u') : wn_tick P u := by
  obtain ⟨ph, le, cl, se, di, a1, a2, a3, a4, a5, a6, a7, a8, a9, a10, a11, a12, a13, a14, a15, a16, a17, a18, a19, a20, a21, a22, a23, a24, a25⟩ := u
  obtain ⟨h1, h2⟩ := h
  have h1' : (ph, le, cl, se, di) = (nI 3, nI (l + 2), nI c, nI s, (0 : Int32)) := h1
  simp only [Prod.mk.injEq] at h1'
  obtain ⟨e1, e2, e3, e4, e5⟩ := h1'
  subst e1 e2 e3 e4 e5
  unfold wn_tick
  refine wn_stepF (by decide) (br_f (by decide) (br_f (by decide) ?_))
  refine nm_r (nI_pred (l + 1)) (pk_le (l + 1) 0 (fun z => absurd z (by omega)) (fun _ => H _ ⟨?_, fun j hj => wn_bs_same (h2 j hj)⟩))
  show (nI 3, nI (l + 1), nI c + 1, nI s, (0 : Int32)) = (nI 3, nI (l + 1), nI (c + 1), nI s, 0)
  rw [nI_1]
theorem wn_tickQ (h : wn_PA W B 3 1 c s u) (H : ∀ u', wn_ID W B (c + 1) s u' → P u') : wn_tick P u := by
  obtain ⟨ph, le, cl, se, di, a1, a2, a3, a4, a5, a6, a7, a8, a9, a10, a11, a12, a13, a14, a15, a16, a17, a18, a19, a20, a21, a22, a23, a24, a25⟩ := u
  obtain ⟨h1, h2⟩ := h
  have h1' : (ph, le, cl, se, di) = (nI 3, nI 1, nI c, nI s, (0 : Int32)) := h1
  simp only [Prod.mk.injEq] at h1'
  obtain ⟨e1, e2, e3, e4, e5⟩ := h1'
  subst e1 e2 e3 e4 e5
  unfold wn_tick
  refine wn_stepF (by decide) (br_f (by decide) (br_f (by decide) ?_))
  refine nm_r (nI_pred 0) (pk_le 0 0 (fun _ => br_f (by decide) (H _ ⟨⟨nI 0, ?_⟩, fun j hj => wn_bs_same (h2 j hj)⟩)) (fun z => absurd z (by omega)))
  show ((0 : Int32), nI 0, nI c + 1, nI s, (0 : Int32)) = (0, nI 0, nI (c + 1), nI s, 0)
  rw [nI_1]
end
theorem wn_ss (s : Nat) : nI s - nI s = 0 := by rw [pk_sub (Nat.le_refl s), Nat.sub_self]; rfl
section
variable {F : Nat × Nat × Nat} {N w t c s m : Nat} {W : Nat → Option (Nat × Nat × Nat)} {B : Nat → List (Nat × Nat)} {post : Int32 → St2 → Prop} {u : St2}
/-- within a frame -/
theorem wn_runF (hX : wn_FX F N w W) (hB : ∀ j, j < 4 → (B j).length ≤ 1) (h : wn_FR F N w W B t c s u) (ht : t + m ≤ N + 9) (H : ∀ u', wn_FR F N w W B (t + m) (c + m) s u' → post 0 u') : wpX_run post u (nI m) := by
  have hNb := wn_Len_bd hX.2.1 hX.2.2.1
  refine wn_run (by omega) (fun i u => wn_FR F N w W B (t + i) (c + i) s u) h (fun i u hu => ?_) (fun i u hi hu P HP => wn_tickF hX hB hu (by omega) HP) (fun u' hu => ?_)
  · obtain ⟨⟨_, q⟩, _⟩ := hu
    rw [q]
  · have hq := H u' hu
    obtain ⟨⟨_, q⟩, _⟩ := hu
    obtain ⟨⟨_, q'⟩, _⟩ := h
    rw [q, q']
    dsimp only
    rw [wn_ss]
    exact hq
/-- out of idleness into a frame -/
theorem wn_runB (hX : wn_FX F N w W) (hB : ∀ j, j < 4 → (B j).length ≤ 1) (hlow : ∀ j, j < 4 → j ≠ w → ∀ G, W j = some G → F.1 < G.1) (h : wn_ID W B c s u) (hm : 1 ≤ m) (ht : m ≤ N + 9) (H : ∀ u', wn_FR F N w W B m (c + m) s u' → post 0 u') : wpX_run post u (nI m) := by
  have hNb := wn_Len_bd hX.2.1 hX.2.2.1
  refine wn_run (by omega) (fun i u => (i = 0 → wn_ID W B c s u) ∧ (1 ≤ i → wn_FR F N w W B i (c + i) s u)) ⟨fun _ => h, fun z => absurd z (by omega)⟩ (fun i u hu => ?_) (fun i u hi hu P HP => ?_) (fun u' hu => ?_)
  · rcases Nat.eq_zero_or_pos i with z | z
    · obtain ⟨⟨_, q⟩, _⟩ := hu.1 z
      rw [q]
    · obtain ⟨⟨_, q⟩, _⟩ := hu.2 z
      rw [q]
  · rcases Nat.eq_zero_or_pos i with z | z
    · subst z
      exact wn_tickB hX hB hlow (hu.1 rfl) (fun u' hu' => HP u' ⟨fun z => absurd z (by omega), fun _ => hu'⟩)
    · exact wn_tickF hX hB (hu.2 z) (by omega) (fun u' hu' => HP u' ⟨fun z => absurd z (by omega), fun _ => hu'⟩)
  · have hq := H u' (hu.2 hm)
    obtain ⟨⟨_, q⟩, _⟩ := hu.2 hm
    obtain ⟨⟨_, q'⟩, _⟩ := h
    rw [q, q']
    dsimp only
    rw [wn_ss]
    exact hq
/-- the last bit of a frame -/
theorem wn_runE (hX : wn_FX F N w W) (hB : ∀ j, j < 4 → (B j).length ≤ 1) (h : wn_FR F N w W B (N + 9) c s u) (H : ∀ u', wn_PA (wn_W1 W w none) (wn_B1 B w F) 3 3 (c + 1) (s + 1) u' → post 1 u') : wpX_run post u 1 := by
  refine wn_run (m := 1) (by omega) (fun i u => (i = 0 → wn_FR F N w W B (N + 9) c s u) ∧ (1 ≤ i → wn_PA (wn_W1 W w none) (wn_B1 B w F) 3 3 (c + 1) (s + 1) u)) ⟨fun _ => h, fun z => absurd z (by omega)⟩ (fun i u hu => ?_) (fun i u hi hu P HP => ?_) (fun u' hu => ?_)
  · rcases Nat.eq_zero_or_pos i with z | z
    · obtain ⟨⟨_, q⟩, _⟩ := hu.1 z
      rw [q]
    · obtain ⟨q, _⟩ := hu.2 z
      rw [q]
  · have z : i = 0 := by omega
    subst z
    exact wn_tickE hX hB (hu.1 rfl) (fun u' hu' => HP u' ⟨fun z => absurd z (by omega), fun _ => hu'⟩)
  · have hq := H u' (hu.2 (by omega))
    obtain ⟨q, _⟩ := hu.2 (by omega)
    obtain ⟨⟨_, q'⟩, _⟩ := h
    rw [q, q']
    dsimp only
    rw [pk_sub (by omega), show s + 1 - s = 1 by omega]
    exact hq
/-- the pause -/
theorem wn_runP (h : wn_PA W B 3 3 c s u) (H : ∀ u', wn_ID W B (c + 3) s u' → post 0 u') : wpX_run post u 3 := by
  refine wn_run (m := 3) (by omega) (fun i u => (i = 0 → wn_PA W B 3 3 c s u) ∧ (i = 1 → wn_PA W B 3 2 (c + 1) s u) ∧ (i = 2 → wn_PA W B 3 1 (c + 2) s u) ∧ (i = 3 → wn_ID W B (c + 3) s u) ∧ i < 4) ⟨fun _ => h, fun z => absurd z (by omega), fun z => absurd z (by omega), fun z => absurd z (by omega), by omega⟩ (fun i u hu => ?_) (fun i u hi hu P HP => ?_) (fun u' hu => ?_)
  · have hc : i = 0 ∨ i = 1 ∨ i = 2 ∨ i = 3 := by have := hu.2.2.2.2; omega
    rcases hc with z | z | z | z
    · rw [(hu.1 z).1]
    · rw [(hu.2.1 z).1]
    · rw [(hu.2.2.1 z).1]
    · obtain ⟨⟨_, q⟩, _⟩ := hu.2.2.2.1 z
      rw [q]
  · have hc : i = 0 ∨ i = 1 ∨ i = 2 := by omega
    rcases hc with z | z | z
    · subst z
      exact wn_tickP (l := 1) (by omega) (hu.1 rfl) (fun u' hu' => HP u' ⟨fun z => absurd z (by omega), fun _ => hu', fun z => absurd z (by omega), fun z => absurd z (by omega), by omega⟩)
    · subst z
      exact wn_tickP (l := 0) (by omega) (hu.2.1 rfl) (fun u' hu' => HP u' ⟨fun z => absurd z (by omega), fun z => absurd z (by omega), fun _ => hu', fun z => absurd z (by omega), by omega⟩)
    · subst z
      exact wn_tickQ (hu.2.2.1 rfl) (fun u' hu' => HP u' ⟨fun z => absurd z (by omega), fun z => absurd z (by omega), fun z => absurd z (by omega), fun _ => hu', by omega⟩)
  · have hz := hu.2.2.2.1 rfl
    have hq := H u' hz
    obtain ⟨⟨_, q⟩, _⟩ := hz
    rw [q, h.1]
    dsimp only
    rw [wn_ss]
    exact hq
/-- nothing waits -/
theorem wn_runN (hm : m ≤ 2000) (hW : ∀ j, j < 4 → W j = none) (h : wn_ID W B c s u) (H : ∀ u', wn_ID W B (c + m) s u' → post 0 u') : wpX_run post u (nI m) := by
  refine wn_run hm (fun i u => wn_ID W B (c + i) s u) h (fun i u hu => ?_) (fun i u hi hu P HP => wn_tickN hW hu HP) (fun u' hu => ?_)
  · obtain ⟨⟨_, q⟩, _⟩ := hu
    rw [q]
  · have hq := H u' hu
    obtain ⟨⟨_, q⟩, _⟩ := hu
    obtain ⟨⟨_, q'⟩, _⟩ := h
    rw [q, q']
    dsimp only
    rw [wn_ss]
    exact hq
end
end
section
/-! ===== placeOf, underWay, post, cancel ===== -/
theorem wn_4n (n : Nat) : 4 * nI n + 0 = nI (4 * n) := by
  rw [show (4 : Int32) * nI n = nI (4 * n) from pk_mul 4 n]
  exact nI_add _ 0
section
variable {ph le cl se di : Int32} {a1 : Nat → Int32} {a2 : Nat → Int32} {a3 : Nat → Int32} {a4 : Nat → Int32} {a5 : Nat → Int32} {a6 : Nat → Int32} {a7 : Nat → Int32} {a8 : Nat → Int32} {a9 : Nat → Int64} {a10 : Nat → Int32} {a11 : Nat → Int32} {a12 : Nat → Int32} {a13 : Nat → Int64} {a14 : Nat → Int32} {a15 : Nat → Int32} {a16 : Nat → Int32} {a17 : Nat → Int32} {a18 : Nat → Int32} {a19 : Nat → Int32} {a20 : Nat → Int32} {a21 : Nat → Int32} {a22 : Nat → Int32} {a23 : Nat → Int64} {a24 : Nat → Int32} {a25 : Nat → Int32}
variable {F : Nat × Nat × Nat} {N w t : Nat} {W : Nat → Option (Nat × Nat × Nat)} {B : Nat → List (Nat × Nat)} {b : List (Nat × Nat)} {n : Nat}
theorem wn_placeOf {post : Int32 → Prop} {x : Nat} (hx : x < 2048) (hb : ∀ j, j < 4 → wn_bs (W j) (B j) (wn_bv (ph, le, cl, se, di, a1, a2, a3, a4, a5, a6, a7, a8, a9, a10, a11, a12, a13, a14, a15, a16, a17, a18, a19, a20, a21, a22, a23, a24, a25) j)) (Hy : ∀ m, m < 4 → ∀ G, W m = some G → G.1 = x → post (nI (4 * m))) (Hn : (∀ j, j < 4 → ∀ G, W j = some G → G.1 ≠ x) → post (-1)) :
    wpX_placeOf post (ph, le, cl, se, di, a1, a2, a3, a4, a5, a6, a7, a8, a9, a10, a11, a12, a13, a14, a15, a16, a17, a18, a19, a20, a21, a22, a23, a24, a25) (nI x) := by
  unfold wpX_placeOf
  dsimp only
  refine pk_loop (σ := Unit) (fun fu i _ => wX_placeOf_2 post (nI x) ph le cl se di a1 a2 a3 a4 a5 a6 a7 a8 a9 a10 a11 a12 a13 a14 a15 a16 a17 a18 a19 a20 a21 a22 a23 a24 a25 fu (nI i)) (fun i _ => ∀ j, j < i → j < 4 → ∀ G, W j = some G → G.1 ≠ x) 4 0 () (by omega) (fun j hj => absurd hj (by omega)) ?_ ?_
  · intro fu _ h
    exact pk_le 4 4 (fun _ => Hn (fun j hj => h j hj hj)) (fun z => absurd z (by omega))
  · intro fu i _ hi h ih
    show wX_placeOf_2 post (nI x) ph le cl se di a1 a2 a3 a4 a5 a6 a7 a8 a9 a10 a11 a12 a13 a14 a15 a16 a17 a18 a19 a20 a21 a22 a23 a24 a25 (fu + 1) (nI i)
    have ci : (nI i).toNatClampNeg = i := nI_clamp (by omega)
    have i5 : vp_in (nI i) 5 := pk_in i 5 (by omega)
    refine pk_le 4 i (fun z => absurd z (by omega)) (fun _ => ?_)
    rcases wn_bs_6 (hb i hi) with ⟨e, e6⟩ | ⟨G, e, e6, hwt⟩
    · refine ⟨1, ?_⟩
      unfold wX_placeOf_9
      rw [ci, e6]
      refine ⟨i5, br_t (by decide) (nm_r (nI_1 i) (ih () (fun j hj hj4 G hG => ?_)))⟩
      by_cases ej : j = i
      · rw [ej, e] at hG
        exact absurd hG (by simp)
      · exact h j (by omega) hj4 G hG
    · refine ⟨2, ?_⟩
      have c4 : (nI (4 * i)).toNatClampNeg = 4 * i := nI_clamp (by omega)
      obtain ⟨g0, g1, g7, g8, g9⟩ := hwt
      unfold wX_placeOf_9
      rw [ci, e6, wn_4n, c4, g7]
      refine ⟨i5, br_f (by decide) ⟨pk_in (4 * i) 20 (by omega), pk_eq G.1 x (fun y => Hy i hi G e y) (fun y => nm_e ?_)⟩⟩
      unfold wX_placeOf_9
      rw [ci, e6]
      refine ⟨i5, br_t (by decide) (nm_r (nI_1 i) (ih () (fun j hj hj4 G' hG => ?_)))⟩
      by_cases ej : j = i
      · rw [ej, e] at hG
        injection hG with hG
        rw [← hG]
        exact y
      · exact h j (by omega) hj4 G' hG
theorem wn_under1 {post : Int32 → Prop} (hX : wn_FX F N w W) (hb : ∀ j, j < 4 → wn_bs (W j) (B j) (wn_bv (ph, le, cl, se, di, a1, a2, a3, a4, a5, a6, a7, a8, a9, a10, a11, a12, a13, a14, a15, a16, a17, a18, a19, a20, a21, a22, a23, a24, a25) j)) (ho : ∀ j, j < 4 → wn_ok F N w t W j (wn_fv (ph, le, cl, se, di, a1, a2, a3, a4, a5, a6, a7, a8, a9, a10, a11, a12, a13, a14, a15, a16, a17, a18, a19, a20, a21, a22, a23, a24, a25) j)) (H : post (nI F.1)) : wpX_underWay post (1, le, cl, se, di, a1, a2, a3, a4, a5, a6, a7, a8, a9, a10, a11, a12, a13, a14, a15, a16, a17, a18, a19, a20, a21, a22, a23, a24, a25) := by
  obtain ⟨h0, h1, hN, hw, hW⟩ := hX
  unfold wpX_underWay
  dsimp only
  refine pk_loop (σ := Nat) (fun fu i m => wX_underWay_6 post 1 le cl se di a1 a2 a3 a4 a5 a6 a7 a8 a9 a10 a11 a12 a13 a14 a15 a16 a17 a18 a19 a20 a21 a22 a23 a24 a25 fu (nI m) (nI i)) (fun i m => F.1 ≤ m ∧ m ≤ 2048 ∧ (w < i → m = F.1)) 4 0 2048 (by omega) ⟨by omega, by omega, fun z => absurd z (by omega)⟩ ?_ ?_
  · intro fu m ⟨m1, m2, m3⟩
    show wX_underWay_6 post 1 le cl se di a1 a2 a3 a4 a5 a6 a7 a8 a9 a10 a11 a12 a13 a14 a15 a16 a17 a18 a19 a20 a21 a22 a23 a24 a25 (fu + 1) (nI m) (nI 4)
    rw [m3 hw]
    exact pk_le 4 4 (fun _ => pk_eq F.1 2048 (fun z => absurd z (by omega)) (fun _ => H)) (fun z => absurd z (by omega))
  · intro fu i m hi ⟨m1, m2, m3⟩ ih
    show wX_underWay_6 post 1 le cl se di a1 a2 a3 a4 a5 a6 a7 a8 a9 a10 a11 a12 a13 a14 a15 a16 a17 a18 a19 a20 a21 a22 a23 a24 a25 (fu + 1) (nI m) (nI i)
    have ci : (nI i).toNatClampNeg = i := nI_clamp (by omega)
    have c4 : (nI (4 * i)).toNatClampNeg = 4 * i := nI_clamp (by omega)
    have i5 : vp_in (nI i) 5 := pk_in i 5 (by omega)
    have h16 := wn_bs_16 (hb i hi)
    obtain ⟨ol, o1, o2⟩ := ho i hi
    unfold wX_underWay_6
    rw [ci, h16, wn_4n, c4]
    refine pk_le 4 i (fun z => absurd z (by omega)) (fun _ => br_t rfl ⟨i5, ?_⟩)
    by_cases e : i = w
    · have e15 : a15 i = 1 := o1 e
      have hWi : W i = some F := by rw [e]; exact hW
      obtain ⟨_, _, _, g7, _⟩ := wn_bs_wt (hb i hi) hWi
      rw [g7]
      refine br_t e15 ⟨i5, pk_in (4 * i) 20 (by omega), nm_e (pk_le m F.1 (fun z => nm_r (nI_1 i) (ih m ⟨m1, m2, fun _ => by omega⟩)) (fun z => nm_r (nI_1 i) (ih F.1 ⟨Nat.le_refl _, by omega, fun _ => rfl⟩)))⟩
    · rcases o2 e with g | ⟨g, G, hG, g1, g2, g3⟩
      · have e15 : a15 i = 2 := g
        exact br_f (by rw [e15]; decide) (nm_r (nI_1 i) (ih m ⟨m1, m2, fun z => m3 (by omega)⟩))
      · have e15 : a15 i = 1 := g
        obtain ⟨_, y0, _, g7, _⟩ := wn_bs_wt (hb i hi) hG
        rw [g7]
        refine br_t e15 ⟨i5, pk_in (4 * i) 20 (by omega), nm_e (pk_le m G.1 (fun z => nm_r (nI_1 i) (ih m ⟨m1, m2, fun z => m3 (by omega)⟩)) (fun z => nm_r (nI_1 i) (ih G.1 ⟨by omega, by omega, fun z2 => ?_⟩)))⟩
        have := m3 (by omega)
        omega
theorem wn_under0 {post : Int32 → Prop} (hp : ¬ ph = 1) (H : post (-2)) : wpX_underWay post (ph, le, cl, se, di, a1, a2, a3, a4, a5, a6, a7, a8, a9, a10, a11, a12, a13, a14, a15, a16, a17, a18, a19, a20, a21, a22, a23, a24, a25) := by
  unfold wpX_underWay
  dsimp only
  refine pk_loop (σ := Unit) (fun fu i _ => wX_underWay_6 post ph le cl se di a1 a2 a3 a4 a5 a6 a7 a8 a9 a10 a11 a12 a13 a14 a15 a16 a17 a18 a19 a20 a21 a22 a23 a24 a25 fu 2048 (nI i)) (fun _ _ => True) 4 0 () (by omega) trivial ?_ ?_
  · intro fu _ _
    exact pk_le 4 4 (fun _ => br_t rfl H) (fun z => absurd z (by omega))
  · intro fu i _ hi _ ih
    show wX_underWay_6 post ph le cl se di a1 a2 a3 a4 a5 a6 a7 a8 a9 a10 a11 a12 a13 a14 a15 a16 a17 a18 a19 a20 a21 a22 a23 a24 a25 (fu + 1) 2048 (nI i)
    exact pk_le 4 i (fun z => absurd z (by omega)) (fun _ => br_f hp (nm_r (nI_1 i) (ih () trivial)))
theorem wn_post1 {post : Int32 → St2 → Prop} (hn : n < 4) (h0 : F.1 < 2048) (h1 : F.2.1 ≤ 8) (h2 : F.2.2 < 2 ^ 64) (hb : ∀ j, j < 4 → wn_bs (W j) (B j) (wn_bv (ph, le, cl, se, di, a1, a2, a3, a4, a5, a6, a7, a8, a9, a10, a11, a12, a13, a14, a15, a16, a17, a18, a19, a20, a21, a22, a23, a24, a25) j)) (hW : W n = none) (hnew : ∀ j, j < 4 → ∀ G, W j = some G → G.1 ≠ F.1)
    (H : ∀ u' : St2, wn_h u' = wn_h (ph, le, cl, se, di, a1, a2, a3, a4, a5, a6, a7, a8, a9, a10, a11, a12, a13, a14, a15, a16, a17, a18, a19, a20, a21, a22, a23, a24, a25) → (∀ j, j < 4 → wn_bs (wn_W1 W n (some F) j) (B j) (wn_bv u' j)) → (∀ j, wn_fv u' j = wn_fv (ph, le, cl, se, di, a1, a2, a3, a4, a5, a6, a7, a8, a9, a10, a11, a12, a13, a14, a15, a16, a17, a18, a19, a20, a21, a22, a23, a24, a25) j) → post 1 u') :
    wpX_post post (ph, le, cl, se, di, a1, a2, a3, a4, a5, a6, a7, a8, a9, a10, a11, a12, a13, a14, a15, a16, a17, a18, a19, a20, a21, a22, a23, a24, a25) (nI (2048 * n + F.1)) (nI F.2.1) (lN F.2.2) := by
  have i5 : vp_in (nI n) 5 := pk_in n 5 (by omega)
  have cn : (nI n).toNatClampNeg = n := nI_clamp (by omega)
  have e1 : nI (2048 * n + F.1) / 2048 = nI n := by
    rw [show (2048 : Int32) = nI 2048 from rfl, pk_div (by omega) (by omega) (by omega)]
    congr 1
    omega
  have e2 : nI (2048 * n + F.1) - nI (2048 * n + F.1) / 2048 * 2048 = nI F.1 := by
    rw [show (2048 : Int32) = nI 2048 from rfl, pk_rem (by omega) (by omega) (by omega)]
    congr 1
    omega
  have h6 : a6 n = 0 := by
    rcases wn_bs_6 (hb n hn) with ⟨_, e6⟩ | ⟨G, e, _, _⟩
    · exact e6
    · rw [hW] at e
      exact absurd e (by simp)
  unfold wpX_post
  dsimp only
  rw [e2, e1]
  refine pk_lt (2048 * n + F.1) 0 (fun z => absurd z (by omega)) (fun _ => pk_le 8192 (2048 * n + F.1) (fun z => absurd z (by omega)) (fun _ => ?_))
  refine pk_lt F.2.1 0 (fun z => absurd z (by omega)) (fun _ => pk_le F.2.1 8 (fun _ => ⟨by decide, nm_e ⟨by decide, nm_e ?_⟩⟩) (fun z => absurd z (by omega)))
  refine wn_placeOf (W := W) (B := B) h0 hb (fun m hm G hG y => absurd y (hnew m hm G hG)) (fun _ => br_t (by decide) ?_)
  rw [cn, h6, wn_4n]
  refine ⟨i5, br_t (by decide) ⟨i5, wn_setFrame (by omega) h0 h1 h2 (fun b7 b8 b9 hf hwt => ?_)⟩⟩
  dsimp only
  rw [h6]
  refine ⟨i5, i5, nm_e ⟨i5, ?_⟩⟩
  rw [pk_us]
  refine H _ wn_h_same (fun j hj => ?_) (fun j => wn_fv_same)
  have hbj := hb j hj
  obtain ⟨d1, d2, d3, d4, d14, d16, dW, dB⟩ := hbj
  by_cases ej : j = n
  · subst ej
    refine ⟨d1, d2, d3, d4, d14, d16, ?_, dB⟩
    rw [show wn_W1 W j (some F) j = some F from if_pos rfl]
    show upd a6 j (0 + 1) j = 1 ∧ wn_wt F (b7 (4 * j)) (b8 (4 * j)) (b9 (4 * j))
    rw [pk_us]
    exact ⟨by decide, hwt⟩
  · refine ⟨d1, d2, d3, d4, d14, d16, ?_, dB⟩
    rw [show wn_W1 W n (some F) j = W j from if_neg ej]
    obtain ⟨f7, f8, f9⟩ := hf (4 * j) (by omega)
    show wn_ws (W j) (upd a6 n (0 + 1) j) (b7 (4 * j)) (b8 (4 * j)) (b9 (4 * j))
    rw [pk_un ej, f7, f8, f9]
    exact dW
theorem wn_post4 {post : Int32 → St2 → Prop} {x l d m : Nat} {G : Nat × Nat × Nat} (hn : n < 4) (h0 : x < 2048) (h1 : l ≤ 8) (hb : ∀ j, j < 4 → wn_bs (W j) (B j) (wn_bv (ph, le, cl, se, di, a1, a2, a3, a4, a5, a6, a7, a8, a9, a10, a11, a12, a13, a14, a15, a16, a17, a18, a19, a20, a21, a22, a23, a24, a25) j)) (hm : m < 4) (hG : W m = some G) (hx : G.1 = x)
    (H : post (-4) (ph, le, cl, se, di, a1, a2, a3, a4, a5, a6, a7, a8, a9, a10, a11, a12, a13, a14, a15, a16, a17, a18, a19, a20, a21, a22, a23, a24, a25)) : wpX_post post (ph, le, cl, se, di, a1, a2, a3, a4, a5, a6, a7, a8, a9, a10, a11, a12, a13, a14, a15, a16, a17, a18, a19, a20, a21, a22, a23, a24, a25) (nI (2048 * n + x)) (nI l) (lN d) := by
  have e1 : nI (2048 * n + x) / 2048 = nI n := by
    rw [show (2048 : Int32) = nI 2048 from rfl, pk_div (by omega) (by omega) (by omega)]
    congr 1
    omega
  have e2 : nI (2048 * n + x) - nI (2048 * n + x) / 2048 * 2048 = nI x := by
    rw [show (2048 : Int32) = nI 2048 from rfl, pk_rem (by omega) (by omega) (by omega)]
    congr 1
    omega
  unfold wpX_post
  dsimp only
  rw [e2, e1]
  refine pk_lt (2048 * n + x) 0 (fun z => absurd z (by omega)) (fun _ => pk_le 8192 (2048 * n + x) (fun z => absurd z (by omega)) (fun _ => ?_))
  refine pk_lt l 0 (fun z => absurd z (by omega)) (fun _ => pk_le l 8 (fun _ => ⟨by decide, nm_e ⟨by decide, nm_e ?_⟩⟩) (fun z => absurd z (by omega)))
  exact wn_placeOf (W := W) (B := B) h0 hb (fun m hm G hG y => br_f (nI_pos (by omega)) H) (fun h => absurd hx (h m hm G hG))
end
section
variable {F : Nat × Nat × Nat} {N w t c s n : Nat} {W : Nat → Option (Nat × Nat × Nat)} {B : Nat → List (Nat × Nat)} {post : Int32 → St2 → Prop} {u : St2}
theorem wn_underF {post : Int32 → Prop} (hX : wn_FX F N w W) (h : wn_FR F N w W B t c s u) (H : post (nI F.1)) : wpX_underWay post u := by
  obtain ⟨ph, le, cl, se, di, a1, a2, a3, a4, a5, a6, a7, a8, a9, a10, a11, a12, a13, a14, a15, a16, a17, a18, a19, a20, a21, a22, a23, a24, a25⟩ := u
  obtain ⟨⟨le0, h1⟩, h2, h3⟩ := h
  have e1 : ph = 1 := congrArg (fun v => v.1) h1
  subst e1
  exact wn_under1 hX h2 h3 H
/-- a frame that waits is taken out while another's is on the wire -/
theorem wn_cancel1 {m : Nat} {G : Nat × Nat × Nat} (hX : wn_FX F N w W) (h : wn_FR F N w W B t c s u) (hm : m < 4) (hmw : m ≠ w) (hG : W m = some G) (hGF : G.1 ≠ F.1) (hun : ∀ j, j < 4 → ∀ G', W j = some G' → G'.1 = G.1 → j = m)
    (H : ∀ u', wn_FR F N w (wn_W1 W m none) B t c s u' → post (nI m) u') : wpX_cancel post u (nI G.1) := by
  obtain ⟨ph, le, cl, se, di, a1, a2, a3, a4, a5, a6, a7, a8, a9, a10, a11, a12, a13, a14, a15, a16, a17, a18, a19, a20, a21, a22, a23, a24, a25⟩ := u
  have h' := h
  obtain ⟨⟨le0, h1⟩, h2, h3⟩ := h'
  have i5 : vp_in (nI m) 5 := pk_in m 5 (by omega)
  have cm : (nI m).toNatClampNeg = m := nI_clamp (by omega)
  obtain ⟨h6, hwt⟩ := wn_bs_wt (h2 m hm) hG
  have g0 := hwt.1
  have h16 := wn_bs_16 (h2 m hm)
  have e1 : nI (4 * m) / 4 = nI m := by
    rw [show (4 : Int32) = nI 4 from rfl, pk_div (by omega) (by omega) (by omega)]
    congr 1
    omega
  have e2 : nI (4 * m) - nI (4 * m) / 4 * 4 = 0 := by
    rw [show (4 : Int32) = nI 4 from rfl, pk_rem (by omega) (by omega) (by omega), show 4 * m % 4 = 0 by omega]
    rfl
  have hfin : ∀ b15 : Nat → Int32, (∀ j, j ≠ m → b15 j = a15 j) → b15 m = 2 → wX_cancel_70 post (nI m) 0 ph le cl se di a1 a2 a3 a4 a5 a6 a7 a8 a9 a10 a11 a12 a13 a14 b15 a16 a17 a18 a19 a20 a21 a22 a23 a24 a25 := by
    intro b15 hj15 h15
    unfold wX_cancel_70
    refine wn_remove (by omega) h6 h16 (fun b6 b16 hf f6 f16 => H _ ⟨⟨le0, wn_h_same.trans h1⟩, fun j hj => ?_, fun j hj => ?_⟩)
    · obtain ⟨d1, d2, d3, d4, d14, d16, dW, dB⟩ := h2 j hj
      by_cases ej : j = m
      · subst ej
        rw [show wn_W1 W j none j = none from if_pos rfl]
        exact ⟨d1, d2, d3, d4, d14, f16, f6, dB⟩
      · obtain ⟨y6, y16⟩ := hf j ej
        refine ⟨d1, d2, d3, d4, d14, (by show b16 j = 0; rw [y16]; exact d16), ?_, dB⟩
        rw [show wn_W1 W m none j = W j from if_neg ej]
        show wn_ws (W j) (b6 j) (a7 (4 * j)) (a8 (4 * j)) (a9 (4 * j))
        rw [y6]
        exact dW
    · obtain ⟨ol, o1, o2⟩ := h3 j hj
      by_cases ej : j = m
      · subst ej
        exact ⟨wn_li_same ol, fun y => absurd y hmw, fun _ => Or.inl h15⟩
      · have e15 := hj15 j ej
        refine ⟨wn_li_same ol, fun y => ?_, fun y => ?_⟩
        · show b15 j = 1
          rw [e15]
          exact o1 y
        · show b15 j = 2 ∨ (b15 j = 1 ∧ _)
          rw [e15, show wn_W1 W m none j = W j from if_neg ej]
          exact o2 y
  unfold wpX_cancel
  dsimp only
  refine pk_lt G.1 0 (fun z => absurd z (by omega)) (fun _ => pk_le 2048 G.1 (fun z => absurd z (by omega)) (fun _ => br_f (by decide) ?_))
  refine wn_placeOf (W := W) (B := B) g0 h2 (fun m' hm' G' hG' y => ?_) (fun hh => absurd rfl (hh m hm G hG))
  rw [hun m' hm' G' hG' y, e2, e1]
  refine br_t (nI_pos' (by omega)) (wn_underF hX h ?_)
  have hF := hX.1
  refine pk_eq F.1 G.1 (fun z => absurd z.symm hGF) (fun _ => ⟨by decide, nm_e ⟨by decide, nm_e ⟨i5, ?_⟩⟩⟩)
  rw [cm, h16]
  obtain ⟨ol, o1, o2⟩ := h3 m hm
  rcases o2 hmw with g | ⟨g, _⟩
  · have e15 : a15 m = 2 := g
    exact br_f (by rw [e15]; decide) (hfin a15 (fun j _ => rfl) e15)
  · have e15 : a15 m = 1 := g
    exact br_t e15 ⟨i5, br_t rfl ⟨i5, nm_e (hfin _ (fun j hj => pk_un hj) pk_us)⟩⟩
theorem wn_cancelN {x : Nat} (hx : x < 2048) (h : wn_FR F N w W B t c s u) (hno : ∀ j, j < 4 → ∀ G, W j = some G → G.1 ≠ x) (H : post (-2) u) : wpX_cancel post u (nI x) := by
  obtain ⟨ph, le, cl, se, di, a1, a2, a3, a4, a5, a6, a7, a8, a9, a10, a11, a12, a13, a14, a15, a16, a17, a18, a19, a20, a21, a22, a23, a24, a25⟩ := u
  unfold wpX_cancel
  dsimp only
  refine pk_lt x 0 (fun z => absurd z (by omega)) (fun _ => pk_le 2048 x (fun z => absurd z (by omega)) (fun _ => br_f (by decide) ?_))
  exact wn_placeOf (W := W) (B := B) hx h.2.1 (fun m hm G hG y => absurd y (hno m hm G hG)) (fun _ => br_f (by decide) H)
theorem wn_cancelB (hX : wn_FX F N w W) (h : wn_FR F N w W B t c s u) (H : post (-5) u) : wpX_cancel post u (nI F.1) := by
  obtain ⟨ph, le, cl, se, di, a1, a2, a3, a4, a5, a6, a7, a8, a9, a10, a11, a12, a13, a14, a15, a16, a17, a18, a19, a20, a21, a22, a23, a24, a25⟩ := u
  have hF := hX.1
  unfold wpX_cancel
  dsimp only
  refine pk_lt F.1 0 (fun z => absurd z (by omega)) (fun _ => pk_le 2048 F.1 (fun z => absurd z (by omega)) (fun _ => br_f (by decide) ?_))
  refine wn_placeOf (W := W) (B := B) hF h.2.1 (fun m hm G hG y => br_t (nI_pos' (by omega)) (wn_underF hX h (br_t rfl H))) (fun hh => absurd rfl (hh w hX.2.2.2.1 F hX.2.2.2.2))
/-- a frame comes to wait while another's is on the wire -/
theorem wn_postF {G : Nat × Nat × Nat} (hn : n < 4) (hnw : n ≠ w) (h0 : G.1 < 2048) (h1 : G.2.1 ≤ 8) (h2 : G.2.2 < 2 ^ 64) (h : wn_FR F N w W B t c s u) (hW : W n = none) (hnew : ∀ j, j < 4 → ∀ G', W j = some G' → G'.1 ≠ G.1)
    (H : ∀ u', wn_FR F N w (wn_W1 W n (some G)) B t c s u' → post 1 u') : wpX_post post u (nI (2048 * n + G.1)) (nI G.2.1) (lN G.2.2) := by
  obtain ⟨ph, le, cl, se, di, a1, a2, a3, a4, a5, a6, a7, a8, a9, a10, a11, a12, a13, a14, a15, a16, a17, a18, a19, a20, a21, a22, a23, a24, a25⟩ := u
  obtain ⟨⟨le0, q1⟩, q2, q3⟩ := h
  refine wn_post1 hn h0 h1 h2 q2 hW hnew (fun u' r1 r2 r3 => H u' ⟨⟨le0, r1.trans q1⟩, r2, fun j hj => ?_⟩)
  rw [r3 j]
  obtain ⟨ol, o1, o2⟩ := q3 j hj
  refine ⟨ol, o1, fun y => ?_⟩
  by_cases ej : j = n
  · rcases o2 y with g | ⟨g, G', hG', _⟩
    · exact Or.inl g
    · rw [ej, hW] at hG'
      exact absurd hG' (by simp)
  · rw [show wn_W1 W n (some G) j = W j from if_neg ej]
    exact o2 y
end
/-! ===== what the nodes answer ===== -/
section
variable {ph le cl se di : Int32} {a1 : Nat → Int32} {a2 : Nat → Int32} {a3 : Nat → Int32} {a4 : Nat → Int32} {a5 : Nat → Int32} {a6 : Nat → Int32} {a7 : Nat → Int32} {a8 : Nat → Int32} {a9 : Nat → Int64} {a10 : Nat → Int32} {a11 : Nat → Int32} {a12 : Nat → Int32} {a13 : Nat → Int64} {a14 : Nat → Int32} {a15 : Nat → Int32} {a16 : Nat → Int32} {a17 : Nat → Int32} {a18 : Nat → Int32} {a19 : Nat → Int32} {a20 : Nat → Int32} {a21 : Nat → Int32} {a22 : Nat → Int32} {a23 : Nat → Int64} {a24 : Nat → Int32} {a25 : Nat → Int32}
variable {Wn : Option (Nat × Nat × Nat)} {b : List (Nat × Nat)} {n : Nat}
theorem wn_bxl {x10 x11 y11 x12 y12 : Int32} (h : wn_bx b x10 x11 y11 x12 y12) : x10 = nI b.length ∧ b.length ≤ 2 := by
  match b, h with
  | [], h => exact ⟨h, by decide⟩
  | [f], h => exact ⟨h.1, by simp⟩
  | [f, g], h => exact ⟨h.1, by simp⟩
theorem wn_isNode {post : Int32 → Prop} (hn : n < 4) (H : post 1) : wpX_isNode post () (nI n) :=
  pk_lt n 0 (fun z => absurd z (by omega)) (fun _ => pk_le 4 n (fun z => absurd z (by omega)) (fun _ => H))
theorem wn_received {post : Int32 → Prop} (hn : n < 4) (hb : wn_bs Wn b (wn_bv (ph, le, cl, se, di, a1, a2, a3, a4, a5, a6, a7, a8, a9, a10, a11, a12, a13, a14, a15, a16, a17, a18, a19, a20, a21, a22, a23, a24, a25) n)) (H : post (nI b.length)) : wpX_received post (ph, le, cl, se, di, a1, a2, a3, a4, a5, a6, a7, a8, a9, a10, a11, a12, a13, a14, a15, a16, a17, a18, a19, a20, a21, a22, a23, a24, a25) (nI n) := by
  have e : a10 n = nI b.length := (wn_bxl hb.2.2.2.2.2.2.2).1
  unfold wpX_received
  dsimp only
  rw [show (nI n).toNatClampNeg = n from nI_clamp (by omega), e]
  exact wn_isNode hn (br_f (by decide) ⟨pk_in n 4 hn, H⟩)
theorem wn_sendErr {post : Int32 → Prop} (hn : n < 4) (hb : wn_bs Wn b (wn_bv (ph, le, cl, se, di, a1, a2, a3, a4, a5, a6, a7, a8, a9, a10, a11, a12, a13, a14, a15, a16, a17, a18, a19, a20, a21, a22, a23, a24, a25) n)) (H : post 0) : wpX_sendErrors post (ph, le, cl, se, di, a1, a2, a3, a4, a5, a6, a7, a8, a9, a10, a11, a12, a13, a14, a15, a16, a17, a18, a19, a20, a21, a22, a23, a24, a25) (nI n) := by
  have e : a2 n = 0 := hb.2.1
  unfold wpX_sendErrors
  dsimp only
  rw [show (nI n).toNatClampNeg = n from nI_clamp (by omega), e]
  exact wn_isNode hn (br_f (by decide) ⟨pk_in n 4 hn, H⟩)
theorem wn_recvErr {post : Int32 → Prop} (hn : n < 4) (hb : wn_bs Wn b (wn_bv (ph, le, cl, se, di, a1, a2, a3, a4, a5, a6, a7, a8, a9, a10, a11, a12, a13, a14, a15, a16, a17, a18, a19, a20, a21, a22, a23, a24, a25) n)) (H : post 0) : wpX_receiveErrors post (ph, le, cl, se, di, a1, a2, a3, a4, a5, a6, a7, a8, a9, a10, a11, a12, a13, a14, a15, a16, a17, a18, a19, a20, a21, a22, a23, a24, a25) (nI n) := by
  have e : a3 n = 0 := hb.2.2.1
  unfold wpX_receiveErrors
  dsimp only
  rw [show (nI n).toNatClampNeg = n from nI_clamp (by omega), e]
  exact wn_isNode hn (br_f (by decide) ⟨pk_in n 4 hn, H⟩)
theorem wn_missed {post : Int32 → Prop} (hn : n < 4) (hb : wn_bs Wn b (wn_bv (ph, le, cl, se, di, a1, a2, a3, a4, a5, a6, a7, a8, a9, a10, a11, a12, a13, a14, a15, a16, a17, a18, a19, a20, a21, a22, a23, a24, a25) n)) (H : post 0) : wpX_missed post (ph, le, cl, se, di, a1, a2, a3, a4, a5, a6, a7, a8, a9, a10, a11, a12, a13, a14, a15, a16, a17, a18, a19, a20, a21, a22, a23, a24, a25) (nI n) := by
  have e : a14 n = 0 := hb.2.2.2.2.1
  unfold wpX_missed
  dsimp only
  rw [show (nI n).toNatClampNeg = n from nI_clamp (by omega), e]
  exact wn_isNode hn (br_f (by decide) ⟨pk_in n 4 hn, H⟩)
theorem wn_frameAt {post : Int32 → Prop} {i : Nat} (hn : n < 4) (hi : i < 2) (hb : wn_bs Wn b (wn_bv (ph, le, cl, se, di, a1, a2, a3, a4, a5, a6, a7, a8, a9, a10, a11, a12, a13, a14, a15, a16, a17, a18, a19, a20, a21, a22, a23, a24, a25) n)) (H0 : b.length ≤ i → post (-2)) (H1 : ∀ f, b[i]? = some f → post (nI (16 * f.1 + f.2))) : wpX_frameAt post (ph, le, cl, se, di, a1, a2, a3, a4, a5, a6, a7, a8, a9, a10, a11, a12, a13, a14, a15, a16, a17, a18, a19, a20, a21, a22, a23, a24, a25) (nI n) (nI i) := by
  have hbx : wn_bx b (a10 n) (a11 (6 * n)) (a11 (6 * n + 1)) (a12 (6 * n)) (a12 (6 * n + 1)) := hb.2.2.2.2.2.2.2
  obtain ⟨e, hl⟩ := wn_bxl hbx
  have cn : (nI n).toNatClampNeg = n := nI_clamp (by omega)
  have e6 : 6 * nI n + nI i = nI (6 * n + i) := by
    rw [show (6 : Int32) * nI n = nI (6 * n) from pk_mul 6 n]
    exact nI_add _ _
  have ii : vp_in (nI (6 * n + i)) 24 := pk_in (6 * n + i) 24 (by omega)
  have H1' : i < b.length → post (16 * a11 (6 * n + i) + a12 (6 * n + i)) := by
    intro hib
    have q := H1 (b[i]) (List.getElem?_eq_getElem hib)
    have e2 : a11 (6 * n + i) = nI (b[i]).1 ∧ a12 (6 * n + i) = nI (b[i]).2 := by
      have hc : i = 0 ∨ i = 1 := by omega
      match b, hbx, hib with
      | [], _, hib => exact absurd hib (by simp)
      | [f], hbx, hib =>
        have z : i = 0 := by simp at hib; omega
        subst z
        exact ⟨hbx.2.1, hbx.2.2⟩
      | [f, g], hbx, hib =>
        rcases hc with z | z
        · subst z
          exact ⟨hbx.2.1, hbx.2.2.1⟩
        · subst z
          exact ⟨hbx.2.2.2.1, hbx.2.2.2.2⟩
    rw [e2.1, e2.2, show (16 : Int32) * nI (b[i]).1 = nI (16 * (b[i]).1) from pk_mul 16 _, nI_add]
    exact q
  unfold wpX_frameAt
  dsimp only
  rw [e6, show (nI (6 * n + i)).toNatClampNeg = 6 * n + i from nI_clamp (by omega)]
  refine wn_isNode hn (br_f (by decide) ?_)
  unfold wpX_isThere
  dsimp only
  rw [cn, e]
  refine wn_isNode hn (br_f (by decide) (pk_lt i 0 (fun z => absurd z (by omega)) (fun _ => ⟨pk_in n 4 hn, ?_⟩)))
  exact pk_le b.length i (fun z => br_t rfl (H0 z)) (fun z => br_f (by decide) ⟨ii, ii, H1' z⟩)
/-- the only frame of an inbox is taken -/
theorem wn_take1 {post : Int32 → St2 → Prop} {f : Nat × Nat} (hn : n < 4) (hf : 16 * f.1 + f.2 < 2 ^ 31) (hb : wn_bs Wn [f] (wn_bv (ph, le, cl, se, di, a1, a2, a3, a4, a5, a6, a7, a8, a9, a10, a11, a12, a13, a14, a15, a16, a17, a18, a19, a20, a21, a22, a23, a24, a25) n))
    (H : ∀ u' : St2, wn_h u' = wn_h (ph, le, cl, se, di, a1, a2, a3, a4, a5, a6, a7, a8, a9, a10, a11, a12, a13, a14, a15, a16, a17, a18, a19, a20, a21, a22, a23, a24, a25) → (∀ j, j ≠ n → wn_bv u' j = wn_bv (ph, le, cl, se, di, a1, a2, a3, a4, a5, a6, a7, a8, a9, a10, a11, a12, a13, a14, a15, a16, a17, a18, a19, a20, a21, a22, a23, a24, a25) j) → wn_bs Wn [] (wn_bv u' n) → post (nI (16 * f.1 + f.2)) u') : wpX_take post (ph, le, cl, se, di, a1, a2, a3, a4, a5, a6, a7, a8, a9, a10, a11, a12, a13, a14, a15, a16, a17, a18, a19, a20, a21, a22, a23, a24, a25) (nI n) := by
  have cn : (nI n).toNatClampNeg = n := nI_clamp (by omega)
  have i4 : vp_in (nI n) 4 := pk_in n 4 hn
  have e10 : a10 n = 1 := hb.2.2.2.2.2.2.2.1
  unfold wpX_take
  dsimp only
  refine wn_frameAt (i := 0) hn (by decide) hb (fun z => absurd z (by simp)) (fun g hg => ?_)
  have hg' : f = g := by simpa using hg
  subst hg'
  rw [cn, e10]
  refine br_t (nI_pos' hf) ⟨i4, i4, nm_e (nm_e ⟨1, ?_⟩)⟩
  unfold wX_take_28
  rw [cn, pk_us]
  have e6 : (6 * nI n) + ((1 : Int32) - 1) = 6 * nI n := by
    rw [show (6 : Int32) * nI n = nI (6 * n) from pk_mul 6 n]
    exact nI_add _ 0
  rw [e6]
  refine ⟨i4, br_t (Int32.le_refl _) ?_⟩
  refine H _ wn_h_same (fun j hj => ?_) ?_
  · show (a1 j, a2 j, a3 j, a4 j, a6 j, a7 (4 * j), a8 (4 * j), a9 (4 * j), upd a10 n (1 - 1) j, a11 (6 * j), a11 (6 * j + 1), a12 (6 * j), a12 (6 * j + 1), a14 j, a16 j) = (a1 j, a2 j, a3 j, a4 j, a6 j, a7 (4 * j), a8 (4 * j), a9 (4 * j), a10 j, a11 (6 * j), a11 (6 * j + 1), a12 (6 * j), a12 (6 * j + 1), a14 j, a16 j)
    rw [pk_un hj]
  · obtain ⟨d1, d2, d3, d4, d14, d16, dW, dB⟩ := hb
    refine ⟨d1, d2, d3, d4, d14, d16, dW, ?_⟩
    show upd a10 n (1 - 1) n = 0
    rw [pk_us]
    decide
theorem wn_take0 {post : Int32 → St2 → Prop} (hn : n < 4) (hb : wn_bs Wn [] (wn_bv (ph, le, cl, se, di, a1, a2, a3, a4, a5, a6, a7, a8, a9, a10, a11, a12, a13, a14, a15, a16, a17, a18, a19, a20, a21, a22, a23, a24, a25) n)) (H : post (-2) (ph, le, cl, se, di, a1, a2, a3, a4, a5, a6, a7, a8, a9, a10, a11, a12, a13, a14, a15, a16, a17, a18, a19, a20, a21, a22, a23, a24, a25)) : wpX_take post (ph, le, cl, se, di, a1, a2, a3, a4, a5, a6, a7, a8, a9, a10, a11, a12, a13, a14, a15, a16, a17, a18, a19, a20, a21, a22, a23, a24, a25) (nI n) := by
  unfold wpX_take
  dsimp only
  exact wn_frameAt (i := 0) hn (by decide) hb (fun _ => br_f (by decide) H) (fun g hg => absurd hg (by simp))
end
end
section
/-! ===== the law's last loop ===== -/
/-- which of the two nodes, lengths is which: w1 has sent F1 first, w2 F2 -/
def wn_Sw (x16 x14 x15 x8 x9 : Int32) (w1 w2 : Nat) (F1 F2 : Nat × Nat × Nat) : Prop :=
  (x16 = 0 ∧ x14 = nI w1 ∧ x15 = nI w2 ∧ x8 = nI F1.2.1 ∧ x9 = nI F2.2.1) ∨ (¬ x16 = 0 ∧ x14 = nI w2 ∧ x15 = nI w1 ∧ x8 = nI F2.2.1 ∧ x9 = nI F1.2.1)
/-- the inboxes at the end -/
def wn_Bz (w1 w2 : Nat) (F1 F2 : Nat × Nat × Nat) : Nat → List (Nat × Nat) := wn_B1 (wn_B1 (fun _ => []) w1 F1) w2 F2
theorem wn_Bz1 {w1 w2 : Nat} {F1 F2 : Nat × Nat × Nat} (h : w1 ≠ w2) : wn_Bz w1 w2 F1 F2 w1 = [(F2.1, F2.2.1)] := by
  unfold wn_Bz
  rw [show wn_B1 (wn_B1 (fun _ => []) w1 F1) w2 F2 w1 = wn_B1 (fun _ => []) w1 F1 w1 ++ [(F2.1, F2.2.1)] from if_neg h, show wn_B1 (fun _ => []) w1 F1 w1 = [] from if_pos rfl]
  rfl
theorem wn_Bz2 {w1 w2 : Nat} {F1 F2 : Nat × Nat × Nat} (h : w1 ≠ w2) : wn_Bz w1 w2 F1 F2 w2 = [(F1.1, F1.2.1)] := by
  unfold wn_Bz
  rw [show wn_B1 (wn_B1 (fun _ => []) w1 F1) w2 F2 w2 = wn_B1 (fun _ => []) w1 F1 w2 from if_pos rfl, show wn_B1 (fun _ => []) w1 F1 w2 = [] ++ [(F1.1, F1.2.1)] from if_neg (Ne.symm h)]
  rfl
theorem wn_Bz3 {w1 w2 j : Nat} {F1 F2 : Nat × Nat × Nat} (h1 : j ≠ w1) (h2 : j ≠ w2) : wn_Bz w1 w2 F1 F2 j = [(F1.1, F1.2.1), (F2.1, F2.2.1)] := by
  unfold wn_Bz
  rw [show wn_B1 (wn_B1 (fun _ => []) w1 F1) w2 F2 j = wn_B1 (fun _ => []) w1 F1 j ++ [(F2.1, F2.2.1)] from if_neg h2, show wn_B1 (fun _ => []) w1 F1 j = [] ++ [(F1.1, F1.2.1)] from if_neg h1]
  rfl
theorem wn_16 (a b : Nat) : 16 * nI a + nI b = nI (16 * a + b) := by
  rw [show (16 : Int32) * nI a = nI (16 * a) from pk_mul 16 _, nI_add]
section
variable {ph le cl se di : Int32} {a1 : Nat → Int32} {a2 : Nat → Int32} {a3 : Nat → Int32} {a4 : Nat → Int32} {a5 : Nat → Int32} {a6 : Nat → Int32} {a7 : Nat → Int32} {a8 : Nat → Int32} {a9 : Nat → Int64} {a10 : Nat → Int32} {a11 : Nat → Int32} {a12 : Nat → Int32} {a13 : Nat → Int64} {a14 : Nat → Int32} {a15 : Nat → Int32} {a16 : Nat → Int32} {a17 : Nat → Int32} {a18 : Nat → Int32} {a19 : Nat → Int32} {a20 : Nat → Int32} {a21 : Nat → Int32} {a22 : Nat → Int32} {a23 : Nat → Int64} {a24 : Nat → Int32} {a25 : Nat → Int32}
variable {post : Int32 → St0 → Prop} {mc ms kc ks : Nat} {J : Int32 → Prop} {x8 x9 x14 x15 x16 x17 x18 : Int32} {Wn : Option (Nat × Nat × Nat)} {i w1 w2 : Nat} {F1 F2 : Nat × Nat × Nat}
theorem wn_856 {z : Int32} (H : J (nI (i + 1))) : wL_lawOf_856 post mc ms J x8 x9 x14 x15 x16 x17 x18 (nI i) z z kc ks ph le cl se di a1 a2 a3 a4 a5 a6 a7 a8 a9 a10 a11 a12 a13 a14 a15 a16 a17 a18 a19 a20 a21 a22 a23 a24 a25 :=
  br_t rfl (nm_r (nI_1 i) H)
theorem wn_772a {f : Nat × Nat} (hi : i < 4) (hb : wn_bs Wn [f] (wn_bv (ph, le, cl, se, di, a1, a2, a3, a4, a5, a6, a7, a8, a9, a10, a11, a12, a13, a14, a15, a16, a17, a18, a19, a20, a21, a22, a23, a24, a25) i)) (H : J (nI (i + 1))) : wL_lawOf_772 post mc ms J x8 x9 x14 x15 x16 x17 x18 (nI i) 1 (nI (16 * f.1 + f.2)) kc ks ph le cl se di a1 a2 a3 a4 a5 a6 a7 a8 a9 a10 a11 a12 a13 a14 a15 a16 a17 a18 a19 a20 a21 a22 a23 a24 a25 := by
  unfold wL_lawOf_772
  refine wn_received hi hb (br_t rfl ?_)
  refine wn_frameAt (i := 0) hi (by decide) hb (fun z => absurd z (by simp)) (fun g hg => ?_)
  have hg' : f = g := by simpa using hg
  subst hg'
  refine br_t rfl (wn_sendErr hi hb (br_t rfl (wn_recvErr hi hb (br_t rfl ?_))))
  exact wn_frameAt (i := 1) hi (by decide) hb (fun _ => br_t rfl (wn_856 H)) (fun g hg => absurd hg (by simp))
theorem wn_772b {f g : Nat × Nat} (hi : i < 4) (hb : wn_bs Wn [f, g] (wn_bv (ph, le, cl, se, di, a1, a2, a3, a4, a5, a6, a7, a8, a9, a10, a11, a12, a13, a14, a15, a16, a17, a18, a19, a20, a21, a22, a23, a24, a25) i)) (hx : x18 = nI g.1) (hs : (x16 = 0 ∧ x9 = nI g.2) ∨ (¬ x16 = 0 ∧ x8 = nI g.2)) (H : J (nI (i + 1))) :
    wL_lawOf_772 post mc ms J x8 x9 x14 x15 x16 x17 x18 (nI i) 2 (nI (16 * f.1 + f.2)) kc ks ph le cl se di a1 a2 a3 a4 a5 a6 a7 a8 a9 a10 a11 a12 a13 a14 a15 a16 a17 a18 a19 a20 a21 a22 a23 a24 a25 := by
  unfold wL_lawOf_772
  refine wn_received hi hb (br_t rfl ?_)
  refine wn_frameAt (i := 0) hi (by decide) hb (fun z => absurd z (by simp)) (fun g' hg => ?_)
  have hg' : f = g' := by simpa using hg
  subst hg'
  refine br_t rfl (wn_sendErr hi hb (br_t rfl (wn_recvErr hi hb (br_t rfl ?_))))
  refine wn_frameAt (i := 1) hi (by decide) hb (fun z => absurd z (by simp)) (fun g' hg => br_f (by decide) ?_)
  have hg' : g = g' := by simpa using hg
  subst hg'
  rcases hs with ⟨e, e9⟩ | ⟨e, e8⟩
  · refine br_t e ?_
    unfold wL_lawOf_855
    rw [hx, e9, wn_16]
    exact wn_856 H
  · refine br_f e ?_
    unfold wL_lawOf_855
    rw [hx, e8, wn_16]
    exact wn_856 H
theorem wn_702 {gt : Int32} (hi : i < 4) (hw1 : w1 < 4) (hw : w1 ≠ w2) (hS : wn_Sw x16 x14 x15 x8 x9 w1 w2 F1 F2) (hx17 : x17 = nI F1.1) (hx18 : x18 = nI F2.1) (hb : wn_bs Wn (wn_Bz w1 w2 F1 F2 i) (wn_bv (ph, le, cl, se, di, a1, a2, a3, a4, a5, a6, a7, a8, a9, a10, a11, a12, a13, a14, a15, a16, a17, a18, a19, a20, a21, a22, a23, a24, a25) i))
    (h1 : (i = w1 ∨ i = w2) → gt = 1) (h2 : i ≠ w1 → i ≠ w2 → gt = 2) (H : J (nI (i + 1))) : wL_lawOf_702 post mc ms J x8 x9 x14 x15 x16 x17 x18 (nI i) gt kc ks ph le cl se di a1 a2 a3 a4 a5 a6 a7 a8 a9 a10 a11 a12 a13 a14 a15 a16 a17 a18 a19 a20 a21 a22 a23 a24 a25 := by
  have h726a : i = w1 → wL_lawOf_726 post mc ms J x8 x9 x14 x15 x16 x17 x18 (nI i) gt 1 kc ks ph le cl se di a1 a2 a3 a4 a5 a6 a7 a8 a9 a10 a11 a12 a13 a14 a15 a16 a17 a18 a19 a20 a21 a22 a23 a24 a25 := by
    intro e
    rw [h1 (Or.inl e)]
    rw [e, wn_Bz1 hw, ← e] at hb
    unfold wL_lawOf_726
    refine br_f (by decide) ?_
    rcases hS with ⟨e16, e14, e15, e8, e9⟩ | ⟨e16, e14, e15, e8, e9⟩
    · refine br_t e16 ?_
      unfold wL_lawOf_750
      rw [hx18]
      have q : 16 * nI F2.1 + x9 = nI (16 * F2.1 + F2.2.1) := by rw [e9, wn_16]
      rw [q]
      exact wn_772a hi hb H
    · refine br_f e16 ?_
      unfold wL_lawOf_750
      rw [hx18]
      have q : 16 * nI F2.1 + x8 = nI (16 * F2.1 + F2.2.1) := by rw [e8, wn_16]
      rw [q]
      exact wn_772a hi hb H
  have h772 : i ≠ w1 → wL_lawOf_772 post mc ms J x8 x9 x14 x15 x16 x17 x18 (nI i) gt (nI (16 * F1.1 + F1.2.1)) kc ks ph le cl se di a1 a2 a3 a4 a5 a6 a7 a8 a9 a10 a11 a12 a13 a14 a15 a16 a17 a18 a19 a20 a21 a22 a23 a24 a25 := by
    intro e
    by_cases e2 : i = w2
    · rw [h1 (Or.inr e2)]
      rw [e2, wn_Bz2 hw, ← e2] at hb
      exact wn_772a hi hb H
    · rw [h2 e e2]
      rw [wn_Bz3 e e2] at hb
      refine wn_772b hi hb hx18 ?_ H
      rcases hS with ⟨e16, e14, e15, e8, e9⟩ | ⟨e16, e14, e15, e8, e9⟩
      · exact Or.inl ⟨e16, e9⟩
      · exact Or.inr ⟨e16, e8⟩
  have h726b : i ≠ w1 → wL_lawOf_726 post mc ms J x8 x9 x14 x15 x16 x17 x18 (nI i) gt 0 kc ks ph le cl se di a1 a2 a3 a4 a5 a6 a7 a8 a9 a10 a11 a12 a13 a14 a15 a16 a17 a18 a19 a20 a21 a22 a23 a24 a25 := by
    intro e
    have q0 := h772 e
    unfold wL_lawOf_726
    refine br_t rfl ?_
    rcases hS with ⟨e16, e14, e15, e8, e9⟩ | ⟨e16, e14, e15, e8, e9⟩
    · refine br_t e16 ?_
      unfold wL_lawOf_771
      have q : 16 * x17 + x8 = nI (16 * F1.1 + F1.2.1) := by rw [hx17, e8, wn_16]
      rw [q]
      exact q0
    · refine br_f e16 ?_
      unfold wL_lawOf_771
      have q : 16 * x17 + x9 = nI (16 * F1.1 + F1.2.1) := by rw [hx17, e9, wn_16]
      rw [q]
      exact q0
  have h718 : wL_lawOf_718 post mc ms J x8 x9 x14 x15 x16 x17 x18 (nI i) gt (nI w1) (nI i) kc ks ph le cl se di a1 a2 a3 a4 a5 a6 a7 a8 a9 a10 a11 a12 a13 a14 a15 a16 a17 a18 a19 a20 a21 a22 a23 a24 a25 := by
    unfold wL_lawOf_718
    exact pk_eq i w1 h726a h726b
  unfold wL_lawOf_702
  rcases hS with ⟨e16, e14, e15, e8, e9⟩ | ⟨e16, e14, e15, e8, e9⟩
  · refine br_t e16 ?_
    rw [← e14] at h718
    exact h718
  · refine br_f e16 ?_
    rw [← e15] at h718
    exact h718
theorem wn_677 (hw1 : w1 < 4) (hw2 : w2 < 4) (hw : w1 ≠ w2) (hS : wn_Sw x16 x14 x15 x8 x9 w1 w2 F1 F2) (hx17 : x17 = nI F1.1) (hx18 : x18 = nI F2.1) (hF1 : F1.1 < 2048 ∧ F1.2.1 ≤ 8) (hF2 : F2.1 < 2048 ∧ F2.2.1 ≤ 8)
    (hb : ∀ j, j < 4 → wn_bs none (wn_Bz w1 w2 F1 F2 j) (wn_bv (ph, le, cl, se, di, a1, a2, a3, a4, a5, a6, a7, a8, a9, a10, a11, a12, a13, a14, a15, a16, a17, a18, a19, a20, a21, a22, a23, a24, a25) j)) (H : post 1 ()) : ∃ fu, wL_lawOf_677 post mc ms x8 x9 x14 x15 x16 x17 x18 kc ks ph le cl se di a1 a2 a3 a4 a5 a6 a7 a8 a9 a10 a11 a12 a13 a14 a15 a16 a17 a18 a19 a20 a21 a22 a23 a24 a25 fu 0 := by
  refine pk_loop (σ := Unit) (fun fu i _ => wL_lawOf_677 post mc ms x8 x9 x14 x15 x16 x17 x18 kc ks ph le cl se di a1 a2 a3 a4 a5 a6 a7 a8 a9 a10 a11 a12 a13 a14 a15 a16 a17 a18 a19 a20 a21 a22 a23 a24 a25 fu (nI i)) (fun _ _ => True) 4 0 () (by omega) trivial ?_ ?_
  · intro fu _ _
    show wL_lawOf_677 post mc ms x8 x9 x14 x15 x16 x17 x18 kc ks ph le cl se di a1 a2 a3 a4 a5 a6 a7 a8 a9 a10 a11 a12 a13 a14 a15 a16 a17 a18 a19 a20 a21 a22 a23 a24 a25 (fu + 1) (nI 4)
    refine pk_le 4 4 (fun _ => ?_) (fun z => absurd z (by omega))
    have main : ∀ p q : Nat, ∀ f : Nat × Nat, p < 4 → q < 4 → p ≠ q → f.1 < 2048 → f.2 ≤ 8 → wn_Bz w1 w2 F1 F2 p = [f] → x14 = nI p → x15 = nI q →
        wpX_take (fun r_1780 u => match u with | (ph', le', cl', se', di', a1', a2', a3', a4', a5', a6', a7', a8', a9', a10', a11', a12', a13', a14', a15', a16', a17', a18', a19', a20', a21', a22', a23', a24', a25') => (((r_1780 < 0 → (post 0 ())) ∧ (¬ r_1780 < 0 → (wpX_take (fun r_1862 u => match u with | (ph'', le'', cl'', se'', di'', a1'', a2'', a3'', a4'', a5'', a6'', a7'', a8'', a9'', a10'', a11'', a12'', a13'', a14'', a15'', a16'', a17'', a18'', a19'', a20'', a21'', a22'', a23'', a24'', a25'') => (((r_1862 = (-2) → (wpX_missed (fun r_1944 => (((r_1944 = 0 → (post 1 ())) ∧ (¬ r_1944 = 0 → (post 0 ()))))) (ph'', le'', cl'', se'', di'', a1'', a2'', a3'', a4'', a5'', a6'', a7'', a8'', a9'', a10'', a11'', a12'', a13'', a14'', a15'', a16'', a17'', a18'', a19'', a20'', a21'', a22'', a23'', a24'', a25'') x15)) ∧ (¬ r_1862 = (-2) → (post 0 ()))))) (ph', le', cl', se', di', a1', a2', a3', a4', a5', a6', a7', a8', a9', a10', a11', a12', a13', a14', a15', a16', a17', a18', a19', a20', a21', a22', a23', a24', a25') x14))))) (ph, le, cl, se, di, a1, a2, a3, a4, a5, a6, a7, a8, a9, a10, a11, a12, a13, a14, a15, a16, a17, a18, a19, a20, a21, a22, a23, a24, a25) x14 := by
      intro p q f hp hq hpq f1 f2 hB e14 e15
      have hbp := hb p hp
      rw [hB] at hbp
      rw [e14, e15]
      refine wn_take1 hp (by omega) hbp (fun u1 s1 s2 s3 => ?_)
      obtain ⟨ph', le', cl', se', di', a1', a2', a3', a4', a5', a6', a7', a8', a9', a10', a11', a12', a13', a14', a15', a16', a17', a18', a19', a20', a21', a22', a23', a24', a25'⟩ := u1
      dsimp only
      refine br_f (nI_pos (by omega)) ?_
      refine wn_take0 hp s3 (br_t rfl ?_)
      have hbq := hb q hq
      rw [← s2 q (Ne.symm hpq)] at hbq
      exact wn_missed hq hbq (br_t rfl H)
    rcases hS with ⟨e16, e14, e15, e8, e9⟩ | ⟨e16, e14, e15, e8, e9⟩
    · exact main w1 w2 (F2.1, F2.2.1) hw1 hw2 hw hF2.1 hF2.2 (wn_Bz1 hw) e14 e15
    · exact main w2 w1 (F1.1, F1.2.1) hw2 hw1 (Ne.symm hw) hF1.1 hF1.2 (wn_Bz2 hw) e14 e15
  · intro fu i _ hi _ ih
    show wL_lawOf_677 post mc ms x8 x9 x14 x15 x16 x17 x18 kc ks ph le cl se di a1 a2 a3 a4 a5 a6 a7 a8 a9 a10 a11 a12 a13 a14 a15 a16 a17 a18 a19 a20 a21 a22 a23 a24 a25 (fu + 1) (nI i)
    have q := ih () trivial
    have hbi := hb i hi
    refine pk_le 4 i (fun z => absurd z (by omega)) (fun _ => ?_)
    have m702 : ∀ gt : Int32, ((i = w1 ∨ i = w2) → gt = 1) → (i ≠ w1 → i ≠ w2 → gt = 2) → wL_lawOf_702 post mc ms (wL_lawOf_677 post mc ms x8 x9 x14 x15 x16 x17 x18 kc ks ph le cl se di a1 a2 a3 a4 a5 a6 a7 a8 a9 a10 a11 a12 a13 a14 a15 a16 a17 a18 a19 a20 a21 a22 a23 a24 a25 fu) x8 x9 x14 x15 x16 x17 x18 (nI i) gt kc ks ph le cl se di a1 a2 a3 a4 a5 a6 a7 a8 a9 a10 a11 a12 a13 a14 a15 a16 a17 a18 a19 a20 a21 a22 a23 a24 a25 :=
      fun gt g1 g2 => wn_702 hi hw1 hw hS hx17 hx18 hbi g1 g2 q
    have main : ∀ p q : Nat, p < 4 → q < 4 → ((i = p ∨ i = q) ↔ (i = w1 ∨ i = w2)) → x14 = nI p → x15 = nI q →
        (((nI i = x14 → (wL_lawOf_697 post mc ms (wL_lawOf_677 post mc ms x8 x9 x14 x15 x16 x17 x18 kc ks ph le cl se di a1 a2 a3 a4 a5 a6 a7 a8 a9 a10 a11 a12 a13 a14 a15 a16 a17 a18 a19 a20 a21 a22 a23 a24 a25 fu) x8 x9 x14 x15 x16 x17 x18 (nI i) kc ks ph le cl se di a1 a2 a3 a4 a5 a6 a7 a8 a9 a10 a11 a12 a13 a14 a15 a16 a17 a18 a19 a20 a21 a22 a23 a24 a25)) ∧ (¬ nI i = x14 → (((nI i = x15 → (wL_lawOf_697 post mc ms (wL_lawOf_677 post mc ms x8 x9 x14 x15 x16 x17 x18 kc ks ph le cl se di a1 a2 a3 a4 a5 a6 a7 a8 a9 a10 a11 a12 a13 a14 a15 a16 a17 a18 a19 a20 a21 a22 a23 a24 a25 fu) x8 x9 x14 x15 x16 x17 x18 (nI i) kc ks ph le cl se di a1 a2 a3 a4 a5 a6 a7 a8 a9 a10 a11 a12 a13 a14 a15 a16 a17 a18 a19 a20 a21 a22 a23 a24 a25)) ∧ (¬ nI i = x15 → (wL_lawOf_702 post mc ms (wL_lawOf_677 post mc ms x8 x9 x14 x15 x16 x17 x18 kc ks ph le cl se di a1 a2 a3 a4 a5 a6 a7 a8 a9 a10 a11 a12 a13 a14 a15 a16 a17 a18 a19 a20 a21 a22 a23 a24 a25 fu) x8 x9 x14 x15 x16 x17 x18 (nI i) 2 kc ks ph le cl se di a1 a2 a3 a4 a5 a6 a7 a8 a9 a10 a11 a12 a13 a14 a15 a16 a17 a18 a19 a20 a21 a22 a23 a24 a25))))))) := by
      intro p q hp hq hiff e14 e15
      refine pk_eq i p (fun e => ?_) (fun e => pk_eq i q (fun e2 => ?_) (fun e2 => ?_) rfl e15) rfl e14
      · unfold wL_lawOf_697
        exact m702 1 (fun _ => rfl) (fun g1 g2 => absurd (hiff.mp (Or.inl e)) (by omega))
      · unfold wL_lawOf_697
        exact m702 1 (fun _ => rfl) (fun g1 g2 => absurd (hiff.mp (Or.inr e2)) (by omega))
      · exact m702 2 (fun g => absurd (hiff.mpr g) (by omega)) (fun _ _ => rfl)
    have hS' := hS
    rcases hS' with ⟨e16, e14, e15, e8, e9⟩ | ⟨e16, e14, e15, e8, e9⟩
    · exact main w1 w2 hw1 hw2 Iff.rfl e14 e15
    · exact main w2 w1 hw2 hw1 Or.comm e14 e15
end
end
section
/-! ===== the law between the posts and the last loop ===== -/
def wn_E (x3 : Int64) (x8 x9 : Int32) (x10 : Int64) (x14 x15 x16 x17 x18 x19 x20 : Int32) (w1 w2 : Nat) (F1 F2 : Nat × Nat × Nat) (N1 N2 : Nat) : Prop :=
  w1 < 4 ∧ w2 < 4 ∧ w1 ≠ w2 ∧ (F1.1 < 2048 ∧ F1.2.1 ≤ 8) ∧ (F2.1 < 2048 ∧ F2.2.1 ≤ 8) ∧ F2.2.2 < 2 ^ 64 ∧ F1.1 < F2.1 ∧ wn_Len F1 N1 ∧ wn_Len F2 N2 ∧ wn_Sw x16 x14 x15 x8 x9 w1 w2 F1 F2 ∧ (x16 = 0 → x10 = lN F2.2.2) ∧ (¬ x16 = 0 → x3 = lN F2.2.2) ∧ x17 = nI F1.1 ∧ x18 = nI F2.1 ∧ x19 = nI (N1 + 10) ∧ x20 = nI (N2 + 10)
section
variable {u : St2} {post : Int32 → Prop}
theorem wn_sent {s : Int32} (h : (wn_h u).2.2.2.1 = s) (H : post s) : wpX_sent post u := by
  obtain ⟨ph, le, cl, se, di, a1, a2, a3, a4, a5, a6, a7, a8, a9, a10, a11, a12, a13, a14, a15, a16, a17, a18, a19, a20, a21, a22, a23, a24, a25⟩ := u
  have e : se = s := h
  subst e
  exact H
theorem wn_time {s : Int32} (h : (wn_h u).2.2.1 = s) (H : post s) : wpX_time post u := by
  obtain ⟨ph, le, cl, se, di, a1, a2, a3, a4, a5, a6, a7, a8, a9, a10, a11, a12, a13, a14, a15, a16, a17, a18, a19, a20, a21, a22, a23, a24, a25⟩ := u
  have e : cl = s := h
  subst e
  exact H
theorem wn_wire {s : Int32} (h : (wn_h u).1 = s) (H : post s) : wpX_wire post u := by
  obtain ⟨ph, le, cl, se, di, a1, a2, a3, a4, a5, a6, a7, a8, a9, a10, a11, a12, a13, a14, a15, a16, a17, a18, a19, a20, a21, a22, a23, a24, a25⟩ := u
  have e : ph = s := h
  subst e
  exact H
theorem wn_underN (h : ¬ (wn_h u).1 = 1) (H : post (-2)) : wpX_underWay post u := by
  obtain ⟨ph, le, cl, se, di, a1, a2, a3, a4, a5, a6, a7, a8, a9, a10, a11, a12, a13, a14, a15, a16, a17, a18, a19, a20, a21, a22, a23, a24, a25⟩ := u
  exact wn_under0 h H
end
theorem wn_W1s (W : Nat → Option (Nat × Nat × Nat)) (w : Nat) (x : Option (Nat × Nat × Nat)) : wn_W1 W w x w = x := if_pos rfl
theorem wn_W1n {W : Nat → Option (Nat × Nat × Nat)} {w j : Nat} {x : Option (Nat × Nat × Nat)} (h : j ≠ w) : wn_W1 W w x j = W j := if_neg h
section
variable {ph le cl se di : Int32} {a1 : Nat → Int32} {a2 : Nat → Int32} {a3 : Nat → Int32} {a4 : Nat → Int32} {a5 : Nat → Int32} {a6 : Nat → Int32} {a7 : Nat → Int32} {a8 : Nat → Int32} {a9 : Nat → Int64} {a10 : Nat → Int32} {a11 : Nat → Int32} {a12 : Nat → Int32} {a13 : Nat → Int64} {a14 : Nat → Int32} {a15 : Nat → Int32} {a16 : Nat → Int32} {a17 : Nat → Int32} {a18 : Nat → Int32} {a19 : Nat → Int32} {a20 : Nat → Int32} {a21 : Nat → Int32} {a22 : Nat → Int32} {a23 : Nat → Int64} {a24 : Nat → Int32} {a25 : Nat → Int32}
variable {post : Int32 → St0 → Prop} {mc ms kc ks : Nat} {x2 : Int32} {x3 : Int64} {x8 x9 : Int32} {x10 : Int64} {x14 x15 x16 x17 x18 x19 x20 : Int32} {w1 w2 : Nat} {F1 F2 : Nat × Nat × Nat} {N1 N2 pt : Nat} {W : Nat → Option (Nat × Nat × Nat)}
theorem wn_491 {x21 z1 z2 : Int32} {z0 : Int64} (hE : wn_E x3 x8 x9 x10 x14 x15 x16 x17 x18 x19 x20 w1 w2 F1 F2 N1 N2) (hW1 : W w1 = some F1) (hWo : ∀ j, j < 4 → j ≠ w1 → W j = none) (hp : pt ≤ N1 + 9)
    (h : wn_FR F1 N1 w1 W (fun _ => []) pt pt 0 (ph, le, cl, se, di, a1, a2, a3, a4, a5, a6, a7, a8, a9, a10, a11, a12, a13, a14, a15, a16, a17, a18, a19, a20, a21, a22, a23, a24, a25)) (hx : x21 = nI pt) (hz0 : z0 = lN F2.2.2) (hz1 : z1 = nI F2.2.1) (hz2 : z2 = nI (2048 * w2 + F2.1)) (H : post 1 ()) :
    wL_lawOf_491 post mc ms x8 x9 x14 x15 x16 x17 x18 x19 x20 x21 z0 z1 z2 kc ks ph le cl se di a1 a2 a3 a4 a5 a6 a7 a8 a9 a10 a11 a12 a13 a14 a15 a16 a17 a18 a19 a20 a21 a22 a23 a24 a25 := by
  obtain ⟨hw1, hw2, hw, hF1, hF2, hd2, hlt, hN1, hN2, hS, hd0, hd1, e17, e18, e19, e20⟩ := hE
  have b1 := wn_Len_bd hF1.2 hN1
  have b2 := wn_Len_bd hF2.2 hN2
  have hX1 : wn_FX F1 N1 w1 (wn_W1 W w2 (some F2)) := ⟨hF1.1, hF1.2, hN1, hw1, by rw [wn_W1n hw]; exact hW1⟩
  have hX2 : wn_FX F2 N2 w2 (wn_W1 (wn_W1 W w2 (some F2)) w1 none) := ⟨hF2.1, hF2.2, hN2, hw2, by rw [wn_W1n (Ne.symm hw), wn_W1s]⟩
  have hB0 : ∀ j, j < 4 → ((fun _ => [] : Nat → List (Nat × Nat)) j).length ≤ 1 := fun j _ => by simp
  have hB1 : ∀ j, j < 4 → (wn_B1 (fun _ => []) w1 F1 j).length ≤ 1 := by
    intro j _
    unfold wn_B1
    split <;> simp
  have hlow : ∀ j, j < 4 → j ≠ w2 → ∀ G, wn_W1 (wn_W1 W w2 (some F2)) w1 none j = some G → F2.1 < G.1 := by
    intro j hj hj2 G hG
    by_cases ej : j = w1
    · rw [ej, wn_W1s] at hG
      exact absurd hG (by simp)
    · rw [wn_W1n ej, wn_W1n hj2, hWo j hj ej] at hG
      exact absurd hG (by simp)
  have hnone : ∀ j, j < 4 → wn_W1 (wn_W1 (wn_W1 W w2 (some F2)) w1 none) w2 none j = none := by
    intro j hj
    by_cases e2 : j = w2
    · rw [e2, wn_W1s]
    · rw [wn_W1n e2]
      by_cases e1 : j = w1
      · rw [e1, wn_W1s]
      · rw [wn_W1n e1, wn_W1n e2, hWo j hj e1]
  subst hx hz0 hz1 hz2
  unfold wL_lawOf_491
  rw [e19, e20]
  refine wn_postF hw2 (Ne.symm hw) hF2.1 hF2.2 hd2 h (hWo w2 hw2 (Ne.symm hw)) (fun j hj G hG => ?_) (fun u h1 => ?_)
  · by_cases ej : j = w1
    · rw [ej, hW1] at hG
      injection hG with hG
      rw [← hG]
      omega
    · rw [hWo j hj ej] at hG
      exact absurd hG (by simp)
  clear h
  obtain ⟨ph', le', cl', se', di', a1', a2', a3', a4', a5', a6', a7', a8', a9', a10', a11', a12', a13', a14', a15', a16', a17', a18', a19', a20', a21', a22', a23', a24', a25'⟩ := u
  refine br_t rfl ?_
  have em : (nI (N1 + 10) - nI pt) - 1 = nI (N1 + 9 - pt) := by
    rw [pk_sub (by omega), show nI (N1 + 10 - pt) - 1 = nI (N1 + 10 - pt - 1) from pk_sub (b := 1) (by omega)]
    congr 1
    omega
  rw [em]
  refine wn_runF hX1 hB0 h1 (by omega) (fun u h2 => ?_)
  clear h1
  rw [show pt + (N1 + 9 - pt) = N1 + 9 by omega] at h2
  obtain ⟨ph', le', cl', se', di', a1', a2', a3', a4', a5', a6', a7', a8', a9', a10', a11', a12', a13', a14', a15', a16', a17', a18', a19', a20', a21', a22', a23', a24', a25'⟩ := u
  refine br_t rfl ?_
  obtain ⟨⟨_, q2⟩, _⟩ := id h2
  refine wn_sent (s := 0) (by rw [q2]; rfl) (br_t rfl ?_)
  refine wn_runE hX1 hB0 h2 (fun u h3 => ?_)
  clear h2 q2
  obtain ⟨ph', le', cl', se', di', a1', a2', a3', a4', a5', a6', a7', a8', a9', a10', a11', a12', a13', a14', a15', a16', a17', a18', a19', a20', a21', a22', a23', a24', a25'⟩ := u
  refine br_t rfl ?_
  have q3 := h3.1
  refine wn_sent (s := 1) (by rw [q3]; rfl) (br_t rfl ?_)
  refine wn_wire (s := 3) (by rw [q3]; rfl) (br_t rfl ?_)
  refine wn_underN (by rw [q3]; exact (by decide : ¬ nI 3 = 1)) (br_t rfl ?_)
  refine wn_runP h3 (fun u h4 => ?_)
  clear h3 q3
  obtain ⟨ph', le', cl', se', di', a1', a2', a3', a4', a5', a6', a7', a8', a9', a10', a11', a12', a13', a14', a15', a16', a17', a18', a19', a20', a21', a22', a23', a24', a25'⟩ := u
  refine br_t rfl ?_
  obtain ⟨⟨_, q4⟩, _⟩ := id h4
  refine wn_wire (s := 0) (by rw [q4]) (br_t rfl ?_)
  refine wn_runB (m := 1) hX2 hB1 hlow h4 (by omega) (by omega) (fun u h5 => ?_)
  clear h4 q4
  obtain ⟨ph', le', cl', se', di', a1', a2', a3', a4', a5', a6', a7', a8', a9', a10', a11', a12', a13', a14', a15', a16', a17', a18', a19', a20', a21', a22', a23', a24', a25'⟩ := u
  refine br_t rfl ?_
  refine wn_underF hX2 h5 (br_t e18.symm ?_)
  have em2 : nI (N2 + 10) - 2 = nI (N2 + 8) := by
    rw [show nI (N2 + 10) - 2 = nI (N2 + 10 - 2) from pk_sub (b := 2) (by omega)]
    congr 1
  rw [em2]
  refine wn_runF hX2 hB1 h5 (by omega) (fun u h6 => ?_)
  clear h5
  rw [show 1 + (N2 + 8) = N2 + 9 by omega] at h6
  obtain ⟨ph', le', cl', se', di', a1', a2', a3', a4', a5', a6', a7', a8', a9', a10', a11', a12', a13', a14', a15', a16', a17', a18', a19', a20', a21', a22', a23', a24', a25'⟩ := u
  refine br_t rfl ?_
  refine wn_runE hX2 hB1 h6 (fun u h7 => ?_)
  clear h6
  obtain ⟨ph', le', cl', se', di', a1', a2', a3', a4', a5', a6', a7', a8', a9', a10', a11', a12', a13', a14', a15', a16', a17', a18', a19', a20', a21', a22', a23', a24', a25'⟩ := u
  refine br_t rfl ?_
  have q7 := h7.1
  have em3 : (nI (N1 + 10) + 3) + nI (N2 + 10) = nI (N1 + 10 + 3 + (N2 + 10)) := by
    rw [show nI (N1 + 10) + 3 = nI (N1 + 10 + 3) from nI_add _ 3, nI_add]
  rw [em3]
  refine wn_time (s := nI (N1 + 10 + 3 + (N2 + 10))) ?_ (br_t rfl ?_)
  · rw [q7]
    show nI _ = nI _
    congr 1
    omega
  refine wn_runP h7 (fun u h8 => ?_)
  clear h7 q7
  obtain ⟨ph', le', cl', se', di', a1', a2', a3', a4', a5', a6', a7', a8', a9', a10', a11', a12', a13', a14', a15', a16', a17', a18', a19', a20', a21', a22', a23', a24', a25'⟩ := u
  refine br_t rfl ?_
  refine wn_runN (m := 50) (by omega) hnone h8 (fun u h9 => ?_)
  clear h8
  obtain ⟨ph', le', cl', se', di', a1', a2', a3', a4', a5', a6', a7', a8', a9', a10', a11', a12', a13', a14', a15', a16', a17', a18', a19', a20', a21', a22', a23', a24', a25'⟩ := u
  refine br_t rfl ?_
  obtain ⟨⟨_, q9⟩, hb9⟩ := id h9
  refine wn_wire (s := 0) (by rw [q9]) (br_t rfl ?_)
  refine wn_sent (s := 2) (by rw [q9]; rfl) (br_t rfl ?_)
  refine wn_677 hw1 hw2 hw hS e17 e18 hF1 hF2 (fun j hj => ?_) H
  have hbj := hb9 j hj
  rw [hnone j hj] at hbj
  exact hbj
theorem wn_420 {x21 z0 z1 : Int32} (hE : wn_E x3 x8 x9 x10 x14 x15 x16 x17 x18 x19 x20 w1 w2 F1 F2 N1 N2) (hW1 : W w1 = some F1) (hWo : ∀ j, j < 4 → j ≠ w1 → W j = none) (hp : pt ≤ N1 + 9)
    (h : wn_FR F1 N1 w1 W (fun _ => []) pt pt 0 (ph, le, cl, se, di, a1, a2, a3, a4, a5, a6, a7, a8, a9, a10, a11, a12, a13, a14, a15, a16, a17, a18, a19, a20, a21, a22, a23, a24, a25)) (hx : x21 = nI pt) (hz0 : z0 = nI w2) (hz1 : z1 = nI w2) (H : post 1 ()) :
    wL_lawOf_420 post mc ms x3 x8 x9 x10 x14 x15 x16 x17 x18 x19 x20 x21 z0 z1 kc ks ph le cl se di a1 a2 a3 a4 a5 a6 a7 a8 a9 a10 a11 a12 a13 a14 a15 a16 a17 a18 a19 a20 a21 a22 a23 a24 a25 := by
  have hE' := hE
  obtain ⟨hw1, hw2, hw, hF1, hF2, hd2, hlt, hN1, hN2, hS, hd0, hd1, e17, e18, e19, e20⟩ := hE'
  subst e17 e18
  have hX1 : wn_FX F1 N1 w1 W := ⟨hF1.1, hF1.2, hN1, hw1, hW1⟩
  have m480 : ∀ z0 z1 : Int32, z0 = nI F2.2.1 → z1 = nI (2048 * w2 + F2.1) → wL_lawOf_480 post mc ms x3 x8 x9 x10 x14 x15 x16 (nI F1.1) (nI F2.1) x19 x20 x21 z0 z1 kc ks ph le cl se di a1 a2 a3 a4 a5 a6 a7 a8 a9 a10 a11 a12 a13 a14 a15 a16 a17 a18 a19 a20 a21 a22 a23 a24 a25 := by
    intro z0 z1 g0 g1
    unfold wL_lawOf_480
    exact br_c (fun e => wn_491 hE hW1 hWo hp h hx (hd0 e) g0 g1 H) (fun e => wn_491 hE hW1 hWo hp h hx (hd1 e) g0 g1 H)
  have m464 : ∀ z0 : Int32, z0 = nI w2 → wL_lawOf_464 post mc ms x3 x8 x9 x10 x14 x15 x16 (nI F1.1) (nI F2.1) x19 x20 x21 z0 2048 kc ks ph le cl se di a1 a2 a3 a4 a5 a6 a7 a8 a9 a10 a11 a12 a13 a14 a15 a16 a17 a18 a19 a20 a21 a22 a23 a24 a25 := by
    intro z0 g0
    have e1 : (2048 * z0) + nI F2.1 = nI (2048 * w2 + F2.1) := by
      rw [g0, show (2048 : Int32) * nI w2 = nI (2048 * w2) from pk_mul 2048 _, nI_add]
    unfold wL_lawOf_464
    rcases hS with ⟨e16, e14, e15, e8, e9⟩ | ⟨e16, e14, e15, e8, e9⟩
    · exact br_t e16 (m480 _ _ e9 e1)
    · exact br_f e16 (m480 _ _ e8 e1)
  unfold wL_lawOf_420
  refine br_t (hz1.trans hz0.symm) ?_
  refine wn_cancelN hF2.1 h (fun j hj G hG => ?_) (br_t rfl ?_)
  · by_cases ej : j = w1
    · rw [ej, hW1] at hG
      injection hG with hG
      rw [← hG]
      omega
    · rw [hWo j hj ej] at hG
      exact absurd hG (by simp)
  refine wn_cancelB hX1 h (br_t rfl ?_)
  rcases hS with ⟨e16, e14, e15, e8, e9⟩ | ⟨e16, e14, e15, e8, e9⟩
  · exact br_t e16 (m464 _ e15)
  · exact br_f e16 (m464 _ e14)
theorem wn_353 (hE : wn_E x3 x8 x9 x10 x14 x15 x16 x17 x18 x19 x20 w1 w2 F1 F2 N1 N2) (hW1 : W w1 = some F1) (hW2 : W w2 = some F2) (hWo : ∀ j, j < 4 → j ≠ w1 → j ≠ w2 → W j = none)
    (h : wn_ID W (fun _ => []) 0 0 (ph, le, cl, se, di, a1, a2, a3, a4, a5, a6, a7, a8, a9, a10, a11, a12, a13, a14, a15, a16, a17, a18, a19, a20, a21, a22, a23, a24, a25)) (H : post 1 ()) : wL_lawOf_353 post mc ms x2 x3 x8 x9 x10 x14 x15 x16 x17 x18 x19 x20 kc ks ph le cl se di a1 a2 a3 a4 a5 a6 a7 a8 a9 a10 a11 a12 a13 a14 a15 a16 a17 a18 a19 a20 a21 a22 a23 a24 a25 := by
  have hE' := hE
  obtain ⟨hw1, hw2, hw, hF1, hF2, hd2, hlt, hN1, hN2, hS, hd0, hd1, e17, e18, e19, e20⟩ := hE'
  subst e17 e18
  have b1 := wn_Len_bd hF1.2 hN1
  have hX1 : wn_FX F1 N1 w1 W := ⟨hF1.1, hF1.2, hN1, hw1, hW1⟩
  have hB0 : ∀ j, j < 4 → ((fun _ => [] : Nat → List (Nat × Nat)) j).length ≤ 1 := fun j _ => by simp
  have hlow : ∀ j, j < 4 → j ≠ w1 → ∀ G, W j = some G → F1.1 < G.1 := by
    intro j hj hj1 G hG
    by_cases ej : j = w2
    · rw [ej, hW2] at hG
      injection hG with hG
      rw [← hG]
      exact hlt
    · rw [hWo j hj hj1 ej] at hG
      exact absurd hG (by simp)
  obtain ⟨y, hy, ey⟩ := pk_andE (x2 >>> ((10 : Int32) &&& 31)) (m := 255) 8 (by decide)
  have em : x19 - 1 = nI (N1 + 9) := by
    rw [e19, show nI (N1 + 10) - 1 = nI (N1 + 10 - 1) from pk_sub (b := 1) (by omega)]
    congr 1
  have ex : 1 + (nI y - nI y / nI (N1 + 9) * nI (N1 + 9)) = nI (1 + y % (N1 + 9)) := by
    rw [pk_rem (by omega) (by omega) (by omega)]
    exact nI_add 1 _
  have hmod := Nat.mod_lt y (show 0 < N1 + 9 by omega)
  unfold wL_lawOf_353
  rw [ey, em]
  refine ⟨nI_ne0 (by omega) (by omega), nm_r ex ?_⟩
  have hpt : 1 ≤ 1 + y % (N1 + 9) ∧ 1 + y % (N1 + 9) ≤ N1 + 9 := by omega
  generalize 1 + y % (N1 + 9) = pt at *
  refine wn_runB hX1 hB0 hlow h (by omega) (by omega) (fun u h1 => ?_)
  clear h
  rw [Nat.zero_add] at h1
  obtain ⟨ph', le', cl', se', di', a1', a2', a3', a4', a5', a6', a7', a8', a9', a10', a11', a12', a13', a14', a15', a16', a17', a18', a19', a20', a21', a22', a23', a24', a25'⟩ := u
  refine br_t rfl ?_
  refine wn_underF hX1 h1 (br_t rfl ?_)
  obtain ⟨⟨_, q1⟩, _⟩ := id h1
  refine wn_wire (s := 1) (by rw [q1]) (br_t rfl ?_)
  refine wn_cancel1 (G := F2) hX1 h1 hw2 (Ne.symm hw) hW2 (by omega) (fun j hj G hG hG2 => ?_) (fun u h2 => ?_)
  · by_cases ej : j = w2
    · exact ej
    · by_cases ej1 : j = w1
      · rw [ej1, hW1] at hG
        injection hG with hG
        rw [← hG] at hG2
        omega
      · rw [hWo j hj ej1 ej] at hG
        exact absurd hG (by simp)
  · obtain ⟨ph'', le'', cl'', se'', di'', a1'', a2'', a3'', a4'', a5'', a6'', a7'', a8'', a9'', a10'', a11'', a12'', a13'', a14'', a15'', a16'', a17'', a18'', a19'', a20'', a21'', a22'', a23'', a24'', a25''⟩ := u
    have k1 : wn_W1 W w2 none w1 = some F1 := by rw [wn_W1n hw]; exact hW1
    have k2 : ∀ j, j < 4 → j ≠ w1 → wn_W1 W w2 none j = none := by
      intro j hj hj1
      by_cases ej : j = w2
      · rw [ej, wn_W1s]
      · rw [wn_W1n ej]; exact hWo j hj hj1 ej
    have hS' := hS
    rcases hS' with ⟨e16, e14, e15, e8, e9⟩ | ⟨e16, e14, e15, e8, e9⟩
    · exact br_t e16 (wn_420 hE k1 k2 (by omega) h2 rfl e15 rfl H)
    · exact br_f e16 (wn_420 hE k1 k2 (by omega) h2 rfl e14 rfl H)
end
end
section
/-! ===== the law's beginning ===== -/
theorem wn_rem9 (z : Int32) : (0 ≤ z - z / 9 * 9 → ∃ a : Nat, a ≤ 8 ∧ z - z / 9 * 9 = nI a) ∧ (¬ 0 ≤ z - z / 9 * 9 → ∃ a : Nat, a ≤ 8 ∧ -(z - z / 9 * 9) = nI a) := by
  have h := rem_toInt z 9
  have h9 : (9 : Int32).toInt = 9 := by decide
  have h00 : (0 : Int32).toInt = 0 := by decide
  rw [h9] at h
  have hb := tmod_bounds (a := z.toInt) (M := 9) (by decide)
  rw [← h] at hb
  generalize z - z / 9 * 9 = v at *
  constructor
  · intro h0
    have h0' : ¬ v < 0 := by
      rw [Int32.lt_iff_toInt_lt]
      rw [Int32.le_iff_toInt_le] at h0
      omega
    obtain ⟨j, hj, e⟩ := nI_of h0'
    refine ⟨j, ?_, e⟩
    rw [e, nI_toInt hj] at hb
    omega
  · intro h0
    rw [Int32.le_iff_toInt_le] at h0
    refine ⟨(-v.toInt).toNat, by omega, ?_⟩
    have e : v = -nI (-v.toInt).toNat := by
      apply Int32.toInt_inj.mp
      rw [sb_negT (by omega)]
      omega
    have e2 : -v = - -nI (-v.toInt).toNat := congrArg (fun x => -x) e
    rw [e2, Int32.neg_neg]
theorem wn_and3 (m : Nat) : nI m &&& 3 = nI (m % 4) := by
  show nI m &&& nI 3 = _
  rw [nx_and, show (3 : Nat) = 2 ^ 2 - 1 from rfl, Nat.and_two_pow_sub_one_eq_mod]
theorem wn_xor1 {x : Nat} (h : x < 2048) : x ^^^ 1 < 2048 ∧ x ≠ x ^^^ 1 := by
  refine ⟨Nat.xor_lt_two_pow (n := 11) h (by decide), fun e => ?_⟩
  have := congrArg (fun y => y.testBit 0) e
  simp [Nat.testBit_xor] at this
  omega
section
variable {ph le cl se di : Int32} {a1 : Nat → Int32} {a2 : Nat → Int32} {a3 : Nat → Int32} {a4 : Nat → Int32} {a5 : Nat → Int32} {a6 : Nat → Int32} {a7 : Nat → Int32} {a8 : Nat → Int32} {a9 : Nat → Int64} {a10 : Nat → Int32} {a11 : Nat → Int32} {a12 : Nat → Int32} {a13 : Nat → Int64} {a14 : Nat → Int32} {a15 : Nat → Int32} {a16 : Nat → Int32} {a17 : Nat → Int32} {a18 : Nat → Int32} {a19 : Nat → Int32} {a20 : Nat → Int32} {a21 : Nat → Int32} {a22 : Nat → Int32} {a23 : Nat → Int64} {a24 : Nat → Int32} {a25 : Nat → Int32}
variable {post : Int32 → St0 → Prop} {mc ms kc ks : Nat} {x1 x2 : Int32} {x3 x10 : Int64}
theorem wn_297 {p q a b o1 o2 NA NB d e : Nat} (hp : p < 4) (hq : q < 4) (hpq : p ≠ q) (ha : a ≤ 8) (hb : b ≤ 8) (ho1 : o1 < 2048) (ho2 : o2 < 2048) (hne : o1 ≠ o2) (hd : d < 2 ^ 64) (he : e < 2 ^ 64)
    (hNA : wn_Len (o1, a, d) NA) (hNB : wn_Len (o2, b, e) NB)
    (h : wn_ID (wn_W1 (wn_W1 (fun _ => none) p (some (o1, a, d))) q (some (o2, b, e))) (fun _ => []) 0 0 (ph, le, cl, se, di, a1, a2, a3, a4, a5, a6, a7, a8, a9, a10, a11, a12, a13, a14, a15, a16, a17, a18, a19, a20, a21, a22, a23, a24, a25)) (H : post 1 ()) :
    ((nI o1 ≤ nI o2 → wL_lawOf_297 post mc ms x2 (lN d) (nI o1) (nI o2) (nI a) (nI b) (lN e) (nI (NA + 10)) (nI (NB + 10)) (nI p) (nI q) 0 kc ks ph le cl se di a1 a2 a3 a4 a5 a6 a7 a8 a9 a10 a11 a12 a13 a14 a15 a16 a17 a18 a19 a20 a21 a22 a23 a24 a25) ∧ (¬ nI o1 ≤ nI o2 → wL_lawOf_297 post mc ms x2 (lN d) (nI o1) (nI o2) (nI a) (nI b) (lN e) (nI (NA + 10)) (nI (NB + 10)) (nI p) (nI q) 1 kc ks ph le cl se di a1 a2 a3 a4 a5 a6 a7 a8 a9 a10 a11 a12 a13 a14 a15 a16 a17 a18 a19 a20 a21 a22 a23 a24 a25)) := by
  have w1 : wn_W1 (wn_W1 (fun _ => none) p (some (o1, a, d))) q (some (o2, b, e)) p = some (o1, a, d) := by rw [wn_W1n hpq, wn_W1s]
  have w2 : wn_W1 (wn_W1 (fun _ => none) p (some (o1, a, d))) q (some (o2, b, e)) q = some (o2, b, e) := wn_W1s _ _ _
  have w3 : ∀ j, j < 4 → j ≠ p → j ≠ q → wn_W1 (wn_W1 (fun _ => none) p (some (o1, a, d))) q (some (o2, b, e)) j = none := fun j _ h1 h2 => by rw [wn_W1n h2, wn_W1n h1]
  refine pk_le o1 o2 (fun z => ?_) (fun z => ?_)
  · unfold wL_lawOf_297
    refine br_t rfl ?_
    unfold wL_lawOf_311
    refine br_t rfl ?_
    unfold wL_lawOf_325
    refine br_t rfl ?_
    unfold wL_lawOf_339
    refine br_t rfl ?_
    refine wn_353 (w1 := p) (w2 := q) (F1 := (o1, a, d)) (F2 := (o2, b, e)) (N1 := NA) (N2 := NB) ?_ w1 w2 w3 h H
    exact ⟨hp, hq, hpq, ⟨ho1, ha⟩, ⟨ho2, hb⟩, he, (by show o1 < o2; omega), hNA, hNB, Or.inl ⟨rfl, rfl, rfl, rfl, rfl⟩, fun _ => rfl, fun y => absurd rfl y, rfl, rfl, rfl, rfl⟩
  · unfold wL_lawOf_297
    refine br_f (by decide) ?_
    unfold wL_lawOf_311
    refine br_f (by decide) ?_
    unfold wL_lawOf_325
    refine br_f (by decide) ?_
    unfold wL_lawOf_339
    refine br_f (by decide) ?_
    refine wn_353 (w1 := q) (w2 := p) (F1 := (o2, b, e)) (F2 := (o1, a, d)) (N1 := NB) (N2 := NA) ?_ w2 w1 (fun j hj h1 h2 => w3 j hj h2 h1) h H
    exact ⟨hq, hp, Ne.symm hpq, ⟨ho2, hb⟩, ⟨ho1, ha⟩, hd, z, hNB, hNA, Or.inr ⟨by decide, rfl, rfl, rfl, rfl⟩, fun y => absurd y (by decide), fun _ => rfl, rfl, rfl, rfl, rfl⟩
theorem wn_65 {o1 o2 a d : Nat} (ha : a ≤ 8) (ho1 : o1 < 2048) (ho2 : o2 < 2048) (hne : o1 ≠ o2) (hd : d < 2 ^ 64)
    (h : wn_ID (fun _ => none) (fun _ => []) 0 0 (ph, le, cl, se, di, a1, a2, a3, a4, a5, a6, a7, a8, a9, a10, a11, a12, a13, a14, a15, a16, a17, a18, a19, a20, a21, a22, a23, a24, a25)) (H : post 1 ()) : wL_lawOf_65 post mc ms x1 x2 (lN d) (nI o1) (nI o2) (nI a) kc ks ph le cl se di a1 a2 a3 a4 a5 a6 a7 a8 a9 a10 a11 a12 a13 a14 a15 a16 a17 a18 a19 a20 a21 a22 a23 a24 a25 := by
  obtain ⟨b, hb, eb⟩ := pk_andE (x1 >>> ((12 : Int32) &&& 31)) (m := 7) 3 (by decide)
  obtain ⟨e, he, ee⟩ := wb_of ((lN d * 31) + x1.toInt64)
  obtain ⟨p, hp, ep⟩ := pk_andE x2 (m := 3) 2 (by decide)
  obtain ⟨y, hy, ey⟩ := pk_andE (x2 >>> ((2 : Int32) &&& 31)) (m := 255) 8 (by decide)
  obtain ⟨NA, hNA⟩ := wn_Len_ex (o1, a, d) ha
  obtain ⟨NB, hNB⟩ := wn_Len_ex (o2, b, e) (show b ≤ 8 by omega)
  obtain ⟨NC, hNC⟩ := wn_Len_ex (o1, 0, 0) (show 0 ≤ 8 by omega)
  obtain ⟨ND, hND⟩ := wn_Len_ex (o2, 8, d) (show 8 ≤ 8 by omega)
  have eq : ((nI p + 1) + (nI y - nI y / 3 * 3)) &&& 3 = nI ((p + 1 + y % 3) % 4) := by
    have r3 : nI y - nI y / 3 * 3 = nI (y % 3) := pk_rem (d := 3) (by omega) (by omega) (by omega)
    rw [r3, nI_1, nI_add, wn_and3]
  unfold wL_lawOf_65
  rw [eb, ee]
  refine nm_e (nm_e ?_)
  refine wn_bits (F := (o1, a, d)) ho1 ha hd hNA (nm_r (nI_add _ 10) ?_)
  refine wn_bits (F := (o2, b, e)) ho2 (show b ≤ 8 by omega) he hNB (nm_r (nI_add _ 10) ?_)
  refine wn_bitsOf (F := (o1, a, d)) ho1 ha hd (fun j _ => rfl) hNA (fun u1 s1 s2 s3 => ?_)
  have h1 : wn_ID (fun _ => none) (fun _ => []) 0 0 u1 := by
    obtain ⟨⟨le0, q1⟩, q2⟩ := h
    exact ⟨⟨le0, s1.trans q1⟩, fun j hj => by rw [s2 j hj]; exact q2 j hj⟩
  clear h s1 s2 s3
  obtain ⟨ph', le', cl', se', di', a1', a2', a3', a4', a5', a6', a7', a8', a9', a10', a11', a12', a13', a14', a15', a16', a17', a18', a19', a20', a21', a22', a23', a24', a25'⟩ := u1
  refine br_t (nI_add _ 10) ?_
  refine wn_bitsOf (F := (o2, b, e)) ho2 (show b ≤ 8 by omega) he (fun j _ => rfl) hNB (fun u2 s1 s2 s3 => ?_)
  have h2 : wn_ID (fun _ => none) (fun _ => []) 0 0 u2 := by
    obtain ⟨⟨le0, q1⟩, q2⟩ := h1
    exact ⟨⟨le0, s1.trans q1⟩, fun j hj => by rw [s2 j hj]; exact q2 j hj⟩
  clear h1 s1 s2 s3
  obtain ⟨ph', le', cl', se', di', a1', a2', a3', a4', a5', a6', a7', a8', a9', a10', a11', a12', a13', a14', a15', a16', a17', a18', a19', a20', a21', a22', a23', a24', a25'⟩ := u2
  refine br_t (nI_add _ 10) ?_
  refine wn_bitsOf (F := (o1, 0, 0)) ho1 (show 0 ≤ 8 by decide) hd (fun j hj => absurd hj (by simp)) hNC (fun u3 s1 s2 s3 => ?_)
  have h3 : wn_ID (fun _ => none) (fun _ => []) 0 0 u3 := by
    obtain ⟨⟨le0, q1⟩, q2⟩ := h2
    exact ⟨⟨le0, s1.trans q1⟩, fun j hj => by rw [s2 j hj]; exact q2 j hj⟩
  clear h2 s1 s2 s3
  obtain ⟨ph', le', cl', se', di', a1', a2', a3', a4', a5', a6', a7', a8', a9', a10', a11', a12', a13', a14', a15', a16', a17', a18', a19', a20', a21', a22', a23', a24', a25'⟩ := u3
  refine wn_bits (F := (o1, 0, 0)) ho1 (show 0 ≤ 8 by decide) (show 0 < 2 ^ 64 by decide) hNC (br_t rfl ?_)
  refine wn_bitsOf (F := (o2, 8, d)) ho2 (show 8 ≤ 8 by decide) hd (fun j _ => rfl) hND (fun u4 s1 s2 s3 => ?_)
  have h4 : wn_ID (fun _ => none) (fun _ => []) 0 0 u4 := by
    obtain ⟨⟨le0, q1⟩, q2⟩ := h3
    exact ⟨⟨le0, s1.trans q1⟩, fun j hj => by rw [s2 j hj]; exact q2 j hj⟩
  clear h3 s1 s2 s3
  obtain ⟨ph', le', cl', se', di', a1', a2', a3', a4', a5', a6', a7', a8', a9', a10', a11', a12', a13', a14', a15', a16', a17', a18', a19', a20', a21', a22', a23', a24', a25'⟩ := u4
  refine wn_bits (F := (o2, 8, d)) ho2 (show 8 ≤ 8 by decide) hd hND (br_t rfl ?_)
  rw [ep, ey]
  refine nm_e ⟨by decide, nm_r eq ?_⟩
  have hpq : p ≠ (p + 1 + y % 3) % 4 := by omega
  have hq : (p + 1 + y % 3) % 4 < 4 := by omega
  generalize (p + 1 + y % 3) % 4 = q at *
  have ec : ∀ n x : Nat, (2048 * nI n) + nI x = nI (2048 * n + x) := fun n x => by
    rw [show (2048 : Int32) * nI n = nI (2048 * n) from pk_mul 2048 _, nI_add]
  rw [ec, ec, ec]
  obtain ⟨⟨le4, q1⟩, q2⟩ := h4
  refine wn_post1 (F := (o1, a, d)) (n := p) hp ho1 ha hd q2 rfl (fun j hj G hG => absurd hG (by simp)) (fun u5 s1 s2 s3 => ?_)
  have q1' := s1.trans q1
  clear q1 q2 s1 s3
  obtain ⟨ph', le', cl', se', di', a1', a2', a3', a4', a5', a6', a7', a8', a9', a10', a11', a12', a13', a14', a15', a16', a17', a18', a19', a20', a21', a22', a23', a24', a25'⟩ := u5
  refine br_t rfl ?_
  refine wn_post1 (F := (o2, b, e)) (n := q) hq ho2 (show b ≤ 8 by omega) he s2 (by rw [wn_W1n (Ne.symm hpq)]) (fun j hj G hG => ?_) (fun u6 t1 t2 t3 => ?_)
  · by_cases ej : j = p
    · rw [ej, wn_W1s] at hG
      injection hG with hG
      rw [← hG]
      exact hne
    · rw [wn_W1n ej] at hG
      exact absurd hG (by simp)
  have q1'' := t1.trans q1'
  clear t1 t3 q1' s2
  obtain ⟨ph', le', cl', se', di', a1', a2', a3', a4', a5', a6', a7', a8', a9', a10', a11', a12', a13', a14', a15', a16', a17', a18', a19', a20', a21', a22', a23', a24', a25'⟩ := u6
  refine br_t rfl ?_
  refine wn_post4 (x := o1) (l := 3) (n := q) (m := p) (G := (o1, a, d)) hq ho1 (by decide) t2 hp (by rw [wn_W1n hpq, wn_W1s]) rfl (br_t rfl ?_)
  exact wn_297 hp hq hpq ha (by omega) ho1 ho2 hne hd he hNA hNB ⟨⟨le4, q1''⟩, t2⟩ H
theorem wn_42 {o1 o2 d : Nat} (ho1 : o1 < 2048) (ho2 : o2 < 2048) (hne : o1 ≠ o2) (hd : d < 2 ^ 64)
    (h : wn_ID (fun _ => none) (fun _ => []) 0 0 (ph, le, cl, se, di, a1, a2, a3, a4, a5, a6, a7, a8, a9, a10, a11, a12, a13, a14, a15, a16, a17, a18, a19, a20, a21, a22, a23, a24, a25)) (H : post 1 ()) : wL_lawOf_42 post mc ms x1 x2 (lN d) (nI o1) (nI o2) kc ks ph le cl se di a1 a2 a3 a4 a5 a6 a7 a8 a9 a10 a11 a12 a13 a14 a15 a16 a17 a18 a19 a20 a21 a22 a23 a24 a25 := by
  have h9 := wn_rem9 (x1 >>> ((4 : Int32) &&& 31))
  unfold wL_lawOf_42
  refine ⟨by decide, nm_e (br_c (fun z => ?_) (fun z => ?_))⟩
  · obtain ⟨a, ha, ea⟩ := h9.1 z
    rw [ea]
    exact wn_65 ha ho1 ho2 hne hd h H
  · obtain ⟨a, ha, ea⟩ := h9.2 z
    rw [ea]
    exact wn_65 ha ho1 ho2 hne hd h H
end
theorem wn_init {post : St2 → Prop} (H : ∀ a1 : Nat → Int32, (∀ j, j < 4 → a1 j = 1) → post (0, 0, 0, 0, 0, a1, (fun _ => 0), (fun _ => 0), (fun _ => 0), (fun _ => 0), (fun _ => 0), (fun _ => 0), (fun _ => 0), (fun _ => 0), (fun _ => 0), (fun _ => 0), (fun _ => 0), (fun _ => 0), (fun _ => 0), (fun _ => 0), (fun _ => 0), (fun _ => 0), (fun _ => 0), (fun _ => 0), (fun _ => 0), (fun _ => 0), (fun _ => 0), (fun _ => 0), (fun _ => 0), (fun _ => 0))) :
    wpX_init post 25 220 (0, 0, 0, 0, 0) := by
  unfold wpX_init
  dsimp only
  iterate 50 refine ⟨by decide, ?_⟩
  refine pk_loop (σ := Nat → Int32) (fun fu i a => wX_init_187 post 25 220 25 220 0 0 0 0 0 fu (nI i) a (fun _ => 0) (fun _ => 0) (fun _ => 0) (fun _ => 0) (fun _ => 0) (fun _ => 0) (fun _ => 0) (fun _ => 0) (fun _ => 0) (fun _ => 0) (fun _ => 0) (fun _ => 0) (fun _ => 0) (fun _ => 0) (fun _ => 0) (fun _ => 0) (fun _ => 0) (fun _ => 0) (fun _ => 0) (fun _ => 0) (fun _ => 0) (fun _ => 0) (fun _ => 0) (fun _ => 0))
    (fun i a => ∀ j, j < i → a j = 1) 4 0 (fun _ => 0) (by omega) (fun j hj => absurd hj (by omega)) ?_ ?_
  · intro fu a ha
    exact pk_le 4 4 (fun _ => H a ha) (fun z => absurd z (by omega))
  · intro fu i a hi ha ih
    refine pk_le 4 i (fun z => absurd z (by omega)) (fun _ => ⟨pk_in i 4 hi, nm_e (nm_r (nI_1 i) (ih _ (fun j hj => ?_)))⟩)
    rw [nI_clamp (by omega)]
    by_cases e : j = i
    · rw [e, pk_us]
    · rw [pk_un e]; exact ha j (by omega)
theorem wn_lawOf {post : Int32 → St0 → Prop} {x y n : Int32} {v : Int64} (H : post 1 ()) : wpL_lawOf post 26 250 () x y n v := by
  obtain ⟨d, hd, ed⟩ := wb_of v
  obtain ⟨o1, ho1, e1⟩ := pk_andE x (m := 2047) 11 (by decide)
  obtain ⟨o2, ho2, e2⟩ := pk_andE (x >>> ((11 : Int32) &&& 31)) (m := 2047) 11 (by decide)
  subst ed
  refine ⟨by decide, by decide, 25, 220, by decide, by decide, wn_init (fun a1 ha => ?_)⟩
  have h : wn_ID (fun _ => none) (fun _ => []) 0 0 (0, 0, 0, 0, 0, a1, (fun _ => 0), (fun _ => 0), (fun _ => 0), (fun _ => 0), (fun _ => 0), (fun _ => 0), (fun _ => 0), (fun _ => 0), (fun _ => 0), (fun _ => 0), (fun _ => 0), (fun _ => 0), (fun _ => 0), (fun _ => 0), (fun _ => 0), (fun _ => 0), (fun _ => 0), (fun _ => 0), (fun _ => 0), (fun _ => 0), (fun _ => 0), (fun _ => 0), (fun _ => 0), (fun _ => 0)) :=
    ⟨⟨0, rfl⟩, fun j hj => ⟨ha j hj, rfl, rfl, rfl, rfl, rfl, rfl, rfl⟩⟩
  refine nm_r e1 (nm_r e2 (pk_eq o1 o2 (fun z => ?_) (fun z => ?_)))
  · obtain ⟨g1, g2⟩ := wn_xor1 ho1
    rw [show nI o1 ^^^ 1 = nI (o1 ^^^ 1) from nx_xor o1 1]
    exact wn_42 ho1 g1 g2 hd h H
  · exact wn_42 ho1 ho2 z hd h H
theorem wn_cell {post : Int32 → Prop} {L i : Nat} {xs : Nat → Int32} (hL : L ≤ 5) (hi : i < 5) (H : ∀ x, post x) : wpL_cellAt post L xs () (nI i) :=
  pk_le L i (fun _ => H 0) (fun z => ⟨pk_in i L z, H _⟩)
theorem i_vc (xs : Nat → Int32) (L : Nat) (hL : L ≤ 5) : wpL_law (fun r => r = 1) L xs :=
  wn_cell (i := 0) hL (by decide) (fun _ => wn_cell (i := 1) hL (by decide) (fun _ => wn_cell (i := 2) hL (by decide) (fun _ => wn_cell (i := 3) hL (by decide) (fun _ => wn_cell (i := 4) hL (by decide) (fun _ =>
    ⟨26, 250, by decide, by decide, wn_lawOf rfl⟩)))))
end
