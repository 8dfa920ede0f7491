section
/-! ===== Int32 by its bits: bt x i ===== -/
def bt (x : Int32) (i : Nat) : Bool := x.toBitVec.getLsbD i
theorem b_ext {x y : Int32} (h : ∀ i, i < 32 → bt x i = bt y i) : x = y := Int32.toBitVec_inj.mp (BitVec.eq_of_getLsbD_eq (fun i hi => h i hi))
theorem b_or (x y : Int32) (i : Nat) : bt (x ||| y) i = (bt x i || bt y i) := by unfold bt; rw [Int32.toBitVec_or, BitVec.getLsbD_or]
theorem b_and (x y : Int32) (i : Nat) : bt (x &&& y) i = (bt x i && bt y i) := by unfold bt; rw [Int32.toBitVec_and, BitVec.getLsbD_and]
theorem b_xor (x y : Int32) (i : Nat) : bt (x ^^^ y) i = (bt x i ^^ bt y i) := by unfold bt; rw [Int32.toBitVec_xor, BitVec.getLsbD_xor]
theorem b_big {x : Int32} {i : Nat} (h : 32 ≤ i) : bt x i = false := BitVec.getLsbD_of_ge _ _ h
theorem b_255 (i : Nat) : bt 255 i = decide (i < 8) := by
  rcases Nat.lt_or_ge i 32 with h | h
  · exact (by decide +kernel : ∀ i, i < 32 → bt 255 i = decide (i < 8)) i h
  · rw [b_big h, decide_eq_false (by omega)]
theorem b_65535 (i : Nat) : bt 65535 i = decide (i < 16) := by
  rcases Nat.lt_or_ge i 32 with h | h
  · exact (by decide +kernel : ∀ i, i < 32 → bt 65535 i = decide (i < 16)) i h
  · rw [b_big h, decide_eq_false (by omega)]
theorem b_m1 : ∀ i, i < 32 → bt (-1) i = true := by decide +kernel
theorem b_0 (i : Nat) : bt 0 i = false := BitVec.getLsbD_zero
theorem s_l : ∀ n, n < 32 → ((nI n &&& 31).toBitVec.smod 32).toNat = n := by decide +kernel
theorem s_u : ∀ n, n < 32 → (((nI n).toUInt32 &&& Int32.toUInt32 31).toBitVec % 32).toNat = n := by decide +kernel
theorem b_shl (n : Nat) (hn : n < 32) (x : Int32) {i : Nat} (hi : i < 32) : bt (x <<< (nI n &&& 31)) i = (decide (n ≤ i) && bt x (i - n)) := by
  unfold bt
  rw [Int32.toBitVec_shiftLeft]
  show (x.toBitVec <<< ((nI n &&& 31).toBitVec.smod 32).toNat).getLsbD i = _
  rw [s_l n hn, BitVec.getLsbD_shiftLeft]
  rcases Nat.lt_or_ge i n with h | h
  · simp [h, Nat.not_le.mpr h]
  · simp [hi, h, Nat.not_lt.mpr h]
theorem b_ushr (n : Nat) (hn : n < 32) (x : Int32) (i : Nat) : bt ((x.toUInt32 >>> ((nI n).toUInt32 &&& Int32.toUInt32 31)).toInt32) i = bt x (n + i) := by
  show (x.toUInt32 >>> ((nI n).toUInt32 &&& Int32.toUInt32 31)).toBitVec.getLsbD i = x.toUInt32.toBitVec.getLsbD (n + i)
  rw [UInt32.toBitVec_shiftRight]
  show (x.toUInt32.toBitVec >>> (((nI n).toUInt32 &&& Int32.toUInt32 31).toBitVec % 32).toNat).getLsbD i = _
  rw [s_u n hn, BitVec.getLsbD_ushiftRight]
theorem b_sshr (n : Nat) (hn : n < 32) (x : Int32) {i : Nat} (hi : i < 32) : bt (x >>> (nI n &&& 31)) i = if n + i < 32 then bt x (n + i) else bt x 31 := by
  unfold bt
  rw [Int32.toBitVec_shiftRight]
  show (x.toBitVec.sshiftRight ((nI n &&& 31).toBitVec.smod 32).toNat).getLsbD i = _
  rw [s_l n hn, BitVec.getLsbD_sshiftRight, BitVec.msb_eq_getLsbD_last]
  simp [hi]
theorem b_shl8 (x : Int32) {i : Nat} (hi : i < 32) : bt (x <<< ((8 : Int32) &&& 31)) i = (decide (8 ≤ i) && bt x (i - 8)) := b_shl 8 (by omega) x hi
theorem b_shl16 (x : Int32) {i : Nat} (hi : i < 32) : bt (x <<< ((16 : Int32) &&& 31)) i = (decide (16 ≤ i) && bt x (i - 16)) := b_shl 16 (by omega) x hi
theorem b_shl24 (x : Int32) {i : Nat} (hi : i < 32) : bt (x <<< ((24 : Int32) &&& 31)) i = (decide (24 ≤ i) && bt x (i - 24)) := b_shl 24 (by omega) x hi
theorem b_sshr8 (x : Int32) {i : Nat} (hi : i < 32) : bt (x >>> ((8 : Int32) &&& 31)) i = if 8 + i < 32 then bt x (8 + i) else bt x 31 := b_sshr 8 (by omega) x hi
theorem ma_b15 (i : Nat) : bt 15 i = decide (i < 4) := by
  rcases Nat.lt_or_ge i 32 with h | h
  · exact (by decide +kernel : ∀ i, i < 32 → bt 15 i = decide (i < 4)) i h
  · rw [b_big h, decide_eq_false (by omega)]
theorem ma_b65280 (i : Nat) : bt 65280 i = (decide (8 ≤ i) && decide (i < 16)) := by
  rcases Nat.lt_or_ge i 32 with h | h
  · exact (by decide +kernel : ∀ i, i < 32 → bt 65280 i = (decide (8 ≤ i) && decide (i < 16))) i h
  · rw [b_big h, decide_eq_false (show ¬ i < 16 by omega), Bool.and_false]
/-- the masks of an entry -/
def ma_W (a b : Int32) : Int32 := ((a &&& 255) <<< ((8 : Int32) &&& 31)) ||| (b &&& 255)
/-- its values under its masks -/
def ma_V (a b : Int32) : Int32 := ((a &&& 65280) ||| (b >>> ((8 : Int32) &&& 31))) &&& ma_W a b
/-- the two fields of the packet -/
def ma_F (x y : Int32) : Int32 := (x <<< ((8 : Int32) &&& 31)) ||| y
/-- the key of an entry -/
def ma_K (a b r : Int32) : Int32 := ma_V a b ||| (r <<< ((16 : Int32) &&& 31))
theorem ma_bW (a b : Int32) {i : Nat} (hi : i < 32) : bt (ma_W a b) i = ((decide (8 ≤ i) && (bt a (i - 8) && decide (i - 8 < 8))) || (bt b i && decide (i < 8))) := by
  unfold ma_W
  rw [b_or, b_shl8 _ hi, b_and, b_and, b_255, b_255]
theorem ma_bWlo (a b : Int32) {i : Nat} (hi : i < 8) : bt (ma_W a b) i = bt b i := by
  rw [ma_bW a b (by omega), decide_eq_false (show ¬ 8 ≤ i by omega), decide_eq_true hi]
  simp
theorem ma_bWhi (a b : Int32) {i : Nat} (hi : i < 8) : bt (ma_W a b) (8 + i) = bt a i := by
  rw [ma_bW a b (by omega), decide_eq_true (show 8 ≤ 8 + i by omega), show 8 + i - 8 = i by omega, decide_eq_true hi, decide_eq_false (show ¬ 8 + i < 8 by omega)]
  simp
theorem ma_bWtop (a b : Int32) {i : Nat} (hi : 16 ≤ i) (h : i < 32) : bt (ma_W a b) i = false := by
  rw [ma_bW a b h, decide_eq_false (show ¬ i - 8 < 8 by omega), decide_eq_false (show ¬ i < 8 by omega)]
  simp
theorem ma_bV (a b : Int32) (i : Nat) : bt (ma_V a b) i = (bt ((a &&& 65280) ||| (b >>> ((8 : Int32) &&& 31))) i && bt (ma_W a b) i) := by
  unfold ma_V
  rw [b_and]
theorem ma_bVtop (a b : Int32) {i : Nat} (hi : 16 ≤ i) (h : i < 32) : bt (ma_V a b) i = false := by
  rw [ma_bV, ma_bWtop a b hi h, Bool.and_false]
theorem ma_bVlo (a b : Int32) {i : Nat} (hi : i < 8) : bt (ma_V a b) i = (bt b (8 + i) && bt b i) := by
  rw [ma_bV, ma_bWlo a b hi, b_or, b_and, ma_b65280, b_sshr8 _ (by omega), if_pos (by omega), decide_eq_false (show ¬ 8 ≤ i by omega)]
  simp
theorem ma_bVhi (a b : Int32) (hb : ∀ i, 16 ≤ i → bt b i = false) {i : Nat} (hi : i < 8) : bt (ma_V a b) (8 + i) = (bt a (8 + i) && bt a i) := by
  rw [ma_bV, ma_bWhi a b hi, b_or, b_and, ma_b65280, b_sshr8 _ (by omega), if_pos (by omega), decide_eq_true (show 8 ≤ 8 + i by omega), decide_eq_true (show 8 + i < 16 by omega), hb (8 + (8 + i)) (by omega)]
  simp
theorem ma_prio (a b z : Int32) : ma_K a b (z &&& 15) >>> ((16 : Int32) &&& 31) = z &&& 15 := by
  apply b_ext
  intro i hi
  have e : bt (ma_K a b (z &&& 15) >>> ((16 : Int32) &&& 31)) i = if 16 + i < 32 then bt (ma_K a b (z &&& 15)) (16 + i) else bt (ma_K a b (z &&& 15)) 31 := b_sshr 16 (by omega) _ hi
  rw [e]
  unfold ma_K
  by_cases h : 16 + i < 32
  · rw [if_pos h, b_or, ma_bVtop a b (by omega) h, b_shl16 _ h, decide_eq_true (show 16 ≤ 16 + i by omega), show 16 + i - 16 = i by omega]
    simp
  · rw [if_neg h, b_or, ma_bVtop a b (by omega) (by omega), b_shl16 _ (by omega), b_and, b_and, ma_b15, ma_b15, decide_eq_false (show ¬ 31 - 16 < 4 by omega), decide_eq_false (show ¬ i < 4 by omega)]
    simp
theorem ma_low (a b r : Int32) : ma_K a b r &&& 65535 = ma_V a b := by
  apply b_ext
  intro i hi
  unfold ma_K
  rw [b_and, b_65535, b_or, b_shl16 _ hi]
  by_cases h : i < 16
  · rw [decide_eq_false (show ¬ 16 ≤ i by omega), decide_eq_true h]
    simp
  · rw [decide_eq_false h, ma_bVtop a b (by omega) hi, Bool.and_false]
theorem ma_Fhi (x y : Int32) (hy : ∀ i, 8 ≤ i → bt y i = false) {i : Nat} (hi : i < 8) : bt (ma_F x y) (8 + i) = bt x i := by
  unfold ma_F
  rw [b_or, b_shl8 _ (by omega), hy _ (by omega), decide_eq_true (show 8 ≤ 8 + i by omega), show 8 + i - 8 = i by omega]
  simp
theorem ma_Flo (x y : Int32) {i : Nat} (hi : i < 8) : bt (ma_F x y) i = bt y i := by
  unfold ma_F
  rw [b_or, b_shl8 _ (by omega), decide_eq_false (show ¬ 8 ≤ i by omega)]
  simp
theorem ma_zhi (y : Int32) : ∀ i, 8 ≤ i → bt (y &&& 255) i = false := by
  intro i hi
  rw [b_and, b_255, decide_eq_false (by omega), Bool.and_false]
theorem ma_z16 (y : Int32) : ∀ i, 16 ≤ i → bt (y &&& 65535) i = false := by
  intro i hi
  rw [b_and, b_65535, decide_eq_false (by omega), Bool.and_false]
theorem ma_z0 : ∀ i, 16 ≤ i → bt 0 i = false := fun i _ => b_0 i
/-- the law's m0 is that entry 16 matches -/
theorem ma_m0 (p x y : Int32) (hy : ∀ i, 8 ≤ i → bt y i = false) : ma_F x y &&& ma_W p 0 = ma_V p 0 ↔ (x &&& p) &&& 255 = ((p >>> ((8 : Int32) &&& 31)) &&& p) &&& 255 := by
  constructor
  · intro h
    apply b_ext
    intro i hi
    rw [b_and, b_and, b_and, b_and, b_255, b_sshr8 _ hi]
    by_cases h8 : i < 8
    · have t : bt (ma_F x y &&& ma_W p 0) (8 + i) = bt (ma_V p 0) (8 + i) := by rw [h]
      rw [b_and, ma_Fhi x y hy h8, ma_bWhi p 0 h8, ma_bVhi p 0 ma_z0 h8] at t
      rw [t, if_pos (by omega)]
    · rw [decide_eq_false h8, Bool.and_false, Bool.and_false]
  · intro h
    apply b_ext
    intro i hi
    rw [b_and]
    by_cases h8 : i < 8
    · rw [ma_bWlo p 0 h8, ma_bVlo p 0 h8, b_0]
      simp
    · by_cases h16 : i < 16
      · obtain ⟨k, rfl⟩ : ∃ k, i = 8 + k := ⟨i - 8, by omega⟩
        have hk : k < 8 := by omega
        have t : bt ((x &&& p) &&& 255) k = bt (((p >>> ((8 : Int32) &&& 31)) &&& p) &&& 255) k := by rw [h]
        rw [b_and, b_and, b_and, b_and, b_255, b_sshr8 _ (by omega), if_pos (by omega), decide_eq_true hk, Bool.and_true, Bool.and_true] at t
        rw [ma_Fhi x y hy hk, ma_bWhi p 0 hk, ma_bVhi p 0 ma_z0 hk, t]
      · rw [ma_bWtop p 0 (by omega) hi, ma_bVtop p 0 (by omega) hi, Bool.and_false]
/-- the law's m1 is that entry 17 matches -/
theorem ma_m1 (q x y : Int32) (hq : ∀ i, 16 ≤ i → bt q i = false) : ma_F x y &&& ma_W 0 q = ma_V 0 q ↔ (y &&& q) &&& 255 = ((q >>> ((8 : Int32) &&& 31)) &&& q) &&& 255 := by
  constructor
  · intro h
    apply b_ext
    intro i hi
    rw [b_and, b_and, b_and, b_and, b_255, b_sshr8 _ hi]
    by_cases h8 : i < 8
    · have t : bt (ma_F x y &&& ma_W 0 q) i = bt (ma_V 0 q) i := by rw [h]
      rw [b_and, ma_Flo x y h8, ma_bWlo 0 q h8, ma_bVlo 0 q h8] at t
      rw [t, if_pos (by omega)]
    · rw [decide_eq_false h8, Bool.and_false, Bool.and_false]
  · intro h
    apply b_ext
    intro i hi
    rw [b_and]
    by_cases h8 : i < 8
    · have t : bt ((y &&& q) &&& 255) i = bt (((q >>> ((8 : Int32) &&& 31)) &&& q) &&& 255) i := by rw [h]
      rw [b_and, b_and, b_and, b_and, b_255, b_sshr8 _ (by omega), if_pos (by omega), decide_eq_true h8, Bool.and_true, Bool.and_true] at t
      rw [ma_Flo x y h8, ma_bWlo 0 q h8, ma_bVlo 0 q h8, t]
    · by_cases h16 : i < 16
      · obtain ⟨k, rfl⟩ : ∃ k, i = 8 + k := ⟨i - 8, by omega⟩
        have hk : k < 8 := by omega
        rw [ma_bWhi 0 q hk, ma_bVhi 0 q hq hk, b_0, b_0]
        simp
      · rw [ma_bWtop 0 q (by omega) hi, ma_bVtop 0 q (by omega) hi, Bool.and_false]
theorem ma_and0 (x : Int32) : x &&& 0 = 0 := by
  apply b_ext
  intro i hi
  rw [b_and, b_0, Bool.and_false]
/-- two entries of one group: their masks are 0 -/
theorem ma_same {p q : Int32} (h : ma_W p 0 = ma_W 0 q) : ma_W p 0 = 0 ∧ ma_V p 0 = 0 ∧ ma_V 0 q = 0 := by
  have e : ma_W p 0 = 0 := by
    apply b_ext
    intro i hi
    rw [b_0]
    by_cases h8 : i < 8
    · rw [ma_bWlo p 0 h8, b_0]
    · by_cases h16 : i < 16
      · obtain ⟨k, rfl⟩ : ∃ k, i = 8 + k := ⟨i - 8, by omega⟩
        rw [h, ma_bWhi 0 q (by omega), b_0]
      · exact ma_bWtop p 0 (by omega) hi
  refine ⟨e, ?_, ?_⟩
  · unfold ma_V
    rw [e, ma_and0]
  · unfold ma_V
    rw [← h, e, ma_and0]
theorem ma_r15 (z : Int32) : ∃ R : Nat, R < 16 ∧ z &&& 15 = nI R := pk_andE z 4 (by decide)
theorem ma_r16 (z : Int32) : ∃ R : Nat, R < 65536 ∧ z &&& 65535 = nI R := pk_andE z 16 (by decide)
theorem ma_r8 (z : Int32) : ∃ R : Nat, R < 256 ∧ z &&& 255 = nI R := pk_andE z 8 (by decide)
/-- the list that a value hangs in -/
def ma_sl (v : Int32) : Nat := (((v ^^^ (v >>> ((3 : Int32) &&& 31))) ^^^ (v >>> ((8 : Int32) &&& 31))) ^^^ (v >>> ((11 : Int32) &&& 31))).toBitVec.toNat % 8
theorem ma_sl8 (v : Int32) : ma_sl v < 8 := Nat.mod_lt _ (by omega)
theorem ma_slE (v : Int32) : (((v ^^^ (v >>> ((3 : Int32) &&& 31))) ^^^ (v >>> ((8 : Int32) &&& 31))) ^^^ (v >>> ((11 : Int32) &&& 31))) &&& 7 = nI (ma_sl v) := pk_and _ 3 (by decide)
theorem ma_ix (g s : Nat) : 8 * nI g + nI s = nI (8 * g + s) := by
  rw [show (8 : Int32) = nI 8 from rfl, pk_mul, nI_add]
theorem ma_by : ∀ t, t < 128 → (nI t).toInt8.toInt32 = nI t := by decide +kernel
theorem ma_nar {t : Nat} (h : t < 128) : vp_nar .byte (nI t) = nI t := by rw [vp_nar_byte, ma_by t h]
theorem ma_fill {s : Nat → Int32} {i k : Nat} {x : Int32} (hk : k = i) (h : ∀ j, j < i → s j = x) : ∀ j, j < i + 1 → upd s k x j = x := by
  intro j hj
  rw [hk]
  by_cases e : j = i
  · rw [e, pk_us]
  · rw [pk_un e]
    exact h j (by omega)
end
section
section
variable {f0 f1 f2 f3 f4 f5 : Int32} {a1 a2 a3 a4 a5 a6 a7 a8 a9 a10 a11 a12 a13 a14 a15 a16 : Nat → Int32}
theorem ma_init154 {post : St2 → Prop} {mc ms kc ks : Nat} (H : ∀ b : Nat → Int32, (∀ j, j < 32 → b j = -1) → post (f0, f1, f2, f3, f4, f5, a1, a2, a3, b, a5, a6, a7, a8, a9, a10, a11, a12, a13, a14, a15, a16)) : ∃ n, wX_init_154 post mc ms kc ks f0 f1 f2 f3 f4 f5 n 0 a1 a2 a3 a4 a5 a6 a7 a8 a9 a10 a11 a12 a13 a14 a15 a16 :=
  pk_loop (fun n i s => wX_init_154 post mc ms kc ks f0 f1 f2 f3 f4 f5 n (nI i) a1 a2 a3 s a5 a6 a7 a8 a9 a10 a11 a12 a13 a14 a15 a16) (fun i s => ∀ j, j < i → s j = -1) 32 0 a4 (by omega) (fun j hj => absurd hj (by omega))
    (fun n s h => pk_le 32 32 (fun _ => H s h) (fun z => absurd z (by omega)))
    (fun n i s hi h hw => pk_le 32 i (fun z => absurd z (by omega)) (fun _ => ⟨pk_in i 32 hi, nm_e (nm_r (nI_1 i) (hw _ (ma_fill (nI_clamp (by omega)) h)))⟩))
theorem ma_init {post : St2 → Prop} (H : ∀ b : Nat → Int32, (∀ j, j < 32 → b j = -1) → post (3, 0, 0, 0, 0, 0, (upd (upd (fun _ => 0) 0 3) 1 3), (fun _ => 0), (fun _ => 0), b, (fun _ => 0), (fun _ => 0), (fun _ => 0), (fun _ => 0), (fun _ => 0), (fun _ => 0), (fun _ => 0), (fun _ => 0), (fun _ => 0), (fun _ => 0), (fun _ => 0), (fun _ => 0))) : wpX_init post 16 884 (0, 0, 0, 0, 0, 0) :=
  ⟨by decide, by decide, by decide, by decide, by decide, by decide, by decide, by decide, by decide, by decide, by decide, by decide, by decide, by decide, by decide, by decide, by decide, by decide, by decide, by decide, by decide, by decide, by decide, by decide, by decide, by decide, by decide, by decide, by decide, by decide, by decide, by decide, nm_e (nm_e (ma_init154 H))⟩
theorem ma_action {post : Int32 → St2 → Prop} {p0 p1 p2 d : Int32} (h0 : ¬ p0 < 0) (h1 : ¬ 4 < p0) (h2 : ¬ p1 < 0) (h3 : ¬ 3 < p1) (h4 : ¬ p2 < 0) (h5 : p2 ≤ 255) (hd : (p0 ||| (p1 <<< ((3 : Int32) &&& 31))) ||| (p2 <<< ((5 : Int32) &&& 31)) = d) (H : post 1 (d, f1, f2, f3, f4, f5, a1, a2, a3, a4, a5, a6, a7, a8, a9, a10, a11, a12, a13, a14, a15, a16)) : wpX_action post (f0, f1, f2, f3, f4, f5, a1, a2, a3, a4, a5, a6, a7, a8, a9, a10, a11, a12, a13, a14, a15, a16) p0 p1 p2 :=
  br_f h0 (br_f h1 (br_f h2 (br_f h3 (br_f h4 (br_t h5 (nm_r hd H))))))
theorem ma_add16 {post : Int32 → St2 → Prop} {x y : Int32} (h : a4 16 < 0) (H : post (f1 + 1 - 1) (f0, (f1 + 1), f2, f3, f4, f5, a1, a2, (upd a3 1 ((a3 1 + 1).toInt8.toInt32)), (upd a4 16 f1), (upd a5 16 f0), (upd a6 16 x), (upd a7 16 y), a8, a9, a10, a11, a12, a13, a14, a15, a16)) : wpX_addEntry post (f0, f1, f2, f3, f4, f5, a1, a2, a3, a4, a5, a6, a7, a8, a9, a10, a11, a12, a13, a14, a15, a16) 1 x y :=
  nm_r (show (16 : Int32) * 1 = 16 by rfl) ⟨0 + 1, pk_in 16 32 (by omega), br_t h ⟨pk_in 16 32 (by omega), nm_e ⟨pk_in 16 32 (by omega), nm_e ⟨pk_in 16 32 (by omega), nm_e ⟨pk_in 16 32 (by omega), nm_e ⟨pk_in 1 2 (by omega), pk_in 1 2 (by omega), nm_e (nm_e H)⟩⟩⟩⟩⟩⟩
theorem ma_add17 {post : Int32 → St2 → Prop} {x y : Int32} (h0 : ¬ a4 16 < 0) (h : a4 17 < 0) (H : post (f1 + 1 - 1) (f0, (f1 + 1), f2, f3, f4, f5, a1, a2, (upd a3 1 ((a3 1 + 1).toInt8.toInt32)), (upd a4 17 f1), (upd a5 17 f0), (upd a6 17 x), (upd a7 17 y), a8, a9, a10, a11, a12, a13, a14, a15, a16)) : wpX_addEntry post (f0, f1, f2, f3, f4, f5, a1, a2, a3, a4, a5, a6, a7, a8, a9, a10, a11, a12, a13, a14, a15, a16) 1 x y :=
  nm_r (show (16 : Int32) * 1 = 16 by rfl) ⟨0 + 1 + 1, pk_in 16 32 (by omega), br_f h0 (nm_r (show (16 : Int32) + 1 = 17 by rfl) ⟨pk_in 17 32 (by omega), br_t h ⟨pk_in 17 32 (by omega), nm_e ⟨pk_in 17 32 (by omega), nm_e ⟨pk_in 17 32 (by omega), nm_e ⟨pk_in 17 32 (by omega), nm_e ⟨pk_in 1 2 (by omega), pk_in 1 2 (by omega), nm_e (nm_e H)⟩⟩⟩⟩⟩⟩)⟩
theorem ma_masked16 {post : Int32 → St2 → Prop} {p q r : Int32} (h3 : a3 1 < 16) (hp : ¬ p < 0) (hp' : ¬ 65535 < p) (hq : ¬ q < 0) (hq' : ¬ 65535 < q) (hr : ¬ r < 0) (hr' : r ≤ 15) (h : a4 16 < 0) (H : post (f1 + 1 - 1) (f0, (f1 + 1), f2, f3, 0, f5, a1, a2, (upd a3 1 ((a3 1 + 1).toInt8.toInt32)), (upd a4 16 f1), (upd a5 16 f0), (upd a6 16 (ma_K p q r)), (upd a7 16 (ma_W p q)), a8, a9, a10, a11, a12, a13, a14, a15, a16)) : wpX_addMasked post (f0, f1, f2, f3, f4, f5, a1, a2, a3, a4, a5, a6, a7, a8, a9, a10, a11, a12, a13, a14, a15, a16) p q r :=
  br_t h3 (br_f hp (br_f hp' (br_f hq (br_f hq' (br_f hr (br_t hr' (nm_e (nm_e (ma_add16 h H))))))))) 
theorem ma_masked17 {post : Int32 → St2 → Prop} {p q r : Int32} (h3 : a3 1 < 16) (hp : ¬ p < 0) (hp' : ¬ 65535 < p) (hq : ¬ q < 0) (hq' : ¬ 65535 < q) (hr : ¬ r < 0) (hr' : r ≤ 15) (h0 : ¬ a4 16 < 0) (h : a4 17 < 0) (H : post (f1 + 1 - 1) (f0, (f1 + 1), f2, f3, 0, f5, a1, a2, (upd a3 1 ((a3 1 + 1).toInt8.toInt32)), (upd a4 17 f1), (upd a5 17 f0), (upd a6 17 (ma_K p q r)), (upd a7 17 (ma_W p q)), a8, a9, a10, a11, a12, a13, a14, a15, a16)) : wpX_addMasked post (f0, f1, f2, f3, f4, f5, a1, a2, a3, a4, a5, a6, a7, a8, a9, a10, a11, a12, a13, a14, a15, a16) p q r :=
  br_t h3 (br_f hp (br_f hp' (br_f hq (br_f hq' (br_f hr (br_t hr' (nm_e (nm_e (ma_add17 h0 h H))))))))) 
theorem ma_field {post : Int32 → St2 → Prop} {f : Nat} {v : Int32} (hf : f < 4) (h0 : ¬ v < 0) (h1 : v ≤ 255) (H : post 1 (f0, f1, f2, f3, f4, f5, a1, (upd a2 f v), a3, a4, a5, a6, a7, a8, a9, a10, a11, a12, a13, a14, a15, a16)) : wpX_field post (f0, f1, f2, f3, f4, f5, a1, a2, a3, a4, a5, a6, a7, a8, a9, a10, a11, a12, a13, a14, a15, a16) (nI f) v :=
  br_f (nI_pos (by omega)) (br_f (nI_nlt (a := 3) (b := f) (by omega) (by omega)) (br_f h0 (br_t h1 ⟨pk_in f 4 hf, nm_r (by rw [nI_clamp (by omega)]) H⟩)))
end
end
section
section
variable {f0 f1 f2 f3 f4 f5 : Int32} {a1 a2 a3 a4 a5 a6 a7 a8 a9 a10 a11 a12 a13 a14 a15 a16 : Nat → Int32}
theorem ma_gofN0 {post : Int32 → Prop} {w : Int32} (H : post (-1)) : wpX_groupOf post (f0, f1, f2, f3, f4, 0, a1, a2, a3, a4, a5, a6, a7, a8, a9, a10, a11, a12, a13, a14, a15, a16) w := ⟨0 + 1, br_t (by decide) H⟩
theorem ma_gofN1 {post : Int32 → Prop} {w : Int32} (h : ¬ a13 0 = w) (H : post (-1)) : wpX_groupOf post (f0, f1, f2, f3, f4, 1, a1, a2, a3, a4, a5, a6, a7, a8, a9, a10, a11, a12, a13, a14, a15, a16) w :=
  ⟨0 + 1 + 1, br_f (by decide) ⟨pk_in 0 16 (by omega), br_f h (nm_r (show (0 : Int32) + 1 = 1 by rfl) (br_t (by decide) H))⟩⟩
theorem ma_gof0 {post : Int32 → Prop} {w : Int32} (hc : ¬ f5 ≤ 0) (h : a13 0 = w) (H : post 0) : wpX_groupOf post (f0, f1, f2, f3, f4, f5, a1, a2, a3, a4, a5, a6, a7, a8, a9, a10, a11, a12, a13, a14, a15, a16) w :=
  ⟨0 + 1, br_f hc ⟨pk_in 0 16 (by omega), br_t h H⟩⟩
theorem ma_gof1 {post : Int32 → Prop} {w : Int32} (h0 : ¬ a13 0 = w) (h : a13 1 = w) (H : post 1) : wpX_groupOf post (f0, f1, f2, f3, f4, 2, a1, a2, a3, a4, a5, a6, a7, a8, a9, a10, a11, a12, a13, a14, a15, a16) w :=
  ⟨0 + 1 + 1, br_f (by decide) ⟨pk_in 0 16 (by omega), br_f h0 (nm_r (show (0 : Int32) + 1 = 1 by rfl) (br_f (by decide) ⟨pk_in 1 16 (by omega), br_t h H⟩))⟩⟩
theorem ma_prW {post : Int32 → Prop} {x : Nat} {r : Int32} (hx : x < 32) (h : a6 x >>> ((16 : Int32) &&& 31) = r) (H : post r) : wpX_priorityOf post (f0, f1, f2, f3, f4, f5, a1, a2, a3, a4, a5, a6, a7, a8, a9, a10, a11, a12, a13, a14, a15, a16) (nI x) := by
  refine ⟨pk_in x 32 hx, ?_⟩
  rw [nI_clamp (show x < 2 ^ 31 by omega), h]
  exact H
theorem ma_prec {post : Int32 → Prop} {x y P Q : Nat} (hx : x < 32) (hy : y < 32) (hX : a6 x >>> ((16 : Int32) &&& 31) = nI P) (hY : a6 y >>> ((16 : Int32) &&& 31) = nI Q) (hP : P < 16) (hQ : Q < 16)
    (H1 : (Q < P ∨ (P = Q ∧ ¬ a4 y ≤ a4 x)) → post 1) (H0 : ¬ (Q < P ∨ (P = Q ∧ ¬ a4 y ≤ a4 x)) → post 0) : wpX_precedes post (f0, f1, f2, f3, f4, f5, a1, a2, a3, a4, a5, a6, a7, a8, a9, a10, a11, a12, a13, a14, a15, a16) (nI x) (nI y) := by
  unfold wpX_precedes
  dsimp only
  refine ma_prW hx hX (ma_prW hy hY (pk_lt Q P (fun z => H1 (Or.inl z)) (fun z => pk_eq P Q (fun e => ⟨pk_in x 32 hx, pk_in y 32 hy, ?_⟩) (fun e => H0 (by omega)))))
  rw [nI_clamp (show x < 2 ^ 31 by omega), nI_clamp (show y < 2 ^ 31 by omega)]
  exact br_c (fun g => H0 (fun t => t.elim (fun u => absurd u (by omega)) (fun u => u.2 g))) (fun g => H1 (Or.inr ⟨e, g⟩))
theorem ma_note49 {post : St2 → Prop} {e g P T : Nat} (he : e < 32) (hg : g < 16) (hP : a6 e >>> ((16 : Int32) &&& 31) = nI P) (hP6 : P < 16) (hT : a14 g = nI T) (hT6 : T < 16)
    (H : ∀ b : Nat → Int32, b g = nI (max T P) → (∀ j, j ≠ g → b j = a14 j) → post (f0, f1, f2, f3, f4, f5, a1, a2, a3, a4, a5, a6, a7, a8, a9, a10, a11, a12, a13, b, a15, a16)) : wX_noteGroup_49 post (nI e) (nI g) f0 f1 f2 f3 f4 f5 a1 a2 a3 a4 a5 a6 a7 a8 a9 a10 a11 a12 a13 a14 a15 a16 := by
  unfold wX_noteGroup_49
  refine ma_prW he hP ⟨pk_in g 16 hg, ?_⟩
  rw [nI_clamp (show g < 2 ^ 31 by omega), nI_clamp (show e < 2 ^ 31 by omega), hP, hT]
  refine pk_le P T (fun z => H a14 ?_ (fun _ _ => rfl)) (fun z => ⟨pk_in e 32 he, pk_in g 16 hg, nm_e (H _ ?_ (fun j hj => pk_un hj))⟩)
  · rw [hT, Nat.max_eq_left z]
  · rw [pk_us, ma_by P (by omega), Nat.max_eq_right (by omega)]
theorem ma_noteNew {post : St2 → Prop} {e c P : Nat} (he : e < 32) (hc : c < 15) (hP : a6 e >>> ((16 : Int32) &&& 31) = nI P) (hP6 : P < 16)
    (hg : ∀ ψ : Int32 → Prop, ψ (-1) → wpX_groupOf ψ (f0, f1, f2, f3, f4, (nI c), a1, a2, a3, a4, a5, a6, a7, a8, a9, a10, a11, a12, a13, a14, a15, a16) (a7 e))
    (H : ∀ b : Nat → Int32, b c = nI P → (∀ j, j ≠ c → b j = a14 j) → post (f0, f1, f2, f3, f4, (nI (c + 1)), a1, a2, a3, a4, a5, a6, a7, a8, a9, a10, a11, a12, (upd a13 c (a7 e)), b, a15, a16)) : wpX_noteGroup post (f0, f1, f2, f3, f4, (nI c), a1, a2, a3, a4, a5, a6, a7, a8, a9, a10, a11, a12, a13, a14, a15, a16) (nI e) := by
  unfold wpX_noteGroup
  dsimp only
  rw [nI_clamp (show c < 2 ^ 31 by omega), nI_clamp (show e < 2 ^ 31 by omega)]
  refine ⟨pk_in e 32 he, hg _ (br_f (by decide) (nm_r (nI_1 c) ⟨pk_in e 32 he, pk_in c 16 (by omega), nm_e ⟨pk_in c 16 (by omega), nm_e ?_⟩⟩))⟩
  refine ma_note49 (T := 0) he (by omega) hP hP6 (by rw [pk_us]; rfl) (by omega) (fun b h1 h2 => H b ?_ (fun j hj => ?_))
  · rw [h1, Nat.max_eq_right (by omega)]
  · rw [h2 j hj, pk_un hj]
theorem ma_noteOld {post : St2 → Prop} {e g P T : Nat} (he : e < 32) (hg6 : g < 16) (hP : a6 e >>> ((16 : Int32) &&& 31) = nI P) (hP6 : P < 16) (hT : a14 g = nI T) (hT6 : T < 16)
    (hg : ∀ ψ : Int32 → Prop, ψ (nI g) → wpX_groupOf ψ (f0, f1, f2, f3, f4, f5, a1, a2, a3, a4, a5, a6, a7, a8, a9, a10, a11, a12, a13, a14, a15, a16) (a7 e))
    (H : ∀ b : Nat → Int32, post (f0, f1, f2, f3, f4, f5, a1, a2, a3, a4, a5, a6, a7, a8, a9, a10, a11, a12, a13, b, a15, a16)) : wpX_noteGroup post (f0, f1, f2, f3, f4, f5, a1, a2, a3, a4, a5, a6, a7, a8, a9, a10, a11, a12, a13, a14, a15, a16) (nI e) := by
  unfold wpX_noteGroup
  dsimp only
  rw [nI_clamp (show e < 2 ^ 31 by omega)]
  exact ⟨pk_in e 32 he, hg _ (br_t (nI_pos' (by omega)) (ma_note49 he hg6 hP hP6 hT hT6 (fun b _ _ => H b)))⟩
theorem ma_sort1 {post : St2 → Prop} (H : post (f0, f1, f2, f3, f4, 1, a1, a2, a3, a4, a5, a6, a7, a8, a9, a10, a11, a12, a13, a14, a15, a16)) : wpX_sortGroups post (f0, f1, f2, f3, f4, 1, a1, a2, a3, a4, a5, a6, a7, a8, a9, a10, a11, a12, a13, a14, a15, a16) := ⟨0 + 1, br_t (by decide) H⟩
theorem ma_sort2 {post : St2 → Prop} {R0 R1 : Nat} (h0 : a14 0 = nI R0) (h1 : a14 1 = nI R1) (r0 : R0 < 16) (r1 : R1 < 16)
    (H : ∀ b13 b14 : Nat → Int32, ((R1 ≤ R0 ∧ b13 0 = a13 0 ∧ b13 1 = a13 1 ∧ b14 1 = nI R1) ∨ (R0 < R1 ∧ b13 0 = a13 1 ∧ b13 1 = a13 0 ∧ b14 1 = nI R0)) → post (f0, f1, f2, f3, f4, 2, a1, a2, a3, a4, a5, a6, a7, a8, a9, a10, a11, a12, b13, b14, a15, a16)) : wpX_sortGroups post (f0, f1, f2, f3, f4, 2, a1, a2, a3, a4, a5, a6, a7, a8, a9, a10, a11, a12, a13, a14, a15, a16) := by
  refine ⟨0 + 1 + 1, br_f (by decide) ⟨pk_in 1 16 (by omega), nm_r (show a13 (1 : Int32).toNatClampNeg = a13 1 by rfl) ⟨pk_in 1 16 (by omega), nm_r (show a14 (1 : Int32).toNatClampNeg = nI R1 from h1) ⟨0 + 1 + 1, br_f (by decide) ⟨pk_in 0 16 (by omega), ?_⟩⟩⟩⟩⟩
  refine pk_le R1 R0 (fun z => ?_) (fun z => ?_) rfl h0
  · refine ⟨pk_in 1 16 (by omega), nm_e ⟨pk_in 1 16 (by omega), nm_e (nm_r (show (1 : Int32) + 1 = 2 by rfl) (br_t (by decide) (H _ _ (Or.inl ⟨z, ?_, ?_, ?_⟩))))⟩⟩
    · exact pk_un (by decide)
    · exact pk_us
    · exact Eq.trans pk_us (ma_nar (by omega))
  · refine ⟨pk_in 0 16 (by omega), pk_in 1 16 (by omega), nm_e ⟨pk_in 0 16 (by omega), pk_in 1 16 (by omega), nm_e (nm_r (show (1 : Int32) + (-1) = 0 by rfl) (br_t (by decide) ⟨pk_in 0 16 (by omega), nm_e ⟨pk_in 0 16 (by omega), nm_e (nm_r (show (1 : Int32) + 1 = 2 by rfl) (br_t (by decide) (H _ _ (Or.inr ⟨z, ?_, ?_, ?_⟩))))⟩⟩))⟩⟩
    · exact pk_us
    · exact Eq.trans (pk_un (by decide)) pk_us
    · refine Eq.trans (pk_un (by decide)) (Eq.trans pk_us ?_)
      rw [show a14 ((1 : Int32) - 1).toNatClampNeg = nI R0 from h0]
      exact ma_nar (by omega)
theorem ma_slW {post : Int32 → Prop} {v : Int32} (H : post (nI (ma_sl v))) : wpX_slotOf post (f0, f1, f2, f3, f4, f5, a1, a2, a3, a4, a5, a6, a7, a8, a9, a10, a11, a12, a13, a14, a15, a16) v := by
  unfold wpX_slotOf
  dsimp only
  rw [ma_slE]
  exact H
theorem ma_hang1 {post : St2 → Prop} {e g : Nat} {v : Int32} (he : e < 32) (hg6 : g < 16) (hg : ∀ ψ : Int32 → Prop, ψ (nI g) → wpX_groupOf ψ (f0, f1, f2, f3, f4, f5, a1, a2, a3, a4, a5, a6, a7, a8, a9, a10, a11, a12, a13, a14, a15, a16) (a7 e)) (hv : a6 e &&& 65535 = v) (h : a15 (8 * g + ma_sl v) = -1)
    (H : post (f0, f1, f2, f3, f4, f5, a1, a2, a3, a4, a5, a6, a7, a8, a9, a10, a11, a12, a13, a14, (upd a15 (8 * g + ma_sl v) (nI e)), (upd a16 e (-1)))) : wpX_hang post (f0, f1, f2, f3, f4, f5, a1, a2, a3, a4, a5, a6, a7, a8, a9, a10, a11, a12, a13, a14, a15, a16) (nI e) := by
  have s8 := ma_sl8 v
  unfold wpX_hang
  dsimp only
  rw [nI_clamp (show e < 2 ^ 31 by omega), hv]
  refine ⟨pk_in e 32 he, hg _ ⟨pk_in e 32 he, ma_slW (nm_r (ma_ix g (ma_sl v)) ⟨pk_in (8 * g + ma_sl v) 128 (by omega), nm_r (e' := -1) (by rw [nI_clamp (by omega), h]) ⟨0 + 1, br_t (by decide) ?_⟩⟩)⟩⟩
  refine ⟨pk_in e 32 he, nm_r (e' := upd a16 e (-1)) (by rw [nI_clamp (by omega)]; rfl) (br_f (by decide) ⟨pk_in (8 * g + ma_sl v) 128 (by omega), nm_r (e' := upd a15 (8 * g + ma_sl v) (nI e)) (by rw [nI_clamp (by omega), ma_by e (by omega)]) H⟩)⟩
theorem ma_hang2 {post : St2 → Prop} {g P Q : Nat} {v : Int32} (hg6 : g < 16) (hg : ∀ ψ : Int32 → Prop, ψ (nI g) → wpX_groupOf ψ (f0, f1, f2, f3, f4, f5, a1, a2, a3, a4, a5, a6, a7, a8, a9, a10, a11, a12, a13, a14, a15, a16) (a7 17)) (hv : a6 17 &&& 65535 = v) (h : a15 (8 * g + ma_sl v) = 16) (hn : a16 16 = -1)
    (hX : a6 16 >>> ((16 : Int32) &&& 31) = nI P) (hY : a6 17 >>> ((16 : Int32) &&& 31) = nI Q) (hP : P < 16) (hQ : Q < 16) (h4 : ¬ a4 17 ≤ a4 16)
    (H1 : Q ≤ P → post (f0, f1, f2, f3, f4, f5, a1, a2, a3, a4, a5, a6, a7, a8, a9, a10, a11, a12, a13, a14, a15, (upd (upd a16 17 (-1)) 16 17))) (H2 : P < Q → post (f0, f1, f2, f3, f4, f5, a1, a2, a3, a4, a5, a6, a7, a8, a9, a10, a11, a12, a13, a14, (upd a15 (8 * g + ma_sl v) 17), (upd a16 17 16))) : wpX_hang post (f0, f1, f2, f3, f4, f5, a1, a2, a3, a4, a5, a6, a7, a8, a9, a10, a11, a12, a13, a14, a15, a16) (nI 17) := by
  have s8 := ma_sl8 v
  unfold wpX_hang
  dsimp only
  rw [nI_clamp (show 17 < 2 ^ 31 by omega), hv]
  refine ⟨pk_in 17 32 (by omega), hg _ ⟨pk_in 17 32 (by omega), ma_slW (nm_r (ma_ix g (ma_sl v)) ⟨pk_in (8 * g + ma_sl v) 128 (by omega), nm_r (e' := nI 16) (by rw [nI_clamp (by omega), h]; rfl) ⟨0 + 1 + 1, br_f (by decide) ?_⟩⟩)⟩⟩
  refine ma_prec (by omega) (by omega) hX hY hP hQ (fun z => ?_) (fun z => ?_)
  · refine br_f (by decide) ⟨pk_in 16 32 (by omega), nm_r (e' := -1) hn (br_t (by decide) ?_)⟩
    exact ⟨pk_in 17 32 (by omega), nm_r (e' := upd a16 17 (-1)) (by rfl) (br_t (by decide) ⟨pk_in 16 32 (by omega), nm_r (e' := upd (upd a16 17 (-1)) 16 17) (by rfl) (H1 (by omega))⟩)⟩
  · have z' : P < Q := by
      rcases Nat.lt_or_ge P Q with t | t
      · exact t
      · exact absurd (if c : Q < P then Or.inl c else Or.inr ⟨by omega, h4⟩) z
    refine br_t rfl ?_
    exact ⟨pk_in 17 32 (by omega), nm_r (e' := upd a16 17 16) (by rfl) (br_f (by decide) ⟨pk_in (8 * g + ma_sl v) 128 (by omega), nm_r (e' := upd a15 (8 * g + ma_sl v) 17) (by rw [nI_clamp (by omega)]; rfl) (H2 z')⟩)⟩
theorem ma_mg20 {post : St2 → Prop} (H : ∀ b : Nat → Int32, (∀ j, j < 128 → b j = -1) → ∃ n, wX_makeGroups_43 post n 16 f0 f1 f2 f3 f4 f5 a1 a2 a3 a4 a5 a6 a7 a8 a9 a10 a11 a12 a13 a14 b a16) : ∃ n, wX_makeGroups_20 post f0 f1 f2 f3 f4 f5 n 0 a1 a2 a3 a4 a5 a6 a7 a8 a9 a10 a11 a12 a13 a14 a15 a16 :=
  pk_loop (fun n i s => wX_makeGroups_20 post f0 f1 f2 f3 f4 f5 n (nI i) a1 a2 a3 a4 a5 a6 a7 a8 a9 a10 a11 a12 a13 a14 s a16) (fun i s => ∀ j, j < i → s j = -1) 128 0 a15 (by omega) (fun j hj => absurd hj (by omega))
    (fun n s h => pk_le 128 128 (fun _ => H s h) (fun z => absurd z (by omega)))
    (fun n i s hi h hw => pk_le 128 i (fun z => absurd z (by omega)) (fun _ => ⟨pk_in i 128 hi, nm_e (nm_r (nI_1 i) (hw _ (ma_fill (nI_clamp (by omega)) h)))⟩))
theorem ma_skip43 {post : St2 → Prop} {n : Nat} (h : ∀ j, 18 ≤ j → j < 32 → a4 j = -1) (H : wX_makeGroups_43 post (n + 1) 32 f0 f1 f2 f3 f4 f5 a1 a2 a3 a4 a5 a6 a7 a8 a9 a10 a11 a12 a13 a14 a15 a16) : ∀ d, d ≤ 14 → wX_makeGroups_43 post (n + 1 + d) (nI (32 - d)) f0 f1 f2 f3 f4 f5 a1 a2 a3 a4 a5 a6 a7 a8 a9 a10 a11 a12 a13 a14 a15 a16
  | 0, _ => H
  | d + 1, hd => by
    refine br_f (nI_ge (a := 32 - (d + 1)) (b := 32) (by omega) (by omega)) ⟨pk_in (32 - (d + 1)) 32 (by omega), br_t ?_ (nm_r (e' := nI (32 - d)) ?_ (ma_skip43 h H d (by omega)))⟩
    · rw [nI_clamp (by omega), h _ (by omega) (by omega)]
      decide
    · rw [nI_1, show 32 - (d + 1) + 1 = 32 - d by omega]
theorem ma_skip76 {post : St2 → Prop} {n : Nat} (h : ∀ j, 18 ≤ j → j < 32 → a4 j = -1) (H : wX_makeGroups_76 post (n + 1) 32 f0 f1 f2 f3 f4 f5 a1 a2 a3 a4 a5 a6 a7 a8 a9 a10 a11 a12 a13 a14 a15 a16) : ∀ d, d ≤ 14 → wX_makeGroups_76 post (n + 1 + d) (nI (32 - d)) f0 f1 f2 f3 f4 f5 a1 a2 a3 a4 a5 a6 a7 a8 a9 a10 a11 a12 a13 a14 a15 a16
  | 0, _ => H
  | d + 1, hd => by
    refine br_f (nI_ge (a := 32 - (d + 1)) (b := 32) (by omega) (by omega)) ⟨pk_in (32 - (d + 1)) 32 (by omega), br_t ?_ (nm_r (e' := nI (32 - d)) ?_ (ma_skip76 h H d (by omega)))⟩
    · rw [nI_clamp (by omega), h _ (by omega) (by omega)]
      decide
    · rw [nI_1, show 32 - (d + 1) + 1 = 32 - d by omega]
end
end
section
/-- list row g: value v hangs there with head e, nothing else does -/
def ma_L (b : Nat → Int32) (g : Nat) (v : Int32) (e : Nat) : Prop := ∀ s, s < 8 → b (8 * g + s) = if s = ma_sl v then nI e else -1
/-- one group, a chain of two -/
def ma_P1 (gc : Int32) (b13 b15 b16 : Nat → Int32) (w v : Int32) (ea eb : Nat) : Prop := gc = 1 ∧ b13 0 = w ∧ ma_L b15 0 v ea ∧ b16 ea = nI eb ∧ b16 eb = -1
/-- two groups of one entry each -/
def ma_P2 (gc : Int32) (b13 b14 b15 b16 : Nat → Int32) (wa va : Int32) (ea : Nat) (wb vb : Int32) (eb Rb : Nat) : Prop := gc = 2 ∧ b13 0 = wa ∧ b13 1 = wb ∧ b14 1 = nI Rb ∧ ma_L b15 0 va ea ∧ ma_L b15 1 vb eb ∧ b16 ea = -1 ∧ b16 eb = -1
/-- the groups as made -/
def ma_P (R0 R1 : Nat) (w0 w1 v0 v1 : Int32) (gc : Int32) (b13 b14 b15 b16 : Nat → Int32) : Prop :=
  (w0 = w1 ∧ ((R1 ≤ R0 ∧ ma_P1 gc b13 b15 b16 w0 v0 16 17) ∨ (R0 < R1 ∧ ma_P1 gc b13 b15 b16 w0 v0 17 16))) ∨ (¬ w0 = w1 ∧ ((R1 ≤ R0 ∧ ma_P2 gc b13 b14 b15 b16 w0 v0 16 w1 v1 17 R1) ∨ (R0 < R1 ∧ ma_P2 gc b13 b14 b15 b16 w1 v1 17 w0 v0 16 R0)))
/-- the two entries -/
def ma_E (R0 R1 : Nat) (w0 w1 v0 v1 : Int32) (a4 a6 a7 : Nat → Int32) : Prop :=
  (a4 16 = 0 ∧ a4 17 = 1 ∧ (∀ j, j < 16 → a4 j = -1) ∧ (∀ j, 18 ≤ j → j < 32 → a4 j = -1)) ∧ (a7 16 = w0 ∧ a7 17 = w1) ∧ (a6 16 >>> ((16 : Int32) &&& 31) = nI R0 ∧ a6 17 >>> ((16 : Int32) &&& 31) = nI R1 ∧ a6 16 &&& 65535 = v0 ∧ a6 17 &&& 65535 = v1) ∧ (R0 < 16 ∧ R1 < 16) ∧ (w0 = w1 → w0 = 0 ∧ v0 = 0 ∧ v1 = 0)
theorem ma_Lu {b : Nat → Int32} {g e : Nat} {v : Int32} (h : ∀ s, s < 8 → s ≠ ma_sl v → b (8 * g + s) = -1) : ma_L (upd b (8 * g + ma_sl v) (nI e)) g v e := by
  intro s hs
  by_cases c : s = ma_sl v
  · rw [if_pos c, c, pk_us]
  · rw [if_neg c, pk_un (by omega)]
    exact h s hs c
theorem ma_Lo {b : Nat → Int32} {g k e : Nat} {v u x : Int32} (h : ma_L b g v e) (hk : k ≠ g) : ma_L (upd b (8 * k + ma_sl u) x) g v e := by
  intro s hs
  have := ma_sl8 u
  rw [pk_un (by omega)]
  exact h s hs
section
variable {f0 f1 f2 f3 f4 f5 : Int32} {a1 a2 a3 a4 a5 a6 a7 a8 a9 a10 a11 a12 a13 a14 a15 a16 : Nat → Int32}
theorem ma_mg {post : St2 → Prop} {R0 R1 : Nat} {w0 w1 v0 v1 : Int32} (E : ma_E R0 R1 w0 w1 v0 v1 a4 a6 a7)
    (H : ∀ (gc : Int32) (b13 b14 b15 b16 : Nat → Int32), ma_P R0 R1 w0 w1 v0 v1 gc b13 b14 b15 b16 → post (f0, f1, f2, f3, 1, gc, a1, a2, a3, a4, a5, a6, a7, a8, a9, a10, a11, a12, b13, b14, b15, b16)) : wpX_makeGroups post (f0, f1, f2, f3, 0, f5, a1, a2, a3, a4, a5, a6, a7, a8, a9, a10, a11, a12, a13, a14, a15, a16) := by
  obtain ⟨⟨h16, h17, _, ho⟩, ⟨w16, w17⟩, ⟨p16, p17, k16, k17⟩, ⟨r0, r1⟩, hs⟩ := E
  have n16 : ¬ a4 16 < 0 := by rw [h16]; decide
  have n17 : ¬ a4 17 < 0 := by rw [h17]; decide
  have s0 := ma_sl8 v0
  have s1 := ma_sl8 v1
  refine br_t rfl (ma_mg20 (fun b hb => ?_))
  refine ⟨0 + 1 + 14 + 1 + 1, br_f (by decide) ⟨pk_in 16 32 (by omega), br_f n16 ?_⟩⟩
  refine ma_noteNew (e := 16) (c := 0) (P := R0) (by omega) (by omega) p16 r0 (fun ψ h => ma_gofN0 h) (fun c14 h1 h2 => nm_r (e' := nI 17) (by rfl) ?_)
  refine br_f (by decide) ⟨pk_in 17 32 (by omega), br_f n17 ?_⟩
  by_cases hw : w0 = w1
  · obtain ⟨_, e0, e1⟩ := hs hw
    have ev : v0 = v1 := by rw [e0, e1]
    refine ma_noteOld (e := 17) (g := 0) (P := R1) (T := R0) (by omega) (by omega) p17 r1 h1 r0 (fun ψ h => ma_gof0 (by decide) (by rw [pk_us, w16, w17, hw]) h) (fun d14 => nm_r (e' := nI 18) (by rfl) ?_)
    refine ma_skip43 ho ?_ 14 (by omega)
    refine br_t (by decide) (ma_sort1 ⟨0 + 1 + 14 + 1 + 1, br_f (by decide) ⟨pk_in 16 32 (by omega), br_f n16 ?_⟩⟩)
    refine ma_hang1 (e := 16) (g := 0) (v := v0) (by omega) (by omega) (fun ψ h => ma_gof0 (by decide) (by rw [pk_us]) h) k16 (hb _ (by omega)) (nm_r (e' := nI 17) (by rfl) ?_)
    refine br_f (by decide) ⟨pk_in 17 32 (by omega), br_f n17 ?_⟩
    refine ma_hang2 (g := 0) (v := v1) (P := R0) (Q := R1) (by omega) (fun ψ h => ma_gof0 (by decide) (by rw [pk_us, w16, w17, hw]) h) k17 (by rw [← ev, pk_us]; rfl) pk_us p16 p17 r0 r1 (by rw [h16, h17]; decide) (fun z => nm_r (e' := nI 18) (by rfl) ?_) (fun z => nm_r (e' := nI 18) (by rfl) ?_)
    · refine ma_skip76 ho (br_t (by decide) (H _ _ _ _ _ (Or.inl ⟨hw, Or.inl ⟨z, rfl, ?_, ?_, ?_, ?_⟩⟩))) 14 (by omega)
      · rw [pk_us, w16]
      · exact ma_Lu (fun s h _ => hb _ (by omega))
      · exact pk_us
      · rw [pk_un (by decide), pk_us]
    · refine ma_skip76 ho (br_t (by decide) (H _ _ _ _ _ (Or.inl ⟨hw, Or.inr ⟨z, rfl, ?_, ?_, ?_, ?_⟩⟩))) 14 (by omega)
      · rw [pk_us, w16]
      · rw [ev]
        refine ma_Lu (fun s h t => ?_)
        rw [pk_un (by omega)]
        exact hb _ (by omega)
      · exact pk_us
      · rw [pk_un (by decide), pk_us]
  · refine ma_noteNew (e := 17) (c := 1) (P := R1) (by omega) (by omega) p17 r1 (fun ψ h => ma_gofN1 (by rw [pk_us, w16, w17]; exact hw) h) (fun d14 g1 g2 => nm_r (e' := nI 18) (by rfl) ?_)
    refine ma_skip43 ho ?_ 14 (by omega)
    refine br_t (by decide) (ma_sort2 (R0 := R0) (R1 := R1) (by rw [g2 0 (by decide)]; exact h1) g1 r0 r1 (fun b13 b14 hb2 => ?_))
    have x0 : upd (upd a13 0 (a7 16)) 1 (a7 17) 0 = w0 := by rw [pk_un (by decide), pk_us, w16]
    have x1 : upd (upd a13 0 (a7 16)) 1 (a7 17) 1 = w1 := by rw [pk_us, w17]
    rw [x0, x1] at hb2
    refine ⟨0 + 1 + 14 + 1 + 1, br_f (by decide) ⟨pk_in 16 32 (by omega), br_f n16 ?_⟩⟩
    rcases hb2 with ⟨z, y0, y1, y2⟩ | ⟨z, y0, y1, y2⟩
    · refine ma_hang1 (e := 16) (g := 0) (v := v0) (by omega) (by omega) (fun ψ h => ma_gof0 (by decide) (by rw [y0, w16]) h) k16 (hb _ (by omega)) (nm_r (e' := nI 17) (by rfl) ?_)
      refine br_f (by decide) ⟨pk_in 17 32 (by omega), br_f n17 ?_⟩
      refine ma_hang1 (e := 17) (g := 1) (v := v1) (by omega) (by omega) (fun ψ h => ma_gof1 (by rw [y0, w17]; exact hw) (by rw [y1, w17]) h) k17 (by rw [pk_un (by omega)]; exact hb _ (by omega)) (nm_r (e' := nI 18) (by rfl) ?_)
      refine ma_skip76 ho (br_t (by decide) (H _ _ _ _ _ (Or.inr ⟨hw, Or.inl ⟨z, rfl, y0, y1, y2, ?_, ?_, ?_, ?_⟩⟩))) 14 (by omega)
      · exact ma_Lo (ma_Lu (fun s h _ => hb _ (by omega))) (by decide)
      · refine ma_Lu (fun s h _ => ?_)
        rw [pk_un (by omega)]
        exact hb _ (by omega)
      · rw [pk_un (by decide), pk_us]
      · exact pk_us
    · refine ma_hang1 (e := 16) (g := 1) (v := v0) (by omega) (by omega) (fun ψ h => ma_gof1 (by rw [y0, w16]; exact fun t => hw t.symm) (by rw [y1, w16]) h) k16 (hb _ (by omega)) (nm_r (e' := nI 17) (by rfl) ?_)
      refine br_f (by decide) ⟨pk_in 17 32 (by omega), br_f n17 ?_⟩
      refine ma_hang1 (e := 17) (g := 0) (v := v1) (by omega) (by omega) (fun ψ h => ma_gof0 (by decide) (by rw [y0, w17]) h) k17 (by rw [pk_un (by omega)]; exact hb _ (by omega)) (nm_r (e' := nI 18) (by rfl) ?_)
      refine ma_skip76 ho (br_t (by decide) (H _ _ _ _ _ (Or.inr ⟨hw, Or.inr ⟨z, rfl, y0, y1, y2, ?_, ?_, ?_, ?_⟩⟩))) 14 (by omega)
      · refine ma_Lu (fun s h _ => ?_)
        rw [pk_un (by omega)]
        exact hb _ (by omega)
      · exact ma_Lo (ma_Lu (fun s h _ => hb _ (by omega))) (by decide)
      · exact pk_us
      · rw [pk_un (by decide), pk_us]
theorem ma_mgR {post : St2 → Prop} (H : post (f0, f1, f2, f3, 1, f5, a1, a2, a3, a4, a5, a6, a7, a8, a9, a10, a11, a12, a13, a14, a15, a16)) : wpX_makeGroups post (f0, f1, f2, f3, 1, f5, a1, a2, a3, a4, a5, a6, a7, a8, a9, a10, a11, a12, a13, a14, a15, a16) := br_f (by decide) H
end
end
section
/-- which entry is taken -/
def ma_T (M0 M1 : Prop) (R0 R1 : Nat) (r : Int32) : Prop := (M0 ∧ (¬ M1 ∨ R1 ≤ R0) ∧ r = 16) ∨ (M1 ∧ (¬ M0 ∨ R0 < R1) ∧ r = 17) ∨ (¬ M0 ∧ ¬ M1 ∧ r = -1)
/-- how many match -/
def ma_C (M0 M1 : Prop) (r : Int32) : Prop := (M0 ∧ M1 ∧ r = 2) ∨ (M0 ∧ ¬ M1 ∧ r = 1) ∨ (¬ M0 ∧ M1 ∧ r = 1) ∨ (¬ M0 ∧ ¬ M1 ∧ r = 0)
section
variable {f0 f1 f2 f3 f4 f5 : Int32} {a1 a2 a3 a4 a5 a6 a7 a8 a9 a10 a11 a12 a13 a14 a15 a16 : Nat → Int32}
theorem ma_gp53 {post : Int32 → St2 → Prop} {J : Int32 → Int32 → Prop} {x1 x2 m v : Int32} {g e : Nat} (hg : g < 16) (he : e < 32) (hm : a13 g = m) (hL : ma_L a15 g v e) (hv : a6 e &&& 65535 = v) (hn : ¬ x1 &&& m = v → a16 e = -1)
    (H1 : x1 &&& m = v → wX_greatestPriority_113 post J x1 x2 (nI g) (nI e) f0 f1 f2 f3 f4 f5 a1 a2 a3 a4 a5 a6 a7 a8 a9 a10 a11 a12 a13 a14 a15 a16) (H0 : ¬ x1 &&& m = v → wX_greatestPriority_113 post J x1 x2 (nI g) (-1) f0 f1 f2 f3 f4 f5 a1 a2 a3 a4 a5 a6 a7 a8 a9 a10 a11 a12 a13 a14 a15 a16) : wX_greatestPriority_53 post J x1 x2 (nI g) f0 f1 f2 f3 f4 f5 a1 a2 a3 a4 a5 a6 a7 a8 a9 a10 a11 a12 a13 a14 a15 a16 := by
  have s8 := ma_sl8 (x1 &&& m)
  unfold wX_greatestPriority_53
  rw [nI_clamp (show g < 2 ^ 31 by omega), hm]
  refine ⟨pk_in g 16 hg, nm_e (ma_slW ⟨?_, nm_r (e' := if ma_sl (x1 &&& m) = ma_sl v then nI e else -1) ?_ ?_⟩)⟩
  · rw [ma_ix]
    exact pk_in (8 * g + ma_sl (x1 &&& m)) 128 (by omega)
  · rw [ma_ix, nI_clamp (by omega), hL _ s8]
  · by_cases hq : x1 &&& m = v
    · rw [if_pos (by rw [hq])]
      exact ⟨0 + 1, br_f (nI_pos (by omega)) ⟨pk_in e 32 he, br_t (by rw [nI_clamp (by omega), hv, hq]) (H1 hq)⟩⟩
    · by_cases hs : ma_sl (x1 &&& m) = ma_sl v
      · rw [if_pos hs]
        exact ⟨0 + 1 + 1, br_f (nI_pos (by omega)) ⟨pk_in e 32 he, br_f (by rw [nI_clamp (by omega), hv]; exact fun t => hq t.symm) ⟨pk_in e 32 he, nm_r (e' := -1) (by rw [nI_clamp (by omega), hn hq]) (br_t (by decide) (H0 hq))⟩⟩⟩
      · rw [if_neg hs]
        exact ⟨0 + 1, br_t (by decide) (H0 hq)⟩
theorem ma_gp1 {post : Int32 → St2 → Prop} {x w v : Int32} {ea : Nat} (he : ea < 32) (hm : a13 0 = w) (hL : ma_L a15 0 v ea) (hv : a6 ea &&& 65535 = v) (hx : x &&& w = v)
    (H : post (nI ea) (f0, f1, f2, f3, f4, 1, a1, a2, a3, a4, a5, a6, a7, a8, a9, a10, a11, a12, a13, a14, a15, a16)) : ∃ n, wX_greatestPriority_25 post x f0 f1 f2 f3 f4 1 a1 a2 a3 a4 a5 a6 a7 a8 a9 a10 a11 a12 a13 a14 a15 a16 n (-1) 0 :=
  ⟨0 + 1 + 1, br_f (by decide) (br_t (by decide) (ma_gp53 (g := 0) (e := ea) (m := w) (v := v) (by omega) he hm hL hv (fun t => absurd hx t) (fun _ => br_f (nI_pos (by omega)) (br_t (by decide) (nm_r (e' := 1) (by rfl) (br_t (by decide) H)))) (fun t => absurd hx t)))⟩
theorem ma_gp2 {post : Int32 → St2 → Prop} {x wa va wb vb : Int32} {ea eb Ra Rb : Nat} (ha : ea < 32) (hb : eb < 32) (h0 : a13 0 = wa) (h1 : a13 1 = wb) (ht : a14 1 = nI Rb) (La : ma_L a15 0 va ea) (Lb : ma_L a15 1 vb eb) (na : a16 ea = -1) (nb : a16 eb = -1)
    (ka : a6 ea &&& 65535 = va) (kb : a6 eb &&& 65535 = vb) (pa : a6 ea >>> ((16 : Int32) &&& 31) = nI Ra) (pb : a6 eb >>> ((16 : Int32) &&& 31) = nI Rb) (ra : Ra < 16) (rb : Rb < 16) (hR : Rb < Ra ∨ (Rb = Ra ∧ a4 ea ≤ a4 eb))
    (H1 : x &&& wa = va → post (nI ea) (f0, f1, f2, f3, f4, 2, a1, a2, a3, a4, a5, a6, a7, a8, a9, a10, a11, a12, a13, a14, a15, a16)) (H2 : ¬ x &&& wa = va → x &&& wb = vb → post (nI eb) (f0, f1, f2, f3, f4, 2, a1, a2, a3, a4, a5, a6, a7, a8, a9, a10, a11, a12, a13, a14, a15, a16)) (H3 : ¬ x &&& wa = va → ¬ x &&& wb = vb → post (-1) (f0, f1, f2, f3, f4, 2, a1, a2, a3, a4, a5, a6, a7, a8, a9, a10, a11, a12, a13, a14, a15, a16)) : ∃ n, wX_greatestPriority_25 post x f0 f1 f2 f3 f4 2 a1 a2 a3 a4 a5 a6 a7 a8 a9 a10 a11 a12 a13 a14 a15 a16 n (-1) 0 := by
  refine ⟨0 + 1 + 1 + 1, br_f (by decide) (br_t (by decide) (ma_gp53 (g := 0) (e := ea) (m := wa) (v := va) (by omega) ha h0 La ka (fun _ => na) (fun m => ?_) (fun m => ?_)))⟩
  · refine br_f (nI_pos (by omega)) (br_t (by decide) (nm_r (e' := nI 1) (by rfl) ?_))
    refine br_f (by decide) (br_f (nI_pos (by omega)) ⟨pk_in 1 16 (by omega), ma_prW ha pa (pk_le Ra Rb (fun z => ?_) (fun z => H1 m) rfl ht)⟩)
    refine ma_gp53 (g := 1) (e := eb) (m := wb) (v := vb) (by omega) hb h1 Lb kb (fun _ => nb) (fun m' => ?_) (fun m' => ?_)
    · refine br_f (nI_pos (by omega)) (br_f (nI_pos (by omega)) (ma_prec hb ha pb pa rb ra (fun t => ?_) (fun t => br_t rfl (nm_r (e' := nI 2) (by rfl) (br_t (by decide) (H1 m))))))
      rcases t with t | ⟨t, t'⟩
      · exact absurd t (by omega)
      · rcases hR with u | ⟨_, u⟩
        · exact absurd u (by omega)
        · exact absurd u t'
    · exact br_t (by decide) (nm_r (e' := nI 2) (by rfl) (br_t (by decide) (H1 m)))
  · refine br_t (by decide) (nm_r (e' := nI 1) (by rfl) ?_)
    refine br_f (by decide) (br_t (by decide) (ma_gp53 (g := 1) (e := eb) (m := wb) (v := vb) (by omega) hb h1 Lb kb (fun _ => nb) (fun m' => ?_) (fun m' => ?_)))
    · exact br_f (nI_pos (by omega)) (br_t (by decide) (nm_r (e' := nI 2) (by rfl) (br_t (by decide) (H2 m m'))))
    · exact br_t (by decide) (nm_r (e' := nI 2) (by rfl) (br_t (by decide) (H3 m m')))
theorem ma_gp25 {post : Int32 → St2 → Prop} {x : Int32} {R0 R1 : Nat} {w0 w1 v0 v1 : Int32} (E : ma_E R0 R1 w0 w1 v0 v1 a4 a6 a7) (P : ma_P R0 R1 w0 w1 v0 v1 f5 a13 a14 a15 a16)
    (H : ∀ r, ma_T (x &&& w0 = v0) (x &&& w1 = v1) R0 R1 r → post r (f0, f1, f2, f3, f4, f5, a1, a2, a3, a4, a5, a6, a7, a8, a9, a10, a11, a12, a13, a14, a15, a16)) : ∃ n, wX_greatestPriority_25 post x f0 f1 f2 f3 f4 f5 a1 a2 a3 a4 a5 a6 a7 a8 a9 a10 a11 a12 a13 a14 a15 a16 n (-1) 0 := by
  obtain ⟨⟨h16, h17, _, ho⟩, ⟨w16, w17⟩, ⟨p16, p17, k16, k17⟩, ⟨r0, r1⟩, hs⟩ := E
  rcases P with ⟨hw, ⟨hR, rfl, b0, L, n0, n1⟩ | ⟨hR, rfl, b0, L, n0, n1⟩⟩ | ⟨hw, ⟨hR, rfl, b0, b1, t1, La, Lb, n0, n1⟩ | ⟨hR, rfl, b0, b1, t1, La, Lb, n0, n1⟩⟩
  · obtain ⟨e, e0, e1⟩ := hs hw
    have m0 : x &&& w0 = v0 := by rw [e, e0, ma_and0]
    exact ma_gp1 (ea := 16) (by omega) b0 L k16 m0 (H 16 (Or.inl ⟨m0, Or.inr hR, rfl⟩))
  · obtain ⟨e, e0, e1⟩ := hs hw
    have m0 : x &&& w0 = v0 := by rw [e, e0, ma_and0]
    have m1 : x &&& w1 = v1 := by rw [← hw, e, e1, ma_and0]
    exact ma_gp1 (ea := 17) (by omega) b0 L (by rw [k17, e1, e0]) m0 (H 17 (Or.inr (Or.inl ⟨m1, Or.inr hR, rfl⟩)))
  · exact ma_gp2 (ea := 16) (eb := 17) (Ra := R0) (Rb := R1) (by omega) (by omega) b0 b1 t1 La Lb n0 n1 k16 k17 p16 p17 r0 r1 (if c : R1 < R0 then Or.inl c else Or.inr ⟨by omega, by rw [h16, h17]; decide⟩)
      (fun m => H 16 (Or.inl ⟨m, Or.inr hR, rfl⟩)) (fun m m' => H 17 (Or.inr (Or.inl ⟨m', Or.inl m, rfl⟩))) (fun m m' => H (-1) (Or.inr (Or.inr ⟨m, m', rfl⟩)))
  · exact ma_gp2 (ea := 17) (eb := 16) (Ra := R1) (Rb := R0) (by omega) (by omega) b0 b1 t1 La Lb n0 n1 k17 k16 p17 p16 r1 r0 (Or.inl hR)
      (fun m => H 17 (Or.inr (Or.inl ⟨m, Or.inr hR, rfl⟩))) (fun m m' => H 16 (Or.inl ⟨m', Or.inl m, rfl⟩)) (fun m m' => H (-1) (Or.inr (Or.inr ⟨m', m, rfl⟩)))
theorem ma_mmS {post : Int32 → St2 → Prop} {x c m v : Int32} {n g e : Nat} (hc : ¬ f5 ≤ nI g) (hg : g < 16) (he : e < 32) (hm : a13 g = m) (hL : ma_L a15 g v e) (hv : a6 e &&& 65535 = v) (hn : a16 e = -1)
    (H1 : x &&& m = v → wX_maskedMatching_25 post x f0 f1 f2 f3 f4 f5 a1 a2 a3 a4 a5 a6 a7 a8 a9 a10 a11 a12 a13 a14 a15 a16 n (c + 1) (nI (g + 1))) (H0 : ¬ x &&& m = v → wX_maskedMatching_25 post x f0 f1 f2 f3 f4 f5 a1 a2 a3 a4 a5 a6 a7 a8 a9 a10 a11 a12 a13 a14 a15 a16 n c (nI (g + 1))) : wX_maskedMatching_25 post x f0 f1 f2 f3 f4 f5 a1 a2 a3 a4 a5 a6 a7 a8 a9 a10 a11 a12 a13 a14 a15 a16 (n + 1) c (nI g) := by
  have s8 := ma_sl8 (x &&& m)
  refine br_f hc ⟨pk_in g 16 hg, nm_r (e' := x &&& m) (by rw [nI_clamp (by omega), hm]) (ma_slW ⟨?_, nm_r (e' := if ma_sl (x &&& m) = ma_sl v then nI e else -1) ?_ ?_⟩)⟩
  · rw [ma_ix]
    exact pk_in (8 * g + ma_sl (x &&& m)) 128 (by omega)
  · rw [ma_ix, nI_clamp (by omega), hL _ s8]
  · by_cases hq : x &&& m = v
    · rw [if_pos (by rw [hq])]
      exact ⟨0 + 1 + 1, br_f (nI_pos (by omega)) ⟨pk_in e 32 he, br_t (by rw [nI_clamp (by omega), hv, hq]) (nm_e ⟨pk_in e 32 he, nm_r (e' := -1) (by rw [nI_clamp (by omega), hn]) (br_t (by decide) (nm_r (nI_1 g) (H1 hq)))⟩)⟩⟩
    · by_cases hs : ma_sl (x &&& m) = ma_sl v
      · rw [if_pos hs]
        exact ⟨0 + 1 + 1, br_f (nI_pos (by omega)) ⟨pk_in e 32 he, br_f (by rw [nI_clamp (by omega), hv]; exact fun t => hq t.symm) ⟨pk_in e 32 he, nm_r (e' := -1) (by rw [nI_clamp (by omega), hn]) (br_t (by decide) (nm_r (nI_1 g) (H0 hq)))⟩⟩⟩
      · rw [if_neg hs]
        exact ⟨0 + 1, br_t (by decide) (nm_r (nI_1 g) (H0 hq))⟩
theorem ma_mm1 {post : Int32 → St2 → Prop} {x w v : Int32} {ea eb : Nat} (ha : ea < 32) (hb : eb < 32) (hm : a13 0 = w) (hL : ma_L a15 0 v ea) (ka : a6 ea &&& 65535 = v) (kb : a6 eb &&& 65535 = v) (na : a16 ea = nI eb) (nb : a16 eb = -1) (hx : x &&& w = v)
    (H : post 2 (f0, f1, f2, f3, f4, 1, a1, a2, a3, a4, a5, a6, a7, a8, a9, a10, a11, a12, a13, a14, a15, a16)) : ∃ n, wX_maskedMatching_25 post x f0 f1 f2 f3 f4 1 a1 a2 a3 a4 a5 a6 a7 a8 a9 a10 a11 a12 a13 a14 a15 a16 n 0 0 := by
  have s8 := ma_sl8 v
  refine ⟨0 + 1 + 1, br_f (by decide) ⟨pk_in 0 16 (by omega), nm_r (e' := v) (by rw [← hx, ← hm]; rfl) (ma_slW ⟨?_, nm_r (e' := nI ea) ?_ ?_⟩)⟩⟩
  · exact pk_in (8 * 0 + ma_sl v) 128 (by omega) (ma_ix 0 (ma_sl v))
  · rw [show (8 : Int32) * 0 + nI (ma_sl v) = nI (8 * 0 + ma_sl v) from ma_ix 0 (ma_sl v), nI_clamp (by omega), hL _ s8, if_pos rfl]
  · exact ⟨0 + 1 + 1 + 1, br_f (nI_pos (by omega)) ⟨pk_in ea 32 ha, br_t (by rw [nI_clamp (by omega), ka]) (nm_r (e' := nI 1) (by rfl) ⟨pk_in ea 32 ha, nm_r (e' := nI eb) (by rw [nI_clamp (by omega), na]) (br_f (nI_pos (by omega)) ⟨pk_in eb 32 hb, br_t (by rw [nI_clamp (by omega), kb]) (nm_r (e' := 2) (by rfl) ⟨pk_in eb 32 hb, nm_r (e' := -1) (by rw [nI_clamp (by omega), nb]) (br_t (by decide) (nm_r (e' := 1) (by rfl) (br_t (by decide) H)))⟩)⟩)⟩)⟩⟩
theorem ma_mm2 {post : Int32 → St2 → Prop} {x wa va wb vb : Int32} {ea eb : Nat} (ha : ea < 32) (hb : eb < 32) (h0 : a13 0 = wa) (h1 : a13 1 = wb) (La : ma_L a15 0 va ea) (Lb : ma_L a15 1 vb eb) (na : a16 ea = -1) (nb : a16 eb = -1)
    (ka : a6 ea &&& 65535 = va) (kb : a6 eb &&& 65535 = vb) (H : ∀ r, ma_C (x &&& wa = va) (x &&& wb = vb) r → post r (f0, f1, f2, f3, f4, 2, a1, a2, a3, a4, a5, a6, a7, a8, a9, a10, a11, a12, a13, a14, a15, a16)) : ∃ n, wX_maskedMatching_25 post x f0 f1 f2 f3 f4 2 a1 a2 a3 a4 a5 a6 a7 a8 a9 a10 a11 a12 a13 a14 a15 a16 n 0 0 :=
  ⟨0 + 1 + 1 + 1, ma_mmS (g := 0) (by decide) (by omega) ha h0 La ka na
    (fun m => ma_mmS (g := 1) (by decide) (by omega) hb h1 Lb kb nb (fun m' => br_t (by decide) (H _ (Or.inl ⟨m, m', by rfl⟩))) (fun m' => br_t (by decide) (H _ (Or.inr (Or.inl ⟨m, m', by rfl⟩)))))
    (fun m => ma_mmS (g := 1) (by decide) (by omega) hb h1 Lb kb nb (fun m' => br_t (by decide) (H _ (Or.inr (Or.inr (Or.inl ⟨m, m', by rfl⟩))))) (fun m' => br_t (by decide) (H _ (Or.inr (Or.inr (Or.inr ⟨m, m', by rfl⟩))))))⟩
theorem ma_mm25 {post : Int32 → St2 → Prop} {x : Int32} {R0 R1 : Nat} {w0 w1 v0 v1 : Int32} (E : ma_E R0 R1 w0 w1 v0 v1 a4 a6 a7) (P : ma_P R0 R1 w0 w1 v0 v1 f5 a13 a14 a15 a16)
    (H : ∀ r, ma_C (x &&& w0 = v0) (x &&& w1 = v1) r → post r (f0, f1, f2, f3, f4, f5, a1, a2, a3, a4, a5, a6, a7, a8, a9, a10, a11, a12, a13, a14, a15, a16)) : ∃ n, wX_maskedMatching_25 post x f0 f1 f2 f3 f4 f5 a1 a2 a3 a4 a5 a6 a7 a8 a9 a10 a11 a12 a13 a14 a15 a16 n 0 0 := by
  obtain ⟨⟨h16, h17, _, ho⟩, ⟨w16, w17⟩, ⟨p16, p17, k16, k17⟩, ⟨r0, r1⟩, hs⟩ := E
  rcases P with ⟨hw, ⟨hR, rfl, b0, L, n0, n1⟩ | ⟨hR, rfl, b0, L, n0, n1⟩⟩ | ⟨hw, ⟨hR, rfl, b0, b1, t1, La, Lb, n0, n1⟩ | ⟨hR, rfl, b0, b1, t1, La, Lb, n0, n1⟩⟩
  · obtain ⟨e, e0, e1⟩ := hs hw
    have m0 : x &&& w0 = v0 := by rw [e, e0, ma_and0]
    have m1 : x &&& w1 = v1 := by rw [← hw, e, e1, ma_and0]
    exact ma_mm1 (ea := 16) (eb := 17) (by omega) (by omega) b0 L k16 (by rw [k17, e1, e0]) n0 n1 m0 (H 2 (Or.inl ⟨m0, m1, rfl⟩))
  · obtain ⟨e, e0, e1⟩ := hs hw
    have m0 : x &&& w0 = v0 := by rw [e, e0, ma_and0]
    have m1 : x &&& w1 = v1 := by rw [← hw, e, e1, ma_and0]
    exact ma_mm1 (ea := 17) (eb := 16) (by omega) (by omega) b0 L (by rw [k17, e1, e0]) k16 n0 n1 m0 (H 2 (Or.inl ⟨m0, m1, rfl⟩))
  · exact ma_mm2 (ea := 16) (eb := 17) (by omega) (by omega) b0 b1 La Lb n0 n1 k16 k17 H
  · refine ma_mm2 (ea := 17) (eb := 16) (by omega) (by omega) b0 b1 La Lb n0 n1 k17 k16 (fun r h => H r ?_)
    rcases h with ⟨m, m', e⟩ | ⟨m, m', e⟩ | ⟨m, m', e⟩ | ⟨m, m', e⟩
    · exact Or.inl ⟨m', m, e⟩
    · exact Or.inr (Or.inr (Or.inl ⟨m', m, e⟩))
    · exact Or.inr (Or.inl ⟨m', m, e⟩)
    · exact Or.inr (Or.inr (Or.inr ⟨m', m, e⟩))
/-- lookup(1), the groups not yet made -/
theorem ma_lookup {post : Int32 → St2 → Prop} {R0 R1 : Nat} {w0 w1 v0 v1 : Int32} (E : ma_E R0 R1 w0 w1 v0 v1 a4 a6 a7)
    (H : ∀ (gc : Int32) (b13 b14 b15 b16 : Nat → Int32) (r z : Int32), ma_P R0 R1 w0 w1 v0 v1 gc b13 b14 b15 b16 → ma_T (ma_F (a2 1) (a2 2) &&& w0 = v0) (ma_F (a2 1) (a2 2) &&& w1 = v1) R0 R1 r → ((r = 16 ∧ z = 0) ∨ (r = 17 ∧ z = 1) ∨ (r = -1 ∧ z = -3)) → post z (f0, f1, f2, f3, 1, gc, a1, a2, a3, a4, a5, a6, a7, a8, a9, a10, a11, a12, b13, b14, b15, b16)) : wpX_lookup post (f0, f1, f2, f3, 0, f5, a1, a2, a3, a4, a5, a6, a7, a8, a9, a10, a11, a12, a13, a14, a15, a16) 1 := by
  refine br_f (by decide) (br_t (by decide) (br_f (by decide) ?_))
  unfold wpX_greatestPriority
  dsimp only
  refine ma_mg E (fun gc b13 b14 b15 b16 P => nm_r (e' := ma_F (a2 1) (a2 2)) (by rfl) (ma_gp25 E P (fun r h => ?_)))
  have h' := h
  rcases h with ⟨_, _, rfl⟩ | ⟨_, _, rfl⟩ | ⟨_, _, rfl⟩
  · exact br_t (by decide) ⟨pk_in 16 32 (by omega), H gc b13 b14 b15 b16 16 _ P h' (Or.inl ⟨rfl, E.1.1⟩)⟩
  · exact br_t (by decide) ⟨pk_in 17 32 (by omega), H gc b13 b14 b15 b16 17 _ P h' (Or.inr (Or.inl ⟨rfl, E.1.2.1⟩))⟩
  · exact br_f (by decide) (H gc b13 b14 b15 b16 (-1) _ P h' (Or.inr (Or.inr ⟨rfl, rfl⟩)))
/-- matching(1), the groups made -/
theorem ma_matching {post : Int32 → St2 → Prop} {R0 R1 : Nat} {w0 w1 v0 v1 : Int32} (E : ma_E R0 R1 w0 w1 v0 v1 a4 a6 a7) (P : ma_P R0 R1 w0 w1 v0 v1 f5 a13 a14 a15 a16)
    (H : ∀ r : Int32, ma_C (ma_F (a2 1) (a2 2) &&& w0 = v0) (ma_F (a2 1) (a2 2) &&& w1 = v1) r → post r (f0, f1, f2, f3, 1, f5, a1, a2, a3, a4, a5, a6, a7, a8, a9, a10, a11, a12, a13, a14, a15, a16)) : wpX_matching post (f0, f1, f2, f3, 1, f5, a1, a2, a3, a4, a5, a6, a7, a8, a9, a10, a11, a12, a13, a14, a15, a16) 1 := by
  refine br_f (by decide) (br_t (by decide) (br_f (by decide) ?_))
  unfold wpX_maskedMatching
  dsimp only
  exact ma_mgR (nm_r (e' := ma_F (a2 1) (a2 2)) (by rfl) (ma_mm25 E P (fun r h => H r h)))
/-- the greatest priority, the groups made -/
theorem ma_gpR {post : Int32 → St2 → Prop} {R0 R1 : Nat} {w0 w1 v0 v1 : Int32} (E : ma_E R0 R1 w0 w1 v0 v1 a4 a6 a7) (P : ma_P R0 R1 w0 w1 v0 v1 f5 a13 a14 a15 a16)
    (H : ∀ r : Int32, ma_T (ma_F (a2 1) (a2 2) &&& w0 = v0) (ma_F (a2 1) (a2 2) &&& w1 = v1) R0 R1 r → post r (f0, f1, f2, f3, 1, f5, a1, a2, a3, a4, a5, a6, a7, a8, a9, a10, a11, a12, a13, a14, a15, a16)) : wpX_greatestPriority post (f0, f1, f2, f3, 1, f5, a1, a2, a3, a4, a5, a6, a7, a8, a9, a10, a11, a12, a13, a14, a15, a16) := by
  unfold wpX_greatestPriority
  dsimp only
  exact ma_mgR (nm_r (e' := ma_F (a2 1) (a2 2)) (by rfl) (ma_gp25 E P (fun r h => H r h)))
end
end
section
section
variable {f0 f1 f2 f3 f4 f5 : Int32} {a1 a2 a3 a4 a5 a6 a7 a8 a9 a10 a11 a12 a13 a14 a15 a16 : Nat → Int32}
theorem ma_tree25 {post : St2 → Prop} (h : ∀ j, j < 16 → a4 j = -1) (H : post (f0, f1, f2, f3, f4, f5, a1, a2, a3, a4, a5, a6, a7, a8, a9, a10, a11, a12, a13, a14, a15, a16)) : ∃ n, wX_makeTree_25 post n 0 f0 f1 f2 f3 f4 f5 a1 a2 a3 a4 a5 a6 a7 a8 a9 a10 a11 a12 a13 a14 a15 a16 :=
  pk_loop (σ := Unit) (fun n i _ => wX_makeTree_25 post n (nI i) f0 f1 f2 f3 f4 f5 a1 a2 a3 a4 a5 a6 a7 a8 a9 a10 a11 a12 a13 a14 a15 a16) (fun _ _ => True) 16 0 () (by omega) trivial
    (fun n _ _ => pk_le 16 16 (fun _ => H) (fun z => absurd z (by omega)))
    (fun n i _ hi _ hw => pk_le 16 i (fun z => absurd z (by omega)) (fun _ => ⟨pk_in i 32 (by omega), br_f (by rw [nI_clamp (by omega), h i hi]; decide) (nm_r (nI_1 i) (hw () trivial))⟩))
/-- table 0 is empty -/
theorem ma_longest {post : Int32 → St2 → Prop} (h : ∀ j, j < 16 → a4 j = -1) (h2 : a2 0 = 0) (H : ∀ (c : Int32) (b8 b9 b10 : Nat → Int32), post (-1) (f0, f1, 1, c, f4, f5, a1, a2, a3, a4, a5, a6, a7, b8, b9, b10, a11, a12, a13, a14, a15, a16)) : wpX_longestPrefix post (f0, f1, 0, f3, f4, f5, a1, a2, a3, a4, a5, a6, a7, a8, a9, a10, a11, a12, a13, a14, a15, a16) := by
  unfold wpX_longestPrefix
  dsimp only
  unfold wpX_makeTree
  dsimp only
  refine br_t rfl ?_
  unfold wpX_newNode
  dsimp only
  refine nm_e ⟨pk_in 0 258 (by omega), nm_e ⟨pk_in 1 258 (by omega), nm_e ⟨pk_in 0 129 (by omega), nm_e ⟨pk_in 0 129 (by omega), nm_e (ma_tree25 h ⟨0 + 1 + 1, br_f (by decide) ⟨pk_in 0 129 (by omega), br_t ?_ (br_t (by decide) ⟨?_, nm_r (e' := -1) ?_ (nm_e (br_t (by decide) (H _ _ _ _)))⟩)⟩⟩)⟩⟩⟩⟩
  · dsimp only
    rw [pk_us]
    decide
  · dsimp only
    rw [h2]
    exact pk_in 0 258 (by omega) (by decide)
  · dsimp only
    rw [h2]
    show upd (upd a8 0 (-1)) 1 (-1) 0 = -1
    rw [pk_un (by decide), pk_us]
theorem ma_perfPass {post : Int32 → St2 → Prop} {p : Int32} (hp : p = 3) (H : post 1 (f0, f1, f2, f3, f4, f5, a1, a2, a3, a4, a5, a6, a7, a8, a9, a10, a11, a12, a13, a14, a15, a16)) : wpX_perform post (f0, f1, f2, f3, f4, f5, a1, a2, a3, a4, a5, a6, a7, a8, a9, a10, a11, a12, a13, a14, a15, a16) p := by
  subst hp
  exact nm_r (e' := 3) (by decide) (nm_r (e' := 0) (by decide) (nm_r (e' := 0) (by decide) (br_f (by decide) (br_f (by decide) (br_f (by decide) (br_f (by decide) H))))))
theorem ma_perfDrop {post : Int32 → St2 → Prop} {p : Int32} (hp : p = 4) (H : post 0 (f0, f1, f2, f3, f4, f5, a1, a2, a3, a4, a5, a6, a7, a8, a9, a10, a11, a12, a13, a14, a15, a16)) : wpX_perform post (f0, f1, f2, f3, f4, f5, a1, a2, a3, a4, a5, a6, a7, a8, a9, a10, a11, a12, a13, a14, a15, a16) p := by
  subst hp
  exact nm_r (e' := 4) (by decide) (nm_r (e' := 0) (by decide) (nm_r (e' := 0) (by decide) (br_f (by decide) (br_f (by decide) (br_f (by decide) (br_t (by decide) H))))))
theorem ma_perfPlus {post : Int32 → St2 → Prop} {p : Int32} (hp : p = 6409) (H : post 1 (f0, f1, f2, f3, f4, f5, a1, (upd a2 1 ((a2 1 + 200) &&& 255)), a3, a4, a5, a6, a7, a8, a9, a10, a11, a12, a13, a14, a15, a16)) : wpX_perform post (f0, f1, f2, f3, f4, f5, a1, a2, a3, a4, a5, a6, a7, a8, a9, a10, a11, a12, a13, a14, a15, a16) p := by
  subst hp
  exact nm_r (e' := 1) (by decide) (nm_r (e' := 1) (by decide) (nm_r (e' := 200) (by decide) (br_f (by decide) (br_t (by decide) ⟨pk_in 1 4 (by omega), pk_in 1 4 (by omega), nm_e (br_f (by decide) (br_f (by decide) H))⟩))))
theorem ma_process {post : Int32 → St2 → Prop} {R0 R1 : Nat} {w0 w1 v0 v1 : Int32} (E : ma_E R0 R1 w0 w1 v0 v1 a4 a6 a7) (P : ma_P R0 R1 w0 w1 v0 v1 f5 a13 a14 a15 a16) (d0 : a1 0 = 3) (d1 : a1 1 = 3) (c0 : a5 16 = 6409) (c1 : a5 17 = 4) (h2 : a2 0 = 0)
    (H : ∀ (c : Int32) (b2 b8 b9 b10 : Nat → Int32) (r z : Int32), ma_T (ma_F (a2 1) (a2 2) &&& w0 = v0) (ma_F (a2 1) (a2 2) &&& w1 = v1) R0 R1 r → ((r = 16 ∧ z = 1 ∧ b2 1 = (a2 1 + 200) &&& 255) ∨ (r = 17 ∧ z = 0 ∧ b2 1 = a2 1) ∨ (r = -1 ∧ z = 1 ∧ b2 1 = a2 1)) → post z (f0, f1, 1, c, 1, f5, a1, b2, a3, a4, a5, a6, a7, b8, b9, b10, a11, a12, a13, a14, a15, a16)) : wpX_process post (f0, f1, 0, f3, 1, f5, a1, a2, a3, a4, a5, a6, a7, a8, a9, a10, a11, a12, a13, a14, a15, a16) := by
  unfold wpX_process
  dsimp only
  refine ma_longest E.1.2.2.1 h2 (fun c b8 b9 b10 => br_f (by decide) ?_)
  unfold wX_process_25
  refine ma_perfPass d0 (br_f (by decide) (ma_gpR E P (fun r h => ?_)))
  have h' := h
  rcases h with ⟨_, _, rfl⟩ | ⟨_, _, rfl⟩ | ⟨_, _, rfl⟩
  · refine br_t (by decide) ⟨pk_in 16 32 (by omega), ?_⟩
    unfold wX_process_60
    exact ma_perfPlus c0 (br_f (by decide) (H c _ b8 b9 b10 16 1 h' (Or.inl ⟨rfl, rfl, pk_us⟩)))
  · refine br_t (by decide) ⟨pk_in 17 32 (by omega), ?_⟩
    unfold wX_process_60
    exact ma_perfDrop c1 (br_t (by decide) (H c _ b8 b9 b10 17 0 h' (Or.inr (Or.inl ⟨rfl, rfl, rfl⟩))))
  · refine br_f (by decide) ?_
    unfold wX_process_60
    exact ma_perfPass d1 (br_f (by decide) (H c _ b8 b9 b10 (-1) 1 h' (Or.inr (Or.inr ⟨rfl, rfl, rfl⟩))))
theorem ma_get {post : Int32 → Prop} (H : post (a2 1)) : wpX_get post (f0, f1, f2, f3, f4, f5, a1, a2, a3, a4, a5, a6, a7, a8, a9, a10, a11, a12, a13, a14, a15, a16) 1 := br_f (by decide) (br_t (by decide) ⟨pk_in 1 4 (by omega), H⟩)
end
end
section
section
variable {f0 f1 f2 f3 f4 f5 : Int32} {a1 a2 a3 a4 a5 a6 a7 a8 a9 a10 a11 a12 a13 a14 a15 a16 : Nat → Int32}
theorem ma_294 {post : Int32 → St0 → Prop} {mc ms kc ks : Nat} {x7 x13 z z' : Int32} (hz : z' = z) (h0 : x13 = 0 → a2 1 = (x7 + 200) &&& 255) (h1 : ¬ x13 = 0 → a2 1 = x7) (H : post 1 ()) : wL_lawOf_294 post mc ms x7 x13 z z' kc ks f0 f1 f2 f3 f4 f5 a1 a2 a3 a4 a5 a6 a7 a8 a9 a10 a11 a12 a13 a14 a15 a16 :=
  br_t hz (ma_get (br_c (fun e => br_t (h0 e) H) (fun e => br_t (h1 e) H)))
theorem ma_272 {post : Int32 → St0 → Prop} {mc ms kc ks : Nat} {x13 z0 z1 z2 : Int32} {R0 R1 : Nat} {w0 w1 v0 v1 : Int32} (E : ma_E R0 R1 w0 w1 v0 v1 a4 a6 a7) (P : ma_P R0 R1 w0 w1 v0 v1 f5 a13 a14 a15 a16) (d0 : a1 0 = 3) (d1 : a1 1 = 3) (c0 : a5 16 = 6409) (c1 : a5 17 = 4) (h2 : a2 0 = 0)
    (hx : ∀ r, ma_T (ma_F (a2 1) (a2 2) &&& w0 = v0) (ma_F (a2 1) (a2 2) &&& w1 = v1) R0 R1 r → (r = 16 ∧ x13 = 0) ∨ (r = 17 ∧ x13 = 1) ∨ (r = -1 ∧ x13 = -3)) (hz : z2 = z1 + z0) (H : post 1 ()) : wL_lawOf_272 post mc ms (a2 1) x13 z0 z1 z2 kc ks f0 f1 0 f3 1 f5 a1 a2 a3 a4 a5 a6 a7 a8 a9 a10 a11 a12 a13 a14 a15 a16 := by
  refine br_t hz (ma_process E P d0 d1 c0 c1 h2 (fun c b2 b8 b9 b10 r z t hr => ?_))
  have hx' := hx r t
  rcases hr with ⟨rfl, rfl, e⟩ | ⟨rfl, rfl, e⟩ | ⟨rfl, rfl, e⟩
  · rcases hx' with ⟨_, rfl⟩ | ⟨g, _⟩ | ⟨g, _⟩
    · exact br_f (by decide) (ma_294 rfl (fun _ => e) (fun g => absurd rfl g) H)
    · exact absurd g (by decide)
    · exact absurd g (by decide)
  · rcases hx' with ⟨g, _⟩ | ⟨_, rfl⟩ | ⟨g, _⟩
    · exact absurd g (by decide)
    · exact br_t (by decide) (ma_294 rfl (fun g => absurd g (by decide)) (fun _ => e) H)
    · exact absurd g (by decide)
  · rcases hx' with ⟨g, _⟩ | ⟨g, _⟩ | ⟨_, rfl⟩
    · exact absurd g (by decide)
    · exact absurd g (by decide)
    · exact br_f (by decide) (ma_294 rfl (fun g => absurd g (by decide)) (fun _ => e) H)
end
theorem ma_137 {post : Int32 → St0 → Prop} {A B C D X Y x9 x10 z0 : Int32} {R0 R1 : Nat} (r0 : R0 < 16) (r1 : R1 < 16) (e0 : X &&& 15 = nI R0) (e1 : Y &&& 15 = nI R1)
    (h9 : (x9 = 1 ∧ ma_F (C &&& 255) (D &&& 255) &&& ma_W (A &&& 65535) 0 = ma_V (A &&& 65535) 0) ∨ (x9 = 0 ∧ ¬ ma_F (C &&& 255) (D &&& 255) &&& ma_W (A &&& 65535) 0 = ma_V (A &&& 65535) 0))
    (h10 : (x10 = 1 ∧ ma_F (C &&& 255) (D &&& 255) &&& ma_W 0 (B &&& 65535) = ma_V 0 (B &&& 65535)) ∨ (x10 = 0 ∧ ¬ ma_F (C &&& 255) (D &&& 255) &&& ma_W 0 (B &&& 65535) = ma_V 0 (B &&& 65535)))
    (hx : ∀ r, ma_T (ma_F (C &&& 255) (D &&& 255) &&& ma_W (A &&& 65535) 0 = ma_V (A &&& 65535) 0) (ma_F (C &&& 255) (D &&& 255) &&& ma_W 0 (B &&& 65535) = ma_V 0 (B &&& 65535)) R0 R1 r → (r = 16 ∧ z0 = 0) ∨ (r = 17 ∧ z0 = 1) ∨ (r = -1 ∧ z0 = -3))
    (H : post 1 ()) : wL_lawOf_137 post 250 3984 (A &&& 65535) (B &&& 65535) (C &&& 255) (D &&& 255) x9 x10 (X &&& 15) (Y &&& 15) z0 0 0 := by
  have k0 := ma_prio (A &&& 65535) 0 X
  have k1 := ma_prio 0 (B &&& 65535) Y
  have l0 := ma_low (A &&& 65535) 0 (X &&& 15)
  have l1 := ma_low 0 (B &&& 65535) (Y &&& 15)
  have sm : ma_W (A &&& 65535) 0 = ma_W 0 (B &&& 65535) → ma_W (A &&& 65535) 0 = 0 ∧ ma_V (A &&& 65535) 0 = 0 ∧ ma_V 0 (B &&& 65535) = 0 := ma_same
  obtain ⟨a, ha, ea⟩ := ma_r16 A
  obtain ⟨b, hb, eb⟩ := ma_r16 B
  obtain ⟨c, hc, ec⟩ := ma_r8 C
  obtain ⟨d, hd, ed⟩ := ma_r8 D
  rw [e0] at k0 l0
  rw [e1] at k1 l1
  rw [e0, e1]
  generalize A &&& 65535 = p at *
  generalize B &&& 65535 = q at *
  generalize C &&& 255 = x at *
  generalize D &&& 255 = y at *
  unfold wL_lawOf_137
  refine ⟨by omega, by omega, 16, 884, by omega, by omega, ma_init (fun h hh => ?_)⟩
  refine ma_action (d := 6409) (by decide) (by decide) (by decide) (by decide) (by decide) (by decide) (by decide) (br_f (by decide) ?_)
  refine ma_masked16 (by decide) (by rw [ea]; exact nI_pos (by omega)) (by rw [ea]; exact nI_nlt (a := 65535) (b := a) (by omega) (by omega)) (by decide) (by decide) (nI_pos (by omega)) (nI_le (a := R0) (b := 15) (by omega) (by omega)) (by rw [hh 16 (by omega)]; decide) (br_t (by decide) ?_)
  refine ma_action (d := 4) (by decide) (by decide) (by decide) (by decide) (by decide) (by decide) (by decide) (br_f (by decide) ?_)
  refine ma_masked17 (by rw [pk_us]; decide) (by decide) (by decide) (by rw [eb]; exact nI_pos (by omega)) (by rw [eb]; exact nI_nlt (a := 65535) (b := b) (by omega) (by omega)) (nI_pos (by omega)) (nI_le (a := R1) (b := 15) (by omega) (by omega)) (by rw [pk_us]; decide) (by rw [pk_un (by decide), hh 17 (by omega)]; decide) (br_t (by decide) ?_)
  refine ma_field (f := 1) (by omega) (by rw [ec]; exact nI_pos (by omega)) (by rw [ec]; exact nI_le (a := c) (b := 255) (by omega) (by omega)) (br_f (by decide) ?_)
  refine ma_field (f := 2) (by omega) (by rw [ed]; exact nI_pos (by omega)) (by rw [ed]; exact nI_le (a := d) (b := 255) (by omega) (by omega)) (br_f (by decide) ?_)
  have E : ma_E R0 R1 (ma_W p 0) (ma_W 0 q) (ma_V p 0) (ma_V 0 q) (upd (upd h 16 0) 17 (0 + 1)) (upd (upd (fun _ => 0) 16 (ma_K p 0 (nI R0))) 17 (ma_K 0 q (nI R1))) (upd (upd (fun _ => 0) 16 (ma_W p 0)) 17 (ma_W 0 q)) := by
    refine ⟨⟨?_, ?_, fun j hj => ?_, fun j hj hj' => ?_⟩, ⟨?_, ?_⟩, ⟨?_, ?_, ?_, ?_⟩, ⟨r0, r1⟩, sm⟩
    · rw [pk_un (by decide), pk_us]
    · rw [pk_us]
      decide
    · rw [pk_un (by omega), pk_un (by omega), hh j (by omega)]
    · rw [pk_un (by omega), pk_un (by omega), hh j (by omega)]
    · rw [pk_un (by decide), pk_us]
    · rw [pk_us]
    · rw [pk_un (by decide), pk_us, k0]
    · rw [pk_us, k1]
    · rw [pk_un (by decide), pk_us, l0]
    · rw [pk_us, l1]
  have g1 : upd (upd (fun _ => 0) 1 x) 2 y 1 = x := by rw [pk_un (by decide), pk_us]
  have g2 : upd (upd (fun _ => 0) 1 x) 2 y 2 = y := by rw [pk_us]
  have hx2 : ∀ r, ma_T (ma_F (upd (upd (fun _ => 0) 1 x) 2 y 1) (upd (upd (fun _ => 0) 1 x) 2 y 2) &&& ma_W p 0 = ma_V p 0) (ma_F (upd (upd (fun _ => 0) 1 x) 2 y 1) (upd (upd (fun _ => 0) 1 x) 2 y 2) &&& ma_W 0 q = ma_V 0 q) R0 R1 r → (r = 16 ∧ z0 = 0) ∨ (r = 17 ∧ z0 = 1) ∨ (r = -1 ∧ z0 = -3) := by
    rw [g1, g2]
    exact hx
  refine ma_lookup E (fun gc b13 b14 b15 b16 r z P t hz => br_t ?_ (ma_matching E P (fun n hn => ?_)))
  · have t' := hx2 r t
    rcases hz with ⟨u, rfl⟩ | ⟨u, rfl⟩ | ⟨u, rfl⟩
    · rcases t' with ⟨_, u'⟩ | ⟨u', _⟩ | ⟨u', _⟩
      · exact u'.symm
      · exact absurd (u.symm.trans u') (by decide)
      · exact absurd (u.symm.trans u') (by decide)
    · rcases t' with ⟨u', _⟩ | ⟨_, u'⟩ | ⟨u', _⟩
      · exact absurd (u.symm.trans u') (by decide)
      · exact u'.symm
      · exact absurd (u.symm.trans u') (by decide)
    · rcases t' with ⟨u', _⟩ | ⟨u', _⟩ | ⟨_, u'⟩
      · exact absurd (u.symm.trans u') (by decide)
      · exact absurd (u.symm.trans u') (by decide)
      · exact u'.symm
  · rw [g1, g2] at hn
    have fin : ∀ z1 z2 : Int32, n = z1 + z2 → wL_lawOf_272 post 250 3984 x z0 z2 z1 n (0 + 1 + 16) (0 + 22 + 884) 4 (0 + 1 + 1) 0 0 1 gc (upd (upd (fun _ => 0) 0 3) 1 3) (upd (upd (fun _ => 0) 1 x) 2 y) (upd (upd (fun _ => 0) 1 ((0 + 1 : Int32).toInt8.toInt32)) 1 ((upd (fun _ => 0) 1 ((0 + 1 : Int32).toInt8.toInt32) 1 + 1).toInt8.toInt32)) (upd (upd h 16 0) 17 (0 + 1)) (upd (upd (fun _ => 0) 16 6409) 17 4) (upd (upd (fun _ => 0) 16 (ma_K p 0 (nI R0))) 17 (ma_K 0 q (nI R1))) (upd (upd (fun _ => 0) 16 (ma_W p 0)) 17 (ma_W 0 q)) (fun _ => 0) (fun _ => 0) (fun _ => 0) (fun _ => 0) (fun _ => 0) b13 b14 b15 b16 := by
      intro z1 z2 hn2
      have t := ma_272 (post := post) (mc := 250) (ms := 3984) (kc := 0 + 1 + 16) (ks := 0 + 22 + 884) (f0 := 4) (f1 := 0 + 1 + 1) (f3 := 0) (a3 := upd (upd (fun _ => 0) 1 ((0 + 1 : Int32).toInt8.toInt32)) 1 ((upd (fun _ => 0) 1 ((0 + 1 : Int32).toInt8.toInt32) 1 + 1).toInt8.toInt32)) (a8 := fun _ => 0) (a9 := fun _ => 0) (a10 := fun _ => 0) (a11 := fun _ => 0) (a12 := fun _ => 0) (a1 := upd (upd (fun _ => 0) 0 3) 1 3) (a5 := upd (upd (fun _ => 0) 16 6409) 17 4) (a2 := upd (upd (fun _ => 0) 1 x) 2 y) E P (by rw [pk_un (by decide), pk_us]) (by rw [pk_us]) (by rw [pk_un (by decide), pk_us]) (by rw [pk_us]) (by rw [pk_un (by decide), pk_un (by decide)]) hx2 hn2 H
      rw [g1] at t
      exact t
    rcases h9 with ⟨rfl, m0⟩ | ⟨rfl, m0⟩
    · refine br_f (by decide) ?_
      rcases h10 with ⟨rfl, m1⟩ | ⟨rfl, m1⟩
      · refine br_f (by decide) (fin 1 1 ?_)
        rcases hn with ⟨_, _, e⟩ | ⟨_, u, _⟩ | ⟨u, _, _⟩ | ⟨u, _, _⟩
        · rw [e]; rfl
        · exact absurd m1 u
        · exact absurd m0 u
        · exact absurd m0 u
      · refine br_t (by decide) (fin 1 0 ?_)
        rcases hn with ⟨_, u, _⟩ | ⟨_, _, e⟩ | ⟨u, _, _⟩ | ⟨u, _, _⟩
        · exact absurd u m1
        · rw [e]; rfl
        · exact absurd m0 u
        · exact absurd m0 u
    · refine br_t (by decide) ?_
      rcases h10 with ⟨rfl, m1⟩ | ⟨rfl, m1⟩
      · refine br_f (by decide) (fin 0 1 ?_)
        rcases hn with ⟨u, _, _⟩ | ⟨u, _, _⟩ | ⟨_, _, e⟩ | ⟨_, u, _⟩
        · exact absurd u m0
        · exact absurd u m0
        · rw [e]; rfl
        · exact absurd m1 u
      · refine br_t (by decide) (fin 0 0 ?_)
        rcases hn with ⟨u, _, _⟩ | ⟨u, _, _⟩ | ⟨_, u, _⟩ | ⟨_, _, e⟩
        · exact absurd u m0
        · exact absurd u m0
        · exact absurd u m1
        · rw [e]; rfl
theorem ma_91 {post : Int32 → St0 → Prop} {A B C D X Y x9 x10 : Int32}
    (h9 : (x9 = 1 ∧ ma_F (C &&& 255) (D &&& 255) &&& ma_W (A &&& 65535) 0 = ma_V (A &&& 65535) 0) ∨ (x9 = 0 ∧ ¬ ma_F (C &&& 255) (D &&& 255) &&& ma_W (A &&& 65535) 0 = ma_V (A &&& 65535) 0))
    (h10 : (x10 = 1 ∧ ma_F (C &&& 255) (D &&& 255) &&& ma_W 0 (B &&& 65535) = ma_V 0 (B &&& 65535)) ∨ (x10 = 0 ∧ ¬ ma_F (C &&& 255) (D &&& 255) &&& ma_W 0 (B &&& 65535) = ma_V 0 (B &&& 65535)))
    (H : post 1 ()) : wL_lawOf_91 post 250 3984 X Y (A &&& 65535) (B &&& 65535) (C &&& 255) (D &&& 255) x9 x10 0 0 := by
  obtain ⟨R0, r0, e0⟩ := ma_r15 X
  obtain ⟨R1, r1, e1⟩ := ma_r15 Y
  have w : ∀ z0, (∀ r, ma_T (ma_F (C &&& 255) (D &&& 255) &&& ma_W (A &&& 65535) 0 = ma_V (A &&& 65535) 0) (ma_F (C &&& 255) (D &&& 255) &&& ma_W 0 (B &&& 65535) = ma_V 0 (B &&& 65535)) R0 R1 r → (r = 16 ∧ z0 = 0) ∨ (r = 17 ∧ z0 = 1) ∨ (r = -1 ∧ z0 = -3)) → wL_lawOf_137 post 250 3984 (A &&& 65535) (B &&& 65535) (C &&& 255) (D &&& 255) x9 x10 (X &&& 15) (Y &&& 15) z0 0 0 := fun z0 hx => ma_137 r0 r1 e0 e1 h9 h10 hx H
  refine nm_e (nm_e ?_)
  rcases h9 with ⟨rfl, m0⟩ | ⟨rfl, m0⟩
  · refine br_f (by decide) ?_
    rcases h10 with ⟨rfl, m1⟩ | ⟨rfl, m1⟩
    · refine br_f (by decide) (pk_lt R0 R1 (fun z => br_f (by decide) (w 1 (fun r h => ?_))) (fun z => w 0 (fun r h => ?_)) e0 e1)
      · rcases h with ⟨_, u | u, _⟩ | ⟨_, _, e⟩ | ⟨u, _, _⟩
        · exact absurd m1 u
        · exact absurd u (by omega)
        · exact Or.inr (Or.inl ⟨e, rfl⟩)
        · exact absurd m0 u
      · rcases h with ⟨_, _, e⟩ | ⟨_, u | u, _⟩ | ⟨u, _, _⟩
        · exact Or.inl ⟨e, rfl⟩
        · exact absurd m0 u
        · exact absurd u (by omega)
        · exact absurd m0 u
    · refine br_t rfl (w 0 (fun r h => ?_))
      rcases h with ⟨_, _, e⟩ | ⟨u, _, _⟩ | ⟨u, _, _⟩
      · exact Or.inl ⟨e, rfl⟩
      · exact absurd u m1
      · exact absurd m0 u
  · refine br_t rfl ?_
    rcases h10 with ⟨rfl, m1⟩ | ⟨rfl, m1⟩
    · refine br_f (by decide) (w 1 (fun r h => ?_))
      rcases h with ⟨u, _, _⟩ | ⟨_, _, e⟩ | ⟨_, u, _⟩
      · exact absurd u m0
      · exact Or.inr (Or.inl ⟨e, rfl⟩)
      · exact absurd m1 u
    · refine br_t rfl (w (-3) (fun r h => ?_))
      rcases h with ⟨u, _, _⟩ | ⟨u, _, _⟩ | ⟨_, _, e⟩
      · exact absurd u m0
      · exact absurd u m1
      · exact Or.inr (Or.inr ⟨e, rfl⟩)
theorem ma_lawOf {post : Int32 → St0 → Prop} (A B X Y C : Int32) (H : post 1 ()) : wpL_lawOf post 250 3984 () A B X Y C := by
  have M0 := ma_m0 (A &&& 65535) (C &&& 255) ((C >>> ((8 : Int32) &&& 31)) &&& 255) (ma_zhi _)
  have M1 := ma_m1 (B &&& 65535) (C &&& 255) ((C >>> ((8 : Int32) &&& 31)) &&& 255) (ma_z16 _)
  refine nm_e (nm_e (nm_e (nm_e (br_c (fun m0 => br_c (fun m1 => ?_) (fun m1 => ?_)) (fun m0 => br_c (fun m1 => ?_) (fun m1 => ?_))))))
  · exact ma_91 (Or.inl ⟨rfl, M0.mpr m0⟩) (Or.inl ⟨rfl, M1.mpr m1⟩) H
  · exact ma_91 (Or.inl ⟨rfl, M0.mpr m0⟩) (Or.inr ⟨rfl, fun t => m1 (M1.mp t)⟩) H
  · exact ma_91 (Or.inr ⟨rfl, fun t => m0 (M0.mp t)⟩) (Or.inl ⟨rfl, M1.mpr m1⟩) H
  · exact ma_91 (Or.inr ⟨rfl, fun t => m0 (M0.mp t)⟩) (Or.inr ⟨rfl, fun t => m1 (M1.mp t)⟩) H
theorem ma_cell {post : Int32 → Prop} {L : Nat} {xs : Nat → Int32} (k : Nat) (hk : k < 5) (hL : L ≤ 5) (H : ∀ v, post v) : wpL_cellAt post L xs () (nI k) :=
  pk_le L k (fun _ => H 0) (fun z => ⟨pk_in k L z, H _⟩)
theorem i_vc (xs : Nat → Int32) (L : Nat) (hL : L ≤ 5) : wpL_law (fun r => r = 1) L xs := by
  unfold wpL_law
  exact ma_cell 0 (by omega) hL (fun a => ma_cell 1 (by omega) hL (fun b => ma_cell 2 (by omega) hL (fun c => ma_cell 3 (by omega) hL (fun d => ma_cell 4 (by omega) hL (fun e => ⟨250, 3984, by omega, by omega, ma_lawOf a b c d e rfl⟩)))))
end
