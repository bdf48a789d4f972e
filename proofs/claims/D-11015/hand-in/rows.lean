section
/-! ===== Int32 by its bits (rows of kit/laws/BITS.to-paste, renamed) ===== -/
def pb_t (x : Int32) (i : Nat) : Bool := x.toBitVec.getLsbD i
theorem pb_ext {x y : Int32} (h : ∀ i, i < 32 → pb_t x i = pb_t y i) : x = y := Int32.toBitVec_inj.mp (BitVec.eq_of_getLsbD_eq (fun i hi => h i hi))
theorem pb_or (x y : Int32) (i : Nat) : pb_t (x ||| y) i = (pb_t x i || pb_t y i) := by unfold pb_t; rw [Int32.toBitVec_or, BitVec.getLsbD_or]
theorem pb_and (x y : Int32) (i : Nat) : pb_t (x &&& y) i = (pb_t x i && pb_t y i) := by unfold pb_t; rw [Int32.toBitVec_and, BitVec.getLsbD_and]
theorem pb_xor (x y : Int32) (i : Nat) : pb_t (x ^^^ y) i = (pb_t x i ^^ pb_t y i) := by unfold pb_t; rw [Int32.toBitVec_xor, BitVec.getLsbD_xor]
theorem pb_big {x : Int32} {i : Nat} (h : 32 ≤ i) : pb_t x i = false := BitVec.getLsbD_of_ge _ _ h
theorem pb_255 (i : Nat) : pb_t 255 i = decide (i < 8) := by
  rcases Nat.lt_or_ge i 32 with h | h
  · exact (by decide +kernel : ∀ i, i < 32 → pb_t 255 i = decide (i < 8)) i h
  · rw [pb_big h, decide_eq_false (by omega)]
theorem pb_m24 : ∀ i, i < 32 → pb_t 16777215 i = decide (i < 24) := by decide +kernel
theorem pb_0 (i : Nat) : pb_t 0 i = false := BitVec.getLsbD_zero
theorem pb_sl : ∀ n, n < 32 → ((nI n &&& 31).toBitVec.smod 32).toNat = n := by decide +kernel
theorem pb_shl (n : Nat) (hn : n < 32) (x : Int32) {i : Nat} (hi : i < 32) : pb_t (x <<< (nI n &&& 31)) i = (decide (n ≤ i) && pb_t x (i - n)) := by
  unfold pb_t
  rw [Int32.toBitVec_shiftLeft]
  show (x.toBitVec <<< ((nI n &&& 31).toBitVec.smod 32).toNat).getLsbD i = _
  rw [pb_sl n hn, BitVec.getLsbD_shiftLeft]
  rcases Nat.lt_or_ge i n with h | h
  · simp [h, Nat.not_le.mpr h]
  · simp [hi, h, Nat.not_lt.mpr h]
theorem pb_sshr (n : Nat) (hn : n < 32) (x : Int32) {i : Nat} (hi : i < 32) : pb_t (x >>> (nI n &&& 31)) i = if n + i < 32 then pb_t x (n + i) else pb_t x 31 := by
  unfold pb_t
  rw [Int32.toBitVec_shiftRight]
  show (x.toBitVec.sshiftRight ((nI n &&& 31).toBitVec.smod 32).toNat).getLsbD i = _
  rw [pb_sl n hn, BitVec.getLsbD_sshiftRight, BitVec.msb_eq_getLsbD_last]
  simp [hi]
theorem pb_shl8 (x : Int32) {i : Nat} (hi : i < 32) : pb_t (x <<< ((8 : Int32) &&& 31)) i = (decide (8 ≤ i) && pb_t x (i - 8)) := pb_shl 8 (by omega) x hi
theorem pb_shl16 (x : Int32) {i : Nat} (hi : i < 32) : pb_t (x <<< ((16 : Int32) &&& 31)) i = (decide (16 ≤ i) && pb_t x (i - 16)) := pb_shl 16 (by omega) x hi
theorem pb_sshr8 (x : Int32) {i : Nat} (hi : i < 32) : pb_t (x >>> ((8 : Int32) &&& 31)) i = if 8 + i < 32 then pb_t x (8 + i) else pb_t x 31 := pb_sshr 8 (by omega) x hi
theorem pb_sshr16 (x : Int32) {i : Nat} (hi : i < 32) : pb_t (x >>> ((16 : Int32) &&& 31)) i = if 16 + i < 32 then pb_t x (16 + i) else pb_t x 31 := pb_sshr 16 (by omega) x hi
/-! ===== colours: three bytes ===== -/
def pv_q0 (v : Int32) : Int32 := (v >>> ((16 : Int32) &&& 31)) &&& 255
def pv_q1 (v : Int32) : Int32 := (v >>> ((8 : Int32) &&& 31)) &&& 255
def pv_q2 (v : Int32) : Int32 := v &&& 255
def pv_cat (r g b : Int32) : Int32 := ((r <<< ((16 : Int32) &&& 31)) ||| (g <<< ((8 : Int32) &&& 31))) ||| b
def pv_mx (r g b : Int32) : Int32 := (((r &&& 255) <<< ((16 : Int32) &&& 31)) ||| ((g &&& 255) <<< ((8 : Int32) &&& 31))) ||| (b &&& 255)
/-- an int of 24 bits -/
def pv_24 (v : Int32) : Prop := ∀ i, 24 ≤ i → i < 32 → pb_t v i = false
theorem pv_mx_cat (r g b : Int32) : pv_mx r g b = pv_cat (r &&& 255) (g &&& 255) (b &&& 255) := rfl
theorem pb_q0 (v : Int32) {k : Nat} (hk : k < 32) : pb_t (pv_q0 v) k = (decide (k < 8) && pb_t v (16 + k)) := by
  unfold pv_q0
  rw [pb_and, pb_255, pb_sshr16 v hk]
  by_cases h : k < 8
  · rw [if_pos (by omega), decide_eq_true h, Bool.and_true, Bool.true_and]
  · rw [decide_eq_false h, Bool.and_false, Bool.false_and]
theorem pb_q1 (v : Int32) {k : Nat} (hk : k < 32) : pb_t (pv_q1 v) k = (decide (k < 8) && pb_t v (8 + k)) := by
  unfold pv_q1
  rw [pb_and, pb_255, pb_sshr8 v hk]
  by_cases h : k < 8
  · rw [if_pos (by omega), decide_eq_true h, Bool.and_true, Bool.true_and]
  · rw [decide_eq_false h, Bool.and_false, Bool.false_and]
theorem pb_q2 (v : Int32) (k : Nat) : pb_t (pv_q2 v) k = (decide (k < 8) && pb_t v k) := by
  unfold pv_q2
  rw [pb_and, pb_255, Bool.and_comm]
theorem pb_cat (r g b : Int32) {i : Nat} (hi : i < 32) : pb_t (pv_cat r g b) i = (((decide (16 ≤ i) && pb_t r (i - 16)) || (decide (8 ≤ i) && pb_t g (i - 8))) || pb_t b i) := by
  unfold pv_cat
  rw [pb_or, pb_or, pb_shl16 r hi, pb_shl8 g hi]
theorem pb_m255 (r : Int32) (i : Nat) : pb_t (r &&& 255) i = (decide (i < 8) && pb_t r i) := by
  rw [pb_and, pb_255, Bool.and_comm]
theorem pb_mx (r g b : Int32) {i : Nat} (hi : i < 32) : pb_t (pv_mx r g b) i = (((decide (16 ≤ i) && (decide (i - 16 < 8) && pb_t r (i - 16))) || (decide (8 ≤ i) && (decide (i - 8 < 8) && pb_t g (i - 8)))) || (decide (i < 8) && pb_t b i)) := by
  rw [pv_mx_cat, pb_cat _ _ _ hi, pb_m255, pb_m255, pb_m255]
theorem pv_q0_mx (r g b : Int32) : pv_q0 (pv_mx r g b) = r &&& 255 := by
  apply pb_ext
  intro i hi
  rw [pb_q0 _ hi, pb_m255]
  by_cases h : i < 8
  · rw [pb_mx _ _ _ (show 16 + i < 32 by omega), show 16 + i - 16 = i by omega, decide_eq_true h, decide_eq_true (show 16 ≤ 16 + i by omega), decide_eq_false (show ¬ 16 + i - 8 < 8 by omega), decide_eq_false (show ¬ 16 + i < 8 by omega)]
    simp
  · rw [decide_eq_false h, Bool.false_and, Bool.false_and]
theorem pv_q1_mx (r g b : Int32) : pv_q1 (pv_mx r g b) = g &&& 255 := by
  apply pb_ext
  intro i hi
  rw [pb_q1 _ hi, pb_m255]
  by_cases h : i < 8
  · rw [pb_mx _ _ _ (show 8 + i < 32 by omega), show 8 + i - 8 = i by omega, decide_eq_true h, decide_eq_true (show 8 ≤ 8 + i by omega), decide_eq_false (show ¬ 16 ≤ 8 + i by omega), decide_eq_false (show ¬ 8 + i < 8 by omega)]
    simp
  · rw [decide_eq_false h, Bool.false_and, Bool.false_and]
theorem pv_q2_mx (r g b : Int32) : pv_q2 (pv_mx r g b) = b &&& 255 := by
  apply pb_ext
  intro i hi
  rw [pb_q2, pb_m255]
  by_cases h : i < 8
  · rw [pb_mx _ _ _ hi, decide_eq_true h, decide_eq_false (show ¬ 16 ≤ i by omega), decide_eq_false (show ¬ 8 ≤ i by omega)]
    simp
  · rw [decide_eq_false h, Bool.false_and, Bool.false_and]
theorem pv_24_mx (r g b : Int32) : pv_24 (pv_mx r g b) := by
  intro i h1 h2
  rw [pb_mx _ _ _ h2, decide_eq_false (show ¬ i - 16 < 8 by omega), decide_eq_false (show ¬ i - 8 < 8 by omega), decide_eq_false (show ¬ i < 8 by omega)]
  simp
theorem pv_24_0 : pv_24 0 := fun i _ _ => pb_0 i
theorem pv_24_xor {a b : Int32} (ha : pv_24 a) (hb : pv_24 b) : pv_24 (a ^^^ b) := by
  intro i h1 h2
  rw [pb_xor, ha i h1 h2, hb i h1 h2]
  rfl
theorem pv_24_mask (x : Int32) : pv_24 (x &&& 16777215) := by
  intro i h1 h2
  rw [pb_and, pb_m24 i h2, decide_eq_false (show ¬ i < 24 by omega), Bool.and_false]
theorem pv_24_cat {v : Int32} (h : pv_24 v) : pv_cat (pv_q0 v) (pv_q1 v) (pv_q2 v) = v := by
  apply pb_ext
  intro i hi
  rw [pb_cat _ _ _ hi, pb_q0 _ (show i - 16 < 32 by omega), pb_q1 _ (show i - 8 < 32 by omega), pb_q2]
  by_cases h8 : i < 8
  · rw [decide_eq_false (show ¬ 16 ≤ i by omega), decide_eq_false (show ¬ 8 ≤ i by omega), decide_eq_true h8]
    simp
  · by_cases h16 : i < 16
    · rw [decide_eq_false (show ¬ 16 ≤ i by omega), decide_eq_true (show 8 ≤ i by omega), decide_eq_false h8, decide_eq_true (show i - 8 < 8 by omega), show 8 + (i - 8) = i by omega]
      simp
    · by_cases h24 : i < 24
      · rw [decide_eq_true (show 16 ≤ i by omega), decide_eq_true (show i - 16 < 8 by omega), decide_eq_false h8, decide_eq_false (show ¬ i - 8 < 8 by omega), show 16 + (i - 16) = i by omega]
        simp
      · rw [h i (by omega) hi, decide_eq_false (show ¬ i - 16 < 8 by omega), decide_eq_false h8, decide_eq_false (show ¬ i - 8 < 8 by omega)]
        simp
/-- byte c of a colour -/
def pv_q (c : Nat) (v : Int32) : Int32 := if c = 0 then pv_q0 v else if c = 1 then pv_q1 v else pv_q2 v
theorem pv_q_0 (v : Int32) : pv_q 0 v = pv_q0 v := rfl
theorem pv_q_1 (v : Int32) : pv_q 1 v = pv_q1 v := rfl
theorem pv_q_2 (v : Int32) : pv_q 2 v = pv_q2 v := rfl
theorem pv_q_in (c : Nat) (v : Int32) : ∃ j : Nat, j < 256 ∧ pv_q c v = nI j := by
  unfold pv_q
  by_cases h0 : c = 0
  · rw [if_pos h0]; exact pk_andE _ 8 (by decide)
  · rw [if_neg h0]
    by_cases h1 : c = 1
    · rw [if_pos h1]; exact pk_andE _ 8 (by decide)
    · rw [if_neg h1]; exact pk_andE _ 8 (by decide)
/-- half of two colours, byte by byte -/
def pv_hf (a b : Int32) : Int32 := pv_mx ((pv_q0 a + pv_q0 b) / 2) ((pv_q1 a + pv_q1 b) / 2) ((pv_q2 a + pv_q2 b) / 2)
theorem pv_avg {x y : Int32} (hx : ∃ j : Nat, j < 256 ∧ x = nI j) (hy : ∃ j : Nat, j < 256 ∧ y = nI j) : (x + y) / 2 &&& 255 = (x + y) / 2 := by
  obtain ⟨i, hi, rfl⟩ := hx
  obtain ⟨j, hj, rfl⟩ := hy
  have e : (nI i + nI j) / 2 = nI ((i + j) / 2) := by
    rw [nI_add]
    exact pk_div (d := 2) (by omega) (by omega) (by omega)
  rw [e, pk_andN (by omega) 8 (by decide), Nat.mod_eq_of_lt (by omega)]
theorem pv_q_hf (c : Nat) (a b : Int32) : pv_q c (pv_hf a b) = (pv_q c a + pv_q c b) / 2 := by
  have g : ∀ c, (pv_q c a + pv_q c b) / 2 &&& 255 = (pv_q c a + pv_q c b) / 2 := fun c => pv_avg (pv_q_in c a) (pv_q_in c b)
  unfold pv_hf
  by_cases h0 : c = 0
  · subst h0
    rw [pv_q_0, pv_q0_mx]
    exact g 0
  · by_cases h1 : c = 1
    · subst h1
      rw [pv_q_1, pv_q1_mx]
      exact g 1
    · have e : ∀ v, pv_q c v = pv_q2 v := fun v => by unfold pv_q; rw [if_neg h0, if_neg h1]
      rw [e, e, e, pv_q2_mx]
      exact g 2
theorem pv_24_hf (a b : Int32) : pv_24 (pv_hf a b) := pv_24_mx _ _ _
/-- one byte thrice -/
theorem pv_ev0 : ∀ j, j < 256 → nI j * 65793 = pv_cat (nI j) (nI j) (nI j) := by decide +kernel
theorem pv_ev (v : Int32) : (v &&& 255) * 65793 = pv_mx v v v := by
  rw [pv_mx_cat]
  obtain ⟨j, hj, e⟩ := pk_andE v (m := 255) 8 (by decide)
  rw [e]
  exact pv_ev0 j hj
theorem pv_xor0 (v : Int32) : v ^^^ 0 = v := by
  apply pb_ext
  intro i _
  rw [pb_xor, pb_0, Bool.xor_false]
end
section
/-! ===== places of a picture of w times h ===== -/
theorem pv_flat {w h x y : Nat} (hx : x < w) (hy : y < h) : w * y + x < w * h := by
  have h1 : w * (y + 1) ≤ w * h := Nat.mul_le_mul_left w hy
  rw [Nat.mul_add, Nat.mul_one] at h1
  omega
theorem pv_dv {w x : Nat} (y : Nat) (hx : x < w) : (w * y + x) / w = y := by
  rw [Nat.mul_add_div (by omega), Nat.div_eq_of_lt hx, Nat.add_zero]
theorem pv_md {w x : Nat} (y : Nat) (hx : x < w) : (w * y + x) % w = x := by
  rw [Nat.mul_add_mod, Nat.mod_eq_of_lt hx]
theorem pv_y {w h i : Nat} (hi : i < w * h) : i / w < h := Nat.div_lt_of_lt_mul hi
theorem pv_x {w i : Nat} (hw : 1 ≤ w) : i % w < w := Nat.mod_lt _ hw
theorem pv_xy (w i : Nat) : w * (i / w) + i % w = i := Nat.div_add_mod i w
theorem pv_area {w h : Nat} (hw : w ≤ 12) (hh : h ≤ 12) : w * h ≤ 144 := Nat.mul_le_mul hw hh
/-- a place i = w y + x as its two numbers -/
theorem pv_cut {w h i : Nat} (hw : 1 ≤ w) (hi : i < w * h) : ∃ x y, x < w ∧ y < h ∧ i = w * y + x ∧ i % w = x ∧ i / w = y :=
  ⟨i % w, i / w, pv_x hw, pv_y hi, (pv_xy w i).symm, rfl, rfl⟩
/-! ===== turning ===== -/
def pv_tt (k w h i : Nat) : Nat := if k = 0 then w * (i / w) + (w - 1 - i % w) else if k = 1 then w * (h - 1 - i / w) + i % w else h * (i % w) + i / w
def pv_dw (k w h : Nat) : Nat := if k = 2 then h else w
def pv_dh (k w h : Nat) : Nat := if k = 2 then w else h
theorem pv_t0 {w h x y : Nat} (hx : x < w) : pv_tt 0 w h (w * y + x) = w * y + (w - 1 - x) := by
  unfold pv_tt
  rw [if_pos rfl, pv_dv y hx, pv_md y hx]
theorem pv_t1 {w h x y : Nat} (hx : x < w) : pv_tt 1 w h (w * y + x) = w * (h - 1 - y) + x := by
  unfold pv_tt
  rw [if_neg (by omega), if_pos rfl, pv_dv y hx, pv_md y hx]
theorem pv_t2 {w h x y : Nat} (hx : x < w) : pv_tt 2 w h (w * y + x) = h * x + y := by
  unfold pv_tt
  rw [if_neg (by omega), if_neg (by omega), pv_dv y hx, pv_md y hx]
theorem pv_tt_lt {k w h i : Nat} (hk : k ≤ 2) (hw : 1 ≤ w) (hi : i < w * h) : pv_tt k w h i < w * h := by
  obtain ⟨x, y, hx, hy, rfl, _, _⟩ := pv_cut hw hi
  have hk' : k = 0 ∨ k = 1 ∨ k = 2 := by omega
  rcases hk' with rfl | rfl | rfl
  · rw [pv_t0 hx]
    exact pv_flat (by omega) hy
  · rw [pv_t1 hx]
    exact pv_flat hx (by omega)
  · rw [pv_t2 hx, Nat.mul_comm w h]
    exact pv_flat hy hx
theorem pv_tt_inv {k w h i : Nat} (hk : k ≤ 2) (hw : 1 ≤ w) (hi : i < w * h) : pv_tt k (pv_dw k w h) (pv_dh k w h) (pv_tt k w h i) = i := by
  obtain ⟨x, y, hx, hy, rfl, _, _⟩ := pv_cut hw hi
  have hk' : k = 0 ∨ k = 1 ∨ k = 2 := by omega
  rcases hk' with rfl | rfl | rfl
  · rw [pv_t0 hx]
    show pv_tt 0 w h (w * y + (w - 1 - x)) = _
    rw [pv_t0 (by omega), show w - 1 - (w - 1 - x) = x by omega]
  · rw [pv_t1 hx]
    show pv_tt 1 w h (w * (h - 1 - y) + x) = _
    rw [pv_t1 hx, show h - 1 - (h - 1 - y) = y by omega]
  · rw [pv_t2 hx]
    show pv_tt 2 h w (h * x + y) = _
    rw [pv_t2 hy]
theorem pv_tt_ne {k w h i j : Nat} (hk : k ≤ 2) (hw : 1 ≤ w) (hi : i < w * h) (hj : j < w * h) (hne : i ≠ j) : pv_tt k w h i ≠ pv_tt k w h j := by
  intro e
  have a := pv_tt_inv hk hw hi
  rw [e, pv_tt_inv hk hw hj] at a
  exact hne a.symm
theorem pv_dwh (k w h : Nat) : pv_dw k w h * pv_dh k w h = w * h := by
  unfold pv_dw pv_dh
  by_cases e : k = 2
  · rw [if_pos e, if_pos e, Nat.mul_comm]
  · rw [if_neg e, if_neg e]
theorem pv_dw_dw (k w h : Nat) : pv_dw k (pv_dw k w h) (pv_dh k w h) = w := by
  unfold pv_dw pv_dh
  by_cases e : k = 2
  · rw [if_pos e, if_pos e]
  · rw [if_neg e, if_neg e]
theorem pv_dh_dh (k w h : Nat) : pv_dh k (pv_dw k w h) (pv_dh k w h) = h := by
  unfold pv_dw pv_dh
  by_cases e : k = 2
  · rw [if_pos e, if_pos e]
  · rw [if_neg e, if_neg e]
theorem pv_dw_in {k w h : Nat} (hw : 1 ≤ w) (hw' : w ≤ 12) (hh : 1 ≤ h) (hh' : h ≤ 12) : 1 ≤ pv_dw k w h ∧ pv_dw k w h ≤ 12 ∧ 1 ≤ pv_dh k w h ∧ pv_dh k w h ≤ 12 := by
  unfold pv_dw pv_dh
  by_cases e : k = 2
  · rw [if_pos e, if_pos e]; exact ⟨hh, hh', hw, hw'⟩
  · rw [if_neg e, if_neg e]; exact ⟨hw, hw', hh, hh'⟩
/-- each place is the turned one of some place -/
theorem pv_tt_on {k w h j : Nat} (hk : k ≤ 2) (hw : 1 ≤ w) (hh : 1 ≤ h) (hj : j < w * h) : ∃ i, i < w * h ∧ pv_tt k w h i = j ∧ pv_tt k (pv_dw k w h) (pv_dh k w h) j = i := by
  have hw2 : 1 ≤ pv_dw k w h := by
    unfold pv_dw
    by_cases e : k = 2
    · rw [if_pos e]; exact hh
    · rw [if_neg e]; exact hw
  have hj' : j < pv_dw k w h * pv_dh k w h := by rw [pv_dwh]; exact hj
  have a := pv_tt_lt hk hw2 hj'
  have b := pv_tt_inv hk hw2 hj'
  rw [pv_dwh] at a
  rw [pv_dw_dw, pv_dh_dh] at b
  exact ⟨_, a, b, rfl⟩
/-! ===== counting ===== -/
def pv_cnt (p : Nat → Bool) : Nat → Nat
  | 0 => 0
  | n + 1 => pv_cnt p n + (if p n = true then 1 else 0)
theorem pv_cnt_t {p : Nat → Bool} {n : Nat} (h : p n = true) : pv_cnt p (n + 1) = pv_cnt p n + 1 := by
  show pv_cnt p n + (if p n = true then 1 else 0) = _
  rw [if_pos h]
theorem pv_cnt_f {p : Nat → Bool} {n : Nat} (h : ¬ p n = true) : pv_cnt p (n + 1) = pv_cnt p n := by
  show pv_cnt p n + (if p n = true then 1 else 0) = _
  rw [if_neg h]
  rfl
theorem pv_cnt_le (p : Nat → Bool) (n : Nat) : pv_cnt p n ≤ n := by
  induction n with
  | zero => exact Nat.le_refl 0
  | succ n ih =>
    by_cases h : p n = true
    · rw [pv_cnt_t h]; omega
    · rw [pv_cnt_f h]; omega
theorem pv_cnt_skip {p : Nat → Bool} {n : Nat} : ∀ m, n ≤ m → (∀ i, n ≤ i → i < m → ¬ p i = true) → pv_cnt p m = pv_cnt p n := by
  intro m
  induction m with
  | zero =>
    intro h _
    rw [show n = 0 by omega]
  | succ m ih =>
    intro h hp
    by_cases e : n = m + 1
    · rw [e]
    · rw [pv_cnt_f (hp m (by omega) (by omega))]
      exact ih (by omega) (fun i h1 h2 => hp i h1 (by omega))
/-- is place i in the box? -/
def pv_in (w l t wd hg i : Nat) : Bool := decide (l ≤ i % w ∧ i % w < l + wd ∧ t ≤ i / w ∧ i / w < t + hg)
theorem pv_in_iff {w l t wd hg i : Nat} : pv_in w l t wd hg i = true ↔ (l ≤ i % w ∧ i % w < l + wd ∧ t ≤ i / w ∧ i / w < t + hg) := by
  unfold pv_in
  exact decide_eq_true_iff
theorem pv_in_xy {w l t wd hg x y : Nat} (hx : x < w) : pv_in w l t wd hg (w * y + x) = true ↔ (l ≤ x ∧ x < l + wd ∧ t ≤ y ∧ y < t + hg) := by
  rw [pv_in_iff, pv_dv y hx, pv_md y hx]
/-- the painted picture, as far as place N -/
def pv_pn (p : Nat → Bool) (col : Int32) (K : Nat → Int32) (N : Nat) (j : Nat) : Int32 := if p j = true ∧ j < N then col else K j
theorem pv_pn_skip {p : Nat → Bool} {col : Int32} {K : Nat → Int32} {n m : Nat} (h : n ≤ m) (hp : ∀ i, n ≤ i → i < m → ¬ p i = true) (j : Nat) : pv_pn p col K n j = pv_pn p col K m j := by
  unfold pv_pn
  by_cases h1 : p j = true ∧ j < n
  · rw [if_pos h1, if_pos ⟨h1.1, by omega⟩]
  · rw [if_neg h1]
    by_cases h2 : p j = true ∧ j < m
    · by_cases h3 : j < n
      · exact absurd ⟨h2.1, h3⟩ h1
      · exact absurd h2.1 (hp j (by omega) h2.2)
    · rw [if_neg h2]
theorem pv_pn_put {p : Nat → Bool} {col : Int32} {K : Nat → Int32} {n : Nat} (hp : p n = true) : upd (pv_pn p col K n) n col = pv_pn p col K (n + 1) := by
  funext j
  by_cases e : j = n
  · rw [e, pk_us]
    unfold pv_pn
    rw [if_pos ⟨hp, by omega⟩]
  · rw [pk_un e]
    unfold pv_pn
    by_cases h1 : p j = true ∧ j < n
    · rw [if_pos h1, if_pos ⟨h1.1, by omega⟩]
    · rw [if_neg h1, if_neg (fun z => h1 ⟨z.1, by omega⟩)]
/-- no place of the box lies between w y + x and the next row -/
theorem pv_no_row {w l t wd hg y x : Nat} (hx : l + wd ≤ x ∨ w ≤ x) : ∀ i, w * y + x ≤ i → i < w * (y + 1) → ¬ pv_in w l t wd hg i = true := by
  intro i h1 h2 h3
  have hw : 1 ≤ w := by
    rcases Nat.eq_zero_or_pos w with e | e
    · subst e; omega
    · exact e
  obtain ⟨a, b, ha, hb, e, _, _⟩ := pv_cut hw h2
  subst e
  rw [pv_in_xy ha] at h3
  have hy : y ≤ b := by
    rcases Nat.lt_or_ge b y with z | z
    · have := pv_flat ha z
      omega
    · exact z
  have e : b = y := by omega
  subst e
  omega
/-- nor between the row's begin and its left side -/
theorem pv_no_left {w l t wd hg y m : Nat} (hm : m ≤ l) (hw : m ≤ w) : ∀ i, w * y ≤ i → i < w * y + m → ¬ pv_in w l t wd hg i = true := by
  intro i h1 h2 h3
  have e : i = w * y + (i - w * y) := by omega
  rw [e, pv_in_xy (by omega)] at h3
  omega
/-- nor in whole rows above or below it -/
theorem pv_no_rows {w l t wd hg y y' : Nat} (h : y' ≤ t ∨ t + hg ≤ y) : ∀ i, w * y ≤ i → i < w * y' → ¬ pv_in w l t wd hg i = true := by
  intro i h1 h2 h3
  have hw : 1 ≤ w := by
    rcases Nat.eq_zero_or_pos w with e | e
    · subst e; omega
    · exact e
  obtain ⟨a, b, ha, hb, e, _, _⟩ := pv_cut hw h2
  subst e
  rw [pv_in_xy ha] at h3
  have hy : y ≤ b := by
    rcases Nat.lt_or_ge b y with z | z
    · have := pv_flat ha z
      omega
    · exact z
  omega
/-! ===== what a picture holds ===== -/
def pv_lc (s : Int32) : Nat → Int32
  | 0 => s
  | n + 1 => pv_lc s n * 1103515245 + 12345
def pv_dg (K : Nat → Int32) : Nat → Int32
  | 0 => 0
  | n + 1 => pv_dg K n + (nI n + 1) * K n
theorem pv_dg_eq {K K' : Nat → Int32} : ∀ n, (∀ j, j < n → K j = K' j) → pv_dg K n = pv_dg K' n := by
  intro n
  induction n with
  | zero => intro _; rfl
  | succ n ih =>
    intro h
    show pv_dg K n + (nI n + 1) * K n = pv_dg K' n + (nI n + 1) * K' n
    rw [ih (fun j hj => h j (by omega)), h n (by omega)]
/-- what a pattern lays at place x, y ahead of the picture that was there; s: the number of that place -/
def pv_val (k : Nat) (seed step s : Int32) (x y : Nat) : Int32 :=
  if k = 1 then pv_mx (seed + step * (nI x ^^^ nI y)) (seed + step * (nI x ^^^ nI y)) (seed + step * (nI x ^^^ nI y))
  else if k = 2 then pv_mx ((s.toUInt32 >>> ((8 : Int32).toUInt32 &&& Int32.toUInt32 31)).toInt32) ((s.toUInt32 >>> ((16 : Int32).toUInt32 &&& Int32.toUInt32 31)).toInt32) step
  else pv_mx (seed + step * nI x) (seed + step * nI y) (seed + (step * nI x) * nI y)
def pv_pt (k : Nat) (seed step : Int32) (w : Nat) (K : Nat → Int32) (j : Nat) : Int32 :=
  pv_val k seed step (pv_lc seed (j + 1)) (j % w) (j / w) ^^^ (if k = 3 then K j else 0)
theorem pv_24_val (k : Nat) (seed step s : Int32) (x y : Nat) : pv_24 (pv_val k seed step s x y) := by
  unfold pv_val
  by_cases h1 : k = 1
  · rw [if_pos h1]; exact pv_24_mx _ _ _
  · rw [if_neg h1]
    by_cases h2 : k = 2
    · rw [if_pos h2]; exact pv_24_mx _ _ _
    · rw [if_neg h2]; exact pv_24_mx _ _ _
theorem pv_24_pt {k : Nat} {seed step : Int32} {w : Nat} {K : Nat → Int32} {j : Nat} (h : pv_24 (K j)) : pv_24 (pv_pt k seed step w K j) := by
  unfold pv_pt
  refine pv_24_xor (pv_24_val _ _ _ _ _ _) ?_
  by_cases h3 : k = 3
  · rw [if_pos h3]; exact h
  · rw [if_neg h3]; exact pv_24_0
/-! ===== halving ===== -/
def pv_ac (K : Nat → Int32) (w x y : Nat) : Int32 := if 2 * x + 1 < w then pv_hf (K (w * y + 2 * x)) (K (w * y + (2 * x + 1))) else K (w * y + 2 * x)
def pv_hv (K : Nat → Int32) (w h x y : Nat) : Int32 := if 2 * y + 1 < h then pv_hf (pv_ac K w x (2 * y)) (pv_ac K w x (2 * y + 1)) else pv_ac K w x (2 * y)
def pv_hK (K : Nat → Int32) (w h j : Nat) : Int32 := pv_hv K w h (j % ((w + 1) / 2)) (j / ((w + 1) / 2))
theorem pv_24_ac {K : Nat → Int32} {w h x y : Nat} (hK : ∀ j, j < w * h → pv_24 (K j)) (hx : 2 * x < w) (hy : y < h) : pv_24 (pv_ac K w x y) := by
  unfold pv_ac
  by_cases e : 2 * x + 1 < w
  · rw [if_pos e]; exact pv_24_hf _ _
  · rw [if_neg e]; exact hK _ (pv_flat hx hy)
theorem pv_24_hv {K : Nat → Int32} {w h x y : Nat} (hK : ∀ j, j < w * h → pv_24 (K j)) (hx : 2 * x < w) (hy : 2 * y < h) : pv_24 (pv_hv K w h x y) := by
  unfold pv_hv
  by_cases e : 2 * y + 1 < h
  · rw [if_pos e]; exact pv_24_hf _ _
  · rw [if_neg e]; exact pv_24_ac hK hx hy
theorem pv_24_hK {K : Nat → Int32} {w h j : Nat} (hK : ∀ j, j < w * h → pv_24 (K j)) (hw : 1 ≤ w) (hj : j < (w + 1) / 2 * ((h + 1) / 2)) : pv_24 (pv_hK K w h j) := by
  have a := pv_x (i := j) (show 1 ≤ (w + 1) / 2 by omega)
  have b := pv_y hj
  exact pv_24_hv hK (by omega) (by omega)
theorem pv_half_area {w h : Nat} (hw : 1 ≤ w) (hh : 1 ≤ h) : (w + 1) / 2 * ((h + 1) / 2) ≤ w * h := Nat.mul_le_mul (by omega) (by omega)
end
section
/-! ===== the picture in the array hand ===== -/
def pv_H (N : Nat) (a : Nat → Int32) (K : Nat → Int32) : Prop := ∀ j, j < N → pv_24 (K j) ∧ ∀ c, c < 3 → a (144 * c + j) = pv_q c (K j)
theorem pv_H0 {N : Nat} {a K : Nat → Int32} (h : pv_H N a K) {j : Nat} (hj : j < N) : a j = pv_q0 (K j) := by
  have e := (h j hj).2 0 (by omega)
  rw [Nat.mul_zero, Nat.zero_add] at e
  exact e
theorem pv_H1 {N : Nat} {a K : Nat → Int32} (h : pv_H N a K) {j : Nat} (hj : j < N) : a (144 + j) = pv_q1 (K j) := (h j hj).2 1 (by omega)
theorem pv_H2 {N : Nat} {a K : Nat → Int32} (h : pv_H N a K) {j : Nat} (hj : j < N) : a (288 + j) = pv_q2 (K j) := (h j hj).2 2 (by omega)
theorem pv_Hmk {N : Nat} {a K : Nat → Int32} (h : ∀ j, j < N → pv_24 (K j)) (h0 : ∀ j, j < N → a j = pv_q0 (K j)) (h1 : ∀ j, j < N → a (144 + j) = pv_q1 (K j)) (h2 : ∀ j, j < N → a (288 + j) = pv_q2 (K j)) : pv_H N a K := by
  intro j hj
  refine ⟨h j hj, fun c hc => ?_⟩
  have hc' : c = 0 ∨ c = 1 ∨ c = 2 := by omega
  rcases hc' with rfl | rfl | rfl
  · rw [Nat.mul_zero, Nat.zero_add]
    exact h0 j hj
  · exact h1 j hj
  · exact h2 j hj
theorem pv_H_eq {N : Nat} {a K K' : Nat → Int32} (h : pv_H N a K) (e : ∀ j, j < N → K j = K' j) : pv_H N a K' := by
  intro j hj
  rw [← e j hj]
  exact h j hj
theorem pv_put {N : Nat} {a K : Nat → Int32} {p : Nat} {v : Int32} (hN : N ≤ 144) (h : pv_H N a K) (hp : p < N) (hv : pv_24 v) :
    pv_H N (upd (upd (upd a p (pv_q0 v)) (144 + p) (pv_q1 v)) (288 + p) (pv_q2 v)) (upd K p v) := by
  refine pv_Hmk ?_ ?_ ?_ ?_
  · intro j hj
    by_cases e : j = p
    · rw [e, pk_us]; exact hv
    · rw [pk_un e]; exact (h j hj).1
  · intro j hj
    rw [pk_un (by omega), pk_un (by omega)]
    by_cases e : j = p
    · rw [e, pk_us, pk_us]
    · rw [pk_un e, pk_un e]; exact pv_H0 h hj
  · intro j hj
    rw [pk_un (by omega)]
    by_cases e : j = p
    · rw [e, pk_us, pk_us]
    · rw [pk_un (by omega), pk_un (by omega), pk_un e]; exact pv_H1 h hj
  · intro j hj
    by_cases e : j = p
    · rw [e, pk_us, pk_us]
    · rw [pk_un (by omega), pk_un (by omega), pk_un (by omega), pk_un e]; exact pv_H2 h hj
/-- the picture of a state: its size, and its colours -/
def pv_ok (u : St2) (w h : Nat) (K : Nat → Int32) : Prop := match u with
  | (u1, u2, u3, u4, u5, u6, u7, u8, u9, u10, u11, u12, u13, u14, u15, u16, u17, ua1, ua2, ua3, ua4, ua5, ua6, ua7, ua8, ua9, ua10, ua11, ua12, ua13, ua14, ua15) => u1 = nI w ∧ u2 = nI h ∧ 1 ≤ w ∧ w ≤ 12 ∧ 1 ≤ h ∧ h ≤ 12 ∧ pv_H (w * h) ua1 K
theorem pv_mk {u3 u4 u5 u6 u7 u8 u9 u13 u14 u15 u16 u17 : Int32} {u10 u11 u12 : Int64} {ua1 ua2 ua3 ua4 ua5 ua6 ua7 ua8 ua9 ua10 ua11 ua12 ua13 ua14 ua15 : Nat → Int32} {w h : Nat} {K : Nat → Int32} (w1 : 1 ≤ w) (w2 : w ≤ 12) (h1 : 1 ≤ h) (h2 : h ≤ 12) (hH : pv_H (w * h) ua1 K) : pv_ok (nI w, nI h, u3, u4, u5, u6, u7, u8, u9, u10, u11, u12, u13, u14, u15, u16, u17, ua1, ua2, ua3, ua4, ua5, ua6, ua7, ua8, ua9, ua10, ua11, ua12, ua13, ua14, ua15) w h K :=
  And.intro rfl (And.intro rfl (And.intro w1 (And.intro w2 (And.intro h1 (And.intro h2 hH)))))
theorem pv_un {u1 u2 u3 u4 u5 u6 u7 u8 u9 u13 u14 u15 u16 u17 : Int32} {u10 u11 u12 : Int64} {ua1 ua2 ua3 ua4 ua5 ua6 ua7 ua8 ua9 ua10 ua11 ua12 ua13 ua14 ua15 : Nat → Int32} {w h : Nat} {K : Nat → Int32} (ok : pv_ok (u1, u2, u3, u4, u5, u6, u7, u8, u9, u10, u11, u12, u13, u14, u15, u16, u17, ua1, ua2, ua3, ua4, ua5, ua6, ua7, ua8, ua9, ua10, ua11, ua12, ua13, ua14, ua15) w h K) : u1 = nI w ∧ u2 = nI h ∧ 1 ≤ w ∧ w ≤ 12 ∧ 1 ≤ h ∧ h ≤ 12 ∧ pv_H (w * h) ua1 K := ok
theorem pv_ok_eq {u : St2} {w h : Nat} {K K' : Nat → Int32} (ok : pv_ok u w h K) (e : ∀ j, j < w * h → K j = K' j) : pv_ok u w h K' := by
  obtain ⟨u1, u2, u3, u4, u5, u6, u7, u8, u9, u10, u11, u12, u13, u14, u15, u16, u17, ua1, ua2, ua3, ua4, ua5, ua6, ua7, ua8, ua9, ua10, ua11, ua12, ua13, ua14, ua15⟩ := u
  obtain ⟨e1, e2, w1, w2, h1, h2, hH⟩ := pv_un ok
  subst e1 e2
  exact pv_mk w1 w2 h1 h2 (pv_H_eq hH e)
theorem pv_sz {u : St2} {w h : Nat} {K : Nat → Int32} (ok : pv_ok u w h K) : 1 ≤ w ∧ w ≤ 12 ∧ 1 ≤ h ∧ h ≤ 12 ∧ w * h ≤ 144 ∧ ∀ j, j < w * h → pv_24 (K j) := by
  obtain ⟨u1, u2, u3, u4, u5, u6, u7, u8, u9, u10, u11, u12, u13, u14, u15, u16, u17, ua1, ua2, ua3, ua4, ua5, ua6, ua7, ua8, ua9, ua10, ua11, ua12, ua13, ua14, ua15⟩ := u
  obtain ⟨e1, e2, w1, w2, h1, h2, hH⟩ := pv_un ok
  exact ⟨w1, w2, h1, h2, pv_area w2 h2, fun j hj => (hH j hj).1⟩
/-! ===== one place ===== -/
theorem pv_144 (p : Nat) : (144 : Int32) + nI p = nI (144 + p) := nI_add 144 p
theorem pv_288 (p : Nat) : (288 : Int32) + nI p = nI (288 + p) := nI_add 288 p
theorem pv_setColour {post : St2 → Prop} {u1 u2 u3 u4 u5 u6 u7 u8 u9 u13 u14 u15 u16 u17 : Int32} {u10 u11 u12 : Int64} {ua1 ua2 ua3 ua4 ua5 ua6 ua7 ua8 ua9 ua10 ua11 ua12 ua13 ua14 ua15 : Nat → Int32} {p : Nat} {v : Int32} (hp : p < 144)
    (H : post (u1, u2, u3, u4, u5, u6, u7, u8, u9, u10, u11, u12, u13, u14, u15, u16, u17, upd (upd (upd ua1 p (pv_q0 v)) (144 + p) (pv_q1 v)) (288 + p) (pv_q2 v), ua2, ua3, ua4, ua5, ua6, ua7, ua8, ua9, ua10, ua11, ua12, ua13, ua14, ua15)) :
    wpX_setColour post (u1, u2, u3, u4, u5, u6, u7, u8, u9, u10, u11, u12, u13, u14, u15, u16, u17, ua1, ua2, ua3, ua4, ua5, ua6, ua7, ua8, ua9, ua10, ua11, ua12, ua13, ua14, ua15) (nI p) v := by
  unfold wpX_setColour
  refine ⟨pk_in p 432 (by omega), nm_e ⟨pk_in (144 + p) 432 (by omega) (pv_144 p), nm_e ⟨pk_in (288 + p) 432 (by omega) (pv_288 p), nm_e ?_⟩⟩⟩
  rw [nI_clamp (show p < 2 ^ 31 by omega), pk_cl (144 + p) (pv_144 p), pk_cl (288 + p) (pv_288 p)]
  exact H
theorem pv_colourAt {post : Int32 → Prop} {u1 u2 u3 u4 u5 u6 u7 u8 u9 u13 u14 u15 u16 u17 : Int32} {u10 u11 u12 : Int64} {ua1 ua2 ua3 ua4 ua5 ua6 ua7 ua8 ua9 ua10 ua11 ua12 ua13 ua14 ua15 : Nat → Int32} {N p : Nat} {K : Nat → Int32} (hN : N ≤ 144) (hH : pv_H N ua1 K) (hp : p < N) (H : post (K p)) :
    wpX_colourAt post (u1, u2, u3, u4, u5, u6, u7, u8, u9, u10, u11, u12, u13, u14, u15, u16, u17, ua1, ua2, ua3, ua4, ua5, ua6, ua7, ua8, ua9, ua10, ua11, ua12, ua13, ua14, ua15) (nI p) := by
  unfold wpX_colourAt
  refine ⟨pk_in p 432 (by omega), pk_in (144 + p) 432 (by omega) (pv_144 p), pk_in (288 + p) 432 (by omega) (pv_288 p), ?_⟩
  rw [nI_clamp (show p < 2 ^ 31 by omega), pk_cl (144 + p) (pv_144 p), pk_cl (288 + p) (pv_288 p), pv_H0 hH hp, pv_H1 hH hp, pv_H2 hH hp]
  show post (pv_cat (pv_q0 (K p)) (pv_q1 (K p)) (pv_q2 (K p)))
  rw [pv_24_cat (hH p hp).1]
  exact H
theorem pv_get {post : Int32 → Prop} {u : St2} {w h x y : Nat} {K : Nat → Int32} (ok : pv_ok u w h K) (hx : x < w) (hy : y < h) (H : post (K (w * y + x))) :
    wpX_get post u (nI x) (nI y) := by
  obtain ⟨u1, u2, u3, u4, u5, u6, u7, u8, u9, u10, u11, u12, u13, u14, u15, u16, u17, ua1, ua2, ua3, ua4, ua5, ua6, ua7, ua8, ua9, ua10, ua11, ua12, ua13, ua14, ua15⟩ := u
  obtain ⟨e1, e2, w1, w2, h1, h2, hH⟩ := pv_un ok
  subst e1 e2
  unfold wpX_get
  unfold wpX_isPlace
  refine br_f (nI_pos (by omega)) (br_f (nI_ge hx (by omega)) (br_f (nI_pos (by omega)) (br_f (nI_ge hy (by omega)) (br_f (by decide) ?_))))
  rw [pk_mul, nI_add]
  exact pv_colourAt (pv_area w2 h2) hH (pv_flat hx hy) H
theorem pv_get_no {post : Int32 → Prop} {u : St2} {w h x y : Nat} {K : Nat → Int32} (ok : pv_ok u w h K) (hx : x < 2 ^ 31) (hy : y < 2 ^ 31) (hn : w ≤ x ∨ h ≤ y) (H : post (-1)) :
    wpX_get post u (nI x) (nI y) := by
  obtain ⟨u1, u2, u3, u4, u5, u6, u7, u8, u9, u10, u11, u12, u13, u14, u15, u16, u17, ua1, ua2, ua3, ua4, ua5, ua6, ua7, ua8, ua9, ua10, ua11, ua12, ua13, ua14, ua15⟩ := u
  obtain ⟨e1, e2, w1, w2, h1, h2, hH⟩ := pv_un ok
  subst e1 e2
  unfold wpX_get
  unfold wpX_isPlace
  refine br_f (nI_pos hx) (pk_le w x (fun z => br_t rfl H) (fun z => br_f (nI_pos hy) (pk_le h y (fun z => br_t rfl H) (fun z' => absurd hn (by omega)))))
theorem pv_width {post : Int32 → Prop} {u : St2} {w h : Nat} {K : Nat → Int32} (ok : pv_ok u w h K) (H : post (nI w)) : wpX_width post u := by
  obtain ⟨u1, u2, u3, u4, u5, u6, u7, u8, u9, u10, u11, u12, u13, u14, u15, u16, u17, ua1, ua2, ua3, ua4, ua5, ua6, ua7, ua8, ua9, ua10, ua11, ua12, ua13, ua14, ua15⟩ := u
  obtain ⟨e1, e2, w1, w2, h1, h2, hH⟩ := pv_un ok
  subst e1 e2
  exact H
theorem pv_height {post : Int32 → Prop} {u : St2} {w h : Nat} {K : Nat → Int32} (ok : pv_ok u w h K) (H : post (nI h)) : wpX_height post u := by
  obtain ⟨u1, u2, u3, u4, u5, u6, u7, u8, u9, u10, u11, u12, u13, u14, u15, u16, u17, ua1, ua2, ua3, ua4, ua5, ua6, ua7, ua8, ua9, ua10, ua11, ua12, ua13, ua14, ua15⟩ := u
  obtain ⟨e1, e2, w1, w2, h1, h2, hH⟩ := pv_un ok
  subst e1 e2
  exact H
/-! ===== blank ===== -/
theorem pv_fill {f s : Nat → Int32} {i : Nat} {x : Int32} (h : ∀ j, j < i → s j = f j) (hx : x = f i) : ∀ j, j < i + 1 → upd s i x j = f j := by
  intro j hj
  by_cases e : j = i
  · rw [e, pk_us, hx]
  · rw [pk_un e]
    exact h j (by omega)
theorem pv_H_0 {w h : Nat} {s : Nat → Int32} (hN : w * h ≤ 144) (hs : ∀ j, j < 432 → s j = 0) : pv_H (w * h) s (fun _ => 0) :=
  pv_Hmk (fun _ _ => pv_24_0) (fun j hj => hs j (by omega)) (fun j hj => hs (144 + j) (by omega)) (fun j hj => hs (288 + j) (by omega))
theorem pv_blank {post : Int32 → St2 → Prop} {u : St2} {w h : Nat} (w1 : 1 ≤ w) (w2 : w ≤ 12) (h1 : 1 ≤ h) (h2 : h ≤ 12)
    (H : ∀ u', pv_ok u' w h (fun _ => 0) → post (nI (w * h)) u') : wpX_blank post u (nI w) (nI h) := by
  obtain ⟨u1, u2, u3, u4, u5, u6, u7, u8, u9, u10, u11, u12, u13, u14, u15, u16, u17, ua1, ua2, ua3, ua4, ua5, ua6, ua7, ua8, ua9, ua10, ua11, ua12, ua13, ua14, ua15⟩ := u
  unfold wpX_blank
  refine br_f (nI_nlt (a := w) (b := 1) w1 (by omega)) (br_f (nI_nlt (a := 12) (b := w) w2 (by omega)) (br_f (nI_nlt (a := h) (b := 1) h1 (by omega)) (br_t (nI_le (a := h) (b := 12) h2 (by omega)) ?_)))
  refine pk_loop (fun n i s => wX_blank_36 post (nI w) (nI h) (nI w) (nI h) u3 u4 u5 u6 u7 u8 u9 u10 u11 u12 u13 u14 u15 u16 u17 n (nI i) s ua2 ua3 ua4 ua5 ua6 ua7 ua8 ua9 ua10 ua11 ua12 ua13 ua14 ua15) (fun i s => ∀ j, j < i → s j = 0) 432 0 ua1 (by omega) (fun j hj => absurd hj (by omega)) ?_ ?_
  · intro n s hs
    refine pk_le 432 432 (fun _ => ?_) (fun z => absurd z (by omega))
    rw [pk_mul]
    exact H _ (pv_mk w1 w2 h1 h2 (pv_H_0 (pv_area w2 h2) hs))
  · intro n i s hi hs hw
    refine pk_le 432 i (fun z => absurd z (by omega)) (fun _ => ⟨pk_in i 432 hi, nm_e (nm_r (nI_1 i) ?_)⟩)
    rw [nI_clamp (show i < 2 ^ 31 by omega)]
    exact hw _ (pv_fill (f := fun _ => 0) hs rfl)
/-! ===== digest ===== -/
theorem pv_digest {post : Int32 → Prop} {u : St2} {w h : Nat} {K : Nat → Int32} (ok : pv_ok u w h K) (H : post (pv_dg K (w * h))) : wpX_digest post u := by
  obtain ⟨u1, u2, u3, u4, u5, u6, u7, u8, u9, u10, u11, u12, u13, u14, u15, u16, u17, ua1, ua2, ua3, ua4, ua5, ua6, ua7, ua8, ua9, ua10, ua11, ua12, ua13, ua14, ua15⟩ := u
  obtain ⟨e1, e2, w1, w2, h1, h2, hH⟩ := pv_un ok
  subst e1 e2
  have hN := pv_area w2 h2
  unfold wpX_digest
  refine pk_loop (fun n i s => wX_digest_4 post (nI w) (nI h) u3 u4 u5 u6 u7 u8 u9 u10 u11 u12 u13 u14 u15 u16 u17 ua1 ua2 ua3 ua4 ua5 ua6 ua7 ua8 ua9 ua10 ua11 ua12 ua13 ua14 ua15 n s (nI i)) (fun i s => s = pv_dg K i) (w * h) 0 0 (by omega) rfl ?_ ?_
  · intro n s hs
    subst hs
    exact pk_le (w * h) (w * h) (fun _ => H) (fun z => absurd z (by omega)) (pk_mul w h)
  · intro n i s hi hs hw
    subst hs
    exact pk_le (w * h) i (fun z => absurd z (by omega)) (fun _ => pv_colourAt hN hH hi (nm_e (nm_r (nI_1 i) (hw _ rfl)))) (pk_mul w h)
end
section
/-! ===== pattern ===== -/
theorem pv_even {post : Int32 → Prop} {v : Int32} (H : post (pv_mx v v v)) : wpX_even post () v := by
  unfold wpX_even
  rw [pv_ev]
  exact H
theorem pv_mixedX {post : Int32 → Prop} {r g b : Int32} (H : post (pv_mx r g b)) : wpX_mixed post () r g b := H
theorem pv_mixedL {post : Int32 → Prop} {r g b : Int32} (H : post (pv_mx r g b)) : wpL_mixed post () r g b := H
theorem pv_p126 {post : Int32 → St2 → Prop} {J : Int32 → Int32 → Int32 → Int32 → Int32 → Int32 → Int32 → Int32 → Int32 → Int32 → Int32 → Int64 → Int64 → Int64 → Int32 → Int32 → Int32 → Int32 → Int32 → (Nat → Int32) → (Nat → Int32) → (Nat → Int32) → (Nat → Int32) → (Nat → Int32) → (Nat → Int32) → (Nat → Int32) → (Nat → Int32) → (Nat → Int32) → (Nat → Int32) → (Nat → Int32) → (Nat → Int32) → (Nat → Int32) → (Nat → Int32) → (Nat → Int32) → Prop} {u1 u2 u3 u4 u5 u6 u7 u8 u9 u13 u14 u15 u16 u17 : Int32} {u10 u11 u12 : Int64} {ua1 ua2 ua3 ua4 ua5 ua6 ua7 ua8 ua9 ua10 ua11 ua12 ua13 ua14 ua15 : Nat → Int32} {N k i : Nat} {K : Nat → Int32} {v s seed step : Int32} (hN : N ≤ 144) (hH : pv_H N ua1 K) (hi : i < N) (hk : k ≤ 3)
    (hJ : J s (nI (i + 1)) u1 u2 u3 u4 u5 u6 u7 u8 u9 u10 u11 u12 u13 u14 u15 u16 u17 (upd (upd (upd ua1 i (pv_q0 (v ^^^ (if k = 3 then K i else 0)))) (144 + i) (pv_q1 (v ^^^ (if k = 3 then K i else 0)))) (288 + i) (pv_q2 (v ^^^ (if k = 3 then K i else 0)))) ua2 ua3 ua4 ua5 ua6 ua7 ua8 ua9 ua10 ua11 ua12 ua13 ua14 ua15) :
    wX_pattern_126 post J (nI k) seed step s (nI i) v u1 u2 u3 u4 u5 u6 u7 u8 u9 u10 u11 u12 u13 u14 u15 u16 u17 ua1 ua2 ua3 ua4 ua5 ua6 ua7 ua8 ua9 ua10 ua11 ua12 ua13 ua14 ua15 := by
  unfold wX_pattern_126
  refine pk_eq k 3 (fun e => ?_) (fun e => ?_)
  · rw [if_pos e] at hJ
    refine pv_colourAt hN hH hi ?_
    unfold wX_pattern_145
    exact nm_e (pv_setColour (by omega) (nm_r (nI_1 i) hJ))
  · rw [if_neg e] at hJ
    unfold wX_pattern_145
    exact nm_e (pv_setColour (by omega) (nm_r (nI_1 i) hJ))
/-- the picture while a pattern is laid: i places are new -/
def pv_pi (k : Nat) (seed step : Int32) (w : Nat) (K : Nat → Int32) (i j : Nat) : Int32 := if j < i then pv_pt k seed step w K j else K j
theorem pv_pi_put {k : Nat} {seed step : Int32} {w : Nat} {K : Nat → Int32} {i : Nat} :
    upd (pv_pi k seed step w K i) i (pv_val k seed step (pv_lc seed (i + 1)) (i % w) (i / w) ^^^ (if k = 3 then pv_pi k seed step w K i i else 0)) = pv_pi k seed step w K (i + 1) := by
  funext j
  by_cases e : j = i
  · subst e
    rw [pk_us]
    unfold pv_pi
    rw [if_pos (show j < j + 1 by omega), if_neg (show ¬ j < j by omega)]
    rfl
  · rw [pk_un e]
    unfold pv_pi
    by_cases h : j < i
    · rw [if_pos h, if_pos (by omega)]
    · rw [if_neg h, if_neg (by omega)]
theorem pv_24_pi {k : Nat} {seed step : Int32} {w : Nat} {K : Nat → Int32} {i j : Nat} (h : pv_24 (K j)) : pv_24 (pv_pi k seed step w K i j) := by
  unfold pv_pi
  by_cases e : j < i
  · rw [if_pos e]; exact pv_24_pt h
  · rw [if_neg e]; exact h
theorem pv_pattern {post : Int32 → St2 → Prop} {u : St2} {w h k : Nat} {K : Nat → Int32} {seed step : Int32} (hk : k ≤ 3) (ok : pv_ok u w h K)
    (H : ∀ u', pv_ok u' w h (pv_pt k seed step w K) → post (nI (w * h)) u') : wpX_pattern post u (nI k) seed step := by
  obtain ⟨u1, u2, u3, u4, u5, u6, u7, u8, u9, u10, u11, u12, u13, u14, u15, u16, u17, ua1, ua2, ua3, ua4, ua5, ua6, ua7, ua8, ua9, ua10, ua11, ua12, ua13, ua14, ua15⟩ := u
  obtain ⟨e1, e2, w1, w2, h1, h2, hH⟩ := pv_un ok
  subst e1 e2
  have hN := pv_area w2 h2
  unfold wpX_pattern
  refine br_f (nI_pos (by omega)) (br_t (nI_le (b := 3) hk (by omega)) ?_)
  refine pk_loop (fun n i (s : Int32 × (Nat → Int32)) => wX_pattern_17 post (nI k) seed step n s.1 (nI i) (nI w) (nI h) u3 u4 u5 u6 u7 u8 u9 u10 u11 u12 u13 u14 u15 u16 u17 s.2 ua2 ua3 ua4 ua5 ua6 ua7 ua8 ua9 ua10 ua11 ua12 ua13 ua14 ua15) (fun i s => s.1 = pv_lc seed i ∧ pv_H (w * h) s.2 (pv_pi k seed step w K i)) (w * h) 0 (seed, ua1) (by omega) ⟨rfl, pv_H_eq hH (fun j _ => by unfold pv_pi; rw [if_neg (by omega)])⟩ ?_ ?_
  · intro n s hs
    refine pk_le (w * h) (w * h) (fun _ => ?_) (fun z => absurd z (by omega)) (pk_mul w h)
    rw [pk_mul]
    exact H _ (pv_mk w1 w2 h1 h2 (pv_H_eq hs.2 (fun j hj => by unfold pv_pi; rw [if_pos hj])))
  · intro n i s hi hs hw
    obtain ⟨s1, s2⟩ := s
    obtain ⟨hs1, hs2⟩ := hs
    have hs1' : s1 = pv_lc seed i := hs1
    subst hs1'
    have put := pv_put (v := pv_val k seed step (pv_lc seed (i + 1)) (i % w) (i / w) ^^^ (if k = 3 then pv_pi k seed step w K i i else 0)) hN hs2 hi (pv_24_xor (pv_24_val _ _ _ _ _ _) (by
      by_cases e : k = 3
      · rw [if_pos e]; exact pv_24_pi (hH i hi).1
      · rw [if_neg e]; exact pv_24_0))
    rw [pv_pi_put] at put
    have next := hw (pv_lc seed (i + 1), _) ⟨rfl, put⟩
    refine pk_le (w * h) i (fun z => absurd z (by omega)) (fun _ => ⟨nI_ne0 w1 (by omega), nm_r (pk_rem (by omega) w1 (by omega)) ⟨nI_ne0 w1 (by omega), nm_r (pk_div (by omega) w1 (by omega)) (nm_r (show pv_lc seed i * 1103515245 + 12345 = pv_lc seed (i + 1) from rfl) ?_)⟩⟩) (pk_mul w h)
    refine pk_eq k 1 (fun e => ?_) (fun e => ?_)
    · refine pv_even ?_
      refine pv_p126 hN hs2 hi hk ?_
      unfold pv_val at next
      rw [if_pos e] at next
      exact next
    · refine pk_eq k 2 (fun e' => ?_) (fun e' => ?_)
      · refine pv_mixedX ?_
        refine pv_p126 hN hs2 hi hk ?_
        unfold pv_val at next
        rw [if_neg e, if_pos e'] at next
        exact next
      · refine pv_mixedX ?_
        refine pv_p126 hN hs2 hi hk ?_
        unfold pv_val at next
        rw [if_neg e, if_neg e'] at next
        exact next
theorem pv_make {post : St2 → Prop} {u : St2} {w h k : Nat} {seed step : Int32} (hk : k ≤ 3) (w1 : 1 ≤ w) (w2 : w ≤ 12) (h1 : 1 ≤ h) (h2 : h ≤ 12)
    (H : ∀ u', pv_ok u' w h (pv_pt k seed step w (fun _ => 0)) → post u') : wpL_make post u (nI w) (nI h) (nI k) seed step := by
  obtain ⟨u1, u2, u3, u4, u5, u6, u7, u8, u9, u10, u11, u12, u13, u14, u15, u16, u17, ua1, ua2, ua3, ua4, ua5, ua6, ua7, ua8, ua9, ua10, ua11, ua12, ua13, ua14, ua15⟩ := u
  unfold wpL_make
  refine pv_blank w1 w2 h1 h2 (fun c okc => ?_)
  obtain ⟨c1, c2, c3, c4, c5, c6, c7, c8, c9, c10, c11, c12, c13, c14, c15, c16, c17, ca1, ca2, ca3, ca4, ca5, ca6, ca7, ca8, ca9, ca10, ca11, ca12, ca13, ca14, ca15⟩ := c
  refine pv_pattern hk okc (fun e oke => ?_)
  obtain ⟨e1, e2, e3, e4, e5, e6, e7, e8, e9, e10, e11, e12, e13, e14, e15, e16, e17, ea1, ea2, ea3, ea4, ea5, ea6, ea7, ea8, ea9, ea10, ea11, ea12, ea13, ea14, ea15⟩ := e
  exact H _ oke
end
section
/-! ===== turnPlane, turn ===== -/
theorem pv_ix (c i : Nat) : nI (144 * c) + nI i = nI (144 * c + i) := nI_add _ _
theorem pv_t125 {post : St2 → Prop} {J : Int32 → (Nat → Int32) → (Nat → Int32) → (Nat → Int32) → (Nat → Int32) → (Nat → Int32) → (Nat → Int32) → (Nat → Int32) → (Nat → Int32) → (Nat → Int32) → (Nat → Int32) → (Nat → Int32) → (Nat → Int32) → (Nat → Int32) → (Nat → Int32) → (Nat → Int32) → Prop} {u1 u2 u3 u4 u5 u6 u7 u8 u9 u13 u14 u15 u16 u17 : Int32} {u10 u11 u12 : Int64} {ua1 ua2 ua3 ua4 ua5 ua6 ua7 ua8 ua9 ua10 ua11 ua12 ua13 ua14 ua15 : Nat → Int32} {x2 z : Int32} {c t i : Nat} (hc : c < 3) (ht : t < 144) (hi : i < 144) (hz : z = nI t)
    (hJ : J (nI (i + 1)) (upd ua1 (144 * c + t) (ua11 i)) ua2 ua3 ua4 ua5 ua6 ua7 ua8 ua9 ua10 ua11 ua12 ua13 ua14 ua15) : wX_turnPlane_125 post J (nI (144 * c)) x2 (nI i) z u1 u2 u3 u4 u5 u6 u7 u8 u9 u10 u11 u12 u13 u14 u15 u16 u17 ua1 ua2 ua3 ua4 ua5 ua6 ua7 ua8 ua9 ua10 ua11 ua12 ua13 ua14 ua15 := by
  subst hz
  unfold wX_turnPlane_125
  refine ⟨pk_in i 144 hi, pk_in (144 * c + t) 432 (by omega) (pv_ix c t), nm_e (nm_r (nI_1 i) ?_)⟩
  rw [nI_clamp (show i < 2 ^ 31 by omega), pk_cl (144 * c + t) (pv_ix c t)]
  exact hJ
theorem pv_z0 {w x y : Nat} (hx : x < w) : (((nI w * nI y) + nI w) - 1) - nI x = nI (w * y + (w - 1 - x)) := by
  rw [pk_mul, nI_add, show w * y + w = (w * y + (w - 1)) + 1 by omega, nI_pred, pk_sub (by omega), show w * y + (w - 1) - x = w * y + (w - 1 - x) by omega]
theorem pv_hm1 {h y : Nat} (hy : y < h) : (nI h - 1) - nI y = nI (h - 1 - y) := by
  obtain ⟨g, rfl⟩ : ∃ g, h = g + 1 := ⟨h - 1, by omega⟩
  rw [nI_pred, pk_sub (by omega)]
  rfl
theorem pv_z1 {w h x y : Nat} (hy : y < h) : (nI w * ((nI h - 1) - nI y)) + nI x = nI (w * (h - 1 - y) + x) := by
  rw [pv_hm1 hy, pk_mul, nI_add]
theorem pv_z2 (h x y : Nat) : (nI h * nI x) + nI y = nI (h * x + y) := by
  rw [pk_mul, nI_add]
theorem pv_t37 {post : St2 → Prop} {u3 u4 u5 u6 u7 u8 u9 u13 u14 u15 u16 u17 : Int32} {u10 u11 u12 : Int64} {ua1 ua2 ua3 ua4 ua5 ua6 ua7 ua8 ua9 ua10 ua11 ua12 ua13 ua14 ua15 : Nat → Int32} {w h k c : Nat} (w1 : 1 ≤ w) (w2 : w ≤ 12) (h1 : 1 ≤ h) (h2 : h ≤ 12) (hk : k ≤ 2) (hc : c < 3)
    (H : ∀ b, (∀ j, j < w * h → b (144 * c + pv_tt k w h j) = ua11 j) → (∀ m, m < 144 * c ∨ 144 * c + 144 ≤ m → b m = ua1 m) → post (nI w, nI h, u3, u4, u5, u6, u7, u8, u9, u10, u11, u12, u13, u14, u15, u16, u17, b, ua2, ua3, ua4, ua5, ua6, ua7, ua8, ua9, ua10, ua11, ua12, ua13, ua14, ua15)) :
    ∃ n, wX_turnPlane_37 post (nI (144 * c)) (nI k) (nI w) (nI h) u3 u4 u5 u6 u7 u8 u9 u10 u11 u12 u13 u14 u15 u16 u17 n 0 ua1 ua2 ua3 ua4 ua5 ua6 ua7 ua8 ua9 ua10 ua11 ua12 ua13 ua14 ua15 := by
  have hN := pv_area w2 h2
  refine pk_loop (fun n i s => wX_turnPlane_37 post (nI (144 * c)) (nI k) (nI w) (nI h) u3 u4 u5 u6 u7 u8 u9 u10 u11 u12 u13 u14 u15 u16 u17 n (nI i) s ua2 ua3 ua4 ua5 ua6 ua7 ua8 ua9 ua10 ua11 ua12 ua13 ua14 ua15) (fun i s => (∀ j, j < i → s (144 * c + pv_tt k w h j) = ua11 j) ∧ (∀ m, m < 144 * c ∨ 144 * c + 144 ≤ m → s m = ua1 m)) (w * h) 0 ua1 (by omega) ⟨fun j hj => absurd hj (by omega), fun _ _ => rfl⟩ ?_ ?_
  · intro n s hs
    exact pk_le (w * h) (w * h) (fun _ => H s hs.1 hs.2) (fun z => absurd z (by omega)) (pk_mul w h)
  · intro n i s hi hs hw
    have tl : ∀ j, j < w * h → pv_tt k w h j < 144 := fun j hj => Nat.lt_of_lt_of_le (pv_tt_lt hk w1 hj) hN
    have next := hw (upd s (144 * c + pv_tt k w h i) (ua11 i)) ⟨fun j hj => by
      by_cases e : j = i
      · rw [e, pk_us]
      · have ne := pv_tt_ne hk w1 (show j < w * h by omega) hi e
        rw [pk_un (by omega)]
        exact hs.1 j (by omega), fun m hm => by
      have := tl i hi
      rw [pk_un (by omega)]
      exact hs.2 m hm⟩
    have ti := tl i hi
    obtain ⟨x, y, hx, hy, ei, ex, ey⟩ := pv_cut w1 hi
    refine pk_le (w * h) i (fun z => absurd z (by omega)) (fun _ => ⟨nI_ne0 w1 (by omega), nm_r (pk_rem (by omega) w1 (by omega)) ⟨nI_ne0 w1 (by omega), nm_r (pk_div (by omega) w1 (by omega)) ?_⟩⟩) (pk_mul w h)
    rw [ex, ey]
    refine pk_eq k 0 (fun e => ?_) (fun e => pk_eq k 1 (fun e' => ?_) (fun e' => ?_))
    · subst e
      refine pv_t125 hc ti (by omega) ?_ next
      rw [pv_z0 hx, ei, pv_t0 hx]
    · subst e'
      refine pv_t125 hc ti (by omega) ?_ next
      rw [pv_z1 hy, ei, pv_t1 hx]
    · have e2 : k = 2 := by omega
      subst e2
      refine pv_t125 hc ti (by omega) ?_ next
      rw [pv_z2, ei, pv_t2 hx]
theorem pv_turnPlane {post : St2 → Prop} {u3 u4 u5 u6 u7 u8 u9 u13 u14 u15 u16 u17 : Int32} {u10 u11 u12 : Int64} {ua1 ua2 ua3 ua4 ua5 ua6 ua7 ua8 ua9 ua10 ua11 ua12 ua13 ua14 ua15 : Nat → Int32} {w h k c : Nat} (w1 : 1 ≤ w) (w2 : w ≤ 12) (h1 : 1 ≤ h) (h2 : h ≤ 12) (hk : k ≤ 2) (hc : c < 3)
    (H : ∀ b l, (∀ j, j < w * h → b (144 * c + pv_tt k w h j) = ua1 (144 * c + j)) → (∀ m, m < 144 * c ∨ 144 * c + 144 ≤ m → b m = ua1 m) → post (nI w, nI h, u3, u4, u5, u6, u7, u8, u9, u10, u11, u12, u13, u14, u15, u16, u17, b, ua2, ua3, ua4, ua5, ua6, ua7, ua8, ua9, ua10, l, ua12, ua13, ua14, ua15)) :
    wpX_turnPlane post (nI w, nI h, u3, u4, u5, u6, u7, u8, u9, u10, u11, u12, u13, u14, u15, u16, u17, ua1, ua2, ua3, ua4, ua5, ua6, ua7, ua8, ua9, ua10, ua11, ua12, ua13, ua14, ua15) (nI (144 * c)) (nI k) := by
  have hN := pv_area w2 h2
  unfold wpX_turnPlane
  refine pk_loop (fun n i s => wX_turnPlane_2 post (nI (144 * c)) (nI k) (nI w) (nI h) u3 u4 u5 u6 u7 u8 u9 u10 u11 u12 u13 u14 u15 u16 u17 n (nI i) ua1 ua2 ua3 ua4 ua5 ua6 ua7 ua8 ua9 ua10 s ua12 ua13 ua14 ua15) (fun i s => ∀ j, j < i → s j = ua1 (144 * c + j)) (w * h) 0 ua11 (by omega) (fun j hj => absurd hj (by omega)) ?_ ?_
  · intro n s hs
    exact pk_le (w * h) (w * h) (fun _ => pv_t37 w1 w2 h1 h2 hk hc (fun b hb hb' => H b s (fun j hj => (hb j hj).trans (hs j hj)) hb')) (fun z => absurd z (by omega)) (pk_mul w h)
  · intro n i s hi hs hw
    refine pk_le (w * h) i (fun z => absurd z (by omega)) (fun _ => ⟨pk_in (144 * c + i) 432 (by omega) (pv_ix c i), pk_in i 144 (by omega), nm_e (nm_r (nI_1 i) ?_)⟩) (pk_mul w h)
    rw [nI_clamp (show i < 2 ^ 31 by omega), pk_cl (144 * c + i) (pv_ix c i)]
    exact hw _ (pv_fill (f := fun j => ua1 (144 * c + j)) hs rfl)
/-- the turned picture's planes -/
theorem pv_turned {w h k : Nat} {K a : Nat → Int32} (hk : k ≤ 2) (w1 : 1 ≤ w) (h1 : 1 ≤ h) (h24 : ∀ j, j < w * h → pv_24 (K j)) (ha : ∀ c, c < 3 → ∀ j, j < w * h → a (144 * c + pv_tt k w h j) = pv_q c (K j)) :
    pv_H (pv_dw k w h * pv_dh k w h) a (fun j => K (pv_tt k (pv_dw k w h) (pv_dh k w h) j)) := by
  rw [pv_dwh]
  intro j hj
  obtain ⟨i, hi, e1, e2⟩ := pv_tt_on hk w1 h1 hj
  refine ⟨?_, fun c hc => ?_⟩
  · show pv_24 (K (pv_tt k (pv_dw k w h) (pv_dh k w h) j))
    rw [e2]
    exact h24 i hi
  · show a (144 * c + j) = pv_q c (K (pv_tt k (pv_dw k w h) (pv_dh k w h) j))
    rw [e2, ← ha c hc i hi, e1]
theorem pv_turn {post : Int32 → St2 → Prop} {u : St2} {w h k : Nat} {K : Nat → Int32} (hk : k ≤ 2) (ok : pv_ok u w h K)
    (H : ∀ u', pv_ok u' (pv_dw k w h) (pv_dh k w h) (fun j => K (pv_tt k (pv_dw k w h) (pv_dh k w h) j)) → post (nI (w * h)) u') : wpX_turn post u (nI k) := by
  obtain ⟨u1, u2, u3, u4, u5, u6, u7, u8, u9, u10, u11, u12, u13, u14, u15, u16, u17, ua1, ua2, ua3, ua4, ua5, ua6, ua7, ua8, ua9, ua10, ua11, ua12, ua13, ua14, ua15⟩ := u
  obtain ⟨e1, e2, w1, w2, h1, h2, hH⟩ := pv_un ok
  subst e1 e2
  have hN := pv_area w2 h2
  unfold wpX_turn
  refine br_f (nI_pos (by omega)) (br_t (nI_le (b := 2) hk (by omega)) ?_)
  refine pk_loop (fun n i (s : (Nat → Int32) × (Nat → Int32)) => wX_turn_13 post (nI k) n (nI i) (nI w) (nI h) u3 u4 u5 u6 u7 u8 u9 u10 u11 u12 u13 u14 u15 u16 u17 s.1 ua2 ua3 ua4 ua5 ua6 ua7 ua8 ua9 ua10 s.2 ua12 ua13 ua14 ua15) (fun i s => (∀ c, c < i → ∀ j, j < w * h → s.1 (144 * c + pv_tt k w h j) = pv_q c (K j)) ∧ (∀ c, i ≤ c → c < 3 → ∀ j, j < w * h → s.1 (144 * c + j) = pv_q c (K j))) 3 0 (ua1, ua11) (by omega) ⟨fun c hc => absurd hc (by omega), fun c _ hc j hj => (hH j hj).2 c hc⟩ ?_ ?_
  · intro n s hs
    have D := pv_dw_in (k := k) w1 w2 h1 h2
    have T := pv_turned hk w1 h1 (fun j hj => (hH j hj).1) hs.1
    refine pk_le 3 3 (fun _ => ?_) (fun z => absurd z (by omega))
    refine pk_eq k 2 (fun e => ?_) (fun e => ?_)
    · rw [pk_mul, Nat.mul_comm h w]
      refine H _ ?_
      subst e
      exact pv_mk (w := h) (h := w) h1 h2 w1 w2 T
    · rw [pk_mul]
      refine H _ ?_
      have d1 : pv_dw k w h = w := by unfold pv_dw; rw [if_neg e]
      have d2 : pv_dh k w h = h := by unfold pv_dh; rw [if_neg e]
      rw [d1, d2] at T ⊢
      exact pv_mk w1 w2 h1 h2 T
  · intro n c s hc hs hw
    obtain ⟨s1, s2⟩ := s
    refine pk_le 3 c (fun z => absurd z (by omega)) (fun _ => ?_)
    rw [show (144 : Int32) * nI c = nI (144 * c) from pk_mul 144 c]
    refine pv_turnPlane w1 w2 h1 h2 hk hc (fun b l hb hb' => nm_r (nI_1 c) ?_)
    refine hw (b, l) ⟨fun c' hc' j hj => ?_, fun c' h3 h4 j hj => ?_⟩
    · have ht := Nat.lt_of_lt_of_le (pv_tt_lt hk w1 hj) hN
      show b (144 * c' + pv_tt k w h j) = pv_q c' (K j)
      by_cases e : c' = c
      · rw [e, hb j hj]
        exact hs.2 c (by omega) hc j hj
      · rw [hb' _ (by omega)]
        exact hs.1 c' (by omega) j hj
    · show b (144 * c' + j) = pv_q c' (K j)
      rw [hb' _ (by omega)]
      exact hs.2 c' (by omega) h4 j hj
end
section
/-! ===== alongX, halfAt, halve ===== -/
theorem pv_alongX {post : Int32 → Prop} {u3 u4 u5 u6 u7 u8 u9 u13 u14 u15 u16 u17 : Int32} {u10 u11 u12 : Int64} {ua1 ua2 ua3 ua4 ua5 ua6 ua7 ua8 ua9 ua10 ua11 ua12 ua13 ua14 ua15 : Nat → Int32} {w h c x y : Nat} {K : Nat → Int32} (w2 : w ≤ 12) (h2 : h ≤ 12) (hc : c < 3) (hpl : ∀ j, j < w * h → ua1 (144 * c + j) = pv_q c (K j)) (hx : 2 * x < w) (hy : y < h)
    (H : post (pv_q c (pv_ac K w x y))) : wpX_alongX post (nI w, nI h, u3, u4, u5, u6, u7, u8, u9, u10, u11, u12, u13, u14, u15, u16, u17, ua1, ua2, ua3, ua4, ua5, ua6, ua7, ua8, ua9, ua10, ua11, ua12, ua13, ua14, ua15) (nI (144 * c)) (nI (2 * x)) (nI y) := by
  have hN := pv_area w2 h2
  have hf := pv_flat hx hy
  have E : (nI (144 * c) + (nI w * nI y)) + nI (2 * x) = nI (144 * c + (w * y + 2 * x)) := by rw [pk_mul, nI_add, nI_add, Nat.add_assoc]
  have E1 : ((nI (144 * c) + (nI w * nI y)) + nI (2 * x)) + 1 = nI (144 * c + (w * y + (2 * x + 1))) := by rw [E, nI_1]; rfl
  unfold wpX_alongX
  refine ⟨pk_in (144 * c + (w * y + 2 * x)) 432 (by omega) E, nm_e ?_⟩
  rw [pk_cl _ E, hpl _ hf]
  refine pk_le w (2 * x + 1) (fun z => ?_) (fun z => ?_) rfl (nI_1 (2 * x))
  · unfold pv_ac at H
    rw [if_neg (by omega)] at H
    exact H
  · have hf1 := pv_flat z hy
    refine ⟨pk_in (144 * c + (w * y + (2 * x + 1))) 432 (by omega) E1, by decide, ?_⟩
    rw [pk_cl _ E1, hpl _ hf1]
    unfold pv_ac at H
    rw [if_pos z, pv_q_hf] at H
    exact H
theorem pv_halfAt {post : Int32 → Prop} {u3 u4 u5 u6 u7 u8 u9 u13 u14 u15 u16 u17 : Int32} {u10 u11 u12 : Int64} {ua1 ua2 ua3 ua4 ua5 ua6 ua7 ua8 ua9 ua10 ua11 ua12 ua13 ua14 ua15 : Nat → Int32} {w h c x y : Nat} {K : Nat → Int32} (w2 : w ≤ 12) (h2 : h ≤ 12) (hc : c < 3) (hpl : ∀ j, j < w * h → ua1 (144 * c + j) = pv_q c (K j)) (hx : 2 * x < w) (hy : 2 * y < h)
    (H : post (pv_q c (pv_hv K w h x y))) : wpX_halfAt post (nI w, nI h, u3, u4, u5, u6, u7, u8, u9, u10, u11, u12, u13, u14, u15, u16, u17, ua1, ua2, ua3, ua4, ua5, ua6, ua7, ua8, ua9, ua10, ua11, ua12, ua13, ua14, ua15) (nI (144 * c)) (nI (2 * x)) (nI (2 * y)) := by
  unfold wpX_halfAt
  refine pv_alongX w2 h2 hc hpl hx hy (pk_le h (2 * y + 1) (fun z => ?_) (fun z => ?_) rfl (nI_1 (2 * y)))
  · unfold pv_hv at H
    rw [if_neg (by omega)] at H
    exact H
  · rw [nI_1]
    refine pv_alongX w2 h2 hc hpl hx z ⟨by decide, ?_⟩
    unfold pv_hv at H
    rw [if_pos z, pv_q_hf] at H
    exact H
theorem pv_h73 {post : Int32 → St2 → Prop} {J : Int32 → (Nat → Int32) → (Nat → Int32) → (Nat → Int32) → (Nat → Int32) → (Nat → Int32) → (Nat → Int32) → (Nat → Int32) → (Nat → Int32) → (Nat → Int32) → (Nat → Int32) → (Nat → Int32) → (Nat → Int32) → (Nat → Int32) → (Nat → Int32) → (Nat → Int32) → Prop} {u1 u2 u3 u4 u5 u6 u7 u8 u9 u13 u14 u15 u16 u17 : Int32} {u10 u11 u12 : Int64} {ua1 ua2 ua3 ua4 ua5 ua6 ua7 ua8 ua9 ua10 ua11 ua12 ua13 ua14 ua15 : Nat → Int32} {wa ha c : Nat} (hA : wa * ha ≤ 144) (hc : c < 3)
    (H : ∀ b, (∀ j, j < wa * ha → b (144 * c + j) = ua12 j) → (∀ m, m < 144 * c ∨ 144 * c + 144 ≤ m → b m = ua1 m) → J (nI (c + 1)) b ua2 ua3 ua4 ua5 ua6 ua7 ua8 ua9 ua10 ua11 ua12 ua13 ua14 ua15) :
    ∃ n, wX_halve_73 post J (nI wa) (nI ha) (nI c) u1 u2 u3 u4 u5 u6 u7 u8 u9 u10 u11 u12 u13 u14 u15 u16 u17 n 0 ua1 ua2 ua3 ua4 ua5 ua6 ua7 ua8 ua9 ua10 ua11 ua12 ua13 ua14 ua15 := by
  refine pk_loop (fun n i s => wX_halve_73 post J (nI wa) (nI ha) (nI c) u1 u2 u3 u4 u5 u6 u7 u8 u9 u10 u11 u12 u13 u14 u15 u16 u17 n (nI i) s ua2 ua3 ua4 ua5 ua6 ua7 ua8 ua9 ua10 ua11 ua12 ua13 ua14 ua15) (fun i s => (∀ j, j < i → s (144 * c + j) = ua12 j) ∧ (∀ m, m < 144 * c ∨ 144 * c + 144 ≤ m → s m = ua1 m)) (wa * ha) 0 ua1 (by omega) ⟨fun j hj => absurd hj (by omega), fun _ _ => rfl⟩ ?_ ?_
  · intro n s hs
    exact pk_le (wa * ha) (wa * ha) (fun _ => nm_r (nI_1 c) (H s hs.1 hs.2)) (fun z => absurd z (by omega)) (pk_mul wa ha)
  · intro n i s hi hs hw
    have E : (144 * nI c) + nI i = nI (144 * c + i) := by
      rw [show (144 : Int32) * nI c = nI (144 * c) from pk_mul 144 c, nI_add]
    refine pk_le (wa * ha) i (fun z => absurd z (by omega)) (fun _ => ⟨pk_in i 144 (by omega), pk_in (144 * c + i) 432 (by omega) E, nm_e (nm_r (nI_1 i) ?_)⟩) (pk_mul wa ha)
    rw [nI_clamp (show i < 2 ^ 31 by omega), pk_cl _ E]
    refine hw _ ⟨fun j hj => ?_, fun m hm => ?_⟩
    · by_cases e : j = i
      · rw [e, pk_us]
      · rw [pk_un (by omega)]
        exact hs.1 j (by omega)
    · rw [pk_un (by omega)]
      exact hs.2 m hm
theorem pv_h28 {post : Int32 → St2 → Prop} {J : Int32 → (Nat → Int32) → (Nat → Int32) → (Nat → Int32) → (Nat → Int32) → (Nat → Int32) → (Nat → Int32) → (Nat → Int32) → (Nat → Int32) → (Nat → Int32) → (Nat → Int32) → (Nat → Int32) → (Nat → Int32) → (Nat → Int32) → (Nat → Int32) → (Nat → Int32) → Prop} {u3 u4 u5 u6 u7 u8 u9 u13 u14 u15 u16 u17 : Int32} {u10 u11 u12 : Int64} {ua1 ua2 ua3 ua4 ua5 ua6 ua7 ua8 ua9 ua10 ua11 ua12 ua13 ua14 ua15 : Nat → Int32} {w h c : Nat} {K : Nat → Int32} (w1 : 1 ≤ w) (w2 : w ≤ 12) (h1 : 1 ≤ h) (h2 : h ≤ 12) (hc : c < 3) (hpl : ∀ j, j < w * h → ua1 (144 * c + j) = pv_q c (K j))
    (H : ∀ b l, (∀ j, j < (w + 1) / 2 * ((h + 1) / 2) → b (144 * c + j) = pv_q c (pv_hK K w h j)) → (∀ m, m < 144 * c ∨ 144 * c + 144 ≤ m → b m = ua1 m) → J (nI (c + 1)) b ua2 ua3 ua4 ua5 ua6 ua7 ua8 ua9 ua10 ua11 l ua13 ua14 ua15) :
    ∃ n, wX_halve_28 post J (nI ((w + 1) / 2)) (nI ((h + 1) / 2)) (nI c) (nI w) (nI h) u3 u4 u5 u6 u7 u8 u9 u10 u11 u12 u13 u14 u15 u16 u17 n 0 ua1 ua2 ua3 ua4 ua5 ua6 ua7 ua8 ua9 ua10 ua11 ua12 ua13 ua14 ua15 := by
  have hN := pv_area w2 h2
  have hA := pv_half_area w1 h1
  have wp : 1 ≤ (w + 1) / 2 := by omega
  refine pk_loop (fun n i s => wX_halve_28 post J (nI ((w + 1) / 2)) (nI ((h + 1) / 2)) (nI c) (nI w) (nI h) u3 u4 u5 u6 u7 u8 u9 u10 u11 u12 u13 u14 u15 u16 u17 n (nI i) ua1 ua2 ua3 ua4 ua5 ua6 ua7 ua8 ua9 ua10 ua11 s ua13 ua14 ua15) (fun i s => ∀ j, j < i → s j = pv_q c (pv_hK K w h j)) ((w + 1) / 2 * ((h + 1) / 2)) 0 ua12 (by omega) (fun j hj => absurd hj (by omega)) ?_ ?_
  · intro n s hs
    exact pk_le ((w + 1) / 2 * ((h + 1) / 2)) ((w + 1) / 2 * ((h + 1) / 2)) (fun _ => pv_h73 (by omega) hc (fun b hb hb' => H b s (fun j hj => (hb j hj).trans (hs j hj)) hb')) (fun z => absurd z (by omega)) (pk_mul _ _)
  · intro n i s hi hs hw
    have a := pv_x (i := i) wp
    have b := pv_y hi
    refine pk_le ((w + 1) / 2 * ((h + 1) / 2)) i (fun z => absurd z (by omega)) (fun _ => ⟨nI_ne0 wp (by omega), nI_ne0 wp (by omega), ?_⟩) (pk_mul _ _)
    rw [pk_rem (by omega) wp (by omega), pk_div (by omega) wp (by omega), show (144 : Int32) * nI c = nI (144 * c) from pk_mul 144 c, show (2 : Int32) * nI (i % ((w + 1) / 2)) = nI (2 * (i % ((w + 1) / 2))) from pk_mul 2 _, show (2 : Int32) * nI (i / ((w + 1) / 2)) = nI (2 * (i / ((w + 1) / 2))) from pk_mul 2 _]
    refine pv_halfAt w2 h2 hc hpl (by omega) (by omega) ⟨pk_in i 144 (by omega), nm_e (nm_r (nI_1 i) ?_)⟩
    rw [nI_clamp (show i < 2 ^ 31 by omega)]
    exact hw _ (pv_fill (f := fun j => pv_q c (pv_hK K w h j)) hs rfl)
theorem pv_halve {post : Int32 → St2 → Prop} {u : St2} {w h : Nat} {K : Nat → Int32} (ok : pv_ok u w h K)
    (H : ∀ u', pv_ok u' ((w + 1) / 2) ((h + 1) / 2) (pv_hK K w h) → post (nI ((w + 1) / 2 * ((h + 1) / 2))) u') : wpX_halve post u := by
  obtain ⟨u1, u2, u3, u4, u5, u6, u7, u8, u9, u10, u11, u12, u13, u14, u15, u16, u17, ua1, ua2, ua3, ua4, ua5, ua6, ua7, ua8, ua9, ua10, ua11, ua12, ua13, ua14, ua15⟩ := u
  obtain ⟨e1, e2, w1, w2, h1, h2, hH⟩ := pv_un ok
  subst e1 e2
  have hN := pv_area w2 h2
  have hA := pv_half_area w1 h1
  have D : ∀ n, n < 1000 → (nI n + 1) / 2 = nI ((n + 1) / 2) := fun n hn => by
    rw [nI_1]
    exact pk_div (d := 2) (by omega) (by omega) (by omega)
  unfold wpX_halve
  refine ⟨by decide, nm_r (D w (by omega)) ⟨by decide, nm_r (D h (by omega)) ?_⟩⟩
  refine pk_loop (fun n i (s : (Nat → Int32) × (Nat → Int32)) => wX_halve_20 post (nI ((w + 1) / 2)) (nI ((h + 1) / 2)) (nI w) (nI h) u3 u4 u5 u6 u7 u8 u9 u10 u11 u12 u13 u14 u15 u16 u17 n (nI i) s.1 ua2 ua3 ua4 ua5 ua6 ua7 ua8 ua9 ua10 ua11 s.2 ua13 ua14 ua15) (fun i s => (∀ c, c < i → ∀ j, j < (w + 1) / 2 * ((h + 1) / 2) → s.1 (144 * c + j) = pv_q c (pv_hK K w h j)) ∧ (∀ c, i ≤ c → c < 3 → ∀ j, j < w * h → s.1 (144 * c + j) = pv_q c (K j))) 3 0 (ua1, ua12) (by omega) ⟨fun c hc => absurd hc (by omega), fun c _ hc j hj => (hH j hj).2 c hc⟩ ?_ ?_
  · intro n s hs
    refine pk_le 3 3 (fun _ => ?_) (fun z => absurd z (by omega))
    rw [pk_mul]
    exact H _ (pv_mk (by omega) (by omega) (by omega) (by omega) (fun j hj => ⟨pv_24_hK (fun i hi => (hH i hi).1) w1 hj, fun c hc => hs.1 c hc j hj⟩))
  · intro n c s hc hs hw
    obtain ⟨s1, s2⟩ := s
    refine pk_le 3 c (fun z => absurd z (by omega)) (fun _ => ?_)
    refine pv_h28 w1 w2 h1 h2 hc (fun j hj => hs.2 c (by omega) hc j hj) (fun b l hb hb' => ?_)
    refine hw (b, l) ⟨fun c' hc' j hj => ?_, fun c' h3 h4 j hj => ?_⟩
    · show b (144 * c' + j) = pv_q c' (pv_hK K w h j)
      by_cases e : c' = c
      · rw [e]
        exact hb j hj
      · rw [hb' _ (by omega)]
        exact hs.1 c' (by omega) j hj
    · show b (144 * c' + j) = pv_q c' (K j)
      rw [hb' _ (by omega)]
      exact hs.2 c' (by omega) h4 j hj
/-! ===== isHalf ===== -/
theorem pv_half {post : Int32 → Prop} {a b : Int32} (H : post (pv_hf a b)) : wpL_half post () a b := by
  unfold wpL_half
  exact ⟨by decide, by decide, by decide, H⟩
theorem pv_across {post : Int32 → Prop} {u : St2} {w h x y : Nat} {K : Nat → Int32} (ok : pv_ok u w h K) (hx : 2 * x < w) (hy : y < h) (H : post (pv_ac K w x y)) : wpL_across post u (nI x) (nI y) := by
  have sz := pv_sz ok
  obtain ⟨u1, u2, u3, u4, u5, u6, u7, u8, u9, u10, u11, u12, u13, u14, u15, u16, u17, ua1, ua2, ua3, ua4, ua5, ua6, ua7, ua8, ua9, ua10, ua11, ua12, ua13, ua14, ua15⟩ := u
  unfold wpL_across
  rw [show (2 : Int32) * nI x = nI (2 * x) from pk_mul 2 x, nI_1]
  unfold pv_ac at H
  refine pv_get ok hx hy (pv_width ok (pk_le w (2 * x + 1) (fun z => ?_) (fun z => ?_)))
  · rw [if_neg (by omega)] at H
    exact H
  · rw [if_pos z] at H
    exact pv_get ok z hy (pv_half H)
theorem pv_h126 {post : Int32 → Prop} {J : Int32 → Prop} {c1 c2 c3 c4 c5 c6 c7 c8 c9 c13 c14 c15 c16 c17 : Int32} {c10 c11 c12 : Int64} {ca1 ca2 ca3 ca4 ca5 ca6 ca7 ca8 ca9 ca10 ca11 ca12 ca13 ca14 ca15 : Nat → Int32} {d1 d2 d3 d4 d5 d6 d7 d8 d9 d13 d14 d15 d16 d17 : Int32} {d10 d11 d12 : Int64} {da1 da2 da3 da4 da5 da6 da7 da8 da9 da10 da11 da12 da13 da14 da15 : Nat → Int32} {x2 x3 z : Int32} {i w h x y : Nat} {K : Nat → Int32} (ok : pv_ok (c1, c2, c3, c4, c5, c6, c7, c8, c9, c10, c11, c12, c13, c14, c15, c16, c17, ca1, ca2, ca3, ca4, ca5, ca6, ca7, ca8, ca9, ca10, ca11, ca12, ca13, ca14, ca15) w h K) (hx : x < w) (hy : y < h) (hz : K (w * y + x) = z) (hJ : J (nI (i + 1))) :
    wL_isHalf_126 post J x2 x3 (nI i) (nI x) (nI y) z c1 c2 c3 c4 c5 c6 c7 c8 c9 c10 c11 c12 c13 c14 c15 c16 c17 ca1 ca2 ca3 ca4 ca5 ca6 ca7 ca8 ca9 ca10 ca11 ca12 ca13 ca14 ca15 d1 d2 d3 d4 d5 d6 d7 d8 d9 d10 d11 d12 d13 d14 d15 d16 d17 da1 da2 da3 da4 da5 da6 da7 da8 da9 da10 da11 da12 da13 da14 da15 := by
  unfold wL_isHalf_126
  exact pv_get ok hx hy (br_t hz (nm_r (nI_1 i) hJ))
theorem pv_isHalf {post : Int32 → Prop} {c1 c2 c3 c4 c5 c6 c7 c8 c9 c13 c14 c15 c16 c17 : Int32} {c10 c11 c12 : Int64} {ca1 ca2 ca3 ca4 ca5 ca6 ca7 ca8 ca9 ca10 ca11 ca12 ca13 ca14 ca15 : Nat → Int32} {d1 d2 d3 d4 d5 d6 d7 d8 d9 d13 d14 d15 d16 d17 : Int32} {d10 d11 d12 : Int64} {da1 da2 da3 da4 da5 da6 da7 da8 da9 da10 da11 da12 da13 da14 da15 : Nat → Int32} {w h : Nat} {K : Nat → Int32} (okd : pv_ok (d1, d2, d3, d4, d5, d6, d7, d8, d9, d10, d11, d12, d13, d14, d15, d16, d17, da1, da2, da3, da4, da5, da6, da7, da8, da9, da10, da11, da12, da13, da14, da15) w h K) (okc : pv_ok (c1, c2, c3, c4, c5, c6, c7, c8, c9, c10, c11, c12, c13, c14, c15, c16, c17, ca1, ca2, ca3, ca4, ca5, ca6, ca7, ca8, ca9, ca10, ca11, ca12, ca13, ca14, ca15) ((w + 1) / 2) ((h + 1) / 2) (pv_hK K w h)) (H : post 1) :
    wpL_isHalf post (c1, c2, c3, c4, c5, c6, c7, c8, c9, c10, c11, c12, c13, c14, c15, c16, c17, ca1, ca2, ca3, ca4, ca5, ca6, ca7, ca8, ca9, ca10, ca11, ca12, ca13, ca14, ca15, d1, d2, d3, d4, d5, d6, d7, d8, d9, d10, d11, d12, d13, d14, d15, d16, d17, da1, da2, da3, da4, da5, da6, da7, da8, da9, da10, da11, da12, da13, da14, da15) := by
  obtain ⟨w1, w2, h1, h2, hN, _⟩ := pv_sz okd
  have hA := pv_half_area w1 h1
  have wp : 1 ≤ (w + 1) / 2 := by omega
  have D : ∀ n, n < 1000 → (nI n + 1) / 2 = nI ((n + 1) / 2) := fun n hn => by
    rw [nI_1]
    exact pk_div (d := 2) (by omega) (by omega) (by omega)
  unfold wpL_isHalf
  refine pv_width okd ⟨by decide, nm_r (D w (by omega)) (pv_height okd ⟨by decide, nm_r (D h (by omega)) (pv_width okc (br_t rfl (pv_height okc (br_t rfl (pv_get_no (y := 0) okc (by omega) (by omega) (Or.inl (Nat.le_refl _)) (br_t rfl (pv_get_no (x := 0) okc (by omega) (by omega) (Or.inr (Nat.le_refl _)) (br_t rfl ?_))))))))⟩)⟩
  refine pk_loop (σ := Unit) (fun n i _ => wL_isHalf_59 post (nI ((w + 1) / 2)) (nI ((h + 1) / 2)) c1 c2 c3 c4 c5 c6 c7 c8 c9 c10 c11 c12 c13 c14 c15 c16 c17 ca1 ca2 ca3 ca4 ca5 ca6 ca7 ca8 ca9 ca10 ca11 ca12 ca13 ca14 ca15 d1 d2 d3 d4 d5 d6 d7 d8 d9 d10 d11 d12 d13 d14 d15 d16 d17 da1 da2 da3 da4 da5 da6 da7 da8 da9 da10 da11 da12 da13 da14 da15 n (nI i)) (fun _ _ => True) ((w + 1) / 2 * ((h + 1) / 2)) 0 () (by omega) trivial ?_ ?_
  · intro n _ _
    exact pk_le ((w + 1) / 2 * ((h + 1) / 2)) ((w + 1) / 2 * ((h + 1) / 2)) (fun _ => H) (fun z => absurd z (by omega)) (pk_mul _ _)
  · intro n i _ hi _ hw
    obtain ⟨x, y, hx, hy, ei, ex, ey⟩ := pv_cut wp hi
    have next := hw () trivial
    have E : pv_hK K w h ((w + 1) / 2 * y + x) = pv_hv K w h x y := by
      unfold pv_hK
      rw [pv_dv y hx, pv_md y hx]
    refine pk_le ((w + 1) / 2 * ((h + 1) / 2)) i (fun z => absurd z (by omega)) (fun _ => ⟨nI_ne0 wp (by omega), nm_r (pk_rem (by omega) wp (by omega)) ⟨nI_ne0 wp (by omega), nm_r (pk_div (by omega) wp (by omega)) ?_⟩⟩) (pk_mul _ _)
    rw [ex, ey, show (2 : Int32) * nI y = nI (2 * y) from pk_mul 2 y, nI_1]
    unfold pv_hv at E
    refine pv_across okd (by omega) (by omega) (pv_height okd (pk_le h (2 * y + 1) (fun z => ?_) (fun z => ?_)))
    · rw [if_neg (by omega)] at E
      exact pv_h126 okc hx hy E next
    · rw [if_pos z] at E
      exact pv_across okd (by omega) z (pv_half (pv_h126 okc hx hy E next))
end
section
/-! ===== paint ===== -/
theorem pv_H_pn {N : Nat} {a K : Nat → Int32} {p : Nat → Bool} {col : Int32} {n m : Nat} (h : pv_H N a (pv_pn p col K n)) (hnm : n ≤ m) (hp : ∀ i, n ≤ i → i < m → ¬ p i = true) : pv_H N a (pv_pn p col K m) :=
  pv_H_eq h (fun j _ => pv_pn_skip hnm hp j)
theorem pv_pa74 {post : Int32 → St2 → Prop} {J : Int32 → Int32 → Int32 → Int32 → Int32 → Int32 → Int32 → Int32 → Int32 → Int32 → Int32 → Int64 → Int64 → Int64 → Int32 → Int32 → Int32 → Int32 → Int32 → (Nat → Int32) → (Nat → Int32) → (Nat → Int32) → (Nat → Int32) → (Nat → Int32) → (Nat → Int32) → (Nat → Int32) → (Nat → Int32) → (Nat → Int32) → (Nat → Int32) → (Nat → Int32) → (Nat → Int32) → (Nat → Int32) → (Nat → Int32) → (Nat → Int32) → Prop} {u3 u4 u5 u6 u7 u8 u9 u13 u14 u15 u16 u17 : Int32} {u10 u11 u12 : Int64} {ua1 ua2 ua3 ua4 ua5 ua6 ua7 ua8 ua9 ua10 ua11 ua12 ua13 ua14 ua15 : Nat → Int32} {w h l t wd hg y : Nat} {K : Nat → Int32} {box col : Int32} (w1 : 1 ≤ w) (w2 : w ≤ 12) (h1 : 1 ≤ h) (h2 : h ≤ 12) (hl : l < 16) (hwd : wd < 16) (hbox : box >>> ((4 : Int32) &&& 31) = nI wd) (hcol : pv_24 col) (hy : y < h) (hyt : t ≤ y) (hyh : y < t + hg)
    (hH : pv_H (w * h) ua1 (pv_pn (pv_in w l t wd hg) col K (w * y)))
    (H : ∀ b, pv_H (w * h) b (pv_pn (pv_in w l t wd hg) col K (w * (y + 1))) → J (nI (pv_cnt (pv_in w l t wd hg) (w * (y + 1)))) (nI (y + 1)) (nI w) (nI h) u3 u4 u5 u6 u7 u8 u9 u10 u11 u12 u13 u14 u15 u16 u17 b ua2 ua3 ua4 ua5 ua6 ua7 ua8 ua9 ua10 ua11 ua12 ua13 ua14 ua15) :
    ∃ n, wX_paint_74 post J box col (nI l) (nI t) (nI y) n (nI (pv_cnt (pv_in w l t wd hg) (w * y))) (nI l) (nI w) (nI h) u3 u4 u5 u6 u7 u8 u9 u10 u11 u12 u13 u14 u15 u16 u17 ua1 ua2 ua3 ua4 ua5 ua6 ua7 ua8 ua9 ua10 ua11 ua12 ua13 ua14 ua15 := by
  have hN := pv_area w2 h2
  have hL : w * y + min l w ≤ w * y + w := by omega
  have c0 := pv_cnt_skip (w * y + min l w) (by omega) (pv_no_left (w := w) (l := l) (t := t) (wd := wd) (hg := hg) (y := y) (m := min l w) (by omega) (by omega))
  have k0 := pv_H_pn hH (show w * y ≤ w * y + min l w by omega) (pv_no_left (by omega) (by omega))
  have F : ∀ (s : Int32 × (Nat → Int32)) (x : Nat), (l + wd ≤ x ∨ w ≤ x) → s.1 = nI (pv_cnt (pv_in w l t wd hg) (w * y + min x w)) → pv_H (w * h) s.2 (pv_pn (pv_in w l t wd hg) col K (w * y + min x w)) → J s.1 (nI (y + 1)) (nI w) (nI h) u3 u4 u5 u6 u7 u8 u9 u10 u11 u12 u13 u14 u15 u16 u17 s.2 ua2 ua3 ua4 ua5 ua6 ua7 ua8 ua9 ua10 ua11 ua12 ua13 ua14 ua15 := by
    intro s x hx hs1 hs2
    have nr := pv_no_row (w := w) (l := l) (t := t) (wd := wd) (hg := hg) (y := y) (x := min x w) (by omega)
    have le : w * y + min x w ≤ w * (y + 1) := by rw [Nat.mul_add, Nat.mul_one]; omega
    rw [hs1, ← pv_cnt_skip (w * (y + 1)) le nr]
    exact H s.2 (pv_H_pn hs2 le nr)
  refine pk_loop (fun n x (s : Int32 × (Nat → Int32)) => wX_paint_74 post J box col (nI l) (nI t) (nI y) n s.1 (nI x) (nI w) (nI h) u3 u4 u5 u6 u7 u8 u9 u10 u11 u12 u13 u14 u15 u16 u17 s.2 ua2 ua3 ua4 ua5 ua6 ua7 ua8 ua9 ua10 ua11 ua12 ua13 ua14 ua15) (fun x s => l ≤ x ∧ s.1 = nI (pv_cnt (pv_in w l t wd hg) (w * y + min x w)) ∧ pv_H (w * h) s.2 (pv_pn (pv_in w l t wd hg) col K (w * y + min x w))) (max l (min (l + wd) w)) l (nI (pv_cnt (pv_in w l t wd hg) (w * y)), ua1) (by omega) ⟨by omega, by rw [c0], k0⟩ ?_ ?_
  · intro n s hs
    refine pk_le (l + wd) (max l (min (l + wd) w)) (fun z => nm_r (nI_1 y) (F s _ (Or.inl z) hs.2.1 hs.2.2)) (fun z => pk_le w (max l (min (l + wd) w)) (fun z' => nm_r (nI_1 y) (F s _ (Or.inr z') hs.2.1 hs.2.2)) (fun z' => absurd z (by omega))) (by rw [hbox, nI_add])
  · intro n x s hx hs hw
    obtain ⟨s1, s2⟩ := s
    obtain ⟨hlx, hs1, hs2⟩ := hs
    have hs1' : s1 = nI (pv_cnt (pv_in w l t wd hg) (w * y + min x w)) := hs1
    have hs2' : pv_H (w * h) s2 (pv_pn (pv_in w l t wd hg) col K (w * y + min x w)) := hs2
    rw [show min x w = x by omega] at hs1' hs2'
    subst hs1'
    have hxw : x < w := by omega
    have hin : pv_in w l t wd hg (w * y + x) = true := (pv_in_xy hxw).mpr ⟨hlx, by omega, hyt, hyh⟩
    have put := pv_put hN hs2' (pv_flat hxw hy) hcol
    rw [pv_pn_put hin] at put
    have next := hw (nI (pv_cnt (pv_in w l t wd hg) (w * y + x + 1)), _) ⟨by omega, by rw [show min (x + 1) w = x + 1 by omega]; rfl, by rw [show min (x + 1) w = x + 1 by omega]; exact put⟩
    rw [pv_cnt_t hin] at next
    have hfl := pv_flat hxw hy
    refine pk_le (l + wd) x (fun z => absurd z (by omega)) (fun _ => pk_le w x (fun z => absurd z (by omega)) (fun _ => ?_)) (by rw [hbox, nI_add])
    rw [pk_mul, nI_add]
    exact pv_setColour (by omega) (nm_r (nI_1 _) (nm_r (nI_1 x) next))
theorem pv_pa49 {post : Int32 → St2 → Prop} {u3 u4 u5 u6 u7 u8 u9 u13 u14 u15 u16 u17 : Int32} {u10 u11 u12 : Int64} {ua1 ua2 ua3 ua4 ua5 ua6 ua7 ua8 ua9 ua10 ua11 ua12 ua13 ua14 ua15 : Nat → Int32} {w h l t wd hg : Nat} {K : Nat → Int32} {box col : Int32} (w1 : 1 ≤ w) (w2 : w ≤ 12) (h1 : 1 ≤ h) (h2 : h ≤ 12) (hl : l < 16) (ht : t < 16) (hwd : wd < 16) (hhg : hg < 16) (hbox : box >>> ((4 : Int32) &&& 31) = nI wd) (hbox' : box &&& 15 = nI hg) (hcol : pv_24 col)
    (hH : pv_H (w * h) ua1 K)
    (H : ∀ u', pv_ok u' w h (pv_pn (pv_in w l t wd hg) col K (w * h)) → post (nI (pv_cnt (pv_in w l t wd hg) (w * h))) u') :
    ∃ n, wX_paint_49 post box col (nI l) (nI t) n 0 (nI t) (nI w) (nI h) u3 u4 u5 u6 u7 u8 u9 u10 u11 u12 u13 u14 u15 u16 u17 ua1 ua2 ua3 ua4 ua5 ua6 ua7 ua8 ua9 ua10 ua11 ua12 ua13 ua14 ua15 := by
  have hN := pv_area w2 h2
  have c0 := pv_cnt_skip (w * t) (Nat.zero_le _) (fun i _ h2 => pv_no_rows (w := w) (l := l) (t := t) (wd := wd) (hg := hg) (y := 0) (y' := t) (Or.inl (Nat.le_refl t)) i (by omega) h2)
  have k0 : pv_H (w * h) ua1 (pv_pn (pv_in w l t wd hg) col K (w * t)) := by
    refine pv_H_pn (n := 0) (pv_H_eq hH (fun j _ => ?_)) (Nat.zero_le _) (fun i _ h2 => pv_no_rows (y := 0) (y' := t) (Or.inl (Nat.le_refl t)) i (by omega) h2)
    unfold pv_pn
    rw [if_neg (fun z => absurd z.2 (by omega))]
  have F : ∀ (s : Int32 × (Nat → Int32)) (y : Nat), (t + hg ≤ y ∨ h ≤ y) → (t = y ∨ y ≤ h) → s.1 = nI (pv_cnt (pv_in w l t wd hg) (w * y)) → pv_H (w * h) s.2 (pv_pn (pv_in w l t wd hg) col K (w * y)) → post s.1 (nI w, nI h, u3, u4, u5, u6, u7, u8, u9, u10, u11, u12, u13, u14, u15, u16, u17, s.2, ua2, ua3, ua4, ua5, ua6, ua7, ua8, ua9, ua10, ua11, ua12, ua13, ua14, ua15) := by
    intro s y hy hy' hs1 hs2
    rcases Nat.le_total y h with z | z
    · have nr := pv_no_rows (w := w) (l := l) (t := t) (wd := wd) (hg := hg) (y := y) (y' := h)
      by_cases e : y = h
      · subst e
        rw [hs1]
        exact H _ (pv_mk w1 w2 h1 h2 hs2)
      · have nr' := nr (Or.inr (by omega))
        have le := Nat.mul_le_mul_left w z
        rw [hs1, ← pv_cnt_skip (w * h) le nr']
        exact H _ (pv_mk w1 w2 h1 h2 (pv_H_pn hs2 le nr'))
    · by_cases e : y = h
      · subst e
        rw [hs1]
        exact H _ (pv_mk w1 w2 h1 h2 hs2)
      · have et : t = y := by omega
        have nr := pv_no_rows (w := w) (l := l) (t := t) (wd := wd) (hg := hg) (y := h) (y' := y) (Or.inl (by omega))
        have le := Nat.mul_le_mul_left w z
        rw [hs1, pv_cnt_skip (w * y) le nr]
        exact H _ (pv_mk w1 w2 h1 h2 (pv_H_eq hs2 (fun j _ => (pv_pn_skip le nr j).symm)))
  refine pk_loop (fun n y (s : Int32 × (Nat → Int32)) => wX_paint_49 post box col (nI l) (nI t) n s.1 (nI y) (nI w) (nI h) u3 u4 u5 u6 u7 u8 u9 u10 u11 u12 u13 u14 u15 u16 u17 s.2 ua2 ua3 ua4 ua5 ua6 ua7 ua8 ua9 ua10 ua11 ua12 ua13 ua14 ua15) (fun y s => t ≤ y ∧ s.1 = nI (pv_cnt (pv_in w l t wd hg) (w * y)) ∧ pv_H (w * h) s.2 (pv_pn (pv_in w l t wd hg) col K (w * y))) (max t (min (t + hg) h)) t (0, ua1) (by omega) ⟨by omega, by rw [c0]; rfl, k0⟩ ?_ ?_
  · intro n s hs
    exact pk_le (t + hg) (max t (min (t + hg) h)) (fun z => F s _ (Or.inl z) (by omega) hs.2.1 hs.2.2) (fun z => pk_le h (max t (min (t + hg) h)) (fun z' => F s _ (Or.inr z') (by omega) hs.2.1 hs.2.2) (fun z' => absurd z (by omega))) (by rw [hbox', nI_add])
  · intro n y s hy hs hw
    obtain ⟨s1, s2⟩ := s
    obtain ⟨hty, hs1, hs2⟩ := hs
    have hs1' : s1 = nI (pv_cnt (pv_in w l t wd hg) (w * y)) := hs1
    subst hs1'
    exact pk_le (t + hg) y (fun z => absurd z (by omega)) (fun _ => pk_le h y (fun z => absurd z (by omega)) (fun _ => pv_pa74 w1 w2 h1 h2 hl hwd hbox hcol (by omega) hty (by omega) hs2 (fun b hb => hw (_, b) ⟨by omega, rfl, hb⟩))) (by rw [hbox', nI_add])
theorem pv_isColour {post : Int32 → Prop} {v : Int32} {j : Nat} (hv : v = nI j) (hj : j < 16777216) (H : post 1) : wpX_isColour post () v := by
  subst hv
  unfold wpX_isColour
  exact br_f (nI_pos (by omega)) (br_f (nI_ge (b := 16777216) hj (by omega)) H)
theorem pv_paint {post : Int32 → St2 → Prop} {u : St2} {w h l t wd hg : Nat} {K : Nat → Int32} {place box col : Int32} (ok : pv_ok u w h K) (hl : l < 16) (ht : t < 16) (hwd : wd < 16) (hhg : hg < 16) (hp : place = nI (16 * l + t)) (hb : box = nI (16 * wd + hg)) (hcol : pv_24 col) (hcol' : ∃ j : Nat, j < 16777216 ∧ col = nI j)
    (H : ∀ u', pv_ok u' w h (pv_pn (pv_in w l t wd hg) col K (w * h)) → post (nI (pv_cnt (pv_in w l t wd hg) (w * h))) u') :
    wpX_paint post u place box col := by
  obtain ⟨u1, u2, u3, u4, u5, u6, u7, u8, u9, u10, u11, u12, u13, u14, u15, u16, u17, ua1, ua2, ua3, ua4, ua5, ua6, ua7, ua8, ua9, ua10, ua11, ua12, ua13, ua14, ua15⟩ := u
  obtain ⟨e1, e2, w1, w2, h1, h2, hH⟩ := pv_un ok
  subst e1 e2 hp hb
  obtain ⟨j, hj, ej⟩ := hcol'
  have S : ∀ a b, a < 16 → b < 16 → nI (16 * a + b) >>> ((4 : Int32) &&& 31) = nI a := fun a b ha hb => by
    rw [pk_shrN (by omega) _ 4 (by decide), show (16 * a + b) / 2 ^ 4 = a by omega]
  have M : ∀ a b, a < 16 → b < 16 → nI (16 * a + b) &&& 15 = nI b := fun a b ha hb => by
    rw [pk_andN (by omega) 4 (by decide), show (16 * a + b) % 2 ^ 4 = b by omega]
  unfold wpX_paint
  refine br_f (nI_pos (by omega)) (br_f (nI_nlt (a := 255) (by omega) (by omega)) (br_f (nI_pos (by omega)) (br_f (nI_nlt (a := 255) (by omega) (by omega)) (pv_isColour ej hj (br_f (by decide) (nm_r (S l t hl ht) (nm_r (M l t hl ht) ?_)))))))
  exact pv_pa49 w1 w2 h1 h2 hl ht hwd hhg (S wd hg hwd hhg) (M wd hg hwd hhg) hcol hH H
end
section
/-! ===== the law's last loop: what was painted ===== -/
theorem pv_l778 {post : Int32 → St0 → Prop} {mc ms kc ks i : Nat} {J : Int32 → Int32 → Prop} {c1 c2 c3 c4 c5 c6 c7 c8 c9 c13 c14 c15 c16 c17 : Int32} {c10 c11 c12 : Int64} {ca1 ca2 ca3 ca4 ca5 ca6 ca7 ca8 ca9 ca10 ca11 ca12 ca13 ca14 ca15 : Nat → Int32} {d1 d2 d3 d4 d5 d6 d7 d8 d9 d13 d14 d15 d16 d17 : Int32} {d10 d11 d12 : Int64} {da1 da2 da3 da4 da5 da6 da7 da8 da9 da10 da11 da12 da13 da14 da15 : Nat → Int32} {x4 x5 x12 x13 x14 x15 x16 x17 x18 z0 z1 : Int32} (hz : z1 = z0) (hJ : J x18 (nI (i + 1))) :
    wL_lawOf_778 post mc ms J x4 x5 x12 x13 x14 x15 x16 x17 x18 (nI i) z0 z1 kc ks c1 c2 c3 c4 c5 c6 c7 c8 c9 c10 c11 c12 c13 c14 c15 c16 c17 ca1 ca2 ca3 ca4 ca5 ca6 ca7 ca8 ca9 ca10 ca11 ca12 ca13 ca14 ca15 d1 d2 d3 d4 d5 d6 d7 d8 d9 d10 d11 d12 d13 d14 d15 d16 d17 da1 da2 da3 da4 da5 da6 da7 da8 da9 da10 da11 da12 da13 da14 da15 := by
  unfold wL_lawOf_778
  exact br_t hz (nm_r (nI_1 i) hJ)
theorem pv_l731 {post : Int32 → St0 → Prop} {mc ms kc ks i w h x y : Nat} {Kc Kd : Nat → Int32} {J : Int32 → Int32 → Prop} {c1 c2 c3 c4 c5 c6 c7 c8 c9 c13 c14 c15 c16 c17 : Int32} {c10 c11 c12 : Int64} {ca1 ca2 ca3 ca4 ca5 ca6 ca7 ca8 ca9 ca10 ca11 ca12 ca13 ca14 ca15 : Nat → Int32} {d1 d2 d3 d4 d5 d6 d7 d8 d9 d13 d14 d15 d16 d17 : Int32} {d10 d11 d12 : Int64} {da1 da2 da3 da4 da5 da6 da7 da8 da9 da10 da11 da12 da13 da14 da15 : Nat → Int32} {x4 x5 x12 x13 x14 x15 x16 x17 x18 : Int32} (okc : pv_ok (c1, c2, c3, c4, c5, c6, c7, c8, c9, c10, c11, c12, c13, c14, c15, c16, c17, ca1, ca2, ca3, ca4, ca5, ca6, ca7, ca8, ca9, ca10, ca11, ca12, ca13, ca14, ca15) w h Kc) (okd : pv_ok (d1, d2, d3, d4, d5, d6, d7, d8, d9, d10, d11, d12, d13, d14, d15, d16, d17, da1, da2, da3, da4, da5, da6, da7, da8, da9, da10, da11, da12, da13, da14, da15) w h Kd) (hx : x < w) (hy : y < h) (hz : Kc (w * y + x) = Kd (w * y + x)) (hJ : J x18 (nI (i + 1))) :
    wL_lawOf_731 post mc ms J x4 x5 x12 x13 x14 x15 x16 x17 x18 (nI i) (nI x) (nI y) kc ks c1 c2 c3 c4 c5 c6 c7 c8 c9 c10 c11 c12 c13 c14 c15 c16 c17 ca1 ca2 ca3 ca4 ca5 ca6 ca7 ca8 ca9 ca10 ca11 ca12 ca13 ca14 ca15 d1 d2 d3 d4 d5 d6 d7 d8 d9 d10 d11 d12 d13 d14 d15 d16 d17 da1 da2 da3 da4 da5 da6 da7 da8 da9 da10 da11 da12 da13 da14 da15 := by
  unfold wL_lawOf_731 wL_lawOf_732
  refine br_t rfl ?_
  unfold wL_lawOf_748
  exact pv_get okc hx hy (br_t rfl (pv_get okd hx hy (pv_l778 hz hJ)))
theorem pv_l732 {post : Int32 → St0 → Prop} {mc ms kc ks i w h x y : Nat} {Kc : Nat → Int32} {J : Int32 → Int32 → Prop} {c1 c2 c3 c4 c5 c6 c7 c8 c9 c13 c14 c15 c16 c17 : Int32} {c10 c11 c12 : Int64} {ca1 ca2 ca3 ca4 ca5 ca6 ca7 ca8 ca9 ca10 ca11 ca12 ca13 ca14 ca15 : Nat → Int32} {d1 d2 d3 d4 d5 d6 d7 d8 d9 d13 d14 d15 d16 d17 : Int32} {d10 d11 d12 : Int64} {da1 da2 da3 da4 da5 da6 da7 da8 da9 da10 da11 da12 da13 da14 da15 : Nat → Int32} {x4 x5 x12 x13 x14 x15 x16 x17 x18 : Int32} (okc : pv_ok (c1, c2, c3, c4, c5, c6, c7, c8, c9, c10, c11, c12, c13, c14, c15, c16, c17, ca1, ca2, ca3, ca4, ca5, ca6, ca7, ca8, ca9, ca10, ca11, ca12, ca13, ca14, ca15) w h Kc) (hx : x < w) (hy : y < h) (hz : Kc (w * y + x) = x16) (hJ : J (x18 + 1) (nI (i + 1))) :
    wL_lawOf_732 post mc ms J x4 x5 x12 x13 x14 x15 x16 x17 x18 (nI i) (nI x) (nI y) 1 kc ks c1 c2 c3 c4 c5 c6 c7 c8 c9 c10 c11 c12 c13 c14 c15 c16 c17 ca1 ca2 ca3 ca4 ca5 ca6 ca7 ca8 ca9 ca10 ca11 ca12 ca13 ca14 ca15 d1 d2 d3 d4 d5 d6 d7 d8 d9 d10 d11 d12 d13 d14 d15 d16 d17 da1 da2 da3 da4 da5 da6 da7 da8 da9 da10 da11 da12 da13 da14 da15 := by
  unfold wL_lawOf_732
  refine br_f (by decide) ?_
  unfold wL_lawOf_748
  exact pv_get okc hx hy (br_f (by decide) (pv_l778 hz hJ))
theorem pv_l669 {post : Int32 → St0 → Prop} {mc ms kc ks w h l t wd hg : Nat} {K : Nat → Int32} {c1 c2 c3 c4 c5 c6 c7 c8 c9 c13 c14 c15 c16 c17 : Int32} {c10 c11 c12 : Int64} {ca1 ca2 ca3 ca4 ca5 ca6 ca7 ca8 ca9 ca10 ca11 ca12 ca13 ca14 ca15 : Nat → Int32} {d1 d2 d3 d4 d5 d6 d7 d8 d9 d13 d14 d15 d16 d17 : Int32} {d10 d11 d12 : Int64} {da1 da2 da3 da4 da5 da6 da7 da8 da9 da10 da11 da12 da13 da14 da15 : Nat → Int32} {col : Int32} (hl : l < 16) (ht : t < 16) (hwd : wd < 16) (hhg : hg < 16) (okc : pv_ok (c1, c2, c3, c4, c5, c6, c7, c8, c9, c10, c11, c12, c13, c14, c15, c16, c17, ca1, ca2, ca3, ca4, ca5, ca6, ca7, ca8, ca9, ca10, ca11, ca12, ca13, ca14, ca15) w h (pv_pn (pv_in w l t wd hg) col K (w * h))) (okd : pv_ok (d1, d2, d3, d4, d5, d6, d7, d8, d9, d10, d11, d12, d13, d14, d15, d16, d17, da1, da2, da3, da4, da5, da6, da7, da8, da9, da10, da11, da12, da13, da14, da15) w h K) (H : post 1 ()) :
    ∃ n, wL_lawOf_669 post mc ms (nI w) (nI h) (nI l) (nI t) (nI wd) (nI hg) col (nI (pv_cnt (pv_in w l t wd hg) (w * h))) kc ks c1 c2 c3 c4 c5 c6 c7 c8 c9 c10 c11 c12 c13 c14 c15 c16 c17 ca1 ca2 ca3 ca4 ca5 ca6 ca7 ca8 ca9 ca10 ca11 ca12 ca13 ca14 ca15 d1 d2 d3 d4 d5 d6 d7 d8 d9 d10 d11 d12 d13 d14 d15 d16 d17 da1 da2 da3 da4 da5 da6 da7 da8 da9 da10 da11 da12 da13 da14 da15 n 0 0 := by
  obtain ⟨w1, w2, h1, h2, hN, _⟩ := pv_sz okd
  refine pk_loop (fun n i (s : Int32) => wL_lawOf_669 post mc ms (nI w) (nI h) (nI l) (nI t) (nI wd) (nI hg) col (nI (pv_cnt (pv_in w l t wd hg) (w * h))) kc ks c1 c2 c3 c4 c5 c6 c7 c8 c9 c10 c11 c12 c13 c14 c15 c16 c17 ca1 ca2 ca3 ca4 ca5 ca6 ca7 ca8 ca9 ca10 ca11 ca12 ca13 ca14 ca15 d1 d2 d3 d4 d5 d6 d7 d8 d9 d10 d11 d12 d13 d14 d15 d16 d17 da1 da2 da3 da4 da5 da6 da7 da8 da9 da10 da11 da12 da13 da14 da15 n s (nI i)) (fun i s => s = nI (pv_cnt (pv_in w l t wd hg) i)) (w * h) 0 0 (by omega) rfl ?_ ?_
  · intro n s hs
    exact pk_le (w * h) (w * h) (fun _ => br_t hs.symm H) (fun z => absurd z (by omega)) (pk_mul w h)
  · intro n i s hi hs hw
    subst hs
    obtain ⟨x, y, hx, hy, ei, ex, ey⟩ := pv_cut w1 hi
    have P : pv_in w l t wd hg i = true ↔ (l ≤ x ∧ x < l + wd ∧ t ≤ y ∧ y < t + hg) := by rw [ei]; exact pv_in_xy hx
    have out : ¬ pv_in w l t wd hg i = true → wL_lawOf_731 post mc ms (wL_lawOf_669 post mc ms (nI w) (nI h) (nI l) (nI t) (nI wd) (nI hg) col (nI (pv_cnt (pv_in w l t wd hg) (w * h))) kc ks c1 c2 c3 c4 c5 c6 c7 c8 c9 c10 c11 c12 c13 c14 c15 c16 c17 ca1 ca2 ca3 ca4 ca5 ca6 ca7 ca8 ca9 ca10 ca11 ca12 ca13 ca14 ca15 d1 d2 d3 d4 d5 d6 d7 d8 d9 d10 d11 d12 d13 d14 d15 d16 d17 da1 da2 da3 da4 da5 da6 da7 da8 da9 da10 da11 da12 da13 da14 da15 n) (nI w) (nI h) (nI l) (nI t) (nI wd) (nI hg) col (nI (pv_cnt (pv_in w l t wd hg) (w * h))) (nI (pv_cnt (pv_in w l t wd hg) i)) (nI i) (nI x) (nI y) kc ks c1 c2 c3 c4 c5 c6 c7 c8 c9 c10 c11 c12 c13 c14 c15 c16 c17 ca1 ca2 ca3 ca4 ca5 ca6 ca7 ca8 ca9 ca10 ca11 ca12 ca13 ca14 ca15 d1 d2 d3 d4 d5 d6 d7 d8 d9 d10 d11 d12 d13 d14 d15 d16 d17 da1 da2 da3 da4 da5 da6 da7 da8 da9 da10 da11 da12 da13 da14 da15 := by
      intro hin
      refine pv_l731 okc okd hx hy ?_ (hw _ (by rw [pv_cnt_f hin]))
      rw [← ei]
      unfold pv_pn
      rw [if_neg (fun z => hin z.1)]
    refine pk_le (w * h) i (fun z => absurd z (by omega)) (fun _ => ⟨nI_ne0 w1 (by omega), nm_r (pk_rem (by omega) w1 (by omega)) ⟨nI_ne0 w1 (by omega), nm_r (pk_div (by omega) w1 (by omega)) ?_⟩⟩) (pk_mul w h)
    rw [ex, ey]
    refine pk_lt x l (fun z => out (fun p => absurd (P.mp p) (by omega))) (fun z1 => pk_le (l + wd) x (fun z => out (fun p => absurd (P.mp p) (by omega))) (fun z2 => pk_lt y t (fun z => out (fun p => absurd (P.mp p) (by omega))) (fun z3 => pk_le (t + hg) y (fun z => out (fun p => absurd (P.mp p) (by omega))) (fun z4 => ?_) (nI_add t hg))) (nI_add l wd))
    have hin : pv_in w l t wd hg i = true := P.mpr ⟨z1, z2, z3, z4⟩
    refine pv_l732 okc hx hy ?_ (hw _ (by rw [pv_cnt_t hin]; exact nI_1 _))
    rw [← ei]
    unfold pv_pn
    rw [if_pos ⟨hin, hi⟩]
/-! ===== the law's second loop: what was turned ===== -/
theorem pv_turn_back {post : Int32 → St2 → Prop} {u : St2} {w h k : Nat} {B : Nat → Int32} (hk : k ≤ 2) (w1 : 1 ≤ w) (h1 : 1 ≤ h) (ok : pv_ok u (pv_dw k w h) (pv_dh k w h) (fun j => B (pv_tt k (pv_dw k w h) (pv_dh k w h) j)))
    (H : ∀ u', pv_ok u' w h B → post (nI (w * h)) u') : wpX_turn post u (nI k) := by
  refine pv_turn hk ok (fun u' ok' => ?_)
  rw [pv_dw_dw, pv_dh_dh] at ok'
  rw [pv_dwh]
  refine H u' (pv_ok_eq ok' (fun j hj => ?_))
  show B (pv_tt k (pv_dw k w h) (pv_dh k w h) (pv_tt k w h j)) = B j
  rw [pv_tt_inv hk w1 hj]
theorem pv_l488 {post : Int32 → St0 → Prop} {mc ms kc ks i w h x y : Nat} {B : Nat → Int32} {J : Int32 → Prop} {c1 c2 c3 c4 c5 c6 c7 c8 c9 c13 c14 c15 c16 c17 : Int32} {c10 c11 c12 : Int64} {ca1 ca2 ca3 ca4 ca5 ca6 ca7 ca8 ca9 ca10 ca11 ca12 ca13 ca14 ca15 : Nat → Int32} {d1 d2 d3 d4 d5 d6 d7 d8 d9 d13 d14 d15 d16 d17 : Int32} {d10 d11 d12 : Int64} {da1 da2 da3 da4 da5 da6 da7 da8 da9 da10 da11 da12 da13 da14 da15 : Nat → Int32} {x1 x2 x3 x4 x5 x6 x7 x11 z : Int32} (okd : pv_ok (d1, d2, d3, d4, d5, d6, d7, d8, d9, d10, d11, d12, d13, d14, d15, d16, d17, da1, da2, da3, da4, da5, da6, da7, da8, da9, da10, da11, da12, da13, da14, da15) w h B) (hx : x < w) (hy : y < h) (hz : z = B (w * y + x)) (hJ : J (nI (i + 1))) :
    wL_lawOf_488 post mc ms J x1 x2 x3 x4 x5 x6 x7 x11 (nI i) (nI x) (nI y) z kc ks c1 c2 c3 c4 c5 c6 c7 c8 c9 c10 c11 c12 c13 c14 c15 c16 c17 ca1 ca2 ca3 ca4 ca5 ca6 ca7 ca8 ca9 ca10 ca11 ca12 ca13 ca14 ca15 d1 d2 d3 d4 d5 d6 d7 d8 d9 d10 d11 d12 d13 d14 d15 d16 d17 da1 da2 da3 da4 da5 da6 da7 da8 da9 da10 da11 da12 da13 da14 da15 := by
  unfold wL_lawOf_488
  exact pv_get okd hx hy (br_t hz (nm_r (nI_1 i) hJ))
/-- behind the second loop -/
theorem pv_l410x {post : Int32 → St0 → Prop} {mc ms kc ks n w h k tn : Nat} {c1 c2 c3 c4 c5 c6 c7 c8 c9 c13 c14 c15 c16 c17 : Int32} {c10 c11 c12 : Int64} {ca1 ca2 ca3 ca4 ca5 ca6 ca7 ca8 ca9 ca10 ca11 ca12 ca13 ca14 ca15 : Nat → Int32} {d1 d2 d3 d4 d5 d6 d7 d8 d9 d13 d14 d15 d16 d17 : Int32} {d10 d11 d12 : Int64} {da1 da2 da3 da4 da5 da6 da7 da8 da9 da10 da11 da12 da13 da14 da15 : Nat → Int32} {y0 seed step : Int32} (hk : k ≤ 3) (htn : tn ≤ 2)
    (okc : pv_ok (c1, c2, c3, c4, c5, c6, c7, c8, c9, c10, c11, c12, c13, c14, c15, c16, c17, ca1, ca2, ca3, ca4, ca5, ca6, ca7, ca8, ca9, ca10, ca11, ca12, ca13, ca14, ca15) (pv_dw tn w h) (pv_dh tn w h) (fun j => pv_pt k seed step w (pv_pt 2 y0 step w (fun _ => 0)) (pv_tt tn (pv_dw tn w h) (pv_dh tn w h) j)))
    (okd : pv_ok (d1, d2, d3, d4, d5, d6, d7, d8, d9, d10, d11, d12, d13, d14, d15, d16, d17, da1, da2, da3, da4, da5, da6, da7, da8, da9, da10, da11, da12, da13, da14, da15) w h (pv_pt k seed step w (pv_pt 2 y0 step w (fun _ => 0)))) (H : post 1 ()) :
    wL_lawOf_410 post mc ms y0 seed step (nI w) (nI h) (nI k) (nI tn) (pv_dg (pv_pt k seed step w (pv_pt 2 y0 step w (fun _ => 0))) (w * h)) kc ks c1 c2 c3 c4 c5 c6 c7 c8 c9 c10 c11 c12 c13 c14 c15 c16 c17 ca1 ca2 ca3 ca4 ca5 ca6 ca7 ca8 ca9 ca10 ca11 ca12 ca13 ca14 ca15 d1 d2 d3 d4 d5 d6 d7 d8 d9 d10 d11 d12 d13 d14 d15 d16 d17 da1 da2 da3 da4 da5 da6 da7 da8 da9 da10 da11 da12 da13 da14 da15 (n + 1) (nI (w * h)) := by
  obtain ⟨w1, w2, h1, h2, hN, _⟩ := pv_sz okd
  have D : ∀ n, n < 1000 → (nI n + 1) / 2 = nI ((n + 1) / 2) := fun n hn => by
    rw [nI_1]
    exact pk_div (d := 2) (by omega) (by omega) (by omega)
  obtain ⟨l, hl, el⟩ := pk_andE (y0 >>> ((4 : Int32) &&& 31)) (m := 15) 4 (by decide)
  obtain ⟨t, ht, et⟩ := pk_andE (y0 >>> ((8 : Int32) &&& 31)) (m := 15) 4 (by decide)
  obtain ⟨wd, hwd, ewd⟩ := pk_andE (y0 >>> ((12 : Int32) &&& 31)) (m := 15) 4 (by decide)
  obtain ⟨hg, hhg, ehg⟩ := pk_andE (y0 >>> ((16 : Int32) &&& 31)) (m := 15) 4 (by decide)
  have hcol := pv_24_mask (y0 ^^^ (seed <<< ((7 : Int32) &&& 31)))
  have hcol' : ∃ j : Nat, j < 16777216 ∧ (y0 ^^^ (seed <<< ((7 : Int32) &&& 31))) &&& 16777215 = nI j := pk_andE (y0 ^^^ (seed <<< ((7 : Int32) &&& 31))) (m := 16777215) 24 (by decide)
  refine pk_le (w * h) (w * h) (fun _ => ?_) (fun z => absurd z (by omega)) (pk_mul w h)
  refine pv_turn_back htn w1 h1 okc (fun e oke => ?_)
  obtain ⟨e1, e2, e3, e4, e5, e6, e7, e8, e9, e10, e11, e12, e13, e14, e15, e16, e17, ea1, ea2, ea3, ea4, ea5, ea6, ea7, ea8, ea9, ea10, ea11, ea12, ea13, ea14, ea15⟩ := e
  refine br_t (pk_mul w h).symm (pv_digest oke (br_t rfl (pv_halve oke (fun f okf => ?_))))
  obtain ⟨f1, f2, f3, f4, f5, f6, f7, f8, f9, f10, f11, f12, f13, f14, f15, f16, f17, fa1, fa2, fa3, fa4, fa5, fa6, fa7, fa8, fa9, fa10, fa11, fa12, fa13, fa14, fa15⟩ := f
  refine ⟨by decide, by decide, br_t (by rw [D w (by omega), D h (by omega), pk_mul]) (pv_isHalf okd okf (br_f (by decide) ?_))⟩
  refine nm_r el (nm_r et (nm_r ewd (nm_r ehg (nm_e ?_))))
  refine pv_make (k := 2) (by omega) w1 w2 h1 h2 (fun g okg => ?_)
  obtain ⟨g1, g2, g3, g4, g5, g6, g7, g8, g9, g10, g11, g12, g13, g14, g15, g16, g17, ga1, ga2, ga3, ga4, ga5, ga6, ga7, ga8, ga9, ga10, ga11, ga12, ga13, ga14, ga15⟩ := g
  refine pv_pattern hk okg (fun p okp => ?_)
  obtain ⟨p1, p2, p3, p4, p5, p6, p7, p8, p9, p10, p11, p12, p13, p14, p15, p16, p17, pa1, pa2, pa3, pa4, pa5, pa6, pa7, pa8, pa9, pa10, pa11, pa12, pa13, pa14, pa15⟩ := p
  refine pv_paint okp hl ht hwd hhg (by rw [show (16 : Int32) * nI l = nI (16 * l) from pk_mul 16 l, nI_add]) (by rw [show (16 : Int32) * nI wd = nI (16 * wd) from pk_mul 16 wd, nI_add]) hcol hcol' (fun q okq => ?_)
  obtain ⟨q1, q2, q3, q4, q5, q6, q7, q8, q9, q10, q11, q12, q13, q14, q15, q16, q17, qa1, qa2, qa3, qa4, qa5, qa6, qa7, qa8, qa9, qa10, qa11, qa12, qa13, qa14, qa15⟩ := q
  exact pv_l669 hl ht hwd hhg okq okd H
theorem pv_l410 {post : Int32 → St0 → Prop} {mc ms kc ks w h k tn : Nat} {c1 c2 c3 c4 c5 c6 c7 c8 c9 c13 c14 c15 c16 c17 : Int32} {c10 c11 c12 : Int64} {ca1 ca2 ca3 ca4 ca5 ca6 ca7 ca8 ca9 ca10 ca11 ca12 ca13 ca14 ca15 : Nat → Int32} {d1 d2 d3 d4 d5 d6 d7 d8 d9 d13 d14 d15 d16 d17 : Int32} {d10 d11 d12 : Int64} {da1 da2 da3 da4 da5 da6 da7 da8 da9 da10 da11 da12 da13 da14 da15 : Nat → Int32} {y0 seed step : Int32} (hk : k ≤ 3) (htn : tn ≤ 2)
    (okc : pv_ok (c1, c2, c3, c4, c5, c6, c7, c8, c9, c10, c11, c12, c13, c14, c15, c16, c17, ca1, ca2, ca3, ca4, ca5, ca6, ca7, ca8, ca9, ca10, ca11, ca12, ca13, ca14, ca15) (pv_dw tn w h) (pv_dh tn w h) (fun j => pv_pt k seed step w (pv_pt 2 y0 step w (fun _ => 0)) (pv_tt tn (pv_dw tn w h) (pv_dh tn w h) j)))
    (okd : pv_ok (d1, d2, d3, d4, d5, d6, d7, d8, d9, d10, d11, d12, d13, d14, d15, d16, d17, da1, da2, da3, da4, da5, da6, da7, da8, da9, da10, da11, da12, da13, da14, da15) w h (pv_pt k seed step w (pv_pt 2 y0 step w (fun _ => 0)))) (H : post 1 ()) :
    ∃ n, wL_lawOf_410 post mc ms y0 seed step (nI w) (nI h) (nI k) (nI tn) (pv_dg (pv_pt k seed step w (pv_pt 2 y0 step w (fun _ => 0))) (w * h)) kc ks c1 c2 c3 c4 c5 c6 c7 c8 c9 c10 c11 c12 c13 c14 c15 c16 c17 ca1 ca2 ca3 ca4 ca5 ca6 ca7 ca8 ca9 ca10 ca11 ca12 ca13 ca14 ca15 d1 d2 d3 d4 d5 d6 d7 d8 d9 d10 d11 d12 d13 d14 d15 d16 d17 da1 da2 da3 da4 da5 da6 da7 da8 da9 da10 da11 da12 da13 da14 da15 n 0 := by
  obtain ⟨w1, w2, h1, h2, hN, _⟩ := pv_sz okd
  refine pk_loop (σ := Unit) (fun n i _ => wL_lawOf_410 post mc ms y0 seed step (nI w) (nI h) (nI k) (nI tn) (pv_dg (pv_pt k seed step w (pv_pt 2 y0 step w (fun _ => 0))) (w * h)) kc ks c1 c2 c3 c4 c5 c6 c7 c8 c9 c10 c11 c12 c13 c14 c15 c16 c17 ca1 ca2 ca3 ca4 ca5 ca6 ca7 ca8 ca9 ca10 ca11 ca12 ca13 ca14 ca15 d1 d2 d3 d4 d5 d6 d7 d8 d9 d10 d11 d12 d13 d14 d15 d16 d17 da1 da2 da3 da4 da5 da6 da7 da8 da9 da10 da11 da12 da13 da14 da15 n (nI i)) (fun _ _ => True) (w * h) 0 () (by omega) trivial ?_ ?_
  · intro n _ _
    exact pv_l410x hk htn okc okd H
  · intro n i _ hi _ hw
    obtain ⟨x, y, hx, hy, ei, ex, ey⟩ := pv_cut w1 hi
    have next := hw () trivial
    have inv := pv_tt_inv htn w1 hi
    refine pk_le (w * h) i (fun z => absurd z (by omega)) (fun _ => ⟨nI_ne0 w1 (by omega), nm_r (pk_rem (by omega) w1 (by omega)) ⟨nI_ne0 w1 (by omega), nm_r (pk_div (by omega) w1 (by omega)) ?_⟩⟩) (pk_mul w h)
    rw [ex, ey]
    refine pk_eq tn 0 (fun e => ?_) (fun e => pk_eq tn 1 (fun e' => ?_) (fun e' => ?_))
    · subst e
      rw [pv_hm1 hx]
      rw [ei, pv_t0 hx] at inv
      refine pv_get okc (show w - 1 - x < w by omega) hy (pv_l488 okd hx hy ?_ next)
      exact congrArg _ inv
    · subst e'
      rw [pv_hm1 hy]
      rw [ei, pv_t1 hx] at inv
      refine pv_get okc hx (show h - 1 - y < h by omega) (pv_l488 okd hx hy ?_ next)
      exact congrArg _ inv
    · have e2 : tn = 2 := by omega
      subst e2
      rw [ei, pv_t2 hx] at inv
      refine pv_get okc (show y < h from hy) (show x < w from hx) (pv_l488 okd hx hy ?_ next)
      exact congrArg _ inv
/-! ===== the law's first loop: what was laid ===== -/
theorem pv_l280 {post : Int32 → St0 → Prop} {mc ms kc ks i w h x y : Nat} {B : Nat → Int32} {J : Int32 → Int32 → Int32 → Prop} {c1 c2 c3 c4 c5 c6 c7 c8 c9 c13 c14 c15 c16 c17 : Int32} {c10 c11 c12 : Int64} {ca1 ca2 ca3 ca4 ca5 ca6 ca7 ca8 ca9 ca10 ca11 ca12 ca13 ca14 ca15 : Nat → Int32} {d1 d2 d3 d4 d5 d6 d7 d8 d9 d13 d14 d15 d16 d17 : Int32} {d10 d11 d12 : Int64} {da1 da2 da3 da4 da5 da6 da7 da8 da9 da10 da11 da12 da13 da14 da15 : Nat → Int32} {x1 x2 x3 x4 x5 x6 x7 x10 z : Int32} (okc : pv_ok (c1, c2, c3, c4, c5, c6, c7, c8, c9, c10, c11, c12, c13, c14, c15, c16, c17, ca1, ca2, ca3, ca4, ca5, ca6, ca7, ca8, ca9, ca10, ca11, ca12, ca13, ca14, ca15) w h B) (hx : x < w) (hy : y < h) (ei : i = w * y + x) (hz : B i = z) (hJ : J x10 (pv_dg B (i + 1)) (nI (i + 1))) :
    wL_lawOf_280 post mc ms J x1 x2 x3 x4 x5 x6 x7 x10 (pv_dg B i) (nI i) (nI x) (nI y) z kc ks c1 c2 c3 c4 c5 c6 c7 c8 c9 c10 c11 c12 c13 c14 c15 c16 c17 ca1 ca2 ca3 ca4 ca5 ca6 ca7 ca8 ca9 ca10 ca11 ca12 ca13 ca14 ca15 d1 d2 d3 d4 d5 d6 d7 d8 d9 d10 d11 d12 d13 d14 d15 d16 d17 da1 da2 da3 da4 da5 da6 da7 da8 da9 da10 da11 da12 da13 da14 da15 := by
  subst hz
  unfold wL_lawOf_280
  refine nm_r (show pv_dg B i + ((nI i + 1) * B i) = pv_dg B (i + 1) from rfl) (pv_get okc hx hy (br_t ?_ (nm_r (nI_1 i) hJ)))
  rw [← ei]
theorem pv_l380 {post : Int32 → St0 → Prop} {mc ms kc ks w h k tn : Nat} {c1 c2 c3 c4 c5 c6 c7 c8 c9 c13 c14 c15 c16 c17 : Int32} {c10 c11 c12 : Int64} {ca1 ca2 ca3 ca4 ca5 ca6 ca7 ca8 ca9 ca10 ca11 ca12 ca13 ca14 ca15 : Nat → Int32} {d1 d2 d3 d4 d5 d6 d7 d8 d9 d13 d14 d15 d16 d17 : Int32} {d10 d11 d12 : Int64} {da1 da2 da3 da4 da5 da6 da7 da8 da9 da10 da11 da12 da13 da14 da15 : Nat → Int32} {y0 seed step z : Int32} (hk : k ≤ 3) (htn : tn ≤ 2) (w1 : 1 ≤ w) (w2 : w ≤ 12) (h1 : 1 ≤ h) (h2 : h ≤ 12)
    (okc : pv_ok (c1, c2, c3, c4, c5, c6, c7, c8, c9, c10, c11, c12, c13, c14, c15, c16, c17, ca1, ca2, ca3, ca4, ca5, ca6, ca7, ca8, ca9, ca10, ca11, ca12, ca13, ca14, ca15) (pv_dw tn w h) (pv_dh tn w h) (fun j => pv_pt k seed step w (pv_pt 2 y0 step w (fun _ => 0)) (pv_tt tn (pv_dw tn w h) (pv_dh tn w h) j))) (H : post 1 ()) :
    wL_lawOf_380 post mc ms y0 seed step (nI w) (nI h) (nI k) (nI tn) (pv_dg (pv_pt k seed step w (pv_pt 2 y0 step w (fun _ => 0))) (w * h)) z z kc ks c1 c2 c3 c4 c5 c6 c7 c8 c9 c10 c11 c12 c13 c14 c15 c16 c17 ca1 ca2 ca3 ca4 ca5 ca6 ca7 ca8 ca9 ca10 ca11 ca12 ca13 ca14 ca15 d1 d2 d3 d4 d5 d6 d7 d8 d9 d10 d11 d12 d13 d14 d15 d16 d17 da1 da2 da3 da4 da5 da6 da7 da8 da9 da10 da11 da12 da13 da14 da15 := by
  unfold wL_lawOf_380
  refine br_t rfl (pv_make (k := 2) (by omega) w1 w2 h1 h2 (fun g okg => ?_))
  obtain ⟨g1, g2, g3, g4, g5, g6, g7, g8, g9, g10, g11, g12, g13, g14, g15, g16, g17, ga1, ga2, ga3, ga4, ga5, ga6, ga7, ga8, ga9, ga10, ga11, ga12, ga13, ga14, ga15⟩ := g
  refine pv_pattern hk okg (fun p okp => ?_)
  obtain ⟨p1, p2, p3, p4, p5, p6, p7, p8, p9, p10, p11, p12, p13, p14, p15, p16, p17, pa1, pa2, pa3, pa4, pa5, pa6, pa7, pa8, pa9, pa10, pa11, pa12, pa13, pa14, pa15⟩ := p
  exact pv_l410 hk htn okc okp H
theorem pv_l359 {post : Int32 → St0 → Prop} {mc ms kc ks w h k tn : Nat} {c1 c2 c3 c4 c5 c6 c7 c8 c9 c13 c14 c15 c16 c17 : Int32} {c10 c11 c12 : Int64} {ca1 ca2 ca3 ca4 ca5 ca6 ca7 ca8 ca9 ca10 ca11 ca12 ca13 ca14 ca15 : Nat → Int32} {d1 d2 d3 d4 d5 d6 d7 d8 d9 d13 d14 d15 d16 d17 : Int32} {d10 d11 d12 : Int64} {da1 da2 da3 da4 da5 da6 da7 da8 da9 da10 da11 da12 da13 da14 da15 : Nat → Int32} {y0 seed step z : Int32} (hk : k ≤ 3) (htn : tn ≤ 2) (w1 : 1 ≤ w) (w2 : w ≤ 12) (h1 : 1 ≤ h) (h2 : h ≤ 12)
    (okc : pv_ok (c1, c2, c3, c4, c5, c6, c7, c8, c9, c10, c11, c12, c13, c14, c15, c16, c17, ca1, ca2, ca3, ca4, ca5, ca6, ca7, ca8, ca9, ca10, ca11, ca12, ca13, ca14, ca15) (pv_dw tn w h) (pv_dh tn w h) (fun j => pv_pt k seed step w (pv_pt 2 y0 step w (fun _ => 0)) (pv_tt tn (pv_dw tn w h) (pv_dh tn w h) j))) (H : post 1 ()) :
    wL_lawOf_359 post mc ms y0 seed step (nI w) (nI h) (nI k) (nI tn) (pv_dg (pv_pt k seed step w (pv_pt 2 y0 step w (fun _ => 0))) (w * h)) z z kc ks c1 c2 c3 c4 c5 c6 c7 c8 c9 c10 c11 c12 c13 c14 c15 c16 c17 ca1 ca2 ca3 ca4 ca5 ca6 ca7 ca8 ca9 ca10 ca11 ca12 ca13 ca14 ca15 d1 d2 d3 d4 d5 d6 d7 d8 d9 d10 d11 d12 d13 d14 d15 d16 d17 da1 da2 da3 da4 da5 da6 da7 da8 da9 da10 da11 da12 da13 da14 da15 := by
  unfold wL_lawOf_359
  refine br_t rfl (pv_height okc (pk_eq tn 2 (fun e => ?_) (fun e => ?_)))
  · have R := pv_l380 (post := post) (mc := mc) (ms := ms) (kc := kc) (ks := ks) (z := nI (pv_dh tn w h)) (d1 := d1) (d2 := d2) (d3 := d3) (d4 := d4) (d5 := d5) (d6 := d6) (d7 := d7) (d8 := d8) (d9 := d9) (d10 := d10) (d11 := d11) (d12 := d12) (d13 := d13) (d14 := d14) (d15 := d15) (d16 := d16) (d17 := d17) (da1 := da1) (da2 := da2) (da3 := da3) (da4 := da4) (da5 := da5) (da6 := da6) (da7 := da7) (da8 := da8) (da9 := da9) (da10 := da10) (da11 := da11) (da12 := da12) (da13 := da13) (da14 := da14) (da15 := da15) hk htn w1 w2 h1 h2 okc H
    rw [show nI (pv_dh tn w h) = nI w by unfold pv_dh; rw [if_pos e]] at R ⊢
    exact R
  · have R := pv_l380 (post := post) (mc := mc) (ms := ms) (kc := kc) (ks := ks) (z := nI (pv_dh tn w h)) (d1 := d1) (d2 := d2) (d3 := d3) (d4 := d4) (d5 := d5) (d6 := d6) (d7 := d7) (d8 := d8) (d9 := d9) (d10 := d10) (d11 := d11) (d12 := d12) (d13 := d13) (d14 := d14) (d15 := d15) (d16 := d16) (d17 := d17) (da1 := da1) (da2 := da2) (da3 := da3) (da4 := da4) (da5 := da5) (da6 := da6) (da7 := da7) (da8 := da8) (da9 := da9) (da10 := da10) (da11 := da11) (da12 := da12) (da13 := da13) (da14 := da14) (da15 := da15) hk htn w1 w2 h1 h2 okc H
    rw [show nI (pv_dh tn w h) = nI h by unfold pv_dh; rw [if_neg e]] at R ⊢
    exact R
theorem pv_due {k : Nat} {seed step : Int32} {w : Nat} {A : Nat → Int32} {i : Nat} : pv_pt k seed step w A i = pv_val k seed step (pv_lc seed (i + 1)) (i % w) (i / w) ^^^ (if k = 3 then A i else 0) := rfl
theorem pv_l145 {post : Int32 → St0 → Prop} {mc ms kc ks w h k tn : Nat} {c1 c2 c3 c4 c5 c6 c7 c8 c9 c13 c14 c15 c16 c17 : Int32} {c10 c11 c12 : Int64} {ca1 ca2 ca3 ca4 ca5 ca6 ca7 ca8 ca9 ca10 ca11 ca12 ca13 ca14 ca15 : Nat → Int32} {d1 d2 d3 d4 d5 d6 d7 d8 d9 d13 d14 d15 d16 d17 : Int32} {d10 d11 d12 : Int64} {da1 da2 da3 da4 da5 da6 da7 da8 da9 da10 da11 da12 da13 da14 da15 : Nat → Int32} {y0 seed step : Int32} (hk : k ≤ 3) (htn : tn ≤ 2)
    (okc : pv_ok (c1, c2, c3, c4, c5, c6, c7, c8, c9, c10, c11, c12, c13, c14, c15, c16, c17, ca1, ca2, ca3, ca4, ca5, ca6, ca7, ca8, ca9, ca10, ca11, ca12, ca13, ca14, ca15) w h (pv_pt k seed step w (pv_pt 2 y0 step w (fun _ => 0)))) (okd : pv_ok (d1, d2, d3, d4, d5, d6, d7, d8, d9, d10, d11, d12, d13, d14, d15, d16, d17, da1, da2, da3, da4, da5, da6, da7, da8, da9, da10, da11, da12, da13, da14, da15) w h (pv_pt 2 y0 step w (fun _ => 0))) (H : post 1 ()) :
    ∃ n, wL_lawOf_145 post mc ms y0 seed step (nI w) (nI h) (nI k) (nI tn) kc ks c1 c2 c3 c4 c5 c6 c7 c8 c9 c10 c11 c12 c13 c14 c15 c16 c17 ca1 ca2 ca3 ca4 ca5 ca6 ca7 ca8 ca9 ca10 ca11 ca12 ca13 ca14 ca15 d1 d2 d3 d4 d5 d6 d7 d8 d9 d10 d11 d12 d13 d14 d15 d16 d17 da1 da2 da3 da4 da5 da6 da7 da8 da9 da10 da11 da12 da13 da14 da15 n seed 0 0 := by
  obtain ⟨w1, w2, h1, h2, hN, _⟩ := pv_sz okd
  refine pk_loop (fun n i (s : Int32 × Int32) => wL_lawOf_145 post mc ms y0 seed step (nI w) (nI h) (nI k) (nI tn) kc ks c1 c2 c3 c4 c5 c6 c7 c8 c9 c10 c11 c12 c13 c14 c15 c16 c17 ca1 ca2 ca3 ca4 ca5 ca6 ca7 ca8 ca9 ca10 ca11 ca12 ca13 ca14 ca15 d1 d2 d3 d4 d5 d6 d7 d8 d9 d10 d11 d12 d13 d14 d15 d16 d17 da1 da2 da3 da4 da5 da6 da7 da8 da9 da10 da11 da12 da13 da14 da15 n s.1 s.2 (nI i)) (fun i s => s.1 = pv_lc seed i ∧ s.2 = pv_dg (pv_pt k seed step w (pv_pt 2 y0 step w (fun _ => 0))) i) (w * h) 0 (seed, 0) (by omega) ⟨rfl, rfl⟩ ?_ ?_
  · intro n s hs
    obtain ⟨s1, s2⟩ := s
    have e2 : s2 = pv_dg (pv_pt k seed step w (pv_pt 2 y0 step w (fun _ => 0))) (w * h) := hs.2
    subst e2
    refine pk_le (w * h) (w * h) (fun _ => ?_) (fun z => absurd z (by omega)) (pk_mul w h)
    refine pv_digest okc (br_t rfl (pv_turn htn okc (fun e oke => ?_)))
    obtain ⟨e1, e2, e3, e4, e5, e6, e7, e8, e9, e10, e11, e12, e13, e14, e15, e16, e17, ea1, ea2, ea3, ea4, ea5, ea6, ea7, ea8, ea9, ea10, ea11, ea12, ea13, ea14, ea15⟩ := e
    refine br_t (pk_mul w h).symm (pv_width oke (pk_eq tn 2 (fun z => ?_) (fun z => ?_)))
    · have R := pv_l359 (post := post) (mc := mc) (ms := ms) (kc := kc) (ks := ks) (z := nI (pv_dw tn w h)) (d1 := d1) (d2 := d2) (d3 := d3) (d4 := d4) (d5 := d5) (d6 := d6) (d7 := d7) (d8 := d8) (d9 := d9) (d10 := d10) (d11 := d11) (d12 := d12) (d13 := d13) (d14 := d14) (d15 := d15) (d16 := d16) (d17 := d17) (da1 := da1) (da2 := da2) (da3 := da3) (da4 := da4) (da5 := da5) (da6 := da6) (da7 := da7) (da8 := da8) (da9 := da9) (da10 := da10) (da11 := da11) (da12 := da12) (da13 := da13) (da14 := da14) (da15 := da15) hk htn w1 w2 h1 h2 oke H
      rw [show nI (pv_dw tn w h) = nI h by unfold pv_dw; rw [if_pos z]] at R ⊢
      exact R
    · have R := pv_l359 (post := post) (mc := mc) (ms := ms) (kc := kc) (ks := ks) (z := nI (pv_dw tn w h)) (d1 := d1) (d2 := d2) (d3 := d3) (d4 := d4) (d5 := d5) (d6 := d6) (d7 := d7) (d8 := d8) (d9 := d9) (d10 := d10) (d11 := d11) (d12 := d12) (d13 := d13) (d14 := d14) (d15 := d15) (d16 := d16) (d17 := d17) (da1 := da1) (da2 := da2) (da3 := da3) (da4 := da4) (da5 := da5) (da6 := da6) (da7 := da7) (da8 := da8) (da9 := da9) (da10 := da10) (da11 := da11) (da12 := da12) (da13 := da13) (da14 := da14) (da15 := da15) hk htn w1 w2 h1 h2 oke H
      rw [show nI (pv_dw tn w h) = nI w by unfold pv_dw; rw [if_neg z]] at R ⊢
      exact R
  · intro n i s hi hs hw
    obtain ⟨s1, s2⟩ := s
    have e1 : s1 = pv_lc seed i := hs.1
    have e2 : s2 = pv_dg (pv_pt k seed step w (pv_pt 2 y0 step w (fun _ => 0))) i := hs.2
    subst e1 e2
    obtain ⟨x, y, hx, hy, ei, ex, ey⟩ := pv_cut w1 hi
    have next := hw (pv_lc seed (i + 1), pv_dg (pv_pt k seed step w (pv_pt 2 y0 step w (fun _ => 0))) (i + 1)) ⟨rfl, rfl⟩
    have due : pv_pt k seed step w (pv_pt 2 y0 step w (fun _ => 0)) i = _ := pv_due
    rw [ex, ey] at due
    unfold pv_val at due
    refine pk_le (w * h) i (fun z => absurd z (by omega)) (fun _ => ⟨nI_ne0 w1 (by omega), nm_r (pk_rem (by omega) w1 (by omega)) ⟨nI_ne0 w1 (by omega), nm_r (pk_div (by omega) w1 (by omega)) (nm_r (show pv_lc seed i * 1103515245 + 12345 = pv_lc seed (i + 1) from rfl) ?_)⟩⟩) (pk_mul w h)
    rw [ex, ey]
    refine pv_mixedL (nm_e (pk_eq k 0 (fun e => ?_) (fun e => pk_eq k 1 (fun e' => ?_) (fun e' => pk_eq k 2 (fun e'' => ?_) (fun e'' => ?_)))))
    · rw [if_neg (by omega), if_neg (by omega), if_neg (by omega), pv_xor0] at due
      exact pv_l280 okc hx hy ei due next
    · rw [if_pos e', if_neg (by omega), pv_xor0] at due
      exact pv_mixedL (pv_l280 okc hx hy ei due next)
    · rw [if_neg e', if_pos e'', if_neg (by omega), pv_xor0] at due
      exact pv_mixedL (pv_l280 okc hx hy ei due next)
    · rw [if_neg e', if_neg e'', if_pos (by omega)] at due
      refine pv_get okd hx hy (pv_l280 okc hx hy ei ?_ next)
      rw [due, ei]
end
section
/-! ===== the law ===== -/
theorem pv_init {post : St2 → Prop} {u : St1} (H : ∀ u', post u') : wpX_init post 15 5171 u := by
  obtain ⟨u1, u2, u3, u4, u5, u6, u7, u8, u9, u10, u11, u12, u13, u14, u15, u16, u17⟩ := u
  unfold wpX_init
  exact ⟨by omega, by omega, by omega, by omega, by omega, by omega, by omega, by omega, by omega, by omega, by omega, by omega, by omega, by omega, by omega, by omega, by omega, by omega, by omega, by omega, by omega, by omega, by omega, by omega, by omega, by omega, by omega, by omega, by omega, by omega, H _⟩
theorem pv_rest (x : Int32) (m : Nat) (hm : 0 < m) (hm' : m < 2 ^ 31) : ∃ t : Nat, t < m ∧ (x &&& 255) - (x &&& 255) / nI m * nI m = nI t := by
  obtain ⟨j, hj, e⟩ := pk_andE x (m := 255) 8 (by decide)
  refine ⟨j % m, Nat.mod_lt _ hm, ?_⟩
  rw [e]
  exact pk_rem (by omega) hm hm'
theorem pv_dim (x : Int32) : ∃ w : Nat, 1 ≤ w ∧ w ≤ 12 ∧ 1 + ((x &&& 255) - (x &&& 255) / 12 * 12) = nI w := by
  obtain ⟨t, ht, e⟩ := pv_rest x 12 (by omega) (by omega)
  refine ⟨1 + t, by omega, by omega, ?_⟩
  have e' : (x &&& 255) - (x &&& 255) / 12 * 12 = nI t := e
  rw [e']
  exact nI_add 1 t
theorem pv_lawOf {post : Int32 → St0 → Prop} {p0 p1 p2 p3 : Int32} (H : post 1 ()) : wpL_lawOf post 4096 84352 () p0 p1 p2 p3 := by
  obtain ⟨w, w1, w2, ew⟩ := pv_dim p0
  obtain ⟨h, h1, h2, eh⟩ := pv_dim (p0 >>> ((8 : Int32) &&& 31))
  obtain ⟨k, hk, ek⟩ := pk_andE (p0 >>> ((16 : Int32) &&& 31)) (m := 3) 2 (by decide)
  obtain ⟨tn, htn, et⟩ := pv_rest (p0 >>> ((18 : Int32) &&& 31)) 3 (by omega) (by omega)
  unfold wpL_lawOf
  refine ⟨by decide, nm_r ew ⟨by decide, nm_r eh (nm_r ek ⟨by decide, nm_r et ⟨by omega, by omega, 15, 5171, by omega, by omega, pv_init (fun c => ?_)⟩⟩)⟩⟩
  obtain ⟨c1, c2, c3, c4, c5, c6, c7, c8, c9, c10, c11, c12, c13, c14, c15, c16, c17, ca1, ca2, ca3, ca4, ca5, ca6, ca7, ca8, ca9, ca10, ca11, ca12, ca13, ca14, ca15⟩ := c
  refine ⟨by omega, by omega, 15, 5171, by omega, by omega, pv_init (fun d => ?_)⟩
  obtain ⟨d1, d2, d3, d4, d5, d6, d7, d8, d9, d10, d11, d12, d13, d14, d15, d16, d17, da1, da2, da3, da4, da5, da6, da7, da8, da9, da10, da11, da12, da13, da14, da15⟩ := d
  refine pv_blank w1 w2 h1 h2 (fun e oke => ?_)
  obtain ⟨e1, e2, e3, e4, e5, e6, e7, e8, e9, e10, e11, e12, e13, e14, e15, e16, e17, ea1, ea2, ea3, ea4, ea5, ea6, ea7, ea8, ea9, ea10, ea11, ea12, ea13, ea14, ea15⟩ := e
  refine br_t (pk_mul w h).symm (pv_pattern (k := 2) (by omega) oke (fun f okf => ?_))
  obtain ⟨f1, f2, f3, f4, f5, f6, f7, f8, f9, f10, f11, f12, f13, f14, f15, f16, f17, fa1, fa2, fa3, fa4, fa5, fa6, fa7, fa8, fa9, fa10, fa11, fa12, fa13, fa14, fa15⟩ := f
  refine br_t (pk_mul w h).symm (pv_pattern (show k ≤ 3 by omega) okf (fun g okg => ?_))
  obtain ⟨g1, g2, g3, g4, g5, g6, g7, g8, g9, g10, g11, g12, g13, g14, g15, g16, g17, ga1, ga2, ga3, ga4, ga5, ga6, ga7, ga8, ga9, ga10, ga11, ga12, ga13, ga14, ga15⟩ := g
  refine br_t (pk_mul w h).symm (pv_blank w1 w2 h1 h2 (fun p okp => ?_))
  obtain ⟨p1, p2, p3, p4, p5, p6, p7, p8, p9, p10, p11, p12, p13, p14, p15, p16, p17, pa1, pa2, pa3, pa4, pa5, pa6, pa7, pa8, pa9, pa10, pa11, pa12, pa13, pa14, pa15⟩ := p
  refine pv_pattern (k := 2) (by omega) okp (fun q okq => ?_)
  obtain ⟨q1, q2, q3, q4, q5, q6, q7, q8, q9, q10, q11, q12, q13, q14, q15, q16, q17, qa1, qa2, qa3, qa4, qa5, qa6, qa7, qa8, qa9, qa10, qa11, qa12, qa13, qa14, qa15⟩ := q
  exact pv_l145 (show k ≤ 3 by omega) (show tn ≤ 2 by omega) okg okq H
theorem pv_cell {post : Int32 → Prop} {L : Nat} {xs : Nat → Int32} (k : Nat) (hL : L ≤ 4) (hk : k < 4) (H : ∀ r, post r) : wpL_cellAt post L xs () (nI k) := by
  unfold wpL_cellAt
  exact pk_le L k (fun _ => H _) (fun z => ⟨pk_in k L z, H _⟩)
theorem i_vc (xs : Nat → Int32) (L : Nat) (hL : L ≤ 4) : wpL_law (fun r => r = 1) L xs := by
  unfold wpL_law
  exact pv_cell 0 hL (by omega) (fun r1 => pv_cell 1 hL (by omega) (fun r2 => pv_cell 2 hL (by omega) (fun r3 => pv_cell 3 hL (by omega) (fun r4 => ⟨4096, 84352, by omega, by omega, pv_lawOf rfl⟩))))
end
