section
/-! bits of an int (out of the kit's rows to paste) -/
def zc_bt (x : Int32) (i : Nat) : Bool := x.toBitVec.getLsbD i
theorem zc_b_or (x y : Int32) (i : Nat) : zc_bt (x ||| y) i = (zc_bt x i || zc_bt y i) := by unfold zc_bt; rw [Int32.toBitVec_or, BitVec.getLsbD_or]
theorem zc_b_and (x y : Int32) (i : Nat) : zc_bt (x &&& y) i = (zc_bt x i && zc_bt y i) := by unfold zc_bt; rw [Int32.toBitVec_and, BitVec.getLsbD_and]
theorem zc_b_0 (i : Nat) : zc_bt 0 i = false := BitVec.getLsbD_zero
theorem zc_s_l : ∀ n, n < 32 → ((nI n &&& 31).toBitVec.smod 32).toNat = n := by decide +kernel
theorem zc_b_one : ∀ n, n < 32 → ∀ i, i < 32 → zc_bt ((1 : Int32) <<< (nI n &&& 31)) i = decide (i = n) := by decide +kernel
theorem zc_b_sshr (n : Nat) (hn : n < 32) (x : Int32) {i : Nat} (hi : i < 32) : zc_bt (x >>> (nI n &&& 31)) i = if n + i < 32 then zc_bt x (n + i) else zc_bt x 31 := by
  unfold zc_bt
  rw [Int32.toBitVec_shiftRight]
  show (x.toBitVec.sshiftRight ((nI n &&& 31).toBitVec.smod 32).toNat).getLsbD i = _
  rw [zc_s_l n hn, BitVec.getLsbD_sshiftRight, BitVec.msb_eq_getLsbD_last]
  simp [hi]
theorem zc_and1 (y : Int32) : y &&& 1 = if zc_bt y 0 then 1 else 0 := by
  apply Int32.toBitVec_inj.mp
  rw [Int32.toBitVec_and]
  show (y.toBitVec &&& 1#32) = _
  rw [BitVec.and_one_eq_setWidth_ofBool_getLsbD]
  show _ = (if y.toBitVec.getLsbD 0 then (1 : Int32) else 0).toBitVec
  cases y.toBitVec.getLsbD 0 <;> decide
/-- bit n of x, as the code reads it -/
theorem zc_bit (n : Nat) (hn : n < 32) (x : Int32) : (x >>> (nI n &&& 31)) &&& 1 = if zc_bt x n then 1 else 0 := by
  have e : zc_bt (x >>> (nI n &&& 31)) 0 = zc_bt x n := by rw [zc_b_sshr n hn x (by omega), Nat.add_zero, if_pos hn]
  rw [zc_and1, e]
theorem zc_orN (a b : Nat) : nI a ||| nI b = nI (a ||| b) := by
  apply Int32.toBitVec_inj.1
  show BitVec.ofNat 32 a ||| BitVec.ofNat 32 b = BitVec.ofNat 32 (a ||| b)
  apply BitVec.eq_of_getLsbD_eq
  intro i hi
  simp [hi]
/-! small rows -/
theorem zc_m2 (a : Nat) : (2 : Int32) * nI a = nI (2 * a) := pk_mul 2 a
theorem zc_m3 (a : Nat) : (3 : Int32) * nI a = nI (3 * a) := pk_mul 3 a
theorem zc_m16 (a : Nat) : (16 : Int32) * nI a = nI (16 * a) := pk_mul 16 a
theorem zc_m24 (a : Nat) : (24 : Int32) * nI a = nI (24 * a) := pk_mul 24 a
theorem zc_3c (a b : Nat) : (3 : Int32) * nI a + nI b = nI (3 * a + b) := by rw [zc_m3, nI_add]
theorem zc_16c (a b : Nat) : (16 : Int32) * nI a + nI b = nI (16 * a + b) := by rw [zc_m16, nI_add]
theorem zc_24c (a b : Nat) : (24 : Int32) * nI a + nI b = nI (24 * a + b) := by rw [zc_m24, nI_add]
theorem zc_d3 {a : Nat} (h : a < 2 ^ 31) : nI a / (3 : Int32) = nI (a / 3) := pk_div h (d := 3) (by omega) (by omega)
theorem zc_d16 {a : Nat} (h : a < 2 ^ 31) : nI a / (16 : Int32) = nI (a / 16) := pk_div h (d := 16) (by omega) (by omega)
theorem zc_r3 {a : Nat} (h : a < 2 ^ 31) : nI a - nI a / (3 : Int32) * 3 = nI (a % 3) := pk_rem h (d := 3) (by omega) (by omega)
theorem zc_r16 {a : Nat} (h : a < 2 ^ 31) : nI a - nI a / (16 : Int32) * 16 = nI (a % 16) := pk_rem h (d := 16) (by omega) (by omega)
theorem zc_s1 {a : Nat} (h : 1 ≤ a) : nI a - (1 : Int32) = nI (a - 1) := pk_sub (b := 1) h
theorem zc_sh5 {f q : Nat} (h : q < 2 ^ 31) : nI f + (nI q >>> ((5 : Int32) &&& 31)) = nI (f + q / 32) := by
  rw [pk_shrN h _ 5 (by decide), nI_add]
theorem zc_n16 : ¬ (16 : Int32) = 0 := by decide
theorem zc_n3 : ¬ (3 : Int32) = 0 := by decide
theorem zc_n2 : ¬ (2 : Int32) = 0 := by decide
theorem zc_ne {a b : Nat} (ha : a < 2 ^ 31) (hb : b < 2 ^ 31) (h : a ≠ b) : ¬ nI a = nI b := fun z => h ((nI_eq ha hb).mp z)
/-- a branch whose two ends are the two ends of an 'if' -/
theorem zc_br {c : Prop} {A B : Prop} (a : c → A) (b : ¬ c → B) : (c → A) ∧ (¬ c → B) := ⟨a, b⟩
theorem zc_upd_s {f : Nat → Int32} {k j : Nat} {x : Int32} (h : j = k) : upd f k x j = x := by rw [h]; exact pk_us
/-! a column of the law: p has it at c, q at 2 - c -/
def zc_sg (m : Bool) (c : Nat) : Nat := if m then 2 - c else c
theorem zc_sg_lt (m : Bool) {c : Nat} (h : c < 3) : zc_sg m c < 3 := by unfold zc_sg; split <;> omega
theorem zc_sg_sg (m : Bool) {c : Nat} (h : c < 3) : zc_sg m (zc_sg m c) = c := by unfold zc_sg; split <;> omega
theorem zc_sg_inj (m : Bool) {c d : Nat} (hc : c < 3) (hd : d < 3) : zc_sg m c = zc_sg m d ↔ c = d := by unfold zc_sg; split <;> omega
/-! digits -/
def zc_gd (W : Nat → Int32) (p : Nat) : Nat → Int32
  | 0 => 0
  | i + 1 => zc_gd W p i ||| (((W ((p + i) / 32) >>> ((nI (p + i) &&& 31) &&& 31)) &&& 1) <<< (nI i &&& 31))
theorem zc_gd_lt (W : Nat → Int32) (p : Nat) : ∀ w, w ≤ 31 → ∃ k, k < 2 ^ w ∧ zc_gd W p w = nI k := by
  intro w
  induction w with
  | zero => exact fun _ => ⟨0, by decide, rfl⟩
  | succ w ih =>
    intro hw
    obtain ⟨k, hk, e⟩ := ih (by omega)
    obtain ⟨j, hj, e2⟩ := pk_andE (W ((p + w) / 32) >>> ((nI (p + w) &&& 31) &&& 31)) (m := 1) 1 (by decide)
    have hp : 2 ^ w ≤ 2 ^ 30 := Nat.pow_le_pow_right (by decide) (by omega)
    have hj2 : j * 2 ^ w ≤ 1 * 2 ^ w := Nat.mul_le_mul_right _ (by omega)
    refine ⟨k ||| j * 2 ^ w, ?_, ?_⟩
    · have e3 : 2 ^ (w + 1) = 2 * 2 ^ w := by rw [Nat.pow_succ, Nat.mul_comm]
      exact Nat.or_lt_two_pow (by omega) (by omega)
    · show zc_gd W p w ||| _ = _
      rw [e, e2, pk_shlN _ w (zc_s_l w (by omega)) (by omega), zc_orN]
theorem zc_getDigits {post : Int32 → Prop} {rc pc ds cd ga : Int32} {ls : Int64} {a1 a2 a3 a4 a5 a6 a7 a8 a9 a10 a11 a12 a13 a14 a15 a16 a17 a18 a19 a20 a21 a22 : Nat → Int32} {x1 x2 x3 : Int32} (f p w : Nat) (W : Nat → Int32) (h1 : x1 = nI f) (h2 : x2 = nI p) (h3 : x3 = nI w) (hw : w ≤ 64) (hp : p ≤ 2048) (hf : f ≤ 432)
    (hb : ∀ i, i < w → f + (p + i) / 32 < 432 ∧ a10 (f + (p + i) / 32) = W ((p + i) / 32)) (H : post (zc_gd W p w)) : wpX_getDigits post (rc, pc, ds, cd, ga, ls, a1, a2, a3, a4, a5, a6, a7, a8, a9, a10, a11, a12, a13, a14, a15, a16, a17, a18, a19, a20, a21, a22) x1 x2 x3 := by
  subst h1 h2 h3
  refine pk_loop (fun n i s => wX_getDigits_6 post (nI f) (nI p) (nI w) rc pc ds cd ga ls a1 a2 a3 a4 a5 a6 a7 a8 a9 a10 a11 a12 a13 a14 a15 a16 a17 a18 a19 a20 a21 a22 n s (nI i)) (fun i s => s = zc_gd W p i) w 0 0 (by omega) rfl ?_ ?_
  · intro n s h
    exact pk_le w w (fun _ => h ▸ H) (fun z => absurd z (by omega))
  · intro n i s hi h hn
    obtain ⟨b1, b2⟩ := hb i hi
    refine pk_le w i (fun z => absurd z (by omega)) (fun _ => nm_r (e' := nI (f + (p + i) / 32)) (by rw [nI_add, zc_sh5 (by omega)]) ⟨pk_in _ _ b1, nm_r (e' := zc_gd W p (i + 1)) ?_ (nm_r (nI_1 i) (hn _ rfl))⟩)
    rw [nI_clamp (by omega), nI_add, h]
    show zc_gd W p i ||| (((a10 (f + (p + i) / 32) >>> _) &&& 1) <<< _) = _
    rw [show a10 (f + (p + i) / 32) = W ((p + i) / 32) from b2]
    rfl
/-! the place of x in a rising list -/
def zc_pl (W : Nat → Int32) (x : Int32) : Nat → Nat → Nat
  | 0, k => k
  | r + 1, k => if x ≤ W k then k else zc_pl W x r (k + 1)
theorem zc_pl_le (W : Nat → Int32) (x : Int32) : ∀ r k, zc_pl W x r k ≤ k + r := by
  intro r
  induction r with
  | zero => exact fun k => Nat.le_refl _
  | succ r ih =>
    intro k
    show (if x ≤ W k then k else zc_pl W x r (k + 1)) ≤ _
    split
    · omega
    · have := ih (k + 1)
      omega
theorem zc_pl_congr (W W' : Nat → Int32) (x : Int32) : ∀ r k, (∀ j, k ≤ j → j < k + r → W j = W' j) → zc_pl W x r k = zc_pl W' x r k := by
  intro r
  induction r with
  | zero => exact fun k _ => rfl
  | succ r ih =>
    intro k h
    show (if x ≤ W k then k else zc_pl W x r (k + 1)) = (if x ≤ W' k then k else zc_pl W' x r (k + 1))
    rw [h k (Nat.le_refl _) (by omega), ih (k + 1) (fun j h1 h2 => h j (by omega) (by omega))]
theorem zc_placeInList {post : Int32 → Prop} {rc pc ds cd ga : Int32} {ls : Int64} {a1 a2 a3 a4 a5 a6 a7 a8 a9 a10 a11 a12 a13 a14 a15 a16 a17 a18 a19 a20 a21 a22 : Nat → Int32} {x1 x2 x : Int32} (f s : Nat) (W : Nat → Int32) (h1 : x1 = nI f) (h2 : x2 = nI s) (hf : f + s ≤ 432)
    (hb : ∀ i, i < s → a10 (f + i) = W i) (H : post (nI (zc_pl W x s 0))) : wpX_placeInList post (rc, pc, ds, cd, ga, ls, a1, a2, a3, a4, a5, a6, a7, a8, a9, a10, a11, a12, a13, a14, a15, a16, a17, a18, a19, a20, a21, a22) x1 x2 x := by
  subst h1 h2
  refine pk_loop (σ := Unit) (fun n i _ => wX_placeInList_6 post (nI f) (nI s) x rc pc ds cd ga ls a1 a2 a3 a4 a5 a6 a7 a8 a9 a10 a11 a12 a13 a14 a15 a16 a17 a18 a19 a20 a21 a22 n (nI i) (nI i)) (fun i _ => zc_pl W x (s - i) i = zc_pl W x s 0) s 0 () (by omega) rfl ?_ ?_
  · intro n _ h
    refine pk_le s s (fun _ => ?_) (fun z => absurd z (by omega))
    rw [Nat.sub_self] at h
    have h' : s = zc_pl W x s 0 := h
    rw [h']
    exact H
  · intro n i _ hi h hn
    rw [show s - i = (s - (i + 1)) + 1 by omega] at h
    have h' : (if x ≤ W i then i else zc_pl W x (s - (i + 1)) (i + 1)) = zc_pl W x s 0 := h
    refine pk_le s i (fun z => absurd z (by omega)) (fun _ => ⟨pk_in (f + i) 432 (by omega) (nI_add f i), ?_⟩)
    rw [nI_add, nI_clamp (by omega), show a10 (f + i) = W i from hb i hi]
    refine ⟨fun g => ?_, fun g => nm_r (nI_1 i) (nm_r (nI_1 i) (hn () ?_))⟩
    · rw [if_pos g] at h'
      rw [h']
      exact H
    · rw [if_neg g] at h'
      exact h'
/-! within bounds -/
abbrev zc_iw (x lo hi : Int32) : Prop := ¬ x < lo ∧ ¬ hi < x
theorem zc_isWithin {A B : Prop} {rc pc ds cd ga : Int32} {ls : Int64} {a1 a2 a3 a4 a5 a6 a7 a8 a9 a10 a11 a12 a13 a14 a15 a16 a17 a18 a19 a20 a21 a22 : Nat → Int32} {x lo hi : Int32} (f : ¬ zc_iw x lo hi → A) (g : zc_iw x lo hi → B) : wpX_isWithin (fun r => (r = 0 → A) ∧ (¬ r = 0 → B)) (rc, pc, ds, cd, ga, ls, a1, a2, a3, a4, a5, a6, a7, a8, a9, a10, a11, a12, a13, a14, a15, a16, a17, a18, a19, a20, a21, a22) x lo hi := by
  refine ⟨fun h => ⟨fun _ => f (fun z => z.1 h), fun z => absurd rfl z⟩, fun h => ⟨fun h2 => ⟨fun _ => f (fun z => z.2 h2), fun z => absurd rfl z⟩, fun h2 => ⟨fun z => absurd z (by decide), fun _ => g ⟨h, h2⟩⟩⟩⟩
theorem zc_blockCount {post : Int32 → Prop} {rc pc ds cd ga : Int32} {ls : Int64} {a1 a2 a3 a4 a5 a6 a7 a8 a9 a10 a11 a12 a13 a14 a15 a16 a17 a18 a19 a20 a21 a22 : Nat → Int32} {n : Nat} (h : rc = nI n) (hn : n < 2 ^ 31) (H : post (nI (n / 16))) : wpX_blockCount post (rc, pc, ds, cd, ga, ls, a1, a2, a3, a4, a5, a6, a7, a8, a9, a10, a11, a12, a13, a14, a15, a16, a17, a18, a19, a20, a21, a22) := by
  refine ⟨zc_n16, ?_⟩
  rw [show rc = nI n from h, zc_d16 hn]
  exact H
theorem zc_badColumn {A B : Prop} {rc pc ds cd ga : Int32} {ls : Int64} {a1 a2 a3 a4 a5 a6 a7 a8 a9 a10 a11 a12 a13 a14 a15 a16 a17 a18 a19 a20 a21 a22 : Nat → Int32} {x : Int32} (f : (∃ c, c < 3 ∧ x = nI c) → A) (g : (x < 0 ∨ ¬ x < 3) → B) : wpX_badColumn (fun r => (r = 0 → A) ∧ (¬ r = 0 → B)) (rc, pc, ds, cd, ga, ls, a1, a2, a3, a4, a5, a6, a7, a8, a9, a10, a11, a12, a13, a14, a15, a16, a17, a18, a19, a20, a21, a22) x := by
  refine ⟨fun h => ⟨fun z => absurd z (by decide), fun _ => g (Or.inl h)⟩, fun h => ⟨fun h2 => ⟨fun _ => f ?_, fun z => absurd rfl z⟩, fun h2 => ⟨fun z => absurd z (by decide), fun _ => g (Or.inr h2)⟩⟩⟩
  rcases pk_ix x (n := 3) (by omega) with z | z | z
  · exact absurd z h
  · exact absurd h2 (k2_nlt z)
  · exact z
/-- a column that is in bounds: the good road alone -/
theorem zc_goodColumn {A B : Prop} {rc pc ds cd ga : Int32} {ls : Int64} {a1 a2 a3 a4 a5 a6 a7 a8 a9 a10 a11 a12 a13 a14 a15 a16 a17 a18 a19 a20 a21 a22 : Nat → Int32} {c : Nat} (hc : c < 3) (f : A) : wpX_badColumn (fun r => (r = 0 → A) ∧ (¬ r = 0 → B)) (rc, pc, ds, cd, ga, ls, a1, a2, a3, a4, a5, a6, a7, a8, a9, a10, a11, a12, a13, a14, a15, a16, a17, a18, a19, a20, a21, a22) (nI c) :=
  zc_badColumn (fun _ => f) (fun z => absurd z (fun h => h.elim (nI_pos (by omega)) (fun h => h (nI_lt (b := 3) hc (by omega)))))
end
section
/-! a packed column: form, first value, width, least step, many, lowest, highest, taken, words, lengths -/
abbrev zc_Col : Type := Nat × Int32 × Nat × Int32 × Nat × Int32 × Int32 × Int32 × (Nat → Int32) × (Nat → Nat)
abbrev zc_fi (D : zc_Col) : Int32 := D.2.1
abbrev zc_wi (D : zc_Col) : Nat := D.2.2.1
abbrev zc_lst (D : zc_Col) : Int32 := D.2.2.2.1
abbrev zc_ma (D : zc_Col) : Nat := D.2.2.2.2.1
abbrev zc_low (D : zc_Col) : Int32 := D.2.2.2.2.2.1
abbrev zc_hig (D : zc_Col) : Int32 := D.2.2.2.2.2.2.1
abbrev zc_tak (D : zc_Col) : Int32 := D.2.2.2.2.2.2.2.1
abbrev zc_wo (D : zc_Col) : Nat → Int32 := D.2.2.2.2.2.2.2.2.1
abbrev zc_le (D : zc_Col) : Nat → Nat := D.2.2.2.2.2.2.2.2.2
/-- column q of the state is D -/
def zc_CM (a2 a3 a4 a5 a6 a7 a8 a9 a10 a11 : Nat → Int32) (q : Nat) (D : zc_Col) : Prop := a2 q = nI D.1 ∧ a3 q = zc_fi D ∧ a4 q = nI (zc_wi D) ∧ a5 q = zc_lst D ∧ a6 q = nI (zc_ma D) ∧ a7 q = zc_low D ∧ a8 q = zc_hig D ∧ a9 q = zc_tak D ∧ (∀ j, j < 24 → a10 (24 * q + j) = zc_wo D j) ∧ (∀ j, j < 16 → a11 (16 * q + j) = nI (zc_le D j))
def zc_su (l : Nat → Nat) : Nat → Nat
  | 0 => 0
  | k + 1 => zc_su l k + l k
/-- what reading a packed column needs -/
def zc_Gd (D : zc_Col) : Prop := D.1 ≤ 5 ∧ (D.1 = 2 → zc_ma D ≤ 16 ∧ zc_su (zc_le D) (zc_ma D) = 16) ∧ (D.1 = 3 → zc_ma D ≤ 8 ∧ zc_wi D ≤ 3) ∧ (D.1 = 4 → zc_wi D ≤ 31) ∧ (D.1 = 5 → zc_wi D ≤ 31)
theorem zc_su_mono (l : Nat → Nat) {a b : Nat} (h : a ≤ b) : zc_su l a ≤ zc_su l b := by
  induction b with
  | zero => rw [Nat.le_zero.mp h]; exact Nat.le_refl _
  | succ b ih =>
    rcases Nat.lt_or_ge a (b + 1) with z | z
    · exact Nat.le_trans (ih (by omega)) (Nat.le_add_right _ _)
    · rw [Nat.le_antisymm h z]; exact Nat.le_refl _
/-! one value -/
def zc_lk (D : zc_Col) (i : Nat) : Nat := (zc_gd (fun j => zc_wo D (8 + j)) (i * zc_wi D) (zc_wi D)).toNatClampNeg
theorem zc_lk_is (D : zc_Col) (i : Nat) (hw : zc_wi D ≤ 3) : zc_lk D i < 8 ∧ zc_gd (fun j => zc_wo D (8 + j)) (i * zc_wi D) (zc_wi D) = nI (zc_lk D i) := by
  obtain ⟨k, hk, e⟩ := zc_gd_lt (fun j => zc_wo D (8 + j)) (i * zc_wi D) (zc_wi D) (by omega)
  have h8 : 2 ^ (zc_wi D) ≤ 2 ^ 3 := Nat.pow_le_pow_right (by decide) hw
  have e2 : zc_lk D i = k := by
    unfold zc_lk
    rw [e]
    exact nI_clamp (by omega)
  rw [e2]
  exact ⟨by omega, e⟩
theorem zc_iw_le {i w a b : Nat} (hi : i ≤ a) (hw : w ≤ b) : i * w ≤ a * b := Nat.mul_le_mul hi hw
/-- the digits of place i of a column's list -/
theorem zc_getList {post : Int32 → Prop} {rc pc ds cd ga : Int32} {ls : Int64} {a1 a2 a3 a4 a5 a6 a7 a8 a9 a10 a11 a12 a13 a14 a15 a16 a17 a18 a19 a20 a21 a22 : Nat → Int32} {q i : Nat} {D : zc_Col} (hq : q < 18) (hi : i < 16) (h : zc_CM a2 a3 a4 a5 a6 a7 a8 a9 a10 a11 q D) (hw : zc_wi D ≤ 3) (H : zc_lk D i < 8 → post (nI (zc_lk D i))) :
    wpX_getDigits post (rc, pc, ds, cd, ga, ls, a1, a2, a3, a4, a5, a6, a7, a8, a9, a10, a11, a12, a13, a14, a15, a16, a17, a18, a19, a20, a21, a22) ((24 * nI q) + 8) (nI i * nI (zc_wi D)) (nI (zc_wi D)) := by
  obtain ⟨c2, c3, c4, c5, c6, c7, c8, c9, c10, c11⟩ := h
  have hm := zc_iw_le (show i ≤ 15 by omega) hw
  obtain ⟨k1, k2⟩ := zc_lk_is D i hw
  refine zc_getDigits (24 * q + 8) (i * zc_wi D) (zc_wi D) (fun j => zc_wo D (8 + j)) (zc_24c q 8) (pk_mul _ _) rfl (by omega) (by omega) (by omega) (fun t ht => ⟨by omega, ?_⟩) ?_
  · rw [Nat.add_assoc]
    exact c10 _ (by omega)
  · rw [k2]
    exact H k1
theorem zc_getFrame {post : Int32 → Prop} {rc pc ds cd ga : Int32} {ls : Int64} {a1 a2 a3 a4 a5 a6 a7 a8 a9 a10 a11 a12 a13 a14 a15 a16 a17 a18 a19 a20 a21 a22 : Nat → Int32} {q i : Nat} {D : zc_Col} (hq : q < 18) (hi : i < 16) (h : zc_CM a2 a3 a4 a5 a6 a7 a8 a9 a10 a11 q D) (hw : zc_wi D ≤ 31) (H : post (zc_gd (zc_wo D) (i * zc_wi D) (zc_wi D))) :
    wpX_getDigits post (rc, pc, ds, cd, ga, ls, a1, a2, a3, a4, a5, a6, a7, a8, a9, a10, a11, a12, a13, a14, a15, a16, a17, a18, a19, a20, a21, a22) (24 * nI q) (nI i * nI (zc_wi D)) (nI (zc_wi D)) := by
  obtain ⟨c2, c3, c4, c5, c6, c7, c8, c9, c10, c11⟩ := h
  have hm := zc_iw_le (show i ≤ 15 by omega) hw
  exact zc_getDigits (24 * q) (i * zc_wi D) (zc_wi D) (zc_wo D) (zc_m24 q) (pk_mul _ _) rfl (by omega) (by omega) (by omega) (fun t ht => ⟨by omega, c10 _ (by omega)⟩) H
def zc_ua (D : zc_Col) (i : Nat) : Int32 := if D.1 = 1 then zc_fi D else if D.1 = 3 then zc_wo D (zc_lk D i) else if D.1 = 4 then zc_fi D + zc_gd (zc_wo D) (i * zc_wi D) (zc_wi D) else zc_wo D i
theorem zc_unpackedAt {post : Int32 → Prop} {rc pc ds cd ga : Int32} {ls : Int64} {a1 a2 a3 a4 a5 a6 a7 a8 a9 a10 a11 a12 a13 a14 a15 a16 a17 a18 a19 a20 a21 a22 : Nat → Int32} {q i : Nat} {D : zc_Col} (hq : q < 18) (hi : i < 16) (h : zc_CM a2 a3 a4 a5 a6 a7 a8 a9 a10 a11 q D) (g : zc_Gd D) (H : post (zc_ua D i)) : wpX_unpackedAt post (rc, pc, ds, cd, ga, ls, a1, a2, a3, a4, a5, a6, a7, a8, a9, a10, a11, a12, a13, a14, a15, a16, a17, a18, a19, a20, a21, a22) (nI q) (nI i) := by
  have hc := h
  obtain ⟨c2, c3, c4, c5, c6, c7, c8, c9, c10, c11⟩ := h
  have g0 := g.1
  have hv : vp_in (nI q) 18 := pk_in q 18 hq
  unfold zc_ua at H
  unfold wpX_unpackedAt
  dsimp only
  rw [nI_clamp (show q < 2 ^ 31 by omega), show a2 q = nI D.1 from c2, show a3 q = zc_fi D from c3, show a4 q = nI (zc_wi D) from c4]
  refine ⟨hv, nm_e (pk_eq D.1 1 (fun z => ⟨hv, ?_⟩) (fun z1 => pk_eq D.1 3 (fun z => ⟨hv, hv, ?_⟩) (fun z3 => pk_eq D.1 4 (fun z => ⟨hv, hv, hv, ?_⟩) (fun z4 => ⟨pk_in (24 * q + i) 432 (by omega) (zc_24c q i), ?_⟩))))⟩
  · rw [if_pos z] at H
    exact H
  · rw [if_neg z1, if_pos z] at H
    refine zc_getList hq hi hc (g.2.2.1 z).2 (fun k1 => ⟨pk_in (24 * q + zc_lk D i) 432 (by omega) (zc_24c q _), ?_⟩)
    rw [zc_24c, nI_clamp (by omega), show a10 (24 * q + zc_lk D i) = zc_wo D (zc_lk D i) from c10 _ (by omega)]
    exact H
  · rw [if_neg z1, if_neg z3, if_pos z] at H
    exact zc_getFrame hq hi hc (g.2.2.2.1 z) H
  · rw [if_neg z1, if_neg z3, if_neg z4] at H
    rw [zc_24c, nI_clamp (by omega), show a10 (24 * q + i) = zc_wo D i from c10 _ (by omega)]
    exact H
/-! all values -/
def zc_us (D : zc_Col) : Nat → Int32
  | 0 => zc_fi D
  | i + 1 => (zc_us D i + zc_lst D) + zc_gd (zc_wo D) (i * zc_wi D) (zc_wi D)
def zc_ri (l : Nat → Nat) : Nat → Nat → Nat
  | 0, _ => 0
  | k + 1, i => if i < zc_su l k then zc_ri l k i else k
theorem zc_ri_at (l : Nat → Nat) {k i : Nat} : ∀ K, k < K → zc_su l k ≤ i → i < zc_su l (k + 1) → zc_ri l K i = k := by
  intro K
  induction K with
  | zero => exact fun h => absurd h (by omega)
  | succ K ih =>
    intro h h1 h2
    show (if i < zc_su l K then zc_ri l K i else K) = k
    rcases Nat.lt_or_ge k K with z | z
    · have := zc_su_mono l (show k + 1 ≤ K from z)
      rw [if_pos (by omega)]
      exact ih z h1 h2
    · have e : K = k := by omega
      subst e
      exact if_neg (by omega)
def zc_ur (D : zc_Col) (i : Nat) : Int32 := zc_wo D (zc_ri (zc_le D) (zc_ma D) i)
def zc_un (D : zc_Col) (i : Nat) : Int32 := if D.1 = 2 then zc_ur D i else if D.1 = 5 then zc_us D i else zc_ua D i
theorem zc_us_s (D : zc_Col) (i : Nat) : zc_us D (i + 1) = (zc_us D i + zc_lst D) + zc_gd (zc_wo D) (i * zc_wi D) (zc_wi D) := rfl
theorem zc_us_0 (D : zc_Col) : zc_us D 0 = zc_fi D := rfl
theorem zc_unpackSteps {post : St1 → Prop} {rc pc ds cd ga : Int32} {ls : Int64} {a1 a2 a3 a4 a5 a6 a7 a8 a9 a10 a11 a12 a13 a14 a15 a16 a17 a18 a19 a20 a21 a22 : Nat → Int32} {q : Nat} {D : zc_Col} (hq : q < 18) (h : zc_CM a2 a3 a4 a5 a6 a7 a8 a9 a10 a11 q D) (hw : zc_wi D ≤ 31) (H : ∀ b, (∀ i, i < 16 → b i = zc_us D i) → post (rc, pc, ds, cd, ga, ls, a1, a2, a3, a4, a5, a6, a7, a8, a9, a10, a11, a12, a13, a14, b, a16, a17, a18, a19, a20, a21, a22)) : wpX_unpackSteps post (rc, pc, ds, cd, ga, ls, a1, a2, a3, a4, a5, a6, a7, a8, a9, a10, a11, a12, a13, a14, a15, a16, a17, a18, a19, a20, a21, a22) (nI q) := by
  have hc := h
  obtain ⟨c2, c3, c4, c5, c6, c7, c8, c9, c10, c11⟩ := h
  have hv : vp_in (nI q) 18 := pk_in q 18 hq
  refine ⟨hv, nm_r (e' := upd a15 0 (zc_fi D)) (by rw [nI_clamp (by omega)]; exact congrArg (upd a15 0) c3) ?_⟩
  refine pk_loop (fun n i s => wX_unpackSteps_14 post (nI q) rc pc ds cd ga ls n (nI i) a1 a2 a3 a4 a5 a6 a7 a8 a9 a10 a11 a12 a13 a14 s a16 a17 a18 a19 a20 a21 a22) (fun i s => ∀ j, j ≤ i → s j = zc_us D j) 15 0 (upd a15 0 (zc_fi D)) (by omega) (fun j hj => ?_) ?_ ?_
  · rw [Nat.le_zero.mp hj, zc_us_0]
    exact pk_us
  · intro n s hs
    exact pk_le 16 16 (fun _ => H s (fun i hi => hs i (by omega))) (fun z => absurd z (by omega)) rfl (nI_1 15)
  · intro n i s hi hs hn
    refine pk_le 16 (i + 1) (fun z => absurd z (by omega)) (fun _ => ⟨hv, hv, ?_⟩) rfl (nI_1 i)
    rw [nI_clamp (show q < 2 ^ 31 by omega), show a4 q = nI (zc_wi D) from c4, show a5 q = zc_lst D from c5, nI_1, nI_clamp (show i < 2 ^ 31 by omega), nI_clamp (show i + 1 < 2 ^ 31 by omega)]
    refine zc_getFrame hq (show i < 16 by omega) hc hw ⟨pk_in i 16 (by omega), hv, pk_in (i + 1) 16 (by omega), nm_e (nm_e (hn _ (fun j hj => ?_)))⟩
    rcases Nat.lt_or_ge i j with z | z
    · have e : j = i + 1 := by omega
      rw [e, pk_us, hs i (Nat.le_refl _), zc_us_s]
    · rw [pk_un (by omega)]
      exact hs j z
theorem zc_unpackRuns {post : St1 → Prop} {rc pc ds cd ga : Int32} {ls : Int64} {a1 a2 a3 a4 a5 a6 a7 a8 a9 a10 a11 a12 a13 a14 a15 a16 a17 a18 a19 a20 a21 a22 : Nat → Int32} {q : Nat} {D : zc_Col} (hq : q < 18) (h : zc_CM a2 a3 a4 a5 a6 a7 a8 a9 a10 a11 q D) (hm : zc_ma D ≤ 16) (hs : zc_su (zc_le D) (zc_ma D) = 16) (H : ∀ b, (∀ i, i < 16 → b i = zc_ur D i) → post (rc, pc, ds, cd, ga, ls, a1, a2, a3, a4, a5, a6, a7, a8, a9, a10, a11, a12, a13, a14, b, a16, a17, a18, a19, a20, a21, a22)) : wpX_unpackRuns post (rc, pc, ds, cd, ga, ls, a1, a2, a3, a4, a5, a6, a7, a8, a9, a10, a11, a12, a13, a14, a15, a16, a17, a18, a19, a20, a21, a22) (nI q) := by
  obtain ⟨c2, c3, c4, c5, c6, c7, c8, c9, c10, c11⟩ := h
  have hv : vp_in (nI q) 18 := pk_in q 18 hq
  refine pk_loop (fun n k s => wX_unpackRuns_4 post (nI q) rc pc ds cd ga ls n (nI (zc_su (zc_le D) k)) (nI k) a1 a2 a3 a4 a5 a6 a7 a8 a9 a10 a11 a12 a13 a14 s a16 a17 a18 a19 a20 a21 a22) (fun k s => ∀ j, j < zc_su (zc_le D) k → s j = zc_ur D j) (zc_ma D) 0 a15 (by omega) (fun j hj => absurd hj (Nat.not_lt_zero j)) ?_ ?_
  · intro n s h
    refine ⟨hv, pk_le (zc_ma D) (zc_ma D) (fun _ => H s (fun i hi => h i (by omega))) (fun z => absurd z (by omega)) ?_⟩
    rw [nI_clamp (by omega)]
    exact c6
  · intro n k s hk h hn
    have hmo : zc_su (zc_le D) (k + 1) ≤ 16 := by rw [← hs]; exact zc_su_mono _ hk
    have hsk : zc_su (zc_le D) (k + 1) = zc_su (zc_le D) k + zc_le D k := rfl
    refine ⟨hv, pk_le (zc_ma D) k (fun z => absurd z (by omega)) (fun _ => ?_) (by rw [nI_clamp (by omega)]; exact c6)⟩
    have hl : a11 ((16 * nI q) + nI k).toNatClampNeg = nI (zc_le D k) := by
      rw [zc_16c, nI_clamp (by omega)]
      exact c11 k (by omega)
    have hwk : a10 ((24 * nI q) + nI k).toNatClampNeg = zc_wo D k := by
      rw [zc_24c, nI_clamp (by omega)]
      exact c10 k (by omega)
    refine pk_loop (fun n' j s => wX_unpackRuns_17 post (wX_unpackRuns_4 post (nI q) rc pc ds cd ga ls n) (nI q) (nI k) rc pc ds cd ga ls n' (nI (zc_su (zc_le D) k + j)) (nI j) a1 a2 a3 a4 a5 a6 a7 a8 a9 a10 a11 a12 a13 a14 s a16 a17 a18 a19 a20 a21 a22) (fun j s => ∀ i, i < zc_su (zc_le D) k + j → s i = zc_ur D i) (zc_le D k) 0 s (by omega) h ?_ ?_
    · intro n' s' h'
      exact ⟨pk_in (16 * q + k) 288 (by omega) (zc_16c q k), pk_le (zc_le D k) (zc_le D k) (fun _ => nm_r (nI_1 k) (hn s' h')) (fun z => absurd z (by omega)) hl⟩
    · intro n' j s' hj h' hn'
      refine ⟨pk_in (16 * q + k) 288 (by omega) (zc_16c q k), pk_le (zc_le D k) j (fun z => absurd z (by omega)) (fun _ => ⟨pk_in (24 * q + k) 432 (by omega) (zc_24c q k), pk_in (zc_su (zc_le D) k + j) 16 (by omega), nm_r (e' := upd s' (zc_su (zc_le D) k + j) (zc_wo D k)) ?_ (nm_r (nI_1 _) (nm_r (nI_1 j) (hn' _ (fun i hi => ?_))))⟩) hl⟩
      · rw [nI_clamp (show zc_su (zc_le D) k + j < 2 ^ 31 by omega)]
        exact congrArg _ hwk
      · rcases Nat.lt_or_ge i (zc_su (zc_le D) k + j) with z | z
        · rw [pk_un (by omega)]
          exact h' i z
        · rw [zc_upd_s (by omega)]
          unfold zc_ur
          rw [zc_ri_at (zc_le D) (k := k) (zc_ma D) hk (by omega) (by omega)]
theorem zc_unpack {post : St1 → Prop} {rc pc ds cd ga : Int32} {ls : Int64} {a1 a2 a3 a4 a5 a6 a7 a8 a9 a10 a11 a12 a13 a14 a15 a16 a17 a18 a19 a20 a21 a22 : Nat → Int32} {q : Nat} {D : zc_Col} (hq : q < 18) (h : zc_CM a2 a3 a4 a5 a6 a7 a8 a9 a10 a11 q D) (g : zc_Gd D) (H : ∀ b, (∀ i, i < 16 → b i = zc_un D i) → post (rc, pc, ds, cd, ga, ls, a1, a2, a3, a4, a5, a6, a7, a8, a9, a10, a11, a12, a13, a14, b, a16, a17, a18, a19, a20, a21, a22)) : wpX_unpack post (rc, pc, ds, cd, ga, ls, a1, a2, a3, a4, a5, a6, a7, a8, a9, a10, a11, a12, a13, a14, a15, a16, a17, a18, a19, a20, a21, a22) (nI q) := by
  have hc := h
  obtain ⟨c2, c3, c4, c5, c6, c7, c8, c9, c10, c11⟩ := h
  have g0 := g.1
  have hv : vp_in (nI q) 18 := pk_in q 18 hq
  refine ⟨hv, nm_r (e' := nI D.1) (by rw [nI_clamp (by omega)]; exact c2) (pk_eq D.1 2 (fun z => ?_) (fun z1 => pk_eq D.1 5 (fun z => ?_) (fun z2 => ?_)))⟩
  · refine zc_unpackRuns hq hc (g.2.1 z).1 (g.2.1 z).2 (fun b hb => H b (fun i hi => ?_))
    rw [hb i hi]
    exact (if_pos z).symm
  · refine zc_unpackSteps hq hc (g.2.2.2.2 z) (fun b hb => H b (fun i hi => ?_))
    rw [hb i hi]
    unfold zc_un
    rw [if_neg z1, if_pos z]
  · refine pk_loop (fun n i s => wX_unpack_35 post (nI q) rc pc ds cd ga ls n (nI i) a1 a2 a3 a4 a5 a6 a7 a8 a9 a10 a11 a12 a13 a14 s a16 a17 a18 a19 a20 a21 a22) (fun i s => ∀ j, j < i → s j = zc_ua D j) 16 0 a15 (by omega) (fun j hj => absurd hj (Nat.not_lt_zero j)) ?_ ?_
    · intro n s h
      refine pk_le 16 16 (fun _ => H s (fun i hi => ?_)) (fun z => absurd z (by omega))
      rw [h i hi]
      unfold zc_un
      rw [if_neg z1, if_neg z2]
    · intro n i s hi h hn
      refine pk_le 16 i (fun z => absurd z (by omega)) (fun _ => zc_unpackedAt hq hi hc g ⟨pk_in i 16 hi, nm_e (nm_r (nI_1 i) (hn _ (fun j hj => ?_)))⟩)
      rw [nI_clamp (by omega)]
      rcases Nat.lt_or_ge j i with z | z
      · rw [pk_un (by omega)]
        exact h j z
      · rw [zc_upd_s (by omega), show j = i by omega]
theorem zc_unpackSteps_2 {post : St1 → Prop} {rc pc ds cd ga : Int32} {ls : Int64} {a1 a2 a3 a4 a5 a6 a7 a8 a9 a10 a11 a12 a13 a14 a15 a16 a17 a18 a19 a20 a21 a22 : Nat → Int32} {q : Nat} {D : zc_Col} (hq : q < 18) (h : zc_CM a2 a3 a4 a5 a6 a7 a8 a9 a10 a11 q D) (hw : zc_wi D ≤ 31) (H : ∀ b, (∀ i, i < 16 → b i = zc_us D i) → post (rc, pc, ds, cd, ga, ls, a1, a2, a3, a4, a5, a6, a7, a8, a9, a10, a11, a12, a13, a14, b, a16, a17, a18, a19, a20, a21, a22)) : wpX_unpackSteps_2 post (rc, pc, ds, cd, ga, ls, a1, a2, a3, a4, a5, a6, a7, a8, a9, a10, a11, a12, a13, a14, a15, a16, a17, a18, a19, a20, a21, a22) (nI q) := by
  have hc := h
  obtain ⟨c2, c3, c4, c5, c6, c7, c8, c9, c10, c11⟩ := h
  have hv : vp_in (nI q) 18 := pk_in q 18 hq
  refine ⟨hv, nm_r (e' := upd a15 0 (zc_fi D)) (by rw [nI_clamp (by omega)]; exact congrArg (upd a15 0) c3) ?_⟩
  refine pk_loop (fun n i s => wX_unpackSteps_2_14 post (nI q) rc pc ds cd ga ls n (nI i) a1 a2 a3 a4 a5 a6 a7 a8 a9 a10 a11 a12 a13 a14 s a16 a17 a18 a19 a20 a21 a22) (fun i s => ∀ j, j ≤ i → s j = zc_us D j) 15 0 (upd a15 0 (zc_fi D)) (by omega) (fun j hj => ?_) ?_ ?_
  · rw [Nat.le_zero.mp hj, zc_us_0]
    exact pk_us
  · intro n s hs
    exact pk_le 16 16 (fun _ => H s (fun i hi => hs i (by omega))) (fun z => absurd z (by omega)) rfl (nI_1 15)
  · intro n i s hi hs hn
    refine pk_le 16 (i + 1) (fun z => absurd z (by omega)) (fun _ => ⟨hv, hv, ?_⟩) rfl (nI_1 i)
    rw [nI_clamp (show q < 2 ^ 31 by omega), show a4 q = nI (zc_wi D) from c4, show a5 q = zc_lst D from c5, nI_1, nI_clamp (show i < 2 ^ 31 by omega), nI_clamp (show i + 1 < 2 ^ 31 by omega)]
    refine zc_getFrame hq (show i < 16 by omega) hc hw ⟨pk_in i 16 (by omega), hv, pk_in (i + 1) 16 (by omega), nm_e (nm_e (hn _ (fun j hj => ?_)))⟩
    rcases Nat.lt_or_ge i j with z | z
    · have e : j = i + 1 := by omega
      rw [e, pk_us, hs i (Nat.le_refl _), zc_us_s]
    · rw [pk_un (by omega)]
      exact hs j z
theorem zc_unpackRuns_2 {post : St1 → Prop} {rc pc ds cd ga : Int32} {ls : Int64} {a1 a2 a3 a4 a5 a6 a7 a8 a9 a10 a11 a12 a13 a14 a15 a16 a17 a18 a19 a20 a21 a22 : Nat → Int32} {q : Nat} {D : zc_Col} (hq : q < 18) (h : zc_CM a2 a3 a4 a5 a6 a7 a8 a9 a10 a11 q D) (hm : zc_ma D ≤ 16) (hs : zc_su (zc_le D) (zc_ma D) = 16) (H : ∀ b, (∀ i, i < 16 → b i = zc_ur D i) → post (rc, pc, ds, cd, ga, ls, a1, a2, a3, a4, a5, a6, a7, a8, a9, a10, a11, a12, a13, a14, b, a16, a17, a18, a19, a20, a21, a22)) : wpX_unpackRuns_2 post (rc, pc, ds, cd, ga, ls, a1, a2, a3, a4, a5, a6, a7, a8, a9, a10, a11, a12, a13, a14, a15, a16, a17, a18, a19, a20, a21, a22) (nI q) := by
  obtain ⟨c2, c3, c4, c5, c6, c7, c8, c9, c10, c11⟩ := h
  have hv : vp_in (nI q) 18 := pk_in q 18 hq
  refine pk_loop (fun n k s => wX_unpackRuns_2_4 post (nI q) rc pc ds cd ga ls n (nI (zc_su (zc_le D) k)) (nI k) a1 a2 a3 a4 a5 a6 a7 a8 a9 a10 a11 a12 a13 a14 s a16 a17 a18 a19 a20 a21 a22) (fun k s => ∀ j, j < zc_su (zc_le D) k → s j = zc_ur D j) (zc_ma D) 0 a15 (by omega) (fun j hj => absurd hj (Nat.not_lt_zero j)) ?_ ?_
  · intro n s h
    refine ⟨hv, pk_le (zc_ma D) (zc_ma D) (fun _ => H s (fun i hi => h i (by omega))) (fun z => absurd z (by omega)) ?_⟩
    rw [nI_clamp (by omega)]
    exact c6
  · intro n k s hk h hn
    have hmo : zc_su (zc_le D) (k + 1) ≤ 16 := by rw [← hs]; exact zc_su_mono _ hk
    have hsk : zc_su (zc_le D) (k + 1) = zc_su (zc_le D) k + zc_le D k := rfl
    refine ⟨hv, pk_le (zc_ma D) k (fun z => absurd z (by omega)) (fun _ => ?_) (by rw [nI_clamp (by omega)]; exact c6)⟩
    have hl : a11 ((16 * nI q) + nI k).toNatClampNeg = nI (zc_le D k) := by
      rw [zc_16c, nI_clamp (by omega)]
      exact c11 k (by omega)
    have hwk : a10 ((24 * nI q) + nI k).toNatClampNeg = zc_wo D k := by
      rw [zc_24c, nI_clamp (by omega)]
      exact c10 k (by omega)
    refine pk_loop (fun n' j s => wX_unpackRuns_2_17 post (wX_unpackRuns_2_4 post (nI q) rc pc ds cd ga ls n) (nI q) (nI k) rc pc ds cd ga ls n' (nI (zc_su (zc_le D) k + j)) (nI j) a1 a2 a3 a4 a5 a6 a7 a8 a9 a10 a11 a12 a13 a14 s a16 a17 a18 a19 a20 a21 a22) (fun j s => ∀ i, i < zc_su (zc_le D) k + j → s i = zc_ur D i) (zc_le D k) 0 s (by omega) h ?_ ?_
    · intro n' s' h'
      exact ⟨pk_in (16 * q + k) 288 (by omega) (zc_16c q k), pk_le (zc_le D k) (zc_le D k) (fun _ => nm_r (nI_1 k) (hn s' h')) (fun z => absurd z (by omega)) hl⟩
    · intro n' j s' hj h' hn'
      refine ⟨pk_in (16 * q + k) 288 (by omega) (zc_16c q k), pk_le (zc_le D k) j (fun z => absurd z (by omega)) (fun _ => ⟨pk_in (24 * q + k) 432 (by omega) (zc_24c q k), pk_in (zc_su (zc_le D) k + j) 16 (by omega), nm_r (e' := upd s' (zc_su (zc_le D) k + j) (zc_wo D k)) ?_ (nm_r (nI_1 _) (nm_r (nI_1 j) (hn' _ (fun i hi => ?_))))⟩) hl⟩
      · rw [nI_clamp (show zc_su (zc_le D) k + j < 2 ^ 31 by omega)]
        exact congrArg _ hwk
      · rcases Nat.lt_or_ge i (zc_su (zc_le D) k + j) with z | z
        · rw [pk_un (by omega)]
          exact h' i z
        · rw [zc_upd_s (by omega)]
          unfold zc_ur
          rw [zc_ri_at (zc_le D) (k := k) (zc_ma D) hk (by omega) (by omega)]
theorem zc_unpack_2 {post : St1 → Prop} {rc pc ds cd ga : Int32} {ls : Int64} {a1 a2 a3 a4 a5 a6 a7 a8 a9 a10 a11 a12 a13 a14 a15 a16 a17 a18 a19 a20 a21 a22 : Nat → Int32} {q : Nat} {D : zc_Col} (hq : q < 18) (h : zc_CM a2 a3 a4 a5 a6 a7 a8 a9 a10 a11 q D) (g : zc_Gd D) (H : ∀ b, (∀ i, i < 16 → b i = zc_un D i) → post (rc, pc, ds, cd, ga, ls, a1, a2, a3, a4, a5, a6, a7, a8, a9, a10, a11, a12, a13, a14, b, a16, a17, a18, a19, a20, a21, a22)) : wpX_unpack_2 post (rc, pc, ds, cd, ga, ls, a1, a2, a3, a4, a5, a6, a7, a8, a9, a10, a11, a12, a13, a14, a15, a16, a17, a18, a19, a20, a21, a22) (nI q) := by
  have hc := h
  obtain ⟨c2, c3, c4, c5, c6, c7, c8, c9, c10, c11⟩ := h
  have g0 := g.1
  have hv : vp_in (nI q) 18 := pk_in q 18 hq
  refine ⟨hv, nm_r (e' := nI D.1) (by rw [nI_clamp (by omega)]; exact c2) (pk_eq D.1 2 (fun z => ?_) (fun z1 => pk_eq D.1 5 (fun z => ?_) (fun z2 => ?_)))⟩
  · refine zc_unpackRuns_2 hq hc (g.2.1 z).1 (g.2.1 z).2 (fun b hb => H b (fun i hi => ?_))
    rw [hb i hi]
    exact (if_pos z).symm
  · refine zc_unpackSteps_2 hq hc (g.2.2.2.2 z) (fun b hb => H b (fun i hi => ?_))
    rw [hb i hi]
    unfold zc_un
    rw [if_neg z1, if_pos z]
  · refine pk_loop (fun n i s => wX_unpack_2_35 post (nI q) rc pc ds cd ga ls n (nI i) a1 a2 a3 a4 a5 a6 a7 a8 a9 a10 a11 a12 a13 a14 s a16 a17 a18 a19 a20 a21 a22) (fun i s => ∀ j, j < i → s j = zc_ua D j) 16 0 a15 (by omega) (fun j hj => absurd hj (Nat.not_lt_zero j)) ?_ ?_
    · intro n s h
      refine pk_le 16 16 (fun _ => H s (fun i hi => ?_)) (fun z => absurd z (by omega))
      rw [h i hi]
      unfold zc_un
      rw [if_neg z1, if_neg z2]
    · intro n i s hi h hn
      refine pk_le 16 i (fun z => absurd z (by omega)) (fun _ => zc_unpackedAt hq hi hc g ⟨pk_in i 16 hi, nm_e (nm_r (nI_1 i) (hn _ (fun j hj => ?_)))⟩)
      rw [nI_clamp (by omega)]
      rcases Nat.lt_or_ge j i with z | z
      · rw [pk_un (by omega)]
        exact h j z
      · rw [zc_upd_s (by omega), show j = i by omega]
end
section
/-! sets of places as bits -/
def zc_bs (c : Nat → Bool) : Nat → Int32
  | 0 => 0
  | i + 1 => if c i then zc_bs c i ||| ((1 : Int32) <<< (nI i &&& 31)) else zc_bs c i
theorem zc_bs_no {c : Nat → Bool} {i : Nat} {s : Int32} (h : s = zc_bs c i) (hc : c i = false) : s = zc_bs c (i + 1) := by
  rw [h]
  exact (if_neg (by rw [hc]; decide)).symm
theorem zc_bs_yes {c : Nat → Bool} {i : Nat} {s : Int32} (h : s = zc_bs c i) (hc : c i = true) : s ||| ((1 : Int32) <<< (nI i &&& 31)) = zc_bs c (i + 1) := by
  rw [h]
  exact (if_pos hc).symm
def zc_fw (D : zc_Col) (lo hi : Int32) : Int32 := zc_bs (fun i => decide (¬ (zc_gd (zc_wo D) (i * zc_wi D) (zc_wi D)).toInt64 < lo.toInt64 - (zc_fi D).toInt64 ∧ ¬ hi.toInt64 - (zc_fi D).toInt64 < (zc_gd (zc_wo D) (i * zc_wi D) (zc_wi D)).toInt64)) 16
theorem zc_frameWithin {post : Int32 → Prop} {rc pc ds cd ga : Int32} {ls : Int64} {a1 a2 a3 a4 a5 a6 a7 a8 a9 a10 a11 a12 a13 a14 a15 a16 a17 a18 a19 a20 a21 a22 : Nat → Int32} {q : Nat} {D : zc_Col} {lo hi : Int32} (hq : q < 18) (h : zc_CM a2 a3 a4 a5 a6 a7 a8 a9 a10 a11 q D) (hw : zc_wi D ≤ 31) (H : post (zc_fw D lo hi)) : wpX_frameWithin post (rc, pc, ds, cd, ga, ls, a1, a2, a3, a4, a5, a6, a7, a8, a9, a10, a11, a12, a13, a14, a15, a16, a17, a18, a19, a20, a21, a22) (nI q) lo hi := by
  have hc := h
  obtain ⟨c2, c3, c4, c5, c6, c7, c8, c9, c10, c11⟩ := h
  have hv : vp_in (nI q) 18 := pk_in q 18 hq
  have e3 : a3 (nI q).toNatClampNeg = zc_fi D := by rw [nI_clamp (by omega)]; exact c3
  refine ⟨hv, nm_r (congrArg (fun z : Int32 => lo.toInt64 - z.toInt64) e3) ⟨hv, nm_r (congrArg (fun z : Int32 => hi.toInt64 - z.toInt64) e3) ?_⟩⟩
  refine pk_loop (fun n i s => wX_frameWithin_30 post (nI q) (lo.toInt64 - (zc_fi D).toInt64) (hi.toInt64 - (zc_fi D).toInt64) rc pc ds cd ga ls a1 a2 a3 a4 a5 a6 a7 a8 a9 a10 a11 a12 a13 a14 a15 a16 a17 a18 a19 a20 a21 a22 n s (nI i)) (fun i s => s = zc_bs (fun i => decide (¬ (zc_gd (zc_wo D) (i * zc_wi D) (zc_wi D)).toInt64 < lo.toInt64 - (zc_fi D).toInt64 ∧ ¬ hi.toInt64 - (zc_fi D).toInt64 < (zc_gd (zc_wo D) (i * zc_wi D) (zc_wi D)).toInt64)) i) 16 0 0 (by omega) rfl ?_ ?_
  · intro n s h
    exact pk_le 16 16 (fun _ => h ▸ H) (fun z => absurd z (by omega))
  · intro n i s hi' h hn
    refine pk_le 16 i (fun z => absurd z (by omega)) (fun _ => ⟨hv, hv, ?_⟩)
    rw [nI_clamp (show q < 2 ^ 31 by omega), show a4 q = nI (zc_wi D) from c4]
    refine zc_getFrame hq hi' hc hw ⟨fun g => nm_r (nI_1 i) (hn _ (zc_bs_no h (decide_eq_false (fun z => z.1 g)))), fun g => ⟨fun g2 => nm_r (nI_1 i) (hn _ (zc_bs_no h (decide_eq_false (fun z => z.2 g2)))), fun g2 => nm_e (nm_r (nI_1 i) (hn _ (zc_bs_yes h (decide_eq_true ⟨g, g2⟩))))⟩⟩
def zc_lf (D : zc_Col) (lo : Int32) : Nat := zc_pl (zc_wo D) lo (zc_ma D) 0
def zc_lw (D : zc_Col) (lo hi : Int32) : Int32 := zc_bs (fun i => decide (¬ zc_lk D i < zc_lf D lo ∧ ¬ hi < zc_wo D (zc_lk D i))) 16
theorem zc_listWithin {post : Int32 → Prop} {rc pc ds cd ga : Int32} {ls : Int64} {a1 a2 a3 a4 a5 a6 a7 a8 a9 a10 a11 a12 a13 a14 a15 a16 a17 a18 a19 a20 a21 a22 : Nat → Int32} {q : Nat} {D : zc_Col} {lo hi : Int32} (hq : q < 18) (h : zc_CM a2 a3 a4 a5 a6 a7 a8 a9 a10 a11 q D) (hm : zc_ma D ≤ 8) (hw : zc_wi D ≤ 3) (H : post (zc_lw D lo hi)) : wpX_listWithin post (rc, pc, ds, cd, ga, ls, a1, a2, a3, a4, a5, a6, a7, a8, a9, a10, a11, a12, a13, a14, a15, a16, a17, a18, a19, a20, a21, a22) (nI q) lo hi := by
  have hc := h
  obtain ⟨c2, c3, c4, c5, c6, c7, c8, c9, c10, c11⟩ := h
  have hv : vp_in (nI q) 18 := pk_in q 18 hq
  have hlf : zc_lf D lo ≤ 8 := Nat.le_trans (zc_pl_le _ _ _ _) (by omega)
  refine ⟨hv, ?_⟩
  refine zc_placeInList (24 * q) (zc_ma D) (zc_wo D) (zc_m24 q) (by rw [nI_clamp (by omega)]; exact c6) (by omega) (fun i hi => c10 i (by omega)) ?_
  refine pk_loop (fun n i s => wX_listWithin_23 post (nI q) hi (nI (zc_lf D lo)) rc pc ds cd ga ls a1 a2 a3 a4 a5 a6 a7 a8 a9 a10 a11 a12 a13 a14 a15 a16 a17 a18 a19 a20 a21 a22 n s (nI i)) (fun i s => s = zc_bs (fun i => decide (¬ zc_lk D i < zc_lf D lo ∧ ¬ hi < zc_wo D (zc_lk D i))) i) 16 0 0 (by omega) rfl ?_ ?_
  · intro n s h
    exact pk_le 16 16 (fun _ => h ▸ H) (fun z => absurd z (by omega))
  · intro n i s hi' h hn
    refine pk_le 16 i (fun z => absurd z (by omega)) (fun _ => ⟨hv, hv, ?_⟩)
    rw [nI_clamp (show q < 2 ^ 31 by omega), show a4 q = nI (zc_wi D) from c4]
    refine zc_getList hq hi' hc hw (fun k1 => pk_lt (zc_lk D i) (zc_lf D lo) (fun g => nm_r (nI_1 i) (hn _ (zc_bs_no h (decide_eq_false (fun z => z.1 g))))) (fun g => ⟨pk_in (24 * q + zc_lk D i) 432 (by omega) (zc_24c q _), ?_⟩))
    rw [zc_24c, nI_clamp (show 24 * q + zc_lk D i < 2 ^ 31 by omega), show a10 (24 * q + zc_lk D i) = zc_wo D (zc_lk D i) from c10 _ (by omega)]
    exact ⟨fun g2 => nm_r (nI_1 i) (hn _ (zc_bs_no h (decide_eq_false (fun z => z.2 g2)))), fun g2 => nm_e (nm_r (nI_1 i) (hn _ (zc_bs_yes h (decide_eq_true ⟨by omega, g2⟩))))⟩
def zc_rw (D : zc_Col) (lo hi : Int32) : Nat → Int32
  | 0 => 0
  | k + 1 => if zc_iw (zc_wo D k) lo hi then zc_rw D lo hi k ||| ((((1 : Int32) <<< (nI (zc_le D k) &&& 31)) - 1) <<< (nI (zc_su (zc_le D) k) &&& 31)) else zc_rw D lo hi k
theorem zc_runsWithin {post : Int32 → Prop} {rc pc ds cd ga : Int32} {ls : Int64} {a1 a2 a3 a4 a5 a6 a7 a8 a9 a10 a11 a12 a13 a14 a15 a16 a17 a18 a19 a20 a21 a22 : Nat → Int32} {q : Nat} {D : zc_Col} {lo hi : Int32} (hq : q < 18) (h : zc_CM a2 a3 a4 a5 a6 a7 a8 a9 a10 a11 q D) (hm : zc_ma D ≤ 16) (H : post (zc_rw D lo hi (zc_ma D))) : wpX_runsWithin post (rc, pc, ds, cd, ga, ls, a1, a2, a3, a4, a5, a6, a7, a8, a9, a10, a11, a12, a13, a14, a15, a16, a17, a18, a19, a20, a21, a22) (nI q) lo hi := by
  obtain ⟨c2, c3, c4, c5, c6, c7, c8, c9, c10, c11⟩ := h
  have hv : vp_in (nI q) 18 := pk_in q 18 hq
  have e6 : a6 (nI q).toNatClampNeg = nI (zc_ma D) := by rw [nI_clamp (by omega)]; exact c6
  refine pk_loop (fun n k s => wX_runsWithin_9 post (nI q) lo hi rc pc ds cd ga ls a1 a2 a3 a4 a5 a6 a7 a8 a9 a10 a11 a12 a13 a14 a15 a16 a17 a18 a19 a20 a21 a22 n s (nI (zc_su (zc_le D) k)) (nI k)) (fun k s => s = zc_rw D lo hi k) (zc_ma D) 0 0 (by omega) rfl ?_ ?_
  · intro n s h
    exact ⟨hv, pk_le (zc_ma D) (zc_ma D) (fun _ => h ▸ H) (fun z => absurd z (by omega)) e6⟩
  · intro n k s hk h hn
    refine ⟨hv, pk_le (zc_ma D) k (fun z => absurd z (by omega)) (fun _ => ⟨pk_in (16 * q + k) 288 (by omega) (zc_16c q k), nm_r (e' := nI (zc_le D k)) ?_ ⟨pk_in (24 * q + k) 432 (by omega) (zc_24c q k), ?_⟩⟩) e6⟩
    · rw [zc_16c, nI_clamp (by omega)]
      exact c11 k (by omega)
    · rw [zc_24c, nI_clamp (show 24 * q + k < 2 ^ 31 by omega), show a10 (24 * q + k) = zc_wo D k from c10 _ (by omega)]
      refine zc_isWithin (fun g => nm_r (nI_add _ _) (nm_r (nI_1 k) (hn _ ?_))) (fun g => nm_e (nm_r (nI_add _ _) (nm_r (nI_1 k) (hn _ ?_))))
      · rw [h]
        exact (if_neg g).symm
      · rw [h]
        exact (if_pos g).symm
def zc_pw5 (D : zc_Col) (lo hi : Int32) : Int32 := if D.1 = 2 then zc_rw D lo hi (zc_ma D) else if D.1 = 3 then zc_lw D lo hi else if D.1 = 4 then zc_fw D lo hi else zc_bs (fun i => decide (zc_iw (zc_un D i) lo hi)) 16
def zc_pw (D : zc_Col) (lo hi : Int32) : Int32 := if hi < lo then 0 else if zc_hig D < lo then 0 else if zc_low D ≤ hi then (if zc_low D < lo then zc_pw5 D lo hi else if hi < zc_hig D then zc_pw5 D lo hi else 65535) else 0
theorem zc_packedWithin5 {post : Int32 → St1 → Prop} {q : Nat} {D : zc_Col} {lo hi : Int32} {rc pc ds cd ga : Int32} {ls : Int64} {a1 a2 a3 a4 a5 a6 a7 a8 a9 a10 a11 a12 a13 a14 a15 a16 a17 a18 a19 a20 a21 a22 : Nat → Int32} (hq : q < 18) (h : zc_CM a2 a3 a4 a5 a6 a7 a8 a9 a10 a11 q D) (g : zc_Gd D) (H : ∀ b, post (zc_pw5 D lo hi) (rc, pc, ds, cd, ga, ls, a1, a2, a3, a4, a5, a6, a7, a8, a9, a10, a11, a12, a13, a14, b, a16, a17, a18, a19, a20, a21, a22)) : wX_packedWithin_50 post (nI q) lo hi rc pc ds cd ga ls a1 a2 a3 a4 a5 a6 a7 a8 a9 a10 a11 a12 a13 a14 a15 a16 a17 a18 a19 a20 a21 a22 := by
  have hc := h
  obtain ⟨c2, c3, c4, c5, c6, c7, c8, c9, c10, c11⟩ := h
  have g0 := g.1
  have hv : vp_in (nI q) 18 := pk_in q 18 hq
  unfold zc_pw5 at H
  refine ⟨hv, nm_r (e' := nI D.1) (by rw [nI_clamp (by omega)]; exact c2) (pk_eq D.1 2 (fun z => ?_) (fun z2 => pk_eq D.1 3 (fun z => ?_) (fun z3 => pk_eq D.1 4 (fun z => ?_) (fun z4 => ?_))))⟩
  · rw [if_pos z] at H
    exact zc_runsWithin hq hc (g.2.1 z).1 (H a15)
  · rw [if_neg z2, if_pos z] at H
    exact zc_listWithin hq hc (g.2.2.1 z).1 (g.2.2.1 z).2 (H a15)
  · rw [if_neg z2, if_neg z3, if_pos z] at H
    exact zc_frameWithin hq hc (g.2.2.2.1 z) (H a15)
  · rw [if_neg z2, if_neg z3, if_neg z4] at H
    refine zc_unpack hq hc g (fun b hb => ?_)
    refine pk_loop (fun n i s => wX_packedWithin_111 post lo hi rc pc ds cd ga ls a1 a2 a3 a4 a5 a6 a7 a8 a9 a10 a11 a12 a13 a14 b a16 a17 a18 a19 a20 a21 a22 n s (nI i)) (fun i s => s = zc_bs (fun i => decide (zc_iw (zc_un D i) lo hi)) i) 16 0 0 (by omega) rfl ?_ ?_
    · intro n s h
      exact pk_le 16 16 (fun _ => h ▸ H b) (fun z => absurd z (by omega))
    · intro n i s hi' h hn
      refine pk_le 16 i (fun z => absurd z (by omega)) (fun _ => ⟨pk_in i 16 hi', ?_⟩)
      rw [nI_clamp (by omega), hb i hi']
      exact zc_isWithin (fun g => nm_r (nI_1 i) (hn _ (zc_bs_no h (decide_eq_false g)))) (fun g => nm_e (nm_r (nI_1 i) (hn _ (zc_bs_yes h (decide_eq_true g)))))
theorem zc_packedWithin {post : Int32 → St1 → Prop} {rc pc ds cd ga : Int32} {ls : Int64} {a1 a2 a3 a4 a5 a6 a7 a8 a9 a10 a11 a12 a13 a14 a15 a16 a17 a18 a19 a20 a21 a22 : Nat → Int32} {q : Nat} {D : zc_Col} {lo hi : Int32} (hq : q < 18) (h : zc_CM a2 a3 a4 a5 a6 a7 a8 a9 a10 a11 q D) (g : zc_Gd D) (H : ∀ b, post (zc_pw D lo hi) (rc, pc, ds, cd, ga, ls, a1, a2, a3, a4, a5, a6, a7, a8, a9, a10, a11, a12, a13, a14, b, a16, a17, a18, a19, a20, a21, a22)) : wpX_packedWithin post (rc, pc, ds, cd, ga, ls, a1, a2, a3, a4, a5, a6, a7, a8, a9, a10, a11, a12, a13, a14, a15, a16, a17, a18, a19, a20, a21, a22) (nI q) lo hi := by
  have hc := h
  obtain ⟨c2, c3, c4, c5, c6, c7, c8, c9, c10, c11⟩ := h
  have hv : vp_in (nI q) 18 := pk_in q 18 hq
  unfold zc_pw at H
  unfold wpX_packedWithin
  dsimp only
  rw [nI_clamp (show q < 2 ^ 31 by omega), show a7 q = zc_low D from c7, show a8 q = zc_hig D from c8]
  refine ⟨fun g1 => ?_, fun g1 => ⟨hv, fun g2 => ?_, fun g2 => ⟨hv, fun g3 => ⟨hv, fun g4 => ?_, fun g4 => ⟨hv, fun g5 => ?_, fun g5 => ?_⟩⟩, fun g3 => ?_⟩⟩⟩
  · rw [if_pos g1] at H
    exact H a15
  · rw [if_neg g1, if_pos g2] at H
    exact H a15
  · rw [if_neg g1, if_neg g2, if_pos g3, if_pos g4] at H
    exact zc_packedWithin5 hq hc g H
  · rw [if_neg g1, if_neg g2, if_pos g3, if_neg g4, if_pos g5] at H
    exact zc_packedWithin5 hq hc g H
  · rw [if_neg g1, if_neg g2, if_pos g3, if_neg g4, if_neg g5] at H
    exact H a15
  · rw [if_neg g1, if_neg g2, if_neg g3] at H
    exact H a15
end
section
/-! the picture: rows, deleted, packed columns (block, column), loose values (row, column), patches (count, row, column, value), conditions (count, column, low, high) -/
abbrev zc_Pic : Type := Nat × (Nat → Int32) × (Nat → Nat → zc_Col) × (Nat → Nat → Int32) × Nat × (Nat → Nat) × (Nat → Nat) × (Nat → Int32) × Nat × (Nat → Nat) × (Nat → Int32) × (Nat → Int32)
abbrev zc_n (P : zc_Pic) : Nat := P.1
abbrev zc_dl (P : zc_Pic) : Nat → Int32 := P.2.1
abbrev zc_col (P : zc_Pic) : Nat → Nat → zc_Col := P.2.2.1
abbrev zc_lo (P : zc_Pic) : Nat → Nat → Int32 := P.2.2.2.1
abbrev zc_k (P : zc_Pic) : Nat := P.2.2.2.2.1
abbrev zc_pr (P : zc_Pic) : Nat → Nat := P.2.2.2.2.2.1
abbrev zc_pq (P : zc_Pic) : Nat → Nat := P.2.2.2.2.2.2.1
abbrev zc_pv (P : zc_Pic) : Nat → Int32 := P.2.2.2.2.2.2.2.1
abbrev zc_cn (P : zc_Pic) : Nat := P.2.2.2.2.2.2.2.2.1
abbrev zc_cc (P : zc_Pic) : Nat → Nat := P.2.2.2.2.2.2.2.2.2.1
abbrev zc_cl (P : zc_Pic) : Nat → Int32 := P.2.2.2.2.2.2.2.2.2.2.1
abbrev zc_cu (P : zc_Pic) : Nat → Int32 := P.2.2.2.2.2.2.2.2.2.2.2
def zc_Ok (P : zc_Pic) : Prop := zc_n P ≤ 96 ∧ (∀ b c, b < 6 → c < 3 → zc_Gd (zc_col P b c)) ∧ zc_k P ≤ 20 ∧ (∀ j, j < zc_k P → zc_pr P j < 96 ∧ zc_pq P j < 3) ∧ zc_cn P ≤ 4 ∧ (∀ j, j < zc_cn P → zc_cc P j < 3)
/-- the state u (of p: m false; of q: m true) is the picture P -/
def zc_Mt (m : Bool) (P : zc_Pic) (rc pc cd : Int32) (a1 a2 a3 a4 a5 a6 a7 a8 a9 a10 a11 a12 a13 a14 a17 a18 a19 : Nat → Int32) : Prop := rc = nI (zc_n P) ∧ pc = nI (zc_k P) ∧ cd = nI (zc_cn P) ∧ (∀ j, j < 96 → a1 j = zc_dl P j) ∧ (∀ b c, b < 6 → c < 3 → zc_CM a2 a3 a4 a5 a6 a7 a8 a9 a10 a11 (3 * b + zc_sg m c) (zc_col P b c)) ∧ (∀ i c, i < 16 → c < 3 → a12 (3 * i + zc_sg m c) = zc_lo P i c) ∧ (∀ j, j < zc_k P → a13 j = nI (3 * zc_pr P j + zc_sg m (zc_pq P j)) ∧ a14 j = zc_pv P j) ∧ (∀ j, j < zc_cn P → a17 j = nI (zc_sg m (zc_cc P j)) ∧ a18 j = zc_cl P j ∧ a19 j = zc_cu P j)
/-! patches over a set -/
def zc_pa (P : zc_Pic) (b c : Nat) (lo hi s0 : Int32) : Nat → Int32
  | 0 => s0
  | j + 1 => if zc_pq P j = c then (if zc_pr P j / 16 = b then (if zc_iw (zc_pv P j) lo hi then zc_pa P b c lo hi s0 j ||| ((1 : Int32) <<< (nI (zc_pr P j % 16) &&& 31)) else zc_pa P b c lo hi s0 j &&& (((1 : Int32) <<< (nI (zc_pr P j % 16) &&& 31)) ^^^ (-1))) else zc_pa P b c lo hi s0 j) else zc_pa P b c lo hi s0 j
theorem zc_patchedWithin {post : Int32 → Prop} {rc pc ds cd ga : Int32} {ls : Int64} {a1 a2 a3 a4 a5 a6 a7 a8 a9 a10 a11 a12 a13 a14 a15 a16 a17 a18 a19 a20 a21 a22 : Nat → Int32} {m : Bool} {P : zc_Pic} {b c : Nat} {s0 lo hi : Int32} (ok : zc_Ok P) (h : zc_Mt m P rc pc cd a1 a2 a3 a4 a5 a6 a7 a8 a9 a10 a11 a12 a13 a14 a17 a18 a19) (hb : b < 7) (hc : c < 3) (H : post (zc_pa P b c lo hi s0 (zc_k P))) : wpX_patchedWithin post (rc, pc, ds, cd, ga, ls, a1, a2, a3, a4, a5, a6, a7, a8, a9, a10, a11, a12, a13, a14, a15, a16, a17, a18, a19, a20, a21, a22) (nI b) (nI (zc_sg m c)) s0 lo hi := by
  obtain ⟨m1, m2, m3, m4, m5, m6, m7, m8⟩ := h
  obtain ⟨o1, o2, o3, o4, o5, o6⟩ := ok
  have hsc := zc_sg_lt m hc
  have e2 : pc = nI (zc_k P) := m2
  refine pk_loop (fun n j s => wX_patchedWithin_6 post (nI b) (nI (zc_sg m c)) lo hi rc pc ds cd ga ls a1 a2 a3 a4 a5 a6 a7 a8 a9 a10 a11 a12 a13 a14 a15 a16 a17 a18 a19 a20 a21 a22 n s (nI j)) (fun j s => s = zc_pa P b c lo hi s0 j) (zc_k P) 0 s0 (by omega) rfl ?_ ?_
  · intro n s h
    exact pk_le (zc_k P) (zc_k P) (fun _ => h ▸ H) (fun z => absurd z (by omega)) e2
  · intro n j s hj h hn
    obtain ⟨hr, hq⟩ := o4 j hj
    have hsq := zc_sg_lt m hq
    have e13 : a13 (nI j).toNatClampNeg = nI (3 * zc_pr P j + zc_sg m (zc_pq P j)) := by rw [nI_clamp (by omega)]; exact (m7 j hj).1
    have e14 : a14 (nI j).toNatClampNeg = zc_pv P j := by rw [nI_clamp (by omega)]; exact (m7 j hj).2
    have hv : vp_in (nI j) 20 := pk_in j 20 (by omega)
    refine pk_le (zc_k P) j (fun z => absurd z (by omega)) (fun _ => ⟨hv, zc_n3, nm_r (e' := nI (zc_pr P j)) ?_ ⟨hv, zc_n3, pk_eq (zc_sg m (zc_pq P j)) (zc_sg m c) (fun g => ⟨zc_n16, pk_eq (zc_pr P j / 16) b (fun g2 => ⟨zc_n16, nm_r (e' := (1 : Int32) <<< (nI (zc_pr P j % 16) &&& 31)) ?_ ⟨hv, ?_⟩⟩) (fun g2 => nm_r (nI_1 j) (hn _ ?_)) (zc_d16 (by omega))⟩) (fun g => nm_r (nI_1 j) (hn _ ?_)) ?_⟩⟩) e2
    · rw [e13, zc_d3 (by omega), show (3 * zc_pr P j + zc_sg m (zc_pq P j)) / 3 = zc_pr P j by omega]
    · rw [zc_r16 (by omega)]
    · rw [e14]
      have g' := (zc_sg_inj m hq hc).mp g
      refine zc_isWithin (fun w => nm_e (nm_r (nI_1 j) (hn _ ?_))) (fun w => nm_e (nm_r (nI_1 j) (hn _ ?_)))
      · rw [h]
        exact ((if_pos g').trans ((if_pos g2).trans (if_neg w))).symm
      · rw [h]
        exact ((if_pos g').trans ((if_pos g2).trans (if_pos w))).symm
    · have g' := (zc_sg_inj m hq hc).mp g
      rw [h]
      exact ((if_pos g').trans (if_neg g2)).symm
    · have g' : ¬ zc_pq P j = c := fun z => g ((zc_sg_inj m hq hc).mpr z)
      rw [h]
      exact (if_neg g').symm
    · rw [e13, zc_r3 (by omega), show (3 * zc_pr P j + zc_sg m (zc_pq P j)) % 3 = zc_sg m (zc_pq P j) by omega]
def zc_lsw (P : zc_Pic) (c : Nat) (lo hi : Int32) : Int32 := zc_bs (fun i => decide (zc_iw (zc_lo P i c) lo hi)) (zc_n P % 16)
theorem zc_looseWithin {post : Int32 → Prop} {rc pc ds cd ga : Int32} {ls : Int64} {a1 a2 a3 a4 a5 a6 a7 a8 a9 a10 a11 a12 a13 a14 a15 a16 a17 a18 a19 a20 a21 a22 : Nat → Int32} {m : Bool} {P : zc_Pic} {c : Nat} {lo hi : Int32} (ok : zc_Ok P) (h : zc_Mt m P rc pc cd a1 a2 a3 a4 a5 a6 a7 a8 a9 a10 a11 a12 a13 a14 a17 a18 a19) (hc : c < 3) (H : post (zc_lsw P c lo hi)) : wpX_looseWithin post (rc, pc, ds, cd, ga, ls, a1, a2, a3, a4, a5, a6, a7, a8, a9, a10, a11, a12, a13, a14, a15, a16, a17, a18, a19, a20, a21, a22) (nI (zc_sg m c)) lo hi := by
  obtain ⟨m1, m2, m3, m4, m5, m6, m7, m8⟩ := h
  have hsc := zc_sg_lt m hc
  have o1 := ok.1
  have e1 : rc - rc / 16 * 16 = nI (zc_n P % 16) := by rw [show rc = nI (zc_n P) from m1, zc_r16 (by omega)]
  refine pk_loop (fun n i s => wX_looseWithin_6 post (nI (zc_sg m c)) lo hi rc pc ds cd ga ls a1 a2 a3 a4 a5 a6 a7 a8 a9 a10 a11 a12 a13 a14 a15 a16 a17 a18 a19 a20 a21 a22 n s (nI i)) (fun i s => s = zc_bs (fun i => decide (zc_iw (zc_lo P i c) lo hi)) i) (zc_n P % 16) 0 0 (by omega) rfl ?_ ?_
  · intro n s h
    exact ⟨zc_n16, pk_le (zc_n P % 16) (zc_n P % 16) (fun _ => h ▸ H) (fun z => absurd z (by omega)) e1⟩
  · intro n i s hi' h hn
    refine ⟨zc_n16, pk_le (zc_n P % 16) i (fun z => absurd z (by omega)) (fun _ => ⟨pk_in (3 * i + zc_sg m c) 48 (by omega) (zc_3c _ _), ?_⟩) e1⟩
    rw [zc_3c, nI_clamp (show 3 * i + zc_sg m c < 2 ^ 31 by omega), show a12 (3 * i + zc_sg m c) = zc_lo P i c from m6 i c (by omega) hc]
    exact zc_isWithin (fun g => nm_r (nI_1 i) (hn _ (zc_bs_no h (decide_eq_false g)))) (fun g => nm_e (nm_r (nI_1 i) (hn _ (zc_bs_yes h (decide_eq_true g)))))
def zc_lv (P : zc_Pic) (b : Nat) : Int32 := zc_bs (fun i => decide (16 * b + i < zc_n P ∧ zc_dl P (16 * b + i) = 0)) 16
theorem zc_liveSet {post : Int32 → Prop} {rc pc ds cd ga : Int32} {ls : Int64} {a1 a2 a3 a4 a5 a6 a7 a8 a9 a10 a11 a12 a13 a14 a15 a16 a17 a18 a19 a20 a21 a22 : Nat → Int32} {m : Bool} {P : zc_Pic} {b : Nat} (ok : zc_Ok P) (h : zc_Mt m P rc pc cd a1 a2 a3 a4 a5 a6 a7 a8 a9 a10 a11 a12 a13 a14 a17 a18 a19) (hb : b < 6) (H : post (zc_lv P b)) : wpX_liveSet post (rc, pc, ds, cd, ga, ls, a1, a2, a3, a4, a5, a6, a7, a8, a9, a10, a11, a12, a13, a14, a15, a16, a17, a18, a19, a20, a21, a22) (nI b) := by
  obtain ⟨m1, m2, m3, m4, m5, m6, m7, m8⟩ := h
  have o1 := ok.1
  have e1 : rc = nI (zc_n P) := m1
  refine pk_loop (fun n i s => wX_liveSet_4 post (nI b) rc pc ds cd ga ls a1 a2 a3 a4 a5 a6 a7 a8 a9 a10 a11 a12 a13 a14 a15 a16 a17 a18 a19 a20 a21 a22 n s (nI i)) (fun i s => s = zc_bs (fun i => decide (16 * b + i < zc_n P ∧ zc_dl P (16 * b + i) = 0)) i) 16 0 0 (by omega) rfl ?_ ?_
  · intro n s h
    exact pk_le 16 16 (fun _ => h ▸ H) (fun z => absurd z (by omega))
  · intro n i s hi' h hn
    refine pk_le 16 i (fun z => absurd z (by omega)) (fun _ => nm_r (zc_16c b i) (pk_le (zc_n P) (16 * b + i) (fun g => nm_r (nI_1 i) (hn _ (zc_bs_no h (decide_eq_false (fun z => absurd z.1 (by omega)))))) (fun g => ⟨pk_in (16 * b + i) 96 (by omega), ?_⟩) e1))
    rw [nI_clamp (show 16 * b + i < 2 ^ 31 by omega), show a1 (16 * b + i) = zc_dl P (16 * b + i) from m4 _ (by omega)]
    exact ⟨fun g2 => nm_e (nm_r (nI_1 i) (hn _ (zc_bs_yes h (decide_eq_true ⟨g, g2⟩)))), fun g2 => nm_r (nI_1 i) (hn _ (zc_bs_no h (decide_eq_false (fun z => g2 z.2))))⟩
/-! the chosen rows of block b -/
def zc_W (P : zc_Pic) (b k : Nat) : Int32 := if b = zc_n P / 16 then zc_lsw P (zc_cc P k) (zc_cl P k) (zc_cu P k) else zc_pa P b (zc_cc P k) (zc_cl P k) (zc_cu P k) (zc_pw (zc_col P b (zc_cc P k)) (zc_cl P k) (zc_cu P k)) (zc_k P)
def zc_cf (P : zc_Pic) (b : Nat) : Nat → Nat → Int32 → Int32
  | 0, _, s => s
  | r + 1, k, s => if s = 0 then s else zc_cf P b r (k + 1) (s &&& zc_W P b k)
def zc_c0 (P : zc_Pic) (b : Nat) : Int32 := if b < 6 then zc_lv P b else 0
def zc_ch (P : zc_Pic) (b : Nat) : Int32 := zc_cf P b (zc_cn P) 0 (zc_c0 P b)
theorem zc_choose {post : St1 → Prop} {rc pc ds cd ga : Int32} {ls : Int64} {a1 a2 a3 a4 a5 a6 a7 a8 a9 a10 a11 a12 a13 a14 a15 a16 a17 a18 a19 a20 a21 a22 : Nat → Int32} {m : Bool} {P : zc_Pic} (ok : zc_Ok P) (h : zc_Mt m P rc pc cd a1 a2 a3 a4 a5 a6 a7 a8 a9 a10 a11 a12 a13 a14 a17 a18 a19) (H : ∀ b15 b20, (∀ b, b ≤ zc_n P / 16 → b20 b = zc_ch P b) → post (rc, pc, ds, cd, ga, ls, a1, a2, a3, a4, a5, a6, a7, a8, a9, a10, a11, a12, a13, a14, b15, a16, a17, a18, a19, b20, a21, a22)) : wpX_choose post (rc, pc, ds, cd, ga, ls, a1, a2, a3, a4, a5, a6, a7, a8, a9, a10, a11, a12, a13, a14, a15, a16, a17, a18, a19, a20, a21, a22) := by
  have hm := h
  obtain ⟨m1, m2, m3, m4, m5, m6, m7, m8⟩ := h
  have hok := ok
  obtain ⟨o1, o2, o3, o4, o5, o6⟩ := ok
  have e3 : cd = nI (zc_cn P) := m3
  unfold wpX_choose
  dsimp only
  refine zc_blockCount (n := zc_n P) m1 (by omega) ?_
  refine pk_loop (fun n b (s : (Nat → Int32) × (Nat → Int32)) => wX_choose_7 post (nI (zc_n P / 16)) n (nI b) rc pc ds cd ga ls a1 a2 a3 a4 a5 a6 a7 a8 a9 a10 a11 a12 a13 a14 s.1 a16 a17 a18 a19 s.2 a21 a22) (fun b s => ∀ j, j < b → s.2 j = zc_ch P j) (zc_n P / 16 + 1) 0 (a15, a20) (by omega) (fun j hj => absurd hj (Nat.not_lt_zero j)) ?_ ?_
  · intro n s h
    exact pk_lt (zc_n P / 16) (zc_n P / 16 + 1) (fun _ => H s.1 s.2 (fun b hb => h b (by omega))) (fun z => absurd z (by omega))
  · intro n b s hb h hn
    have inner : ∀ s0 : Int32, s0 = zc_c0 P b → ∃ fu, wX_choose_31 post (wX_choose_7 post (nI (zc_n P / 16)) n) (nI (zc_n P / 16)) (nI b) fu s0 0 rc pc ds cd ga ls a1 a2 a3 a4 a5 a6 a7 a8 a9 a10 a11 a12 a13 a14 s.1 a16 a17 a18 a19 s.2 a21 a22 := by
      intro s0 hs0
      have out : ∀ (x : Int32) (y : Nat → Int32), x = zc_ch P b → (∀ z : Nat → Int32, z = upd s.2 (nI b).toNatClampNeg x → ∀ w : Int32, w = nI b + 1 → wX_choose_7 post (nI (zc_n P / 16)) n w rc pc ds cd ga ls a1 a2 a3 a4 a5 a6 a7 a8 a9 a10 a11 a12 a13 a14 y a16 a17 a18 a19 z a21 a22) := by
        intro x y hx
        refine nm_e (nm_r (nI_1 b) (hn (y, _) (fun j hj => ?_)))
        show upd s.2 (nI b).toNatClampNeg x j = _
        rw [nI_clamp (by omega)]
        rcases Nat.lt_or_ge j b with z | z
        · rw [pk_un (by omega)]
          exact h j z
        · rw [zc_upd_s (by omega), show j = b by omega]
          exact hx
      refine pk_loop (fun n' k (t : Int32 × (Nat → Int32)) => wX_choose_31 post (wX_choose_7 post (nI (zc_n P / 16)) n) (nI (zc_n P / 16)) (nI b) n' t.1 (nI k) rc pc ds cd ga ls a1 a2 a3 a4 a5 a6 a7 a8 a9 a10 a11 a12 a13 a14 t.2 a16 a17 a18 a19 s.2 a21 a22) (fun k t => zc_cf P b (zc_cn P - k) k t.1 = zc_ch P b ∧ (6 ≤ b → t.1 = 0)) (zc_cn P) 0 (s0, s.1) (by omega) ⟨?_, ?_⟩ ?_ ?_
      · show zc_cf P b (zc_cn P - 0) 0 s0 = zc_ch P b
        rw [hs0]
        rfl
      · intro g
        show s0 = 0
        rw [hs0]
        exact if_neg (by omega)
      · intro n' t ht
        refine pk_le (zc_cn P) (zc_cn P) (fun _ => ⟨pk_in b 7 (by omega), out t.1 t.2 ?_⟩) (fun z => absurd z (by omega)) e3
        have h1 := ht.1
        rw [Nat.sub_self] at h1
        exact h1
      · intro n' k t hk ht hn'
        obtain ⟨h1, h2⟩ := ht
        rw [show zc_cn P - k = (zc_cn P - (k + 1)) + 1 by omega] at h1
        have h1' : (if t.1 = 0 then t.1 else zc_cf P b (zc_cn P - (k + 1)) (k + 1) (t.1 &&& zc_W P b k)) = zc_ch P b := h1
        refine pk_le (zc_cn P) k (fun z => absurd z (by omega)) (fun _ => ⟨fun g => ⟨pk_in b 7 (by omega), out t.1 t.2 ?_⟩, fun g => ?_⟩) e3
        · rw [if_pos g] at h1'
          exact h1'
        · rw [if_neg g] at h1'
          have hb6 : b < 6 := by
            rcases Nat.lt_or_ge b 6 with z | z
            · exact z
            · exact absurd (h2 z) g
          have hck := o6 k hk
          obtain ⟨e17, e18, e19⟩ := m8 k hk
          have hv : vp_in (nI k) 4 := pk_in k 4 (by omega)
          refine ⟨hv, nm_r (e' := nI (zc_sg m (zc_cc P k))) (by rw [nI_clamp (by omega)]; exact e17) ⟨hv, nm_r (e' := zc_cl P k) (by rw [nI_clamp (by omega)]; exact e18) ⟨hv, nm_r (e' := zc_cu P k) (by rw [nI_clamp (by omega)]; exact e19) ?_⟩⟩⟩
          refine pk_eq b (zc_n P / 16) (fun gb => ?_) (fun gb => ?_)
          · refine zc_looseWithin hok hm hck (nm_e (nm_r (nI_1 k) (hn' (_, t.2) ⟨?_, fun z => absurd z (by omega)⟩)))
            unfold zc_W at h1'
            rw [if_pos gb] at h1'
            exact h1'
          · have hsc := zc_sg_lt m hck
            rw [zc_3c]
            refine zc_packedWithin (by omega) (m5 b _ hb6 hck) (o2 b _ hb6 hck) (fun y => ?_)
            refine zc_patchedWithin hok hm (by omega) hck (nm_e (nm_r (nI_1 k) (hn' (_, y) ⟨?_, fun z => absurd z (by omega)⟩)))
            unfold zc_W at h1'
            rw [if_neg gb] at h1'
            exact h1'
    refine pk_lt (zc_n P / 16) b (fun z => absurd z (by omega)) (fun _ => pk_le 6 b (fun g => inner 0 (if_neg (by omega)).symm) (fun g => zc_liveSet hok hm g (inner _ (if_pos g).symm)))
/-! what the chosen bits mean -/
theorem zc_bs_bit (c : Nat → Bool) {j : Nat} (hj : j < 32) : ∀ i, i ≤ 32 → zc_bt (zc_bs c i) j = (decide (j < i) && c j) := by
  intro i
  induction i with
  | zero =>
    intro _
    rw [decide_eq_false (by omega)]
    exact zc_b_0 j
  | succ i ih =>
    intro hi
    show zc_bt (if c i then zc_bs c i ||| ((1 : Int32) <<< (nI i &&& 31)) else zc_bs c i) j = _
    by_cases hc : c i = true
    · rw [if_pos hc, zc_b_or, ih (by omega), zc_b_one i (by omega) j hj]
      by_cases e : j = i
      · subst e
        simp [hc]
      · rw [decide_eq_false e, Bool.or_false]
        by_cases z : j < i
        · rw [decide_eq_true z, decide_eq_true (show j < i + 1 by omega)]
        · rw [decide_eq_false z, decide_eq_false (show ¬ j < i + 1 by omega)]
    · rw [if_neg hc, ih (by omega)]
      by_cases e : j = i
      · subst e
        simp [hc]
      · by_cases z : j < i
        · rw [decide_eq_true z, decide_eq_true (show j < i + 1 by omega)]
        · rw [decide_eq_false z, decide_eq_false (show ¬ j < i + 1 by omega)]
theorem zc_cf_bit (P : zc_Pic) (b : Nat) {i : Nat} : ∀ r k s, zc_bt (zc_cf P b r k s) i = true → zc_bt s i = true := by
  intro r
  induction r with
  | zero => exact fun k s h => h
  | succ r ih =>
    intro k s h
    have h' : zc_bt (if s = 0 then s else zc_cf P b r (k + 1) (s &&& zc_W P b k)) i = true := h
    by_cases g : s = 0
    · rw [if_pos g] at h'
      exact h'
    · rw [if_neg g] at h'
      have := ih _ _ h'
      rw [zc_b_and] at this
      cases hs : zc_bt s i
      · rw [hs, Bool.false_and] at this
        exact absurd this (by decide)
      · rfl
theorem zc_ch_bit (P : zc_Pic) {b i : Nat} (hi : i < 16) (h : zc_bt (zc_ch P b) i = true) : b < 6 ∧ 16 * b + i < zc_n P := by
  have h0 := zc_cf_bit P b _ _ _ h
  unfold zc_c0 at h0
  by_cases g : b < 6
  · rw [if_pos g] at h0
    unfold zc_lv at h0
    rw [zc_bs_bit _ (by omega) 16 (by omega)] at h0
    simp at h0
    exact ⟨g, h0.2.1⟩
  · rw [if_neg g, zc_b_0] at h0
    exact absurd h0 (by decide)
theorem zc_ch_6 (P : zc_Pic) {b : Nat} (h : ¬ b < 6) : zc_ch P b = 0 := by
  have e : zc_c0 P b = 0 := if_neg h
  unfold zc_ch
  rw [e]
  cases zc_cn P with
  | zero => rfl
  | succ n => exact if_pos rfl
end
section
/-! the values of a column in a block -/
def zc_pt (P : zc_Pic) (b c : Nat) : Nat → Nat → Int32
  | 0 => zc_un (zc_col P b c)
  | j + 1 => if zc_pq P j = c then (if zc_pr P j / 16 = b then upd (zc_pt P b c j) (zc_pr P j % 16) (zc_pv P j) else zc_pt P b c j) else zc_pt P b c j
def zc_lb (P : zc_Pic) (b c i : Nat) : Int32 := if b = zc_n P / 16 then zc_lo P i c else zc_pt P b c (zc_k P) i
theorem zc_load {post : St1 → Prop} {rc pc ds cd ga : Int32} {ls : Int64} {a1 a2 a3 a4 a5 a6 a7 a8 a9 a10 a11 a12 a13 a14 a15 a16 a17 a18 a19 a20 a21 a22 : Nat → Int32} {m : Bool} {P : zc_Pic} {b c : Nat} (ok : zc_Ok P) (h : zc_Mt m P rc pc cd a1 a2 a3 a4 a5 a6 a7 a8 a9 a10 a11 a12 a13 a14 a17 a18 a19) (hb : b < 6) (hc : c < 3) (H : ∀ B, (∀ i, i < 16 → (b = zc_n P / 16 → i < zc_n P % 16) → B i = zc_lb P b c i) → post (rc, pc, ds, cd, ga, ls, a1, a2, a3, a4, a5, a6, a7, a8, a9, a10, a11, a12, a13, a14, B, a16, a17, a18, a19, a20, a21, a22)) : wpX_load post (rc, pc, ds, cd, ga, ls, a1, a2, a3, a4, a5, a6, a7, a8, a9, a10, a11, a12, a13, a14, a15, a16, a17, a18, a19, a20, a21, a22) (nI b) (nI (zc_sg m c)) := by
  obtain ⟨m1, m2, m3, m4, m5, m6, m7, m8⟩ := h
  obtain ⟨o1, o2, o3, o4, o5, o6⟩ := ok
  have hsc := zc_sg_lt m hc
  have e2 : pc = nI (zc_k P) := m2
  have e1 : rc - rc / 16 * 16 = nI (zc_n P % 16) := by rw [show rc = nI (zc_n P) from m1, zc_r16 (by omega)]
  unfold wpX_load
  dsimp only
  refine zc_blockCount (n := zc_n P) m1 (by omega) (pk_eq b (zc_n P / 16) (fun g => ?_) (fun g => ?_))
  · refine pk_loop (fun n i s => wX_load_10 post (nI (zc_sg m c)) rc pc ds cd ga ls n (nI i) a1 a2 a3 a4 a5 a6 a7 a8 a9 a10 a11 a12 a13 a14 s a16 a17 a18 a19 a20 a21 a22) (fun i s => ∀ j, j < i → s j = zc_lo P j c) (zc_n P % 16) 0 a15 (by omega) (fun j hj => absurd hj (Nat.not_lt_zero j)) ?_ ?_
    · intro n s h
      refine ⟨zc_n16, pk_le (zc_n P % 16) (zc_n P % 16) (fun _ => H s (fun i hi hl => ?_)) (fun z => absurd z (by omega)) e1⟩
      rw [h i (hl g)]
      exact (if_pos g).symm
    · intro n i s hi h hn
      refine ⟨zc_n16, pk_le (zc_n P % 16) i (fun z => absurd z (by omega)) (fun _ => ⟨pk_in (3 * i + zc_sg m c) 48 (by omega) (zc_3c _ _), pk_in i 16 (by omega), nm_r (e' := upd s i (zc_lo P i c)) ?_ (nm_r (nI_1 i) (hn _ (fun j hj => ?_)))⟩) e1⟩
      · rw [zc_3c, nI_clamp (show 3 * i + zc_sg m c < 2 ^ 31 by omega), nI_clamp (show i < 2 ^ 31 by omega), show a12 (3 * i + zc_sg m c) = zc_lo P i c from m6 i c (by omega) hc]
      · rcases Nat.lt_or_ge j i with z | z
        · rw [pk_un (by omega)]
          exact h j z
        · rw [zc_upd_s (by omega), show j = i by omega]
  · rw [zc_3c]
    refine zc_unpack (by omega) (m5 b c hb hc) (o2 b c hb hc) (fun B hB => ?_)
    refine pk_loop (fun n j s => wX_load_55 post (nI b) (nI (zc_sg m c)) rc pc ds cd ga ls n (nI j) a1 a2 a3 a4 a5 a6 a7 a8 a9 a10 a11 a12 a13 a14 s a16 a17 a18 a19 a20 a21 a22) (fun j s => ∀ i, i < 16 → s i = zc_pt P b c j i) (zc_k P) 0 B (by omega) hB ?_ ?_
    · intro n s h
      refine pk_le (zc_k P) (zc_k P) (fun _ => H s (fun i hi hl => ?_)) (fun z => absurd z (by omega)) e2
      rw [h i hi]
      exact (if_neg g).symm
    · intro n j s hj h hn
      obtain ⟨hr, hq⟩ := o4 j hj
      have hsq := zc_sg_lt m hq
      have e13 : a13 (nI j).toNatClampNeg = nI (3 * zc_pr P j + zc_sg m (zc_pq P j)) := by rw [nI_clamp (by omega)]; exact (m7 j hj).1
      have e14 : a14 (nI j).toNatClampNeg = zc_pv P j := by rw [nI_clamp (by omega)]; exact (m7 j hj).2
      have hv : vp_in (nI j) 20 := pk_in j 20 (by omega)
      have hpt : zc_pt P b c (j + 1) = if zc_pq P j = c then (if zc_pr P j / 16 = b then upd (zc_pt P b c j) (zc_pr P j % 16) (zc_pv P j) else zc_pt P b c j) else zc_pt P b c j := rfl
      refine pk_le (zc_k P) j (fun z => absurd z (by omega)) (fun _ => ⟨hv, zc_n3, nm_r (e' := nI (zc_pr P j)) ?_ ⟨hv, zc_n3, pk_eq (zc_sg m (zc_pq P j)) (zc_sg m c) (fun g => ⟨zc_n16, pk_eq (zc_pr P j / 16) b (fun g2 => ⟨zc_n16, hv, pk_in (zc_pr P j % 16) 16 (by omega) (zc_r16 (by omega)), nm_r (e' := upd s (zc_pr P j % 16) (zc_pv P j)) ?_ (nm_r (nI_1 j) (hn _ ?_))⟩) (fun g2 => nm_r (nI_1 j) (hn _ ?_)) (zc_d16 (by omega))⟩) (fun g => nm_r (nI_1 j) (hn _ ?_)) ?_⟩⟩) e2
      · rw [e13, zc_d3 (by omega), show (3 * zc_pr P j + zc_sg m (zc_pq P j)) / 3 = zc_pr P j by omega]
      · rw [e14, zc_r16 (by omega), nI_clamp (by omega)]
      · have g' := (zc_sg_inj m hq hc).mp g
        rw [hpt, if_pos g', if_pos g2]
        intro i hi
        rcases Nat.decEq i (zc_pr P j % 16) with z | z
        · rw [pk_un z, pk_un z]
          exact h i hi
        · rw [zc_upd_s z, zc_upd_s z]
      · have g' := (zc_sg_inj m hq hc).mp g
        rw [hpt, if_pos g', if_neg g2]
        exact h
      · have g' : ¬ zc_pq P j = c := fun z => g ((zc_sg_inj m hq hc).mpr z)
        rw [hpt, if_neg g']
        exact h
      · rw [e13, zc_r3 (by omega), show (3 * zc_pr P j + zc_sg m (zc_pq P j)) % 3 = zc_sg m (zc_pq P j) by omega]
/-! the values of the chosen rows -/
def zc_gb (B : Nat → Int32) (s : Int32) : Nat → Nat × (Nat → Int32) → Nat × (Nat → Int32)
  | 0, x => x
  | i + 1, x => if zc_bt s i = true then ((zc_gb B s i x).1 + 1, upd (zc_gb B s i x).2 (zc_gb B s i x).1 (B i)) else zc_gb B s i x
theorem zc_gb_le (B : Nat → Int32) (s : Int32) (x : Nat × (Nat → Int32)) : ∀ i, (zc_gb B s i x).1 ≤ x.1 + i := by
  intro i
  induction i with
  | zero => exact Nat.le_refl _
  | succ i ih =>
    show (if zc_bt s i = true then ((zc_gb B s i x).1 + 1, upd (zc_gb B s i x).2 (zc_gb B s i x).1 (B i)) else zc_gb B s i x).1 ≤ _
    split
    · show (zc_gb B s i x).1 + 1 ≤ _
      omega
    · omega
theorem zc_bit_iff {x : Int32} {n : Nat} (hn : n < 32) : ((x >>> (nI n &&& 31)) &&& 1) = 1 ↔ zc_bt x n = true := by
  rw [zc_bit n hn]
  cases zc_bt x n
  · exact ⟨fun z => absurd z (by decide), fun z => absurd z (by decide)⟩
  · exact ⟨fun _ => rfl, fun _ => rfl⟩
theorem zc_gatherBlock {post : St1 → Prop} {rc pc ds cd ga : Int32} {ls : Int64} {a1 a2 a3 a4 a5 a6 a7 a8 a9 a10 a11 a12 a13 a14 a15 a16 a17 a18 a19 a20 a21 a22 : Nat → Int32} {s : Int32} {B G : Nat → Int32} {g : Nat} (hg : ga = nI g) (hl : g ≤ 80) (hB : ∀ i, i < 16 → zc_bt s i = true → a15 i = B i) (hG : ∀ j, j < g → a21 j = G j)
    (H : ∀ b, (∀ j, j < (zc_gb B s 16 (g, G)).1 → b j = (zc_gb B s 16 (g, G)).2 j) → post (rc, pc, ds, cd, nI (zc_gb B s 16 (g, G)).1, ls, a1, a2, a3, a4, a5, a6, a7, a8, a9, a10, a11, a12, a13, a14, a15, a16, a17, a18, a19, a20, b, a22)) : wpX_gatherBlock post (rc, pc, ds, cd, ga, ls, a1, a2, a3, a4, a5, a6, a7, a8, a9, a10, a11, a12, a13, a14, a15, a16, a17, a18, a19, a20, a21, a22) s := by
  have e0 : ga = nI g := hg
  subst e0
  refine pk_loop (fun n i t => wX_gatherBlock_2 post s rc pc ds cd ls n (nI i) (nI (zc_gb B s i (g, G)).1) a1 a2 a3 a4 a5 a6 a7 a8 a9 a10 a11 a12 a13 a14 a15 a16 a17 a18 a19 a20 t a22) (fun i t => ∀ j, j < (zc_gb B s i (g, G)).1 → t j = (zc_gb B s i (g, G)).2 j) 16 0 a21 (by omega) hG ?_ ?_
  · intro n t h
    exact pk_le 16 16 (fun _ => H t h) (fun z => absurd z (by omega))
  · intro n i t hi h hn
    have hle : (zc_gb B s i (g, G)).1 ≤ g + i := zc_gb_le B s (g, G) i
    have hst : zc_gb B s (i + 1) (g, G) = if zc_bt s i = true then ((zc_gb B s i (g, G)).1 + 1, upd (zc_gb B s i (g, G)).2 (zc_gb B s i (g, G)).1 (B i)) else zc_gb B s i (g, G) := rfl
    refine pk_le 16 i (fun z => absurd z (by omega)) (fun _ => ⟨fun z => ?_, fun z => ?_⟩)
    · have z' := (zc_bit_iff (by omega)).mp z
      rw [if_pos z'] at hst
      rw [hst] at hn
      refine ⟨pk_in i 16 hi, pk_in _ 96 (by omega) rfl, nm_r (e' := upd t (zc_gb B s i (g, G)).1 (B i)) ?_ (nm_r (nI_1 _) (nm_r (nI_1 i) (hn _ (fun j hj => ?_))))⟩
      · rw [nI_clamp (by omega), nI_clamp (by omega), show a15 i = B i from hB i hi z']
      · have hj' : j < (zc_gb B s i (g, G)).1 + 1 := hj
        rcases Nat.lt_or_ge j (zc_gb B s i (g, G)).1 with y | y
        · rw [pk_un (by omega)]
          show _ = upd (zc_gb B s i (g, G)).2 (zc_gb B s i (g, G)).1 (B i) j
          rw [pk_un (by omega)]
          exact h j y
        · rw [zc_upd_s (by omega)]
          show _ = upd (zc_gb B s i (g, G)).2 (zc_gb B s i (g, G)).1 (B i) j
          rw [zc_upd_s (by omega)]
    · have z' : ¬ zc_bt s i = true := fun y => z ((zc_bit_iff (by omega)).mpr y)
      rw [if_neg z'] at hst
      rw [hst] at hn
      exact nm_r (nI_1 i) (hn t h)
def zc_gt (P : zc_Pic) (c : Nat) : Nat → Nat × (Nat → Int32)
  | 0 => (0, fun _ => 0)
  | b + 1 => if zc_ch P b = 0 then zc_gt P c b else zc_gb (zc_lb P b c) (zc_ch P b) 16 (zc_gt P c b)
theorem zc_gt_le (P : zc_Pic) (c : Nat) : ∀ b, (zc_gt P c b).1 ≤ 16 * b ∧ (zc_gt P c b).1 ≤ 96 := by
  intro b
  induction b with
  | zero => exact ⟨Nat.le_refl _, by show 0 ≤ 96; omega⟩
  | succ b ih =>
    show (if zc_ch P b = 0 then zc_gt P c b else zc_gb (zc_lb P b c) (zc_ch P b) 16 (zc_gt P c b)).1 ≤ _ ∧ (if zc_ch P b = 0 then zc_gt P c b else zc_gb (zc_lb P b c) (zc_ch P b) 16 (zc_gt P c b)).1 ≤ _
    by_cases z : zc_ch P b = 0
    · rw [if_pos z]
      omega
    · rw [if_neg z]
      have h6 : b < 6 := by
        rcases Nat.lt_or_ge b 6 with y | y
        · exact y
        · exact absurd (zc_ch_6 P (by omega)) z
      have := zc_gb_le (zc_lb P b c) (zc_ch P b) (zc_gt P c b) 16
      omega
def zc_gN (P : zc_Pic) (c : Nat) : Nat := (zc_gt P c (zc_n P / 16 + 1)).1
def zc_gG (P : zc_Pic) (c : Nat) : Nat → Int32 := (zc_gt P c (zc_n P / 16 + 1)).2
theorem zc_gN_le (P : zc_Pic) (c : Nat) : zc_gN P c ≤ 96 := (zc_gt_le P c _).2
theorem zc_gather {post : St1 → Prop} {rc pc ds cd ga : Int32} {ls : Int64} {a1 a2 a3 a4 a5 a6 a7 a8 a9 a10 a11 a12 a13 a14 a15 a16 a17 a18 a19 a20 a21 a22 : Nat → Int32} {m : Bool} {P : zc_Pic} {c : Nat} (ok : zc_Ok P) (h : zc_Mt m P rc pc cd a1 a2 a3 a4 a5 a6 a7 a8 a9 a10 a11 a12 a13 a14 a17 a18 a19) (hc : c < 3) (H : ∀ (rc pc ds cd ga : Int32) (ls : Int64) (a1 a2 a3 a4 a5 a6 a7 a8 a9 a10 a11 a12 a13 a14 a15 a16 a17 a18 a19 a20 a21 a22 : Nat → Int32), zc_Mt m P rc pc cd a1 a2 a3 a4 a5 a6 a7 a8 a9 a10 a11 a12 a13 a14 a17 a18 a19 → ga = nI (zc_gN P c) → (∀ j, j < zc_gN P c → a21 j = zc_gG P c j) → post (rc, pc, ds, cd, ga, ls, a1, a2, a3, a4, a5, a6, a7, a8, a9, a10, a11, a12, a13, a14, a15, a16, a17, a18, a19, a20, a21, a22)) : wpX_gather post (rc, pc, ds, cd, ga, ls, a1, a2, a3, a4, a5, a6, a7, a8, a9, a10, a11, a12, a13, a14, a15, a16, a17, a18, a19, a20, a21, a22) (nI (zc_sg m c)) := by
  unfold wpX_gather
  dsimp only
  refine zc_choose ok h (fun b15 b20 h20 => ?_)
  dsimp only
  have o1 := ok.1
  refine zc_blockCount (n := zc_n P) h.1 (by omega) ?_
  refine pk_loop (fun n b (s : (Nat → Int32) × (Nat → Int32)) => wX_gather_16 post (nI (zc_sg m c)) (nI (zc_n P / 16)) n (nI b) rc pc ds cd (nI (zc_gt P c b).1) ls a1 a2 a3 a4 a5 a6 a7 a8 a9 a10 a11 a12 a13 a14 s.1 a16 a17 a18 a19 b20 s.2 a22) (fun b s => ∀ j, j < (zc_gt P c b).1 → s.2 j = (zc_gt P c b).2 j) (zc_n P / 16 + 1) 0 (b15, a21) (by omega) (fun j hj => absurd hj (Nat.not_lt_zero j)) ?_ ?_
  · intro n s hs
    exact pk_lt (zc_n P / 16) (zc_n P / 16 + 1) (fun _ => H _ _ _ _ _ _ _ _ _ _ _ _ _ _ _ _ _ _ _ _ _ _ _ _ _ _ _ _ h rfl hs) (fun z => absurd z (by omega))
  · intro n b s hb hs hn
    have hst : zc_gt P c (b + 1) = if zc_ch P b = 0 then zc_gt P c b else zc_gb (zc_lb P b c) (zc_ch P b) 16 (zc_gt P c b) := rfl
    have e20 : b20 (nI b).toNatClampNeg = zc_ch P b := by rw [nI_clamp (by omega)]; exact h20 b (by omega)
    have hv : vp_in (nI b) 7 := pk_in b 7 (by omega)
    refine pk_lt (zc_n P / 16) b (fun z => absurd z (by omega)) (fun _ => ⟨hv, ?_⟩)
    rw [e20]
    refine ⟨fun z => ?_, fun z => ?_⟩
    · rw [if_pos z] at hst
      rw [hst] at hn
      exact nm_r (nI_1 b) (hn s hs)
    · rw [if_neg z] at hst
      rw [hst] at hn
      have h6 : b < 6 := by
        rcases Nat.lt_or_ge b 6 with y | y
        · exact y
        · exact absurd (zc_ch_6 P (by omega)) z
      have hle := (zc_gt_le P c b).1
      refine zc_load ok h h6 hc (fun B hB => ⟨hv, ?_⟩)
      refine zc_gatherBlock (B := zc_lb P b c) (G := (zc_gt P c b).2) (g := (zc_gt P c b).1) rfl (by omega) (fun i hi hbit => ?_) hs (fun t ht => ?_)
      · have hbit' : zc_bt (zc_ch P b) i = true := by rw [← e20]; exact hbit
        have hlt := (zc_ch_bit P hi hbit').2
        exact hB i hi (fun e => by omega)
      · have ht' : ∀ j, j < (zc_gb (zc_lb P b c) (zc_ch P b) 16 (zc_gt P c b)).1 → t j = (zc_gb (zc_lb P b c) (zc_ch P b) 16 (zc_gt P c b)).2 j := by
          intro j hj
          have := ht j
          rw [e20] at this
          exact this hj
        have := hn (B, t) ht'
        rw [← e20] at this
        exact nm_r (nI_1 b) this
end
section
/-! the heap -/
def zc_kid (size a : Nat) (G : Nat → Int32) : Nat := if size ≤ 2 * a + 2 then 2 * a + 1 else if G (2 * a + 2) ≤ G (2 * a + 1) then 2 * a + 1 else 2 * a + 2
def zc_swp (a k : Nat) (G : Nat → Int32) : Nat → Int32 := if G k ≤ G a then G else upd (upd G a (G k)) k (G a)
def zc_sk (size : Nat) : Nat → Nat → (Nat → Int32) → Nat → Int32
  | 0, _, G => G
  | r + 1, a, G => if size ≤ 2 * a + 1 then G else zc_sk size r (zc_kid size a G) (zc_swp a (zc_kid size a G) G)
theorem zc_upd_c {g k : Nat} {x : Int32} {t G : Nat → Int32} (h : ∀ j, j < g → t j = G j) : ∀ j, j < g → upd t k x j = upd G k x j := by
  intro j hj
  rcases Nat.decEq j k with z | z
  · rw [pk_un z, pk_un z]
    exact h j hj
  · rw [zc_upd_s z, zc_upd_s z]
theorem zc_sink64 {post : St1 → Prop} {J : Int32 → Int32 → (Nat → Int32) → (Nat → Int32) → (Nat → Int32) → (Nat → Int32) → (Nat → Int32) → (Nat → Int32) → (Nat → Int32) → (Nat → Int32) → (Nat → Int32) → (Nat → Int32) → (Nat → Int32) → (Nat → Int32) → (Nat → Int32) → (Nat → Int32) → (Nat → Int32) → (Nat → Int32) → (Nat → Int32) → (Nat → Int32) → (Nat → Int32) → (Nat → Int32) → (Nat → Int32) → (Nat → Int32) → Prop} {rc pc ds cd ga : Int32} {ls : Int64} {a1 a2 a3 a4 a5 a6 a7 a8 a9 a10 a11 a12 a13 a14 a15 a16 a17 a18 a19 a20 a21 a22 : Nat → Int32} {x2 : Int32} {a i k g : Nat} {G : Nat → Int32} (ha : a < g) (hk : k < g) (hg : g ≤ 96) (hi : i < 8) (hG : ∀ j, j < g → a21 j = G j)
    (H : ∀ t, (∀ j, j < g → t j = zc_swp a k G j) → J (nI k) (nI (i + 1)) a1 a2 a3 a4 a5 a6 a7 a8 a9 a10 a11 a12 a13 a14 a15 a16 a17 a18 a19 a20 t a22) : wX_sink_64 post J x2 (nI a) (nI i) (nI k) rc pc ds cd ga ls a1 a2 a3 a4 a5 a6 a7 a8 a9 a10 a11 a12 a13 a14 a15 a16 a17 a18 a19 a20 a21 a22 := by
  have va : vp_in (nI a) 96 := pk_in a 96 (by omega)
  have vk : vp_in (nI k) 96 := pk_in k 96 (by omega)
  unfold wX_sink_64
  rw [nI_clamp (show a < 2 ^ 31 by omega), nI_clamp (show k < 2 ^ 31 by omega), hG a ha, hG k hk]
  unfold zc_swp at H
  refine ⟨vk, va, fun z => nm_r (nI_1 i) ?_, fun z => ⟨va, nm_e ⟨vk, va, nm_e ⟨vk, nm_e (nm_r (nI_1 i) ?_)⟩⟩⟩⟩
  · rw [if_pos z] at H
    exact H a21 hG
  · rw [if_neg z] at H
    exact H _ (zc_upd_c (zc_upd_c hG))
theorem zc_sink {post : St1 → Prop} {rc pc ds cd ga : Int32} {ls : Int64} {a1 a2 a3 a4 a5 a6 a7 a8 a9 a10 a11 a12 a13 a14 a15 a16 a17 a18 a19 a20 a21 a22 : Nat → Int32} {a size g : Nat} {G : Nat → Int32} (hs : size ≤ g) (hg : g ≤ 96) (ha : a ≤ 96) (hG : ∀ j, j < g → a21 j = G j) (H : ∀ t, (∀ j, j < g → t j = zc_sk size 8 a G j) → post (rc, pc, ds, cd, ga, ls, a1, a2, a3, a4, a5, a6, a7, a8, a9, a10, a11, a12, a13, a14, a15, a16, a17, a18, a19, a20, t, a22)) : wpX_sink post (rc, pc, ds, cd, ga, ls, a1, a2, a3, a4, a5, a6, a7, a8, a9, a10, a11, a12, a13, a14, a15, a16, a17, a18, a19, a20, a21, a22) (nI a) (nI size) := by
  refine pk_loop (fun n i (s : Nat × (Nat → Int32)) => wX_sink_5 post (nI size) rc pc ds cd ga ls n (nI s.1) (nI i) a1 a2 a3 a4 a5 a6 a7 a8 a9 a10 a11 a12 a13 a14 a15 a16 a17 a18 a19 a20 s.2 a22) (fun i s => ∃ G', (∀ j, j < g → s.2 j = G' j) ∧ zc_sk size (8 - i) s.1 G' = zc_sk size 8 a G ∧ s.1 ≤ 96) 8 0 (a, a21) (by omega) ⟨G, hG, rfl, ha⟩ ?_ ?_
  · intro n s ⟨G', h1, h2, h3⟩
    refine pk_le 8 8 (fun _ => H s.2 ?_) (fun z => absurd z (by omega))
    rw [← h2]
    exact h1
  · intro n i s hi ⟨G', h1, h2, h3⟩ hn
    rw [show 8 - i = (8 - (i + 1)) + 1 by omega] at h2
    have h2' : (if size ≤ 2 * s.1 + 1 then G' else zc_sk size (8 - (i + 1)) (zc_kid size s.1 G') (zc_swp s.1 (zc_kid size s.1 G') G')) = zc_sk size 8 a G := h2
    have e21 : (2 : Int32) * nI s.1 + 1 = nI (2 * s.1 + 1) := by rw [zc_m2, nI_1]
    have fin : ∀ k, k = zc_kid size s.1 G' → 2 * s.1 + 1 < size → k < size → wX_sink_64 post (wX_sink_5 post (nI size) rc pc ds cd ga ls n) (nI size) (nI s.1) (nI i) (nI k) rc pc ds cd ga ls a1 a2 a3 a4 a5 a6 a7 a8 a9 a10 a11 a12 a13 a14 a15 a16 a17 a18 a19 a20 s.2 a22 := by
      intro k ek h4 hk
      refine zc_sink64 (g := g) (G := G') (by omega) (by omega) hg hi h1 (fun t ht => hn (k, t) ⟨zc_swp s.1 k G', ht, ?_, ?_⟩)
      · rw [if_neg (by omega)] at h2'
        rw [ek]
        exact h2'
      · show k ≤ 96
        omega
    refine pk_le 8 i (fun z => absurd z (by omega)) (fun _ => pk_le size (2 * s.1 + 1) (fun z => H s.2 ?_) (fun z => nm_r e21 (pk_le size (2 * s.1 + 2) (fun y => ?_) (fun y => ⟨pk_in (2 * s.1 + 2) 96 (by omega) (nI_1 _), pk_in (2 * s.1 + 1) 96 (by omega), ?_⟩) rfl (nI_1 _))) rfl e21)
    · rw [if_pos z] at h2'
      rw [← h2']
      exact h1
    · exact fin _ (if_pos y).symm z z
    · rw [nI_1, nI_clamp (show 2 * s.1 + 1 + 1 < 2 ^ 31 by omega), nI_clamp (show 2 * s.1 + 1 < 2 ^ 31 by omega), h1 _ (show 2 * s.1 + 1 < g by omega), h1 _ (show 2 * s.1 + 1 + 1 < g by omega)]
      refine ⟨fun w => fin _ ?_ z z, fun w => fin _ ?_ z y⟩
      · unfold zc_kid
        rw [if_neg (by omega), if_pos w]
      · unfold zc_kid
        rw [if_neg (by omega), if_neg w]
def zc_o1 (g : Nat) : Nat → (Nat → Int32) → Nat → Int32
  | 0, G => G
  | k + 1, G => zc_o1 g k (zc_sk g 8 k G)
def zc_o2 : Nat → (Nat → Int32) → Nat → Int32
  | 0, G => G
  | k + 1, G => zc_o2 k (zc_sk (k + 1) 8 0 (upd (upd G 0 (G (k + 1))) (k + 1) (G 0)))
def zc_od (g : Nat) (G : Nat → Int32) : Nat → Int32 := zc_o2 (g - 1) (zc_o1 g (g / 2) G)
theorem zc_m1 (k : Nat) : nI k + (-1) = nI k - 1 := by
  rw [Int32.sub_eq_add_neg]
theorem zc_order {post : St1 → Prop} {rc pc ds cd ga : Int32} {ls : Int64} {a1 a2 a3 a4 a5 a6 a7 a8 a9 a10 a11 a12 a13 a14 a15 a16 a17 a18 a19 a20 a21 a22 : Nat → Int32} {g : Nat} {G : Nat → Int32} (hg : ga = nI g) (hl : g ≤ 96) (hG : ∀ j, j < g → a21 j = G j) (H : ∀ t, (∀ j, j < g → t j = zc_od g G j) → post (rc, pc, ds, cd, ga, ls, a1, a2, a3, a4, a5, a6, a7, a8, a9, a10, a11, a12, a13, a14, a15, a16, a17, a18, a19, a20, t, a22)) : wpX_order post (rc, pc, ds, cd, ga, ls, a1, a2, a3, a4, a5, a6, a7, a8, a9, a10, a11, a12, a13, a14, a15, a16, a17, a18, a19, a20, a21, a22) := by
  have e0 : ga = nI g := hg
  subst e0
  have second : ∀ s G1, (∀ j, j < g → s j = G1 j) → (∀ t, (∀ j, j < g → t j = zc_o2 (g - 1) G1 j) → post (rc, pc, ds, cd, nI g, ls, a1, a2, a3, a4, a5, a6, a7, a8, a9, a10, a11, a12, a13, a14, a15, a16, a17, a18, a19, a20, t, a22)) → ∃ fu, wX_order_35 post fu (nI g - 1) rc pc ds cd (nI g) ls a1 a2 a3 a4 a5 a6 a7 a8 a9 a10 a11 a12 a13 a14 a15 a16 a17 a18 a19 a20 s a22 := by
    intro s G1 hs Hs
    rcases Nat.eq_zero_or_pos g with z | z
    · subst z
      exact ⟨1, br_t (by decide) (Hs s hs)⟩
    · rw [zc_s1 z]
      refine ⟨g - 1 + 1, pk_loopD (fun n k t => wX_order_35 post n (nI k) rc pc ds cd (nI g) ls a1 a2 a3 a4 a5 a6 a7 a8 a9 a10 a11 a12 a13 a14 a15 a16 a17 a18 a19 a20 t a22) (fun k t => k ≤ g - 1 ∧ ∃ G2, (∀ j, j < g → t j = G2 j) ∧ zc_o2 k G2 = zc_o2 (g - 1) G1) ?_ ?_ (g - 1) s ⟨Nat.le_refl _, G1, hs, rfl⟩⟩
      · intro n t ⟨_, G2, h1, h2⟩
        refine pk_le 0 0 (fun _ => Hs t ?_) (fun z => absurd z (by omega))
        rw [← h2]
        exact h1
      · intro n k t ⟨hk, G2, h1, h2⟩ hn
        refine pk_le (k + 1) 0 (fun z => absurd z (by omega)) (fun _ => nm_e ⟨pk_in (k + 1) 96 (by omega), nm_e ⟨pk_in (k + 1) 96 (by omega), nm_e ?_⟩⟩)
        rw [nI_clamp (show k + 1 < 2 ^ 31 by omega), h1 0 (by omega), h1 (k + 1) (by omega)]
        refine zc_sink (a := 0) (size := k + 1) (g := g) (G := upd (upd G2 0 (G2 (k + 1))) (k + 1) (G2 0)) (by omega) hl (by omega) (zc_upd_c (zc_upd_c h1)) (fun t' ht' => nm_r (pk_m1 k) (hn t' ⟨by omega, _, ht', h2⟩))
  refine ⟨zc_n2, nm_r (e' := nI (g / 2) - 1) ?_ ⟨g / 2 + 1, pk_loopD (fun n k t => wX_order_9 post n (nI k - 1) rc pc ds cd (nI g) ls a1 a2 a3 a4 a5 a6 a7 a8 a9 a10 a11 a12 a13 a14 a15 a16 a17 a18 a19 a20 t a22) (fun k t => k ≤ g / 2 ∧ ∃ G2, (∀ j, j < g → t j = G2 j) ∧ zc_o1 g k G2 = zc_o1 g (g / 2) G) ?_ ?_ (g / 2) a21 ⟨Nat.le_refl _, G, hG, rfl⟩⟩⟩
  · rw [show nI g / (2 : Int32) = nI (g / 2) from pk_div (d := 2) (by omega) (by omega) (by omega)]
  · intro n t ⟨_, G2, h1, h2⟩
    refine br_t (by decide) (nm_e (second t G2 h1 (fun t' ht' => H t' ?_)))
    unfold zc_od
    rw [← h2]
    exact ht'
  · intro n k t ⟨hk, G2, h1, h2⟩ hn
    have e : nI (k + 1) - 1 = nI k := nI_pred k
    show wX_order_9 post (n + 1) (nI (k + 1) - 1) rc pc ds cd (nI g) ls a1 a2 a3 a4 a5 a6 a7 a8 a9 a10 a11 a12 a13 a14 a15 a16 a17 a18 a19 a20 t a22
    rw [e]
    refine br_f (nI_pos (by omega)) ?_
    refine zc_sink (a := k) (size := g) (g := g) (G := G2) (Nat.le_refl _) hl (by omega) h1 (fun t' ht' => nm_r (zc_m1 k) (hn t' ⟨by omega, _, ht', h2⟩))
/-! answers over the chosen rows -/
def zc_ss (G : Nat → Int32) : Nat → Int32
  | 0 => 0
  | k + 1 => zc_ss G k + G k
theorem zc_sum {post : Int32 → St1 → Prop} {rc pc ds cd ga : Int32} {ls : Int64} {a1 a2 a3 a4 a5 a6 a7 a8 a9 a10 a11 a12 a13 a14 a15 a16 a17 a18 a19 a20 a21 a22 : Nat → Int32} {m : Bool} {P : zc_Pic} {c : Nat} (ok : zc_Ok P) (h : zc_Mt m P rc pc cd a1 a2 a3 a4 a5 a6 a7 a8 a9 a10 a11 a12 a13 a14 a17 a18 a19) (hc : c < 3) (H : ∀ (rc pc ds cd ga : Int32) (ls : Int64) (a1 a2 a3 a4 a5 a6 a7 a8 a9 a10 a11 a12 a13 a14 a15 a16 a17 a18 a19 a20 a21 a22 : Nat → Int32), zc_Mt m P rc pc cd a1 a2 a3 a4 a5 a6 a7 a8 a9 a10 a11 a12 a13 a14 a17 a18 a19 → post (zc_ss (zc_gG P c) (zc_gN P c)) (rc, pc, ds, cd, ga, ls, a1, a2, a3, a4, a5, a6, a7, a8, a9, a10, a11, a12, a13, a14, a15, a16, a17, a18, a19, a20, a21, a22)) : wpX_sum post (rc, pc, ds, cd, ga, ls, a1, a2, a3, a4, a5, a6, a7, a8, a9, a10, a11, a12, a13, a14, a15, a16, a17, a18, a19, a20, a21, a22) (nI (zc_sg m c)) := by
  unfold wpX_sum
  dsimp only
  refine zc_goodColumn (zc_sg_lt m hc) (zc_gather ok h hc (fun rc pc ds cd ga ls a1 a2 a3 a4 a5 a6 a7 a8 a9 a10 a11 a12 a13 a14 a15 a16 a17 a18 a19 a20 a21 a22 h' hg hG => ?_))
  have hl := zc_gN_le P c
  have e0 : ga = nI (zc_gN P c) := hg
  refine pk_loop (fun n k s => wX_sum_20 post rc pc ds cd ga ls a1 a2 a3 a4 a5 a6 a7 a8 a9 a10 a11 a12 a13 a14 a15 a16 a17 a18 a19 a20 a21 a22 n s (nI k)) (fun k s => s = zc_ss (zc_gG P c) k) (zc_gN P c) 0 0 (by omega) rfl ?_ ?_
  · intro n s hs
    exact pk_le (zc_gN P c) (zc_gN P c) (fun _ => by rw [hs]; exact H _ _ _ _ _ _ _ _ _ _ _ _ _ _ _ _ _ _ _ _ _ _ _ _ _ _ _ _ h') (fun z => absurd z (by omega)) e0
  · intro n k s hk hs hn
    refine pk_le (zc_gN P c) k (fun z => absurd z (by omega)) (fun _ => ⟨pk_in k 96 (by omega), nm_e (nm_r (nI_1 k) (hn _ ?_))⟩) e0
    rw [nI_clamp (by omega), show a21 k = zc_gG P c k from hG k hk, hs]
    rfl
def zc_gO (P : zc_Pic) (c : Nat) : Nat → Int32 := zc_od (zc_gN P c) (zc_gG P c)
def zc_lsR (P : zc_Pic) (c : Nat) : Int32 := if zc_gN P c = 0 then -1000000003 else zc_gO P c 0
theorem zc_least {post : Int32 → St1 → Prop} {rc pc ds cd ga : Int32} {ls : Int64} {a1 a2 a3 a4 a5 a6 a7 a8 a9 a10 a11 a12 a13 a14 a15 a16 a17 a18 a19 a20 a21 a22 : Nat → Int32} {m : Bool} {P : zc_Pic} {c : Nat} (ok : zc_Ok P) (h : zc_Mt m P rc pc cd a1 a2 a3 a4 a5 a6 a7 a8 a9 a10 a11 a12 a13 a14 a17 a18 a19) (hc : c < 3) (H : ∀ (rc pc ds cd ga : Int32) (ls : Int64) (a1 a2 a3 a4 a5 a6 a7 a8 a9 a10 a11 a12 a13 a14 a15 a16 a17 a18 a19 a20 a21 a22 : Nat → Int32), zc_Mt m P rc pc cd a1 a2 a3 a4 a5 a6 a7 a8 a9 a10 a11 a12 a13 a14 a17 a18 a19 → post (zc_lsR P c) (rc, pc, ds, cd, ga, ls, a1, a2, a3, a4, a5, a6, a7, a8, a9, a10, a11, a12, a13, a14, a15, a16, a17, a18, a19, a20, a21, a22)) : wpX_least post (rc, pc, ds, cd, ga, ls, a1, a2, a3, a4, a5, a6, a7, a8, a9, a10, a11, a12, a13, a14, a15, a16, a17, a18, a19, a20, a21, a22) (nI (zc_sg m c)) := by
  unfold wpX_least
  dsimp only
  refine zc_goodColumn (zc_sg_lt m hc) (zc_gather ok h hc (fun rc pc ds cd ga ls a1 a2 a3 a4 a5 a6 a7 a8 a9 a10 a11 a12 a13 a14 a15 a16 a17 a18 a19 a20 a21 a22 h' hg hG => ?_))
  have hl := zc_gN_le P c
  have e0 : ga = nI (zc_gN P c) := hg
  refine zc_order hg hl hG (fun t ht => ?_)
  dsimp only
  replace ht : ∀ j, j < zc_gN P c → t j = zc_gO P c j := ht
  unfold zc_lsR at H
  refine pk_eq (zc_gN P c) 0 (fun z => ?_) (fun z => ?_) e0
  · rw [if_pos z] at H
    exact H _ _ _ _ _ _ _ _ _ _ _ _ _ _ _ _ _ _ _ _ _ _ _ _ _ _ _ _ h'
  · rw [if_neg z, ← ht 0 (by omega)] at H
    exact H _ _ _ _ _ _ _ _ _ _ _ _ _ _ _ _ _ _ _ _ _ _ _ _ _ _ _ _ h'
def zc_rkR (P : zc_Pic) (c r : Nat) : Int32 := if r < zc_gN P c then zc_gO P c (zc_gN P c - 1 - r) else -1000000003
theorem zc_ranked {post : Int32 → St1 → Prop} {rc pc ds cd ga : Int32} {ls : Int64} {a1 a2 a3 a4 a5 a6 a7 a8 a9 a10 a11 a12 a13 a14 a15 a16 a17 a18 a19 a20 a21 a22 : Nat → Int32} {m : Bool} {P : zc_Pic} {c r : Nat} (ok : zc_Ok P) (h : zc_Mt m P rc pc cd a1 a2 a3 a4 a5 a6 a7 a8 a9 a10 a11 a12 a13 a14 a17 a18 a19) (hc : c < 3) (hr : r < 96) (H : ∀ (rc pc ds cd ga : Int32) (ls : Int64) (a1 a2 a3 a4 a5 a6 a7 a8 a9 a10 a11 a12 a13 a14 a15 a16 a17 a18 a19 a20 a21 a22 : Nat → Int32), zc_Mt m P rc pc cd a1 a2 a3 a4 a5 a6 a7 a8 a9 a10 a11 a12 a13 a14 a17 a18 a19 → post (zc_rkR P c r) (rc, pc, ds, cd, ga, ls, a1, a2, a3, a4, a5, a6, a7, a8, a9, a10, a11, a12, a13, a14, a15, a16, a17, a18, a19, a20, a21, a22)) : wpX_ranked post (rc, pc, ds, cd, ga, ls, a1, a2, a3, a4, a5, a6, a7, a8, a9, a10, a11, a12, a13, a14, a15, a16, a17, a18, a19, a20, a21, a22) (nI (zc_sg m c)) (nI r) := by
  unfold wpX_ranked
  dsimp only
  refine zc_goodColumn (zc_sg_lt m hc) (zc_gather ok h hc (fun rc pc ds cd ga ls a1 a2 a3 a4 a5 a6 a7 a8 a9 a10 a11 a12 a13 a14 a15 a16 a17 a18 a19 a20 a21 a22 h' hg hG => ?_))
  have hl := zc_gN_le P c
  have e0 : ga = nI (zc_gN P c) := hg
  refine zc_order hg hl hG (fun t ht => ?_)
  dsimp only
  replace ht : ∀ j, j < zc_gN P c → t j = zc_gO P c j := ht
  unfold zc_rkR at H
  refine br_f (nI_pos (by omega)) (pk_lt r (zc_gN P c) (fun z => ?_) (fun z => ?_) rfl e0)
  · have e : ga - 1 - nI r = nI (zc_gN P c - 1 - r) := by rw [e0, zc_s1 (by omega), pk_sub (by omega)]
    rw [if_pos z, ← ht _ (by omega)] at H
    refine ⟨pk_in _ 96 (by omega) e, ?_⟩
    rw [e, nI_clamp (by omega)]
    exact H _ _ _ _ _ _ _ _ _ _ _ _ _ _ _ _ _ _ _ _ _ _ _ _ _ _ _ _ h'
  · rw [if_neg (by omega)] at H
    exact H _ _ _ _ _ _ _ _ _ _ _ _ _ _ _ _ _ _ _ _ _ _ _ _ _ _ _ _ h'
def zc_df (G : Nat → Int32) : Nat → Int32
  | 0 => 0
  | k + 1 => if k = 0 then zc_df G k + 1 else if G k = G (k - 1) then zc_df G k else zc_df G k + 1
theorem zc_different {post : Int32 → St1 → Prop} {rc pc ds cd ga : Int32} {ls : Int64} {a1 a2 a3 a4 a5 a6 a7 a8 a9 a10 a11 a12 a13 a14 a15 a16 a17 a18 a19 a20 a21 a22 : Nat → Int32} {m : Bool} {P : zc_Pic} {c : Nat} (ok : zc_Ok P) (h : zc_Mt m P rc pc cd a1 a2 a3 a4 a5 a6 a7 a8 a9 a10 a11 a12 a13 a14 a17 a18 a19) (hc : c < 3) (H : ∀ (rc pc ds cd ga : Int32) (ls : Int64) (a1 a2 a3 a4 a5 a6 a7 a8 a9 a10 a11 a12 a13 a14 a15 a16 a17 a18 a19 a20 a21 a22 : Nat → Int32), zc_Mt m P rc pc cd a1 a2 a3 a4 a5 a6 a7 a8 a9 a10 a11 a12 a13 a14 a17 a18 a19 → post (zc_df (zc_gO P c) (zc_gN P c)) (rc, pc, ds, cd, ga, ls, a1, a2, a3, a4, a5, a6, a7, a8, a9, a10, a11, a12, a13, a14, a15, a16, a17, a18, a19, a20, a21, a22)) : wpX_different post (rc, pc, ds, cd, ga, ls, a1, a2, a3, a4, a5, a6, a7, a8, a9, a10, a11, a12, a13, a14, a15, a16, a17, a18, a19, a20, a21, a22) (nI (zc_sg m c)) := by
  unfold wpX_different
  dsimp only
  refine zc_goodColumn (zc_sg_lt m hc) (zc_gather ok h hc (fun rc pc ds cd ga ls a1 a2 a3 a4 a5 a6 a7 a8 a9 a10 a11 a12 a13 a14 a15 a16 a17 a18 a19 a20 a21 a22 h' hg hG => ?_))
  have hl := zc_gN_le P c
  have e0 : ga = nI (zc_gN P c) := hg
  refine zc_order hg hl hG (fun t ht => ?_)
  dsimp only
  replace ht : ∀ j, j < zc_gN P c → t j = zc_gO P c j := ht
  refine pk_loop (fun n k s => wX_different_24 post rc pc ds cd ga ls a1 a2 a3 a4 a5 a6 a7 a8 a9 a10 a11 a12 a13 a14 a15 a16 a17 a18 a19 a20 t a22 n s (nI k)) (fun k s => s = zc_df (zc_gO P c) k) (zc_gN P c) 0 0 (by omega) rfl ?_ ?_
  · intro n s hs
    exact pk_le (zc_gN P c) (zc_gN P c) (fun _ => by rw [hs]; exact H _ _ _ _ _ _ _ _ _ _ _ _ _ _ _ _ _ _ _ _ _ _ _ _ _ _ _ _ h') (fun z => absurd z (by omega)) e0
  · intro n k s hk hs hn
    refine pk_le (zc_gN P c) k (fun z => absurd z (by omega)) (fun _ => pk_eq k 0 (fun z => nm_e (nm_r (nI_1 k) (hn _ ?_))) (fun z => ⟨pk_in k 96 (by omega), pk_in (k - 1) 96 (by omega) (zc_s1 (by omega)), ?_⟩)) e0
    · rw [hs]
      exact (if_pos z).symm
    · rw [zc_s1 (by omega), nI_clamp (show k < 2 ^ 31 by omega), nI_clamp (show k - 1 < 2 ^ 31 by omega), ht k hk, ht (k - 1) (by omega)]
      refine ⟨fun y => nm_r (nI_1 k) (hn _ ?_), fun y => nm_e (nm_r (nI_1 k) (hn _ ?_))⟩
      · rw [hs]
        exact ((if_neg z).trans (if_pos y)).symm
      · rw [hs]
        exact ((if_neg z).trans (if_neg y)).symm
/-- best, most, run -/
def zc_cr (G : Nat → Int32) (k : Nat) (run : Int32) : Int32 := if k = 0 then 1 else if G k = G (k - 1) then run + 1 else 1
def zc_cm (G : Nat → Int32) : Nat → Int32 × Int32 × Int32
  | 0 => (-1000000003, 0, 0)
  | k + 1 => if zc_cr G k (zc_cm G k).2.2 ≤ (zc_cm G k).2.1 then ((zc_cm G k).1, (zc_cm G k).2.1, zc_cr G k (zc_cm G k).2.2) else (G k, zc_cr G k (zc_cm G k).2.2, zc_cr G k (zc_cm G k).2.2)
theorem zc_commonest {post : Int32 → St1 → Prop} {rc pc ds cd ga : Int32} {ls : Int64} {a1 a2 a3 a4 a5 a6 a7 a8 a9 a10 a11 a12 a13 a14 a15 a16 a17 a18 a19 a20 a21 a22 : Nat → Int32} {m : Bool} {P : zc_Pic} {c : Nat} (ok : zc_Ok P) (h : zc_Mt m P rc pc cd a1 a2 a3 a4 a5 a6 a7 a8 a9 a10 a11 a12 a13 a14 a17 a18 a19) (hc : c < 3) (H : ∀ (rc pc ds cd ga : Int32) (ls : Int64) (a1 a2 a3 a4 a5 a6 a7 a8 a9 a10 a11 a12 a13 a14 a15 a16 a17 a18 a19 a20 a21 a22 : Nat → Int32), zc_Mt m P rc pc cd a1 a2 a3 a4 a5 a6 a7 a8 a9 a10 a11 a12 a13 a14 a17 a18 a19 → post (zc_cm (zc_gO P c) (zc_gN P c)).1 (rc, pc, ds, cd, ga, ls, a1, a2, a3, a4, a5, a6, a7, a8, a9, a10, a11, a12, a13, a14, a15, a16, a17, a18, a19, a20, a21, a22)) : wpX_commonest post (rc, pc, ds, cd, ga, ls, a1, a2, a3, a4, a5, a6, a7, a8, a9, a10, a11, a12, a13, a14, a15, a16, a17, a18, a19, a20, a21, a22) (nI (zc_sg m c)) := by
  unfold wpX_commonest
  dsimp only
  refine zc_goodColumn (zc_sg_lt m hc) (zc_gather ok h hc (fun rc pc ds cd ga ls a1 a2 a3 a4 a5 a6 a7 a8 a9 a10 a11 a12 a13 a14 a15 a16 a17 a18 a19 a20 a21 a22 h' hg hG => ?_))
  have hl := zc_gN_le P c
  have e0 : ga = nI (zc_gN P c) := hg
  refine zc_order hg hl hG (fun t ht => ?_)
  dsimp only
  replace ht : ∀ j, j < zc_gN P c → t j = zc_gO P c j := ht
  refine pk_loop (fun n k (s : Int32 × Int32 × Int32) => wX_commonest_31 post rc pc ds cd ga ls a1 a2 a3 a4 a5 a6 a7 a8 a9 a10 a11 a12 a13 a14 a15 a16 a17 a18 a19 a20 t a22 n s.1 s.2.1 s.2.2 (nI k)) (fun k s => s = zc_cm (zc_gO P c) k) (zc_gN P c) 0 (-1000000003, 0, 0) (by omega) rfl ?_ ?_
  · intro n s hs
    exact pk_le (zc_gN P c) (zc_gN P c) (fun _ => by rw [hs]; exact H _ _ _ _ _ _ _ _ _ _ _ _ _ _ _ _ _ _ _ _ _ _ _ _ _ _ _ _ h') (fun z => absurd z (by omega)) e0
  · intro n k s hk hs hn
    have hst : zc_cm (zc_gO P c) (k + 1) = if zc_cr (zc_gO P c) k s.2.2 ≤ s.2.1 then (s.1, s.2.1, zc_cr (zc_gO P c) k s.2.2) else (zc_gO P c k, zc_cr (zc_gO P c) k s.2.2, zc_cr (zc_gO P c) k s.2.2) := by rw [hs]; rfl
    have fin : ∀ z : Int32, z = zc_cr (zc_gO P c) k s.2.2 → wX_commonest_72 post (wX_commonest_31 post rc pc ds cd ga ls a1 a2 a3 a4 a5 a6 a7 a8 a9 a10 a11 a12 a13 a14 a15 a16 a17 a18 a19 a20 t a22 n) s.1 s.2.1 (nI k) z rc pc ds cd ga ls a1 a2 a3 a4 a5 a6 a7 a8 a9 a10 a11 a12 a13 a14 a15 a16 a17 a18 a19 a20 t a22 := by
      intro z hz
      rw [← hz] at hst
      refine ⟨fun y => ?_, fun y => ⟨pk_in k 96 (by omega), ?_⟩⟩
      · rw [if_pos y] at hst
        exact br_t y (nm_r (nI_1 k) (hn (s.1, s.2.1, z) hst.symm))
      · rw [if_neg y] at hst
        rw [nI_clamp (by omega), ht k hk]
        exact br_f y (nm_r (nI_1 k) (hn (_, z, z) hst.symm))
    refine pk_le (zc_gN P c) k (fun z => absurd z (by omega)) (fun _ => pk_le k 0 (fun z => fin 1 (if_pos (by omega)).symm) (fun z => ⟨pk_in k 96 (by omega), pk_in (k - 1) 96 (by omega) (zc_s1 (by omega)), ?_⟩)) e0
    rw [zc_s1 (by omega), nI_clamp (show k < 2 ^ 31 by omega), nI_clamp (show k - 1 < 2 ^ 31 by omega), ht k hk, ht (k - 1) (by omega)]
    exact ⟨fun y => fin _ ((if_neg (by omega)).trans (if_pos y)).symm, fun y => fin _ ((if_neg (by omega)).trans (if_neg y)).symm⟩
end
section
def zc_dg (P : zc_Pic) (c : Nat) : Nat → Int32
  | 0 => 32 * nI (zc_n P % 16)
  | b + 1 => zc_dg P c b + zc_tak (zc_col P b c)
theorem zc_digits {post : Int32 → Prop} {rc pc ds cd ga : Int32} {ls : Int64} {a1 a2 a3 a4 a5 a6 a7 a8 a9 a10 a11 a12 a13 a14 a15 a16 a17 a18 a19 a20 a21 a22 : Nat → Int32} {m : Bool} {P : zc_Pic} {c : Nat} (ok : zc_Ok P) (h : zc_Mt m P rc pc cd a1 a2 a3 a4 a5 a6 a7 a8 a9 a10 a11 a12 a13 a14 a17 a18 a19) (hc : c < 3) (H : post (zc_dg P c (zc_n P / 16))) : wpX_digits post (rc, pc, ds, cd, ga, ls, a1, a2, a3, a4, a5, a6, a7, a8, a9, a10, a11, a12, a13, a14, a15, a16, a17, a18, a19, a20, a21, a22) (nI (zc_sg m c)) := by
  unfold wpX_digits
  dsimp only
  obtain ⟨m1, m2, m3, m4, m5, m6, m7, m8⟩ := h
  have o1 := ok.1
  have hsc := zc_sg_lt m hc
  refine zc_goodColumn hsc ⟨zc_n16, nm_r (e' := 32 * nI (zc_n P % 16)) ?_ ?_⟩
  · rw [show rc = nI (zc_n P) from m1, zc_r16 (by omega)]
  · refine pk_loop (fun n b s => wX_digits_24 post (nI (zc_sg m c)) rc pc ds cd ga ls a1 a2 a3 a4 a5 a6 a7 a8 a9 a10 a11 a12 a13 a14 a15 a16 a17 a18 a19 a20 a21 a22 n s (nI b)) (fun b s => s = zc_dg P c b) (zc_n P / 16) 0 (32 * nI (zc_n P % 16)) (by omega) rfl ?_ ?_
    · intro n s h
      show wX_digits_24 post (nI (zc_sg m c)) rc pc ds cd ga ls a1 a2 a3 a4 a5 a6 a7 a8 a9 a10 a11 a12 a13 a14 a15 a16 a17 a18 a19 a20 a21 a22 (n + 1) s (nI (zc_n P / 16))
      unfold wX_digits_24
      exact zc_blockCount (n := zc_n P) m1 (by omega) (pk_le (zc_n P / 16) (zc_n P / 16) (fun _ => h ▸ H) (fun z => absurd z (by omega)))
    · intro n b s hb h hn
      show wX_digits_24 post (nI (zc_sg m c)) rc pc ds cd ga ls a1 a2 a3 a4 a5 a6 a7 a8 a9 a10 a11 a12 a13 a14 a15 a16 a17 a18 a19 a20 a21 a22 (n + 1) s (nI b)
      unfold wX_digits_24
      refine zc_blockCount (n := zc_n P) m1 (by omega) (pk_le (zc_n P / 16) b (fun z => absurd z (by omega)) (fun _ => ⟨pk_in (3 * b + zc_sg m c) 18 (by omega) (zc_3c _ _), nm_e (nm_r (nI_1 b) (hn _ ?_))⟩))
      have c9 := (m5 b c (by omega) hc).2.2.2.2.2.2.2.1
      rw [zc_3c, nI_clamp (by omega), show a9 (3 * b + zc_sg m c) = zc_tak (zc_col P b c) from c9, h]
      rfl
def zc_fmR (P : zc_Pic) (b c : Nat) : Int32 := if b < zc_n P / 16 then nI (zc_col P b c).1 else -1000000003
theorem zc_form {post : Int32 → Prop} {rc pc ds cd ga : Int32} {ls : Int64} {a1 a2 a3 a4 a5 a6 a7 a8 a9 a10 a11 a12 a13 a14 a15 a16 a17 a18 a19 a20 a21 a22 : Nat → Int32} {m : Bool} {P : zc_Pic} {b c : Nat} (ok : zc_Ok P) (h : zc_Mt m P rc pc cd a1 a2 a3 a4 a5 a6 a7 a8 a9 a10 a11 a12 a13 a14 a17 a18 a19) (hb : b < 96) (hc : c < 3) (H : post (zc_fmR P b c)) : wpX_form post (rc, pc, ds, cd, ga, ls, a1, a2, a3, a4, a5, a6, a7, a8, a9, a10, a11, a12, a13, a14, a15, a16, a17, a18, a19, a20, a21, a22) (nI b) (nI (zc_sg m c)) := by
  unfold wpX_form
  dsimp only
  obtain ⟨m1, m2, m3, m4, m5, m6, m7, m8⟩ := h
  have o1 := ok.1
  have hsc := zc_sg_lt m hc
  unfold zc_fmR at H
  refine zc_goodColumn hsc (br_f (nI_pos (by omega)) (zc_blockCount (n := zc_n P) m1 (by omega) (pk_lt b (zc_n P / 16) (fun z => ⟨pk_in (3 * b + zc_sg m c) 18 (by omega) (zc_3c _ _), ?_⟩) (fun z => ?_))))
  · rw [if_pos z] at H
    rw [zc_3c, nI_clamp (by omega), show a2 (3 * b + zc_sg m c) = nI (zc_col P b c).1 from (m5 b c (by omega) hc).1]
    exact H
  · rw [if_neg (by omega)] at H
    exact H
theorem zc_rows {post : Int32 → Prop} {rc pc ds cd ga : Int32} {ls : Int64} {a1 a2 a3 a4 a5 a6 a7 a8 a9 a10 a11 a12 a13 a14 a15 a16 a17 a18 a19 a20 a21 a22 : Nat → Int32} {m : Bool} {P : zc_Pic} (h : zc_Mt m P rc pc cd a1 a2 a3 a4 a5 a6 a7 a8 a9 a10 a11 a12 a13 a14 a17 a18 a19) (H : post (nI (zc_n P))) : wpX_rows post (rc, pc, ds, cd, ga, ls, a1, a2, a3, a4, a5, a6, a7, a8, a9, a10, a11, a12, a13, a14, a15, a16, a17, a18, a19, a20, a21, a22) := by
  have e1 : rc = nI (zc_n P) := h.1
  show post rc
  rw [e1]
  exact H
theorem zc_patches {post : Int32 → Prop} {rc pc ds cd ga : Int32} {ls : Int64} {a1 a2 a3 a4 a5 a6 a7 a8 a9 a10 a11 a12 a13 a14 a15 a16 a17 a18 a19 a20 a21 a22 : Nat → Int32} {m : Bool} {P : zc_Pic} (h : zc_Mt m P rc pc cd a1 a2 a3 a4 a5 a6 a7 a8 a9 a10 a11 a12 a13 a14 a17 a18 a19) (H : post (nI (zc_k P))) : wpX_patches post (rc, pc, ds, cd, ga, ls, a1, a2, a3, a4, a5, a6, a7, a8, a9, a10, a11, a12, a13, a14, a15, a16, a17, a18, a19, a20, a21, a22) := by
  have e1 : pc = nI (zc_k P) := h.2.1
  show post pc
  rw [e1]
  exact H
theorem zc_blocks {post : Int32 → Prop} {rc pc ds cd ga : Int32} {ls : Int64} {a1 a2 a3 a4 a5 a6 a7 a8 a9 a10 a11 a12 a13 a14 a15 a16 a17 a18 a19 a20 a21 a22 : Nat → Int32} {m : Bool} {P : zc_Pic} (ok : zc_Ok P) (h : zc_Mt m P rc pc cd a1 a2 a3 a4 a5 a6 a7 a8 a9 a10 a11 a12 a13 a14 a17 a18 a19) (H : post (nI (zc_n P / 16))) : wpX_blocks post (rc, pc, ds, cd, ga, ls, a1, a2, a3, a4, a5, a6, a7, a8, a9, a10, a11, a12, a13, a14, a15, a16, a17, a18, a19, a20, a21, a22) := by
  unfold wpX_blocks
  dsimp only
  have o1 := ok.1
  exact zc_blockCount (n := zc_n P) h.1 (by omega) H
/-! counting -/
def zc_bo (s : Int32) : Nat → Int32
  | 0 => 0
  | i + 1 => zc_bo s i + ((s >>> (nI i &&& 31)) &&& 1)
theorem zc_bitsOf {post : Int32 → Prop} {rc pc ds cd ga : Int32} {ls : Int64} {a1 a2 a3 a4 a5 a6 a7 a8 a9 a10 a11 a12 a13 a14 a15 a16 a17 a18 a19 a20 a21 a22 : Nat → Int32} {s : Int32} (H : post (zc_bo s 16)) : wpX_bitsOf post (rc, pc, ds, cd, ga, ls, a1, a2, a3, a4, a5, a6, a7, a8, a9, a10, a11, a12, a13, a14, a15, a16, a17, a18, a19, a20, a21, a22) s := by
  refine pk_loop (fun n i x => wX_bitsOf_4 post s rc pc ds cd ga ls a1 a2 a3 a4 a5 a6 a7 a8 a9 a10 a11 a12 a13 a14 a15 a16 a17 a18 a19 a20 a21 a22 n x (nI i)) (fun i x => x = zc_bo s i) 16 0 0 (by omega) rfl ?_ ?_
  · intro n x h
    exact pk_le 16 16 (fun _ => h ▸ H) (fun z => absurd z (by omega))
  · intro n i x hi h hn
    exact pk_le 16 i (fun z => absurd z (by omega)) (fun _ => nm_e (nm_r (nI_1 i) (hn _ (by rw [h]; rfl))))
def zc_ct (P : zc_Pic) : Nat → Int32
  | 0 => 0
  | b + 1 => zc_ct P b + zc_bo (zc_ch P b) 16
theorem zc_count {post : Int32 → St1 → Prop} {rc pc ds cd ga : Int32} {ls : Int64} {a1 a2 a3 a4 a5 a6 a7 a8 a9 a10 a11 a12 a13 a14 a15 a16 a17 a18 a19 a20 a21 a22 : Nat → Int32} {m : Bool} {P : zc_Pic} (ok : zc_Ok P) (h : zc_Mt m P rc pc cd a1 a2 a3 a4 a5 a6 a7 a8 a9 a10 a11 a12 a13 a14 a17 a18 a19) (H : ∀ (rc pc ds cd ga : Int32) (ls : Int64) (a1 a2 a3 a4 a5 a6 a7 a8 a9 a10 a11 a12 a13 a14 a15 a16 a17 a18 a19 a20 a21 a22 : Nat → Int32), zc_Mt m P rc pc cd a1 a2 a3 a4 a5 a6 a7 a8 a9 a10 a11 a12 a13 a14 a17 a18 a19 → post (zc_ct P (zc_n P / 16 + 1)) (rc, pc, ds, cd, ga, ls, a1, a2, a3, a4, a5, a6, a7, a8, a9, a10, a11, a12, a13, a14, a15, a16, a17, a18, a19, a20, a21, a22)) : wpX_count post (rc, pc, ds, cd, ga, ls, a1, a2, a3, a4, a5, a6, a7, a8, a9, a10, a11, a12, a13, a14, a15, a16, a17, a18, a19, a20, a21, a22) := by
  unfold wpX_count
  dsimp only
  refine zc_choose ok h (fun b15 b20 h20 => ?_)
  have o1 := ok.1
  refine pk_loop (fun n b s => wX_count_8 post rc pc ds cd ga ls a1 a2 a3 a4 a5 a6 a7 a8 a9 a10 a11 a12 a13 a14 b15 a16 a17 a18 a19 b20 a21 a22 n s (nI b)) (fun b s => s = zc_ct P b) (zc_n P / 16 + 1) 0 0 (by omega) rfl ?_ ?_
  · intro n s hs
    show wX_count_8 post rc pc ds cd ga ls a1 a2 a3 a4 a5 a6 a7 a8 a9 a10 a11 a12 a13 a14 b15 a16 a17 a18 a19 b20 a21 a22 (n + 1) s (nI (zc_n P / 16 + 1))
    unfold wX_count_8
    exact zc_blockCount (n := zc_n P) h.1 (by omega) (pk_lt (zc_n P / 16) (zc_n P / 16 + 1) (fun _ => by rw [hs]; exact H _ _ _ _ _ _ _ _ _ _ _ _ _ _ _ _ _ _ _ _ _ _ _ _ _ _ _ _ h) (fun z => absurd z (by omega)))
  · intro n b s hb hs hn
    show wX_count_8 post rc pc ds cd ga ls a1 a2 a3 a4 a5 a6 a7 a8 a9 a10 a11 a12 a13 a14 b15 a16 a17 a18 a19 b20 a21 a22 (n + 1) s (nI b)
    unfold wX_count_8
    refine zc_blockCount (n := zc_n P) h.1 (by omega) (pk_lt (zc_n P / 16) b (fun z => absurd z (by omega)) (fun _ => ⟨pk_in b 7 (by omega), zc_bitsOf (nm_e (nm_r (nI_1 b) (hn _ ?_)))⟩))
    rw [nI_clamp (by omega), h20 b (by omega), hs]
    rfl
/-- seen, found -/
def zc_po (s k : Int32) : Nat → Int32 × Int32
  | 0 => (0, 0)
  | i + 1 => if zc_bt s i = true then ((zc_po s k i).1 + 1, if (zc_po s k i).1 = k then nI i else (zc_po s k i).2) else zc_po s k i
theorem zc_placeOf {post : Int32 → Prop} {rc pc ds cd ga : Int32} {ls : Int64} {a1 a2 a3 a4 a5 a6 a7 a8 a9 a10 a11 a12 a13 a14 a15 a16 a17 a18 a19 a20 a21 a22 : Nat → Int32} {s k : Int32} (H : post (zc_po s k 16).2) : wpX_placeOf post (rc, pc, ds, cd, ga, ls, a1, a2, a3, a4, a5, a6, a7, a8, a9, a10, a11, a12, a13, a14, a15, a16, a17, a18, a19, a20, a21, a22) s k := by
  refine pk_loop (fun n i (x : Int32 × Int32) => wX_placeOf_8 post s k rc pc ds cd ga ls a1 a2 a3 a4 a5 a6 a7 a8 a9 a10 a11 a12 a13 a14 a15 a16 a17 a18 a19 a20 a21 a22 n x.1 x.2 (nI i)) (fun i x => x = zc_po s k i) 16 0 (0, 0) (by omega) rfl ?_ ?_
  · intro n x h
    exact pk_le 16 16 (fun _ => h ▸ H) (fun z => absurd z (by omega))
  · intro n i x hi h hn
    have hst : zc_po s k (i + 1) = if zc_bt s i = true then (x.1 + 1, if x.1 = k then nI i else x.2) else x := by rw [h]; rfl
    refine pk_le 16 i (fun z => absurd z (by omega)) (fun _ => ⟨fun z => br_f (by decide) ⟨fun y => br_f (by decide) (nm_e (nm_r (nI_1 i) (hn (x.1 + 1, nI i) ?_))), fun y => br_f (by decide) (nm_e (nm_r (nI_1 i) (hn (x.1 + 1, x.2) ?_)))⟩, fun z => br_t rfl (br_t rfl (nm_r (nI_1 i) (hn (x.1, x.2) ?_)))⟩)
    · rw [hst, if_pos ((zc_bit_iff (by omega)).mp z), if_pos y]
    · rw [hst, if_pos ((zc_bit_iff (by omega)).mp z), if_neg y]
    · rw [hst, if_neg (fun y => z ((zc_bit_iff (by omega)).mpr y))]
def zc_cs (P : zc_Pic) : Nat → Nat → Int32 → Int32
  | 0, _, _ => -1000000003
  | r + 1, b, l => if l < 0 then -1000000003 else if zc_bo (zc_ch P b) 16 ≤ l then zc_cs P r (b + 1) (l - zc_bo (zc_ch P b) 16) else 16 * nI b + (zc_po (zc_ch P b) l 16).2
theorem zc_chosen {post : Int32 → St1 → Prop} {rc pc ds cd ga : Int32} {ls : Int64} {a1 a2 a3 a4 a5 a6 a7 a8 a9 a10 a11 a12 a13 a14 a15 a16 a17 a18 a19 a20 a21 a22 : Nat → Int32} {m : Bool} {P : zc_Pic} {k : Int32} (ok : zc_Ok P) (h : zc_Mt m P rc pc cd a1 a2 a3 a4 a5 a6 a7 a8 a9 a10 a11 a12 a13 a14 a17 a18 a19) (H : ∀ (rc pc ds cd ga : Int32) (ls : Int64) (a1 a2 a3 a4 a5 a6 a7 a8 a9 a10 a11 a12 a13 a14 a15 a16 a17 a18 a19 a20 a21 a22 : Nat → Int32), zc_Mt m P rc pc cd a1 a2 a3 a4 a5 a6 a7 a8 a9 a10 a11 a12 a13 a14 a17 a18 a19 → post (zc_cs P (zc_n P / 16 + 1) 0 k) (rc, pc, ds, cd, ga, ls, a1, a2, a3, a4, a5, a6, a7, a8, a9, a10, a11, a12, a13, a14, a15, a16, a17, a18, a19, a20, a21, a22)) : wpX_chosen post (rc, pc, ds, cd, ga, ls, a1, a2, a3, a4, a5, a6, a7, a8, a9, a10, a11, a12, a13, a14, a15, a16, a17, a18, a19, a20, a21, a22) k := by
  unfold wpX_chosen
  dsimp only
  refine zc_choose ok h (fun b15 b20 h20 => ?_)
  have o1 := ok.1
  refine pk_loop (fun n b l => wX_chosen_8 post rc pc ds cd ga ls a1 a2 a3 a4 a5 a6 a7 a8 a9 a10 a11 a12 a13 a14 b15 a16 a17 a18 a19 b20 a21 a22 n l (nI b)) (fun b l => zc_cs P (zc_n P / 16 + 1 - b) b l = zc_cs P (zc_n P / 16 + 1) 0 k) (zc_n P / 16 + 1) 0 k (by omega) rfl ?_ ?_
  · intro n l hl
    rw [Nat.sub_self] at hl
    have hl' : -1000000003 = zc_cs P (zc_n P / 16 + 1) 0 k := hl
    rw [← hl'] at H
    show wX_chosen_8 post rc pc ds cd ga ls a1 a2 a3 a4 a5 a6 a7 a8 a9 a10 a11 a12 a13 a14 b15 a16 a17 a18 a19 b20 a21 a22 (n + 1) l (nI (zc_n P / 16 + 1))
    unfold wX_chosen_8
    exact zc_blockCount (n := zc_n P) h.1 (by omega) (pk_lt (zc_n P / 16) (zc_n P / 16 + 1) (fun _ => H _ _ _ _ _ _ _ _ _ _ _ _ _ _ _ _ _ _ _ _ _ _ _ _ _ _ _ _ h) (fun z => absurd z (by omega)))
  · intro n b l hb hl hn
    rw [show zc_n P / 16 + 1 - b = (zc_n P / 16 + 1 - (b + 1)) + 1 by omega] at hl
    have hl' : (if l < 0 then -1000000003 else if zc_bo (zc_ch P b) 16 ≤ l then zc_cs P (zc_n P / 16 + 1 - (b + 1)) (b + 1) (l - zc_bo (zc_ch P b) 16) else 16 * nI b + (zc_po (zc_ch P b) l 16).2) = zc_cs P (zc_n P / 16 + 1) 0 k := hl
    show wX_chosen_8 post rc pc ds cd ga ls a1 a2 a3 a4 a5 a6 a7 a8 a9 a10 a11 a12 a13 a14 b15 a16 a17 a18 a19 b20 a21 a22 (n + 1) l (nI b)
    unfold wX_chosen_8
    refine zc_blockCount (n := zc_n P) h.1 (by omega) (pk_lt (zc_n P / 16) b (fun z => absurd z (by omega)) (fun _ => ⟨fun z => ?_, fun z => ⟨pk_in b 7 (by omega), ?_⟩⟩))
    · rw [if_pos z] at hl'
      rw [← hl'] at H
      exact H _ _ _ _ _ _ _ _ _ _ _ _ _ _ _ _ _ _ _ _ _ _ _ _ _ _ _ _ h
    · rw [if_neg z] at hl'
      rw [nI_clamp (by omega), h20 b (by omega)]
      refine zc_bitsOf ⟨fun y => nm_e (nm_r (nI_1 b) (hn _ ?_)), fun y => ⟨pk_in b 7 (by omega), zc_placeOf ?_⟩⟩
      · rw [if_pos y] at hl'
        exact hl'
      · rw [if_neg y] at hl'
        rw [← hl'] at H
        exact H _ _ _ _ _ _ _ _ _ _ _ _ _ _ _ _ _ _ _ _ _ _ _ _ _ _ _ _ h
/-! blocks that are passed -/
def zc_pk (P : zc_Pic) (b : Nat) : Nat → Int32
  | 0 => 0
  | k + 1 => if zc_pk P b k = 0 then (if zc_pw (zc_col P b (zc_cc P k)) (zc_cl P k) (zc_cu P k) = 0 then 1 else 0) else 1
def zc_pn (P : zc_Pic) : Nat → Int32
  | 0 => 0
  | b + 1 => if zc_pk P b (zc_cn P) = 0 then zc_pn P b else zc_pn P b + 1
theorem zc_isPassed {post : Int32 → St1 → Prop} {rc pc ds cd ga : Int32} {ls : Int64} {a1 a2 a3 a4 a5 a6 a7 a8 a9 a10 a11 a12 a13 a14 a15 a16 a17 a18 a19 a20 a21 a22 : Nat → Int32} {m : Bool} {P : zc_Pic} {b k : Nat} (ok : zc_Ok P) (h : zc_Mt m P rc pc cd a1 a2 a3 a4 a5 a6 a7 a8 a9 a10 a11 a12 a13 a14 a17 a18 a19) (hb : b < 6) (hk : k < zc_cn P) (H : ∀ y, post (if zc_pw (zc_col P b (zc_cc P k)) (zc_cl P k) (zc_cu P k) = 0 then 1 else 0) (rc, pc, ds, cd, ga, ls, a1, a2, a3, a4, a5, a6, a7, a8, a9, a10, a11, a12, a13, a14, y, a16, a17, a18, a19, a20, a21, a22)) : wpX_isPassed post (rc, pc, ds, cd, ga, ls, a1, a2, a3, a4, a5, a6, a7, a8, a9, a10, a11, a12, a13, a14, a15, a16, a17, a18, a19, a20, a21, a22) (nI b) (nI k) := by
  obtain ⟨m1, m2, m3, m4, m5, m6, m7, m8⟩ := h
  obtain ⟨o1, o2, o3, o4, o5, o6⟩ := ok
  have hck := o6 k hk
  have hsc := zc_sg_lt m hck
  obtain ⟨e17, e18, e19⟩ := m8 k hk
  have hv : vp_in (nI k) 4 := pk_in k 4 (by omega)
  unfold wpX_isPassed
  dsimp only
  rw [nI_clamp (show k < 2 ^ 31 by omega), show a17 k = nI (zc_sg m (zc_cc P k)) from e17, show a18 k = zc_cl P k from e18, show a19 k = zc_cu P k from e19]
  refine ⟨hv, nm_r (zc_3c _ _) ⟨hv, hv, zc_packedWithin (by omega) (m5 b _ hb hck) (o2 b _ hb hck) (fun y => ⟨fun z => ?_, fun z => ?_⟩)⟩⟩
  · have := H y
    rw [if_pos z] at this
    exact this
  · have := H y
    rw [if_neg z] at this
    exact this
theorem zc_passed {post : Int32 → St1 → Prop} {rc pc ds cd ga : Int32} {ls : Int64} {a1 a2 a3 a4 a5 a6 a7 a8 a9 a10 a11 a12 a13 a14 a15 a16 a17 a18 a19 a20 a21 a22 : Nat → Int32} {m : Bool} {P : zc_Pic} (ok : zc_Ok P) (h : zc_Mt m P rc pc cd a1 a2 a3 a4 a5 a6 a7 a8 a9 a10 a11 a12 a13 a14 a17 a18 a19) (H : ∀ (rc pc ds cd ga : Int32) (ls : Int64) (a1 a2 a3 a4 a5 a6 a7 a8 a9 a10 a11 a12 a13 a14 a15 a16 a17 a18 a19 a20 a21 a22 : Nat → Int32), zc_Mt m P rc pc cd a1 a2 a3 a4 a5 a6 a7 a8 a9 a10 a11 a12 a13 a14 a17 a18 a19 → post (zc_pn P (zc_n P / 16)) (rc, pc, ds, cd, ga, ls, a1, a2, a3, a4, a5, a6, a7, a8, a9, a10, a11, a12, a13, a14, a15, a16, a17, a18, a19, a20, a21, a22)) : wpX_passed post (rc, pc, ds, cd, ga, ls, a1, a2, a3, a4, a5, a6, a7, a8, a9, a10, a11, a12, a13, a14, a15, a16, a17, a18, a19, a20, a21, a22) := by
  have o1 := ok.1
  have o5 := ok.2.2.2.2.1
  have e3 : cd = nI (zc_cn P) := h.2.2.1
  refine pk_loop (fun n b (s : Int32 × (Nat → Int32)) => wX_passed_4 post n s.1 (nI b) rc pc ds cd ga ls a1 a2 a3 a4 a5 a6 a7 a8 a9 a10 a11 a12 a13 a14 s.2 a16 a17 a18 a19 a20 a21 a22) (fun b s => s.1 = zc_pn P b) (zc_n P / 16) 0 (0, a15) (by omega) rfl ?_ ?_
  · intro n s hs
    show wX_passed_4 post (n + 1) s.1 (nI (zc_n P / 16)) rc pc ds cd ga ls a1 a2 a3 a4 a5 a6 a7 a8 a9 a10 a11 a12 a13 a14 s.2 a16 a17 a18 a19 a20 a21 a22
    unfold wX_passed_4
    exact zc_blockCount (n := zc_n P) h.1 (by omega) (pk_le (zc_n P / 16) (zc_n P / 16) (fun _ => by rw [hs]; exact H _ _ _ _ _ _ _ _ _ _ _ _ _ _ _ _ _ _ _ _ _ _ _ _ _ _ _ _ h) (fun z => absurd z (by omega)))
  · intro n b s hb hs hn
    show wX_passed_4 post (n + 1) s.1 (nI b) rc pc ds cd ga ls a1 a2 a3 a4 a5 a6 a7 a8 a9 a10 a11 a12 a13 a14 s.2 a16 a17 a18 a19 a20 a21 a22
    unfold wX_passed_4
    refine zc_blockCount (n := zc_n P) h.1 (by omega) (pk_le (zc_n P / 16) b (fun z => absurd z (by omega)) (fun _ => ?_))
    refine pk_loop (fun n' k (t : Int32 × (Nat → Int32)) => wX_passed_17 post (wX_passed_4 post n) s.1 (nI b) n' t.1 (nI k) rc pc ds cd ga ls a1 a2 a3 a4 a5 a6 a7 a8 a9 a10 a11 a12 a13 a14 t.2 a16 a17 a18 a19 a20 a21 a22) (fun k t => t.1 = zc_pk P b k) (zc_cn P) 0 (0, s.2) (by omega) rfl ?_ ?_
    · intro n' t ht
      refine pk_le (zc_cn P) (zc_cn P) (fun _ => ⟨fun z => nm_r (nI_1 b) (hn (s.1, t.2) ?_), fun z => nm_e (nm_r (nI_1 b) (hn (s.1 + 1, t.2) ?_))⟩) (fun z => absurd z (by omega)) e3
      · rw [ht] at z
        show s.1 = _
        rw [hs]
        exact (if_pos z).symm
      · rw [ht] at z
        show s.1 + 1 = _
        rw [hs]
        exact (if_neg z).symm
    · intro n' k t hk ht hn'
      refine pk_le (zc_cn P) k (fun z => absurd z (by omega)) (fun _ => ⟨fun z => ?_, fun z => nm_r (nI_1 k) (hn' (1, t.2) ?_)⟩) e3
      · rw [ht] at z
        refine zc_isPassed ok h (by omega) hk (fun y => ?_)
        by_cases w : zc_pw (zc_col P b (zc_cc P k)) (zc_cl P k) (zc_cu P k) = 0
        · rw [if_pos w]
          exact br_f (by decide) (nm_r (nI_1 k) (hn' (1, y) ((if_pos z).trans (if_pos w)).symm))
        · rw [if_neg w]
          exact br_t rfl (nm_r (nI_1 k) (hn' (0, y) ((if_pos z).trans (if_neg w)).symm))
      · rw [ht] at z
        exact (if_neg z).symm
/-! one value -/
def zc_fp (P : zc_Pic) (r c : Nat) : Nat → Nat → Option Nat
  | 0, _ => none
  | s + 1, j => if zc_pr P j = r ∧ zc_pq P j = c then some j else zc_fp P r c s (j + 1)
theorem zc_fp_lt (P : zc_Pic) (r c : Nat) {i : Nat} : ∀ s j, zc_fp P r c s j = some i → j ≤ i ∧ i < j + s := by
  intro s
  induction s with
  | zero => exact fun j h => absurd h (by intro z; cases z)
  | succ s ih =>
    intro j h
    have h' : (if zc_pr P j = r ∧ zc_pq P j = c then some j else zc_fp P r c s (j + 1)) = some i := h
    split at h'
    · cases h'
      omega
    · have := ih _ h'
      omega
theorem zc_patchAt {A B : Int32 → Prop} {rc pc ds cd ga : Int32} {ls : Int64} {a1 a2 a3 a4 a5 a6 a7 a8 a9 a10 a11 a12 a13 a14 a15 a16 a17 a18 a19 a20 a21 a22 : Nat → Int32} {m : Bool} {P : zc_Pic} {r c : Nat} {x : Int32} (ok : zc_Ok P) (h : zc_Mt m P rc pc cd a1 a2 a3 a4 a5 a6 a7 a8 a9 a10 a11 a12 a13 a14 a17 a18 a19) (hr : r < 96) (hc : c < 3) (hx : x = nI (3 * r + zc_sg m c)) (f : zc_fp P r c (zc_k P) 0 = none → A (-1)) (g : ∀ j, zc_fp P r c (zc_k P) 0 = some j → j < zc_k P → B (nI j)) : wpX_patchAt (fun k => (k = -1 → A k) ∧ (¬ k = -1 → B k)) (rc, pc, ds, cd, ga, ls, a1, a2, a3, a4, a5, a6, a7, a8, a9, a10, a11, a12, a13, a14, a15, a16, a17, a18, a19, a20, a21, a22) x := by
  obtain ⟨m1, m2, m3, m4, m5, m6, m7, m8⟩ := h
  obtain ⟨o1, o2, o3, o4, o5, o6⟩ := ok
  have hsc := zc_sg_lt m hc
  have e2 : pc = nI (zc_k P) := m2
  subst hx
  refine pk_loop (σ := Unit) (fun n j _ => wX_patchAt_2 (fun k => (k = -1 → A k) ∧ (¬ k = -1 → B k)) (nI (3 * r + zc_sg m c)) rc pc ds cd ga ls a1 a2 a3 a4 a5 a6 a7 a8 a9 a10 a11 a12 a13 a14 a15 a16 a17 a18 a19 a20 a21 a22 n (nI j)) (fun j _ => zc_fp P r c (zc_k P - j) j = zc_fp P r c (zc_k P) 0) (zc_k P) 0 () (by omega) rfl ?_ ?_
  · intro n _ hs
    rw [Nat.sub_self] at hs
    exact pk_le (zc_k P) (zc_k P) (fun _ => br_t rfl (f hs.symm)) (fun z => absurd z (by omega)) e2
  · intro n j _ hj hs hn
    obtain ⟨hr', hq'⟩ := o4 j hj
    have hsq := zc_sg_lt m hq'
    rw [show zc_k P - j = (zc_k P - (j + 1)) + 1 by omega] at hs
    have hs' : (if zc_pr P j = r ∧ zc_pq P j = c then some j else zc_fp P r c (zc_k P - (j + 1)) (j + 1)) = zc_fp P r c (zc_k P) 0 := hs
    refine pk_le (zc_k P) j (fun z => absurd z (by omega)) (fun _ => ⟨pk_in j 20 (by omega), pk_eq (3 * zc_pr P j + zc_sg m (zc_pq P j)) (3 * r + zc_sg m c) (fun z => ?_) (fun z => nm_r (nI_1 j) (hn () ?_)) (by rw [nI_clamp (by omega)]; exact (m7 j hj).1)⟩) e2
    · have zq := (zc_sg_inj m hq' hc).mp (by omega)
      rw [if_pos ⟨by omega, zq⟩] at hs'
      refine br_f (fun w => ?_) (g j hs'.symm hj)
      have w' : nI j < 0 := by rw [w]; decide
      exact nI_pos (by omega) w'
    · rw [if_neg (fun w => z (by rw [w.1, w.2]))] at hs'
      exact hs'
/-- the value of row r in column c -/
def zc_va (P : zc_Pic) (r c : Nat) : Int32 := if r / 16 = zc_n P / 16 then zc_lo P (r % 16) c else match zc_fp P r c (zc_k P) 0 with
  | none => zc_un (zc_col P (r / 16) c) (r % 16)
  | some j => zc_pv P j
theorem zc_valueAt {post : Int32 → St1 → Prop} {rc pc ds cd ga : Int32} {ls : Int64} {a1 a2 a3 a4 a5 a6 a7 a8 a9 a10 a11 a12 a13 a14 a15 a16 a17 a18 a19 a20 a21 a22 : Nat → Int32} {m : Bool} {P : zc_Pic} {r c : Nat} (ok : zc_Ok P) (h : zc_Mt m P rc pc cd a1 a2 a3 a4 a5 a6 a7 a8 a9 a10 a11 a12 a13 a14 a17 a18 a19) (hr : r < zc_n P) (hc : c < 3) (H : ∀ b, post (zc_va P r c) (rc, pc, ds, cd, ga, ls, a1, a2, a3, a4, a5, a6, a7, a8, a9, a10, a11, a12, a13, a14, b, a16, a17, a18, a19, a20, a21, a22)) : wpX_valueAt post (rc, pc, ds, cd, ga, ls, a1, a2, a3, a4, a5, a6, a7, a8, a9, a10, a11, a12, a13, a14, a15, a16, a17, a18, a19, a20, a21, a22) (nI r) (nI (zc_sg m c)) := by
  have hm := h
  obtain ⟨m1, m2, m3, m4, m5, m6, m7, m8⟩ := h
  have hok := ok
  obtain ⟨o1, o2, o3, o4, o5, o6⟩ := ok
  have hsc := zc_sg_lt m hc
  have er : nI r - nI r / (16 : Int32) * 16 = nI (r % 16) := zc_r16 (by omega)
  unfold zc_va at H
  refine ⟨zc_n16, nm_r (zc_d16 (by omega)) (zc_blockCount (n := zc_n P) m1 (by omega) (pk_eq (r / 16) (zc_n P / 16) (fun g => ?_) (fun g => ?_)))⟩
  · rw [if_pos g] at H
    rw [er, zc_3c]
    refine ⟨zc_n16, pk_in _ 48 (by omega) rfl, ?_⟩
    rw [nI_clamp (by omega), show a12 (3 * (r % 16) + zc_sg m c) = zc_lo P (r % 16) c from m6 _ c (by omega) hc]
    exact H a15
  · rw [if_neg g] at H
    refine zc_patchAt hok hm (show r < 96 by omega) hc (zc_3c _ _) (fun z => ?_) (fun j z hj => ?_)
    · rw [z] at H
      rw [zc_3c]
      refine zc_unpack (by omega) (m5 (r / 16) c (by omega) hc) (o2 _ c (by omega) hc) (fun B hB => ⟨zc_n16, pk_in (r % 16) 16 (by omega) er, ?_⟩)
      rw [er, nI_clamp (by omega), hB _ (by omega)]
      exact H B
    · rw [z] at H
      refine ⟨pk_in j 20 (by omega), ?_⟩
      rw [nI_clamp (by omega), show a14 j = zc_pv P j from (m7 j hj).2]
      exact H a15
theorem zc_valueAt_2 {post : Int32 → St1 → Prop} {rc pc ds cd ga : Int32} {ls : Int64} {a1 a2 a3 a4 a5 a6 a7 a8 a9 a10 a11 a12 a13 a14 a15 a16 a17 a18 a19 a20 a21 a22 : Nat → Int32} {m : Bool} {P : zc_Pic} {r c : Nat} (ok : zc_Ok P) (h : zc_Mt m P rc pc cd a1 a2 a3 a4 a5 a6 a7 a8 a9 a10 a11 a12 a13 a14 a17 a18 a19) (hr : r < zc_n P) (hc : c < 3) (H : ∀ b, post (zc_va P r c) (rc, pc, ds, cd, ga, ls, a1, a2, a3, a4, a5, a6, a7, a8, a9, a10, a11, a12, a13, a14, b, a16, a17, a18, a19, a20, a21, a22)) : wpX_valueAt_2 post (rc, pc, ds, cd, ga, ls, a1, a2, a3, a4, a5, a6, a7, a8, a9, a10, a11, a12, a13, a14, a15, a16, a17, a18, a19, a20, a21, a22) (nI r) (nI (zc_sg m c)) := by
  have hm := h
  obtain ⟨m1, m2, m3, m4, m5, m6, m7, m8⟩ := h
  have hok := ok
  obtain ⟨o1, o2, o3, o4, o5, o6⟩ := ok
  have hsc := zc_sg_lt m hc
  have er : nI r - nI r / (16 : Int32) * 16 = nI (r % 16) := zc_r16 (by omega)
  unfold zc_va at H
  refine ⟨zc_n16, nm_r (zc_d16 (by omega)) (zc_blockCount (n := zc_n P) m1 (by omega) (pk_eq (r / 16) (zc_n P / 16) (fun g => ?_) (fun g => ?_)))⟩
  · rw [if_pos g] at H
    rw [er, zc_3c]
    refine ⟨zc_n16, pk_in _ 48 (by omega) rfl, ?_⟩
    rw [nI_clamp (by omega), show a12 (3 * (r % 16) + zc_sg m c) = zc_lo P (r % 16) c from m6 _ c (by omega) hc]
    exact H a15
  · rw [if_neg g] at H
    refine zc_patchAt hok hm (show r < 96 by omega) hc (zc_3c _ _) (fun z => ?_) (fun j z hj => ?_)
    · rw [z] at H
      rw [zc_3c]
      refine zc_unpack_2 (by omega) (m5 (r / 16) c (by omega) hc) (o2 _ c (by omega) hc) (fun B hB => ⟨zc_n16, pk_in (r % 16) 16 (by omega) er, ?_⟩)
      rw [er, nI_clamp (by omega), hB _ (by omega)]
      exact H B
    · rw [z] at H
      refine ⟨pk_in j 20 (by omega), ?_⟩
      rw [nI_clamp (by omega), show a14 j = zc_pv P j from (m7 j hj).2]
      exact H a15
/-- which row isn't there -/
abbrev zc_nr (P : zc_Pic) (x : Int32) : Prop := ¬ ∃ r, r < zc_n P ∧ x = nI r ∧ zc_dl P r = 0
theorem zc_noRow {A B : Prop} {rc pc ds cd ga : Int32} {ls : Int64} {a1 a2 a3 a4 a5 a6 a7 a8 a9 a10 a11 a12 a13 a14 a15 a16 a17 a18 a19 a20 a21 a22 : Nat → Int32} {m : Bool} {P : zc_Pic} {x : Int32} (ok : zc_Ok P) (h : zc_Mt m P rc pc cd a1 a2 a3 a4 a5 a6 a7 a8 a9 a10 a11 a12 a13 a14 a17 a18 a19) (f : ∀ r, r < zc_n P → x = nI r → zc_dl P r = 0 → A) (g : zc_nr P x → B) : wpX_noRow (fun r => (r = 0 → A) ∧ (¬ r = 0 → B)) (rc, pc, ds, cd, ga, ls, a1, a2, a3, a4, a5, a6, a7, a8, a9, a10, a11, a12, a13, a14, a15, a16, a17, a18, a19, a20, a21, a22) x := by
  obtain ⟨m1, m2, m3, m4, m5, m6, m7, m8⟩ := h
  have o1 := ok.1
  have e1 : rc = nI (zc_n P) := m1
  refine ⟨fun z => br_f (by decide) (g (fun ⟨r, h1, h2, _⟩ => ?_)), fun z => ⟨fun y => br_f (by decide) (g (fun ⟨r, h1, h2, _⟩ => ?_)), fun y => ?_⟩⟩
  · rw [h2] at z
    exact nI_pos (by omega) z
  · rw [e1, h2] at y
    exact nI_ge h1 (by omega) y
  · rw [e1] at y
    rcases pk_ix x (n := zc_n P) (by omega) with w | w | ⟨r, hr, w⟩
    · exact absurd w z
    · exact absurd w y
    · subst w
      refine ⟨pk_in r 96 (by omega), ?_⟩
      rw [nI_clamp (by omega), show a1 r = zc_dl P r from m4 r (by omega)]
      refine ⟨fun w => br_t rfl (f r hr rfl w), fun w => br_f (by decide) (g (fun ⟨r', h1, h2, h3⟩ => ?_))⟩
      have : r = r' := (nI_eq (by omega) (by omega)).mp h2
      rw [this] at w
      exact w h3
def zc_vaR (P : zc_Pic) (r c : Nat) : Int32 := if r < zc_n P ∧ zc_dl P r = 0 then zc_va P r c else -1000000003
theorem zc_value {post : Int32 → St1 → Prop} {rc pc ds cd ga : Int32} {ls : Int64} {a1 a2 a3 a4 a5 a6 a7 a8 a9 a10 a11 a12 a13 a14 a15 a16 a17 a18 a19 a20 a21 a22 : Nat → Int32} {m : Bool} {P : zc_Pic} {r c : Nat} (ok : zc_Ok P) (h : zc_Mt m P rc pc cd a1 a2 a3 a4 a5 a6 a7 a8 a9 a10 a11 a12 a13 a14 a17 a18 a19) (hr : r < 96) (hc : c < 3) (H : ∀ (rc pc ds cd ga : Int32) (ls : Int64) (a1 a2 a3 a4 a5 a6 a7 a8 a9 a10 a11 a12 a13 a14 a15 a16 a17 a18 a19 a20 a21 a22 : Nat → Int32), zc_Mt m P rc pc cd a1 a2 a3 a4 a5 a6 a7 a8 a9 a10 a11 a12 a13 a14 a17 a18 a19 → post (zc_vaR P r c) (rc, pc, ds, cd, ga, ls, a1, a2, a3, a4, a5, a6, a7, a8, a9, a10, a11, a12, a13, a14, a15, a16, a17, a18, a19, a20, a21, a22)) : wpX_value post (rc, pc, ds, cd, ga, ls, a1, a2, a3, a4, a5, a6, a7, a8, a9, a10, a11, a12, a13, a14, a15, a16, a17, a18, a19, a20, a21, a22) (nI r) (nI (zc_sg m c)) := by
  unfold wpX_value
  dsimp only
  have o1 := ok.1
  unfold zc_vaR at H
  refine zc_goodColumn (zc_sg_lt m hc) (zc_noRow ok h (fun r' h1 h2 h3 => ?_) (fun z => ?_))
  · have e : r = r' := (nI_eq (by omega) (by omega)).mp h2
    subst e
    rw [if_pos ⟨h1, h3⟩] at H
    exact zc_valueAt ok h h1 hc (fun b => H _ _ _ _ _ _ _ _ _ _ _ _ _ _ _ _ _ _ _ _ _ _ _ _ _ _ _ _ h)
  · rw [if_neg (fun w => z ⟨r, w.1, rfl, w.2⟩)] at H
    exact H _ _ _ _ _ _ _ _ _ _ _ _ _ _ _ _ _ _ _ _ _ _ _ _ _ _ _ _ h
end
section
/-! widths -/
def zc_wd (x : Int64) : Nat → Nat → Nat
  | 0, w => w
  | r + 1, w => if (x >>> ((nI w).toInt64 &&& 63)) = 0 then w else zc_wd x r (w + 1)
theorem zc_wd_le (x : Int64) : ∀ r w, zc_wd x r w ≤ w + r := by
  intro r
  induction r with
  | zero => exact fun w => Nat.le_refl _
  | succ r ih =>
    intro w
    show (if (x >>> ((nI w).toInt64 &&& 63)) = 0 then w else zc_wd x r (w + 1)) ≤ _
    split
    · omega
    · have := ih (w + 1)
      omega
abbrev zc_w4 (x : Int64) : Nat := zc_wd x 40 0
theorem zc_w4_le (x : Int64) : zc_w4 x ≤ 40 := by have := zc_wd_le x 40 0; omega
theorem zc_w4_small : ∀ d, d < 8 → zc_w4 (nI d).toInt64 ≤ 3 := by decide +kernel
theorem zc_widthOf {post : Int32 → Prop} {rc pc ds cd ga : Int32} {ls : Int64} {a1 a2 a3 a4 a5 a6 a7 a8 a9 a10 a11 a12 a13 a14 a15 a16 a17 a18 a19 a20 a21 a22 : Nat → Int32} {x : Int64} (H : post (nI (zc_w4 x))) : wpX_widthOf post (rc, pc, ds, cd, ga, ls, a1, a2, a3, a4, a5, a6, a7, a8, a9, a10, a11, a12, a13, a14, a15, a16, a17, a18, a19, a20, a21, a22) x := by
  refine pk_loop (σ := Unit) (fun n i _ => wX_widthOf_5 post x rc pc ds cd ga ls a1 a2 a3 a4 a5 a6 a7 a8 a9 a10 a11 a12 a13 a14 a15 a16 a17 a18 a19 a20 a21 a22 n (nI i) (nI i)) (fun i _ => zc_wd x (40 - i) i = zc_w4 x) 40 0 () (by omega) rfl ?_ ?_
  · intro n _ h
    refine pk_le 40 40 (fun _ => ?_) (fun z => absurd z (by omega))
    have h' : 40 = zc_w4 x := h
    rw [h']
    exact H
  · intro n i _ hi h hn
    rw [show 40 - i = (40 - (i + 1)) + 1 by omega] at h
    have h' : (if (x >>> ((nI i).toInt64 &&& 63)) = 0 then i else zc_wd x (40 - (i + 1)) (i + 1)) = zc_w4 x := h
    refine pk_le 40 i (fun z => absurd z (by omega)) (fun _ => ⟨fun z => ?_, fun z => nm_r (nI_1 i) (nm_r (nI_1 i) (hn () ?_))⟩)
    · rw [if_pos z] at h'
      rw [h']
      exact H
    · rw [if_neg z] at h'
      exact h'
/-! the different values in order -/
def zc_in (S : Nat → Int32) (k : Nat) (x : Int32) : Nat → Int32 := fun j => if j < k then S j else if j = k then x else S (j - 1)
def zc_fd (B : Nat → Int32) : Nat → Nat × (Nat → Int32)
  | 0 => (0, fun _ => 0)
  | i + 1 => if zc_pl (zc_fd B i).2 (B i) (zc_fd B i).1 0 = (zc_fd B i).1 then ((zc_fd B i).1 + 1, zc_in (zc_fd B i).2 (zc_pl (zc_fd B i).2 (B i) (zc_fd B i).1 0) (B i)) else if (zc_fd B i).2 (zc_pl (zc_fd B i).2 (B i) (zc_fd B i).1 0) = B i then zc_fd B i else ((zc_fd B i).1 + 1, zc_in (zc_fd B i).2 (zc_pl (zc_fd B i).2 (B i) (zc_fd B i).1 0) (B i))
theorem zc_fd_le (B : Nat → Int32) : ∀ i, (zc_fd B i).1 ≤ i ∧ (1 ≤ i → 1 ≤ (zc_fd B i).1) := by
  intro i
  induction i with
  | zero => exact ⟨Nat.le_refl _, fun h => absurd h (by omega)⟩
  | succ i ih =>
    have hp := zc_pl_le (zc_fd B i).2 (B i) (zc_fd B i).1 0
    have hst : zc_fd B (i + 1) = if zc_pl (zc_fd B i).2 (B i) (zc_fd B i).1 0 = (zc_fd B i).1 then ((zc_fd B i).1 + 1, zc_in (zc_fd B i).2 (zc_pl (zc_fd B i).2 (B i) (zc_fd B i).1 0) (B i)) else if (zc_fd B i).2 (zc_pl (zc_fd B i).2 (B i) (zc_fd B i).1 0) = B i then zc_fd B i else ((zc_fd B i).1 + 1, zc_in (zc_fd B i).2 (zc_pl (zc_fd B i).2 (B i) (zc_fd B i).1 0) (B i)) := rfl
    rw [hst]
    split
    · show (zc_fd B i).1 + 1 ≤ i + 1 ∧ (1 ≤ i + 1 → 1 ≤ (zc_fd B i).1 + 1)
      omega
    · split
      · rename_i h _
        have : 1 ≤ (zc_fd B i).1 := by
          rcases Nat.eq_zero_or_pos (zc_fd B i).1 with z | z
          · exact absurd (by omega) h
          · exact z
        omega
      · show (zc_fd B i).1 + 1 ≤ i + 1 ∧ (1 ≤ i + 1 → 1 ≤ (zc_fd B i).1 + 1)
        omega
theorem zc_fd77 {post : St1 → Prop} {J : Int32 → Int32 → (Nat → Int32) → (Nat → Int32) → (Nat → Int32) → (Nat → Int32) → (Nat → Int32) → (Nat → Int32) → (Nat → Int32) → (Nat → Int32) → (Nat → Int32) → (Nat → Int32) → (Nat → Int32) → (Nat → Int32) → (Nat → Int32) → (Nat → Int32) → (Nat → Int32) → (Nat → Int32) → (Nat → Int32) → (Nat → Int32) → (Nat → Int32) → (Nat → Int32) → (Nat → Int32) → (Nat → Int32) → Prop} {rc pc cd ga : Int32} {ls : Int64} {a1 a2 a3 a4 a5 a6 a7 a8 a9 a10 a11 a12 a13 a14 a15 a16 a17 a18 a19 a20 a21 a22 : Nat → Int32} {i k d : Nat} {S : Nat → Int32} {x : Int32} (hi : i < 16) (hk : k ≤ d) (hd : d < 16) (hx : a15 i = x) (hS : ∀ j, j < d → a16 j = S j)
    (H : ∀ t, (∀ j, j < d + 1 → t j = zc_in S k x j) → J (nI (i + 1)) (nI (d + 1)) a1 a2 a3 a4 a5 a6 a7 a8 a9 a10 a11 a12 a13 a14 a15 t a17 a18 a19 a20 a21 a22) : ∃ fu, wX_findDistinct_77 post J (nI i) (nI k) rc pc (nI d) cd ga ls fu (nI d) a1 a2 a3 a4 a5 a6 a7 a8 a9 a10 a11 a12 a13 a14 a15 a16 a17 a18 a19 a20 a21 a22 := by
  have L := pk_loopD (fun n t s => wX_findDistinct_77 post J (nI i) (nI k) rc pc (nI d) cd ga ls n (nI (k + t)) a1 a2 a3 a4 a5 a6 a7 a8 a9 a10 a11 a12 a13 a14 a15 s a17 a18 a19 a20 a21 a22) (fun t s => k + t ≤ d ∧ (∀ j, j < k + t → s j = S j) ∧ (∀ j, k + t < j → j ≤ d → s j = S (j - 1))) ?_ ?_ (d - k) a16 ⟨by omega, fun j hj => hS j (by omega), fun j h1 h2 => absurd h1 (by omega)⟩
  · rw [show k + (d - k) = d by omega] at L
    exact ⟨_, L⟩
  · intro n s ⟨_, h1, h2⟩
    refine pk_le k k (fun _ => ⟨pk_in i 16 hi, pk_in k 16 (by omega), nm_r (e' := upd s k x) ?_ (nm_r (nI_1 d) (nm_r (nI_1 i) (H _ (fun j hj => ?_))))⟩) (fun z => absurd z (by omega))
    · rw [nI_clamp (by omega), nI_clamp (by omega), hx]
    · unfold zc_in
      rcases Nat.lt_trichotomy j k with z | z | z
      · rw [pk_un (by omega), if_pos z]
        exact h1 j z
      · rw [zc_upd_s z, if_neg (by omega), if_pos z]
      · rw [pk_un (by omega), if_neg (by omega), if_neg (by omega)]
        exact h2 j (by omega) (by omega)
  · intro n t s ⟨h0, h1, h2⟩ hn
    refine pk_le (k + (t + 1)) k (fun z => absurd z (by omega)) (fun _ => ⟨pk_in (k + t) 16 (by omega) (nI_pred (k + t)), pk_in (k + (t + 1)) 16 (by omega), nm_r (e' := upd s (k + (t + 1)) (S (k + t))) ?_ (nm_r (pk_m1 (k + t)) (hn _ ⟨by omega, fun j hj => ?_, fun j h3 h4 => ?_⟩))⟩)
    · rw [show nI (k + (t + 1)) - 1 = nI (k + t) from nI_pred (k + t), nI_clamp (by omega), nI_clamp (by omega), h1 (k + t) (by omega)]
    · rw [pk_un (by omega)]
      exact h1 j (by omega)
    · rcases Nat.decEq j (k + (t + 1)) with z | z
      · rw [pk_un z]
        exact h2 j (by omega) h4
      · rw [zc_upd_s z, z]
        rfl
theorem zc_findDistinct {post : St1 → Prop} {rc pc ds cd ga : Int32} {ls : Int64} {a1 a2 a3 a4 a5 a6 a7 a8 a9 a10 a11 a12 a13 a14 a15 a16 a17 a18 a19 a20 a21 a22 : Nat → Int32} {B : Nat → Int32} (hB : ∀ i, i < 16 → a15 i = B i) (H : ∀ t, (∀ j, j < (zc_fd B 16).1 → t j = (zc_fd B 16).2 j) → post (rc, pc, nI (zc_fd B 16).1, cd, ga, ls, a1, a2, a3, a4, a5, a6, a7, a8, a9, a10, a11, a12, a13, a14, a15, t, a17, a18, a19, a20, a21, a22)) : wpX_findDistinct post (rc, pc, ds, cd, ga, ls, a1, a2, a3, a4, a5, a6, a7, a8, a9, a10, a11, a12, a13, a14, a15, a16, a17, a18, a19, a20, a21, a22) := by
  refine pk_loop (fun n i s => wX_findDistinct_7 post rc pc cd ga ls n (nI i) (nI (zc_fd B i).1) a1 a2 a3 a4 a5 a6 a7 a8 a9 a10 a11 a12 a13 a14 a15 s a17 a18 a19 a20 a21 a22) (fun i s => ∀ j, j < (zc_fd B i).1 → s j = (zc_fd B i).2 j) 16 0 a16 (by omega) (fun j hj => absurd hj (Nat.not_lt_zero j)) ?_ ?_
  · intro n s h
    exact pk_le 16 16 (fun _ => H s h) (fun z => absurd z (by omega))
  · intro n i s hi h hn
    have hle := (zc_fd_le B i).1
    have hst : zc_fd B (i + 1) = if zc_pl (zc_fd B i).2 (B i) (zc_fd B i).1 0 = (zc_fd B i).1 then ((zc_fd B i).1 + 1, zc_in (zc_fd B i).2 (zc_pl (zc_fd B i).2 (B i) (zc_fd B i).1 0) (B i)) else if (zc_fd B i).2 (zc_pl (zc_fd B i).2 (B i) (zc_fd B i).1 0) = B i then zc_fd B i else ((zc_fd B i).1 + 1, zc_in (zc_fd B i).2 (zc_pl (zc_fd B i).2 (B i) (zc_fd B i).1 0) (B i)) := rfl
    rw [hst] at hn
    generalize hy : zc_fd B i = y at *
    have hpl := zc_pl_le y.2 (B i) y.1 0
    have hx : a15 i = B i := hB i hi
    have e15 : a15 (nI i).toNatClampNeg = B i := by rw [nI_clamp (by omega)]; exact hx
    have vi : vp_in (nI i) 16 := pk_in i 16 hi
    -- behind the search: the place is k
    have fin : ∀ k, k = zc_pl y.2 (B i) y.1 0 → wX_findDistinct_49 post (wX_findDistinct_7 post rc pc cd ga ls n) (nI i) (nI k) rc pc (nI y.1) cd ga ls a1 a2 a3 a4 a5 a6 a7 a8 a9 a10 a11 a12 a13 a14 a15 s a17 a18 a19 a20 a21 a22 := by
      intro k hk
      rw [← hk] at hn
      refine pk_eq k y.1 (fun z => ?_) (fun z => ⟨pk_in k 16 (by omega), vi, ?_⟩)
      · rw [if_pos z] at hn
        exact zc_fd77 hi (by omega) (by omega) hx h (fun t ht => hn t ht)
      · rw [if_neg z] at hn
        rw [nI_clamp (show k < 2 ^ 31 by omega), e15, h k (by omega)]
        refine ⟨fun w => ?_, fun w => ?_⟩
        · rw [if_pos w] at hn
          exact nm_r (nI_1 i) (hn s h)
        · rw [if_neg w] at hn
          exact zc_fd77 hi (by omega) (by omega) hx h (fun t ht => hn t ht)
    refine pk_le 16 i (fun z => absurd z (by omega)) (fun _ => ?_)
    refine pk_loop (σ := Unit) (fun n' k _ => wX_findDistinct_17 post (wX_findDistinct_7 post rc pc cd ga ls n) (nI i) rc pc (nI y.1) cd ga ls a1 a2 a3 a4 a5 a6 a7 a8 a9 a10 a11 a12 a13 a14 a15 s a17 a18 a19 a20 a21 a22 n' (nI k) (nI k)) (fun k _ => zc_pl y.2 (B i) (y.1 - k) k = zc_pl y.2 (B i) y.1 0) y.1 0 () (by omega) rfl ?_ ?_
    · intro n' _ h3
      rw [Nat.sub_self] at h3
      exact pk_le y.1 y.1 (fun _ => fin _ h3) (fun z => absurd z (by omega))
    · intro n' k _ hk h3 hn'
      rw [show y.1 - k = (y.1 - (k + 1)) + 1 by omega] at h3
      have h3' : (if B i ≤ y.2 k then k else zc_pl y.2 (B i) (y.1 - (k + 1)) (k + 1)) = zc_pl y.2 (B i) y.1 0 := h3
      refine pk_le y.1 k (fun z => absurd z (by omega)) (fun _ => ⟨pk_in k 16 (by omega), vi, ?_⟩)
      rw [nI_clamp (show k < 2 ^ 31 by omega), e15, h k hk]
      refine ⟨fun w => fin k ?_, fun w => nm_r (nI_1 k) (nm_r (nI_1 k) (hn' () ?_))⟩
      · rw [if_pos w] at h3'
        exact h3'
      · rw [if_neg w] at h3'
        exact h3'
/-! sizes -/
def zc_st (B : Nat → Int32) (i : Nat) : Int64 := (B (i + 1)).toInt64 - (B i).toInt64
theorem zc_stepAt {post : Int64 → Prop} {rc pc ds cd ga : Int32} {ls : Int64} {a1 a2 a3 a4 a5 a6 a7 a8 a9 a10 a11 a12 a13 a14 a15 a16 a17 a18 a19 a20 a21 a22 : Nat → Int32} {B : Nat → Int32} {i : Nat} (hB : ∀ i, i < 16 → a15 i = B i) (hi : i + 1 < 16) (H : post (zc_st B i)) : wpX_stepAt post (rc, pc, ds, cd, ga, ls, a1, a2, a3, a4, a5, a6, a7, a8, a9, a10, a11, a12, a13, a14, a15, a16, a17, a18, a19, a20, a21, a22) (nI i) := by
  refine ⟨pk_in (i + 1) 16 hi (nI_1 i), pk_in i 16 (by omega), ?_⟩
  rw [nI_1, nI_clamp (by omega), nI_clamp (by omega), show a15 (i + 1) = B (i + 1) from hB _ hi, show a15 i = B i from hB i (by omega)]
  exact H
/-- high, low -/
def zc_hl (B : Nat → Int32) : Nat → Int64 × Int64
  | 0 => (zc_st B 0, zc_st B 0)
  | j + 1 => (if zc_st B (j + 1) ≤ (zc_hl B j).1 then (zc_hl B j).1 else zc_st B (j + 1), if (zc_hl B j).2 ≤ zc_st B (j + 1) then (zc_hl B j).2 else zc_st B (j + 1))
def zc_sw (B : Nat → Int32) : Nat := if (zc_hl B 14).2 < -2147483648 then 10000 else if 2147483647 < (zc_hl B 14).1 then 10000 else if 31 < zc_w4 ((zc_hl B 14).1 - (zc_hl B 14).2) then 10000 else zc_w4 ((zc_hl B 14).1 - (zc_hl B 14).2)
theorem zc_stepWidth {post : Int32 → St1 → Prop} {rc pc ds cd ga : Int32} {ls : Int64} {a1 a2 a3 a4 a5 a6 a7 a8 a9 a10 a11 a12 a13 a14 a15 a16 a17 a18 a19 a20 a21 a22 : Nat → Int32} {B : Nat → Int32} (hB : ∀ i, i < 16 → a15 i = B i) (H : post (nI (zc_sw B)) (rc, pc, ds, cd, ga, (zc_hl B 14).2, a1, a2, a3, a4, a5, a6, a7, a8, a9, a10, a11, a12, a13, a14, a15, a16, a17, a18, a19, a20, a21, a22)) : wpX_stepWidth post (rc, pc, ds, cd, ga, ls, a1, a2, a3, a4, a5, a6, a7, a8, a9, a10, a11, a12, a13, a14, a15, a16, a17, a18, a19, a20, a21, a22) := by
  have h4 := zc_w4_le ((zc_hl B 14).1 - (zc_hl B 14).2)
  unfold wpX_stepWidth
  dsimp only
  refine zc_stepAt hB (i := 0) (by omega) ?_
  refine pk_loop (fun n j (s : Int64 × Int64) => wX_stepWidth_13 post rc pc ds cd ga a1 a2 a3 a4 a5 a6 a7 a8 a9 a10 a11 a12 a13 a14 a15 a16 a17 a18 a19 a20 a21 a22 n s.1 (nI (j + 1)) s.2) (fun j s => s = zc_hl B j) 14 0 (zc_st B 0, zc_st B 0) (by omega) rfl ?_ ?_
  · intro n s h
    subst h
    unfold zc_sw at H
    refine pk_le 16 16 (fun _ => ⟨fun z => ?_, fun z => ⟨fun y => ?_, fun y => ?_⟩⟩) (fun z => absurd z (by omega)) rfl (nI_1 15)
    · rw [if_pos z] at H
      unfold wX_stepWidth_94 wX_stepWidth_95
      exact zc_widthOf (br_t rfl H)
    · rw [if_neg z, if_pos y] at H
      unfold wX_stepWidth_94 wX_stepWidth_95
      exact zc_widthOf (br_t rfl H)
    · rw [if_neg z, if_neg y] at H
      unfold wX_stepWidth_95
      refine zc_widthOf (br_f (by decide) (pk_lt 31 (zc_w4 ((zc_hl B 14).1 - (zc_hl B 14).2)) (fun w => ?_) (fun w => ?_)))
      · rw [if_pos w] at H
        exact H
      · rw [if_neg (by omega)] at H
        exact H
  · intro n j s hj h hn
    refine pk_le 16 (j + 2) (fun z => absurd z (by omega)) (fun _ => zc_stepAt hB (i := j + 1) (by omega) ?_) rfl (nI_1 (j + 1))
    have hst : zc_hl B (j + 1) = (if zc_st B (j + 1) ≤ s.1 then s.1 else zc_st B (j + 1), if s.2 ≤ zc_st B (j + 1) then s.2 else zc_st B (j + 1)) := by rw [h]; rfl
    rw [hst] at hn
    refine ⟨fun z => ?_, fun z => ?_⟩
    · rw [if_pos z] at hn
      refine ⟨fun y => nm_r (nI_1 (j + 1)) ?_, fun y => nm_r (nI_1 (j + 1)) ?_⟩
      · rw [if_pos y] at hn
        exact hn _ rfl
      · rw [if_neg y] at hn
        exact hn _ rfl
    · rw [if_neg z] at hn
      refine ⟨fun y => nm_r (nI_1 (j + 1)) ?_, fun y => nm_r (nI_1 (j + 1)) ?_⟩
      · rw [if_pos y] at hn
        exact hn _ rfl
      · rw [if_neg y] at hn
        exact hn _ rfl
theorem zc_stepWidth_2 {post : Int32 → St1 → Prop} {rc pc ds cd ga : Int32} {ls : Int64} {a1 a2 a3 a4 a5 a6 a7 a8 a9 a10 a11 a12 a13 a14 a15 a16 a17 a18 a19 a20 a21 a22 : Nat → Int32} {B : Nat → Int32} (hB : ∀ i, i < 16 → a15 i = B i) (H : post (nI (zc_sw B)) (rc, pc, ds, cd, ga, (zc_hl B 14).2, a1, a2, a3, a4, a5, a6, a7, a8, a9, a10, a11, a12, a13, a14, a15, a16, a17, a18, a19, a20, a21, a22)) : wpX_stepWidth_2 post (rc, pc, ds, cd, ga, ls, a1, a2, a3, a4, a5, a6, a7, a8, a9, a10, a11, a12, a13, a14, a15, a16, a17, a18, a19, a20, a21, a22) := by
  have h4 := zc_w4_le ((zc_hl B 14).1 - (zc_hl B 14).2)
  unfold wpX_stepWidth_2
  dsimp only
  refine zc_stepAt hB (i := 0) (by omega) ?_
  refine pk_loop (fun n j (s : Int64 × Int64) => wX_stepWidth_2_13 post rc pc ds cd ga a1 a2 a3 a4 a5 a6 a7 a8 a9 a10 a11 a12 a13 a14 a15 a16 a17 a18 a19 a20 a21 a22 n s.1 (nI (j + 1)) s.2) (fun j s => s = zc_hl B j) 14 0 (zc_st B 0, zc_st B 0) (by omega) rfl ?_ ?_
  · intro n s h
    subst h
    unfold zc_sw at H
    refine pk_le 16 16 (fun _ => ⟨fun z => ?_, fun z => ⟨fun y => ?_, fun y => ?_⟩⟩) (fun z => absurd z (by omega)) rfl (nI_1 15)
    · rw [if_pos z] at H
      unfold wX_stepWidth_2_94 wX_stepWidth_2_95
      exact zc_widthOf (br_t rfl H)
    · rw [if_neg z, if_pos y] at H
      unfold wX_stepWidth_2_94 wX_stepWidth_2_95
      exact zc_widthOf (br_t rfl H)
    · rw [if_neg z, if_neg y] at H
      unfold wX_stepWidth_2_95
      refine zc_widthOf (br_f (by decide) (pk_lt 31 (zc_w4 ((zc_hl B 14).1 - (zc_hl B 14).2)) (fun w => ?_) (fun w => ?_)))
      · rw [if_pos w] at H
        exact H
      · rw [if_neg (by omega)] at H
        exact H
  · intro n j s hj h hn
    refine pk_le 16 (j + 2) (fun z => absurd z (by omega)) (fun _ => zc_stepAt hB (i := j + 1) (by omega) ?_) rfl (nI_1 (j + 1))
    have hst : zc_hl B (j + 1) = (if zc_st B (j + 1) ≤ s.1 then s.1 else zc_st B (j + 1), if s.2 ≤ zc_st B (j + 1) then s.2 else zc_st B (j + 1)) := by rw [h]; rfl
    rw [hst] at hn
    refine ⟨fun z => ?_, fun z => ?_⟩
    · rw [if_pos z] at hn
      refine ⟨fun y => nm_r (nI_1 (j + 1)) ?_, fun y => nm_r (nI_1 (j + 1)) ?_⟩
      · rw [if_pos y] at hn
        exact hn _ rfl
      · rw [if_neg y] at hn
        exact hn _ rfl
    · rw [if_neg z] at hn
      refine ⟨fun y => nm_r (nI_1 (j + 1)) ?_, fun y => nm_r (nI_1 (j + 1)) ?_⟩
      · rw [if_pos y] at hn
        exact hn _ rfl
      · rw [if_neg y] at hn
        exact hn _ rfl
def zc_rn (B : Nat → Int32) : Nat → Int32
  | 0 => 1
  | i + 1 => if B (i + 1) = B i then zc_rn B i else zc_rn B i + 1
theorem zc_runCount {post : Int32 → Prop} {rc pc ds cd ga : Int32} {ls : Int64} {a1 a2 a3 a4 a5 a6 a7 a8 a9 a10 a11 a12 a13 a14 a15 a16 a17 a18 a19 a20 a21 a22 : Nat → Int32} {B : Nat → Int32} (hB : ∀ i, i < 16 → a15 i = B i) (H : post (zc_rn B 15)) : wpX_runCount post (rc, pc, ds, cd, ga, ls, a1, a2, a3, a4, a5, a6, a7, a8, a9, a10, a11, a12, a13, a14, a15, a16, a17, a18, a19, a20, a21, a22) := by
  refine pk_loop (fun n j s => wX_runCount_4 post rc pc ds cd ga ls a1 a2 a3 a4 a5 a6 a7 a8 a9 a10 a11 a12 a13 a14 a15 a16 a17 a18 a19 a20 a21 a22 n s (nI (j + 1))) (fun j s => s = zc_rn B j) 15 0 1 (by omega) rfl ?_ ?_
  · intro n s h
    exact pk_le 16 16 (fun _ => h ▸ H) (fun z => absurd z (by omega))
  · intro n j s hj h hn
    refine pk_le 16 (j + 1) (fun z => absurd z (by omega)) (fun _ => ⟨pk_in (j + 1) 16 (by omega), pk_in j 16 (by omega) (nI_pred j), ?_⟩)
    rw [nI_pred, nI_clamp (by omega), nI_clamp (by omega), show a15 (j + 1) = B (j + 1) from hB _ (by omega), show a15 j = B j from hB j (by omega)]
    refine ⟨fun z => nm_r (nI_1 (j + 1)) (hn _ ?_), fun z => nm_e (nm_r (nI_1 (j + 1)) (hn _ ?_))⟩
    · rw [h]
      exact (if_pos z).symm
    · rw [h]
      exact (if_neg z).symm
def zc_fwd (d : Nat) (S : Nat → Int32) : Nat := zc_w4 ((S (d - 1)).toInt64 - (S 0).toInt64)
theorem zc_frameWidth {post : Int32 → Prop} {rc pc ds cd ga : Int32} {ls : Int64} {a1 a2 a3 a4 a5 a6 a7 a8 a9 a10 a11 a12 a13 a14 a15 a16 a17 a18 a19 a20 a21 a22 : Nat → Int32} {d : Nat} {S : Nat → Int32} (hd : ds = nI d) (h1 : 1 ≤ d) (h2 : d ≤ 16) (hS : ∀ j, j < d → a16 j = S j) (H : post (nI (zc_fwd d S))) : wpX_frameWidth post (rc, pc, ds, cd, ga, ls, a1, a2, a3, a4, a5, a6, a7, a8, a9, a10, a11, a12, a13, a14, a15, a16, a17, a18, a19, a20, a21, a22) := by
  have e : ds - 1 = nI (d - 1) := by rw [show ds = nI d from hd, zc_s1 h1]
  refine ⟨pk_in (d - 1) 16 (by omega) e, ?_⟩
  rw [e, nI_clamp (by omega), show a16 (d - 1) = S (d - 1) from hS _ (by omega), show a16 0 = S 0 from hS 0 (by omega)]
  exact zc_widthOf H
/-- the size of form f -/
def zc_sz (B : Nat → Int32) (d : Nat) (S : Nat → Int32) (f : Nat) : Int32 :=
  if f = 0 then 512 else if f = 1 then (if d = 1 then 32 else 10000) else if f = 2 then 37 * zc_rn B 15
  else if f = 3 then (if d ≤ 8 then 32 * nI d + 16 * nI (zc_w4 (nI (d - 1)).toInt64) else 10000)
  else if f = 4 then (if zc_fwd d S ≤ 31 then 38 + 16 * nI (zc_fwd d S) else 10000)
  else if zc_sw B = 10000 then 10000 else 70 + 15 * nI (zc_sw B)
theorem zc_sw_le (B : Nat → Int32) : zc_sw B ≤ 10000 := by
  unfold zc_sw
  have := zc_w4_le ((zc_hl B 14).1 - (zc_hl B 14).2)
  split
  · omega
  · split
    · omega
    · split <;> omega
theorem zc_sizeOf {post : Int32 → St1 → Prop} {rc pc ds cd ga : Int32} {ls : Int64} {a1 a2 a3 a4 a5 a6 a7 a8 a9 a10 a11 a12 a13 a14 a15 a16 a17 a18 a19 a20 a21 a22 : Nat → Int32} {B : Nat → Int32} {d : Nat} {S : Nat → Int32} {f : Nat} (hf : f < 6) (hB : ∀ i, i < 16 → a15 i = B i) (hd : ds = nI d) (h1 : 1 ≤ d) (h2 : d ≤ 16) (hS : ∀ j, j < d → a16 j = S j) (H : ∀ l, post (zc_sz B d S f) (rc, pc, ds, cd, ga, l, a1, a2, a3, a4, a5, a6, a7, a8, a9, a10, a11, a12, a13, a14, a15, a16, a17, a18, a19, a20, a21, a22)) : wpX_sizeOf post (rc, pc, ds, cd, ga, ls, a1, a2, a3, a4, a5, a6, a7, a8, a9, a10, a11, a12, a13, a14, a15, a16, a17, a18, a19, a20, a21, a22) (nI f) := by
  have e0 : ds = nI d := hd
  have e1 : ds - 1 = nI (d - 1) := by rw [e0, zc_s1 h1]
  have hsw := zc_sw_le B
  have hfw : zc_fwd d S ≤ 40 := zc_w4_le _
  unfold zc_sz at H
  refine pk_eq f 0 (fun z => ?_) (fun z0 => pk_eq f 1 (fun z => ?_) (fun z1 => pk_eq f 2 (fun z => ?_) (fun z2 => pk_eq f 3 (fun z => ?_) (fun z3 => pk_eq f 4 (fun z => ?_) (fun z4 => ?_)))))
  · rw [if_pos z] at H
    exact H ls
  · rw [if_neg z0, if_pos z] at H
    refine pk_eq d 1 (fun y => ?_) (fun y => ?_) e0
    · rw [if_pos y] at H
      exact H ls
    · rw [if_neg y] at H
      exact H ls
  · rw [if_neg z0, if_neg z1, if_pos z] at H
    exact zc_runCount hB (H ls)
  · rw [if_neg z0, if_neg z1, if_neg z2, if_pos z] at H
    refine pk_le d 8 (fun y => ?_) (fun y => ?_) e0
    · rw [if_pos y] at H
      rw [e1]
      refine zc_widthOf ?_
      rw [e0]
      have := H ls
      rw [e0] at this
      exact this
    · rw [if_neg (by omega)] at H
      exact H ls
  · rw [if_neg z0, if_neg z1, if_neg z2, if_neg z3, if_pos z] at H
    refine zc_frameWidth hd h1 h2 hS (pk_le (zc_fwd d S) 31 (fun y => ?_) (fun y => ?_))
    · rw [if_pos y] at H
      exact H ls
    · rw [if_neg (by omega)] at H
      exact H ls
  · rw [if_neg z0, if_neg z1, if_neg z2, if_neg z3, if_neg z4] at H
    refine zc_stepWidth_2 hB (pk_eq (zc_sw B) 10000 (fun y => ?_) (fun y => ?_))
    · rw [if_pos y] at H
      exact H _
    · rw [if_neg y] at H
      exact H _
end
section
/-! the window of a column in the words, and in the lengths -/
def zc_Wn (a t : Nat → Int32) (q : Nat) (W : Nat → Int32) : Prop := (∀ j, j < 24 → t (24 * q + j) = W j) ∧ (∀ j, (j < 24 * q ∨ 24 * q + 24 ≤ j) → t j = a j)
def zc_Ln (a t : Nat → Int32) (q : Nat) (L : Nat → Nat) : Prop := (∀ j, j < 16 → t (16 * q + j) = nI (L j)) ∧ (∀ j, (j < 16 * q ∨ 16 * q + 16 ≤ j) → t j = a j)
theorem zc_Wn_0 {a : Nat → Int32} {q : Nat} {W : Nat → Int32} (h : ∀ j, j < 24 → a (24 * q + j) = W j) : zc_Wn a a q W := ⟨h, fun _ _ => rfl⟩
theorem zc_Ln_0 {a : Nat → Int32} {q : Nat} {L : Nat → Nat} (h : ∀ j, j < 16 → a (16 * q + j) = nI (L j)) : zc_Ln a a q L := ⟨h, fun _ _ => rfl⟩
theorem zc_Wn_up {a t : Nat → Int32} {q o : Nat} {W : Nat → Int32} {v : Int32} (h : zc_Wn a t q W) (ho : o < 24) : zc_Wn a (upd t (24 * q + o) v) q (upd W o v) := by
  refine ⟨fun j hj => ?_, fun j hj => ?_⟩
  · rcases Nat.decEq j o with z | z
    · rw [pk_un (by omega), pk_un z]
      exact h.1 j hj
    · rw [zc_upd_s (by omega), zc_upd_s z]
  · rw [pk_un (by omega)]
    exact h.2 j hj
def zc_upN (f : Nat → Nat) (k x : Nat) : Nat → Nat := fun j => if j = k then x else f j
theorem zc_Ln_up {a t : Nat → Int32} {q o v : Nat} {L : Nat → Nat} {x : Int32} (h : zc_Ln a t q L) (ho : o < 16) (hx : x = nI v) : zc_Ln a (upd t (16 * q + o) x) q (zc_upN L o v) := by
  refine ⟨fun j hj => ?_, fun j hj => ?_⟩
  · unfold zc_upN
    rcases Nat.decEq j o with z | z
    · rw [pk_un (by omega), if_neg z]
      exact h.1 j hj
    · rw [zc_upd_s (by omega), if_pos z, hx]
  · rw [pk_un (by omega)]
    exact h.2 j hj
theorem zc_Wn_trans {a t t' : Nat → Int32} {q : Nat} {W W' : Nat → Int32} (h : zc_Wn a t q W) (h' : zc_Wn t t' q W') : zc_Wn a t' q W' := ⟨h'.1, fun j hj => (h'.2 j hj).trans (h.2 j hj)⟩
/-! digits put into the words -/
def zc_pdv (p i : Nat) (x y : Int32) : Int32 := if ((x >>> (nI i &&& 31)) &&& 1) = 1 then y ||| ((1 : Int32) <<< ((nI (p + i) &&& 31) &&& 31)) else y &&& (((1 : Int32) <<< ((nI (p + i) &&& 31) &&& 31)) ^^^ (-1))
def zc_pd (off p : Nat) (x : Int32) : Nat → (Nat → Int32) → Nat → Int32
  | 0, W => W
  | i + 1, W => upd (zc_pd off p x i W) (off + (p + i) / 32) (zc_pdv p i x (zc_pd off p x i W (off + (p + i) / 32)))
theorem zc_putDigits {post : St1 → Prop} {rc pc ds cd ga : Int32} {ls : Int64} {a1 a2 a3 a4 a5 a6 a7 a8 a9 a10 a11 a12 a13 a14 a15 a16 a17 a18 a19 a20 a21 a22 : Nat → Int32} {x1 x2 x3 x : Int32} (q off p w : Nat) (W : Nat → Int32) (h1 : x1 = nI (24 * q + off)) (h2 : x2 = nI p) (h3 : x3 = nI w) (hq : q < 18) (hw : w ≤ 64) (hp : p ≤ 2048) (hb : ∀ i, i < w → off + (p + i) / 32 < 24) (hW : ∀ j, j < 24 → a10 (24 * q + j) = W j)
    (H : ∀ t, zc_Wn (a10) t q (zc_pd off p x w W) → post (rc, pc, ds, cd, ga, ls, a1, a2, a3, a4, a5, a6, a7, a8, a9, t, a11, a12, a13, a14, a15, a16, a17, a18, a19, a20, a21, a22)) : wpX_putDigits post (rc, pc, ds, cd, ga, ls, a1, a2, a3, a4, a5, a6, a7, a8, a9, a10, a11, a12, a13, a14, a15, a16, a17, a18, a19, a20, a21, a22) x1 x2 x3 x := by
  subst h1 h2 h3
  refine pk_loop (fun n i t => wX_putDigits_3 post (nI (24 * q + off)) (nI p) (nI w) x rc pc ds cd ga ls n (nI i) a1 a2 a3 a4 a5 a6 a7 a8 a9 t a11 a12 a13 a14 a15 a16 a17 a18 a19 a20 a21 a22) (fun i t => zc_Wn a10 t q (zc_pd off p x i W)) w 0 a10 (by omega) (zc_Wn_0 hW) ?_ ?_
  · intro n t h
    exact pk_le w w (fun _ => H t h) (fun z => absurd z (by omega))
  · intro n i t hi h hn
    have hb' := hb i hi
    have hv : vp_in (nI (24 * q + (off + (p + i) / 32))) 432 := pk_in _ 432 (by omega) rfl
    have key : ∀ y : Int32, y = zc_pdv p i x (t (24 * q + (off + (p + i) / 32))) → ∀ r : Nat → Int32, r = upd t (nI (24 * q + (off + (p + i) / 32))).toNatClampNeg y → ∀ s : Int32, s = nI i + 1 → wX_putDigits_3 post (nI (24 * q + off)) (nI p) (nI w) x rc pc ds cd ga ls n s a1 a2 a3 a4 a5 a6 a7 a8 a9 r a11 a12 a13 a14 a15 a16 a17 a18 a19 a20 a21 a22 := by
      intro y hy
      refine nm_r (e' := upd t (24 * q + (off + (p + i) / 32)) y) (by rw [nI_clamp (by omega)]) (nm_r (nI_1 i) (hn _ ?_))
      rw [hy, h.1 _ hb']
      exact zc_Wn_up h hb'
    refine pk_le w i (fun z => absurd z (by omega)) (fun _ => nm_r (e' := nI (24 * q + (off + (p + i) / 32))) (by rw [nI_add, zc_sh5 (by omega), Nat.add_assoc]) (nm_r (e' := (1 : Int32) <<< ((nI (p + i) &&& 31) &&& 31)) (by rw [nI_add]) ⟨fun z => ⟨hv, hv, key _ ?_⟩, fun z => ⟨hv, hv, key _ ?_⟩⟩))
    · rw [nI_clamp (by omega)]
      exact (if_pos z).symm
    · rw [nI_clamp (by omega)]
      exact (if_neg z).symm
/-! the forms -/
/-- runs: how many, words, lengths -/
def zc_rN (B : Nat → Int32) (i : Nat) (y : Nat × (Nat → Int32) × (Nat → Nat)) : Nat × (Nat → Int32) × (Nat → Nat) := (y.1 + 1, upd y.2.1 y.1 (B i), zc_upN (zc_upN y.2.2 y.1 0) y.1 1)
def zc_rO (y : Nat × (Nat → Int32) × (Nat → Nat)) : Nat × (Nat → Int32) × (Nat → Nat) := (y.1, y.2.1, zc_upN y.2.2 (y.1 - 1) (y.2.2 (y.1 - 1) + 1))
def zc_pR (B W : Nat → Int32) (L : Nat → Nat) : Nat → Nat × (Nat → Int32) × (Nat → Nat)
  | 0 => (0, W, L)
  | i + 1 => if i = 0 then zc_rN B i (zc_pR B W L i) else if B i = B (i - 1) then zc_rO (zc_pR B W L i) else zc_rN B i (zc_pR B W L i)
theorem zc_su_c {l l' : Nat → Nat} : ∀ n, (∀ j, j < n → l' j = l j) → zc_su l' n = zc_su l n := by
  intro n
  induction n with
  | zero => exact fun _ => rfl
  | succ n ih =>
    intro h
    show zc_su l' n + l' n = zc_su l n + l n
    rw [ih (fun j hj => h j (by omega)), h n (by omega)]
theorem zc_pR_ok (B W : Nat → Int32) (L : Nat → Nat) : ∀ i, (zc_pR B W L i).1 ≤ i ∧ (1 ≤ i → 1 ≤ (zc_pR B W L i).1) ∧ zc_su (zc_pR B W L i).2.2 (zc_pR B W L i).1 = i := by
  intro i
  induction i with
  | zero => exact ⟨Nat.le_refl _, fun h => absurd h (by omega), rfl⟩
  | succ i ih =>
    obtain ⟨i1, i2, i3⟩ := ih
    have hN : (zc_rN B i (zc_pR B W L i)).1 ≤ i + 1 ∧ (1 ≤ i + 1 → 1 ≤ (zc_rN B i (zc_pR B W L i)).1) ∧ zc_su (zc_rN B i (zc_pR B W L i)).2.2 (zc_rN B i (zc_pR B W L i)).1 = i + 1 := by
      generalize zc_pR B W L i = y at *
      refine ⟨by show y.1 + 1 ≤ i + 1; omega, fun _ => by show 1 ≤ y.1 + 1; omega, ?_⟩
      show zc_su (zc_upN (zc_upN y.2.2 y.1 0) y.1 1) y.1 + zc_upN (zc_upN y.2.2 y.1 0) y.1 1 y.1 = i + 1
      rw [zc_su_c (l := y.2.2) y.1 (fun j hj => ?_), i3, show zc_upN (zc_upN y.2.2 y.1 0) y.1 1 y.1 = 1 from if_pos rfl]
      unfold zc_upN
      rw [if_neg (by omega), if_neg (by omega)]
    have hst : zc_pR B W L (i + 1) = if i = 0 then zc_rN B i (zc_pR B W L i) else if B i = B (i - 1) then zc_rO (zc_pR B W L i) else zc_rN B i (zc_pR B W L i) := rfl
    rw [hst]
    split
    · exact hN
    · split
      · rename_i h0 _
        have i4 := i2 (by omega)
        generalize zc_pR B W L i = y at *
        refine ⟨by show y.1 ≤ i + 1; omega, fun _ => i4, ?_⟩
        show zc_su (zc_upN y.2.2 (y.1 - 1) (y.2.2 (y.1 - 1) + 1)) y.1 = i + 1
        obtain ⟨k, hk⟩ : ∃ k, y.1 = k + 1 := ⟨y.1 - 1, by omega⟩
        rw [hk] at i3 ⊢
        have i3' : zc_su y.2.2 k + y.2.2 k = i := i3
        rw [show k + 1 - 1 = k by omega]
        show zc_su (zc_upN y.2.2 k (y.2.2 k + 1)) k + zc_upN y.2.2 k (y.2.2 k + 1) k = i + 1
        rw [zc_su_c (l := y.2.2) k (fun j hj => ?_), show zc_upN y.2.2 k (y.2.2 k + 1) k = y.2.2 k + 1 from if_pos rfl]
        · omega
        · unfold zc_upN
          rw [if_neg (by omega)]
      · exact hN
theorem zc_packRuns {post : St1 → Prop} {rc pc ds cd ga : Int32} {ls : Int64} {a1 a2 a3 a4 a5 a6 a7 a8 a9 a10 a11 a12 a13 a14 a15 a16 a17 a18 a19 a20 a21 a22 : Nat → Int32} {q : Nat} {B W : Nat → Int32} {L : Nat → Nat} (hq : q < 18) (hB : ∀ i, i < 16 → a15 i = B i) (hW : ∀ j, j < 24 → a10 (24 * q + j) = W j) (hL : ∀ j, j < 16 → a11 (16 * q + j) = nI (L j))
    (H : ∀ w l, zc_Wn (a10) w q (zc_pR B W L 16).2.1 → zc_Ln (a11) l q (zc_pR B W L 16).2.2 → post (rc, pc, ds, cd, ga, ls, a1, a2, a3, a4, a5, upd (a6) q (nI (zc_pR B W L 16).1), a7, a8, a9, w, l, a12, a13, a14, a15, a16, a17, a18, a19, a20, a21, a22)) : wpX_packRuns post (rc, pc, ds, cd, ga, ls, a1, a2, a3, a4, a5, a6, a7, a8, a9, a10, a11, a12, a13, a14, a15, a16, a17, a18, a19, a20, a21, a22) (nI q) := by
  refine pk_loop (fun n i (s : (Nat → Int32) × (Nat → Int32)) => wX_packRuns_4 post (nI q) rc pc ds cd ga ls n (nI (zc_pR B W L i).1) (nI i) a1 a2 a3 a4 a5 a6 a7 a8 a9 s.1 s.2 a12 a13 a14 a15 a16 a17 a18 a19 a20 a21 a22) (fun i s => zc_Wn a10 s.1 q (zc_pR B W L i).2.1 ∧ zc_Ln a11 s.2 q (zc_pR B W L i).2.2) 16 0 (a10, a11) (by omega) ⟨zc_Wn_0 hW, zc_Ln_0 hL⟩ ?_ ?_
  · intro n s h
    refine pk_le 16 16 (fun _ => ⟨pk_in q 18 hq, nm_r (e' := upd a6 q (nI (zc_pR B W L 16).1)) ?_ (H s.1 s.2 h.1 h.2)⟩) (fun z => absurd z (by omega))
    rw [nI_clamp (by omega)]
  · intro n i s hi h hn
    obtain ⟨k1, k2, k3⟩ := zc_pR_ok B W L i
    have hst : zc_pR B W L (i + 1) = if i = 0 then zc_rN B i (zc_pR B W L i) else if B i = B (i - 1) then zc_rO (zc_pR B W L i) else zc_rN B i (zc_pR B W L i) := rfl
    rw [hst] at hn
    generalize zc_pR B W L i = y at *
    -- the count of the last run goes up
    have up : ∀ (n' : Nat) (w l : Nat → Int32) (W' : Nat → Int32) (L' : Nat → Nat), 1 ≤ n' → n' ≤ 16 → zc_Wn a10 w q W' → zc_Ln a11 l q L' → (∀ l', zc_Ln a11 l' q (zc_upN L' (n' - 1) (L' (n' - 1) + 1)) → wX_packRuns_4 post (nI q) rc pc ds cd ga ls n (nI n') (nI (i + 1)) a1 a2 a3 a4 a5 a6 a7 a8 a9 w l' a12 a13 a14 a15 a16 a17 a18 a19 a20 a21 a22) → wX_packRuns_63 post (wX_packRuns_4 post (nI q) rc pc ds cd ga ls n) (nI q) (nI n') (nI i) rc pc ds cd ga ls a1 a2 a3 a4 a5 a6 a7 a8 a9 w l a12 a13 a14 a15 a16 a17 a18 a19 a20 a21 a22 := by
      intro n' w l W' L' g1 g2 hw hl hk
      have e : (16 : Int32) * nI q + nI n' - 1 = nI (16 * q + (n' - 1)) := by rw [zc_16c, zc_s1 (by omega), show 16 * q + n' - 1 = 16 * q + (n' - 1) by omega]
      refine ⟨pk_in _ 288 (by omega) e, pk_in _ 288 (by omega) e, nm_r (e' := upd l (16 * q + (n' - 1)) (l (16 * q + (n' - 1)) + 1)) ?_ (nm_r (nI_1 i) (hk _ (zc_Ln_up hl (by omega) ?_)))⟩
      · rw [e, nI_clamp (by omega)]
      · rw [hl.1 _ (by omega), nI_1]
    have new : (∀ w l, zc_Wn a10 w q (zc_rN B i y).2.1 → zc_Ln a11 l q (zc_rN B i y).2.2 → wX_packRuns_4 post (nI q) rc pc ds cd ga ls n (nI (zc_rN B i y).1) (nI (i + 1)) a1 a2 a3 a4 a5 a6 a7 a8 a9 w l a12 a13 a14 a15 a16 a17 a18 a19 a20 a21 a22) → wX_packRuns_31 post (wX_packRuns_4 post (nI q) rc pc ds cd ga ls n) (nI q) (nI y.1) (nI i) rc pc ds cd ga ls a1 a2 a3 a4 a5 a6 a7 a8 a9 s.1 s.2 a12 a13 a14 a15 a16 a17 a18 a19 a20 a21 a22 := by
      intro hk
      refine ⟨pk_in i 16 hi, pk_in (24 * q + y.1) 432 (by omega) (zc_24c _ _), nm_r (e' := upd s.1 (24 * q + y.1) (B i)) ?_ ⟨pk_in (16 * q + y.1) 288 (by omega) (zc_16c _ _), nm_r (e' := upd s.2 (16 * q + y.1) 0) ?_ (nm_r (nI_1 _) ?_)⟩⟩
      · rw [zc_24c, nI_clamp (show i < 2 ^ 31 by omega), nI_clamp (by omega), show a15 i = B i from hB i hi]
      · rw [zc_16c, nI_clamp (by omega)]
      · refine up (y.1 + 1) _ _ (upd y.2.1 y.1 (B i)) (zc_upN y.2.2 y.1 0) (by omega) (by omega) (zc_Wn_up h.1 (by omega)) (zc_Ln_up h.2 (by omega) rfl) (fun l' hl' => hk _ l' (zc_Wn_up h.1 (by omega)) ?_)
        rw [show y.1 + 1 - 1 = y.1 by omega, show zc_upN y.2.2 y.1 0 y.1 = 0 from if_pos rfl] at hl'
        exact hl'
    refine pk_le 16 i (fun z => absurd z (by omega)) (fun _ => pk_eq i 0 (fun z => ?_) (fun z => ⟨pk_in i 16 hi, pk_in (i - 1) 16 (by omega) (zc_s1 (by omega)), ?_⟩))
    · rw [if_pos z] at hn
      exact new (fun w l g1 g2 => hn (w, l) ⟨g1, g2⟩)
    · rw [if_neg z] at hn
      rw [zc_s1 (by omega), nI_clamp (show i < 2 ^ 31 by omega), nI_clamp (show i - 1 < 2 ^ 31 by omega), show a15 i = B i from hB i hi, show a15 (i - 1) = B (i - 1) from hB _ (by omega)]
      refine ⟨fun w => ?_, fun w => ?_⟩
      · rw [if_pos w] at hn
        exact up y.1 s.1 s.2 y.2.1 y.2.2 (k2 (by omega)) (by omega) h.1 h.2 (fun l' hl' => hn (s.1, l') ⟨h.1, hl'⟩)
      · rw [if_neg w] at hn
        exact new (fun w l g1 g2 => hn (w, l) ⟨g1, g2⟩)
/-- digits of x i at i * w -/
def zc_wf (w : Nat) (X W : Nat → Int32) : Nat → Nat → Int32
  | 0 => W
  | i + 1 => zc_pd 0 (i * w) (X i) w (zc_wf w X W i)
theorem zc_packFrame {post : St1 → Prop} {rc pc ds cd ga : Int32} {ls : Int64} {a1 a2 a3 a4 a5 a6 a7 a8 a9 a10 a11 a12 a13 a14 a15 a16 a17 a18 a19 a20 a21 a22 : Nat → Int32} {q d : Nat} {B S W : Nat → Int32} (hq : q < 18) (hB : ∀ i, i < 16 → a15 i = B i) (hd : ds = nI d) (h1 : 1 ≤ d) (h2 : d ≤ 16) (hS : ∀ j, j < d → a16 j = S j) (hw : zc_fwd d S ≤ 31) (hW : ∀ j, j < 24 → a10 (24 * q + j) = W j)
    (H : ∀ w, zc_Wn (a10) w q (zc_wf (zc_fwd d S) (fun i => B i - S 0) W 16) → post (rc, pc, ds, cd, ga, ls, a1, a2, upd (a3) q (S 0), upd (a4) q (nI (zc_fwd d S)), a5, a6, a7, a8, a9, w, a11, a12, a13, a14, a15, a16, a17, a18, a19, a20, a21, a22)) : wpX_packFrame post (rc, pc, ds, cd, ga, ls, a1, a2, a3, a4, a5, a6, a7, a8, a9, a10, a11, a12, a13, a14, a15, a16, a17, a18, a19, a20, a21, a22) (nI q) := by
  have hv : vp_in (nI q) 18 := pk_in q 18 hq
  have e16 : a16 0 = S 0 := hS 0 (by omega)
  refine ⟨hv, nm_r (e' := upd a3 q (S 0)) (by rw [nI_clamp (by omega), e16]) (zc_frameWidth hd h1 h2 hS ⟨hv, nm_r (e' := upd a4 q (nI (zc_fwd d S))) (by rw [nI_clamp (by omega)]) ?_⟩)⟩
  refine pk_loop (fun n i t => wX_packFrame_24 post (nI q) n (nI i) rc pc ds cd ga ls a1 a2 (upd a3 q (S 0)) (upd a4 q (nI (zc_fwd d S))) a5 a6 a7 a8 a9 t a11 a12 a13 a14 a15 a16 a17 a18 a19 a20 a21 a22) (fun i t => zc_Wn a10 t q (zc_wf (zc_fwd d S) (fun i => B i - S 0) W i)) 16 0 a10 (by omega) (zc_Wn_0 hW) ?_ ?_
  · intro n t h
    exact pk_le 16 16 (fun _ => H t h) (fun z => absurd z (by omega))
  · intro n i t hi h hn
    refine pk_le 16 i (fun z => absurd z (by omega)) (fun _ => ⟨hv, hv, pk_in i 16 hi, ?_⟩)
    have hm := zc_iw_le (show i ≤ 15 by omega) hw
    rw [nI_clamp (show q < 2 ^ 31 by omega), nI_clamp (show i < 2 ^ 31 by omega), pk_us, e16, show a15 i = B i from hB i hi]
    refine zc_putDigits q 0 (i * zc_fwd d S) (zc_fwd d S) (zc_wf (zc_fwd d S) (fun i => B i - S 0) W i) (zc_m24 q) (pk_mul _ _) rfl hq (by omega) (by omega) (fun j hj => by omega) h.1 (fun t' ht' => nm_r (nI_1 i) (hn t' (zc_Wn_trans h ht')))
theorem zc_packSteps {post : St1 → Prop} {rc pc ds cd ga : Int32} {ls : Int64} {a1 a2 a3 a4 a5 a6 a7 a8 a9 a10 a11 a12 a13 a14 a15 a16 a17 a18 a19 a20 a21 a22 : Nat → Int32} {q : Nat} {B W : Nat → Int32} (hq : q < 18) (hB : ∀ i, i < 16 → a15 i = B i) (hw : zc_sw B ≤ 31) (hW : ∀ j, j < 24 → a10 (24 * q + j) = W j)
    (H : ∀ w, zc_Wn (a10) w q (zc_wf (zc_sw B) (fun i => (zc_st B i - (zc_hl B 14).2).toInt32) W 15) → post (rc, pc, ds, cd, ga, (zc_hl B 14).2, a1, a2, upd (a3) q (B 0), upd (a4) q (nI (zc_sw B)), upd (a5) q (zc_hl B 14).2.toInt32, a6, a7, a8, a9, w, a11, a12, a13, a14, a15, a16, a17, a18, a19, a20, a21, a22)) : wpX_packSteps post (rc, pc, ds, cd, ga, ls, a1, a2, a3, a4, a5, a6, a7, a8, a9, a10, a11, a12, a13, a14, a15, a16, a17, a18, a19, a20, a21, a22) (nI q) := by
  have hv : vp_in (nI q) 18 := pk_in q 18 hq
  have e15 : a15 0 = B 0 := hB 0 (by omega)
  refine ⟨hv, nm_r (e' := upd a3 q (B 0)) (by rw [nI_clamp (by omega), e15]) (zc_stepWidth hB ⟨hv, nm_r (e' := upd a4 q (nI (zc_sw B))) (by rw [nI_clamp (by omega)]) ⟨hv, nm_r (e' := upd a5 q (zc_hl B 14).2.toInt32) (by rw [nI_clamp (by omega)]) ?_⟩⟩)⟩
  refine pk_loop (fun n i t => wX_packSteps_35 post (nI q) n (nI i) rc pc ds cd ga (zc_hl B 14).2 a1 a2 (upd a3 q (B 0)) (upd a4 q (nI (zc_sw B))) (upd a5 q (zc_hl B 14).2.toInt32) a6 a7 a8 a9 t a11 a12 a13 a14 a15 a16 a17 a18 a19 a20 a21 a22) (fun i t => zc_Wn a10 t q (zc_wf (zc_sw B) (fun i => (zc_st B i - (zc_hl B 14).2).toInt32) W i)) 15 0 a10 (by omega) (zc_Wn_0 hW) ?_ ?_
  · intro n t h
    exact pk_le 16 16 (fun _ => H t h) (fun z => absurd z (by omega)) rfl (nI_1 15)
  · intro n i t hi h hn
    refine pk_le 16 (i + 1) (fun z => absurd z (by omega)) (fun _ => zc_stepAt hB (i := i) (by omega) ⟨hv, hv, ?_⟩) rfl (nI_1 i)
    have hm := zc_iw_le (show i ≤ 15 by omega) hw
    rw [nI_clamp (show q < 2 ^ 31 by omega), pk_us]
    refine zc_putDigits q 0 (i * zc_sw B) (zc_sw B) (zc_wf (zc_sw B) (fun i => (zc_st B i - (zc_hl B 14).2).toInt32) W i) (zc_m24 q) (pk_mul _ _) rfl hq (by omega) (by omega) (fun j hj => by omega) h.1 (fun t' ht' => nm_r (nI_1 i) (hn t' (zc_Wn_trans h ht')))
/-- the listed values, then the digits of the places -/
def zc_wc (S W : Nat → Int32) : Nat → Nat → Int32
  | 0 => W
  | i + 1 => upd (zc_wc S W i) i (S i)
def zc_wl (w d : Nat) (B W : Nat → Int32) : Nat → Nat → Int32
  | 0 => W
  | i + 1 => zc_pd 8 (i * w) (nI (zc_pl (zc_wl w d B W i) (B i) d 0)) w (zc_wl w d B W i)
theorem zc_packList {post : St1 → Prop} {rc pc ds cd ga : Int32} {ls : Int64} {a1 a2 a3 a4 a5 a6 a7 a8 a9 a10 a11 a12 a13 a14 a15 a16 a17 a18 a19 a20 a21 a22 : Nat → Int32} {q d : Nat} {B S W : Nat → Int32} (hq : q < 18) (hB : ∀ i, i < 16 → a15 i = B i) (hd : ds = nI d) (h1 : 1 ≤ d) (h2 : d ≤ 8) (hS : ∀ j, j < d → a16 j = S j) (hW : ∀ j, j < 24 → a10 (24 * q + j) = W j)
    (H : ∀ w, zc_Wn (a10) w q (zc_wl (zc_w4 (nI (d - 1)).toInt64) d B (zc_wc S W d) 16) → post (rc, pc, ds, cd, ga, ls, a1, a2, a3, upd (a4) q (nI (zc_w4 (nI (d - 1)).toInt64)), a5, upd (a6) q (nI d), a7, a8, a9, w, a11, a12, a13, a14, a15, a16, a17, a18, a19, a20, a21, a22)) : wpX_packList post (rc, pc, ds, cd, ga, ls, a1, a2, a3, a4, a5, a6, a7, a8, a9, a10, a11, a12, a13, a14, a15, a16, a17, a18, a19, a20, a21, a22) (nI q) := by
  have hv : vp_in (nI q) 18 := pk_in q 18 hq
  have e0 : ds = nI d := hd
  have hw := zc_w4_small (d - 1) (by omega)
  subst e0
  refine ⟨hv, nm_r (e' := upd a6 q (nI d)) (by rw [nI_clamp (by omega)]) ?_⟩
  rw [zc_s1 h1]
  refine zc_widthOf ⟨hv, nm_r (e' := upd a4 q (nI (zc_w4 (nI (d - 1)).toInt64))) (by rw [nI_clamp (by omega)]) ?_⟩
  generalize zc_w4 (nI (d - 1)).toInt64 = v at hw H ⊢
  · refine pk_loop (fun n i t => wX_packList_29 post (nI q) rc pc (nI d) cd ga ls n (nI i) a1 a2 a3 (upd a4 q (nI v)) a5 (upd a6 q (nI d)) a7 a8 a9 t a11 a12 a13 a14 a15 a16 a17 a18 a19 a20 a21 a22) (fun i t => zc_Wn a10 t q (zc_wc S W i)) d 0 a10 (by omega) (zc_Wn_0 hW) ?_ ?_
    · intro n t h
      refine pk_le d d (fun _ => ?_) (fun z => absurd z (by omega))
      refine pk_loop (fun n i t => wX_packList_62 post (nI q) n (nI i) rc pc (nI d) cd ga ls a1 a2 a3 (upd a4 q (nI v)) a5 (upd a6 q (nI d)) a7 a8 a9 t a11 a12 a13 a14 a15 a16 a17 a18 a19 a20 a21 a22) (fun i t => zc_Wn a10 t q (zc_wl v d B (zc_wc S W d) i)) 16 0 t (by omega) h ?_ ?_
      · intro n t h
        exact pk_le 16 16 (fun _ => H t h) (fun z => absurd z (by omega))
      · intro n i t hi h hn
        have hm := zc_iw_le (show i ≤ 15 by omega) hw
        refine pk_le 16 i (fun z => absurd z (by omega)) (fun _ => ⟨pk_in i 16 hi, ?_⟩)
        rw [nI_clamp (show i < 2 ^ 31 by omega), show a15 i = B i from hB i hi]
        refine zc_placeInList (24 * q) d (zc_wl v d B (zc_wc S W d) i) (zc_m24 q) rfl (by omega) (fun j hj => h.1 j (by omega)) ⟨hv, hv, ?_⟩
        rw [nI_clamp (show q < 2 ^ 31 by omega), pk_us]
        refine zc_putDigits q 8 (i * v) v (zc_wl v d B (zc_wc S W d) i) (zc_24c q 8) (pk_mul _ _) rfl hq (by omega) (by omega) (fun j hj => by omega) h.1 (fun t' ht' => nm_r (nI_1 i) (hn t' (zc_Wn_trans h ht')))
    · intro n i t hi h hn
      refine pk_le d i (fun z => absurd z (by omega)) (fun _ => ⟨pk_in i 16 (by omega), pk_in (24 * q + i) 432 (by omega) (zc_24c _ _), nm_r (e' := upd t (24 * q + i) (S i)) ?_ (nm_r (nI_1 i) (hn _ (zc_Wn_up h (by omega))))⟩)
      rw [zc_24c, nI_clamp (by omega), nI_clamp (by omega), show a16 i = S i from hS i hi]
end
section
/-- best form and its size, of the forms up to f -/
def zc_bl (z : Nat → Int32) : Nat → Nat × Int32
  | 0 => (0, 512)
  | f + 1 => if (zc_bl z f).2 ≤ z (f + 1) then zc_bl z f else (f + 1, z (f + 1))
theorem zc_bl_ok (z : Nat → Int32) : ∀ f, (zc_bl z f).1 ≤ f ∧ (zc_bl z f).2 ≤ 512 ∧ ((zc_bl z f).1 ≠ 0 → ¬ 512 ≤ z (zc_bl z f).1) := by
  intro f
  induction f with
  | zero => exact ⟨Nat.le_refl _, (by decide : (512 : Int32) ≤ 512), fun h => absurd rfl h⟩
  | succ f ih =>
    obtain ⟨i1, i2, i3⟩ := ih
    have hst : zc_bl z (f + 1) = if (zc_bl z f).2 ≤ z (f + 1) then zc_bl z f else (f + 1, z (f + 1)) := rfl
    rw [hst]
    split
    · exact ⟨by omega, i2, i3⟩
    · rename_i h
      have h' : z (f + 1) < (zc_bl z f).2 := k2_lt h
      have h2 : ¬ 512 ≤ z (f + 1) := fun y => h (Int32.le_trans i2 y)
      exact ⟨Nat.le_refl _, (Int32.le_iff_toInt_le.mpr (by have := Int32.lt_iff_toInt_lt.mp (k2_lt h2); omega) : z (f + 1) ≤ 512), fun _ => h2⟩
/-- the column that pack makes of the values B -/
def zc_pk1 (B : Nat → Int32) (D : zc_Col) (best : Nat) (least : Int32) (d : Nat) (S : Nat → Int32) : zc_Col :=
  if best = 1 then (best, B 0, zc_wi D, zc_lst D, zc_ma D, S 0, S (d - 1), least, zc_wo D, zc_le D)
  else if best = 2 then (best, zc_fi D, zc_wi D, zc_lst D, (zc_pR B (zc_wo D) (zc_le D) 16).1, S 0, S (d - 1), least, (zc_pR B (zc_wo D) (zc_le D) 16).2.1, (zc_pR B (zc_wo D) (zc_le D) 16).2.2)
  else if best = 3 then (best, zc_fi D, zc_w4 (nI (d - 1)).toInt64, zc_lst D, d, S 0, S (d - 1), least, zc_wl (zc_w4 (nI (d - 1)).toInt64) d B (zc_wc S (zc_wo D) d) 16, zc_le D)
  else if best = 4 then (best, S 0, zc_fwd d S, zc_lst D, zc_ma D, S 0, S (d - 1), least, zc_wf (zc_fwd d S) (fun i => B i - S 0) (zc_wo D) 16, zc_le D)
  else if best = 5 then (best, B 0, zc_sw B, (zc_hl B 14).2.toInt32, zc_ma D, S 0, S (d - 1), least, zc_wf (zc_sw B) (fun i => (zc_st B i - (zc_hl B 14).2).toInt32) (zc_wo D) 15, zc_le D)
  else (best, zc_fi D, zc_wi D, zc_lst D, zc_ma D, S 0, S (d - 1), least, zc_wc B (zc_wo D) 16, zc_le D)
def zc_pck (B : Nat → Int32) (D : zc_Col) : zc_Col := zc_pk1 B D (zc_bl (zc_sz B (zc_fd B 16).1 (zc_fd B 16).2) 5).1 (zc_bl (zc_sz B (zc_fd B 16).1 (zc_fd B 16).2) 5).2 (zc_fd B 16).1 (zc_fd B 16).2
/-- the other columns stay -/
theorem zc_keep {a2 a3 a4 a5 a6 a7 a8 a9 a10 a11 b2 b3 b4 b5 b6 b7 b8 b9 b10 b11 : Nat → Int32} {q : Nat} (h2 : ∀ k, k ≠ q → b2 k = a2 k) (h3 : ∀ k, k ≠ q → b3 k = a3 k) (h4 : ∀ k, k ≠ q → b4 k = a4 k) (h5 : ∀ k, k ≠ q → b5 k = a5 k) (h6 : ∀ k, k ≠ q → b6 k = a6 k) (h7 : ∀ k, k ≠ q → b7 k = a7 k) (h8 : ∀ k, k ≠ q → b8 k = a8 k) (h9 : ∀ k, k ≠ q → b9 k = a9 k)
    (h10 : ∀ j, (j < 24 * q ∨ 24 * q + 24 ≤ j) → b10 j = a10 j) (h11 : ∀ j, (j < 16 * q ∨ 16 * q + 16 ≤ j) → b11 j = a11 j) : ∀ k D, k ≠ q → zc_CM a2 a3 a4 a5 a6 a7 a8 a9 a10 a11 k D → zc_CM b2 b3 b4 b5 b6 b7 b8 b9 b10 b11 k D := by
  intro k D hk ⟨c2, c3, c4, c5, c6, c7, c8, c9, c10, c11⟩
  exact ⟨(h2 k hk).trans c2, (h3 k hk).trans c3, (h4 k hk).trans c4, (h5 k hk).trans c5, (h6 k hk).trans c6, (h7 k hk).trans c7, (h8 k hk).trans c8, (h9 k hk).trans c9, fun j hj => (h10 _ (by omega)).trans (c10 j hj), fun j hj => (h11 _ (by omega)).trans (c11 j hj)⟩
theorem zc_kp (a : Nat → Int32) (q : Nat) : ∀ k, k ≠ q → a k = a k := fun _ _ => rfl
theorem zc_ku (a : Nat → Int32) (q : Nat) (x : Int32) : ∀ k, k ≠ q → upd a q x k = a k := fun _ h => pk_un h
/-- behind the loop over the forms -/
theorem zc_packEnd {post : St1 → Prop} {n q best d : Nat} {least : Int32} {B S : Nat → Int32} {D : zc_Col} {rc pc cd ga : Int32} {ls : Int64} {a1 a2 a3 a4 a5 a6 a7 a8 a9 a10 a11 a12 a13 a14 a15 a16 a17 a18 a19 a20 a21 a22 : Nat → Int32} (hq : q < 18) (hbest : best ≤ 5) (hB : ∀ i, i < 16 → a15 i = B i) (h1 : 1 ≤ d) (h2 : d ≤ 16) (hS : ∀ j, j < d → a16 j = S j) (h : zc_CM a2 a3 a4 a5 a6 a7 a8 a9 a10 a11 q D)
    (g3 : best = 3 → d ≤ 8) (g4 : best = 4 → zc_fwd d S ≤ 31) (g5 : best = 5 → zc_sw B ≤ 31)
    (H : ∀ (l : Int64) (b2 b3 b4 b5 b6 b7 b8 b9 b10 b11 : Nat → Int32), zc_CM b2 b3 b4 b5 b6 b7 b8 b9 b10 b11 q (zc_pk1 B D best least d S) → (∀ k D', k ≠ q → zc_CM a2 a3 a4 a5 a6 a7 a8 a9 a10 a11 k D' → zc_CM b2 b3 b4 b5 b6 b7 b8 b9 b10 b11 k D') → post (rc, pc, nI d, cd, ga, l, a1, b2, b3, b4, b5, b6, b7, b8, b9, b10, b11, a12, a13, a14, a15, a16, a17, a18, a19, a20, a21, a22)) : wX_pack_13 post (nI q) (n + 1) (nI best) least (nI 6) rc pc (nI d) cd ga ls a1 a2 a3 a4 a5 a6 a7 a8 a9 a10 a11 a12 a13 a14 a15 a16 a17 a18 a19 a20 a21 a22 := by
  obtain ⟨c2, c3, c4, c5, c6, c7, c8, c9, c10, c11⟩ := h
  have hv : vp_in (nI q) 18 := pk_in q 18 hq
  have e15 : a15 0 = B 0 := hB 0 (by omega)
  have e16 : a16 0 = S 0 := hS 0 (by omega)
  have ed : a16 (nI d - 1).toNatClampNeg = S (d - 1) := by rw [zc_s1 h1, nI_clamp (by omega)]; exact hS _ (by omega)
  unfold zc_pk1 at H
  refine pk_lt 5 6 (fun _ => ⟨hv, nm_r (e' := upd a2 q (nI best)) (by rw [nI_clamp (by omega)]) ⟨hv, nm_r (e' := upd a9 q least) (by rw [nI_clamp (by omega)]) ⟨hv, nm_r (e' := upd a7 q (S 0)) (by rw [nI_clamp (by omega), e16]) ⟨pk_in (d - 1) 16 (by omega) (zc_s1 h1), hv, nm_r (e' := upd a8 q (S (d - 1))) (by rw [ed, nI_clamp (by omega)]) ?_⟩⟩⟩⟩) (fun z => absurd z (by omega))
  refine pk_eq best 1 (fun z => ⟨hv, nm_r (e' := upd a3 q (B 0)) (by rw [nI_clamp (by omega), e15]) ?_⟩) (fun z1 => pk_eq best 2 (fun z => ?_) (fun z2 => pk_eq best 3 (fun z => ?_) (fun z3 => pk_eq best 4 (fun z => ?_) (fun z4 => pk_eq best 5 (fun z => ?_) (fun z5 => ?_)))))
  · rw [if_pos z] at H
    exact H _ _ _ _ _ _ _ _ _ _ _ ⟨pk_us, pk_us, c4, c5, c6, pk_us, pk_us, pk_us, c10, c11⟩
      (zc_keep (zc_ku _ _ _) (zc_ku _ _ _) (zc_kp _ _) (zc_kp _ _) (zc_kp _ _) (zc_ku _ _ _) (zc_ku _ _ _) (zc_ku _ _ _) (fun _ _ => rfl) (fun _ _ => rfl))
  · rw [if_neg z1, if_pos z] at H
    refine zc_packRuns hq hB c10 c11 (fun w l hw hl => ?_)
    exact H _ _ _ _ _ _ _ _ _ _ _ ⟨pk_us, c3, c4, c5, pk_us, pk_us, pk_us, pk_us, hw.1, hl.1⟩
      (zc_keep (zc_ku _ _ _) (zc_kp _ _) (zc_kp _ _) (zc_kp _ _) (zc_ku _ _ _) (zc_ku _ _ _) (zc_ku _ _ _) (zc_ku _ _ _) hw.2 hl.2)
  · rw [if_neg z1, if_neg z2, if_pos z] at H
    refine zc_packList hq hB rfl h1 (g3 z) hS c10 (fun w hw => ?_)
    exact H _ _ _ _ _ _ _ _ _ _ _ ⟨pk_us, c3, pk_us, c5, pk_us, pk_us, pk_us, pk_us, hw.1, c11⟩
      (zc_keep (zc_ku _ _ _) (zc_kp _ _) (zc_ku _ _ _) (zc_kp _ _) (zc_ku _ _ _) (zc_ku _ _ _) (zc_ku _ _ _) (zc_ku _ _ _) hw.2 (fun _ _ => rfl))
  · rw [if_neg z1, if_neg z2, if_neg z3, if_pos z] at H
    refine zc_packFrame hq hB rfl h1 h2 hS (g4 z) c10 (fun w hw => ?_)
    exact H _ _ _ _ _ _ _ _ _ _ _ ⟨pk_us, pk_us, pk_us, c5, c6, pk_us, pk_us, pk_us, hw.1, c11⟩
      (zc_keep (zc_ku _ _ _) (zc_ku _ _ _) (zc_ku _ _ _) (zc_kp _ _) (zc_kp _ _) (zc_ku _ _ _) (zc_ku _ _ _) (zc_ku _ _ _) hw.2 (fun _ _ => rfl))
  · rw [if_neg z1, if_neg z2, if_neg z3, if_neg z4, if_pos z] at H
    refine zc_packSteps hq hB (g5 z) c10 (fun w hw => ?_)
    exact H _ _ _ _ _ _ _ _ _ _ _ ⟨pk_us, pk_us, pk_us, pk_us, c6, pk_us, pk_us, pk_us, hw.1, c11⟩
      (zc_keep (zc_ku _ _ _) (zc_ku _ _ _) (zc_ku _ _ _) (zc_ku _ _ _) (zc_kp _ _) (zc_ku _ _ _) (zc_ku _ _ _) (zc_ku _ _ _) hw.2 (fun _ _ => rfl))
  · rw [if_neg z1, if_neg z2, if_neg z3, if_neg z4, if_neg z5] at H
    refine pk_loop (fun n i t => wX_pack_177 post (nI q) rc pc (nI d) cd ga ls n (nI i) a1 (upd a2 q (nI best)) a3 a4 a5 a6 (upd a7 q (S 0)) (upd a8 q (S (d - 1))) (upd a9 q least) t a11 a12 a13 a14 a15 a16 a17 a18 a19 a20 a21 a22) (fun i t => zc_Wn a10 t q (zc_wc B (zc_wo D) i)) 16 0 a10 (by omega) (zc_Wn_0 c10) ?_ ?_
    · intro n t hw
      refine pk_le 16 16 (fun _ => ?_) (fun z => absurd z (by omega))
      exact H _ _ _ _ _ _ _ _ _ _ _ ⟨pk_us, c3, c4, c5, c6, pk_us, pk_us, pk_us, hw.1, c11⟩
        (zc_keep (zc_ku _ _ _) (zc_kp _ _) (zc_kp _ _) (zc_kp _ _) (zc_kp _ _) (zc_ku _ _ _) (zc_ku _ _ _) (zc_ku _ _ _) hw.2 (fun _ _ => rfl))
    · intro n i t hi hw hn
      refine pk_le 16 i (fun z => absurd z (by omega)) (fun _ => ⟨pk_in i 16 hi, pk_in (24 * q + i) 432 (by omega) (zc_24c _ _), nm_r (e' := upd t (24 * q + i) (B i)) ?_ (nm_r (nI_1 i) (hn _ (zc_Wn_up hw (by omega))))⟩)
      rw [zc_24c, nI_clamp (by omega), nI_clamp (by omega), hB i hi]
theorem zc_pack {post : St1 → Prop} {rc pc ds cd ga : Int32} {ls : Int64} {a1 a2 a3 a4 a5 a6 a7 a8 a9 a10 a11 a12 a13 a14 a15 a16 a17 a18 a19 a20 a21 a22 : Nat → Int32} {q : Nat} {B : Nat → Int32} {D : zc_Col} (hq : q < 18) (hB : ∀ i, i < 16 → a15 i = B i) (h : zc_CM a2 a3 a4 a5 a6 a7 a8 a9 a10 a11 q D)
    (H : ∀ (d : Int32) (l : Int64) (b2 b3 b4 b5 b6 b7 b8 b9 b10 b11 b16 : Nat → Int32), zc_CM b2 b3 b4 b5 b6 b7 b8 b9 b10 b11 q (zc_pck B D) → (∀ k D', k ≠ q → zc_CM a2 a3 a4 a5 a6 a7 a8 a9 a10 a11 k D' → zc_CM b2 b3 b4 b5 b6 b7 b8 b9 b10 b11 k D') → post (rc, pc, d, cd, ga, l, a1, b2, b3, b4, b5, b6, b7, b8, b9, b10, b11, a12, a13, a14, a15, b16, a17, a18, a19, a20, a21, a22)) : wpX_pack post (rc, pc, ds, cd, ga, ls, a1, a2, a3, a4, a5, a6, a7, a8, a9, a10, a11, a12, a13, a14, a15, a16, a17, a18, a19, a20, a21, a22) (nI q) := by
  unfold wpX_pack
  dsimp only
  refine zc_findDistinct hB (fun t ht => ?_)
  unfold zc_pck at H
  have hd := zc_fd_le B 16
  generalize (zc_fd B 16).1 = d at *
  generalize (zc_fd B 16).2 = S at *
  have h1 : 1 ≤ d := hd.2 (by omega)
  refine Exists.elim (pk_loop (fun n f (l : Int64) => wX_pack_13 post (nI q) n (nI (zc_bl (zc_sz B d S) f).1) (zc_bl (zc_sz B d S) f).2 (nI (f + 1)) rc pc (nI d) cd ga l a1 a2 a3 a4 a5 a6 a7 a8 a9 a10 a11 a12 a13 a14 a15 t a17 a18 a19 a20 a21 a22) (fun _ _ => True) 5 0 ls (by omega) trivial ?_ ?_) (fun n hn => ⟨n, hn⟩)
  · intro n l _
    obtain ⟨b1, b2, b3⟩ := zc_bl_ok (zc_sz B d S) 5
    generalize hbest : (zc_bl (zc_sz B d S) 5).1 = best at *
    generalize (zc_bl (zc_sz B d S) 5).2 = least at *
    refine zc_packEnd hq b1 hB h1 hd.1 ht h (fun z => ?_) (fun z => ?_) (fun z => ?_) (fun l b2 b3 b4 b5 b6 b7 b8 b9 b10 b11 g1 g2 => H _ l b2 b3 b4 b5 b6 b7 b8 b9 b10 b11 t g1 g2)
    · have b4 := b3 (by omega)
      rw [z] at b4
      rcases Nat.lt_or_ge 8 d with y | y
      · exact absurd (show (512 : Int32) ≤ zc_sz B d S 3 by unfold zc_sz; rw [if_neg (by decide), if_neg (by decide), if_neg (by decide), if_pos rfl, if_neg (by omega)]; decide) b4
      · exact y
    · have b4 := b3 (by omega)
      rw [z] at b4
      rcases Nat.lt_or_ge 31 (zc_fwd d S) with y | y
      · exact absurd (show (512 : Int32) ≤ zc_sz B d S 4 by unfold zc_sz; rw [if_neg (by decide), if_neg (by decide), if_neg (by decide), if_neg (by decide), if_pos rfl, if_neg (by omega)]; decide) b4
      · exact y
    · have b4 := b3 (by omega)
      rw [z] at b4
      by_cases y : zc_sw B = 10000
      · exact absurd (show (512 : Int32) ≤ zc_sz B d S 5 by unfold zc_sz; rw [if_neg (by decide), if_neg (by decide), if_neg (by decide), if_neg (by decide), if_neg (by decide), if_pos y]; decide) b4
      · unfold zc_sw at y ⊢
        split at y
        · exact absurd rfl y
        · split at y
          · exact absurd rfl y
          · split at y
            · exact absurd rfl y
            · rename_i w1 w2 w3
              rw [if_neg w1, if_neg w2, if_neg w3]
              omega
  · intro n f l hf _ hn
    have hst : zc_bl (zc_sz B d S) (f + 1) = if (zc_bl (zc_sz B d S) f).2 ≤ zc_sz B d S (f + 1) then zc_bl (zc_sz B d S) f else (f + 1, zc_sz B d S (f + 1)) := rfl
    rw [hst] at hn
    refine pk_lt 5 (f + 1) (fun z => absurd z (by omega)) (fun _ => zc_sizeOf (by omega) hB rfl h1 hd.1 ht (fun l' => ⟨fun z => ?_, fun z => ?_⟩))
    · rw [if_pos z] at hn
      exact br_t z (nm_r (nI_1 (f + 1)) (hn l' trivial))
    · rw [if_neg z] at hn
      exact br_f z (nm_r (nI_1 (f + 1)) (hn l' trivial))
theorem zc_pck_ok (B : Nat → Int32) (D : zc_Col) : zc_Gd (zc_pck B D) := by
  unfold zc_pck
  have hd := zc_fd_le B 16
  generalize (zc_fd B 16).1 = d at *
  generalize (zc_fd B 16).2 = S at *
  have h1 : 1 ≤ d := hd.2 (by omega)
  obtain ⟨b1, b2, b3⟩ := zc_bl_ok (zc_sz B d S) 5
  generalize hbest : (zc_bl (zc_sz B d S) 5).1 = best at *
  generalize (zc_bl (zc_sz B d S) 5).2 = least at *
  unfold zc_pk1
  by_cases z1 : best = 1
  · rw [if_pos z1]
    exact ⟨b1, fun z => absurd (z1.symm.trans z) (by decide), fun z => absurd (z1.symm.trans z) (by decide), fun z => absurd (z1.symm.trans z) (by decide), fun z => absurd (z1.symm.trans z) (by decide)⟩
  rw [if_neg z1]
  by_cases z2 : best = 2
  · rw [if_pos z2]
    obtain ⟨r1, r2, r3⟩ := zc_pR_ok B (zc_wo D) (zc_le D) 16
    exact ⟨b1, fun _ => ⟨r1, r3⟩, fun z => absurd (z2.symm.trans z) (by decide), fun z => absurd (z2.symm.trans z) (by decide), fun z => absurd (z2.symm.trans z) (by decide)⟩
  rw [if_neg z2]
  by_cases z3 : best = 3
  · rw [if_pos z3]
    have b4 := b3 (by omega)
    rw [z3] at b4
    have h8 : d ≤ 8 := by
      rcases Nat.lt_or_ge 8 d with y | y
      · exact absurd (show (512 : Int32) ≤ zc_sz B d S 3 by unfold zc_sz; rw [if_neg (by decide), if_neg (by decide), if_neg (by decide), if_pos rfl, if_neg (by omega)]; decide) b4
      · exact y
    exact ⟨b1, fun z => absurd (z3.symm.trans z) (by decide), fun _ => ⟨h8, zc_w4_small (d - 1) (by omega)⟩, fun z => absurd (z3.symm.trans z) (by decide), fun z => absurd (z3.symm.trans z) (by decide)⟩
  rw [if_neg z3]
  by_cases z4 : best = 4
  · rw [if_pos z4]
    have b4 := b3 (by omega)
    rw [z4] at b4
    have h8 : zc_fwd d S ≤ 31 := by
      rcases Nat.lt_or_ge 31 (zc_fwd d S) with y | y
      · exact absurd (show (512 : Int32) ≤ zc_sz B d S 4 by unfold zc_sz; rw [if_neg (by decide), if_neg (by decide), if_neg (by decide), if_neg (by decide), if_pos rfl, if_neg (by omega)]; decide) b4
      · exact y
    exact ⟨b1, fun z => absurd (z4.symm.trans z) (by decide), fun z => absurd (z4.symm.trans z) (by decide), fun _ => h8, fun z => absurd (z4.symm.trans z) (by decide)⟩
  rw [if_neg z4]
  by_cases z5 : best = 5
  · rw [if_pos z5]
    have b4 := b3 (by omega)
    rw [z5] at b4
    have h8 : zc_sw B ≤ 31 := by
      by_cases y : zc_sw B = 10000
      · exact absurd (show (512 : Int32) ≤ zc_sz B d S 5 by unfold zc_sz; rw [if_neg (by decide), if_neg (by decide), if_neg (by decide), if_neg (by decide), if_neg (by decide), if_pos y]; decide) b4
      · unfold zc_sw at y ⊢
        split at y
        · exact absurd rfl y
        · split at y
          · exact absurd rfl y
          · split at y
            · exact absurd rfl y
            · rename_i w1 w2 w3
              rw [if_neg w1, if_neg w2, if_neg w3]
              omega
    exact ⟨b1, fun z => absurd (z5.symm.trans z) (by decide), fun z => absurd (z5.symm.trans z) (by decide), fun z => absurd (z5.symm.trans z) (by decide), fun _ => h8⟩
  rw [if_neg z5]
  exact ⟨b1, fun z => absurd z z2, fun z => absurd z z3, fun z => absurd z z4, fun z => absurd z z5⟩
end
section
/-! a block is packed -/
theorem zc_packLoose {post : St1 → Prop} {rc pc ds cd ga : Int32} {ls : Int64} {a1 a2 a3 a4 a5 a6 a7 a8 a9 a10 a11 a12 a13 a14 a15 a16 a17 a18 a19 a20 a21 a22 : Nat → Int32} {b : Nat} (D0 : Nat → zc_Col) (Bf : Nat → Nat → Int32) (hrc : rc = nI (16 * (b + 1))) (hb : b < 6) (hB : ∀ e i, e < 3 → i < 16 → a12 (3 * i + e) = Bf e i) (hD : ∀ e, e < 3 → zc_CM a2 a3 a4 a5 a6 a7 a8 a9 a10 a11 (3 * b + e) (D0 e))
    (H : ∀ (d : Int32) (l : Int64) (b2 b3 b4 b5 b6 b7 b8 b9 b10 b11 b15 b16 : Nat → Int32), (∀ k D, (k < 3 * b ∨ 3 * b + 3 ≤ k) → zc_CM a2 a3 a4 a5 a6 a7 a8 a9 a10 a11 k D → zc_CM b2 b3 b4 b5 b6 b7 b8 b9 b10 b11 k D) → (∀ e, e < 3 → zc_CM b2 b3 b4 b5 b6 b7 b8 b9 b10 b11 (3 * b + e) (zc_pck (Bf e) (D0 e))) → post (rc, pc, d, cd, ga, l, a1, b2, b3, b4, b5, b6, b7, b8, b9, b10, b11, a12, a13, a14, b15, b16, a17, a18, a19, a20, a21, a22)) : wpX_packLoose post (rc, pc, ds, cd, ga, ls, a1, a2, a3, a4, a5, a6, a7, a8, a9, a10, a11, a12, a13, a14, a15, a16, a17, a18, a19, a20, a21, a22) := by
  unfold wpX_packLoose
  dsimp only
  refine zc_blockCount hrc (by omega) (nm_r (e' := nI b) (by rw [show 16 * (b + 1) / 16 = b + 1 by omega]; exact nI_pred b) ?_)
  refine pk_loop (fun n e (s : Int32 × Int64 × (Nat → Int32) × (Nat → Int32) × (Nat → Int32) × (Nat → Int32) × (Nat → Int32) × (Nat → Int32) × (Nat → Int32) × (Nat → Int32) × (Nat → Int32) × (Nat → Int32) × (Nat → Int32) × (Nat → Int32)) => wX_packLoose_9 post (nI b) n (nI e) rc pc s.1 cd ga s.2.1 a1 s.2.2.1 s.2.2.2.1 s.2.2.2.2.1 s.2.2.2.2.2.1 s.2.2.2.2.2.2.1 s.2.2.2.2.2.2.2.1 s.2.2.2.2.2.2.2.2.1 s.2.2.2.2.2.2.2.2.2.1 s.2.2.2.2.2.2.2.2.2.2.1 s.2.2.2.2.2.2.2.2.2.2.2.1 a12 a13 a14 s.2.2.2.2.2.2.2.2.2.2.2.2.1 s.2.2.2.2.2.2.2.2.2.2.2.2.2 a17 a18 a19 a20 a21 a22) (fun e s => (∀ k D, (k < 3 * b ∨ 3 * b + e ≤ k) → zc_CM a2 a3 a4 a5 a6 a7 a8 a9 a10 a11 k D → zc_CM s.2.2.1 s.2.2.2.1 s.2.2.2.2.1 s.2.2.2.2.2.1 s.2.2.2.2.2.2.1 s.2.2.2.2.2.2.2.1 s.2.2.2.2.2.2.2.2.1 s.2.2.2.2.2.2.2.2.2.1 s.2.2.2.2.2.2.2.2.2.2.1 s.2.2.2.2.2.2.2.2.2.2.2.1 k D) ∧ (∀ e', e' < e → zc_CM s.2.2.1 s.2.2.2.1 s.2.2.2.2.1 s.2.2.2.2.2.1 s.2.2.2.2.2.2.1 s.2.2.2.2.2.2.2.1 s.2.2.2.2.2.2.2.2.1 s.2.2.2.2.2.2.2.2.2.1 s.2.2.2.2.2.2.2.2.2.2.1 s.2.2.2.2.2.2.2.2.2.2.2.1 (3 * b + e') (zc_pck (Bf e') (D0 e')))) 3 0 (ds, ls, a2, a3, a4, a5, a6, a7, a8, a9, a10, a11, a15, a16) (by omega) ⟨fun _ _ _ h => h, fun e' h => absurd h (Nat.not_lt_zero e')⟩ ?_ ?_
  · intro n s ⟨h2, h3⟩
    exact pk_le 3 3 (fun _ => H _ _ _ _ _ _ _ _ _ _ _ _ _ _ h2 h3) (fun z => absurd z (by omega))
  · intro n e s he ⟨h2, h3⟩ hn
    obtain ⟨ds', ls', b2, b3, b4, b5, b6, b7, b8, b9, b10, b11, b15, b16⟩ := s
    replace h2 : ∀ k D, (k < 3 * b ∨ 3 * b + e ≤ k) → zc_CM a2 a3 a4 a5 a6 a7 a8 a9 a10 a11 k D → zc_CM b2 b3 b4 b5 b6 b7 b8 b9 b10 b11 k D := h2
    replace h3 : ∀ e', e' < e → zc_CM b2 b3 b4 b5 b6 b7 b8 b9 b10 b11 (3 * b + e') (zc_pck (Bf e') (D0 e')) := h3
    refine pk_le 3 e (fun z => absurd z (by omega)) (fun _ => ?_)
    refine pk_loop (fun n' i t => wX_packLoose_16 post (wX_packLoose_9 post (nI b) n) (nI b) (nI e) rc pc ds' cd ga ls' n' (nI i) a1 b2 b3 b4 b5 b6 b7 b8 b9 b10 b11 a12 a13 a14 t b16 a17 a18 a19 a20 a21 a22) (fun i t => ∀ j, j < i → t j = Bf e j) 16 0 b15 (by omega) (fun j hj => absurd hj (Nat.not_lt_zero j)) ?_ ?_
    · intro n' t ht
      refine pk_le 16 16 (fun _ => ?_) (fun z => absurd z (by omega))
      rw [zc_3c]
      refine zc_pack (B := Bf e) (D := D0 e) (by omega) ht (h2 _ _ (Or.inr (Nat.le_refl _)) (hD e he)) (fun d l w2 w3 w4 w5 w6 w7 w8 w9 w10 w11 w16 g2 g3 => nm_r (nI_1 e) (hn (d, l, w2, w3, w4, w5, w6, w7, w8, w9, w10, w11, t, w16) ⟨fun k D hk hc => g3 k D (by omega) (h2 k D (by omega) hc), fun e' he' => ?_⟩))
      show zc_CM w2 w3 w4 w5 w6 w7 w8 w9 w10 w11 (3 * b + e') (zc_pck (Bf e') (D0 e'))
      rcases Nat.lt_or_ge e' e with z | z
      · exact g3 _ _ (by omega) (h3 e' z)
      · rw [show e' = e by omega]
        exact g2
    · intro n' i t hi ht hn'
      refine pk_le 16 i (fun z => absurd z (by omega)) (fun _ => ⟨pk_in (3 * i + e) 48 (by omega) (zc_3c _ _), pk_in i 16 hi, nm_r (e' := upd t i (Bf e i)) ?_ (nm_r (nI_1 i) (hn' _ (fun j hj => ?_)))⟩)
      · rw [zc_3c, nI_clamp (by omega), nI_clamp (by omega), hB e i he hi]
      · rcases Nat.lt_or_ge j i with z | z
        · rw [pk_un (by omega)]
          exact ht j z
        · rw [zc_upd_s (by omega), show j = i by omega]
/-! a row is added -/
def zc_lo' (P : zc_Pic) (X : Nat → Int32) : Nat → Nat → Int32 := fun i c => if i = zc_n P % 16 then X c else zc_lo P i c
def zc_col' (P : zc_Pic) (X : Nat → Int32) : Nat → Nat → zc_Col := fun b c => if zc_n P % 16 = 15 ∧ b = zc_n P / 16 then zc_pck (fun i => zc_lo' P X i c) (zc_col P b c) else zc_col P b c
def zc_add (P : zc_Pic) (X : Nat → Int32) : zc_Pic := (zc_n P + 1, upd (zc_dl P) (zc_n P) 0, zc_col' P X, zc_lo' P X, P.2.2.2.2)
theorem zc_add_ok {P : zc_Pic} (X : Nat → Int32) (ok : zc_Ok P) (h : zc_n P < 96) : zc_Ok (zc_add P X) := by
  obtain ⟨o1, o2, o3, o4, o5, o6⟩ := ok
  refine ⟨h, fun b c hb hc => ?_, o3, o4, o5, o6⟩
  show zc_Gd (zc_col' P X b c)
  unfold zc_col'
  split
  · exact zc_pck_ok _ _
  · exact o2 b c hb hc
theorem zc_lo3 {m : Bool} {a12 X : Nat → Int32} {l : Nat → Nat → Int32} {i : Nat} (hi : i < 16) (h : ∀ j c, j < 16 → c < 3 → a12 (3 * j + zc_sg m c) = l j c) : ∀ j c, j < 16 → c < 3 → upd (upd (upd a12 (3 * i) (X (zc_sg m 0))) (3 * i + 1) (X (zc_sg m 1))) (3 * i + 2) (X (zc_sg m 2)) (3 * j + zc_sg m c) = if j = i then X c else l j c := by
  intro j c hj hc
  have hs := zc_sg_lt m hc
  have hss := zc_sg_sg m hc
  by_cases e : j = i
  · rw [if_pos e, e]
    generalize zc_sg m c = s at *
    rcases Nat.lt_trichotomy s 1 with z | z | z
    · have : s = 0 := by omega
      subst this
      rw [pk_un (by omega), pk_un (by omega), zc_upd_s (by omega), hss]
    · subst z
      rw [pk_un (by omega), zc_upd_s rfl, hss]
    · have : s = 2 := by omega
      subst this
      rw [zc_upd_s rfl, hss]
  · rw [if_neg e, pk_un (by omega), pk_un (by omega), pk_un (by omega)]
    exact h j c hj hc
theorem zc_addRow {post : Int32 → St1 → Prop} {rc pc ds cd ga : Int32} {ls : Int64} {a1 a2 a3 a4 a5 a6 a7 a8 a9 a10 a11 a12 a13 a14 a15 a16 a17 a18 a19 a20 a21 a22 : Nat → Int32} {m : Bool} {P : zc_Pic} {X : Nat → Int32} (ok : zc_Ok P) (h : zc_Mt m P rc pc cd a1 a2 a3 a4 a5 a6 a7 a8 a9 a10 a11 a12 a13 a14 a17 a18 a19) (hn : zc_n P < 96) (H : ∀ (rc pc ds cd ga : Int32) (ls : Int64) (a1 a2 a3 a4 a5 a6 a7 a8 a9 a10 a11 a12 a13 a14 a15 a16 a17 a18 a19 a20 a21 : Nat → Int32), zc_Mt m (zc_add P X) rc pc cd a1 a2 a3 a4 a5 a6 a7 a8 a9 a10 a11 a12 a13 a14 a17 a18 a19 → post (nI (zc_n P)) (rc, pc, ds, cd, ga, ls, a1, a2, a3, a4, a5, a6, a7, a8, a9, a10, a11, a12, a13, a14, a15, a16, a17, a18, a19, a20, a21, a22)) : wpX_addRow post (rc, pc, ds, cd, ga, ls, a1, a2, a3, a4, a5, a6, a7, a8, a9, a10, a11, a12, a13, a14, a15, a16, a17, a18, a19, a20, a21, a22) (X (zc_sg m 0)) (X (zc_sg m 1)) (X (zc_sg m 2)) := by
  obtain ⟨m1, m2, m3, m4, m5, m6, m7, m8⟩ := h
  obtain ⟨o1, o2, o3, o4, o5, o6⟩ := ok
  have e1 : rc = nI (zc_n P) := m1
  subst e1
  have L := zc_lo3 (X := X) (i := zc_n P % 16) (by omega) m6
  have D1 : ∀ j, j < 96 → upd a1 (zc_n P) 0 j = upd (zc_dl P) (zc_n P) 0 j := by
    intro j hj
    rcases Nat.decEq j (zc_n P) with z | z
    · rw [pk_un z, pk_un z]
      exact m4 j hj
    · rw [zc_upd_s z, zc_upd_s z]
  refine ⟨zc_n16, nm_r (zc_r16 (by omega)) ⟨pk_in (3 * (zc_n P % 16)) 48 (by omega) (zc_m3 _), nm_r (e' := upd a12 (3 * (zc_n P % 16)) (X (zc_sg m 0))) (by rw [zc_m3, nI_clamp (by omega)]) ⟨pk_in (3 * (zc_n P % 16) + 1) 48 (by omega) (zc_3c _ 1), nm_r (e' := upd (upd a12 (3 * (zc_n P % 16)) (X (zc_sg m 0))) (3 * (zc_n P % 16) + 1) (X (zc_sg m 1))) (by rw [zc_m3, nI_1, nI_clamp (by omega)]) ⟨pk_in (3 * (zc_n P % 16) + 2) 48 (by omega) (zc_3c _ 2), nm_r (e' := upd (upd (upd a12 (3 * (zc_n P % 16)) (X (zc_sg m 0))) (3 * (zc_n P % 16) + 1) (X (zc_sg m 1))) (3 * (zc_n P % 16) + 2) (X (zc_sg m 2))) (by rw [show (3 : Int32) * nI (zc_n P % 16) + 2 = nI (3 * (zc_n P % 16) + 2) from zc_3c _ 2, nI_clamp (by omega)]) ⟨pk_in (zc_n P) 96 hn, nm_r (e' := upd a1 (zc_n P) 0) (by rw [nI_clamp (by omega)]) (nm_r (nI_1 _) ?_)⟩⟩⟩⟩⟩
  refine pk_eq (zc_n P % 16) 15 (fun z => ?_) (fun z => ?_)
  · refine zc_packLoose (b := zc_n P / 16) (fun e => zc_col P (zc_n P / 16) (zc_sg m e)) (fun e i => zc_lo' P X i (zc_sg m e)) ?_ (by omega) (fun e i he hi => ?_) (fun e he => ?_) (fun d l b2 b3 b4 b5 b6 b7 b8 b9 b10 b11 b15 b16 g2 g3 => ?_)
    · exact congrArg nI (by omega)
    · have := L i (zc_sg m e) hi (zc_sg_lt m he)
      rw [zc_sg_sg m he] at this
      exact this
    · have := m5 (zc_n P / 16) (zc_sg m e) (by omega) (zc_sg_lt m he)
      rw [zc_sg_sg m he] at this
      exact this
    · have M : zc_Mt m (zc_add P X) (nI (zc_n P + 1)) pc cd (upd a1 (zc_n P) 0) b2 b3 b4 b5 b6 b7 b8 b9 b10 b11 (upd (upd (upd a12 (3 * (zc_n P % 16)) (X (zc_sg m 0))) (3 * (zc_n P % 16) + 1) (X (zc_sg m 1))) (3 * (zc_n P % 16) + 2) (X (zc_sg m 2))) a13 a14 a17 a18 a19 := by
        refine ⟨rfl, m2, m3, D1, fun b c hb hc => ?_, L, m7, m8⟩
        show zc_CM b2 b3 b4 b5 b6 b7 b8 b9 b10 b11 (3 * b + zc_sg m c) (zc_col' P X b c)
        unfold zc_col'
        have hs := zc_sg_lt m hc
        by_cases y : b = zc_n P / 16
        · rw [if_pos ⟨z, y⟩, y]
          have := g3 (zc_sg m c) hs
          rw [zc_sg_sg m hc] at this
          exact this
        · rw [if_neg (fun w => y w.2)]
          exact g2 _ _ (by omega) (m5 b c hb hc)
      dsimp only
      rw [nI_pred]
      exact H _ _ _ _ _ _ _ _ _ _ _ _ _ _ _ _ _ _ _ _ _ _ _ _ _ _ _ M
  · rw [nI_pred]
    refine H _ _ _ _ _ _ _ _ _ _ _ _ _ _ _ _ _ _ _ _ _ _ _ _ _ _ _ ⟨rfl, m2, m3, D1, fun b c hb hc => ?_, L, m7, m8⟩
    show zc_CM a2 a3 a4 a5 a6 a7 a8 a9 a10 a11 (3 * b + zc_sg m c) (zc_col' P X b c)
    unfold zc_col'
    rw [if_neg (fun w => z w.1)]
    exact m5 b c hb hc
def zc_app (P : zc_Pic) (X : Nat → Int32) : Int32 × zc_Pic := if zc_n P = 96 then (-1000000002, P) else (nI (zc_n P), zc_add P X)
theorem zc_app_ok {P : zc_Pic} (X : Nat → Int32) (ok : zc_Ok P) : zc_Ok (zc_app P X).2 := by
  unfold zc_app
  have := ok.1
  split
  · exact ok
  · exact zc_add_ok X ok (by omega)
theorem zc_append {post : Int32 → St1 → Prop} {rc pc ds cd ga : Int32} {ls : Int64} {a1 a2 a3 a4 a5 a6 a7 a8 a9 a10 a11 a12 a13 a14 a15 a16 a17 a18 a19 a20 a21 a22 : Nat → Int32} {m : Bool} {P : zc_Pic} {x0 x1 x2 : Int32} (X : Nat → Int32) (ok : zc_Ok P) (h : zc_Mt m P rc pc cd a1 a2 a3 a4 a5 a6 a7 a8 a9 a10 a11 a12 a13 a14 a17 a18 a19) (h0 : x0 = X (zc_sg m 0)) (h1 : x1 = X (zc_sg m 1)) (h2 : x2 = X (zc_sg m 2)) (H : ∀ (rc pc ds cd ga : Int32) (ls : Int64) (a1 a2 a3 a4 a5 a6 a7 a8 a9 a10 a11 a12 a13 a14 a15 a16 a17 a18 a19 a20 a21 a22 : Nat → Int32), zc_Mt m (zc_app P X).2 rc pc cd a1 a2 a3 a4 a5 a6 a7 a8 a9 a10 a11 a12 a13 a14 a17 a18 a19 → post (zc_app P X).1 (rc, pc, ds, cd, ga, ls, a1, a2, a3, a4, a5, a6, a7, a8, a9, a10, a11, a12, a13, a14, a15, a16, a17, a18, a19, a20, a21, a22)) : wpX_append post (rc, pc, ds, cd, ga, ls, a1, a2, a3, a4, a5, a6, a7, a8, a9, a10, a11, a12, a13, a14, a15, a16, a17, a18, a19, a20, a21, a22) x0 x1 x2 := by
  subst h0 h1 h2
  have o1 := ok.1
  unfold zc_app at H
  refine pk_eq (zc_n P) 96 (fun z => ?_) (fun z => ?_) h.1
  · rw [if_pos z] at H
    exact H _ _ _ _ _ _ _ _ _ _ _ _ _ _ _ _ _ _ _ _ _ _ _ _ _ _ _ _ h
  · rw [if_neg z] at H
    exact zc_addRow ok h (by omega) (fun rc pc ds cd ga ls a1 a2 a3 a4 a5 a6 a7 a8 a9 a10 a11 a12 a13 a14 a15 a16 a17 a18 a19 a20 a21 g1 => H _ _ _ _ _ _ _ _ _ _ _ _ _ _ _ _ _ _ _ _ _ _ _ _ _ _ _ _ g1)
/-! a value is changed -/
def zc_chg (P : zc_Pic) (r c : Nat) (z : Int32) : Int32 × zc_Pic :=
  if r / 16 = zc_n P / 16 then (zc_va P r c, (zc_n P, zc_dl P, zc_col P, (fun i d => if i = r % 16 ∧ d = c then z else zc_lo P i d), P.2.2.2.2))
  else match zc_fp P r c (zc_k P) 0 with
    | some j => (zc_va P r c, (zc_n P, zc_dl P, zc_col P, zc_lo P, zc_k P, zc_pr P, zc_pq P, upd (zc_pv P) j z, P.2.2.2.2.2.2.2.2))
    | none => if zc_va P r c = z then (zc_va P r c, P) else if zc_k P = 20 then (-1000000002, P) else (zc_va P r c, (zc_n P, zc_dl P, zc_col P, zc_lo P, zc_k P + 1, zc_upN (zc_pr P) (zc_k P) r, zc_upN (zc_pq P) (zc_k P) c, upd (zc_pv P) (zc_k P) z, P.2.2.2.2.2.2.2.2))
theorem zc_chg_ok {P : zc_Pic} {r c : Nat} (z : Int32) (ok : zc_Ok P) (hr : r < zc_n P) (hc : c < 3) : zc_Ok (zc_chg P r c z).2 := by
  have hok := ok
  obtain ⟨o1, o2, o3, o4, o5, o6⟩ := ok
  unfold zc_chg
  split
  · exact ⟨o1, o2, o3, o4, o5, o6⟩
  · split
    · exact ⟨o1, o2, o3, o4, o5, o6⟩
    · split
      · exact hok
      · split
        · exact hok
        · refine ⟨o1, o2, by show zc_k P + 1 ≤ 20; omega, fun j hj => ?_, o5, o6⟩
          show zc_upN (zc_pr P) (zc_k P) r j < 96 ∧ zc_upN (zc_pq P) (zc_k P) c j < 3
          have hj' : j < zc_k P + 1 := hj
          unfold zc_upN
          by_cases e : j = zc_k P
          · rw [if_pos e, if_pos e]
            omega
          · rw [if_neg e, if_neg e]
            exact o4 j (by omega)
theorem zc_change {post : Int32 → St1 → Prop} {rc pc ds cd ga : Int32} {ls : Int64} {a1 a2 a3 a4 a5 a6 a7 a8 a9 a10 a11 a12 a13 a14 a15 a16 a17 a18 a19 a20 a21 a22 : Nat → Int32} {m : Bool} {P : zc_Pic} {r c : Nat} {z : Int32} (ok : zc_Ok P) (h : zc_Mt m P rc pc cd a1 a2 a3 a4 a5 a6 a7 a8 a9 a10 a11 a12 a13 a14 a17 a18 a19) (hr : r < zc_n P) (hdl : zc_dl P r = 0) (hc : c < 3) (H : ∀ (rc pc ds cd ga : Int32) (ls : Int64) (a1 a2 a3 a4 a5 a6 a7 a8 a9 a10 a11 a12 a13 a14 a15 a16 a17 a18 a19 a20 a21 a22 : Nat → Int32), zc_Mt m (zc_chg P r c z).2 rc pc cd a1 a2 a3 a4 a5 a6 a7 a8 a9 a10 a11 a12 a13 a14 a17 a18 a19 → post (zc_chg P r c z).1 (rc, pc, ds, cd, ga, ls, a1, a2, a3, a4, a5, a6, a7, a8, a9, a10, a11, a12, a13, a14, a15, a16, a17, a18, a19, a20, a21, a22)) : wpX_change post (rc, pc, ds, cd, ga, ls, a1, a2, a3, a4, a5, a6, a7, a8, a9, a10, a11, a12, a13, a14, a15, a16, a17, a18, a19, a20, a21, a22) (nI r) (nI (zc_sg m c)) z := by
  unfold wpX_change
  dsimp only
  have o1 := ok.1
  have hsc := zc_sg_lt m hc
  refine zc_goodColumn hsc (zc_noRow ok h (fun r' q1 q2 q3 => ?_) (fun w => absurd ⟨r, hr, rfl, hdl⟩ w))
  refine zc_valueAt ok h hr hc (fun b => ⟨zc_n16, zc_blockCount (n := zc_n P) h.1 (by omega) ?_⟩)
  obtain ⟨m1, m2, m3, m4, m5, m6, m7, m8⟩ := h
  have er : nI r - nI r / (16 : Int32) * 16 = nI (r % 16) := zc_r16 (by omega)
  unfold zc_chg at H
  refine pk_eq (r / 16) (zc_n P / 16) (fun g => ⟨zc_n16, ?_⟩) (fun g => ?_) (zc_d16 (by omega))
  · rw [if_pos g] at H
    rw [er, zc_3c]
    refine ⟨pk_in _ 48 (by omega) rfl, nm_r (e' := upd a12 (3 * (r % 16) + zc_sg m c) z) (by rw [nI_clamp (by omega)]) (H _ _ _ _ _ _ _ _ _ _ _ _ _ _ _ _ _ _ _ _ _ _ _ _ _ _ _ _ ⟨m1, m2, m3, m4, m5, fun i d hi hd => ?_, m7, m8⟩)⟩
    have hsd := zc_sg_lt m hd
    show upd a12 (3 * (r % 16) + zc_sg m c) z (3 * i + zc_sg m d) = if i = r % 16 ∧ d = c then z else zc_lo P i d
    by_cases e : i = r % 16 ∧ d = c
    · rw [if_pos e, e.1, e.2, zc_upd_s rfl]
    · rw [if_neg e, pk_un (fun w => e ⟨by omega, (zc_sg_inj m hd hc).mp (by omega)⟩)]
      exact m6 i d hi hd
  · rw [if_neg g] at H
    refine zc_patchAt ok ⟨m1, m2, m3, m4, m5, m6, m7, m8⟩ (show r < 96 by omega) hc (zc_3c _ _) (fun w => ?_) (fun j w hj => ?_)
    · rw [w] at H
      refine ⟨fun y => ?_, fun y => br_t rfl (pk_eq (zc_k P) 20 (fun v => ?_) (fun v => br_t rfl ?_) m2 rfl (by have := ok.2.2.1; omega))⟩
      · have H' : ∀ (rc pc ds cd ga : Int32) (ls : Int64) (a1 a2 a3 a4 a5 a6 a7 a8 a9 a10 a11 a12 a13 a14 a15 a16 a17 a18 a19 a20 a21 a22 : Nat → Int32), zc_Mt m P rc pc cd a1 a2 a3 a4 a5 a6 a7 a8 a9 a10 a11 a12 a13 a14 a17 a18 a19 → post (zc_va P r c) (rc, pc, ds, cd, ga, ls, a1, a2, a3, a4, a5, a6, a7, a8, a9, a10, a11, a12, a13, a14, a15, a16, a17, a18, a19, a20, a21, a22) := by
          have := H
          dsimp only at this
          rw [if_pos y] at this
          exact this
        exact H' _ _ _ _ _ _ _ _ _ _ _ _ _ _ _ _ _ _ _ _ _ _ _ _ _ _ _ _ ⟨m1, m2, m3, m4, m5, m6, m7, m8⟩
      · have H' : ∀ (rc pc ds cd ga : Int32) (ls : Int64) (a1 a2 a3 a4 a5 a6 a7 a8 a9 a10 a11 a12 a13 a14 a15 a16 a17 a18 a19 a20 a21 a22 : Nat → Int32), zc_Mt m P rc pc cd a1 a2 a3 a4 a5 a6 a7 a8 a9 a10 a11 a12 a13 a14 a17 a18 a19 → post (-1000000002) (rc, pc, ds, cd, ga, ls, a1, a2, a3, a4, a5, a6, a7, a8, a9, a10, a11, a12, a13, a14, a15, a16, a17, a18, a19, a20, a21, a22) := by
          have := H
          dsimp only at this
          rw [if_neg y, if_pos v] at this
          exact this
        exact H' _ _ _ _ _ _ _ _ _ _ _ _ _ _ _ _ _ _ _ _ _ _ _ _ _ _ _ _ ⟨m1, m2, m3, m4, m5, m6, m7, m8⟩
      · have H' := H
        dsimp only at H'
        rw [if_neg y, if_neg v] at H'
        have e2 : pc = nI (zc_k P) := m2
        have hk := ok.2.2.1
        rw [e2, nI_clamp (by omega), zc_3c]
        refine ⟨pk_in (zc_k P) 20 (by omega), nm_e (nm_r (nI_1 _) ⟨pk_in (zc_k P) 20 (by omega), nm_e (H' _ _ _ _ _ _ _ _ _ _ _ _ _ _ _ _ _ _ _ _ _ _ _ _ _ _ _ _ ⟨m1, rfl, m3, m4, m5, m6, fun j hj => ?_, m8⟩)⟩)⟩
        show upd a13 (zc_k P) (nI (3 * r + zc_sg m c)) j = nI (3 * zc_upN (zc_pr P) (zc_k P) r j + zc_sg m (zc_upN (zc_pq P) (zc_k P) c j)) ∧ upd a14 (zc_k P) z j = upd (zc_pv P) (zc_k P) z j
        have hj' : j < zc_k P + 1 := hj
        unfold zc_upN
        by_cases e : j = zc_k P
        · rw [if_pos e, if_pos e, zc_upd_s e, zc_upd_s e, zc_upd_s e]
          exact ⟨rfl, rfl⟩
        · rw [if_neg e, if_neg e, pk_un e, pk_un e, pk_un e]
          exact m7 j (by omega)
    · rw [w] at H
      have hk := ok.2.2.1
      have hne : ¬ nI j = -1 := by
        intro y
        have y' : nI j < 0 := by rw [y]; decide
        exact nI_pos (by omega) y'
      refine br_f hne (br_f hne ⟨pk_in j 20 (by omega), nm_r (e' := upd a14 j z) (by rw [nI_clamp (by omega)]) (H _ _ _ _ _ _ _ _ _ _ _ _ _ _ _ _ _ _ _ _ _ _ _ _ _ _ _ _ ⟨m1, m2, m3, m4, m5, m6, fun i hi => ⟨(m7 i hi).1, ?_⟩, m8⟩)⟩)
      show upd a14 j z i = upd (zc_pv P) j z i
      rcases Nat.decEq i j with e | e
      · rw [pk_un e, pk_un e]
        exact (m7 i hi).2
      · rw [zc_upd_s e, zc_upd_s e]
theorem zc_changeNo {post : Int32 → St1 → Prop} {rc pc ds cd ga : Int32} {ls : Int64} {a1 a2 a3 a4 a5 a6 a7 a8 a9 a10 a11 a12 a13 a14 a15 a16 a17 a18 a19 a20 a21 a22 : Nat → Int32} {m : Bool} {P : zc_Pic} {c : Nat} {x z : Int32} (ok : zc_Ok P) (h : zc_Mt m P rc pc cd a1 a2 a3 a4 a5 a6 a7 a8 a9 a10 a11 a12 a13 a14 a17 a18 a19) (hx : zc_nr P x) (hc : c < 3) (H : post (-1000000003) (rc, pc, ds, cd, ga, ls, a1, a2, a3, a4, a5, a6, a7, a8, a9, a10, a11, a12, a13, a14, a15, a16, a17, a18, a19, a20, a21, a22)) : wpX_change post (rc, pc, ds, cd, ga, ls, a1, a2, a3, a4, a5, a6, a7, a8, a9, a10, a11, a12, a13, a14, a15, a16, a17, a18, a19, a20, a21, a22) x (nI (zc_sg m c)) z := by
  unfold wpX_change
  dsimp only
  exact zc_goodColumn (zc_sg_lt m hc) (zc_noRow ok h (fun r' q1 q2 q3 => absurd ⟨r', q1, q2, q3⟩ hx) (fun _ => H))
theorem zc_changeBad {post : Int32 → St1 → Prop} {rc pc ds cd ga : Int32} {ls : Int64} {a1 a2 a3 a4 a5 a6 a7 a8 a9 a10 a11 a12 a13 a14 a15 a16 a17 a18 a19 a20 a21 a22 : Nat → Int32} {x y z : Int32} (hy : y < 0 ∨ ¬ y < 3) (H : post (-1000000001) (rc, pc, ds, cd, ga, ls, a1, a2, a3, a4, a5, a6, a7, a8, a9, a10, a11, a12, a13, a14, a15, a16, a17, a18, a19, a20, a21, a22)) : wpX_change post (rc, pc, ds, cd, ga, ls, a1, a2, a3, a4, a5, a6, a7, a8, a9, a10, a11, a12, a13, a14, a15, a16, a17, a18, a19, a20, a21, a22) x y z := by
  unfold wpX_change
  dsimp only
  refine zc_badColumn (fun ⟨c, hc, e⟩ => ?_) (fun _ => H)
  subst e
  exact absurd hy (fun w => w.elim (nI_pos (by omega)) (fun w => w (nI_lt (b := 3) hc (by omega))))
/-! a row is deleted -/
def zc_lr (P : zc_Pic) : Nat → Int32
  | 0 => 0
  | r + 1 => if zc_dl P r = 0 then zc_lr P r + 1 else zc_lr P r
theorem zc_liveRows {post : Int32 → Prop} {rc pc ds cd ga : Int32} {ls : Int64} {a1 a2 a3 a4 a5 a6 a7 a8 a9 a10 a11 a12 a13 a14 a15 a16 a17 a18 a19 a20 a21 a22 : Nat → Int32} {m : Bool} {P : zc_Pic} (ok : zc_Ok P) (h : zc_Mt m P rc pc cd a1 a2 a3 a4 a5 a6 a7 a8 a9 a10 a11 a12 a13 a14 a17 a18 a19) (H : post (zc_lr P (zc_n P))) : wpX_liveRows post (rc, pc, ds, cd, ga, ls, a1, a2, a3, a4, a5, a6, a7, a8, a9, a10, a11, a12, a13, a14, a15, a16, a17, a18, a19, a20, a21, a22) := by
  obtain ⟨m1, m2, m3, m4, m5, m6, m7, m8⟩ := h
  have o1 := ok.1
  refine pk_loop (fun n r s => wX_liveRows_4 post rc pc ds cd ga ls a1 a2 a3 a4 a5 a6 a7 a8 a9 a10 a11 a12 a13 a14 a15 a16 a17 a18 a19 a20 a21 a22 n s (nI r)) (fun r s => s = zc_lr P r) (zc_n P) 0 0 (by omega) rfl ?_ ?_
  · intro n s hs
    exact pk_le (zc_n P) (zc_n P) (fun _ => hs ▸ H) (fun z => absurd z (by omega)) m1
  · intro n r s hr hs hn
    refine pk_le (zc_n P) r (fun z => absurd z (by omega)) (fun _ => ⟨pk_in r 96 (by omega), ?_⟩) m1
    rw [nI_clamp (by omega), show a1 r = zc_dl P r from m4 r (by omega)]
    refine ⟨fun z => nm_e (nm_r (nI_1 r) (hn _ ?_)), fun z => nm_r (nI_1 r) (hn _ ?_)⟩
    · rw [hs]
      exact (if_pos z).symm
    · rw [hs]
      exact (if_neg z).symm
def zc_del (P : zc_Pic) (r : Nat) : zc_Pic := (zc_n P, upd (zc_dl P) r 1, P.2.2)
theorem zc_del_ok {P : zc_Pic} (r : Nat) (ok : zc_Ok P) : zc_Ok (zc_del P r) := ok
theorem zc_delete {post : Int32 → St1 → Prop} {rc pc ds cd ga : Int32} {ls : Int64} {a1 a2 a3 a4 a5 a6 a7 a8 a9 a10 a11 a12 a13 a14 a15 a16 a17 a18 a19 a20 a21 a22 : Nat → Int32} {m : Bool} {P : zc_Pic} {r : Nat} (ok : zc_Ok P) (h : zc_Mt m P rc pc cd a1 a2 a3 a4 a5 a6 a7 a8 a9 a10 a11 a12 a13 a14 a17 a18 a19) (hr : r < zc_n P) (hdl : zc_dl P r = 0) (H : ∀ (rc pc ds cd ga : Int32) (ls : Int64) (a1 a2 a3 a4 a5 a6 a7 a8 a9 a10 a11 a12 a13 a14 a15 a16 a17 a18 a19 a20 a21 a22 : Nat → Int32), zc_Mt m (zc_del P r) rc pc cd a1 a2 a3 a4 a5 a6 a7 a8 a9 a10 a11 a12 a13 a14 a17 a18 a19 → post (zc_lr (zc_del P r) (zc_n P)) (rc, pc, ds, cd, ga, ls, a1, a2, a3, a4, a5, a6, a7, a8, a9, a10, a11, a12, a13, a14, a15, a16, a17, a18, a19, a20, a21, a22)) : wpX_delete post (rc, pc, ds, cd, ga, ls, a1, a2, a3, a4, a5, a6, a7, a8, a9, a10, a11, a12, a13, a14, a15, a16, a17, a18, a19, a20, a21, a22) (nI r) := by
  unfold wpX_delete
  dsimp only
  have o1 := ok.1
  refine zc_noRow ok h (fun r' q1 q2 q3 => ?_) (fun w => absurd ⟨r, hr, rfl, hdl⟩ w)
  obtain ⟨m1, m2, m3, m4, m5, m6, m7, m8⟩ := h
  refine ⟨pk_in r 96 (by omega), nm_r (e' := upd a1 r 1) (by rw [nI_clamp (by omega)]) ?_⟩
  have M : zc_Mt m (zc_del P r) rc pc cd (upd a1 r 1) a2 a3 a4 a5 a6 a7 a8 a9 a10 a11 a12 a13 a14 a17 a18 a19 := by
    refine ⟨m1, m2, m3, fun j hj => ?_, m5, m6, m7, m8⟩
    show upd a1 r 1 j = upd (zc_dl P) r 1 j
    rcases Nat.decEq j r with e | e
    · rw [pk_un e, pk_un e]
      exact m4 j hj
    · rw [zc_upd_s e, zc_upd_s e]
  exact zc_liveRows (zc_del_ok r ok) M (H _ _ _ _ _ _ _ _ _ _ _ _ _ _ _ _ _ _ _ _ _ _ _ _ _ _ _ _ M)
theorem zc_deleteNo {post : Int32 → St1 → Prop} {rc pc ds cd ga : Int32} {ls : Int64} {a1 a2 a3 a4 a5 a6 a7 a8 a9 a10 a11 a12 a13 a14 a15 a16 a17 a18 a19 a20 a21 a22 : Nat → Int32} {m : Bool} {P : zc_Pic} {x : Int32} (ok : zc_Ok P) (h : zc_Mt m P rc pc cd a1 a2 a3 a4 a5 a6 a7 a8 a9 a10 a11 a12 a13 a14 a17 a18 a19) (hx : zc_nr P x) (H : post (-1000000003) (rc, pc, ds, cd, ga, ls, a1, a2, a3, a4, a5, a6, a7, a8, a9, a10, a11, a12, a13, a14, a15, a16, a17, a18, a19, a20, a21, a22)) : wpX_delete post (rc, pc, ds, cd, ga, ls, a1, a2, a3, a4, a5, a6, a7, a8, a9, a10, a11, a12, a13, a14, a15, a16, a17, a18, a19, a20, a21, a22) x := by
  unfold wpX_delete
  dsimp only
  exact zc_noRow ok h (fun r' q1 q2 q3 => absurd ⟨r', q1, q2, q3⟩ hx) (fun _ => H)
/-! conditions -/
def zc_fre (P : zc_Pic) : zc_Pic := (zc_n P, zc_dl P, zc_col P, zc_lo P, zc_k P, zc_pr P, zc_pq P, zc_pv P, 0, P.2.2.2.2.2.2.2.2.2)
theorem zc_fre_ok {P : zc_Pic} (ok : zc_Ok P) : zc_Ok (zc_fre P) := ⟨ok.1, ok.2.1, ok.2.2.1, ok.2.2.2.1, Nat.zero_le _, fun j hj => absurd hj (Nat.not_lt_zero j)⟩
theorem zc_free {post : Int32 → St1 → Prop} {rc pc ds cd ga : Int32} {ls : Int64} {a1 a2 a3 a4 a5 a6 a7 a8 a9 a10 a11 a12 a13 a14 a15 a16 a17 a18 a19 a20 a21 a22 : Nat → Int32} {m : Bool} {P : zc_Pic} (h : zc_Mt m P rc pc cd a1 a2 a3 a4 a5 a6 a7 a8 a9 a10 a11 a12 a13 a14 a17 a18 a19) (H : ∀ (rc pc ds cd ga : Int32) (ls : Int64) (a1 a2 a3 a4 a5 a6 a7 a8 a9 a10 a11 a12 a13 a14 a15 a16 a17 a18 a19 a20 a21 a22 : Nat → Int32), zc_Mt m (zc_fre P) rc pc cd a1 a2 a3 a4 a5 a6 a7 a8 a9 a10 a11 a12 a13 a14 a17 a18 a19 → post (nI (zc_cn P)) (rc, pc, ds, cd, ga, ls, a1, a2, a3, a4, a5, a6, a7, a8, a9, a10, a11, a12, a13, a14, a15, a16, a17, a18, a19, a20, a21, a22)) : wpX_free post (rc, pc, ds, cd, ga, ls, a1, a2, a3, a4, a5, a6, a7, a8, a9, a10, a11, a12, a13, a14, a15, a16, a17, a18, a19, a20, a21, a22) := by
  obtain ⟨m1, m2, m3, m4, m5, m6, m7, m8⟩ := h
  have e3 : cd = nI (zc_cn P) := m3
  show post cd (rc, pc, ds, 0, ga, ls, a1, a2, a3, a4, a5, a6, a7, a8, a9, a10, a11, a12, a13, a14, a15, a16, a17, a18, a19, a20, a21, a22)
  rw [e3]
  exact H _ _ _ _ _ _ _ _ _ _ _ _ _ _ _ _ _ _ _ _ _ _ _ _ _ _ _ _ ⟨m1, m2, rfl, m4, m5, m6, m7, fun j hj => absurd hj (Nat.not_lt_zero j)⟩
def zc_cnd (P : zc_Pic) (c : Nat) (lo hi : Int32) : Int32 × zc_Pic := if zc_cn P = 4 then (-1000000002, P) else (nI (zc_cn P + 1), (zc_n P, zc_dl P, zc_col P, zc_lo P, zc_k P, zc_pr P, zc_pq P, zc_pv P, zc_cn P + 1, zc_upN (zc_cc P) (zc_cn P) c, upd (zc_cl P) (zc_cn P) lo, upd (zc_cu P) (zc_cn P) hi))
theorem zc_cnd_ok {P : zc_Pic} {c : Nat} (lo hi : Int32) (ok : zc_Ok P) (hc : c < 3) : zc_Ok (zc_cnd P c lo hi).2 := by
  have hok := ok
  obtain ⟨o1, o2, o3, o4, o5, o6⟩ := ok
  unfold zc_cnd
  split
  · exact hok
  · refine ⟨o1, o2, o3, o4, by show zc_cn P + 1 ≤ 4; omega, fun j hj => ?_⟩
    show zc_upN (zc_cc P) (zc_cn P) c j < 3
    have hj' : j < zc_cn P + 1 := hj
    unfold zc_upN
    by_cases e : j = zc_cn P
    · rw [if_pos e]
      exact hc
    · rw [if_neg e]
      exact o6 j (by omega)
theorem zc_condition {post : Int32 → St1 → Prop} {rc pc ds cd ga : Int32} {ls : Int64} {a1 a2 a3 a4 a5 a6 a7 a8 a9 a10 a11 a12 a13 a14 a15 a16 a17 a18 a19 a20 a21 a22 : Nat → Int32} {m : Bool} {P : zc_Pic} {c : Nat} {lo hi : Int32} (ok : zc_Ok P) (h : zc_Mt m P rc pc cd a1 a2 a3 a4 a5 a6 a7 a8 a9 a10 a11 a12 a13 a14 a17 a18 a19) (hc : c < 3) (H : ∀ (rc pc ds cd ga : Int32) (ls : Int64) (a1 a2 a3 a4 a5 a6 a7 a8 a9 a10 a11 a12 a13 a14 a15 a16 a17 a18 a19 a20 a21 a22 : Nat → Int32), zc_Mt m (zc_cnd P c lo hi).2 rc pc cd a1 a2 a3 a4 a5 a6 a7 a8 a9 a10 a11 a12 a13 a14 a17 a18 a19 → post (zc_cnd P c lo hi).1 (rc, pc, ds, cd, ga, ls, a1, a2, a3, a4, a5, a6, a7, a8, a9, a10, a11, a12, a13, a14, a15, a16, a17, a18, a19, a20, a21, a22)) : wpX_condition post (rc, pc, ds, cd, ga, ls, a1, a2, a3, a4, a5, a6, a7, a8, a9, a10, a11, a12, a13, a14, a15, a16, a17, a18, a19, a20, a21, a22) (nI (zc_sg m c)) lo hi := by
  unfold wpX_condition
  dsimp only
  have hm := h
  obtain ⟨m1, m2, m3, m4, m5, m6, m7, m8⟩ := h
  have o5 := ok.2.2.2.2.1
  have e3 : cd = nI (zc_cn P) := m3
  unfold zc_cnd at H
  refine zc_goodColumn (zc_sg_lt m hc) (pk_eq (zc_cn P) 4 (fun z => ?_) (fun z => ?_) e3)
  · rw [if_pos z] at H
    exact H _ _ _ _ _ _ _ _ _ _ _ _ _ _ _ _ _ _ _ _ _ _ _ _ _ _ _ _ hm
  · rw [if_neg z] at H
    rw [e3, nI_clamp (by omega)]
    have hv : vp_in (nI (zc_cn P)) 4 := pk_in _ 4 (by omega) rfl
    refine ⟨hv, nm_e ⟨hv, nm_e ⟨hv, nm_e (nm_r (nI_1 _) (H _ _ _ _ _ _ _ _ _ _ _ _ _ _ _ _ _ _ _ _ _ _ _ _ _ _ _ _ ⟨m1, m2, rfl, m4, m5, m6, m7, fun j hj => ?_⟩))⟩⟩⟩
    show upd a17 (zc_cn P) (nI (zc_sg m c)) j = nI (zc_sg m (zc_upN (zc_cc P) (zc_cn P) c j)) ∧ upd a18 (zc_cn P) lo j = upd (zc_cl P) (zc_cn P) lo j ∧ upd a19 (zc_cn P) hi j = upd (zc_cu P) (zc_cn P) hi j
    have hj' : j < zc_cn P + 1 := hj
    unfold zc_upN
    by_cases e : j = zc_cn P
    · rw [if_pos e, zc_upd_s e, zc_upd_s e, zc_upd_s e, zc_upd_s e, zc_upd_s e]
      exact ⟨rfl, rfl, rfl⟩
    · rw [if_neg e, pk_un e, pk_un e, pk_un e, pk_un e, pk_un e]
      exact m8 j (by omega)
theorem zc_conditionBad {post : Int32 → St1 → Prop} {rc pc ds cd ga : Int32} {ls : Int64} {a1 a2 a3 a4 a5 a6 a7 a8 a9 a10 a11 a12 a13 a14 a15 a16 a17 a18 a19 a20 a21 a22 : Nat → Int32} {y lo hi : Int32} (hy : y < 0 ∨ ¬ y < 3) (H : post (-1000000001) (rc, pc, ds, cd, ga, ls, a1, a2, a3, a4, a5, a6, a7, a8, a9, a10, a11, a12, a13, a14, a15, a16, a17, a18, a19, a20, a21, a22)) : wpX_condition post (rc, pc, ds, cd, ga, ls, a1, a2, a3, a4, a5, a6, a7, a8, a9, a10, a11, a12, a13, a14, a15, a16, a17, a18, a19, a20, a21, a22) y lo hi := by
  unfold wpX_condition
  dsimp only
  refine zc_badColumn (fun ⟨c, hc, e⟩ => ?_) (fun _ => H)
  subst e
  exact absurd hy (fun w => w.elim (nI_pos (by omega)) (fun w => w (nI_lt (b := 3) hc (by omega))))
end
section
/-! the rows that are kept: how many, their values -/
def zc_kp1 (P : zc_Pic) : Nat → Nat × (Nat → Nat → Int32)
  | 0 => (0, fun _ _ => 0)
  | r + 1 => if zc_dl P r = 0 then ((zc_kp1 P r).1 + 1, fun j c => if j = (zc_kp1 P r).1 then zc_va P r c else (zc_kp1 P r).2 j c) else zc_kp1 P r
theorem zc_kp1_le (P : zc_Pic) : ∀ r, (zc_kp1 P r).1 ≤ r := by
  intro r
  induction r with
  | zero => exact Nat.le_refl _
  | succ r ih =>
    have hst : zc_kp1 P (r + 1) = if zc_dl P r = 0 then ((zc_kp1 P r).1 + 1, fun j c => if j = (zc_kp1 P r).1 then zc_va P r c else (zc_kp1 P r).2 j c) else zc_kp1 P r := rfl
    rw [hst]
    split
    · show (zc_kp1 P r).1 + 1 ≤ r + 1
      omega
    · omega
abbrev zc_kN (P : zc_Pic) : Nat := (zc_kp1 P (zc_n P)).1
abbrev zc_kV (P : zc_Pic) : Nat → Nat → Int32 := (zc_kp1 P (zc_n P)).2
def zc_em (P : zc_Pic) : zc_Pic := (0, zc_dl P, zc_col P, zc_lo P, 0, P.2.2.2.2.2)
def zc_cpt (P : zc_Pic) : Nat → zc_Pic
  | 0 => zc_em P
  | j + 1 => zc_add (zc_cpt P j) (zc_kV P j)
theorem zc_cpt_n (P : zc_Pic) : ∀ j, zc_n (zc_cpt P j) = j := by
  intro j
  induction j with
  | zero => rfl
  | succ j ih =>
    show zc_n (zc_cpt P j) + 1 = j + 1
    rw [ih]
theorem zc_cpt_ok {P : zc_Pic} (ok : zc_Ok P) : ∀ j, j ≤ 96 → zc_Ok (zc_cpt P j) := by
  intro j
  induction j with
  | zero => exact fun _ => ⟨Nat.zero_le _, ok.2.1, Nat.zero_le _, fun j hj => absurd hj (Nat.not_lt_zero j), ok.2.2.2.2.1, ok.2.2.2.2.2⟩
  | succ j ih => exact fun h => zc_add_ok _ (ih (by omega)) (by rw [zc_cpt_n]; omega)
theorem zc_cpt_dl (P : zc_Pic) : ∀ j r, r < j → zc_dl (zc_cpt P j) r = 0 := by
  intro j
  induction j with
  | zero => exact fun r h => absurd h (Nat.not_lt_zero r)
  | succ j ih =>
    intro r h
    show upd (zc_dl (zc_cpt P j)) (zc_n (zc_cpt P j)) 0 r = 0
    rw [zc_cpt_n]
    rcases Nat.lt_or_ge r j with z | z
    · rw [pk_un (by omega)]
      exact ih r z
    · exact zc_upd_s (by omega)
theorem zc_compact {post : Int32 → St1 → Prop} {rc pc ds cd ga : Int32} {ls : Int64} {a1 a2 a3 a4 a5 a6 a7 a8 a9 a10 a11 a12 a13 a14 a15 a16 a17 a18 a19 a20 a21 a22 : Nat → Int32} {m : Bool} {P : zc_Pic} (ok : zc_Ok P) (h : zc_Mt m P rc pc cd a1 a2 a3 a4 a5 a6 a7 a8 a9 a10 a11 a12 a13 a14 a17 a18 a19) (H : ∀ (rc pc ds cd ga : Int32) (ls : Int64) (a1 a2 a3 a4 a5 a6 a7 a8 a9 a10 a11 a12 a13 a14 a15 a16 a17 a18 a19 a20 a21 a22 : Nat → Int32), zc_Mt m (zc_cpt P (zc_kN P)) rc pc cd a1 a2 a3 a4 a5 a6 a7 a8 a9 a10 a11 a12 a13 a14 a17 a18 a19 → post (nI (zc_kN P)) (rc, pc, ds, cd, ga, ls, a1, a2, a3, a4, a5, a6, a7, a8, a9, a10, a11, a12, a13, a14, a15, a16, a17, a18, a19, a20, a21, a22)) : wpX_compact post (rc, pc, ds, cd, ga, ls, a1, a2, a3, a4, a5, a6, a7, a8, a9, a10, a11, a12, a13, a14, a15, a16, a17, a18, a19, a20, a21, a22) := by
  have hm := h
  obtain ⟨m1, m2, m3, m4, m5, m6, m7, m8⟩ := h
  have o1 := ok.1
  have e1 : rc = nI (zc_n P) := m1
  refine pk_loop (fun n r (s : (Nat → Int32) × (Nat → Int32)) => wX_compact_4 post n (nI (zc_kp1 P r).1) (nI r) rc pc ds cd ga ls a1 a2 a3 a4 a5 a6 a7 a8 a9 a10 a11 a12 a13 a14 s.1 a16 a17 a18 a19 a20 a21 s.2) (fun r s => ∀ j c, j < (zc_kp1 P r).1 → c < 3 → s.2 (3 * j + zc_sg m c) = (zc_kp1 P r).2 j c) (zc_n P) 0 (a15, a22) (by omega) (fun j c hj => absurd hj (Nat.not_lt_zero j)) ?_ ?_
  · intro n s hs
    have hk : zc_kN P ≤ zc_n P := zc_kp1_le P (zc_n P)
    refine pk_le (zc_n P) (zc_n P) (fun _ => ?_) (fun z => absurd z (by omega)) e1
    refine pk_loop (fun n' j (t : St1) => wX_compact_71 post (nI (zc_kN P)) n' (nI j) t.1 t.2.1 t.2.2.1 t.2.2.2.1 t.2.2.2.2.1 t.2.2.2.2.2.1 t.2.2.2.2.2.2.1 t.2.2.2.2.2.2.2.1 t.2.2.2.2.2.2.2.2.1 t.2.2.2.2.2.2.2.2.2.1 t.2.2.2.2.2.2.2.2.2.2.1 t.2.2.2.2.2.2.2.2.2.2.2.1 t.2.2.2.2.2.2.2.2.2.2.2.2.1 t.2.2.2.2.2.2.2.2.2.2.2.2.2.1 t.2.2.2.2.2.2.2.2.2.2.2.2.2.2.1 t.2.2.2.2.2.2.2.2.2.2.2.2.2.2.2.1 t.2.2.2.2.2.2.2.2.2.2.2.2.2.2.2.2.1 t.2.2.2.2.2.2.2.2.2.2.2.2.2.2.2.2.2.1 t.2.2.2.2.2.2.2.2.2.2.2.2.2.2.2.2.2.2.1 t.2.2.2.2.2.2.2.2.2.2.2.2.2.2.2.2.2.2.2.1 t.2.2.2.2.2.2.2.2.2.2.2.2.2.2.2.2.2.2.2.2.1 t.2.2.2.2.2.2.2.2.2.2.2.2.2.2.2.2.2.2.2.2.2.1 t.2.2.2.2.2.2.2.2.2.2.2.2.2.2.2.2.2.2.2.2.2.2.1 t.2.2.2.2.2.2.2.2.2.2.2.2.2.2.2.2.2.2.2.2.2.2.2.1 t.2.2.2.2.2.2.2.2.2.2.2.2.2.2.2.2.2.2.2.2.2.2.2.2.1 t.2.2.2.2.2.2.2.2.2.2.2.2.2.2.2.2.2.2.2.2.2.2.2.2.2.1 t.2.2.2.2.2.2.2.2.2.2.2.2.2.2.2.2.2.2.2.2.2.2.2.2.2.2.1 s.2) (fun j t => zc_Mt m (zc_cpt P j) t.1 t.2.1 t.2.2.2.1 t.2.2.2.2.2.2.1 t.2.2.2.2.2.2.2.1 t.2.2.2.2.2.2.2.2.1 t.2.2.2.2.2.2.2.2.2.1 t.2.2.2.2.2.2.2.2.2.2.1 t.2.2.2.2.2.2.2.2.2.2.2.1 t.2.2.2.2.2.2.2.2.2.2.2.2.1 t.2.2.2.2.2.2.2.2.2.2.2.2.2.1 t.2.2.2.2.2.2.2.2.2.2.2.2.2.2.1 t.2.2.2.2.2.2.2.2.2.2.2.2.2.2.2.1 t.2.2.2.2.2.2.2.2.2.2.2.2.2.2.2.2.1 t.2.2.2.2.2.2.2.2.2.2.2.2.2.2.2.2.2.1 t.2.2.2.2.2.2.2.2.2.2.2.2.2.2.2.2.2.2.1 t.2.2.2.2.2.2.2.2.2.2.2.2.2.2.2.2.2.2.2.1 t.2.2.2.2.2.2.2.2.2.2.2.2.2.2.2.2.2.2.2.2.2.2.1 t.2.2.2.2.2.2.2.2.2.2.2.2.2.2.2.2.2.2.2.2.2.2.2.1 t.2.2.2.2.2.2.2.2.2.2.2.2.2.2.2.2.2.2.2.2.2.2.2.2.1) (zc_kN P) 0 (0, 0, ds, cd, ga, ls, a1, a2, a3, a4, a5, a6, a7, a8, a9, a10, a11, a12, a13, a14, s.1, a16, a17, a18, a19, a20, a21, s.2) (by omega) ⟨rfl, rfl, m3, m4, m5, m6, fun j hj => absurd hj (Nat.not_lt_zero j), m8⟩ ?_ ?_
    · intro n' t ht
      exact pk_le (zc_kN P) (zc_kN P) (fun _ => H _ _ _ _ _ _ _ _ _ _ _ _ _ _ _ _ _ _ _ _ _ _ _ _ _ _ _ _ ht) (fun z => absurd z (by omega))
    · intro n' j t hj ht hn'
      have e22 : ∀ e, e < 3 → s.2 (3 * j + e) = zc_kV P j (zc_sg m e) := by
        intro e he
        have := hs j (zc_sg m e) hj (zc_sg_lt m he)
        rw [zc_sg_sg m he] at this
        exact this
      refine pk_le (zc_kN P) j (fun z => absurd z (by omega)) (fun _ => ⟨pk_in (3 * j) 288 (by omega) (zc_m3 _), pk_in (3 * j + 1) 288 (by omega) (zc_3c _ 1), pk_in (3 * j + 2) 288 (by omega) (zc_3c _ 2), ?_⟩)
      rw [show (3 : Int32) * nI j + 1 = nI (3 * j + 1) from zc_3c _ 1, show (3 : Int32) * nI j + 2 = nI (3 * j + 2) from zc_3c _ 2, zc_m3, nI_clamp (show 3 * j < 2 ^ 31 by omega), nI_clamp (show 3 * j + 1 < 2 ^ 31 by omega), nI_clamp (show 3 * j + 2 < 2 ^ 31 by omega), show s.2 (3 * j) = _ from e22 0 (by omega), e22 1 (by omega), e22 2 (by omega)]
      exact zc_addRow (zc_cpt_ok ok j (by omega)) ht (by rw [zc_cpt_n]; omega) (fun rc pc ds cd ga ls a1 a2 a3 a4 a5 a6 a7 a8 a9 a10 a11 a12 a13 a14 a15 a16 a17 a18 a19 a20 a21 g1 => nm_r (nI_1 j) (hn' (rc, pc, ds, cd, ga, ls, a1, a2, a3, a4, a5, a6, a7, a8, a9, a10, a11, a12, a13, a14, a15, a16, a17, a18, a19, a20, a21, s.2) g1))
  · intro n r s hr hs hn
    have hk := zc_kp1_le P r
    have hst : zc_kp1 P (r + 1) = if zc_dl P r = 0 then ((zc_kp1 P r).1 + 1, fun j c => if j = (zc_kp1 P r).1 then zc_va P r c else (zc_kp1 P r).2 j c) else zc_kp1 P r := rfl
    rw [hst] at hn
    refine pk_le (zc_n P) r (fun z => absurd z (by omega)) (fun _ => ⟨pk_in r 96 (by omega), ?_⟩) e1
    rw [nI_clamp (show r < 2 ^ 31 by omega), show a1 r = zc_dl P r from m4 r (by omega)]
    refine ⟨fun z => ?_, fun z => ?_⟩
    · rw [if_pos z] at hn
      refine pk_loop (fun n' e (t : (Nat → Int32) × (Nat → Int32)) => wX_compact_23 post (wX_compact_4 post n) (nI (zc_kp1 P r).1) (nI r) n' (nI e) rc pc ds cd ga ls a1 a2 a3 a4 a5 a6 a7 a8 a9 a10 a11 a12 a13 a14 t.1 a16 a17 a18 a19 a20 a21 t.2) (fun e t => (∀ j c, j < (zc_kp1 P r).1 → c < 3 → t.2 (3 * j + zc_sg m c) = (zc_kp1 P r).2 j c) ∧ (∀ e', e' < e → t.2 (3 * (zc_kp1 P r).1 + e') = zc_va P r (zc_sg m e'))) 3 0 s (by omega) ⟨hs, fun e' he' => absurd he' (Nat.not_lt_zero e')⟩ ?_ ?_
      · intro n' t ⟨t1, t2⟩
        refine pk_le 3 3 (fun _ => nm_r (nI_1 _) (nm_r (nI_1 r) (hn t (fun j c hj hc => ?_)))) (fun z => absurd z (by omega))
        have hj' : j < (zc_kp1 P r).1 + 1 := hj
        show _ = if j = (zc_kp1 P r).1 then zc_va P r c else (zc_kp1 P r).2 j c
        by_cases e : j = (zc_kp1 P r).1
        · rw [if_pos e, e, t2 _ (zc_sg_lt m hc), zc_sg_sg m hc]
        · rw [if_neg e]
          exact t1 j c (by omega) hc
      · intro n' e t he ⟨t1, t2⟩ hn'
        have hse := zc_sg_lt m he
        refine pk_le 3 e (fun z => absurd z (by omega)) (fun _ => ?_)
        rw [show nI e = nI (zc_sg m (zc_sg m e)) by rw [zc_sg_sg m he]]
        refine zc_valueAt_2 ok hm hr hse (fun b => ?_)
        rw [zc_sg_sg m he]
        refine ⟨pk_in (3 * (zc_kp1 P r).1 + e) 288 (by omega) (zc_3c _ _), nm_r (e' := upd t.2 (3 * (zc_kp1 P r).1 + e) (zc_va P r (zc_sg m e))) (by rw [zc_3c, nI_clamp (by omega)]) (nm_r (nI_1 e) (hn' (b, _) ⟨fun j c hj hc => ?_, fun e' he' => ?_⟩))⟩
        · have := zc_sg_lt m hc
          show upd t.2 (3 * (zc_kp1 P r).1 + e) (zc_va P r (zc_sg m e)) (3 * j + zc_sg m c) = _
          rw [pk_un (by omega)]
          exact t1 j c hj hc
        · show upd t.2 (3 * (zc_kp1 P r).1 + e) (zc_va P r (zc_sg m e)) (3 * (zc_kp1 P r).1 + e') = _
          rcases Nat.lt_or_ge e' e with y | y
          · rw [pk_un (by omega)]
            exact t2 e' y
          · rw [zc_upd_s (by omega), show e' = e by omega]
    · rw [if_neg z] at hn
      exact nm_r (nI_1 r) (hn s hs)
/-! with no conditions and no row deleted, all rows are counted -/
theorem zc_bo_n {s : Int32} {k : Nat} (h : ∀ i, i < 16 → zc_bt s i = decide (i < k)) : ∀ i, i ≤ 16 → zc_bo s i = nI (min i k) := by
  intro i
  induction i with
  | zero => exact fun _ => by rw [Nat.zero_min]; rfl
  | succ i ih =>
    intro hi
    show zc_bo s i + ((s >>> (nI i &&& 31)) &&& 1) = _
    rw [ih (by omega), zc_bit i (by omega), h i (by omega)]
    by_cases z : i < k
    · rw [decide_eq_true z, if_pos rfl, nI_1]
      exact congrArg nI (by omega)
    · rw [decide_eq_false z, if_neg (by decide)]
      show nI (min i k) + nI 0 = _
      rw [nI_add]
      exact congrArg nI (by omega)
theorem zc_ct_n {P : zc_Pic} (h0 : zc_cn P = 0) (hd : ∀ r, r < zc_n P → zc_dl P r = 0) (hn : zc_n P ≤ 96) : ∀ b, b ≤ 7 → zc_ct P b = nI (min (zc_n P) (16 * b)) := by
  intro b
  induction b with
  | zero => exact fun _ => by rw [Nat.mul_zero, Nat.min_zero]; rfl
  | succ b ih =>
    intro hb
    have e : zc_ch P b = zc_c0 P b := by
      unfold zc_ch
      rw [h0]
      rfl
    show zc_ct P b + zc_bo (zc_ch P b) 16 = _
    rw [ih (by omega), e]
    have hbits : ∀ i, i < 16 → zc_bt (zc_c0 P b) i = decide (i < zc_n P - 16 * b) := by
      intro i hi
      unfold zc_c0
      by_cases g : b < 6
      · rw [if_pos g]
        unfold zc_lv
        rw [zc_bs_bit _ (by omega) 16 (by omega), decide_eq_true hi, Bool.true_and]
        by_cases y : 16 * b + i < zc_n P
        · rw [decide_eq_true ⟨y, hd _ y⟩, decide_eq_true (by omega)]
        · rw [decide_eq_false (fun w => y w.1), decide_eq_false (by omega)]
      · rw [if_neg g, zc_b_0, decide_eq_false (by omega)]
    rw [zc_bo_n hbits 16 (by omega), nI_add]
    exact congrArg nI (by omega)
end
section
/-- a step that both objects take alike: one answer, one new picture -/
def zc_Act (P : zc_Pic) (F : Bool → (Int32 → St1 → Prop) → St1 → Prop) : Prop := ∃ R P', zc_Ok P' ∧ ∀ m (rc pc ds cd ga : Int32) (ls : Int64) (a1 a2 a3 a4 a5 a6 a7 a8 a9 a10 a11 a12 a13 a14 a15 a16 a17 a18 a19 a20 a21 a22 : Nat → Int32) post, zc_Mt m P rc pc cd a1 a2 a3 a4 a5 a6 a7 a8 a9 a10 a11 a12 a13 a14 a17 a18 a19 → (∀ (rc pc ds cd ga : Int32) (ls : Int64) (a1 a2 a3 a4 a5 a6 a7 a8 a9 a10 a11 a12 a13 a14 a15 a16 a17 a18 a19 a20 a21 a22 : Nat → Int32), zc_Mt m P' rc pc cd a1 a2 a3 a4 a5 a6 a7 a8 a9 a10 a11 a12 a13 a14 a17 a18 a19 → post R (rc, pc, ds, cd, ga, ls, a1, a2, a3, a4, a5, a6, a7, a8, a9, a10, a11, a12, a13, a14, a15, a16, a17, a18, a19, a20, a21, a22)) → F m post (rc, pc, ds, cd, ga, ls, a1, a2, a3, a4, a5, a6, a7, a8, a9, a10, a11, a12, a13, a14, a15, a16, a17, a18, a19, a20, a21, a22)
theorem zc_31 {o : Nat} (ho : o < 32) : nI o &&& 31 = nI o := by
  rw [pk_andN (by omega) 5 (by decide), Nat.mod_eq_of_lt (by omega)]
theorem zc_turnA {P : zc_Pic} {o : Nat} (X : Nat → Int32) (a : Bool → Int32) (b : Bool → Int32) (c : Bool → Int32) (ok : zc_Ok P) (ho : o < 16) (h0 : ∀ m, a m = X (zc_sg m 0)) (h1 : ∀ m, b m = X (zc_sg m 1)) (h2 : ∀ m, c m = X (zc_sg m 2)) : zc_Act P (fun m post u => wpL_turn post u (nI o) (a m) (b m) (c m)) := by
  refine ⟨(zc_app P X).1, (zc_app P X).2, zc_app_ok X ok, fun m rc pc ds cd ga ls a1 a2 a3 a4 a5 a6 a7 a8 a9 a10 a11 a12 a13 a14 a15 a16 a17 a18 a19 a20 a21 a22 post h H => ?_⟩
  refine nm_r (zc_31 (by omega)) (pk_le 16 o (fun z => absurd z (by omega)) (fun _ => zc_append X ok h (h0 m) (h1 m) (h2 m) (fun rc pc ds cd ga ls a1 a2 a3 a4 a5 a6 a7 a8 a9 a10 a11 a12 a13 a14 a15 a16 a17 a18 a19 a20 a21 a22 g => H _ _ _ _ _ _ _ _ _ _ _ _ _ _ _ _ _ _ _ _ _ _ _ _ _ _ _ _ g)))
theorem zc_chgAct {P : zc_Pic} (x y z : Int32) (y' : Bool → Int32) (ok : zc_Ok P) (hy : (∃ c, c < 3 ∧ ∀ m, y' m = nI (zc_sg m c)) ∨ (∀ m, y' m < 0 ∨ ¬ y' m < 3)) : zc_Act P (fun m post u => wpX_change post u x (y' m) z) := by
  rcases hy with ⟨c, hc, hy⟩ | hy
  · rcases Classical.em (zc_nr P x) with w | w
    · refine ⟨-1000000003, P, ok, fun m rc pc ds cd ga ls a1 a2 a3 a4 a5 a6 a7 a8 a9 a10 a11 a12 a13 a14 a15 a16 a17 a18 a19 a20 a21 a22 post h H => ?_⟩
      show wpX_change post (rc, pc, ds, cd, ga, ls, a1, a2, a3, a4, a5, a6, a7, a8, a9, a10, a11, a12, a13, a14, a15, a16, a17, a18, a19, a20, a21, a22) x (y' m) z
      rw [hy m]
      exact zc_changeNo ok h w hc (H _ _ _ _ _ _ _ _ _ _ _ _ _ _ _ _ _ _ _ _ _ _ _ _ _ _ _ _ h)
    · obtain ⟨r, hr, hx, hd⟩ := Classical.not_not.mp w
      subst hx
      refine ⟨(zc_chg P r c z).1, (zc_chg P r c z).2, zc_chg_ok z ok hr hc, fun m rc pc ds cd ga ls a1 a2 a3 a4 a5 a6 a7 a8 a9 a10 a11 a12 a13 a14 a15 a16 a17 a18 a19 a20 a21 a22 post h H => ?_⟩
      show wpX_change post (rc, pc, ds, cd, ga, ls, a1, a2, a3, a4, a5, a6, a7, a8, a9, a10, a11, a12, a13, a14, a15, a16, a17, a18, a19, a20, a21, a22) (nI r) (y' m) z
      rw [hy m]
      exact zc_change ok h hr hd hc H
  · exact ⟨_, P, ok, fun m rc pc ds cd ga ls a1 a2 a3 a4 a5 a6 a7 a8 a9 a10 a11 a12 a13 a14 a15 a16 a17 a18 a19 a20 a21 a22 post h H => zc_changeBad (hy m) (H _ _ _ _ _ _ _ _ _ _ _ _ _ _ _ _ _ _ _ _ _ _ _ _ _ _ _ _ h)⟩
theorem zc_delAct {P : zc_Pic} (x : Int32) (ok : zc_Ok P) : zc_Act P (fun _ post u => wpX_delete post u x) := by
  rcases Classical.em (zc_nr P x) with w | w
  · exact ⟨_, P, ok, fun m rc pc ds cd ga ls a1 a2 a3 a4 a5 a6 a7 a8 a9 a10 a11 a12 a13 a14 a15 a16 a17 a18 a19 a20 a21 a22 post h H => zc_deleteNo ok h w (H _ _ _ _ _ _ _ _ _ _ _ _ _ _ _ _ _ _ _ _ _ _ _ _ _ _ _ _ h)⟩
  · obtain ⟨r, hr, hx, hd⟩ := Classical.not_not.mp w
    subst hx
    exact ⟨_, _, zc_del_ok r ok, fun m rc pc ds cd ga ls a1 a2 a3 a4 a5 a6 a7 a8 a9 a10 a11 a12 a13 a14 a15 a16 a17 a18 a19 a20 a21 a22 post h H => zc_delete ok h hr hd H⟩
theorem zc_kN_le {P : zc_Pic} (ok : zc_Ok P) : zc_kN P ≤ 96 := Nat.le_trans (zc_kp1_le P _) ok.1
theorem zc_cptAct {P : zc_Pic} (ok : zc_Ok P) : zc_Act P (fun _ post u => wpX_compact post u) := ⟨_, _, zc_cpt_ok ok _ (zc_kN_le ok), fun m rc pc ds cd ga ls a1 a2 a3 a4 a5 a6 a7 a8 a9 a10 a11 a12 a13 a14 a15 a16 a17 a18 a19 a20 a21 a22 post h H => zc_compact ok h H⟩
theorem zc_cndAct {P : zc_Pic} (lo hi : Int32) (y' : Bool → Int32) (ok : zc_Ok P) (hy : (∃ c, c < 3 ∧ ∀ m, y' m = nI (zc_sg m c)) ∨ (∀ m, y' m < 0 ∨ ¬ y' m < 3)) : zc_Act P (fun m post u => wpX_condition post u (y' m) lo hi) := by
  rcases hy with ⟨c, hc, hy⟩ | hy
  · refine ⟨(zc_cnd P c lo hi).1, (zc_cnd P c lo hi).2, zc_cnd_ok lo hi ok hc, fun m rc pc ds cd ga ls a1 a2 a3 a4 a5 a6 a7 a8 a9 a10 a11 a12 a13 a14 a15 a16 a17 a18 a19 a20 a21 a22 post h H => ?_⟩
    show wpX_condition post (rc, pc, ds, cd, ga, ls, a1, a2, a3, a4, a5, a6, a7, a8, a9, a10, a11, a12, a13, a14, a15, a16, a17, a18, a19, a20, a21, a22) (y' m) lo hi
    rw [hy m]
    exact zc_condition ok h hc H
  · exact ⟨_, P, ok, fun m rc pc ds cd ga ls a1 a2 a3 a4 a5 a6 a7 a8 a9 a10 a11 a12 a13 a14 a15 a16 a17 a18 a19 a20 a21 a22 post h H => zc_conditionBad (hy m) (H _ _ _ _ _ _ _ _ _ _ _ _ _ _ _ _ _ _ _ _ _ _ _ _ _ _ _ _ h)⟩
theorem zc_freAct {P : zc_Pic} (ok : zc_Ok P) : zc_Act P (fun _ post u => wpX_free post u) := ⟨_, _, zc_fre_ok ok, fun m rc pc ds cd ga ls a1 a2 a3 a4 a5 a6 a7 a8 a9 a10 a11 a12 a13 a14 a15 a16 a17 a18 a19 a20 a21 a22 post h H => zc_free h H⟩
theorem zc_turnC {P : zc_Pic} {o : Nat} (a b c : Bool → Int32) (x z : Int32) (ok : zc_Ok P) (ho : 16 ≤ o) (ho2 : o < 22) (h0 : ∀ m, a m = x) (h2 : ∀ m, c m = z) (hy : (∃ c, c < 3 ∧ ∀ m, b m = nI (zc_sg m c)) ∨ (∀ m, b m < 0 ∨ ¬ b m < 3)) : zc_Act P (fun m post u => wpL_turn post u (nI o) (a m) (b m) (c m)) := by
  obtain ⟨R, P', ok', h⟩ := zc_chgAct x 0 z b ok hy
  refine ⟨R, P', ok', fun m rc pc ds cd ga ls a1 a2 a3 a4 a5 a6 a7 a8 a9 a10 a11 a12 a13 a14 a15 a16 a17 a18 a19 a20 a21 a22 post hm H => ?_⟩
  show wpL_turn post (rc, pc, ds, cd, ga, ls, a1, a2, a3, a4, a5, a6, a7, a8, a9, a10, a11, a12, a13, a14, a15, a16, a17, a18, a19, a20, a21, a22) (nI o) (a m) (b m) (c m)
  rw [h0 m, h2 m]
  exact nm_r (zc_31 (by omega)) (pk_le 16 o (fun _ => pk_le 22 o (fun z => absurd z (by omega)) (fun _ => h m _ _ _ _ _ _ _ _ _ _ _ _ _ _ _ _ _ _ _ _ _ _ _ _ _ _ _ _ _ hm (fun rc pc ds cd ga ls a1 a2 a3 a4 a5 a6 a7 a8 a9 a10 a11 a12 a13 a14 a15 a16 a17 a18 a19 a20 a21 a22 g => H _ _ _ _ _ _ _ _ _ _ _ _ _ _ _ _ _ _ _ _ _ _ _ _ _ _ _ _ g))) (fun z => absurd z (by omega)))
theorem zc_turnD {P : zc_Pic} {o : Nat} (a b c : Bool → Int32) (x : Int32) (ok : zc_Ok P) (ho : 22 ≤ o) (ho2 : o < 25) (h0 : ∀ m, a m = x) : zc_Act P (fun m post u => wpL_turn post u (nI o) (a m) (b m) (c m)) := by
  obtain ⟨R, P', ok', h⟩ := zc_delAct x ok
  refine ⟨R, P', ok', fun m rc pc ds cd ga ls a1 a2 a3 a4 a5 a6 a7 a8 a9 a10 a11 a12 a13 a14 a15 a16 a17 a18 a19 a20 a21 a22 post hm H => ?_⟩
  show wpL_turn post (rc, pc, ds, cd, ga, ls, a1, a2, a3, a4, a5, a6, a7, a8, a9, a10, a11, a12, a13, a14, a15, a16, a17, a18, a19, a20, a21, a22) (nI o) (a m) (b m) (c m)
  rw [h0 m]
  exact nm_r (zc_31 (by omega)) (pk_le 16 o (fun _ => pk_le 22 o (fun _ => pk_le 25 o (fun z => absurd z (by omega)) (fun _ => h m _ _ _ _ _ _ _ _ _ _ _ _ _ _ _ _ _ _ _ _ _ _ _ _ _ _ _ _ _ hm (fun rc pc ds cd ga ls a1 a2 a3 a4 a5 a6 a7 a8 a9 a10 a11 a12 a13 a14 a15 a16 a17 a18 a19 a20 a21 a22 g => H _ _ _ _ _ _ _ _ _ _ _ _ _ _ _ _ _ _ _ _ _ _ _ _ _ _ _ _ g))) (fun z => absurd z (by omega))) (fun z => absurd z (by omega)))
theorem zc_turnK {P : zc_Pic} {o : Nat} (a b c : Bool → Int32) (ok : zc_Ok P) (ho : 25 ≤ o) (ho2 : o < 27) : zc_Act P (fun m post u => wpL_turn post u (nI o) (a m) (b m) (c m)) := by
  obtain ⟨R, P', ok', h⟩ := zc_cptAct ok
  refine ⟨R, P', ok', fun m rc pc ds cd ga ls a1 a2 a3 a4 a5 a6 a7 a8 a9 a10 a11 a12 a13 a14 a15 a16 a17 a18 a19 a20 a21 a22 post hm H => ?_⟩
  exact nm_r (zc_31 (by omega)) (pk_le 16 o (fun _ => pk_le 22 o (fun _ => pk_le 25 o (fun _ => pk_le 27 o (fun z => absurd z (by omega)) (fun _ => h m _ _ _ _ _ _ _ _ _ _ _ _ _ _ _ _ _ _ _ _ _ _ _ _ _ _ _ _ _ hm (fun rc pc ds cd ga ls a1 a2 a3 a4 a5 a6 a7 a8 a9 a10 a11 a12 a13 a14 a15 a16 a17 a18 a19 a20 a21 a22 g => H _ _ _ _ _ _ _ _ _ _ _ _ _ _ _ _ _ _ _ _ _ _ _ _ _ _ _ _ g))) (fun z => absurd z (by omega))) (fun z => absurd z (by omega))) (fun z => absurd z (by omega)))
theorem zc_turnN {P : zc_Pic} {o : Nat} (a b c : Bool → Int32) (y z : Int32) (ok : zc_Ok P) (ho : 27 ≤ o) (ho2 : o < 31) (h1 : ∀ m, b m = y) (h2 : ∀ m, c m = z) (hy : (∃ c, c < 3 ∧ ∀ m, a m = nI (zc_sg m c)) ∨ (∀ m, a m < 0 ∨ ¬ a m < 3)) : zc_Act P (fun m post u => wpL_turn post u (nI o) (a m) (b m) (c m)) := by
  obtain ⟨R, P', ok', h⟩ := zc_cndAct y z a ok hy
  refine ⟨R, P', ok', fun m rc pc ds cd ga ls a1 a2 a3 a4 a5 a6 a7 a8 a9 a10 a11 a12 a13 a14 a15 a16 a17 a18 a19 a20 a21 a22 post hm H => ?_⟩
  show wpL_turn post (rc, pc, ds, cd, ga, ls, a1, a2, a3, a4, a5, a6, a7, a8, a9, a10, a11, a12, a13, a14, a15, a16, a17, a18, a19, a20, a21, a22) (nI o) (a m) (b m) (c m)
  rw [h1 m, h2 m]
  exact nm_r (zc_31 (by omega)) (pk_le 16 o (fun _ => pk_le 22 o (fun _ => pk_le 25 o (fun _ => pk_le 27 o (fun _ => pk_le 31 o (fun z => absurd z (by omega)) (fun _ => h m _ _ _ _ _ _ _ _ _ _ _ _ _ _ _ _ _ _ _ _ _ _ _ _ _ _ _ _ _ hm (fun rc pc ds cd ga ls a1 a2 a3 a4 a5 a6 a7 a8 a9 a10 a11 a12 a13 a14 a15 a16 a17 a18 a19 a20 a21 a22 g => H _ _ _ _ _ _ _ _ _ _ _ _ _ _ _ _ _ _ _ _ _ _ _ _ _ _ _ _ g))) (fun z => absurd z (by omega))) (fun z => absurd z (by omega))) (fun z => absurd z (by omega))) (fun z => absurd z (by omega)))
theorem zc_turnF {P : zc_Pic} {o : Nat} (a b c : Bool → Int32) (ok : zc_Ok P) (ho : o = 31) : zc_Act P (fun m post u => wpL_turn post u (nI o) (a m) (b m) (c m)) := by
  obtain ⟨R, P', ok', h⟩ := zc_freAct ok
  refine ⟨R, P', ok', fun m rc pc ds cd ga ls a1 a2 a3 a4 a5 a6 a7 a8 a9 a10 a11 a12 a13 a14 a15 a16 a17 a18 a19 a20 a21 a22 post hm H => ?_⟩
  exact nm_r (zc_31 (by omega)) (pk_le 16 o (fun _ => pk_le 22 o (fun _ => pk_le 25 o (fun _ => pk_le 27 o (fun _ => pk_le 31 o (fun _ => h m _ _ _ _ _ _ _ _ _ _ _ _ _ _ _ _ _ _ _ _ _ _ _ _ _ _ _ _ _ hm (fun rc pc ds cd ga ls a1 a2 a3 a4 a5 a6 a7 a8 a9 a10 a11 a12 a13 a14 a15 a16 a17 a18 a19 a20 a21 a22 g => H _ _ _ _ _ _ _ _ _ _ _ _ _ _ _ _ _ _ _ _ _ _ _ _ _ _ _ _ g)) (fun z => absurd z (by omega))) (fun z => absurd z (by omega))) (fun z => absurd z (by omega))) (fun z => absurd z (by omega))) (fun z => absurd z (by omega)))
/-! what the law says -/
/-- the eight rows that are said at once -/
def zc_sX (x : Int32) (o i : Nat) : Nat → Int32 := fun c => if c = 0 then ((x >>> ((nI i / 2) &&& 31)) &&& 3) - 1 else if c = 1 then (x >>> ((3 : Int32) &&& 31)) * nI i else if 3 ≤ o then x >>> ((9 : Int32) &&& 31) else (x >>> ((3 * nI i) &&& 31)) &&& 7
def zc_sy (P : zc_Pic) (x : Int32) (o : Nat) : Nat → Int32 × zc_Pic
  | 0 => (0, P)
  | i + 1 => zc_app (zc_sy P x o i).2 (zc_sX x o i)
theorem zc_sy_ok {P : zc_Pic} (x : Int32) (o : Nat) (ok : zc_Ok P) : ∀ i, zc_Ok (zc_sy P x o i).2 := by
  intro i
  induction i with
  | zero => exact ok
  | succ i ih => exact zc_app_ok _ ih
def zc_mI (m : Bool) : Int32 := if m then 1 else 0
theorem zc_say66 {post : Int32 → St1 → Prop} {rc pc ds cd ga : Int32} {ls : Int64} {a1 a2 a3 a4 a5 a6 a7 a8 a9 a10 a11 a12 a13 a14 a15 a16 a17 a18 a19 a20 a21 a22 : Nat → Int32} {m : Bool} {P : zc_Pic} {x : Int32} {o : Nat} (ho : o < 16) (ok : zc_Ok P) (h : zc_Mt m P rc pc cd a1 a2 a3 a4 a5 a6 a7 a8 a9 a10 a11 a12 a13 a14 a17 a18 a19) (H : ∀ (rc pc ds cd ga : Int32) (ls : Int64) (a1 a2 a3 a4 a5 a6 a7 a8 a9 a10 a11 a12 a13 a14 a15 a16 a17 a18 a19 a20 a21 a22 : Nat → Int32), zc_Mt m (zc_sy P x o 8).2 rc pc cd a1 a2 a3 a4 a5 a6 a7 a8 a9 a10 a11 a12 a13 a14 a17 a18 a19 → post (zc_sy P x o 8).1 (rc, pc, ds, cd, ga, ls, a1, a2, a3, a4, a5, a6, a7, a8, a9, a10, a11, a12, a13, a14, a15, a16, a17, a18, a19, a20, a21, a22)) : ∃ fu, wL_say_66 post x (zc_mI m) (nI o) fu 0 0 rc pc ds cd ga ls a1 a2 a3 a4 a5 a6 a7 a8 a9 a10 a11 a12 a13 a14 a15 a16 a17 a18 a19 a20 a21 a22 := by
  refine pk_loop (fun n i (s : Int32 × St1) => wL_say_66 post x (zc_mI m) (nI o) n s.1 (nI i) s.2.1 s.2.2.1 s.2.2.2.1 s.2.2.2.2.1 s.2.2.2.2.2.1 s.2.2.2.2.2.2.1 s.2.2.2.2.2.2.2.1 s.2.2.2.2.2.2.2.2.1 s.2.2.2.2.2.2.2.2.2.1 s.2.2.2.2.2.2.2.2.2.2.1 s.2.2.2.2.2.2.2.2.2.2.2.1 s.2.2.2.2.2.2.2.2.2.2.2.2.1 s.2.2.2.2.2.2.2.2.2.2.2.2.2.1 s.2.2.2.2.2.2.2.2.2.2.2.2.2.2.1 s.2.2.2.2.2.2.2.2.2.2.2.2.2.2.2.1 s.2.2.2.2.2.2.2.2.2.2.2.2.2.2.2.2.1 s.2.2.2.2.2.2.2.2.2.2.2.2.2.2.2.2.2.1 s.2.2.2.2.2.2.2.2.2.2.2.2.2.2.2.2.2.2.1 s.2.2.2.2.2.2.2.2.2.2.2.2.2.2.2.2.2.2.2.1 s.2.2.2.2.2.2.2.2.2.2.2.2.2.2.2.2.2.2.2.2.1 s.2.2.2.2.2.2.2.2.2.2.2.2.2.2.2.2.2.2.2.2.2.1 s.2.2.2.2.2.2.2.2.2.2.2.2.2.2.2.2.2.2.2.2.2.2.1 s.2.2.2.2.2.2.2.2.2.2.2.2.2.2.2.2.2.2.2.2.2.2.2.1 s.2.2.2.2.2.2.2.2.2.2.2.2.2.2.2.2.2.2.2.2.2.2.2.2.1 s.2.2.2.2.2.2.2.2.2.2.2.2.2.2.2.2.2.2.2.2.2.2.2.2.2.1 s.2.2.2.2.2.2.2.2.2.2.2.2.2.2.2.2.2.2.2.2.2.2.2.2.2.2.1 s.2.2.2.2.2.2.2.2.2.2.2.2.2.2.2.2.2.2.2.2.2.2.2.2.2.2.2.1 s.2.2.2.2.2.2.2.2.2.2.2.2.2.2.2.2.2.2.2.2.2.2.2.2.2.2.2.2) (fun i s => s.1 = (zc_sy P x o i).1 ∧ zc_Mt m (zc_sy P x o i).2 s.2.1 s.2.2.1 s.2.2.2.2.1 s.2.2.2.2.2.2.2.1 s.2.2.2.2.2.2.2.2.1 s.2.2.2.2.2.2.2.2.2.1 s.2.2.2.2.2.2.2.2.2.2.1 s.2.2.2.2.2.2.2.2.2.2.2.1 s.2.2.2.2.2.2.2.2.2.2.2.2.1 s.2.2.2.2.2.2.2.2.2.2.2.2.2.1 s.2.2.2.2.2.2.2.2.2.2.2.2.2.2.1 s.2.2.2.2.2.2.2.2.2.2.2.2.2.2.2.1 s.2.2.2.2.2.2.2.2.2.2.2.2.2.2.2.2.1 s.2.2.2.2.2.2.2.2.2.2.2.2.2.2.2.2.2.1 s.2.2.2.2.2.2.2.2.2.2.2.2.2.2.2.2.2.2.1 s.2.2.2.2.2.2.2.2.2.2.2.2.2.2.2.2.2.2.2.1 s.2.2.2.2.2.2.2.2.2.2.2.2.2.2.2.2.2.2.2.2.1 s.2.2.2.2.2.2.2.2.2.2.2.2.2.2.2.2.2.2.2.2.2.2.2.1 s.2.2.2.2.2.2.2.2.2.2.2.2.2.2.2.2.2.2.2.2.2.2.2.2.1 s.2.2.2.2.2.2.2.2.2.2.2.2.2.2.2.2.2.2.2.2.2.2.2.2.2.1) 8 0 (0, (rc, pc, ds, cd, ga, ls, a1, a2, a3, a4, a5, a6, a7, a8, a9, a10, a11, a12, a13, a14, a15, a16, a17, a18, a19, a20, a21, a22)) (by omega) ⟨rfl, h⟩ ?_ ?_
  · intro n s hs
    refine pk_le 8 8 (fun _ => ?_) (fun z => absurd z (by omega))
    rw [hs.1]
    exact H _ _ _ _ _ _ _ _ _ _ _ _ _ _ _ _ _ _ _ _ _ _ _ _ _ _ _ _ hs.2
  · intro n i s hi hs hn
    obtain ⟨l, t⟩ := s
    have key : ∀ x0 x1 x2 : Int32, x0 = zc_sX x o i (zc_sg m 0) → x1 = zc_sX x o i (zc_sg m 1) → x2 = zc_sX x o i (zc_sg m 2) → wL_say_138 post (wL_say_66 post x (zc_mI m) (nI o) n) x (zc_mI m) (nI o) (nI i) x2 x1 x0 t.1 t.2.1 t.2.2.1 t.2.2.2.1 t.2.2.2.2.1 t.2.2.2.2.2.1 t.2.2.2.2.2.2.1 t.2.2.2.2.2.2.2.1 t.2.2.2.2.2.2.2.2.1 t.2.2.2.2.2.2.2.2.2.1 t.2.2.2.2.2.2.2.2.2.2.1 t.2.2.2.2.2.2.2.2.2.2.2.1 t.2.2.2.2.2.2.2.2.2.2.2.2.1 t.2.2.2.2.2.2.2.2.2.2.2.2.2.1 t.2.2.2.2.2.2.2.2.2.2.2.2.2.2.1 t.2.2.2.2.2.2.2.2.2.2.2.2.2.2.2.1 t.2.2.2.2.2.2.2.2.2.2.2.2.2.2.2.2.1 t.2.2.2.2.2.2.2.2.2.2.2.2.2.2.2.2.2.1 t.2.2.2.2.2.2.2.2.2.2.2.2.2.2.2.2.2.2.1 t.2.2.2.2.2.2.2.2.2.2.2.2.2.2.2.2.2.2.2.1 t.2.2.2.2.2.2.2.2.2.2.2.2.2.2.2.2.2.2.2.2.1 t.2.2.2.2.2.2.2.2.2.2.2.2.2.2.2.2.2.2.2.2.2.1 t.2.2.2.2.2.2.2.2.2.2.2.2.2.2.2.2.2.2.2.2.2.2.1 t.2.2.2.2.2.2.2.2.2.2.2.2.2.2.2.2.2.2.2.2.2.2.2.1 t.2.2.2.2.2.2.2.2.2.2.2.2.2.2.2.2.2.2.2.2.2.2.2.2.1 t.2.2.2.2.2.2.2.2.2.2.2.2.2.2.2.2.2.2.2.2.2.2.2.2.2.1 t.2.2.2.2.2.2.2.2.2.2.2.2.2.2.2.2.2.2.2.2.2.2.2.2.2.2.1 t.2.2.2.2.2.2.2.2.2.2.2.2.2.2.2.2.2.2.2.2.2.2.2.2.2.2.2 := by
      intro x0 x1 x2 e0 e1 e2
      refine zc_append (zc_sX x o i) (zc_sy_ok x o ok i) hs.2 e0 e1 e2 (fun rc pc ds cd ga ls a1 a2 a3 a4 a5 a6 a7 a8 a9 a10 a11 a12 a13 a14 a15 a16 a17 a18 a19 a20 a21 a22 g => nm_r (nI_1 i) (hn (_, (rc, pc, ds, cd, ga, ls, a1, a2, a3, a4, a5, a6, a7, a8, a9, a10, a11, a12, a13, a14, a15, a16, a17, a18, a19, a20, a21, a22)) ⟨rfl, g⟩))
    have key2 : ∀ b : Int32, b = zc_sX x o i 2 → wL_say_107 post (wL_say_66 post x (zc_mI m) (nI o) n) x (zc_mI m) (nI o) (nI i) (((x >>> ((nI i / 2) &&& 31)) &&& 3) - 1) b t.1 t.2.1 t.2.2.1 t.2.2.2.1 t.2.2.2.2.1 t.2.2.2.2.2.1 t.2.2.2.2.2.2.1 t.2.2.2.2.2.2.2.1 t.2.2.2.2.2.2.2.2.1 t.2.2.2.2.2.2.2.2.2.1 t.2.2.2.2.2.2.2.2.2.2.1 t.2.2.2.2.2.2.2.2.2.2.2.1 t.2.2.2.2.2.2.2.2.2.2.2.2.1 t.2.2.2.2.2.2.2.2.2.2.2.2.2.1 t.2.2.2.2.2.2.2.2.2.2.2.2.2.2.1 t.2.2.2.2.2.2.2.2.2.2.2.2.2.2.2.1 t.2.2.2.2.2.2.2.2.2.2.2.2.2.2.2.2.1 t.2.2.2.2.2.2.2.2.2.2.2.2.2.2.2.2.2.1 t.2.2.2.2.2.2.2.2.2.2.2.2.2.2.2.2.2.2.1 t.2.2.2.2.2.2.2.2.2.2.2.2.2.2.2.2.2.2.2.1 t.2.2.2.2.2.2.2.2.2.2.2.2.2.2.2.2.2.2.2.2.1 t.2.2.2.2.2.2.2.2.2.2.2.2.2.2.2.2.2.2.2.2.2.1 t.2.2.2.2.2.2.2.2.2.2.2.2.2.2.2.2.2.2.2.2.2.2.1 t.2.2.2.2.2.2.2.2.2.2.2.2.2.2.2.2.2.2.2.2.2.2.2.1 t.2.2.2.2.2.2.2.2.2.2.2.2.2.2.2.2.2.2.2.2.2.2.2.2.1 t.2.2.2.2.2.2.2.2.2.2.2.2.2.2.2.2.2.2.2.2.2.2.2.2.2.1 t.2.2.2.2.2.2.2.2.2.2.2.2.2.2.2.2.2.2.2.2.2.2.2.2.2.2.1 t.2.2.2.2.2.2.2.2.2.2.2.2.2.2.2.2.2.2.2.2.2.2.2.2.2.2.2 := by
      intro b hb
      cases m with
      | false => exact br_t rfl (br_t rfl (key _ _ _ rfl rfl hb))
      | true => exact br_f (by decide) (br_f (by decide) (key _ _ _ hb rfl rfl))
    refine pk_le 8 i (fun z => absurd z (by omega)) (fun _ => ⟨zc_n2, nm_e (pk_le 3 o (fun z => key2 _ ?_) (fun z => key2 _ ?_))⟩)
    · exact (if_pos z).symm
    · exact (if_neg (by omega)).symm
/-- the row that is said -/
def zc_sR (P : zc_Pic) (x : Int32) : Int32 := if zc_n P = 0 then 0 else ((x >>> ((2 : Int32) &&& 31)) &&& 127) - ((x >>> ((2 : Int32) &&& 31)) &&& 127) / nI (zc_n P) * nI (zc_n P)
theorem zc_say51 {P : zc_Pic} (x r : Int32) {o c : Nat} (ho : o < 16) (hc : c < 3) (ok : zc_Ok P) : zc_Act P (fun m post u => wL_say_51 post x (zc_mI m) (nI o) (nI (zc_sg m c)) r u.1 u.2.1 u.2.2.1 u.2.2.2.1 u.2.2.2.2.1 u.2.2.2.2.2.1 u.2.2.2.2.2.2.1 u.2.2.2.2.2.2.2.1 u.2.2.2.2.2.2.2.2.1 u.2.2.2.2.2.2.2.2.2.1 u.2.2.2.2.2.2.2.2.2.2.1 u.2.2.2.2.2.2.2.2.2.2.2.1 u.2.2.2.2.2.2.2.2.2.2.2.2.1 u.2.2.2.2.2.2.2.2.2.2.2.2.2.1 u.2.2.2.2.2.2.2.2.2.2.2.2.2.2.1 u.2.2.2.2.2.2.2.2.2.2.2.2.2.2.2.1 u.2.2.2.2.2.2.2.2.2.2.2.2.2.2.2.2.1 u.2.2.2.2.2.2.2.2.2.2.2.2.2.2.2.2.2.1 u.2.2.2.2.2.2.2.2.2.2.2.2.2.2.2.2.2.2.1 u.2.2.2.2.2.2.2.2.2.2.2.2.2.2.2.2.2.2.2.1 u.2.2.2.2.2.2.2.2.2.2.2.2.2.2.2.2.2.2.2.2.1 u.2.2.2.2.2.2.2.2.2.2.2.2.2.2.2.2.2.2.2.2.2.1 u.2.2.2.2.2.2.2.2.2.2.2.2.2.2.2.2.2.2.2.2.2.2.1 u.2.2.2.2.2.2.2.2.2.2.2.2.2.2.2.2.2.2.2.2.2.2.2.1 u.2.2.2.2.2.2.2.2.2.2.2.2.2.2.2.2.2.2.2.2.2.2.2.2.1 u.2.2.2.2.2.2.2.2.2.2.2.2.2.2.2.2.2.2.2.2.2.2.2.2.2.1 u.2.2.2.2.2.2.2.2.2.2.2.2.2.2.2.2.2.2.2.2.2.2.2.2.2.2.1 u.2.2.2.2.2.2.2.2.2.2.2.2.2.2.2.2.2.2.2.2.2.2.2.2.2.2.2) := by
  rcases Nat.lt_or_ge o 7 with g | g
  · exact ⟨_, _, zc_sy_ok x o ok 8, fun m rc pc ds cd ga ls a1 a2 a3 a4 a5 a6 a7 a8 a9 a10 a11 a12 a13 a14 a15 a16 a17 a18 a19 a20 a21 a22 post hm H => pk_le 7 o (fun z => absurd z (by omega)) (fun _ => zc_say66 ho ok hm H)⟩
  rcases Nat.lt_or_ge o 10 with g1 | g1
  · obtain ⟨R, P', ok', h⟩ := zc_chgAct (P := P) r 0 (((x >>> ((9 : Int32) &&& 31)) &&& 7) - 2) (fun m => nI (zc_sg m c)) ok (Or.inl ⟨c, hc, fun _ => rfl⟩)
    refine ⟨R, P', ok', fun m rc pc ds cd ga ls a1 a2 a3 a4 a5 a6 a7 a8 a9 a10 a11 a12 a13 a14 a15 a16 a17 a18 a19 a20 a21 a22 post hm H => pk_le 7 o (fun _ => pk_le 10 o (fun z => absurd z (by omega)) (fun _ => ?_)) (fun z => absurd z (by omega))⟩
    exact h m _ _ _ _ _ _ _ _ _ _ _ _ _ _ _ _ _ _ _ _ _ _ _ _ _ _ _ _ _ hm (fun rc pc ds cd ga ls a1 a2 a3 a4 a5 a6 a7 a8 a9 a10 a11 a12 a13 a14 a15 a16 a17 a18 a19 a20 a21 a22 g => H _ _ _ _ _ _ _ _ _ _ _ _ _ _ _ _ _ _ _ _ _ _ _ _ _ _ _ _ g)
  rcases Nat.lt_or_ge o 12 with g2 | g2
  · obtain ⟨R, P', ok', h⟩ := zc_delAct (P := P) r ok
    refine ⟨R, P', ok', fun m rc pc ds cd ga ls a1 a2 a3 a4 a5 a6 a7 a8 a9 a10 a11 a12 a13 a14 a15 a16 a17 a18 a19 a20 a21 a22 post hm H => pk_le 7 o (fun _ => pk_le 10 o (fun _ => pk_le 12 o (fun z => absurd z (by omega)) (fun _ => ?_)) (fun z => absurd z (by omega))) (fun z => absurd z (by omega))⟩
    exact h m _ _ _ _ _ _ _ _ _ _ _ _ _ _ _ _ _ _ _ _ _ _ _ _ _ _ _ _ _ hm (fun rc pc ds cd ga ls a1 a2 a3 a4 a5 a6 a7 a8 a9 a10 a11 a12 a13 a14 a15 a16 a17 a18 a19 a20 a21 a22 g => H _ _ _ _ _ _ _ _ _ _ _ _ _ _ _ _ _ _ _ _ _ _ _ _ _ _ _ _ g)
  rcases Nat.decEq o 12 with g3 | g3
  · rcases Nat.lt_or_ge o 15 with g4 | g4
    · obtain ⟨R, P', ok', h⟩ := zc_cndAct (P := P) (((x >>> ((2 : Int32) &&& 31)) &&& 7) - 3) (((x >>> ((5 : Int32) &&& 31)) &&& 15) - 3) (fun m => nI (zc_sg m c)) ok (Or.inl ⟨c, hc, fun _ => rfl⟩)
      refine ⟨R, P', ok', fun m rc pc ds cd ga ls a1 a2 a3 a4 a5 a6 a7 a8 a9 a10 a11 a12 a13 a14 a15 a16 a17 a18 a19 a20 a21 a22 post hm H => pk_le 7 o (fun _ => pk_le 10 o (fun _ => pk_le 12 o (fun _ => pk_eq o 12 (fun z => absurd z g3) (fun _ => pk_le 15 o (fun z => absurd z (by omega)) (fun _ => ?_))) (fun z => absurd z (by omega))) (fun z => absurd z (by omega))) (fun z => absurd z (by omega))⟩
      exact h m _ _ _ _ _ _ _ _ _ _ _ _ _ _ _ _ _ _ _ _ _ _ _ _ _ _ _ _ _ hm (fun rc pc ds cd ga ls a1 a2 a3 a4 a5 a6 a7 a8 a9 a10 a11 a12 a13 a14 a15 a16 a17 a18 a19 a20 a21 a22 g => H _ _ _ _ _ _ _ _ _ _ _ _ _ _ _ _ _ _ _ _ _ _ _ _ _ _ _ _ g)
    · obtain ⟨R, P', ok', h⟩ := zc_freAct (P := P) ok
      refine ⟨R, P', ok', fun m rc pc ds cd ga ls a1 a2 a3 a4 a5 a6 a7 a8 a9 a10 a11 a12 a13 a14 a15 a16 a17 a18 a19 a20 a21 a22 post hm H => pk_le 7 o (fun _ => pk_le 10 o (fun _ => pk_le 12 o (fun _ => pk_eq o 12 (fun z => absurd z g3) (fun _ => pk_le 15 o (fun _ => ?_) (fun z => absurd z (by omega)))) (fun z => absurd z (by omega))) (fun z => absurd z (by omega))) (fun z => absurd z (by omega))⟩
      exact h m _ _ _ _ _ _ _ _ _ _ _ _ _ _ _ _ _ _ _ _ _ _ _ _ _ _ _ _ _ hm (fun rc pc ds cd ga ls a1 a2 a3 a4 a5 a6 a7 a8 a9 a10 a11 a12 a13 a14 a15 a16 a17 a18 a19 a20 a21 a22 g => H _ _ _ _ _ _ _ _ _ _ _ _ _ _ _ _ _ _ _ _ _ _ _ _ _ _ _ _ g)
  · obtain ⟨R, P', ok', h⟩ := zc_cptAct (P := P) ok
    refine ⟨R, P', ok', fun m rc pc ds cd ga ls a1 a2 a3 a4 a5 a6 a7 a8 a9 a10 a11 a12 a13 a14 a15 a16 a17 a18 a19 a20 a21 a22 post hm H => pk_le 7 o (fun _ => pk_le 10 o (fun _ => pk_le 12 o (fun _ => pk_eq o 12 (fun _ => ?_) (fun z => absurd g3 z)) (fun z => absurd z (by omega))) (fun z => absurd z (by omega))) (fun z => absurd z (by omega))⟩
    exact h m _ _ _ _ _ _ _ _ _ _ _ _ _ _ _ _ _ _ _ _ _ _ _ _ _ _ _ _ _ hm (fun rc pc ds cd ga ls a1 a2 a3 a4 a5 a6 a7 a8 a9 a10 a11 a12 a13 a14 a15 a16 a17 a18 a19 a20 a21 a22 g => H _ _ _ _ _ _ _ _ _ _ _ _ _ _ _ _ _ _ _ _ _ _ _ _ _ _ _ _ g)
theorem zc_say {P : zc_Pic} (w x : Int32) (ok : zc_Ok P) : zc_Act P (fun m post u => wpL_say post u w x (zc_mI m)) := by
  obtain ⟨o, ho, eo⟩ := pk_andE w (m := 15) 4 (by decide)
  obtain ⟨c4, hc4, ec⟩ := pk_andE x (m := 3) 2 (by decide)
  have o1 := ok.1
  have ec3 : (x &&& 3) - (x &&& 3) / (3 : Int32) * 3 = nI (c4 % 3) := by rw [ec, zc_r3 (by omega)]
  obtain ⟨R, P', ok', h⟩ := zc_say51 (P := P) x (zc_sR P x) (o := o) (c := c4 % 3) ho (Nat.mod_lt _ (by omega)) ok
  refine ⟨R, P', ok', fun m rc pc ds cd ga ls a1 a2 a3 a4 a5 a6 a7 a8 a9 a10 a11 a12 a13 a14 a15 a16 a17 a18 a19 a20 a21 a22 post hm H => ?_⟩
  have hfin : wL_say_51 post x (zc_mI m) (nI o) (nI (zc_sg m (c4 % 3))) (zc_sR P x) rc pc ds cd ga ls a1 a2 a3 a4 a5 a6 a7 a8 a9 a10 a11 a12 a13 a14 a15 a16 a17 a18 a19 a20 a21 a22 := h m _ _ _ _ _ _ _ _ _ _ _ _ _ _ _ _ _ _ _ _ _ _ _ _ _ _ _ _ post hm H
  unfold zc_sR at hfin
  have h31 : ∀ z0 : Int32, z0 = nI (zc_sg m (c4 % 3)) → wL_say_31 post x (zc_mI m) (nI o) (nI (zc_n P)) z0 rc pc ds cd ga ls a1 a2 a3 a4 a5 a6 a7 a8 a9 a10 a11 a12 a13 a14 a15 a16 a17 a18 a19 a20 a21 a22 := by
    intro z0 hz
    subst hz
    refine pk_eq (zc_n P) 0 (fun z => ?_) (fun z => ⟨nI_ne0 (by omega) (by omega), ?_⟩)
    · rw [if_pos z] at hfin
      exact hfin
    · rw [if_neg z] at hfin
      exact hfin
  refine nm_r eo (zc_rows hm ?_)
  cases m with
  | false => exact br_t rfl ⟨zc_n3, h31 _ ec3⟩
  | true =>
    refine br_f (by decide) ⟨zc_n3, h31 _ ?_⟩
    rw [ec3]
    exact pk_sub (a := 2) (by omega)
end
section
theorem zc_match {post : Int32 → St2 → Prop} {p q : St1} {P : zc_Pic} (ok : zc_Ok P) (hp : zc_Mt false P p.1 p.2.1 p.2.2.2.1 p.2.2.2.2.2.2.1 p.2.2.2.2.2.2.2.1 p.2.2.2.2.2.2.2.2.1 p.2.2.2.2.2.2.2.2.2.1 p.2.2.2.2.2.2.2.2.2.2.1 p.2.2.2.2.2.2.2.2.2.2.2.1 p.2.2.2.2.2.2.2.2.2.2.2.2.1 p.2.2.2.2.2.2.2.2.2.2.2.2.2.1 p.2.2.2.2.2.2.2.2.2.2.2.2.2.2.1 p.2.2.2.2.2.2.2.2.2.2.2.2.2.2.2.1 p.2.2.2.2.2.2.2.2.2.2.2.2.2.2.2.2.1 p.2.2.2.2.2.2.2.2.2.2.2.2.2.2.2.2.2.1 p.2.2.2.2.2.2.2.2.2.2.2.2.2.2.2.2.2.2.1 p.2.2.2.2.2.2.2.2.2.2.2.2.2.2.2.2.2.2.2.1 p.2.2.2.2.2.2.2.2.2.2.2.2.2.2.2.2.2.2.2.2.2.2.1 p.2.2.2.2.2.2.2.2.2.2.2.2.2.2.2.2.2.2.2.2.2.2.2.1 p.2.2.2.2.2.2.2.2.2.2.2.2.2.2.2.2.2.2.2.2.2.2.2.2.1) (hq : zc_Mt true P q.1 q.2.1 q.2.2.2.1 q.2.2.2.2.2.2.1 q.2.2.2.2.2.2.2.1 q.2.2.2.2.2.2.2.2.1 q.2.2.2.2.2.2.2.2.2.1 q.2.2.2.2.2.2.2.2.2.2.1 q.2.2.2.2.2.2.2.2.2.2.2.1 q.2.2.2.2.2.2.2.2.2.2.2.2.1 q.2.2.2.2.2.2.2.2.2.2.2.2.2.1 q.2.2.2.2.2.2.2.2.2.2.2.2.2.2.1 q.2.2.2.2.2.2.2.2.2.2.2.2.2.2.2.1 q.2.2.2.2.2.2.2.2.2.2.2.2.2.2.2.2.1 q.2.2.2.2.2.2.2.2.2.2.2.2.2.2.2.2.2.1 q.2.2.2.2.2.2.2.2.2.2.2.2.2.2.2.2.2.2.1 q.2.2.2.2.2.2.2.2.2.2.2.2.2.2.2.2.2.2.2.1 q.2.2.2.2.2.2.2.2.2.2.2.2.2.2.2.2.2.2.2.2.2.2.1 q.2.2.2.2.2.2.2.2.2.2.2.2.2.2.2.2.2.2.2.2.2.2.2.1 q.2.2.2.2.2.2.2.2.2.2.2.2.2.2.2.2.2.2.2.2.2.2.2.2.1) (H : ∀ p' q' : St1, zc_Mt false P p'.1 p'.2.1 p'.2.2.2.1 p'.2.2.2.2.2.2.1 p'.2.2.2.2.2.2.2.1 p'.2.2.2.2.2.2.2.2.1 p'.2.2.2.2.2.2.2.2.2.1 p'.2.2.2.2.2.2.2.2.2.2.1 p'.2.2.2.2.2.2.2.2.2.2.2.1 p'.2.2.2.2.2.2.2.2.2.2.2.2.1 p'.2.2.2.2.2.2.2.2.2.2.2.2.2.1 p'.2.2.2.2.2.2.2.2.2.2.2.2.2.2.1 p'.2.2.2.2.2.2.2.2.2.2.2.2.2.2.2.1 p'.2.2.2.2.2.2.2.2.2.2.2.2.2.2.2.2.1 p'.2.2.2.2.2.2.2.2.2.2.2.2.2.2.2.2.2.1 p'.2.2.2.2.2.2.2.2.2.2.2.2.2.2.2.2.2.2.1 p'.2.2.2.2.2.2.2.2.2.2.2.2.2.2.2.2.2.2.2.1 p'.2.2.2.2.2.2.2.2.2.2.2.2.2.2.2.2.2.2.2.2.2.2.1 p'.2.2.2.2.2.2.2.2.2.2.2.2.2.2.2.2.2.2.2.2.2.2.2.1 p'.2.2.2.2.2.2.2.2.2.2.2.2.2.2.2.2.2.2.2.2.2.2.2.2.1 → zc_Mt true P q'.1 q'.2.1 q'.2.2.2.1 q'.2.2.2.2.2.2.1 q'.2.2.2.2.2.2.2.1 q'.2.2.2.2.2.2.2.2.1 q'.2.2.2.2.2.2.2.2.2.1 q'.2.2.2.2.2.2.2.2.2.2.1 q'.2.2.2.2.2.2.2.2.2.2.2.1 q'.2.2.2.2.2.2.2.2.2.2.2.2.1 q'.2.2.2.2.2.2.2.2.2.2.2.2.2.1 q'.2.2.2.2.2.2.2.2.2.2.2.2.2.2.1 q'.2.2.2.2.2.2.2.2.2.2.2.2.2.2.2.1 q'.2.2.2.2.2.2.2.2.2.2.2.2.2.2.2.2.1 q'.2.2.2.2.2.2.2.2.2.2.2.2.2.2.2.2.2.1 q'.2.2.2.2.2.2.2.2.2.2.2.2.2.2.2.2.2.2.1 q'.2.2.2.2.2.2.2.2.2.2.2.2.2.2.2.2.2.2.2.1 q'.2.2.2.2.2.2.2.2.2.2.2.2.2.2.2.2.2.2.2.2.2.2.1 q'.2.2.2.2.2.2.2.2.2.2.2.2.2.2.2.2.2.2.2.2.2.2.2.1 q'.2.2.2.2.2.2.2.2.2.2.2.2.2.2.2.2.2.2.2.2.2.2.2.2.1 → post 1 (p'.1, p'.2.1, p'.2.2.1, p'.2.2.2.1, p'.2.2.2.2.1, p'.2.2.2.2.2.1, p'.2.2.2.2.2.2.1, p'.2.2.2.2.2.2.2.1, p'.2.2.2.2.2.2.2.2.1, p'.2.2.2.2.2.2.2.2.2.1, p'.2.2.2.2.2.2.2.2.2.2.1, p'.2.2.2.2.2.2.2.2.2.2.2.1, p'.2.2.2.2.2.2.2.2.2.2.2.2.1, p'.2.2.2.2.2.2.2.2.2.2.2.2.2.1, p'.2.2.2.2.2.2.2.2.2.2.2.2.2.2.1, p'.2.2.2.2.2.2.2.2.2.2.2.2.2.2.2.1, p'.2.2.2.2.2.2.2.2.2.2.2.2.2.2.2.2.1, p'.2.2.2.2.2.2.2.2.2.2.2.2.2.2.2.2.2.1, p'.2.2.2.2.2.2.2.2.2.2.2.2.2.2.2.2.2.2.1, p'.2.2.2.2.2.2.2.2.2.2.2.2.2.2.2.2.2.2.2.1, p'.2.2.2.2.2.2.2.2.2.2.2.2.2.2.2.2.2.2.2.2.1, p'.2.2.2.2.2.2.2.2.2.2.2.2.2.2.2.2.2.2.2.2.2.1, p'.2.2.2.2.2.2.2.2.2.2.2.2.2.2.2.2.2.2.2.2.2.2.1, p'.2.2.2.2.2.2.2.2.2.2.2.2.2.2.2.2.2.2.2.2.2.2.2.1, p'.2.2.2.2.2.2.2.2.2.2.2.2.2.2.2.2.2.2.2.2.2.2.2.2.1, p'.2.2.2.2.2.2.2.2.2.2.2.2.2.2.2.2.2.2.2.2.2.2.2.2.2.1, p'.2.2.2.2.2.2.2.2.2.2.2.2.2.2.2.2.2.2.2.2.2.2.2.2.2.2.1, p'.2.2.2.2.2.2.2.2.2.2.2.2.2.2.2.2.2.2.2.2.2.2.2.2.2.2.2, q'.1, q'.2.1, q'.2.2.1, q'.2.2.2.1, q'.2.2.2.2.1, q'.2.2.2.2.2.1, q'.2.2.2.2.2.2.1, q'.2.2.2.2.2.2.2.1, q'.2.2.2.2.2.2.2.2.1, q'.2.2.2.2.2.2.2.2.2.1, q'.2.2.2.2.2.2.2.2.2.2.1, q'.2.2.2.2.2.2.2.2.2.2.2.1, q'.2.2.2.2.2.2.2.2.2.2.2.2.1, q'.2.2.2.2.2.2.2.2.2.2.2.2.2.1, q'.2.2.2.2.2.2.2.2.2.2.2.2.2.2.1, q'.2.2.2.2.2.2.2.2.2.2.2.2.2.2.2.1, q'.2.2.2.2.2.2.2.2.2.2.2.2.2.2.2.2.1, q'.2.2.2.2.2.2.2.2.2.2.2.2.2.2.2.2.2.1, q'.2.2.2.2.2.2.2.2.2.2.2.2.2.2.2.2.2.2.1, q'.2.2.2.2.2.2.2.2.2.2.2.2.2.2.2.2.2.2.2.1, q'.2.2.2.2.2.2.2.2.2.2.2.2.2.2.2.2.2.2.2.2.1, q'.2.2.2.2.2.2.2.2.2.2.2.2.2.2.2.2.2.2.2.2.2.1, q'.2.2.2.2.2.2.2.2.2.2.2.2.2.2.2.2.2.2.2.2.2.2.1, q'.2.2.2.2.2.2.2.2.2.2.2.2.2.2.2.2.2.2.2.2.2.2.2.1, q'.2.2.2.2.2.2.2.2.2.2.2.2.2.2.2.2.2.2.2.2.2.2.2.2.1, q'.2.2.2.2.2.2.2.2.2.2.2.2.2.2.2.2.2.2.2.2.2.2.2.2.2.1, q'.2.2.2.2.2.2.2.2.2.2.2.2.2.2.2.2.2.2.2.2.2.2.2.2.2.2.1, q'.2.2.2.2.2.2.2.2.2.2.2.2.2.2.2.2.2.2.2.2.2.2.2.2.2.2.2)) : wpL_match post (p.1, p.2.1, p.2.2.1, p.2.2.2.1, p.2.2.2.2.1, p.2.2.2.2.2.1, p.2.2.2.2.2.2.1, p.2.2.2.2.2.2.2.1, p.2.2.2.2.2.2.2.2.1, p.2.2.2.2.2.2.2.2.2.1, p.2.2.2.2.2.2.2.2.2.2.1, p.2.2.2.2.2.2.2.2.2.2.2.1, p.2.2.2.2.2.2.2.2.2.2.2.2.1, p.2.2.2.2.2.2.2.2.2.2.2.2.2.1, p.2.2.2.2.2.2.2.2.2.2.2.2.2.2.1, p.2.2.2.2.2.2.2.2.2.2.2.2.2.2.2.1, p.2.2.2.2.2.2.2.2.2.2.2.2.2.2.2.2.1, p.2.2.2.2.2.2.2.2.2.2.2.2.2.2.2.2.2.1, p.2.2.2.2.2.2.2.2.2.2.2.2.2.2.2.2.2.2.1, p.2.2.2.2.2.2.2.2.2.2.2.2.2.2.2.2.2.2.2.1, p.2.2.2.2.2.2.2.2.2.2.2.2.2.2.2.2.2.2.2.2.1, p.2.2.2.2.2.2.2.2.2.2.2.2.2.2.2.2.2.2.2.2.2.1, p.2.2.2.2.2.2.2.2.2.2.2.2.2.2.2.2.2.2.2.2.2.2.1, p.2.2.2.2.2.2.2.2.2.2.2.2.2.2.2.2.2.2.2.2.2.2.2.1, p.2.2.2.2.2.2.2.2.2.2.2.2.2.2.2.2.2.2.2.2.2.2.2.2.1, p.2.2.2.2.2.2.2.2.2.2.2.2.2.2.2.2.2.2.2.2.2.2.2.2.2.1, p.2.2.2.2.2.2.2.2.2.2.2.2.2.2.2.2.2.2.2.2.2.2.2.2.2.2.1, p.2.2.2.2.2.2.2.2.2.2.2.2.2.2.2.2.2.2.2.2.2.2.2.2.2.2.2, q.1, q.2.1, q.2.2.1, q.2.2.2.1, q.2.2.2.2.1, q.2.2.2.2.2.1, q.2.2.2.2.2.2.1, q.2.2.2.2.2.2.2.1, q.2.2.2.2.2.2.2.2.1, q.2.2.2.2.2.2.2.2.2.1, q.2.2.2.2.2.2.2.2.2.2.1, q.2.2.2.2.2.2.2.2.2.2.2.1, q.2.2.2.2.2.2.2.2.2.2.2.2.1, q.2.2.2.2.2.2.2.2.2.2.2.2.2.1, q.2.2.2.2.2.2.2.2.2.2.2.2.2.2.1, q.2.2.2.2.2.2.2.2.2.2.2.2.2.2.2.1, q.2.2.2.2.2.2.2.2.2.2.2.2.2.2.2.2.1, q.2.2.2.2.2.2.2.2.2.2.2.2.2.2.2.2.2.1, q.2.2.2.2.2.2.2.2.2.2.2.2.2.2.2.2.2.2.1, q.2.2.2.2.2.2.2.2.2.2.2.2.2.2.2.2.2.2.2.1, q.2.2.2.2.2.2.2.2.2.2.2.2.2.2.2.2.2.2.2.2.1, q.2.2.2.2.2.2.2.2.2.2.2.2.2.2.2.2.2.2.2.2.2.1, q.2.2.2.2.2.2.2.2.2.2.2.2.2.2.2.2.2.2.2.2.2.2.1, q.2.2.2.2.2.2.2.2.2.2.2.2.2.2.2.2.2.2.2.2.2.2.2.1, q.2.2.2.2.2.2.2.2.2.2.2.2.2.2.2.2.2.2.2.2.2.2.2.2.1, q.2.2.2.2.2.2.2.2.2.2.2.2.2.2.2.2.2.2.2.2.2.2.2.2.2.1, q.2.2.2.2.2.2.2.2.2.2.2.2.2.2.2.2.2.2.2.2.2.2.2.2.2.2.1, q.2.2.2.2.2.2.2.2.2.2.2.2.2.2.2.2.2.2.2.2.2.2.2.2.2.2.2) := by
  refine pk_loop (fun n c (s : St1 × St1) => wL_match_2 post n (nI c) s.1.1 s.1.2.1 s.1.2.2.1 s.1.2.2.2.1 s.1.2.2.2.2.1 s.1.2.2.2.2.2.1 s.1.2.2.2.2.2.2.1 s.1.2.2.2.2.2.2.2.1 s.1.2.2.2.2.2.2.2.2.1 s.1.2.2.2.2.2.2.2.2.2.1 s.1.2.2.2.2.2.2.2.2.2.2.1 s.1.2.2.2.2.2.2.2.2.2.2.2.1 s.1.2.2.2.2.2.2.2.2.2.2.2.2.1 s.1.2.2.2.2.2.2.2.2.2.2.2.2.2.1 s.1.2.2.2.2.2.2.2.2.2.2.2.2.2.2.1 s.1.2.2.2.2.2.2.2.2.2.2.2.2.2.2.2.1 s.1.2.2.2.2.2.2.2.2.2.2.2.2.2.2.2.2.1 s.1.2.2.2.2.2.2.2.2.2.2.2.2.2.2.2.2.2.1 s.1.2.2.2.2.2.2.2.2.2.2.2.2.2.2.2.2.2.2.1 s.1.2.2.2.2.2.2.2.2.2.2.2.2.2.2.2.2.2.2.2.1 s.1.2.2.2.2.2.2.2.2.2.2.2.2.2.2.2.2.2.2.2.2.1 s.1.2.2.2.2.2.2.2.2.2.2.2.2.2.2.2.2.2.2.2.2.2.1 s.1.2.2.2.2.2.2.2.2.2.2.2.2.2.2.2.2.2.2.2.2.2.2.1 s.1.2.2.2.2.2.2.2.2.2.2.2.2.2.2.2.2.2.2.2.2.2.2.2.1 s.1.2.2.2.2.2.2.2.2.2.2.2.2.2.2.2.2.2.2.2.2.2.2.2.2.1 s.1.2.2.2.2.2.2.2.2.2.2.2.2.2.2.2.2.2.2.2.2.2.2.2.2.2.1 s.1.2.2.2.2.2.2.2.2.2.2.2.2.2.2.2.2.2.2.2.2.2.2.2.2.2.2.1 s.1.2.2.2.2.2.2.2.2.2.2.2.2.2.2.2.2.2.2.2.2.2.2.2.2.2.2.2 s.2.1 s.2.2.1 s.2.2.2.1 s.2.2.2.2.1 s.2.2.2.2.2.1 s.2.2.2.2.2.2.1 s.2.2.2.2.2.2.2.1 s.2.2.2.2.2.2.2.2.1 s.2.2.2.2.2.2.2.2.2.1 s.2.2.2.2.2.2.2.2.2.2.1 s.2.2.2.2.2.2.2.2.2.2.2.1 s.2.2.2.2.2.2.2.2.2.2.2.2.1 s.2.2.2.2.2.2.2.2.2.2.2.2.2.1 s.2.2.2.2.2.2.2.2.2.2.2.2.2.2.1 s.2.2.2.2.2.2.2.2.2.2.2.2.2.2.2.1 s.2.2.2.2.2.2.2.2.2.2.2.2.2.2.2.2.1 s.2.2.2.2.2.2.2.2.2.2.2.2.2.2.2.2.2.1 s.2.2.2.2.2.2.2.2.2.2.2.2.2.2.2.2.2.2.1 s.2.2.2.2.2.2.2.2.2.2.2.2.2.2.2.2.2.2.2.1 s.2.2.2.2.2.2.2.2.2.2.2.2.2.2.2.2.2.2.2.2.1 s.2.2.2.2.2.2.2.2.2.2.2.2.2.2.2.2.2.2.2.2.2.1 s.2.2.2.2.2.2.2.2.2.2.2.2.2.2.2.2.2.2.2.2.2.2.1 s.2.2.2.2.2.2.2.2.2.2.2.2.2.2.2.2.2.2.2.2.2.2.2.1 s.2.2.2.2.2.2.2.2.2.2.2.2.2.2.2.2.2.2.2.2.2.2.2.2.1 s.2.2.2.2.2.2.2.2.2.2.2.2.2.2.2.2.2.2.2.2.2.2.2.2.2.1 s.2.2.2.2.2.2.2.2.2.2.2.2.2.2.2.2.2.2.2.2.2.2.2.2.2.2.1 s.2.2.2.2.2.2.2.2.2.2.2.2.2.2.2.2.2.2.2.2.2.2.2.2.2.2.2.1 s.2.2.2.2.2.2.2.2.2.2.2.2.2.2.2.2.2.2.2.2.2.2.2.2.2.2.2.2) (fun _ s => zc_Mt false P s.1.1 s.1.2.1 s.1.2.2.2.1 s.1.2.2.2.2.2.2.1 s.1.2.2.2.2.2.2.2.1 s.1.2.2.2.2.2.2.2.2.1 s.1.2.2.2.2.2.2.2.2.2.1 s.1.2.2.2.2.2.2.2.2.2.2.1 s.1.2.2.2.2.2.2.2.2.2.2.2.1 s.1.2.2.2.2.2.2.2.2.2.2.2.2.1 s.1.2.2.2.2.2.2.2.2.2.2.2.2.2.1 s.1.2.2.2.2.2.2.2.2.2.2.2.2.2.2.1 s.1.2.2.2.2.2.2.2.2.2.2.2.2.2.2.2.1 s.1.2.2.2.2.2.2.2.2.2.2.2.2.2.2.2.2.1 s.1.2.2.2.2.2.2.2.2.2.2.2.2.2.2.2.2.2.1 s.1.2.2.2.2.2.2.2.2.2.2.2.2.2.2.2.2.2.2.1 s.1.2.2.2.2.2.2.2.2.2.2.2.2.2.2.2.2.2.2.2.1 s.1.2.2.2.2.2.2.2.2.2.2.2.2.2.2.2.2.2.2.2.2.2.2.1 s.1.2.2.2.2.2.2.2.2.2.2.2.2.2.2.2.2.2.2.2.2.2.2.2.1 s.1.2.2.2.2.2.2.2.2.2.2.2.2.2.2.2.2.2.2.2.2.2.2.2.2.1 ∧ zc_Mt true P s.2.1 s.2.2.1 s.2.2.2.2.1 s.2.2.2.2.2.2.2.1 s.2.2.2.2.2.2.2.2.1 s.2.2.2.2.2.2.2.2.2.1 s.2.2.2.2.2.2.2.2.2.2.1 s.2.2.2.2.2.2.2.2.2.2.2.1 s.2.2.2.2.2.2.2.2.2.2.2.2.1 s.2.2.2.2.2.2.2.2.2.2.2.2.2.1 s.2.2.2.2.2.2.2.2.2.2.2.2.2.2.1 s.2.2.2.2.2.2.2.2.2.2.2.2.2.2.2.1 s.2.2.2.2.2.2.2.2.2.2.2.2.2.2.2.2.1 s.2.2.2.2.2.2.2.2.2.2.2.2.2.2.2.2.2.1 s.2.2.2.2.2.2.2.2.2.2.2.2.2.2.2.2.2.2.1 s.2.2.2.2.2.2.2.2.2.2.2.2.2.2.2.2.2.2.2.1 s.2.2.2.2.2.2.2.2.2.2.2.2.2.2.2.2.2.2.2.2.1 s.2.2.2.2.2.2.2.2.2.2.2.2.2.2.2.2.2.2.2.2.2.2.2.1 s.2.2.2.2.2.2.2.2.2.2.2.2.2.2.2.2.2.2.2.2.2.2.2.2.1 s.2.2.2.2.2.2.2.2.2.2.2.2.2.2.2.2.2.2.2.2.2.2.2.2.2.1) 3 0 (p, q) (by omega) ⟨hp, hq⟩ ?_ ?_
  · intro n s ⟨hp, hq⟩
    refine pk_le 3 3 (fun _ => ?_) (fun z => absurd z (by omega))
    refine pk_loop (fun n k (s : St1 × St1) => wL_match_162 post n (nI k) s.1.1 s.1.2.1 s.1.2.2.1 s.1.2.2.2.1 s.1.2.2.2.2.1 s.1.2.2.2.2.2.1 s.1.2.2.2.2.2.2.1 s.1.2.2.2.2.2.2.2.1 s.1.2.2.2.2.2.2.2.2.1 s.1.2.2.2.2.2.2.2.2.2.1 s.1.2.2.2.2.2.2.2.2.2.2.1 s.1.2.2.2.2.2.2.2.2.2.2.2.1 s.1.2.2.2.2.2.2.2.2.2.2.2.2.1 s.1.2.2.2.2.2.2.2.2.2.2.2.2.2.1 s.1.2.2.2.2.2.2.2.2.2.2.2.2.2.2.1 s.1.2.2.2.2.2.2.2.2.2.2.2.2.2.2.2.1 s.1.2.2.2.2.2.2.2.2.2.2.2.2.2.2.2.2.1 s.1.2.2.2.2.2.2.2.2.2.2.2.2.2.2.2.2.2.1 s.1.2.2.2.2.2.2.2.2.2.2.2.2.2.2.2.2.2.2.1 s.1.2.2.2.2.2.2.2.2.2.2.2.2.2.2.2.2.2.2.2.1 s.1.2.2.2.2.2.2.2.2.2.2.2.2.2.2.2.2.2.2.2.2.1 s.1.2.2.2.2.2.2.2.2.2.2.2.2.2.2.2.2.2.2.2.2.2.1 s.1.2.2.2.2.2.2.2.2.2.2.2.2.2.2.2.2.2.2.2.2.2.2.1 s.1.2.2.2.2.2.2.2.2.2.2.2.2.2.2.2.2.2.2.2.2.2.2.2.1 s.1.2.2.2.2.2.2.2.2.2.2.2.2.2.2.2.2.2.2.2.2.2.2.2.2.1 s.1.2.2.2.2.2.2.2.2.2.2.2.2.2.2.2.2.2.2.2.2.2.2.2.2.2.1 s.1.2.2.2.2.2.2.2.2.2.2.2.2.2.2.2.2.2.2.2.2.2.2.2.2.2.2.1 s.1.2.2.2.2.2.2.2.2.2.2.2.2.2.2.2.2.2.2.2.2.2.2.2.2.2.2.2 s.2.1 s.2.2.1 s.2.2.2.1 s.2.2.2.2.1 s.2.2.2.2.2.1 s.2.2.2.2.2.2.1 s.2.2.2.2.2.2.2.1 s.2.2.2.2.2.2.2.2.1 s.2.2.2.2.2.2.2.2.2.1 s.2.2.2.2.2.2.2.2.2.2.1 s.2.2.2.2.2.2.2.2.2.2.2.1 s.2.2.2.2.2.2.2.2.2.2.2.2.1 s.2.2.2.2.2.2.2.2.2.2.2.2.2.1 s.2.2.2.2.2.2.2.2.2.2.2.2.2.2.1 s.2.2.2.2.2.2.2.2.2.2.2.2.2.2.2.1 s.2.2.2.2.2.2.2.2.2.2.2.2.2.2.2.2.1 s.2.2.2.2.2.2.2.2.2.2.2.2.2.2.2.2.2.1 s.2.2.2.2.2.2.2.2.2.2.2.2.2.2.2.2.2.2.1 s.2.2.2.2.2.2.2.2.2.2.2.2.2.2.2.2.2.2.2.1 s.2.2.2.2.2.2.2.2.2.2.2.2.2.2.2.2.2.2.2.2.1 s.2.2.2.2.2.2.2.2.2.2.2.2.2.2.2.2.2.2.2.2.2.1 s.2.2.2.2.2.2.2.2.2.2.2.2.2.2.2.2.2.2.2.2.2.2.1 s.2.2.2.2.2.2.2.2.2.2.2.2.2.2.2.2.2.2.2.2.2.2.2.1 s.2.2.2.2.2.2.2.2.2.2.2.2.2.2.2.2.2.2.2.2.2.2.2.2.1 s.2.2.2.2.2.2.2.2.2.2.2.2.2.2.2.2.2.2.2.2.2.2.2.2.2.1 s.2.2.2.2.2.2.2.2.2.2.2.2.2.2.2.2.2.2.2.2.2.2.2.2.2.2.1 s.2.2.2.2.2.2.2.2.2.2.2.2.2.2.2.2.2.2.2.2.2.2.2.2.2.2.2.1 s.2.2.2.2.2.2.2.2.2.2.2.2.2.2.2.2.2.2.2.2.2.2.2.2.2.2.2.2) (fun _ s => zc_Mt false P s.1.1 s.1.2.1 s.1.2.2.2.1 s.1.2.2.2.2.2.2.1 s.1.2.2.2.2.2.2.2.1 s.1.2.2.2.2.2.2.2.2.1 s.1.2.2.2.2.2.2.2.2.2.1 s.1.2.2.2.2.2.2.2.2.2.2.1 s.1.2.2.2.2.2.2.2.2.2.2.2.1 s.1.2.2.2.2.2.2.2.2.2.2.2.2.1 s.1.2.2.2.2.2.2.2.2.2.2.2.2.2.1 s.1.2.2.2.2.2.2.2.2.2.2.2.2.2.2.1 s.1.2.2.2.2.2.2.2.2.2.2.2.2.2.2.2.1 s.1.2.2.2.2.2.2.2.2.2.2.2.2.2.2.2.2.1 s.1.2.2.2.2.2.2.2.2.2.2.2.2.2.2.2.2.2.1 s.1.2.2.2.2.2.2.2.2.2.2.2.2.2.2.2.2.2.2.1 s.1.2.2.2.2.2.2.2.2.2.2.2.2.2.2.2.2.2.2.2.1 s.1.2.2.2.2.2.2.2.2.2.2.2.2.2.2.2.2.2.2.2.2.2.2.1 s.1.2.2.2.2.2.2.2.2.2.2.2.2.2.2.2.2.2.2.2.2.2.2.2.1 s.1.2.2.2.2.2.2.2.2.2.2.2.2.2.2.2.2.2.2.2.2.2.2.2.2.1 ∧ zc_Mt true P s.2.1 s.2.2.1 s.2.2.2.2.1 s.2.2.2.2.2.2.2.1 s.2.2.2.2.2.2.2.2.1 s.2.2.2.2.2.2.2.2.2.1 s.2.2.2.2.2.2.2.2.2.2.1 s.2.2.2.2.2.2.2.2.2.2.2.1 s.2.2.2.2.2.2.2.2.2.2.2.2.1 s.2.2.2.2.2.2.2.2.2.2.2.2.2.1 s.2.2.2.2.2.2.2.2.2.2.2.2.2.2.1 s.2.2.2.2.2.2.2.2.2.2.2.2.2.2.2.1 s.2.2.2.2.2.2.2.2.2.2.2.2.2.2.2.2.1 s.2.2.2.2.2.2.2.2.2.2.2.2.2.2.2.2.2.1 s.2.2.2.2.2.2.2.2.2.2.2.2.2.2.2.2.2.2.1 s.2.2.2.2.2.2.2.2.2.2.2.2.2.2.2.2.2.2.2.1 s.2.2.2.2.2.2.2.2.2.2.2.2.2.2.2.2.2.2.2.2.1 s.2.2.2.2.2.2.2.2.2.2.2.2.2.2.2.2.2.2.2.2.2.2.2.1 s.2.2.2.2.2.2.2.2.2.2.2.2.2.2.2.2.2.2.2.2.2.2.2.2.1 s.2.2.2.2.2.2.2.2.2.2.2.2.2.2.2.2.2.2.2.2.2.2.2.2.2.1) 96 0 s (by omega) ⟨hp, hq⟩ ?_ ?_
    · intro n s ⟨hp, hq⟩
      refine pk_le 96 96 (fun _ => zc_rows hp (zc_rows hq (br_t rfl ?_))) (fun z => absurd z (by omega))
      refine zc_count ok hp (fun rc pc ds cd ga ls a1 a2 a3 a4 a5 a6 a7 a8 a9 a10 a11 a12 a13 a14 a15 a16 a17 a18 a19 a20 a21 a22 hp1 => ?_)
      refine zc_count ok hq (fun rc' pc' ds' cd' ga' ls' a1' a2' a3' a4' a5' a6' a7' a8' a9' a10' a11' a12' a13' a14' a15' a16' a17' a18' a19' a20' a21' a22' hq1 => ?_)
      refine br_t rfl (zc_passed ok hp1 (fun rc pc ds cd ga ls a1 a2 a3 a4 a5 a6 a7 a8 a9 a10 a11 a12 a13 a14 a15 a16 a17 a18 a19 a20 a21 a22 hp2 => ?_))
      refine zc_passed ok hq1 (fun rc' pc' ds' cd' ga' ls' a1' a2' a3' a4' a5' a6' a7' a8' a9' a10' a11' a12' a13' a14' a15' a16' a17' a18' a19' a20' a21' a22' hq2 => ?_)
      exact br_t rfl (zc_patches hp2 (zc_patches hq2 (br_t rfl (zc_blocks ok hp2 (zc_blocks ok hq2 (br_t rfl (H (rc, pc, ds, cd, ga, ls, a1, a2, a3, a4, a5, a6, a7, a8, a9, a10, a11, a12, a13, a14, a15, a16, a17, a18, a19, a20, a21, a22) (rc', pc', ds', cd', ga', ls', a1', a2', a3', a4', a5', a6', a7', a8', a9', a10', a11', a12', a13', a14', a15', a16', a17', a18', a19', a20', a21', a22') hp2 hq2)))))))
    · intro n k s hk ⟨hp, hq⟩ hn
      refine pk_le 96 k (fun z => absurd z (by omega)) (fun _ => zc_chosen ok hp (fun rc pc ds cd ga ls a1 a2 a3 a4 a5 a6 a7 a8 a9 a10 a11 a12 a13 a14 a15 a16 a17 a18 a19 a20 a21 a22 hp1 => ?_))
      refine zc_chosen ok hq (fun rc' pc' ds' cd' ga' ls' a1' a2' a3' a4' a5' a6' a7' a8' a9' a10' a11' a12' a13' a14' a15' a16' a17' a18' a19' a20' a21' a22' hq1 => ?_)
      exact br_t rfl (nm_r (nI_1 k) (hn ((rc, pc, ds, cd, ga, ls, a1, a2, a3, a4, a5, a6, a7, a8, a9, a10, a11, a12, a13, a14, a15, a16, a17, a18, a19, a20, a21, a22), (rc', pc', ds', cd', ga', ls', a1', a2', a3', a4', a5', a6', a7', a8', a9', a10', a11', a12', a13', a14', a15', a16', a17', a18', a19', a20', a21', a22')) ⟨hp1, hq1⟩))
  · intro n c s hc ⟨hp, hq⟩ hn
    refine pk_le 3 c (fun z => absurd z (by omega)) (fun _ => nm_r (e' := nI (zc_sg true c)) (pk_sub (a := 2) (by omega)) ?_)
    refine zc_digits (m := false) (c := c) ok hp hc (zc_digits (m := true) (c := c) ok hq hc (br_t rfl ?_))
    refine zc_sum (m := false) (c := c) ok hp hc (fun rc pc ds cd ga ls a1 a2 a3 a4 a5 a6 a7 a8 a9 a10 a11 a12 a13 a14 a15 a16 a17 a18 a19 a20 a21 a22 hp1 => ?_)
    refine zc_sum (m := true) (c := c) ok hq hc (fun rc' pc' ds' cd' ga' ls' a1' a2' a3' a4' a5' a6' a7' a8' a9' a10' a11' a12' a13' a14' a15' a16' a17' a18' a19' a20' a21' a22' hq1 => ?_)
    refine br_t rfl (zc_least (m := false) (c := c) ok hp1 hc (fun rc pc ds cd ga ls a1 a2 a3 a4 a5 a6 a7 a8 a9 a10 a11 a12 a13 a14 a15 a16 a17 a18 a19 a20 a21 a22 hp2 => ?_))
    refine zc_least (m := true) (c := c) ok hq1 hc (fun rc' pc' ds' cd' ga' ls' a1' a2' a3' a4' a5' a6' a7' a8' a9' a10' a11' a12' a13' a14' a15' a16' a17' a18' a19' a20' a21' a22' hq2 => ?_)
    refine br_t rfl (zc_different (m := false) (c := c) ok hp2 hc (fun rc pc ds cd ga ls a1 a2 a3 a4 a5 a6 a7 a8 a9 a10 a11 a12 a13 a14 a15 a16 a17 a18 a19 a20 a21 a22 hp3 => ?_))
    refine zc_different (m := true) (c := c) ok hq2 hc (fun rc' pc' ds' cd' ga' ls' a1' a2' a3' a4' a5' a6' a7' a8' a9' a10' a11' a12' a13' a14' a15' a16' a17' a18' a19' a20' a21' a22' hq3 => ?_)
    refine br_t rfl (zc_commonest (m := false) (c := c) ok hp3 hc (fun rc pc ds cd ga ls a1 a2 a3 a4 a5 a6 a7 a8 a9 a10 a11 a12 a13 a14 a15 a16 a17 a18 a19 a20 a21 a22 hp4 => ?_))
    refine zc_commonest (m := true) (c := c) ok hq3 hc (fun rc' pc' ds' cd' ga' ls' a1' a2' a3' a4' a5' a6' a7' a8' a9' a10' a11' a12' a13' a14' a15' a16' a17' a18' a19' a20' a21' a22' hq4 => ?_)
    refine br_t rfl ?_
    refine pk_loop (fun n' r (s : St1 × St1) => wL_match_81 post (wL_match_2 post n) (nI c) (nI (zc_sg true c)) n' (nI r) s.1.1 s.1.2.1 s.1.2.2.1 s.1.2.2.2.1 s.1.2.2.2.2.1 s.1.2.2.2.2.2.1 s.1.2.2.2.2.2.2.1 s.1.2.2.2.2.2.2.2.1 s.1.2.2.2.2.2.2.2.2.1 s.1.2.2.2.2.2.2.2.2.2.1 s.1.2.2.2.2.2.2.2.2.2.2.1 s.1.2.2.2.2.2.2.2.2.2.2.2.1 s.1.2.2.2.2.2.2.2.2.2.2.2.2.1 s.1.2.2.2.2.2.2.2.2.2.2.2.2.2.1 s.1.2.2.2.2.2.2.2.2.2.2.2.2.2.2.1 s.1.2.2.2.2.2.2.2.2.2.2.2.2.2.2.2.1 s.1.2.2.2.2.2.2.2.2.2.2.2.2.2.2.2.2.1 s.1.2.2.2.2.2.2.2.2.2.2.2.2.2.2.2.2.2.1 s.1.2.2.2.2.2.2.2.2.2.2.2.2.2.2.2.2.2.2.1 s.1.2.2.2.2.2.2.2.2.2.2.2.2.2.2.2.2.2.2.2.1 s.1.2.2.2.2.2.2.2.2.2.2.2.2.2.2.2.2.2.2.2.2.1 s.1.2.2.2.2.2.2.2.2.2.2.2.2.2.2.2.2.2.2.2.2.2.1 s.1.2.2.2.2.2.2.2.2.2.2.2.2.2.2.2.2.2.2.2.2.2.2.1 s.1.2.2.2.2.2.2.2.2.2.2.2.2.2.2.2.2.2.2.2.2.2.2.2.1 s.1.2.2.2.2.2.2.2.2.2.2.2.2.2.2.2.2.2.2.2.2.2.2.2.2.1 s.1.2.2.2.2.2.2.2.2.2.2.2.2.2.2.2.2.2.2.2.2.2.2.2.2.2.1 s.1.2.2.2.2.2.2.2.2.2.2.2.2.2.2.2.2.2.2.2.2.2.2.2.2.2.2.1 s.1.2.2.2.2.2.2.2.2.2.2.2.2.2.2.2.2.2.2.2.2.2.2.2.2.2.2.2 s.2.1 s.2.2.1 s.2.2.2.1 s.2.2.2.2.1 s.2.2.2.2.2.1 s.2.2.2.2.2.2.1 s.2.2.2.2.2.2.2.1 s.2.2.2.2.2.2.2.2.1 s.2.2.2.2.2.2.2.2.2.1 s.2.2.2.2.2.2.2.2.2.2.1 s.2.2.2.2.2.2.2.2.2.2.2.1 s.2.2.2.2.2.2.2.2.2.2.2.2.1 s.2.2.2.2.2.2.2.2.2.2.2.2.2.1 s.2.2.2.2.2.2.2.2.2.2.2.2.2.2.1 s.2.2.2.2.2.2.2.2.2.2.2.2.2.2.2.1 s.2.2.2.2.2.2.2.2.2.2.2.2.2.2.2.2.1 s.2.2.2.2.2.2.2.2.2.2.2.2.2.2.2.2.2.1 s.2.2.2.2.2.2.2.2.2.2.2.2.2.2.2.2.2.2.1 s.2.2.2.2.2.2.2.2.2.2.2.2.2.2.2.2.2.2.2.1 s.2.2.2.2.2.2.2.2.2.2.2.2.2.2.2.2.2.2.2.2.1 s.2.2.2.2.2.2.2.2.2.2.2.2.2.2.2.2.2.2.2.2.2.1 s.2.2.2.2.2.2.2.2.2.2.2.2.2.2.2.2.2.2.2.2.2.2.1 s.2.2.2.2.2.2.2.2.2.2.2.2.2.2.2.2.2.2.2.2.2.2.2.1 s.2.2.2.2.2.2.2.2.2.2.2.2.2.2.2.2.2.2.2.2.2.2.2.2.1 s.2.2.2.2.2.2.2.2.2.2.2.2.2.2.2.2.2.2.2.2.2.2.2.2.2.1 s.2.2.2.2.2.2.2.2.2.2.2.2.2.2.2.2.2.2.2.2.2.2.2.2.2.2.1 s.2.2.2.2.2.2.2.2.2.2.2.2.2.2.2.2.2.2.2.2.2.2.2.2.2.2.2.1 s.2.2.2.2.2.2.2.2.2.2.2.2.2.2.2.2.2.2.2.2.2.2.2.2.2.2.2.2) (fun _ s => zc_Mt false P s.1.1 s.1.2.1 s.1.2.2.2.1 s.1.2.2.2.2.2.2.1 s.1.2.2.2.2.2.2.2.1 s.1.2.2.2.2.2.2.2.2.1 s.1.2.2.2.2.2.2.2.2.2.1 s.1.2.2.2.2.2.2.2.2.2.2.1 s.1.2.2.2.2.2.2.2.2.2.2.2.1 s.1.2.2.2.2.2.2.2.2.2.2.2.2.1 s.1.2.2.2.2.2.2.2.2.2.2.2.2.2.1 s.1.2.2.2.2.2.2.2.2.2.2.2.2.2.2.1 s.1.2.2.2.2.2.2.2.2.2.2.2.2.2.2.2.1 s.1.2.2.2.2.2.2.2.2.2.2.2.2.2.2.2.2.1 s.1.2.2.2.2.2.2.2.2.2.2.2.2.2.2.2.2.2.1 s.1.2.2.2.2.2.2.2.2.2.2.2.2.2.2.2.2.2.2.1 s.1.2.2.2.2.2.2.2.2.2.2.2.2.2.2.2.2.2.2.2.1 s.1.2.2.2.2.2.2.2.2.2.2.2.2.2.2.2.2.2.2.2.2.2.2.1 s.1.2.2.2.2.2.2.2.2.2.2.2.2.2.2.2.2.2.2.2.2.2.2.2.1 s.1.2.2.2.2.2.2.2.2.2.2.2.2.2.2.2.2.2.2.2.2.2.2.2.2.1 ∧ zc_Mt true P s.2.1 s.2.2.1 s.2.2.2.2.1 s.2.2.2.2.2.2.2.1 s.2.2.2.2.2.2.2.2.1 s.2.2.2.2.2.2.2.2.2.1 s.2.2.2.2.2.2.2.2.2.2.1 s.2.2.2.2.2.2.2.2.2.2.2.1 s.2.2.2.2.2.2.2.2.2.2.2.2.1 s.2.2.2.2.2.2.2.2.2.2.2.2.2.1 s.2.2.2.2.2.2.2.2.2.2.2.2.2.2.1 s.2.2.2.2.2.2.2.2.2.2.2.2.2.2.2.1 s.2.2.2.2.2.2.2.2.2.2.2.2.2.2.2.2.1 s.2.2.2.2.2.2.2.2.2.2.2.2.2.2.2.2.2.1 s.2.2.2.2.2.2.2.2.2.2.2.2.2.2.2.2.2.2.1 s.2.2.2.2.2.2.2.2.2.2.2.2.2.2.2.2.2.2.2.1 s.2.2.2.2.2.2.2.2.2.2.2.2.2.2.2.2.2.2.2.2.1 s.2.2.2.2.2.2.2.2.2.2.2.2.2.2.2.2.2.2.2.2.2.2.2.1 s.2.2.2.2.2.2.2.2.2.2.2.2.2.2.2.2.2.2.2.2.2.2.2.2.1 s.2.2.2.2.2.2.2.2.2.2.2.2.2.2.2.2.2.2.2.2.2.2.2.2.2.1) 96 0 ((rc, pc, ds, cd, ga, ls, a1, a2, a3, a4, a5, a6, a7, a8, a9, a10, a11, a12, a13, a14, a15, a16, a17, a18, a19, a20, a21, a22), (rc', pc', ds', cd', ga', ls', a1', a2', a3', a4', a5', a6', a7', a8', a9', a10', a11', a12', a13', a14', a15', a16', a17', a18', a19', a20', a21', a22')) (by omega) ⟨hp4, hq4⟩ ?_ ?_
    · intro n' s' hs'
      exact pk_le 96 96 (fun _ => nm_r (nI_1 c) (hn s' hs')) (fun z => absurd z (by omega))
    · intro n' r s' hr ⟨hp, hq⟩ hn'
      refine pk_le 96 r (fun z => absurd z (by omega)) (fun _ => zc_value (m := false) (c := c) ok hp hr hc (fun rc pc ds cd ga ls a1 a2 a3 a4 a5 a6 a7 a8 a9 a10 a11 a12 a13 a14 a15 a16 a17 a18 a19 a20 a21 a22 hp1 => ?_))
      refine zc_value (m := true) (c := c) ok hq hr hc (fun rc' pc' ds' cd' ga' ls' a1' a2' a3' a4' a5' a6' a7' a8' a9' a10' a11' a12' a13' a14' a15' a16' a17' a18' a19' a20' a21' a22' hq1 => ?_)
      refine br_t rfl (zc_ranked (m := false) (c := c) ok hp1 hc hr (fun rc pc ds cd ga ls a1 a2 a3 a4 a5 a6 a7 a8 a9 a10 a11 a12 a13 a14 a15 a16 a17 a18 a19 a20 a21 a22 hp2 => ?_))
      refine zc_ranked (m := true) (c := c) ok hq1 hc hr (fun rc' pc' ds' cd' ga' ls' a1' a2' a3' a4' a5' a6' a7' a8' a9' a10' a11' a12' a13' a14' a15' a16' a17' a18' a19' a20' a21' a22' hq2 => ?_)
      refine br_t rfl (pk_le 6 r (fun z => nm_r (nI_1 r) (hn' ((rc, pc, ds, cd, ga, ls, a1, a2, a3, a4, a5, a6, a7, a8, a9, a10, a11, a12, a13, a14, a15, a16, a17, a18, a19, a20, a21, a22), (rc', pc', ds', cd', ga', ls', a1', a2', a3', a4', a5', a6', a7', a8', a9', a10', a11', a12', a13', a14', a15', a16', a17', a18', a19', a20', a21', a22')) ⟨hp2, hq2⟩)) (fun z => ?_))
      exact zc_form (m := false) (c := c) ok hp2 hr hc (zc_form (m := true) (c := c) ok hq2 hr hc (br_t rfl (nm_r (nI_1 r) (hn' ((rc, pc, ds, cd, ga, ls, a1, a2, a3, a4, a5, a6, a7, a8, a9, a10, a11, a12, a13, a14, a15, a16, a17, a18, a19, a20, a21, a22), (rc', pc', ds', cd', ga', ls', a1', a2', a3', a4', a5', a6', a7', a8', a9', a10', a11', a12', a13', a14', a15', a16', a17', a18', a19', a20', a21', a22')) ⟨hp2, hq2⟩))))
end
section
theorem zc_law287 {L : Nat} {xs : Nat → Int32} {kc ks : Nat} {p q : St1} {P : zc_Pic} (ok : zc_Ok P) (hp : zc_Mt false P p.1 p.2.1 p.2.2.2.1 p.2.2.2.2.2.2.1 p.2.2.2.2.2.2.2.1 p.2.2.2.2.2.2.2.2.1 p.2.2.2.2.2.2.2.2.2.1 p.2.2.2.2.2.2.2.2.2.2.1 p.2.2.2.2.2.2.2.2.2.2.2.1 p.2.2.2.2.2.2.2.2.2.2.2.2.1 p.2.2.2.2.2.2.2.2.2.2.2.2.2.1 p.2.2.2.2.2.2.2.2.2.2.2.2.2.2.1 p.2.2.2.2.2.2.2.2.2.2.2.2.2.2.2.1 p.2.2.2.2.2.2.2.2.2.2.2.2.2.2.2.2.1 p.2.2.2.2.2.2.2.2.2.2.2.2.2.2.2.2.2.1 p.2.2.2.2.2.2.2.2.2.2.2.2.2.2.2.2.2.2.1 p.2.2.2.2.2.2.2.2.2.2.2.2.2.2.2.2.2.2.2.1 p.2.2.2.2.2.2.2.2.2.2.2.2.2.2.2.2.2.2.2.2.2.2.1 p.2.2.2.2.2.2.2.2.2.2.2.2.2.2.2.2.2.2.2.2.2.2.2.1 p.2.2.2.2.2.2.2.2.2.2.2.2.2.2.2.2.2.2.2.2.2.2.2.2.1) (hq : zc_Mt true P q.1 q.2.1 q.2.2.2.1 q.2.2.2.2.2.2.1 q.2.2.2.2.2.2.2.1 q.2.2.2.2.2.2.2.2.1 q.2.2.2.2.2.2.2.2.2.1 q.2.2.2.2.2.2.2.2.2.2.1 q.2.2.2.2.2.2.2.2.2.2.2.1 q.2.2.2.2.2.2.2.2.2.2.2.2.1 q.2.2.2.2.2.2.2.2.2.2.2.2.2.1 q.2.2.2.2.2.2.2.2.2.2.2.2.2.2.1 q.2.2.2.2.2.2.2.2.2.2.2.2.2.2.2.1 q.2.2.2.2.2.2.2.2.2.2.2.2.2.2.2.2.1 q.2.2.2.2.2.2.2.2.2.2.2.2.2.2.2.2.2.1 q.2.2.2.2.2.2.2.2.2.2.2.2.2.2.2.2.2.2.1 q.2.2.2.2.2.2.2.2.2.2.2.2.2.2.2.2.2.2.2.1 q.2.2.2.2.2.2.2.2.2.2.2.2.2.2.2.2.2.2.2.2.2.2.1 q.2.2.2.2.2.2.2.2.2.2.2.2.2.2.2.2.2.2.2.2.2.2.2.1 q.2.2.2.2.2.2.2.2.2.2.2.2.2.2.2.2.2.2.2.2.2.2.2.2.1) : wL_law_287 (fun r => r = 1) L xs kc ks p.1 p.2.1 p.2.2.1 p.2.2.2.1 p.2.2.2.2.1 p.2.2.2.2.2.1 p.2.2.2.2.2.2.1 p.2.2.2.2.2.2.2.1 p.2.2.2.2.2.2.2.2.1 p.2.2.2.2.2.2.2.2.2.1 p.2.2.2.2.2.2.2.2.2.2.1 p.2.2.2.2.2.2.2.2.2.2.2.1 p.2.2.2.2.2.2.2.2.2.2.2.2.1 p.2.2.2.2.2.2.2.2.2.2.2.2.2.1 p.2.2.2.2.2.2.2.2.2.2.2.2.2.2.1 p.2.2.2.2.2.2.2.2.2.2.2.2.2.2.2.1 p.2.2.2.2.2.2.2.2.2.2.2.2.2.2.2.2.1 p.2.2.2.2.2.2.2.2.2.2.2.2.2.2.2.2.2.1 p.2.2.2.2.2.2.2.2.2.2.2.2.2.2.2.2.2.2.1 p.2.2.2.2.2.2.2.2.2.2.2.2.2.2.2.2.2.2.2.1 p.2.2.2.2.2.2.2.2.2.2.2.2.2.2.2.2.2.2.2.2.1 p.2.2.2.2.2.2.2.2.2.2.2.2.2.2.2.2.2.2.2.2.2.1 p.2.2.2.2.2.2.2.2.2.2.2.2.2.2.2.2.2.2.2.2.2.2.1 p.2.2.2.2.2.2.2.2.2.2.2.2.2.2.2.2.2.2.2.2.2.2.2.1 p.2.2.2.2.2.2.2.2.2.2.2.2.2.2.2.2.2.2.2.2.2.2.2.2.1 p.2.2.2.2.2.2.2.2.2.2.2.2.2.2.2.2.2.2.2.2.2.2.2.2.2.1 p.2.2.2.2.2.2.2.2.2.2.2.2.2.2.2.2.2.2.2.2.2.2.2.2.2.2.1 p.2.2.2.2.2.2.2.2.2.2.2.2.2.2.2.2.2.2.2.2.2.2.2.2.2.2.2 q.1 q.2.1 q.2.2.1 q.2.2.2.1 q.2.2.2.2.1 q.2.2.2.2.2.1 q.2.2.2.2.2.2.1 q.2.2.2.2.2.2.2.1 q.2.2.2.2.2.2.2.2.1 q.2.2.2.2.2.2.2.2.2.1 q.2.2.2.2.2.2.2.2.2.2.1 q.2.2.2.2.2.2.2.2.2.2.2.1 q.2.2.2.2.2.2.2.2.2.2.2.2.1 q.2.2.2.2.2.2.2.2.2.2.2.2.2.1 q.2.2.2.2.2.2.2.2.2.2.2.2.2.2.1 q.2.2.2.2.2.2.2.2.2.2.2.2.2.2.2.1 q.2.2.2.2.2.2.2.2.2.2.2.2.2.2.2.2.1 q.2.2.2.2.2.2.2.2.2.2.2.2.2.2.2.2.2.1 q.2.2.2.2.2.2.2.2.2.2.2.2.2.2.2.2.2.2.1 q.2.2.2.2.2.2.2.2.2.2.2.2.2.2.2.2.2.2.2.1 q.2.2.2.2.2.2.2.2.2.2.2.2.2.2.2.2.2.2.2.2.1 q.2.2.2.2.2.2.2.2.2.2.2.2.2.2.2.2.2.2.2.2.2.1 q.2.2.2.2.2.2.2.2.2.2.2.2.2.2.2.2.2.2.2.2.2.2.1 q.2.2.2.2.2.2.2.2.2.2.2.2.2.2.2.2.2.2.2.2.2.2.2.1 q.2.2.2.2.2.2.2.2.2.2.2.2.2.2.2.2.2.2.2.2.2.2.2.2.1 q.2.2.2.2.2.2.2.2.2.2.2.2.2.2.2.2.2.2.2.2.2.2.2.2.2.1 q.2.2.2.2.2.2.2.2.2.2.2.2.2.2.2.2.2.2.2.2.2.2.2.2.2.2.1 q.2.2.2.2.2.2.2.2.2.2.2.2.2.2.2.2.2.2.2.2.2.2.2.2.2.2.2 := by
  unfold wL_law_287
  refine zc_match (p := p) (q := q) ok hp hq (fun p1 q1 hp1 hq1 => br_f (by decide) ?_)
  have ok2 := zc_cpt_ok ok _ (zc_kN_le ok)
  have ok3 := zc_fre_ok ok2
  refine zc_compact ok hp1 (fun rc pc ds cd ga ls a1 a2 a3 a4 a5 a6 a7 a8 a9 a10 a11 a12 a13 a14 a15 a16 a17 a18 a19 a20 a21 a22 hp2 => ?_)
  refine zc_compact ok hq1 (fun rc' pc' ds' cd' ga' ls' a1' a2' a3' a4' a5' a6' a7' a8' a9' a10' a11' a12' a13' a14' a15' a16' a17' a18' a19' a20' a21' a22' hq2 => ?_)
  refine zc_free hp2 (fun rc pc ds cd ga ls a1 a2 a3 a4 a5 a6 a7 a8 a9 a10 a11 a12 a13 a14 a15 a16 a17 a18 a19 a20 a21 a22 hp3 => ?_)
  refine zc_free hq2 (fun rc' pc' ds' cd' ga' ls' a1' a2' a3' a4' a5' a6' a7' a8' a9' a10' a11' a12' a13' a14' a15' a16' a17' a18' a19' a20' a21' a22' hq3 => ?_)
  refine br_t rfl (br_t rfl (zc_count ok3 hp3 (fun rc pc ds cd ga ls a1 a2 a3 a4 a5 a6 a7 a8 a9 a10 a11 a12 a13 a14 a15 a16 a17 a18 a19 a20 a21 a22 hp4 => ?_)))
  have hcn : zc_n (zc_fre (zc_cpt P (zc_kN P))) = zc_kN P := zc_cpt_n P _
  have hle := zc_kN_le ok
  refine br_t ?_ ?_
  · rw [zc_ct_n (P := zc_fre (zc_cpt P (zc_kN P))) rfl (fun r hr => zc_cpt_dl P _ r (by rw [hcn] at hr; exact hr)) (by rw [hcn]; exact hle) _ (by rw [hcn]; omega), hcn]
    exact congrArg nI (by omega)
  · exact zc_match (p := (rc, pc, ds, cd, ga, ls, a1, a2, a3, a4, a5, a6, a7, a8, a9, a10, a11, a12, a13, a14, a15, a16, a17, a18, a19, a20, a21, a22)) (q := (rc', pc', ds', cd', ga', ls', a1', a2', a3', a4', a5', a6', a7', a8', a9', a10', a11', a12', a13', a14', a15', a16', a17', a18', a19', a20', a21', a22')) ok3 hp4 hq3 (fun p5 q5 _ _ => br_f (by decide) rfl)
theorem zc_law228 {L : Nat} {xs : Nat → Int32} {kc ks : Nat} {p q : St1} {P : zc_Pic} (hL : L ≤ 260) (ok : zc_Ok P) (hp : zc_Mt false P p.1 p.2.1 p.2.2.2.1 p.2.2.2.2.2.2.1 p.2.2.2.2.2.2.2.1 p.2.2.2.2.2.2.2.2.1 p.2.2.2.2.2.2.2.2.2.1 p.2.2.2.2.2.2.2.2.2.2.1 p.2.2.2.2.2.2.2.2.2.2.2.1 p.2.2.2.2.2.2.2.2.2.2.2.2.1 p.2.2.2.2.2.2.2.2.2.2.2.2.2.1 p.2.2.2.2.2.2.2.2.2.2.2.2.2.2.1 p.2.2.2.2.2.2.2.2.2.2.2.2.2.2.2.1 p.2.2.2.2.2.2.2.2.2.2.2.2.2.2.2.2.1 p.2.2.2.2.2.2.2.2.2.2.2.2.2.2.2.2.2.1 p.2.2.2.2.2.2.2.2.2.2.2.2.2.2.2.2.2.2.1 p.2.2.2.2.2.2.2.2.2.2.2.2.2.2.2.2.2.2.2.1 p.2.2.2.2.2.2.2.2.2.2.2.2.2.2.2.2.2.2.2.2.2.2.1 p.2.2.2.2.2.2.2.2.2.2.2.2.2.2.2.2.2.2.2.2.2.2.2.1 p.2.2.2.2.2.2.2.2.2.2.2.2.2.2.2.2.2.2.2.2.2.2.2.2.1) (hq : zc_Mt true P q.1 q.2.1 q.2.2.2.1 q.2.2.2.2.2.2.1 q.2.2.2.2.2.2.2.1 q.2.2.2.2.2.2.2.2.1 q.2.2.2.2.2.2.2.2.2.1 q.2.2.2.2.2.2.2.2.2.2.1 q.2.2.2.2.2.2.2.2.2.2.2.1 q.2.2.2.2.2.2.2.2.2.2.2.2.1 q.2.2.2.2.2.2.2.2.2.2.2.2.2.1 q.2.2.2.2.2.2.2.2.2.2.2.2.2.2.1 q.2.2.2.2.2.2.2.2.2.2.2.2.2.2.2.1 q.2.2.2.2.2.2.2.2.2.2.2.2.2.2.2.2.1 q.2.2.2.2.2.2.2.2.2.2.2.2.2.2.2.2.2.1 q.2.2.2.2.2.2.2.2.2.2.2.2.2.2.2.2.2.2.1 q.2.2.2.2.2.2.2.2.2.2.2.2.2.2.2.2.2.2.2.1 q.2.2.2.2.2.2.2.2.2.2.2.2.2.2.2.2.2.2.2.2.2.2.1 q.2.2.2.2.2.2.2.2.2.2.2.2.2.2.2.2.2.2.2.2.2.2.2.1 q.2.2.2.2.2.2.2.2.2.2.2.2.2.2.2.2.2.2.2.2.2.2.2.2.1) : ∃ fu, wL_law_228 (fun r => r = 1) L xs kc ks fu 0 p.1 p.2.1 p.2.2.1 p.2.2.2.1 p.2.2.2.2.1 p.2.2.2.2.2.1 p.2.2.2.2.2.2.1 p.2.2.2.2.2.2.2.1 p.2.2.2.2.2.2.2.2.1 p.2.2.2.2.2.2.2.2.2.1 p.2.2.2.2.2.2.2.2.2.2.1 p.2.2.2.2.2.2.2.2.2.2.2.1 p.2.2.2.2.2.2.2.2.2.2.2.2.1 p.2.2.2.2.2.2.2.2.2.2.2.2.2.1 p.2.2.2.2.2.2.2.2.2.2.2.2.2.2.1 p.2.2.2.2.2.2.2.2.2.2.2.2.2.2.2.1 p.2.2.2.2.2.2.2.2.2.2.2.2.2.2.2.2.1 p.2.2.2.2.2.2.2.2.2.2.2.2.2.2.2.2.2.1 p.2.2.2.2.2.2.2.2.2.2.2.2.2.2.2.2.2.2.1 p.2.2.2.2.2.2.2.2.2.2.2.2.2.2.2.2.2.2.2.1 p.2.2.2.2.2.2.2.2.2.2.2.2.2.2.2.2.2.2.2.2.1 p.2.2.2.2.2.2.2.2.2.2.2.2.2.2.2.2.2.2.2.2.2.1 p.2.2.2.2.2.2.2.2.2.2.2.2.2.2.2.2.2.2.2.2.2.2.1 p.2.2.2.2.2.2.2.2.2.2.2.2.2.2.2.2.2.2.2.2.2.2.2.1 p.2.2.2.2.2.2.2.2.2.2.2.2.2.2.2.2.2.2.2.2.2.2.2.2.1 p.2.2.2.2.2.2.2.2.2.2.2.2.2.2.2.2.2.2.2.2.2.2.2.2.2.1 p.2.2.2.2.2.2.2.2.2.2.2.2.2.2.2.2.2.2.2.2.2.2.2.2.2.2.1 p.2.2.2.2.2.2.2.2.2.2.2.2.2.2.2.2.2.2.2.2.2.2.2.2.2.2.2 q.1 q.2.1 q.2.2.1 q.2.2.2.1 q.2.2.2.2.1 q.2.2.2.2.2.1 q.2.2.2.2.2.2.1 q.2.2.2.2.2.2.2.1 q.2.2.2.2.2.2.2.2.1 q.2.2.2.2.2.2.2.2.2.1 q.2.2.2.2.2.2.2.2.2.2.1 q.2.2.2.2.2.2.2.2.2.2.2.1 q.2.2.2.2.2.2.2.2.2.2.2.2.1 q.2.2.2.2.2.2.2.2.2.2.2.2.2.1 q.2.2.2.2.2.2.2.2.2.2.2.2.2.2.1 q.2.2.2.2.2.2.2.2.2.2.2.2.2.2.2.1 q.2.2.2.2.2.2.2.2.2.2.2.2.2.2.2.2.1 q.2.2.2.2.2.2.2.2.2.2.2.2.2.2.2.2.2.1 q.2.2.2.2.2.2.2.2.2.2.2.2.2.2.2.2.2.2.1 q.2.2.2.2.2.2.2.2.2.2.2.2.2.2.2.2.2.2.2.1 q.2.2.2.2.2.2.2.2.2.2.2.2.2.2.2.2.2.2.2.2.1 q.2.2.2.2.2.2.2.2.2.2.2.2.2.2.2.2.2.2.2.2.2.1 q.2.2.2.2.2.2.2.2.2.2.2.2.2.2.2.2.2.2.2.2.2.2.1 q.2.2.2.2.2.2.2.2.2.2.2.2.2.2.2.2.2.2.2.2.2.2.2.1 q.2.2.2.2.2.2.2.2.2.2.2.2.2.2.2.2.2.2.2.2.2.2.2.2.1 q.2.2.2.2.2.2.2.2.2.2.2.2.2.2.2.2.2.2.2.2.2.2.2.2.2.1 q.2.2.2.2.2.2.2.2.2.2.2.2.2.2.2.2.2.2.2.2.2.2.2.2.2.2.1 q.2.2.2.2.2.2.2.2.2.2.2.2.2.2.2.2.2.2.2.2.2.2.2.2.2.2.2 := by
  refine pk_loop (fun n j (s : St1 × St1) => wL_law_228 (fun r => r = 1) L xs kc ks n (nI (2 * j)) s.1.1 s.1.2.1 s.1.2.2.1 s.1.2.2.2.1 s.1.2.2.2.2.1 s.1.2.2.2.2.2.1 s.1.2.2.2.2.2.2.1 s.1.2.2.2.2.2.2.2.1 s.1.2.2.2.2.2.2.2.2.1 s.1.2.2.2.2.2.2.2.2.2.1 s.1.2.2.2.2.2.2.2.2.2.2.1 s.1.2.2.2.2.2.2.2.2.2.2.2.1 s.1.2.2.2.2.2.2.2.2.2.2.2.2.1 s.1.2.2.2.2.2.2.2.2.2.2.2.2.2.1 s.1.2.2.2.2.2.2.2.2.2.2.2.2.2.2.1 s.1.2.2.2.2.2.2.2.2.2.2.2.2.2.2.2.1 s.1.2.2.2.2.2.2.2.2.2.2.2.2.2.2.2.2.1 s.1.2.2.2.2.2.2.2.2.2.2.2.2.2.2.2.2.2.1 s.1.2.2.2.2.2.2.2.2.2.2.2.2.2.2.2.2.2.2.1 s.1.2.2.2.2.2.2.2.2.2.2.2.2.2.2.2.2.2.2.2.1 s.1.2.2.2.2.2.2.2.2.2.2.2.2.2.2.2.2.2.2.2.2.1 s.1.2.2.2.2.2.2.2.2.2.2.2.2.2.2.2.2.2.2.2.2.2.1 s.1.2.2.2.2.2.2.2.2.2.2.2.2.2.2.2.2.2.2.2.2.2.2.1 s.1.2.2.2.2.2.2.2.2.2.2.2.2.2.2.2.2.2.2.2.2.2.2.2.1 s.1.2.2.2.2.2.2.2.2.2.2.2.2.2.2.2.2.2.2.2.2.2.2.2.2.1 s.1.2.2.2.2.2.2.2.2.2.2.2.2.2.2.2.2.2.2.2.2.2.2.2.2.2.1 s.1.2.2.2.2.2.2.2.2.2.2.2.2.2.2.2.2.2.2.2.2.2.2.2.2.2.2.1 s.1.2.2.2.2.2.2.2.2.2.2.2.2.2.2.2.2.2.2.2.2.2.2.2.2.2.2.2 s.2.1 s.2.2.1 s.2.2.2.1 s.2.2.2.2.1 s.2.2.2.2.2.1 s.2.2.2.2.2.2.1 s.2.2.2.2.2.2.2.1 s.2.2.2.2.2.2.2.2.1 s.2.2.2.2.2.2.2.2.2.1 s.2.2.2.2.2.2.2.2.2.2.1 s.2.2.2.2.2.2.2.2.2.2.2.1 s.2.2.2.2.2.2.2.2.2.2.2.2.1 s.2.2.2.2.2.2.2.2.2.2.2.2.2.1 s.2.2.2.2.2.2.2.2.2.2.2.2.2.2.1 s.2.2.2.2.2.2.2.2.2.2.2.2.2.2.2.1 s.2.2.2.2.2.2.2.2.2.2.2.2.2.2.2.2.1 s.2.2.2.2.2.2.2.2.2.2.2.2.2.2.2.2.2.1 s.2.2.2.2.2.2.2.2.2.2.2.2.2.2.2.2.2.2.1 s.2.2.2.2.2.2.2.2.2.2.2.2.2.2.2.2.2.2.2.1 s.2.2.2.2.2.2.2.2.2.2.2.2.2.2.2.2.2.2.2.2.1 s.2.2.2.2.2.2.2.2.2.2.2.2.2.2.2.2.2.2.2.2.2.1 s.2.2.2.2.2.2.2.2.2.2.2.2.2.2.2.2.2.2.2.2.2.2.1 s.2.2.2.2.2.2.2.2.2.2.2.2.2.2.2.2.2.2.2.2.2.2.2.1 s.2.2.2.2.2.2.2.2.2.2.2.2.2.2.2.2.2.2.2.2.2.2.2.2.1 s.2.2.2.2.2.2.2.2.2.2.2.2.2.2.2.2.2.2.2.2.2.2.2.2.2.1 s.2.2.2.2.2.2.2.2.2.2.2.2.2.2.2.2.2.2.2.2.2.2.2.2.2.2.1 s.2.2.2.2.2.2.2.2.2.2.2.2.2.2.2.2.2.2.2.2.2.2.2.2.2.2.2.1 s.2.2.2.2.2.2.2.2.2.2.2.2.2.2.2.2.2.2.2.2.2.2.2.2.2.2.2.2) (fun _ s => ∃ P, zc_Ok P ∧ zc_Mt false P s.1.1 s.1.2.1 s.1.2.2.2.1 s.1.2.2.2.2.2.2.1 s.1.2.2.2.2.2.2.2.1 s.1.2.2.2.2.2.2.2.2.1 s.1.2.2.2.2.2.2.2.2.2.1 s.1.2.2.2.2.2.2.2.2.2.2.1 s.1.2.2.2.2.2.2.2.2.2.2.2.1 s.1.2.2.2.2.2.2.2.2.2.2.2.2.1 s.1.2.2.2.2.2.2.2.2.2.2.2.2.2.1 s.1.2.2.2.2.2.2.2.2.2.2.2.2.2.2.1 s.1.2.2.2.2.2.2.2.2.2.2.2.2.2.2.2.1 s.1.2.2.2.2.2.2.2.2.2.2.2.2.2.2.2.2.1 s.1.2.2.2.2.2.2.2.2.2.2.2.2.2.2.2.2.2.1 s.1.2.2.2.2.2.2.2.2.2.2.2.2.2.2.2.2.2.2.1 s.1.2.2.2.2.2.2.2.2.2.2.2.2.2.2.2.2.2.2.2.1 s.1.2.2.2.2.2.2.2.2.2.2.2.2.2.2.2.2.2.2.2.2.2.2.1 s.1.2.2.2.2.2.2.2.2.2.2.2.2.2.2.2.2.2.2.2.2.2.2.2.1 s.1.2.2.2.2.2.2.2.2.2.2.2.2.2.2.2.2.2.2.2.2.2.2.2.2.1 ∧ zc_Mt true P s.2.1 s.2.2.1 s.2.2.2.2.1 s.2.2.2.2.2.2.2.1 s.2.2.2.2.2.2.2.2.1 s.2.2.2.2.2.2.2.2.2.1 s.2.2.2.2.2.2.2.2.2.2.1 s.2.2.2.2.2.2.2.2.2.2.2.1 s.2.2.2.2.2.2.2.2.2.2.2.2.1 s.2.2.2.2.2.2.2.2.2.2.2.2.2.1 s.2.2.2.2.2.2.2.2.2.2.2.2.2.2.1 s.2.2.2.2.2.2.2.2.2.2.2.2.2.2.2.1 s.2.2.2.2.2.2.2.2.2.2.2.2.2.2.2.2.1 s.2.2.2.2.2.2.2.2.2.2.2.2.2.2.2.2.2.1 s.2.2.2.2.2.2.2.2.2.2.2.2.2.2.2.2.2.2.1 s.2.2.2.2.2.2.2.2.2.2.2.2.2.2.2.2.2.2.2.1 s.2.2.2.2.2.2.2.2.2.2.2.2.2.2.2.2.2.2.2.2.1 s.2.2.2.2.2.2.2.2.2.2.2.2.2.2.2.2.2.2.2.2.2.2.2.1 s.2.2.2.2.2.2.2.2.2.2.2.2.2.2.2.2.2.2.2.2.2.2.2.2.1 s.2.2.2.2.2.2.2.2.2.2.2.2.2.2.2.2.2.2.2.2.2.2.2.2.2.1) 20 0 (p, q) (by omega) ⟨P, ok, hp, hq⟩ ?_ ?_
  · intro n s ⟨P, ok, hp, hq⟩
    exact pk_le L 41 (fun _ => zc_law287 ok hp hq) (fun _ => pk_le 40 40 (fun _ => zc_law287 ok hp hq) (fun z => absurd z (by omega))) rfl (nI_1 40)
  · intro n j s hj ⟨P, ok, hp, hq⟩ hn
    refine pk_le L (2 * j + 1) (fun _ => zc_law287 ok hp hq) (fun z => pk_le 40 (2 * j) (fun z => absurd z (by omega)) (fun _ => ?_)) rfl (nI_1 _)
    have v0 : vp_in (nI (2 * j)) L := pk_in _ L (by omega) rfl
    have v1 : vp_in (nI (2 * j) + 1) L := pk_in _ L (by omega) (nI_1 _)
    refine ⟨v0, v1, ?_⟩
    generalize xs (nI (2 * j)).toNatClampNeg = w
    generalize xs (nI (2 * j) + 1).toNatClampNeg = x
    obtain ⟨R, P', ok', hA⟩ := zc_say w x ok
    refine hA false _ _ _ _ _ _ _ _ _ _ _ _ _ _ _ _ _ _ _ _ _ _ _ _ _ _ _ _ _ hp (fun rc pc ds cd ga ls a1 a2 a3 a4 a5 a6 a7 a8 a9 a10 a11 a12 a13 a14 a15 a16 a17 a18 a19 a20 a21 a22 hp1 => ?_)
    refine ⟨v0, v1, hA true _ _ _ _ _ _ _ _ _ _ _ _ _ _ _ _ _ _ _ _ _ _ _ _ _ _ _ _ _ hq (fun rc' pc' ds' cd' ga' ls' a1' a2' a3' a4' a5' a6' a7' a8' a9' a10' a11' a12' a13' a14' a15' a16' a17' a18' a19' a20' a21' a22' hq1 => ?_)⟩
    exact br_t rfl (nm_r (nI_add _ 2) (hn ((rc, pc, ds, cd, ga, ls, a1, a2, a3, a4, a5, a6, a7, a8, a9, a10, a11, a12, a13, a14, a15, a16, a17, a18, a19, a20, a21, a22), (rc', pc', ds', cd', ga', ls', a1', a2', a3', a4', a5', a6', a7', a8', a9', a10', a11', a12', a13', a14', a15', a16', a17', a18', a19', a20', a21', a22')) ⟨P', ok', hp1, hq1⟩))
theorem zc_law216 {L : Nat} {xs : Nat → Int32} {kc ks : Nat} {p q : St1} {P : zc_Pic} (hL : L ≤ 260) (ok : zc_Ok P) (hp : zc_Mt false P p.1 p.2.1 p.2.2.2.1 p.2.2.2.2.2.2.1 p.2.2.2.2.2.2.2.1 p.2.2.2.2.2.2.2.2.1 p.2.2.2.2.2.2.2.2.2.1 p.2.2.2.2.2.2.2.2.2.2.1 p.2.2.2.2.2.2.2.2.2.2.2.1 p.2.2.2.2.2.2.2.2.2.2.2.2.1 p.2.2.2.2.2.2.2.2.2.2.2.2.2.1 p.2.2.2.2.2.2.2.2.2.2.2.2.2.2.1 p.2.2.2.2.2.2.2.2.2.2.2.2.2.2.2.1 p.2.2.2.2.2.2.2.2.2.2.2.2.2.2.2.2.1 p.2.2.2.2.2.2.2.2.2.2.2.2.2.2.2.2.2.1 p.2.2.2.2.2.2.2.2.2.2.2.2.2.2.2.2.2.2.1 p.2.2.2.2.2.2.2.2.2.2.2.2.2.2.2.2.2.2.2.1 p.2.2.2.2.2.2.2.2.2.2.2.2.2.2.2.2.2.2.2.2.2.2.1 p.2.2.2.2.2.2.2.2.2.2.2.2.2.2.2.2.2.2.2.2.2.2.2.1 p.2.2.2.2.2.2.2.2.2.2.2.2.2.2.2.2.2.2.2.2.2.2.2.2.1) (hq : zc_Mt true P q.1 q.2.1 q.2.2.2.1 q.2.2.2.2.2.2.1 q.2.2.2.2.2.2.2.1 q.2.2.2.2.2.2.2.2.1 q.2.2.2.2.2.2.2.2.2.1 q.2.2.2.2.2.2.2.2.2.2.1 q.2.2.2.2.2.2.2.2.2.2.2.1 q.2.2.2.2.2.2.2.2.2.2.2.2.1 q.2.2.2.2.2.2.2.2.2.2.2.2.2.1 q.2.2.2.2.2.2.2.2.2.2.2.2.2.2.1 q.2.2.2.2.2.2.2.2.2.2.2.2.2.2.2.1 q.2.2.2.2.2.2.2.2.2.2.2.2.2.2.2.2.1 q.2.2.2.2.2.2.2.2.2.2.2.2.2.2.2.2.2.1 q.2.2.2.2.2.2.2.2.2.2.2.2.2.2.2.2.2.2.1 q.2.2.2.2.2.2.2.2.2.2.2.2.2.2.2.2.2.2.2.1 q.2.2.2.2.2.2.2.2.2.2.2.2.2.2.2.2.2.2.2.2.2.2.1 q.2.2.2.2.2.2.2.2.2.2.2.2.2.2.2.2.2.2.2.2.2.2.2.1 q.2.2.2.2.2.2.2.2.2.2.2.2.2.2.2.2.2.2.2.2.2.2.2.2.1) : wL_law_216 (fun r => r = 1) L xs kc ks p.1 p.2.1 p.2.2.1 p.2.2.2.1 p.2.2.2.2.1 p.2.2.2.2.2.1 p.2.2.2.2.2.2.1 p.2.2.2.2.2.2.2.1 p.2.2.2.2.2.2.2.2.1 p.2.2.2.2.2.2.2.2.2.1 p.2.2.2.2.2.2.2.2.2.2.1 p.2.2.2.2.2.2.2.2.2.2.2.1 p.2.2.2.2.2.2.2.2.2.2.2.2.1 p.2.2.2.2.2.2.2.2.2.2.2.2.2.1 p.2.2.2.2.2.2.2.2.2.2.2.2.2.2.1 p.2.2.2.2.2.2.2.2.2.2.2.2.2.2.2.1 p.2.2.2.2.2.2.2.2.2.2.2.2.2.2.2.2.1 p.2.2.2.2.2.2.2.2.2.2.2.2.2.2.2.2.2.1 p.2.2.2.2.2.2.2.2.2.2.2.2.2.2.2.2.2.2.1 p.2.2.2.2.2.2.2.2.2.2.2.2.2.2.2.2.2.2.2.1 p.2.2.2.2.2.2.2.2.2.2.2.2.2.2.2.2.2.2.2.2.1 p.2.2.2.2.2.2.2.2.2.2.2.2.2.2.2.2.2.2.2.2.2.1 p.2.2.2.2.2.2.2.2.2.2.2.2.2.2.2.2.2.2.2.2.2.2.1 p.2.2.2.2.2.2.2.2.2.2.2.2.2.2.2.2.2.2.2.2.2.2.2.1 p.2.2.2.2.2.2.2.2.2.2.2.2.2.2.2.2.2.2.2.2.2.2.2.2.1 p.2.2.2.2.2.2.2.2.2.2.2.2.2.2.2.2.2.2.2.2.2.2.2.2.2.1 p.2.2.2.2.2.2.2.2.2.2.2.2.2.2.2.2.2.2.2.2.2.2.2.2.2.2.1 p.2.2.2.2.2.2.2.2.2.2.2.2.2.2.2.2.2.2.2.2.2.2.2.2.2.2.2 q.1 q.2.1 q.2.2.1 q.2.2.2.1 q.2.2.2.2.1 q.2.2.2.2.2.1 q.2.2.2.2.2.2.1 q.2.2.2.2.2.2.2.1 q.2.2.2.2.2.2.2.2.1 q.2.2.2.2.2.2.2.2.2.1 q.2.2.2.2.2.2.2.2.2.2.1 q.2.2.2.2.2.2.2.2.2.2.2.1 q.2.2.2.2.2.2.2.2.2.2.2.2.1 q.2.2.2.2.2.2.2.2.2.2.2.2.2.1 q.2.2.2.2.2.2.2.2.2.2.2.2.2.2.1 q.2.2.2.2.2.2.2.2.2.2.2.2.2.2.2.1 q.2.2.2.2.2.2.2.2.2.2.2.2.2.2.2.2.1 q.2.2.2.2.2.2.2.2.2.2.2.2.2.2.2.2.2.1 q.2.2.2.2.2.2.2.2.2.2.2.2.2.2.2.2.2.2.1 q.2.2.2.2.2.2.2.2.2.2.2.2.2.2.2.2.2.2.2.1 q.2.2.2.2.2.2.2.2.2.2.2.2.2.2.2.2.2.2.2.2.1 q.2.2.2.2.2.2.2.2.2.2.2.2.2.2.2.2.2.2.2.2.2.1 q.2.2.2.2.2.2.2.2.2.2.2.2.2.2.2.2.2.2.2.2.2.2.1 q.2.2.2.2.2.2.2.2.2.2.2.2.2.2.2.2.2.2.2.2.2.2.2.1 q.2.2.2.2.2.2.2.2.2.2.2.2.2.2.2.2.2.2.2.2.2.2.2.2.1 q.2.2.2.2.2.2.2.2.2.2.2.2.2.2.2.2.2.2.2.2.2.2.2.2.2.1 q.2.2.2.2.2.2.2.2.2.2.2.2.2.2.2.2.2.2.2.2.2.2.2.2.2.2.1 q.2.2.2.2.2.2.2.2.2.2.2.2.2.2.2.2.2.2.2.2.2.2.2.2.2.2.2 := by
  unfold wL_law_216
  exact zc_match (p := p) (q := q) ok hp hq (fun p1 q1 hp1 hq1 => br_f (by decide) (zc_law228 hL ok hp1 hq1))
theorem zc_col3 {y : Int32} (h0 : ¬ y < 0) (h2 : ¬ 2 < y) : ∃ c, c < 3 ∧ y = nI c := by
  rcases pk_ix y (n := 3) (by omega) with a | a | a
  · exact absurd a h0
  · refine absurd (Int32.lt_iff_toInt_lt.mpr ?_) h2
    rw [Int32.le_iff_toInt_le] at a
    have e3 : (nI 3).toInt = 3 := by decide
    have e2 : (2 : Int32).toInt = 2 := by decide
    omega
  · exact a
theorem zc_bad3 {y : Int32} (h : y < 0 ∨ 2 < y) : y < 0 ∨ ¬ y < 3 := by
  rcases h with h | h
  · exact Or.inl h
  · refine Or.inr (fun w => ?_)
    rw [Int32.lt_iff_toInt_lt] at w h
    have e3 : (3 : Int32).toInt = 3 := by decide
    have e2 : (2 : Int32).toInt = 2 := by decide
    omega
/-- behind a turn of both: the loop goes on -/
def zc_Nx (J : Int32 → Int32 → Int32 → Int32 → Int32 → Int32 → Int64 → (Nat → Int32) → (Nat → Int32) → (Nat → Int32) → (Nat → Int32) → (Nat → Int32) → (Nat → Int32) → (Nat → Int32) → (Nat → Int32) → (Nat → Int32) → (Nat → Int32) → (Nat → Int32) → (Nat → Int32) → (Nat → Int32) → (Nat → Int32) → (Nat → Int32) → (Nat → Int32) → (Nat → Int32) → (Nat → Int32) → (Nat → Int32) → (Nat → Int32) → (Nat → Int32) → (Nat → Int32) → Int32 → Int32 → Int32 → Int32 → Int32 → Int64 → (Nat → Int32) → (Nat → Int32) → (Nat → Int32) → (Nat → Int32) → (Nat → Int32) → (Nat → Int32) → (Nat → Int32) → (Nat → Int32) → (Nat → Int32) → (Nat → Int32) → (Nat → Int32) → (Nat → Int32) → (Nat → Int32) → (Nat → Int32) → (Nat → Int32) → (Nat → Int32) → (Nat → Int32) → (Nat → Int32) → (Nat → Int32) → (Nat → Int32) → (Nat → Int32) → (Nat → Int32) → Prop) (j : Nat) : Prop := ∀ (rc pc ds cd ga : Int32) (ls : Int64) (a1 a2 a3 a4 a5 a6 a7 a8 a9 a10 a11 a12 a13 a14 a15 a16 a17 a18 a19 a20 a21 a22 : Nat → Int32) (rc' pc' ds' cd' ga' : Int32) (ls' : Int64) (a1' a2' a3' a4' a5' a6' a7' a8' a9' a10' a11' a12' a13' a14' a15' a16' a17' a18' a19' a20' a21' a22' : Nat → Int32), (∃ P, zc_Ok P ∧ zc_Mt false P rc pc cd a1 a2 a3 a4 a5 a6 a7 a8 a9 a10 a11 a12 a13 a14 a17 a18 a19 ∧ zc_Mt true P rc' pc' cd' a1' a2' a3' a4' a5' a6' a7' a8' a9' a10' a11' a12' a13' a14' a17' a18' a19') → J (nI (4 * (j + 1))) rc pc ds cd ga ls a1 a2 a3 a4 a5 a6 a7 a8 a9 a10 a11 a12 a13 a14 a15 a16 a17 a18 a19 a20 a21 a22 rc' pc' ds' cd' ga' ls' a1' a2' a3' a4' a5' a6' a7' a8' a9' a10' a11' a12' a13' a14' a15' a16' a17' a18' a19' a20' a21' a22'
/-- the turn with p's arguments x y z and q's arguments u v w -/
def zc_Tn (P : zc_Pic) (o : Nat) (x y z u v w : Int32) : Prop := zc_Act P (fun m post s => wpL_turn post s (nI o) (if m then u else x) (if m then v else y) (if m then w else z))
theorem zc_t171 {L : Nat} {xs : Nat → Int32} {J : Int32 → Int32 → Int32 → Int32 → Int32 → Int32 → Int64 → (Nat → Int32) → (Nat → Int32) → (Nat → Int32) → (Nat → Int32) → (Nat → Int32) → (Nat → Int32) → (Nat → Int32) → (Nat → Int32) → (Nat → Int32) → (Nat → Int32) → (Nat → Int32) → (Nat → Int32) → (Nat → Int32) → (Nat → Int32) → (Nat → Int32) → (Nat → Int32) → (Nat → Int32) → (Nat → Int32) → (Nat → Int32) → (Nat → Int32) → (Nat → Int32) → (Nat → Int32) → Int32 → Int32 → Int32 → Int32 → Int32 → Int64 → (Nat → Int32) → (Nat → Int32) → (Nat → Int32) → (Nat → Int32) → (Nat → Int32) → (Nat → Int32) → (Nat → Int32) → (Nat → Int32) → (Nat → Int32) → (Nat → Int32) → (Nat → Int32) → (Nat → Int32) → (Nat → Int32) → (Nat → Int32) → (Nat → Int32) → (Nat → Int32) → (Nat → Int32) → (Nat → Int32) → (Nat → Int32) → (Nat → Int32) → (Nat → Int32) → (Nat → Int32) → Prop} {kc ks j o : Nat} {x y z : Int32} {rc pc ds cd ga : Int32} {ls : Int64} {a1 a2 a3 a4 a5 a6 a7 a8 a9 a10 a11 a12 a13 a14 a15 a16 a17 a18 a19 a20 a21 a22 : Nat → Int32} {rc' pc' ds' cd' ga' : Int32} {ls' : Int64} {a1' a2' a3' a4' a5' a6' a7' a8' a9' a10' a11' a12' a13' a14' a15' a16' a17' a18' a19' a20' a21' a22' : Nat → Int32} {P : zc_Pic} {u v w : Int32} (hp : zc_Mt false P rc pc cd a1 a2 a3 a4 a5 a6 a7 a8 a9 a10 a11 a12 a13 a14 a17 a18 a19) (hq : zc_Mt true P rc' pc' cd' a1' a2' a3' a4' a5' a6' a7' a8' a9' a10' a11' a12' a13' a14' a17' a18' a19') (hn : zc_Nx J j) (hA : zc_Tn P o x y z u v w) : wL_law_171 (fun r => r = 1) L xs J (nI (4 * j)) (nI o) x y z u v w kc ks rc pc ds cd ga ls a1 a2 a3 a4 a5 a6 a7 a8 a9 a10 a11 a12 a13 a14 a15 a16 a17 a18 a19 a20 a21 a22 rc' pc' ds' cd' ga' ls' a1' a2' a3' a4' a5' a6' a7' a8' a9' a10' a11' a12' a13' a14' a15' a16' a17' a18' a19' a20' a21' a22' := by
  obtain ⟨R, P', ok', hA⟩ := hA
  unfold wL_law_171
  refine hA false _ _ _ _ _ _ _ _ _ _ _ _ _ _ _ _ _ _ _ _ _ _ _ _ _ _ _ _ _ hp (fun rc pc ds cd ga ls a1 a2 a3 a4 a5 a6 a7 a8 a9 a10 a11 a12 a13 a14 a15 a16 a17 a18 a19 a20 a21 a22 hp1 => ?_)
  refine hA true _ _ _ _ _ _ _ _ _ _ _ _ _ _ _ _ _ _ _ _ _ _ _ _ _ _ _ _ _ hq (fun rc' pc' ds' cd' ga' ls' a1' a2' a3' a4' a5' a6' a7' a8' a9' a10' a11' a12' a13' a14' a15' a16' a17' a18' a19' a20' a21' a22' hq1 => ?_)
  exact br_t rfl (nm_r (nI_add _ 4) (hn _ _ _ _ _ _ _ _ _ _ _ _ _ _ _ _ _ _ _ _ _ _ _ _ _ _ _ _ _ _ _ _ _ _ _ _ _ _ _ _ _ _ _ _ _ _ _ _ _ _ _ _ _ _ _ _ ⟨P', ok', hp1, hq1⟩))
theorem zc_t155 {L : Nat} {xs : Nat → Int32} {J : Int32 → Int32 → Int32 → Int32 → Int32 → Int32 → Int64 → (Nat → Int32) → (Nat → Int32) → (Nat → Int32) → (Nat → Int32) → (Nat → Int32) → (Nat → Int32) → (Nat → Int32) → (Nat → Int32) → (Nat → Int32) → (Nat → Int32) → (Nat → Int32) → (Nat → Int32) → (Nat → Int32) → (Nat → Int32) → (Nat → Int32) → (Nat → Int32) → (Nat → Int32) → (Nat → Int32) → (Nat → Int32) → (Nat → Int32) → (Nat → Int32) → (Nat → Int32) → Int32 → Int32 → Int32 → Int32 → Int32 → Int64 → (Nat → Int32) → (Nat → Int32) → (Nat → Int32) → (Nat → Int32) → (Nat → Int32) → (Nat → Int32) → (Nat → Int32) → (Nat → Int32) → (Nat → Int32) → (Nat → Int32) → (Nat → Int32) → (Nat → Int32) → (Nat → Int32) → (Nat → Int32) → (Nat → Int32) → (Nat → Int32) → (Nat → Int32) → (Nat → Int32) → (Nat → Int32) → (Nat → Int32) → (Nat → Int32) → (Nat → Int32) → Prop} {kc ks j o : Nat} {x y z : Int32} {rc pc ds cd ga : Int32} {ls : Int64} {a1 a2 a3 a4 a5 a6 a7 a8 a9 a10 a11 a12 a13 a14 a15 a16 a17 a18 a19 a20 a21 a22 : Nat → Int32} {rc' pc' ds' cd' ga' : Int32} {ls' : Int64} {a1' a2' a3' a4' a5' a6' a7' a8' a9' a10' a11' a12' a13' a14' a15' a16' a17' a18' a19' a20' a21' a22' : Nat → Int32} {P : zc_Pic} {u v : Int32} (ho : o < 32) (hp : zc_Mt false P rc pc cd a1 a2 a3 a4 a5 a6 a7 a8 a9 a10 a11 a12 a13 a14 a17 a18 a19) (hq : zc_Mt true P rc' pc' cd' a1' a2' a3' a4' a5' a6' a7' a8' a9' a10' a11' a12' a13' a14' a17' a18' a19') (hn : zc_Nx J j) (h1 : 16 ≤ o → zc_Tn P o x y z u v z) (h2 : o < 16 → zc_Tn P o x y z u v x) : wL_law_155 (fun r => r = 1) L xs J (nI (4 * j)) (nI o) x y z u v kc ks rc pc ds cd ga ls a1 a2 a3 a4 a5 a6 a7 a8 a9 a10 a11 a12 a13 a14 a15 a16 a17 a18 a19 a20 a21 a22 rc' pc' ds' cd' ga' ls' a1' a2' a3' a4' a5' a6' a7' a8' a9' a10' a11' a12' a13' a14' a15' a16' a17' a18' a19' a20' a21' a22' :=
  pk_le 16 o (fun g => zc_t171 hp hq hn (h1 g)) (fun g => zc_t171 hp hq hn (h2 g))
theorem zc_t153 {L : Nat} {xs : Nat → Int32} {J : Int32 → Int32 → Int32 → Int32 → Int32 → Int32 → Int64 → (Nat → Int32) → (Nat → Int32) → (Nat → Int32) → (Nat → Int32) → (Nat → Int32) → (Nat → Int32) → (Nat → Int32) → (Nat → Int32) → (Nat → Int32) → (Nat → Int32) → (Nat → Int32) → (Nat → Int32) → (Nat → Int32) → (Nat → Int32) → (Nat → Int32) → (Nat → Int32) → (Nat → Int32) → (Nat → Int32) → (Nat → Int32) → (Nat → Int32) → (Nat → Int32) → (Nat → Int32) → Int32 → Int32 → Int32 → Int32 → Int32 → Int64 → (Nat → Int32) → (Nat → Int32) → (Nat → Int32) → (Nat → Int32) → (Nat → Int32) → (Nat → Int32) → (Nat → Int32) → (Nat → Int32) → (Nat → Int32) → (Nat → Int32) → (Nat → Int32) → (Nat → Int32) → (Nat → Int32) → (Nat → Int32) → (Nat → Int32) → (Nat → Int32) → (Nat → Int32) → (Nat → Int32) → (Nat → Int32) → (Nat → Int32) → (Nat → Int32) → (Nat → Int32) → Prop} {kc ks j o : Nat} {x y z : Int32} {rc pc ds cd ga : Int32} {ls : Int64} {a1 a2 a3 a4 a5 a6 a7 a8 a9 a10 a11 a12 a13 a14 a15 a16 a17 a18 a19 a20 a21 a22 : Nat → Int32} {rc' pc' ds' cd' ga' : Int32} {ls' : Int64} {a1' a2' a3' a4' a5' a6' a7' a8' a9' a10' a11' a12' a13' a14' a15' a16' a17' a18' a19' a20' a21' a22' : Nat → Int32} {u : Int32} (h : wL_law_155 (fun r => r = 1) L xs J (nI (4 * j)) (nI o) x y z u y kc ks rc pc ds cd ga ls a1 a2 a3 a4 a5 a6 a7 a8 a9 a10 a11 a12 a13 a14 a15 a16 a17 a18 a19 a20 a21 a22 rc' pc' ds' cd' ga' ls' a1' a2' a3' a4' a5' a6' a7' a8' a9' a10' a11' a12' a13' a14' a15' a16' a17' a18' a19' a20' a21' a22') : wL_law_153 (fun r => r = 1) L xs J (nI (4 * j)) (nI o) x y z u kc ks rc pc ds cd ga ls a1 a2 a3 a4 a5 a6 a7 a8 a9 a10 a11 a12 a13 a14 a15 a16 a17 a18 a19 a20 a21 a22 rc' pc' ds' cd' ga' ls' a1' a2' a3' a4' a5' a6' a7' a8' a9' a10' a11' a12' a13' a14' a15' a16' a17' a18' a19' a20' a21' a22' := by
  unfold wL_law_153
  exact h
theorem zc_t119 {L : Nat} {xs : Nat → Int32} {J : Int32 → Int32 → Int32 → Int32 → Int32 → Int32 → Int64 → (Nat → Int32) → (Nat → Int32) → (Nat → Int32) → (Nat → Int32) → (Nat → Int32) → (Nat → Int32) → (Nat → Int32) → (Nat → Int32) → (Nat → Int32) → (Nat → Int32) → (Nat → Int32) → (Nat → Int32) → (Nat → Int32) → (Nat → Int32) → (Nat → Int32) → (Nat → Int32) → (Nat → Int32) → (Nat → Int32) → (Nat → Int32) → (Nat → Int32) → (Nat → Int32) → (Nat → Int32) → Int32 → Int32 → Int32 → Int32 → Int32 → Int64 → (Nat → Int32) → (Nat → Int32) → (Nat → Int32) → (Nat → Int32) → (Nat → Int32) → (Nat → Int32) → (Nat → Int32) → (Nat → Int32) → (Nat → Int32) → (Nat → Int32) → (Nat → Int32) → (Nat → Int32) → (Nat → Int32) → (Nat → Int32) → (Nat → Int32) → (Nat → Int32) → (Nat → Int32) → (Nat → Int32) → (Nat → Int32) → (Nat → Int32) → (Nat → Int32) → (Nat → Int32) → Prop} {kc ks j o : Nat} {x y z : Int32} {rc pc ds cd ga : Int32} {ls : Int64} {a1 a2 a3 a4 a5 a6 a7 a8 a9 a10 a11 a12 a13 a14 a15 a16 a17 a18 a19 a20 a21 a22 : Nat → Int32} {rc' pc' ds' cd' ga' : Int32} {ls' : Int64} {a1' a2' a3' a4' a5' a6' a7' a8' a9' a10' a11' a12' a13' a14' a15' a16' a17' a18' a19' a20' a21' a22' : Nat → Int32} {P : zc_Pic} {u : Int32} (ho : o < 32) (hp : zc_Mt false P rc pc cd a1 a2 a3 a4 a5 a6 a7 a8 a9 a10 a11 a12 a13 a14 a17 a18 a19) (hq : zc_Mt true P rc' pc' cd' a1' a2' a3' a4' a5' a6' a7' a8' a9' a10' a11' a12' a13' a14' a17' a18' a19') (hn : zc_Nx J j) (h1 : o < 16 → zc_Tn P o x y z u y x) (h2 : 16 ≤ o → o < 22 → (y < 0 ∨ 2 < y) → zc_Tn P o x y z u y z) (h3 : 16 ≤ o → o < 22 → ¬ y < 0 → ¬ 2 < y → zc_Tn P o x y z u (2 - y) z) (h4 : 22 ≤ o → zc_Tn P o x y z u y z) : wL_law_119 (fun r => r = 1) L xs J (nI (4 * j)) (nI o) x y z u kc ks rc pc ds cd ga ls a1 a2 a3 a4 a5 a6 a7 a8 a9 a10 a11 a12 a13 a14 a15 a16 a17 a18 a19 a20 a21 a22 rc' pc' ds' cd' ga' ls' a1' a2' a3' a4' a5' a6' a7' a8' a9' a10' a11' a12' a13' a14' a15' a16' a17' a18' a19' a20' a21' a22' := by
  refine pk_le o 15 (fun g => zc_t153 (zc_t155 ho hp hq hn (fun w => absurd w (by omega)) (fun _ => h1 (by omega)))) (fun g => pk_le 22 o (fun g2 => zc_t153 (zc_t155 ho hp hq hn (fun _ => h4 g2) (fun w => absurd w (by omega)))) (fun g2 => ⟨fun g3 => zc_t153 (zc_t155 ho hp hq hn (fun w => h2 w g2 (Or.inl g3)) (fun w => absurd w (by omega))), fun g3 => ⟨fun g4 => zc_t153 (zc_t155 ho hp hq hn (fun w => h2 w g2 (Or.inr g4)) (fun w => absurd w (by omega))), fun g4 => zc_t155 ho hp hq hn (fun w => h3 w g2 g3 g4) (fun w => absurd w (by omega))⟩⟩))
/-! the turns, one by one -/
theorem zc_TnA {P : zc_Pic} {o : Nat} (x y z : Int32) (ok : zc_Ok P) (ho : o < 16) : zc_Tn P o x y z z y x :=
  zc_turnA (fun c => if c = 0 then x else if c = 1 then y else z) _ _ _ ok ho (fun m => by cases m <;> rfl) (fun m => by cases m <;> rfl) (fun m => by cases m <;> rfl)
theorem zc_TnC {P : zc_Pic} {o : Nat} (x y z : Int32) (ok : zc_Ok P) (ho : 16 ≤ o) (ho2 : o < 22) (hy : y < 0 ∨ 2 < y) : zc_Tn P o x y z x y z :=
  zc_turnC _ _ _ x z ok ho ho2 (fun m => by cases m <;> rfl) (fun m => by cases m <;> rfl) (Or.inr (fun m => by cases m <;> exact zc_bad3 hy))
theorem zc_TnC2 {P : zc_Pic} {o : Nat} (x y z : Int32) (ok : zc_Ok P) (ho : 16 ≤ o) (ho2 : o < 22) (h0 : ¬ y < 0) (h2 : ¬ 2 < y) : zc_Tn P o x y z x (2 - y) z := by
  obtain ⟨c, hc, ey⟩ := zc_col3 h0 h2
  subst ey
  refine zc_turnC _ _ _ x z ok ho ho2 (fun m => by cases m <;> rfl) (fun m => by cases m <;> rfl) (Or.inl ⟨c, hc, fun m => ?_⟩)
  cases m
  · rfl
  · exact pk_sub (a := 2) (by omega)
theorem zc_TnN2 {P : zc_Pic} {o : Nat} (x y z : Int32) (ok : zc_Ok P) (ho : 27 ≤ o) (ho2 : o < 31) (h0 : ¬ x < 0) (h2 : ¬ 2 < x) : zc_Tn P o x y z (2 - x) y z := by
  obtain ⟨c, hc, ey⟩ := zc_col3 h0 h2
  subst ey
  refine zc_turnN _ _ _ y z ok ho ho2 (fun m => by cases m <;> rfl) (fun m => by cases m <;> rfl) (Or.inl ⟨c, hc, fun m => ?_⟩)
  cases m
  · rfl
  · exact pk_sub (a := 2) (by omega)
theorem zc_TnR {P : zc_Pic} {o : Nat} (x y z : Int32) (ok : zc_Ok P) (ho : 22 ≤ o) (ho2 : o < 32) (hx : 27 ≤ o → o < 31 → x < 0 ∨ 2 < x) : zc_Tn P o x y z x y z := by
  rcases Nat.lt_or_ge o 25 with g2 | g2
  · exact zc_turnD _ _ _ x ok ho g2 (fun m => by cases m <;> rfl)
  rcases Nat.lt_or_ge o 27 with g3 | g3
  · exact zc_turnK _ _ _ ok g2 g3
  rcases Nat.lt_or_ge o 31 with g4 | g4
  · exact zc_turnN _ _ _ y z ok g3 g4 (fun m => by cases m <;> rfl) (fun m => by cases m <;> rfl) (Or.inr (fun m => by cases m <;> exact zc_bad3 (hx g3 g4)))
  · exact zc_turnF _ _ _ ok (by omega)
theorem zc_t90 {L : Nat} {xs : Nat → Int32} {J : Int32 → Int32 → Int32 → Int32 → Int32 → Int32 → Int64 → (Nat → Int32) → (Nat → Int32) → (Nat → Int32) → (Nat → Int32) → (Nat → Int32) → (Nat → Int32) → (Nat → Int32) → (Nat → Int32) → (Nat → Int32) → (Nat → Int32) → (Nat → Int32) → (Nat → Int32) → (Nat → Int32) → (Nat → Int32) → (Nat → Int32) → (Nat → Int32) → (Nat → Int32) → (Nat → Int32) → (Nat → Int32) → (Nat → Int32) → (Nat → Int32) → (Nat → Int32) → Int32 → Int32 → Int32 → Int32 → Int32 → Int64 → (Nat → Int32) → (Nat → Int32) → (Nat → Int32) → (Nat → Int32) → (Nat → Int32) → (Nat → Int32) → (Nat → Int32) → (Nat → Int32) → (Nat → Int32) → (Nat → Int32) → (Nat → Int32) → (Nat → Int32) → (Nat → Int32) → (Nat → Int32) → (Nat → Int32) → (Nat → Int32) → (Nat → Int32) → (Nat → Int32) → (Nat → Int32) → (Nat → Int32) → (Nat → Int32) → (Nat → Int32) → Prop} {kc ks j o : Nat} {x y z : Int32} {rc pc ds cd ga : Int32} {ls : Int64} {a1 a2 a3 a4 a5 a6 a7 a8 a9 a10 a11 a12 a13 a14 a15 a16 a17 a18 a19 a20 a21 a22 : Nat → Int32} {rc' pc' ds' cd' ga' : Int32} {ls' : Int64} {a1' a2' a3' a4' a5' a6' a7' a8' a9' a10' a11' a12' a13' a14' a15' a16' a17' a18' a19' a20' a21' a22' : Nat → Int32} {P : zc_Pic} (ho : o < 32) (ok : zc_Ok P) (hp : zc_Mt false P rc pc cd a1 a2 a3 a4 a5 a6 a7 a8 a9 a10 a11 a12 a13 a14 a17 a18 a19) (hq : zc_Mt true P rc' pc' cd' a1' a2' a3' a4' a5' a6' a7' a8' a9' a10' a11' a12' a13' a14' a17' a18' a19') (hn : zc_Nx J j) (hx : 27 ≤ o → o < 31 → x < 0 ∨ 2 < x) : wL_law_90 (fun r => r = 1) L xs J (nI (4 * j)) (nI o) x y z kc ks rc pc ds cd ga ls a1 a2 a3 a4 a5 a6 a7 a8 a9 a10 a11 a12 a13 a14 a15 a16 a17 a18 a19 a20 a21 a22 rc' pc' ds' cd' ga' ls' a1' a2' a3' a4' a5' a6' a7' a8' a9' a10' a11' a12' a13' a14' a15' a16' a17' a18' a19' a20' a21' a22' :=
  pk_le 16 o (fun g => br_t rfl (zc_t119 ho hp hq hn (fun w => absurd w (by omega)) (fun w g2 hy => zc_TnC x y z ok w g2 hy) (fun w g2 h0 h2 => zc_TnC2 x y z ok w g2 h0 h2) (fun w => zc_TnR x y z ok w ho hx))) (fun g => zc_t119 ho hp hq hn (fun w => zc_TnA x y z ok w) (fun w => absurd w (by omega)) (fun w => absurd w (by omega)) (fun w => absurd w (by omega)))
theorem zc_t91 {L : Nat} {xs : Nat → Int32} {J : Int32 → Int32 → Int32 → Int32 → Int32 → Int32 → Int64 → (Nat → Int32) → (Nat → Int32) → (Nat → Int32) → (Nat → Int32) → (Nat → Int32) → (Nat → Int32) → (Nat → Int32) → (Nat → Int32) → (Nat → Int32) → (Nat → Int32) → (Nat → Int32) → (Nat → Int32) → (Nat → Int32) → (Nat → Int32) → (Nat → Int32) → (Nat → Int32) → (Nat → Int32) → (Nat → Int32) → (Nat → Int32) → (Nat → Int32) → (Nat → Int32) → (Nat → Int32) → Int32 → Int32 → Int32 → Int32 → Int32 → Int64 → (Nat → Int32) → (Nat → Int32) → (Nat → Int32) → (Nat → Int32) → (Nat → Int32) → (Nat → Int32) → (Nat → Int32) → (Nat → Int32) → (Nat → Int32) → (Nat → Int32) → (Nat → Int32) → (Nat → Int32) → (Nat → Int32) → (Nat → Int32) → (Nat → Int32) → (Nat → Int32) → (Nat → Int32) → (Nat → Int32) → (Nat → Int32) → (Nat → Int32) → (Nat → Int32) → (Nat → Int32) → Prop} {kc ks j o : Nat} {x y z : Int32} {rc pc ds cd ga : Int32} {ls : Int64} {a1 a2 a3 a4 a5 a6 a7 a8 a9 a10 a11 a12 a13 a14 a15 a16 a17 a18 a19 a20 a21 a22 : Nat → Int32} {rc' pc' ds' cd' ga' : Int32} {ls' : Int64} {a1' a2' a3' a4' a5' a6' a7' a8' a9' a10' a11' a12' a13' a14' a15' a16' a17' a18' a19' a20' a21' a22' : Nat → Int32} {P : zc_Pic} (ho : 27 ≤ o) (ho2 : o < 31) (ok : zc_Ok P) (hp : zc_Mt false P rc pc cd a1 a2 a3 a4 a5 a6 a7 a8 a9 a10 a11 a12 a13 a14 a17 a18 a19) (hq : zc_Mt true P rc' pc' cd' a1' a2' a3' a4' a5' a6' a7' a8' a9' a10' a11' a12' a13' a14' a17' a18' a19') (hn : zc_Nx J j) (h0 : ¬ x < 0) (h2 : ¬ 2 < x) : wL_law_91 (fun r => r = 1) L xs J (nI (4 * j)) (nI o) x y z 1 kc ks rc pc ds cd ga ls a1 a2 a3 a4 a5 a6 a7 a8 a9 a10 a11 a12 a13 a14 a15 a16 a17 a18 a19 a20 a21 a22 rc' pc' ds' cd' ga' ls' a1' a2' a3' a4' a5' a6' a7' a8' a9' a10' a11' a12' a13' a14' a15' a16' a17' a18' a19' a20' a21' a22' :=
  pk_le 16 o (fun g => br_f (by decide) (zc_t119 (by omega) hp hq hn (fun w => absurd w (by omega)) (fun w g2 => absurd g2 (by omega)) (fun w g2 => absurd g2 (by omega)) (fun w => zc_TnN2 x y z ok ho ho2 h0 h2))) (fun g => absurd g (by omega))
theorem zc_law18 {L : Nat} {xs : Nat → Int32} {kc ks : Nat} {p q : St1} {P : zc_Pic} (hL : L ≤ 260) (ok : zc_Ok P) (hp : zc_Mt false P p.1 p.2.1 p.2.2.2.1 p.2.2.2.2.2.2.1 p.2.2.2.2.2.2.2.1 p.2.2.2.2.2.2.2.2.1 p.2.2.2.2.2.2.2.2.2.1 p.2.2.2.2.2.2.2.2.2.2.1 p.2.2.2.2.2.2.2.2.2.2.2.1 p.2.2.2.2.2.2.2.2.2.2.2.2.1 p.2.2.2.2.2.2.2.2.2.2.2.2.2.1 p.2.2.2.2.2.2.2.2.2.2.2.2.2.2.1 p.2.2.2.2.2.2.2.2.2.2.2.2.2.2.2.1 p.2.2.2.2.2.2.2.2.2.2.2.2.2.2.2.2.1 p.2.2.2.2.2.2.2.2.2.2.2.2.2.2.2.2.2.1 p.2.2.2.2.2.2.2.2.2.2.2.2.2.2.2.2.2.2.1 p.2.2.2.2.2.2.2.2.2.2.2.2.2.2.2.2.2.2.2.1 p.2.2.2.2.2.2.2.2.2.2.2.2.2.2.2.2.2.2.2.2.2.2.1 p.2.2.2.2.2.2.2.2.2.2.2.2.2.2.2.2.2.2.2.2.2.2.2.1 p.2.2.2.2.2.2.2.2.2.2.2.2.2.2.2.2.2.2.2.2.2.2.2.2.1) (hq : zc_Mt true P q.1 q.2.1 q.2.2.2.1 q.2.2.2.2.2.2.1 q.2.2.2.2.2.2.2.1 q.2.2.2.2.2.2.2.2.1 q.2.2.2.2.2.2.2.2.2.1 q.2.2.2.2.2.2.2.2.2.2.1 q.2.2.2.2.2.2.2.2.2.2.2.1 q.2.2.2.2.2.2.2.2.2.2.2.2.1 q.2.2.2.2.2.2.2.2.2.2.2.2.2.1 q.2.2.2.2.2.2.2.2.2.2.2.2.2.2.1 q.2.2.2.2.2.2.2.2.2.2.2.2.2.2.2.1 q.2.2.2.2.2.2.2.2.2.2.2.2.2.2.2.2.1 q.2.2.2.2.2.2.2.2.2.2.2.2.2.2.2.2.2.1 q.2.2.2.2.2.2.2.2.2.2.2.2.2.2.2.2.2.2.1 q.2.2.2.2.2.2.2.2.2.2.2.2.2.2.2.2.2.2.2.1 q.2.2.2.2.2.2.2.2.2.2.2.2.2.2.2.2.2.2.2.2.2.2.1 q.2.2.2.2.2.2.2.2.2.2.2.2.2.2.2.2.2.2.2.2.2.2.2.1 q.2.2.2.2.2.2.2.2.2.2.2.2.2.2.2.2.2.2.2.2.2.2.2.2.1) : ∃ fu, wL_law_18 (fun r => r = 1) L xs kc ks fu 0 p.1 p.2.1 p.2.2.1 p.2.2.2.1 p.2.2.2.2.1 p.2.2.2.2.2.1 p.2.2.2.2.2.2.1 p.2.2.2.2.2.2.2.1 p.2.2.2.2.2.2.2.2.1 p.2.2.2.2.2.2.2.2.2.1 p.2.2.2.2.2.2.2.2.2.2.1 p.2.2.2.2.2.2.2.2.2.2.2.1 p.2.2.2.2.2.2.2.2.2.2.2.2.1 p.2.2.2.2.2.2.2.2.2.2.2.2.2.1 p.2.2.2.2.2.2.2.2.2.2.2.2.2.2.1 p.2.2.2.2.2.2.2.2.2.2.2.2.2.2.2.1 p.2.2.2.2.2.2.2.2.2.2.2.2.2.2.2.2.1 p.2.2.2.2.2.2.2.2.2.2.2.2.2.2.2.2.2.1 p.2.2.2.2.2.2.2.2.2.2.2.2.2.2.2.2.2.2.1 p.2.2.2.2.2.2.2.2.2.2.2.2.2.2.2.2.2.2.2.1 p.2.2.2.2.2.2.2.2.2.2.2.2.2.2.2.2.2.2.2.2.1 p.2.2.2.2.2.2.2.2.2.2.2.2.2.2.2.2.2.2.2.2.2.1 p.2.2.2.2.2.2.2.2.2.2.2.2.2.2.2.2.2.2.2.2.2.2.1 p.2.2.2.2.2.2.2.2.2.2.2.2.2.2.2.2.2.2.2.2.2.2.2.1 p.2.2.2.2.2.2.2.2.2.2.2.2.2.2.2.2.2.2.2.2.2.2.2.2.1 p.2.2.2.2.2.2.2.2.2.2.2.2.2.2.2.2.2.2.2.2.2.2.2.2.2.1 p.2.2.2.2.2.2.2.2.2.2.2.2.2.2.2.2.2.2.2.2.2.2.2.2.2.2.1 p.2.2.2.2.2.2.2.2.2.2.2.2.2.2.2.2.2.2.2.2.2.2.2.2.2.2.2 q.1 q.2.1 q.2.2.1 q.2.2.2.1 q.2.2.2.2.1 q.2.2.2.2.2.1 q.2.2.2.2.2.2.1 q.2.2.2.2.2.2.2.1 q.2.2.2.2.2.2.2.2.1 q.2.2.2.2.2.2.2.2.2.1 q.2.2.2.2.2.2.2.2.2.2.1 q.2.2.2.2.2.2.2.2.2.2.2.1 q.2.2.2.2.2.2.2.2.2.2.2.2.1 q.2.2.2.2.2.2.2.2.2.2.2.2.2.1 q.2.2.2.2.2.2.2.2.2.2.2.2.2.2.1 q.2.2.2.2.2.2.2.2.2.2.2.2.2.2.2.1 q.2.2.2.2.2.2.2.2.2.2.2.2.2.2.2.2.1 q.2.2.2.2.2.2.2.2.2.2.2.2.2.2.2.2.2.1 q.2.2.2.2.2.2.2.2.2.2.2.2.2.2.2.2.2.2.1 q.2.2.2.2.2.2.2.2.2.2.2.2.2.2.2.2.2.2.2.1 q.2.2.2.2.2.2.2.2.2.2.2.2.2.2.2.2.2.2.2.2.1 q.2.2.2.2.2.2.2.2.2.2.2.2.2.2.2.2.2.2.2.2.2.1 q.2.2.2.2.2.2.2.2.2.2.2.2.2.2.2.2.2.2.2.2.2.2.1 q.2.2.2.2.2.2.2.2.2.2.2.2.2.2.2.2.2.2.2.2.2.2.2.1 q.2.2.2.2.2.2.2.2.2.2.2.2.2.2.2.2.2.2.2.2.2.2.2.2.1 q.2.2.2.2.2.2.2.2.2.2.2.2.2.2.2.2.2.2.2.2.2.2.2.2.2.1 q.2.2.2.2.2.2.2.2.2.2.2.2.2.2.2.2.2.2.2.2.2.2.2.2.2.2.1 q.2.2.2.2.2.2.2.2.2.2.2.2.2.2.2.2.2.2.2.2.2.2.2.2.2.2.2 := by
  refine pk_loop (fun n j (s : St1 × St1) => wL_law_18 (fun r => r = 1) L xs kc ks n (nI (4 * j)) s.1.1 s.1.2.1 s.1.2.2.1 s.1.2.2.2.1 s.1.2.2.2.2.1 s.1.2.2.2.2.2.1 s.1.2.2.2.2.2.2.1 s.1.2.2.2.2.2.2.2.1 s.1.2.2.2.2.2.2.2.2.1 s.1.2.2.2.2.2.2.2.2.2.1 s.1.2.2.2.2.2.2.2.2.2.2.1 s.1.2.2.2.2.2.2.2.2.2.2.2.1 s.1.2.2.2.2.2.2.2.2.2.2.2.2.1 s.1.2.2.2.2.2.2.2.2.2.2.2.2.2.1 s.1.2.2.2.2.2.2.2.2.2.2.2.2.2.2.1 s.1.2.2.2.2.2.2.2.2.2.2.2.2.2.2.2.1 s.1.2.2.2.2.2.2.2.2.2.2.2.2.2.2.2.2.1 s.1.2.2.2.2.2.2.2.2.2.2.2.2.2.2.2.2.2.1 s.1.2.2.2.2.2.2.2.2.2.2.2.2.2.2.2.2.2.2.1 s.1.2.2.2.2.2.2.2.2.2.2.2.2.2.2.2.2.2.2.2.1 s.1.2.2.2.2.2.2.2.2.2.2.2.2.2.2.2.2.2.2.2.2.1 s.1.2.2.2.2.2.2.2.2.2.2.2.2.2.2.2.2.2.2.2.2.2.1 s.1.2.2.2.2.2.2.2.2.2.2.2.2.2.2.2.2.2.2.2.2.2.2.1 s.1.2.2.2.2.2.2.2.2.2.2.2.2.2.2.2.2.2.2.2.2.2.2.2.1 s.1.2.2.2.2.2.2.2.2.2.2.2.2.2.2.2.2.2.2.2.2.2.2.2.2.1 s.1.2.2.2.2.2.2.2.2.2.2.2.2.2.2.2.2.2.2.2.2.2.2.2.2.2.1 s.1.2.2.2.2.2.2.2.2.2.2.2.2.2.2.2.2.2.2.2.2.2.2.2.2.2.2.1 s.1.2.2.2.2.2.2.2.2.2.2.2.2.2.2.2.2.2.2.2.2.2.2.2.2.2.2.2 s.2.1 s.2.2.1 s.2.2.2.1 s.2.2.2.2.1 s.2.2.2.2.2.1 s.2.2.2.2.2.2.1 s.2.2.2.2.2.2.2.1 s.2.2.2.2.2.2.2.2.1 s.2.2.2.2.2.2.2.2.2.1 s.2.2.2.2.2.2.2.2.2.2.1 s.2.2.2.2.2.2.2.2.2.2.2.1 s.2.2.2.2.2.2.2.2.2.2.2.2.1 s.2.2.2.2.2.2.2.2.2.2.2.2.2.1 s.2.2.2.2.2.2.2.2.2.2.2.2.2.2.1 s.2.2.2.2.2.2.2.2.2.2.2.2.2.2.2.1 s.2.2.2.2.2.2.2.2.2.2.2.2.2.2.2.2.1 s.2.2.2.2.2.2.2.2.2.2.2.2.2.2.2.2.2.1 s.2.2.2.2.2.2.2.2.2.2.2.2.2.2.2.2.2.2.1 s.2.2.2.2.2.2.2.2.2.2.2.2.2.2.2.2.2.2.2.1 s.2.2.2.2.2.2.2.2.2.2.2.2.2.2.2.2.2.2.2.2.1 s.2.2.2.2.2.2.2.2.2.2.2.2.2.2.2.2.2.2.2.2.2.1 s.2.2.2.2.2.2.2.2.2.2.2.2.2.2.2.2.2.2.2.2.2.2.1 s.2.2.2.2.2.2.2.2.2.2.2.2.2.2.2.2.2.2.2.2.2.2.2.1 s.2.2.2.2.2.2.2.2.2.2.2.2.2.2.2.2.2.2.2.2.2.2.2.2.1 s.2.2.2.2.2.2.2.2.2.2.2.2.2.2.2.2.2.2.2.2.2.2.2.2.2.1 s.2.2.2.2.2.2.2.2.2.2.2.2.2.2.2.2.2.2.2.2.2.2.2.2.2.2.1 s.2.2.2.2.2.2.2.2.2.2.2.2.2.2.2.2.2.2.2.2.2.2.2.2.2.2.2.1 s.2.2.2.2.2.2.2.2.2.2.2.2.2.2.2.2.2.2.2.2.2.2.2.2.2.2.2.2) (fun _ s => ∃ P, zc_Ok P ∧ zc_Mt false P s.1.1 s.1.2.1 s.1.2.2.2.1 s.1.2.2.2.2.2.2.1 s.1.2.2.2.2.2.2.2.1 s.1.2.2.2.2.2.2.2.2.1 s.1.2.2.2.2.2.2.2.2.2.1 s.1.2.2.2.2.2.2.2.2.2.2.1 s.1.2.2.2.2.2.2.2.2.2.2.2.1 s.1.2.2.2.2.2.2.2.2.2.2.2.2.1 s.1.2.2.2.2.2.2.2.2.2.2.2.2.2.1 s.1.2.2.2.2.2.2.2.2.2.2.2.2.2.2.1 s.1.2.2.2.2.2.2.2.2.2.2.2.2.2.2.2.1 s.1.2.2.2.2.2.2.2.2.2.2.2.2.2.2.2.2.1 s.1.2.2.2.2.2.2.2.2.2.2.2.2.2.2.2.2.2.1 s.1.2.2.2.2.2.2.2.2.2.2.2.2.2.2.2.2.2.2.1 s.1.2.2.2.2.2.2.2.2.2.2.2.2.2.2.2.2.2.2.2.1 s.1.2.2.2.2.2.2.2.2.2.2.2.2.2.2.2.2.2.2.2.2.2.2.1 s.1.2.2.2.2.2.2.2.2.2.2.2.2.2.2.2.2.2.2.2.2.2.2.2.1 s.1.2.2.2.2.2.2.2.2.2.2.2.2.2.2.2.2.2.2.2.2.2.2.2.2.1 ∧ zc_Mt true P s.2.1 s.2.2.1 s.2.2.2.2.1 s.2.2.2.2.2.2.2.1 s.2.2.2.2.2.2.2.2.1 s.2.2.2.2.2.2.2.2.2.1 s.2.2.2.2.2.2.2.2.2.2.1 s.2.2.2.2.2.2.2.2.2.2.2.1 s.2.2.2.2.2.2.2.2.2.2.2.2.1 s.2.2.2.2.2.2.2.2.2.2.2.2.2.1 s.2.2.2.2.2.2.2.2.2.2.2.2.2.2.1 s.2.2.2.2.2.2.2.2.2.2.2.2.2.2.2.1 s.2.2.2.2.2.2.2.2.2.2.2.2.2.2.2.2.1 s.2.2.2.2.2.2.2.2.2.2.2.2.2.2.2.2.2.1 s.2.2.2.2.2.2.2.2.2.2.2.2.2.2.2.2.2.2.1 s.2.2.2.2.2.2.2.2.2.2.2.2.2.2.2.2.2.2.2.1 s.2.2.2.2.2.2.2.2.2.2.2.2.2.2.2.2.2.2.2.2.1 s.2.2.2.2.2.2.2.2.2.2.2.2.2.2.2.2.2.2.2.2.2.2.2.1 s.2.2.2.2.2.2.2.2.2.2.2.2.2.2.2.2.2.2.2.2.2.2.2.2.1 s.2.2.2.2.2.2.2.2.2.2.2.2.2.2.2.2.2.2.2.2.2.2.2.2.2.1) 30 0 (p, q) (by omega) ⟨P, ok, hp, hq⟩ ?_ ?_
  · intro n s ⟨P, ok, hp, hq⟩
    exact pk_le L 123 (fun _ => zc_law216 hL ok hp hq) (fun _ => pk_le 120 120 (fun _ => zc_law216 hL ok hp hq) (fun z => absurd z (by omega))) rfl (nI_add 120 3)
  · intro n j s hj ⟨P, ok, hp, hq⟩ hn
    refine pk_le L (4 * j + 3) (fun _ => zc_law216 hL ok hp hq) (fun z => pk_le 120 (4 * j) (fun z => absurd z (by omega)) (fun _ => ?_)) rfl (nI_add _ 3)
    have v0 : vp_in (nI (4 * j)) L := pk_in _ L (by omega) rfl
    have v1 : vp_in (nI (4 * j) + 1) L := pk_in _ L (by omega) (nI_1 _)
    have v2 : vp_in (nI (4 * j) + 2) L := pk_in _ L (by omega) (nI_add _ 2)
    have v3 : vp_in (nI (4 * j) + 3) L := pk_in _ L (by omega) (nI_add _ 3)
    obtain ⟨o, ho, eo⟩ := pk_andE (xs (nI (4 * j)).toNatClampNeg) (m := 31) 5 (by decide)
    have ho' : o < 32 := ho
    have hx : zc_Nx (wL_law_18 (fun r => r = 1) L xs kc ks n) j := fun rc pc ds cd ga ls a1 a2 a3 a4 a5 a6 a7 a8 a9 a10 a11 a12 a13 a14 a15 a16 a17 a18 a19 a20 a21 a22 rc' pc' ds' cd' ga' ls' a1' a2' a3' a4' a5' a6' a7' a8' a9' a10' a11' a12' a13' a14' a15' a16' a17' a18' a19' a20' a21' a22' h => hn ((rc, pc, ds, cd, ga, ls, a1, a2, a3, a4, a5, a6, a7, a8, a9, a10, a11, a12, a13, a14, a15, a16, a17, a18, a19, a20, a21, a22), (rc', pc', ds', cd', ga', ls', a1', a2', a3', a4', a5', a6', a7', a8', a9', a10', a11', a12', a13', a14', a15', a16', a17', a18', a19', a20', a21', a22')) h
    refine ⟨v0, nm_r eo ⟨v1, nm_e ⟨v2, nm_e ⟨v3, nm_e ?_⟩⟩⟩⟩
    exact pk_le o 26 (fun g => zc_t90 ho' ok hp hq hx (fun g1 _ => absurd g1 (by omega))) (fun g => pk_le 31 o (fun g1 => zc_t90 ho' ok hp hq hx (fun _ g2 => absurd g2 (by omega))) (fun g1 => ⟨fun g2 => zc_t90 ho' ok hp hq hx (fun _ _ => Or.inl g2), fun g2 => ⟨fun g3 => zc_t90 ho' ok hp hq hx (fun _ _ => Or.inr g3), fun g3 => zc_t91 g g1 ok hp hq hx g2 g3⟩⟩))
theorem zc_init {post : St1 → Prop} (H : post (0, 0, 0, 0, 0, 0, (fun _ => 0), (fun _ => 0), (fun _ => 0), (fun _ => 0), (fun _ => 0), (fun _ => 0), (fun _ => 0), (fun _ => 0), (fun _ => 0), (fun _ => 0), (fun _ => 0), (fun _ => 0), (fun _ => 0), (fun _ => 0), (fun _ => 0), (fun _ => 0), (fun _ => 0), (fun _ => 0), (fun _ => 0), (fun _ => 0), (fun _ => 0), (fun _ => 0))) : wpX_init post 22 1483 (0, 0, 0, 0, 0, 0) :=
  ⟨by decide, by decide, by decide, by decide, by decide, by decide, by decide, by decide, by decide, by decide, by decide, by decide, by decide, by decide, by decide, by decide, by decide, by decide, by decide, by decide, by decide, by decide, by decide, by decide, by decide, by decide, by decide, by decide, by decide, by decide, by decide, by decide, by decide, by decide, by decide, by decide, by decide, by decide, by decide, by decide, by decide, by decide, by decide, by decide, H⟩
def zc_P0 : zc_Pic := (0, fun _ => 0, fun _ _ => (0, 0, 0, 0, 0, 0, 0, 0, fun _ => 0, fun _ => 0), fun _ _ => 0, 0, fun _ => 0, fun _ => 0, fun _ => 0, 0, fun _ => 0, fun _ => 0, fun _ => 0)
theorem zc_P0_ok : zc_Ok zc_P0 := ⟨Nat.zero_le _, fun b c _ _ => ⟨Nat.zero_le _, fun z => absurd (show (0 : Nat) = 2 from z) (by decide), fun z => absurd (show (0 : Nat) = 3 from z) (by decide), fun z => absurd (show (0 : Nat) = 4 from z) (by decide), fun z => absurd (show (0 : Nat) = 5 from z) (by decide)⟩, Nat.zero_le _, fun j hj => absurd hj (Nat.not_lt_zero j), Nat.zero_le _, fun j hj => absurd hj (Nat.not_lt_zero j)⟩
def zc_u0 : St1 := (0, 0, 0, 0, 0, 0, (fun _ => 0), (fun _ => 0), (fun _ => 0), (fun _ => 0), (fun _ => 0), (fun _ => 0), (fun _ => 0), (fun _ => 0), (fun _ => 0), (fun _ => 0), (fun _ => 0), (fun _ => 0), (fun _ => 0), (fun _ => 0), (fun _ => 0), (fun _ => 0), (fun _ => 0), (fun _ => 0), (fun _ => 0), (fun _ => 0), (fun _ => 0), (fun _ => 0))
theorem zc_P0_mt (m : Bool) : zc_Mt m zc_P0 zc_u0.1 zc_u0.2.1 zc_u0.2.2.2.1 zc_u0.2.2.2.2.2.2.1 zc_u0.2.2.2.2.2.2.2.1 zc_u0.2.2.2.2.2.2.2.2.1 zc_u0.2.2.2.2.2.2.2.2.2.1 zc_u0.2.2.2.2.2.2.2.2.2.2.1 zc_u0.2.2.2.2.2.2.2.2.2.2.2.1 zc_u0.2.2.2.2.2.2.2.2.2.2.2.2.1 zc_u0.2.2.2.2.2.2.2.2.2.2.2.2.2.1 zc_u0.2.2.2.2.2.2.2.2.2.2.2.2.2.2.1 zc_u0.2.2.2.2.2.2.2.2.2.2.2.2.2.2.2.1 zc_u0.2.2.2.2.2.2.2.2.2.2.2.2.2.2.2.2.1 zc_u0.2.2.2.2.2.2.2.2.2.2.2.2.2.2.2.2.2.1 zc_u0.2.2.2.2.2.2.2.2.2.2.2.2.2.2.2.2.2.2.1 zc_u0.2.2.2.2.2.2.2.2.2.2.2.2.2.2.2.2.2.2.2.1 zc_u0.2.2.2.2.2.2.2.2.2.2.2.2.2.2.2.2.2.2.2.2.2.2.1 zc_u0.2.2.2.2.2.2.2.2.2.2.2.2.2.2.2.2.2.2.2.2.2.2.2.1 zc_u0.2.2.2.2.2.2.2.2.2.2.2.2.2.2.2.2.2.2.2.2.2.2.2.2.1 :=
  ⟨rfl, rfl, rfl, fun _ _ => rfl, fun _ _ _ _ => ⟨rfl, rfl, rfl, rfl, rfl, rfl, rfl, rfl, fun _ _ => rfl, fun _ _ => rfl⟩, fun _ _ _ _ => rfl, fun j hj => absurd hj (Nat.not_lt_zero j), fun j hj => absurd hj (Nat.not_lt_zero j)⟩
theorem i_vc (xs : Nat → Int32) (L : Nat) (hL : L ≤ 260) : wpL_law (fun r => r = 1) L xs := by
  refine ⟨22, 1483, by decide, by decide, zc_init ⟨by decide, by decide, 22, 1483, by decide, by decide, zc_init ?_⟩⟩
  exact zc_law18 (p := zc_u0) (q := zc_u0) hL zc_P0_ok (zc_P0_mt false) (zc_P0_mt true)
end
