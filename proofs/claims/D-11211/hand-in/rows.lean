section
/-! The curve, pure: what numberOf computes, and the squares' numbers (341 squares, by computing). -/
/-- one turn of numberOf's loop: p, q, number -/
def cu_st (w : Int32) (s : Int32 × Int32 × Int32) : Int32 × Int32 × Int32 :=
  if s.1 &&& w = 0 then
    if s.2.1 &&& w = 0 then (s.2.1, s.1, 4 * s.2.2 + ((3 * 0) ^^^ 0)) else (s.1, s.2.1, 4 * s.2.2 + ((3 * 0) ^^^ 1))
  else
    if s.2.1 &&& w = 0 then (15 - s.2.1, 15 - s.1, 4 * s.2.2 + ((3 * 1) ^^^ 0)) else (s.1, s.2.1, 4 * s.2.2 + ((3 * 1) ^^^ 1))
def cu_num (x y : Int32) : Int32 := (cu_st 1 (cu_st 2 (cu_st 4 (cu_st 8 (x, y, 0))))).2.2
/-- a square's number of cells, and its side, by its level -/
def cu_sz (k : Nat) : Nat := 4 ^ (4 - k)
def cu_sd (k : Nat) : Nat := 2 ^ (4 - k)
def cu_raw (k u v : Nat) : Int32 := cu_num (nI (u * cu_sd k)) (nI (v * cu_sd k)) &&& (-(nI (cu_sz k)))
/-- the first curve number of a square -/
def cu_F (k u v : Nat) : Nat := (cu_raw k u v).toNatClampNeg
def cu_T : List Nat := [0, 16, 17, 1, 2, 3, 19, 18, 34, 35, 51, 50, 49, 33, 32, 48, 64, 65, 81, 80, 96, 112, 113, 97, 98, 114, 115, 99, 83, 82, 66, 67, 68, 69, 85, 84, 100, 116, 117, 101, 102, 118, 119, 103, 87, 86, 70, 71, 55, 39, 38, 54, 53, 52, 36, 37, 21, 20, 4, 5, 6, 22, 23, 7, 8, 9, 25, 24, 40, 56, 57, 41, 42, 58, 59, 43, 27, 26, 10, 11, 12, 28, 29, 13, 14, 15, 31, 30, 46, 47, 63, 62, 61, 45, 44, 60, 76, 92, 93, 77, 78, 79, 95, 94, 110, 111, 127, 126, 125, 109, 108, 124, 123, 122, 106, 107, 91, 75, 74, 90, 89, 73, 72, 88, 104, 105, 121, 120, 136, 137, 153, 152, 168, 184, 185, 169, 170, 186, 187, 171, 155, 154, 138, 139, 140, 156, 157, 141, 142, 143, 159, 158, 174, 175, 191, 190, 189, 173, 172, 188, 204, 220, 221, 205, 206, 207, 223, 222, 238, 239, 255, 254, 253, 237, 236, 252, 251, 250, 234, 235, 219, 203, 202, 218, 217, 201, 200, 216, 232, 233, 249, 248, 247, 231, 230, 246, 245, 244, 228, 229, 213, 212, 196, 197, 198, 214, 215, 199, 183, 182, 166, 167, 151, 135, 134, 150, 149, 133, 132, 148, 164, 165, 181, 180, 179, 178, 162, 163, 147, 131, 130, 146, 145, 129, 128, 144, 160, 161, 177, 176, 192, 208, 209, 193, 194, 195, 211, 210, 226, 227, 243, 242, 241, 225, 224, 240]
set_option maxRecDepth 100000 in
theorem cu_tab : ∀ k, k < 5 → ∀ u, u < 2 ^ k → ∀ v, v < 2 ^ k → cu_raw k u v = nI (cu_F k u v) ∧ cu_F k u v % cu_sz k = 0 ∧ cu_F k u v + cu_sz k ≤ 256 := by decide +kernel
set_option maxRecDepth 100000 in
theorem cu_par : ∀ k, k < 5 → ∀ m, m < k + 1 → ∀ u, u < 2 ^ k → ∀ v, v < 2 ^ k → cu_F k u v / cu_sz m = cu_F m (u / 2 ^ (k - m)) (v / 2 ^ (k - m)) / cu_sz m := by decide +kernel
set_option maxRecDepth 100000 in
theorem cu_inv : ∀ k, k < 5 → ∀ u, u < 2 ^ k → ∀ v, v < 2 ^ k → cu_T.getD (cu_F k u v) 0 / 16 / cu_sd k = u ∧ cu_T.getD (cu_F k u v) 0 % 16 / cu_sd k = v := by decide +kernel
set_option maxRecDepth 100000 in
theorem cu_sq : ∀ k, k < 5 → ∀ u, u < 2 ^ k → ∀ v, v < 2 ^ k → 0 ≤ 1024 * nI k + 32 * nI u + nI v ∧ (1024 * nI k + 32 * nI u + nI v) >>> ((10 : Int32) &&& 31) = nI k ∧ ((1024 * nI k + 32 * nI u + nI v) >>> ((5 : Int32) &&& 31)) &&& 31 = nI u ∧ (1024 * nI k + 32 * nI u + nI v) &&& 31 = nI v := by decide +kernel
theorem cu_lev : ∀ k, k < 5 → ¬ 4 < nI k ∧ (1 : Int32) <<< (nI k &&& 31) = nI (2 ^ k) ∧ (1 : Int32) <<< ((4 - nI k) &&& 31) = nI (cu_sd k) ∧ nI (cu_sd k) * nI (cu_sd k) = nI (cu_sz k) ∧ (256 : Int32) >>> ((2 * nI k) &&& 31) = nI (cu_sz k) := by decide +kernel
theorem cu_16 : ∀ n, n < 256 → (nI n).toInt16.toInt32 = nI n := by decide +kernel
theorem cu_8 : ∀ n, n < 41 → (nI n).toInt8.toInt32 = nI n := by decide +kernel
theorem cu_sh8 : ∀ n, n < 256 → nI n >>> ((8 : Int32) &&& 31) = 0 := by decide +kernel
theorem cu_msk : ∀ k, k < 5 → (((1 : Int32) <<< (nI k &&& 31)) - 1).toBitVec.toNat = 2 ^ k - 1 := by decide +kernel
theorem cu_dif : ∀ k, k < 5 → ∀ m, m < k + 1 → (((nI k - nI m) &&& 31).toBitVec.smod 32).toNat = k - m := by decide +kernel
theorem cu_szs : ∀ k, k < 5 → 0 < cu_sz k ∧ cu_sz k ≤ 256 := by decide +kernel
/-- what the law calls meeting: the same square of the coarser level -/
theorem cu_meet {k l m u v p q : Nat} (hk : k < 5) (hl : l < 5) (hmk : m ≤ k) (hml : m ≤ l) (hu : u < 2 ^ k) (hv : v < 2 ^ k) (hp : p < 2 ^ l) (hq : q < 2 ^ l) :
    (u / 2 ^ (k - m) = p / 2 ^ (l - m) ∧ v / 2 ^ (k - m) = q / 2 ^ (l - m)) ↔ cu_F k u v / cu_sz m = cu_F l p q / cu_sz m := by
  have bd : ∀ {k x : Nat}, m ≤ k → x < 2 ^ k → x / 2 ^ (k - m) < 2 ^ m := by
    intro k x h hx
    apply Nat.div_lt_of_lt_mul
    rw [← Nat.pow_add, show k - m + m = k by omega]
    exact hx
  have e1 := cu_par k hk m (by omega) u hu v hv
  have e2 := cu_par l hl m (by omega) p hp q hq
  constructor
  · intro h
    rw [e1, e2, h.1, h.2]
  · intro h
    rw [e1, e2] at h
    have t1 := (cu_tab m (by omega) _ (bd hmk hu) _ (bd hmk hv)).2.1
    have t2 := (cu_tab m (by omega) _ (bd hml hp) _ (bd hml hq)).2.1
    have e : cu_F m (u / 2 ^ (k - m)) (v / 2 ^ (k - m)) = cu_F m (p / 2 ^ (l - m)) (q / 2 ^ (l - m)) := by
      rw [← Nat.div_add_mod (cu_F m (u / 2 ^ (k - m)) (v / 2 ^ (k - m))) (cu_sz m), ← Nat.div_add_mod (cu_F m (p / 2 ^ (l - m)) (q / 2 ^ (l - m))) (cu_sz m), t1, t2, h]
    have i1 := cu_inv m (by omega) _ (bd hmk hu) _ (bd hmk hv)
    have i2 := cu_inv m (by omega) _ (bd hml hp) _ (bd hml hq)
    rw [e] at i1
    exact ⟨i1.1.symm.trans i2.1, i1.2.symm.trans i2.2⟩
/-- two squares' runs: one within the other, or apart -/
theorem cu_rel {k l a b : Nat} (hk : k < 5) (hl : l < 5) (ha : a % cu_sz k = 0) (hb : b % cu_sz l = 0) (hkl : k ≤ l) :
    (a / cu_sz k = b / cu_sz k → a ≤ b ∧ b + cu_sz l ≤ a + cu_sz k) ∧ (¬ a / cu_sz k = b / cu_sz k → a + cu_sz k ≤ b ∨ b + cu_sz l ≤ a) := by
  have hk' : k = 0 ∨ k = 1 ∨ k = 2 ∨ k = 3 ∨ k = 4 := by omega
  have hl' : l = 0 ∨ l = 1 ∨ l = 2 ∨ l = 3 ∨ l = 4 := by omega
  have s0 : cu_sz 0 = 256 := rfl
  have s1 : cu_sz 1 = 64 := rfl
  have s2 : cu_sz 2 = 16 := rfl
  have s3 : cu_sz 3 = 4 := rfl
  have s4 : cu_sz 4 = 1 := rfl
  rcases hk' with h | h | h | h | h <;> rcases hl' with g | g | g | g | g <;> subst h <;> subst g <;> first | omega | (simp only [s0, s1, s2, s3, s4] at ha hb ⊢; constructor <;> omega)
end
section
/-! Walks of the methods that only look: isSet, numberOf, cells, touched, largestAt, pieces. -/
/-- set d holds c stretches, the k-th one from (g k).1 to (g k).2 -/
def cu_set (a1 a2 a3 : Nat → Int32) (d c : Nat) (g : Nat → Nat × Nat) : Prop :=
  a1 d = nI c ∧ ∀ k, k < c → (a2 (40 * d + k) = nI (g k).1 ∧ a3 (40 * d + k) = nI (g k).2) ∧ (g k).1 ≤ (g k).2 ∧ (g k).2 < 256
/-- the number of cells of the first stretches -/
def cu_cs (g : Nat → Nat × Nat) : Nat → Nat
  | 0 => 0
  | i + 1 => cu_cs g i + ((g i).2 - (g i).1 + 1)
/-- a sum of numbers -/
def cu_ts (T : Nat → Nat) : Nat → Nat
  | 0 => 0
  | i + 1 => cu_ts T i + T i
/-- the stretch from p to b is cut into t largest squares -/
def cu_pc : Nat → Nat → Nat → Prop
  | 0, p, b => b < p
  | t + 1, p, b => ∃ e, e < 5 ∧ p % 4 ^ e = 0 ∧ p + 4 ^ e ≤ b + 1 ∧ (e = 4 ∨ p % 4 ^ (e + 1) ≠ 0 ∨ b + 1 < p + 4 ^ (e + 1)) ∧ cu_pc t (p + 4 ^ e) b
section
variable {m cx cy : Int32} {a1 a2 a3 a4 a5 : Nat → Int32}
theorem cu_is {P : Int32 → Prop} {d : Nat} (hd : d < 4) (h : P 1) : wpX_isSet P (m, cx, cy, a1, a2, a3, a4, a5) (nI d) :=
  br_f (nI_pos (by omega)) (br_f (nI_nlt (a := 3) (b := d) (by omega) (by omega)) h)
theorem cu_turn {post : Int32 → Prop} {n : Nat} {p q x W W' : Int32} (h0 : ¬ W ≤ 0) (hw : W / 2 = W')
    (H : wX_numberOf_12 post m cx cy a1 a2 a3 a4 a5 n (cu_st W (p, q, x)).1 (cu_st W (p, q, x)).2.1 (cu_st W (p, q, x)).2.2 W') :
    wX_numberOf_12 post m cx cy a1 a2 a3 a4 a5 (n + 1) p q x W := by
  refine br_f h0 (br_c (fun ha => ?_) (fun ha => ?_))
  · refine br_c (fun hb => ?_) (fun hb => ?_)
    · have e : cu_st W (p, q, x) = (q, p, 4 * x + ((3 * 0) ^^^ 0)) := by
        unfold cu_st; dsimp only; rw [if_pos ha, if_pos hb]
      rw [e] at H
      exact nm_e (br_f (by decide) (br_t rfl (br_t rfl ⟨by decide, nm_r hw H⟩)))
    · have e : cu_st W (p, q, x) = (p, q, 4 * x + ((3 * 0) ^^^ 1)) := by
        unfold cu_st; dsimp only; rw [if_pos ha, if_neg hb]
      rw [e] at H
      exact nm_e (br_t rfl ⟨by decide, nm_r hw H⟩)
  · refine br_c (fun hb => ?_) (fun hb => ?_)
    · have e : cu_st W (p, q, x) = (15 - q, 15 - p, 4 * x + ((3 * 1) ^^^ 0)) := by
        unfold cu_st; dsimp only; rw [if_neg ha, if_pos hb]
      rw [e] at H
      exact nm_e (br_f (by decide) (br_f (by decide) (br_f (by decide) (nm_e ⟨by decide, nm_r hw H⟩))))
    · have e : cu_st W (p, q, x) = (p, q, 4 * x + ((3 * 1) ^^^ 1)) := by
        unfold cu_st; dsimp only; rw [if_neg ha, if_neg hb]
      rw [e] at H
      exact nm_e (br_t rfl ⟨by decide, nm_r hw H⟩)
theorem cu_number {post : Int32 → Prop} {x y : Int32} (h : post (cu_num x y)) : wpX_numberOf post (m, cx, cy, a1, a2, a3, a4, a5) x y := by
  unfold wpX_numberOf
  dsimp only
  refine ⟨5, ?_⟩
  refine cu_turn (W' := 4) (by decide) (by decide) ?_
  refine cu_turn (W' := 2) (by decide) (by decide) ?_
  refine cu_turn (W' := 1) (by decide) (by decide) ?_
  refine cu_turn (W' := 0) (by decide) (by decide) ?_
  exact br_t (by decide) h
theorem cu_end {d c : Nat} {g : Nat → Nat × Nat} (hd : d < 5) (h : cu_set a1 a2 a3 d c g) : 40 * nI d + a1 (nI d).toNatClampNeg = nI (40 * d + c) := by
  rw [nI_clamp (by omega), h.1]
  show nI 40 * nI d + nI c = _
  rw [pk_mul, nI_add]
theorem cu_cells {post : Int32 → Prop} {d c : Nat} {g : Nat → Nat × Nat} (hd : d < 4) (hc : c ≤ 40) (hs : cu_set a1 a2 a3 d c g) (hp : post (nI (cu_cs g c))) :
    wpX_cells post (m, cx, cy, a1, a2, a3, a4, a5) (nI d) := by
  unfold wpX_cells
  dsimp only
  refine cu_is hd (br_f (by decide) (nm_r (e' := nI (40 * d)) (pk_mul 40 d) ?_))
  refine pk_loop (fun n i s => wX_cells_17 post (nI d) m cx cy a1 a2 a3 a4 a5 n s (nI (40 * d + i))) (fun i s => s = nI (cu_cs g i)) c 0 0 (Nat.zero_le _) rfl ?_ ?_
  · intro n s h
    subst h
    exact ⟨pk_in d 5 (by omega), pk_le (40 * d + c) (40 * d + c) (fun _ => hp) (fun z => absurd z (by omega)) (cu_end (by omega) hs)⟩
  · intro n i s hi h hw
    subst h
    obtain ⟨⟨e2, e3⟩, w1, w2⟩ := hs.2 i hi
    refine ⟨pk_in d 5 (by omega), pk_le (40 * d + c) (40 * d + i) (fun z => absurd z (by omega)) (fun _ => ⟨pk_in (40 * d + i) 200 (by omega), pk_in (40 * d + i) 200 (by omega), nm_r ?_ (nm_r (nI_1 _) (hw _ rfl))⟩) (cu_end (by omega) hs)⟩
    rw [nI_clamp (by omega), e2, e3, pk_sub w1, nI_1, nI_add]
    rfl
theorem cu_touched {post : Int32 → Prop} {d c : Nat} {g : Nat → Nat × Nat} (hd : d < 4) (hc : c ≤ 40) (hs : cu_set a1 a2 a3 d c g) (hp : post (if c = 0 then 0 else 1)) :
    wpX_touched post (m, cx, cy, a1, a2, a3, a4, a5) (nI d) 0 := by
  unfold wpX_touched
  dsimp only
  refine cu_is hd (br_f (by decide) (br_f (by decide) (br_t (by decide) (nm_r (e' := 8) (by decide) (nm_r (e' := nI (40 * d)) (pk_mul 40 d) ?_)))))
  refine pk_loop (σ := Int32 × Int32) (fun n i s => wX_touched_38 post (nI d) 8 m cx cy a1 a2 a3 a4 a5 n s.1 s.2 (nI (40 * d + i))) (fun i s => s = if i = 0 then (0, -1) else (1, 0)) c 0 (0, -1) (Nat.zero_le _) rfl ?_ ?_
  · intro n s h
    subst h
    refine ⟨pk_in d 5 (by omega), pk_le (40 * d + c) (40 * d + c) (fun _ => ?_) (fun z => absurd z (by omega)) (cu_end (by omega) hs)⟩
    by_cases e : c = 0
    · rw [if_pos e] at hp ⊢
      exact hp
    · rw [if_neg e] at hp ⊢
      exact hp
  · intro n i s hi h hw
    obtain ⟨⟨e2, e3⟩, w1, w2⟩ := hs.2 i hi
    have q2 : a2 (nI (40 * d + i)).toNatClampNeg >>> ((8 : Int32) &&& 31) = 0 := by rw [nI_clamp (by omega), e2]; exact cu_sh8 _ (by omega)
    have q3 : a3 (nI (40 * d + i)).toNatClampNeg >>> ((8 : Int32) &&& 31) = 0 := by rw [nI_clamp (by omega), e3]; exact cu_sh8 _ w2
    have hw' := hw (1, 0) (by rw [if_neg (Nat.succ_ne_zero i)])
    refine ⟨pk_in d 5 (by omega), pk_le (40 * d + c) (40 * d + i) (fun z => absurd z (by omega)) (fun _ => ⟨pk_in (40 * d + i) 200 (by omega), nm_r q2 ⟨pk_in (40 * d + i) 200 (by omega), nm_r q3 ?_⟩⟩) (cu_end (by omega) hs)⟩
    by_cases e : i = 0
    · rw [if_pos e] at h
      subst h
      exact br_f (by decide) (nm_r (e' := 1) (by decide) (nm_r (nI_1 _) hw'))
    · rw [if_neg e] at h
      subst h
      exact br_t rfl (nm_r (e' := 1) (by decide) (nm_r (e' := 1) (by decide) (nm_r (nI_1 _) hw')))
theorem cu_lgo {post : Int32 → Prop} {p b z n : Nat} (h0 : 0 < z) (hz : z < 256) (hm : p % (4 * z) = 0) (hb : p + 4 * z ≤ b + 1) (hbd : b < 256)
    (H : wX_largestAt_2 post (nI p) (nI b) m cx cy a1 a2 a3 a4 a5 n (nI (4 * z))) : wX_largestAt_2 post (nI p) (nI b) m cx cy a1 a2 a3 a4 a5 (n + 1) (nI z) := by
  have e4 : (4 : Int32) * nI z = nI (4 * z) := pk_mul 4 z
  refine pk_le 256 z (fun h => absurd h (by omega)) (fun _ => ⟨?_, ?_⟩)
  · rw [e4]
    exact nI_ne0 (by omega) (by omega)
  · rw [e4]
    refine br_t (by rw [pk_rem (by omega) (by omega) (by omega), hm]; rfl) ?_
    refine pk_lt b (p + 4 * z - 1) (fun h => absurd h (by omega)) (fun _ => nm_r (e' := nI (4 * z)) (by rw [Int32.mul_comm]; exact e4) H) rfl ?_
    rw [nI_add]
    exact pk_sub (a := p + 4 * z) (b := 1) (by omega)
theorem cu_lst {post : Int32 → Prop} {p b z n : Nat} (h0 : 0 < z) (hz : z ≤ 256) (hpp : p < 256) (hbd : b < 256) (hs : z = 256 ∨ p % (4 * z) ≠ 0 ∨ b + 1 < p + 4 * z)
    (hp : post (nI z)) : wX_largestAt_2 post (nI p) (nI b) m cx cy a1 a2 a3 a4 a5 (n + 1) (nI z) := by
  have e4 : (4 : Int32) * nI z = nI (4 * z) := pk_mul 4 z
  refine pk_le 256 z (fun h => hp) (fun _ => ⟨?_, ?_⟩)
  · rw [e4]
    exact nI_ne0 (by omega) (by omega)
  · rw [e4, pk_rem (by omega) (by omega) (by omega)]
    refine pk_eq (p % (4 * z)) 0 (fun h => ?_) (fun _ => hp) rfl rfl (by have := Nat.mod_le p (4 * z); omega)
    refine pk_lt b (p + 4 * z - 1) (fun _ => hp) (fun h => absurd hs (by omega)) rfl ?_
    rw [nI_add]
    exact pk_sub (a := p + 4 * z) (b := 1) (by omega)
theorem cu_lg {post : Int32 → Prop} {p b e : Nat} (he : e < 5) (h1 : p % 4 ^ e = 0) (h2 : p + 4 ^ e ≤ b + 1) (h3 : e = 4 ∨ p % 4 ^ (e + 1) ≠ 0 ∨ b + 1 < p + 4 ^ (e + 1)) (hb : b < 256)
    (hp : post (nI (4 ^ e))) : wpX_largestAt post (m, cx, cy, a1, a2, a3, a4, a5) (nI p) (nI b) := by
  unfold wpX_largestAt
  dsimp only
  refine ⟨5, ?_⟩
  show wX_largestAt_2 post (nI p) (nI b) m cx cy a1 a2 a3 a4 a5 5 (nI 1)
  have hh : e = 0 ∨ e = 1 ∨ e = 2 ∨ e = 3 ∨ e = 4 := by omega
  rcases hh with h | h | h | h | h <;> subst h
  · exact cu_lst (by omega) (by omega) (by omega) hb (by omega) hp
  · exact cu_lgo (by omega) (by omega) (by omega) (by omega) hb (cu_lst (by omega) (by omega) (by omega) hb (by omega) hp)
  · exact cu_lgo (by omega) (by omega) (by omega) (by omega) hb (cu_lgo (by omega) (by omega) (by omega) (by omega) hb (cu_lst (by omega) (by omega) (by omega) hb (by omega) hp))
  · exact cu_lgo (by omega) (by omega) (by omega) (by omega) hb (cu_lgo (by omega) (by omega) (by omega) (by omega) hb (cu_lgo (by omega) (by omega) (by omega) (by omega) hb (cu_lst (by omega) (by omega) (by omega) hb (by omega) hp)))
  · exact cu_lgo (by omega) (by omega) (by omega) (by omega) hb (cu_lgo (by omega) (by omega) (by omega) (by omega) hb (cu_lgo (by omega) (by omega) (by omega) (by omega) hb (cu_lgo (by omega) (by omega) (by omega) (by omega) hb (cu_lst (by omega) (by omega) (by omega) hb (by omega) hp))))
theorem cu_p40 {post : Int32 → Prop} {J17 : Int32 → Int32 → Prop} {x1 : Int32} {x b : Nat} (hx : x < 200) (hb : b < 256) (h3 : a3 x = nI b) :
    ∀ t p y : Nat, p ≤ 256 → cu_pc t p b → J17 (nI (y + t)) (nI (x + 1)) → wX_pieces_40 post J17 x1 (nI x) m cx cy a1 a2 a3 a4 a5 (t + 1) (nI y) (nI p) := by
  have e3 : a3 (nI x).toNatClampNeg = nI b := by rw [nI_clamp (by omega), h3]
  intro t
  induction t with
  | zero =>
    intro p y hp h H
    have h' : b < p := h
    exact ⟨pk_in x 200 hx, pk_lt b p (fun _ => nm_r (nI_1 x) H) (fun z => absurd z (by omega)) e3⟩
  | succ t ih =>
    intro p y hp h H
    obtain ⟨e, he, q1, q2, q3, q4⟩ := h
    have hpos : 0 < 4 ^ e := Nat.pow_pos (by omega)
    refine ⟨pk_in x 200 hx, pk_lt b p (fun z => absurd z (by omega)) (fun _ => ⟨pk_in x 200 hx, ?_⟩) e3⟩
    rw [e3]
    refine cu_lg he q1 q2 q3 hb (nm_r (nI_add _ _) (nm_r (nI_1 y) (ih (p + 4 ^ e) (y + 1) (by omega) q4 ?_)))
    rw [show y + 1 + t = y + (t + 1) by omega]
    exact H
theorem cu_pieces {post : Int32 → Prop} {d c : Nat} {g : Nat → Nat × Nat} {T : Nat → Nat} (hd : d < 4) (hc : c ≤ 40) (hs : cu_set a1 a2 a3 d c g)
    (hT : ∀ k, k < c → cu_pc (T k) (g k).1 (g k).2) (hp : post (nI (cu_ts T c))) : wpX_pieces post (m, cx, cy, a1, a2, a3, a4, a5) (nI d) := by
  unfold wpX_pieces
  dsimp only
  refine cu_is hd (br_f (by decide) (nm_r (e' := nI (40 * d)) (pk_mul 40 d) ?_))
  refine pk_loop (fun n i s => wX_pieces_17 post (nI d) m cx cy a1 a2 a3 a4 a5 n s (nI (40 * d + i))) (fun i s => s = nI (cu_ts T i)) c 0 0 (Nat.zero_le _) rfl ?_ ?_
  · intro n s h
    subst h
    exact ⟨pk_in d 5 (by omega), pk_le (40 * d + c) (40 * d + c) (fun _ => hp) (fun z => absurd z (by omega)) (cu_end (by omega) hs)⟩
  · intro n i s hi h hw
    subst h
    obtain ⟨⟨e2, e3⟩, w1, w2⟩ := hs.2 i hi
    refine ⟨pk_in d 5 (by omega), pk_le (40 * d + c) (40 * d + i) (fun z => absurd z (by omega)) (fun _ => ⟨pk_in (40 * d + i) 200 (by omega), nm_r (e' := nI (g i).1) (by rw [nI_clamp (by omega), e2]) ⟨T i + 1, ?_⟩⟩) (cu_end (by omega) hs)⟩
    exact cu_p40 (by omega) w2 e3 (T i) _ _ (by omega) (hT i hi) (hw _ rfl)
end
end
section
/-! make: the pure loop over two sets of at most one stretch each, and the walk. -/
def cu_b (z : Bool) : Int32 := match z with
  | true => 1
  | false => 0
/-- where the state changes next, for a set of c stretches (c = 0 or 1: from F to L) -/
def cu_nx (c F L p : Nat) : Nat := if c = 1 ∧ p ≤ L then (if F ≤ p then L + 1 else F) else 256
def cu_ia (c F L p : Nat) : Bool := decide (c = 1 ∧ p ≤ L ∧ F ≤ p)
/-- how far the pointer stands behind the first place -/
def cu_ix (c L p : Nat) : Nat := if c = 1 ∧ p ≤ L then 0 else c
def cu_hw (how : Nat) (x y : Bool) : Bool := if how = 0 then x && y else if how = 1 then x || y else x && !y
/-- append, on the list of made stretches, the latest one first -/
def cu_ap (M : List (Nat × Nat)) (p q : Nat) : List (Nat × Nat) := match M with
  | [] => [(p, q - 1)]
  | x :: t => if x.2 + 1 = p then (x.1, q - 1) :: t else (p, q - 1) :: x :: t
def cu_at : List (Nat × Nat) → Nat → Nat × Nat
  | [], _ => (0, 0)
  | x :: t, k => if k = t.length then x else cu_at t k
def cu_go (how cA FA LA cB FB LB : Nat) : Nat → Nat → List (Nat × Nat) → Option (List (Nat × Nat))
  | 0, _, _ => none
  | n + 1, p, M => if 256 ≤ p then some M else
    cu_go how cA FA LA cB FB LB n (min (cu_nx cA FA LA p) (cu_nx cB FB LB p))
      (if cu_hw how (cu_ia cA FA LA p) (cu_ia cB FB LB p) = true then cu_ap M p (min (cu_nx cA FA LA p) (cu_nx cB FB LB p)) else M)
def cu_md (a4 a5 : Nat → Int32) (M : List (Nat × Nat)) : Prop :=
  ∀ k, k < M.length → (a4 k = nI (cu_at M k).1 ∧ a5 k = nI (cu_at M k).2) ∧ (cu_at M k).1 ≤ (cu_at M k).2 ∧ (cu_at M k).2 < 256
theorem cu_ap_len (M : List (Nat × Nat)) (p q : Nat) : M.length ≤ (cu_ap M p q).length := by
  cases M with
  | nil => exact Nat.zero_le _
  | cons x t =>
    unfold cu_ap
    dsimp only
    split
    · exact Nat.le_refl _
    · exact Nat.le_succ _
theorem cu_go_len {how cA FA LA cB FB LB : Nat} {R : List (Nat × Nat)} : ∀ (n p : Nat) (M : List (Nat × Nat)), cu_go how cA FA LA cB FB LB n p M = some R → M.length ≤ R.length := by
  intro n
  induction n with
  | zero => intro p M h; exact absurd h (by simp [cu_go])
  | succ n ih =>
    intro p M h
    rw [cu_go] at h
    split at h
    · rw [Option.some.inj h]
      exact Nat.le_refl _
    · have := ih _ _ h
      split at this
      · exact Nat.le_trans (cu_ap_len _ _ _) this
      · exact this
theorem cu_m1 {x p : Nat} (hx : x < 256) (hp : p ≤ 256) : nI x = nI p - 1 ↔ x + 1 = p := by
  constructor
  · intro h
    have : nI (x + 1) = nI p := by rw [← nI_1, h, Int32.sub_add_cancel]
    exact (nI_eq (by omega) (by omega)).mp this
  · intro h
    rw [← h, nI_pred]
theorem cu_qm {q : Nat} (hq : 0 < q) : nI q - 1 = nI (q - 1) := pk_sub (a := q) (b := 1) hq
section
variable {m cx cy : Int32} {a1 a2 a3 a4 a5 : Nat → Int32}
theorem cu_a38 {post : St2 → Prop} {M : List (Nat × Nat)} {p q : Nat} (hM : cu_md a4 a5 M) (hl : M.length < 84) (hpq : p < q) (hq : q ≤ 256)
    (H : ∀ b4 b5, cu_md b4 b5 ((p, q - 1) :: M) → post (nI (M.length + 1), cx, cy, a1, a2, a3, b4, b5)) :
    wX_append_38 post (nI p) (nI q - 1) (nI M.length) cx cy a1 a2 a3 a4 a5 := by
  refine ⟨pk_in M.length 84 hl, nm_e ⟨pk_in M.length 84 hl, nm_e (nm_r (nI_1 _) (H _ _ ?_))⟩⟩
  intro k hk
  rw [nI_clamp (by omega), cu_qm (by omega), cu_16 p (by omega), cu_16 (q - 1) (by omega)]
  by_cases e : k = M.length
  · have ea : cu_at ((p, q - 1) :: M) k = (p, q - 1) := by rw [cu_at, if_pos e]
    rw [ea, e, pk_us, pk_us]
    exact ⟨⟨rfl, rfl⟩, by dsimp only; omega, by dsimp only; omega⟩
  · have ea : cu_at ((p, q - 1) :: M) k = cu_at M k := by rw [cu_at, if_neg e]
    rw [ea, pk_un e, pk_un e]
    rw [List.length_cons] at hk
    exact hM k (by omega)
theorem cu_app {post : St2 → Prop} {M : List (Nat × Nat)} {p q : Nat} (hM : cu_md a4 a5 M) (hl : M.length < 84) (hpq : p < q) (hq : q ≤ 256)
    (H : ∀ b4 b5, cu_md b4 b5 (cu_ap M p q) → post (nI (cu_ap M p q).length, cx, cy, a1, a2, a3, b4, b5)) :
    wpX_append post (nI M.length, cx, cy, a1, a2, a3, a4, a5) (nI p) (nI q - 1) := by
  unfold wpX_append
  dsimp only
  cases M with
  | nil => exact br_t (by decide) (cu_a38 hM hl hpq hq H)
  | cons x t =>
    have ht : (x :: t).length = t.length + 1 := rfl
    have hx := hM t.length (by omega)
    have ea : cu_at (x :: t) t.length = x := by rw [cu_at, if_pos rfl]
    rw [ea] at hx
    obtain ⟨⟨x4, x5⟩, x1, x2⟩ := hx
    have e1 : nI (x :: t).length - 1 = nI t.length := nI_pred _
    refine br_f (nI_nle (by omega) (by omega)) ?_
    rw [e1, nI_clamp (show t.length < 2 ^ 31 by omega), x5]
    refine ⟨pk_in t.length 84 (by omega), ek_if (cu_m1 x2 (by omega)) (fun z => ⟨pk_in t.length 84 (by omega), nm_e ?_⟩) (fun z => ?_)⟩
    · have eq : cu_ap (x :: t) p q = (x.1, q - 1) :: t := by unfold cu_ap; dsimp only; rw [if_pos z]
      rw [eq] at H
      refine H _ _ ?_
      intro k hk
      rw [cu_qm (by omega), cu_16 (q - 1) (by omega)]
      rw [List.length_cons] at hk
      by_cases e : k = t.length
      · have ek : cu_at ((x.1, q - 1) :: t) k = (x.1, q - 1) := by rw [cu_at, if_pos e]
        rw [ek, e, pk_us]
        exact ⟨⟨x4, rfl⟩, by dsimp only; omega, by dsimp only; omega⟩
      · have ek : cu_at ((x.1, q - 1) :: t) k = cu_at t k := by rw [cu_at, if_neg e]
        rw [ek, pk_un e]
        have := hM k (by omega)
        have ek' : cu_at (x :: t) k = cu_at t k := by rw [cu_at, if_neg e]
        rw [ek'] at this
        exact this
    · have eq : cu_ap (x :: t) p q = (p, q - 1) :: x :: t := by unfold cu_ap; dsimp only; rw [if_neg z]
      rw [eq] at H
      exact cu_a38 hM hl hpq hq H
section
variable {post : Int32 → St2 → Prop} {J44 : Int32 → Int32 → Int32 → Int32 → Int32 → Int32 → (Nat → Int32) → (Nat → Int32) → (Nat → Int32) → (Nat → Int32) → (Nat → Int32) → Prop} {x1 x2 x5 x6 x7 x8 x9 x10 x11 x12 : Int32}
theorem cu_301 {M : List (Nat × Nat)} {p q : Nat} (z : Bool) (hM : cu_md a4 a5 M) (hl : M.length < 84) (hpq : p < q) (hq : q ≤ 256)
    (H : ∀ b4 b5, cu_md b4 b5 (if z = true then cu_ap M p q else M) → J44 x5 x6 (nI q) (nI (if z = true then cu_ap M p q else M).length) cx cy a1 a2 a3 b4 b5) :
    wX_make_301 post J44 x1 x2 x5 x6 x7 x8 (nI p) (nI q) (cu_b z) (nI M.length) cx cy a1 a2 a3 a4 a5 := by
  cases z with
  | false => exact br_t rfl (H a4 a5 hM)
  | true => exact br_f (by decide) (cu_app hM hl hpq hq (fun b4 b5 h => H b4 b5 h))
theorem cu_241 {how : Nat} (hh : how < 3) (y z : Bool) (H : wX_make_301 post J44 x1 (nI how) x5 x6 x7 x8 x9 x12 (cu_b (cu_hw how y z)) m cx cy a1 a2 a3 a4 a5) :
    wX_make_241 post J44 x1 (nI how) x5 x6 x7 x8 x9 (cu_b y) (cu_b z) x12 m cx cy a1 a2 a3 a4 a5 := by
  have hc : how = 0 ∨ how = 1 ∨ how = 2 := by omega
  rcases hc with h | h | h <;> subst h <;> cases y <;> cases z
  · exact br_t rfl (br_t rfl H)
  · exact br_t rfl (br_t rfl H)
  · exact br_t rfl (br_f (by decide) (br_t rfl H))
  · exact br_t rfl (br_f (by decide) (br_f (by decide) H))
  · exact br_f (by decide) (br_t rfl (br_t rfl (br_t rfl H)))
  · exact br_f (by decide) (br_t rfl (br_t rfl (br_f (by decide) H)))
  · exact br_f (by decide) (br_t rfl (br_f (by decide) H))
  · exact br_f (by decide) (br_t rfl (br_f (by decide) H))
  · exact br_f (by decide) (br_f (by decide) (br_t rfl H))
  · exact br_f (by decide) (br_f (by decide) (br_t rfl H))
  · exact br_f (by decide) (br_f (by decide) (br_f (by decide) (br_t rfl H)))
  · exact br_f (by decide) (br_f (by decide) (br_f (by decide) (br_f (by decide) H)))
theorem cu_230 {y z : Nat} (hy : y ≤ 256) (hz : z ≤ 256) (H : wX_make_241 post J44 x1 x2 x5 x6 x7 x8 x9 x10 x11 (nI (min y z)) m cx cy a1 a2 a3 a4 a5) :
    wX_make_230 post J44 x1 x2 x5 x6 x7 x8 x9 x10 x11 (nI y) (nI z) m cx cy a1 a2 a3 a4 a5 := by
  refine pk_le y z (fun h => ?_) (fun h => ?_)
  · rw [Nat.min_eq_left h] at H
    exact H
  · rw [Nat.min_eq_right (by omega)] at H
    exact H
theorem cu_192 {b c F L p : Nat} (hb : b < 5) (hc : c ≤ 1) (hs : cu_set a1 a2 a3 b c (fun _ => (F, L)))
    (H : wX_make_230 post J44 x1 x2 x5 (nI (40 * b + cu_ix c L p)) x7 (nI (40 * b + c)) x9 x10 (cu_b (cu_ia c F L p)) x12 (nI (cu_nx c F L p)) m cx cy a1 a2 a3 a4 a5) :
    wX_make_192 post J44 x1 x2 x5 (nI (40 * b + cu_ix c L p)) x7 (nI (40 * b + c)) x9 x10 (cu_b (cu_ia c F L p)) x12 m cx cy a1 a2 a3 a4 a5 := by
  by_cases h : c = 1 ∧ p ≤ L
  · obtain ⟨⟨e2, e3⟩, w1, w2⟩ := hs.2 0 (by omega)
    have ei : cu_ix c L p = 0 := by unfold cu_ix; rw [if_pos h]
    rw [ei] at H ⊢
    refine pk_le (40 * b + c) (40 * b + 0) (fun z => absurd z (by omega)) (fun _ => ?_)
    rw [nI_clamp (show 40 * b + 0 < 2 ^ 31 by omega), e2, e3]
    by_cases g : F ≤ p
    · have ea : cu_ia c F L p = true := by unfold cu_ia; exact decide_eq_true (by omega)
      have en : cu_nx c F L p = L + 1 := by unfold cu_nx; rw [if_pos h, if_pos g]
      rw [ea, en] at H
      rw [ea]
      refine br_f (by decide) ⟨pk_in (40 * b + 0) 200 (by omega), ?_⟩
      dsimp only
      rw [nI_1]
      exact H
    · have ea : cu_ia c F L p = false := by unfold cu_ia; exact decide_eq_false (by omega)
      have en : cu_nx c F L p = F := by unfold cu_nx; rw [if_pos h, if_neg g]
      rw [ea, en] at H
      rw [ea]
      exact br_t rfl ⟨pk_in (40 * b + 0) 200 (by omega), H⟩
  · have ei : cu_ix c L p = c := by unfold cu_ix; rw [if_neg h]
    have en : cu_nx c F L p = 256 := by unfold cu_nx; rw [if_neg h]
    rw [ei, en] at H
    rw [ei]
    exact pk_le (40 * b + c) (40 * b + c) (fun _ => H) (fun z => absurd z (by omega))
theorem cu_152 {b c F L p : Nat} (hb : b < 5) (hc : c ≤ 1) (hs : cu_set a1 a2 a3 b c (fun _ => (F, L)))
    (H : wX_make_192 post J44 x1 x2 (nI (40 * b + cu_ix c L p)) x6 (nI (40 * b + c)) x8 x9 (cu_b (cu_ia c F L p)) x11 (nI (cu_nx c F L p)) m cx cy a1 a2 a3 a4 a5) :
    wX_make_152 post J44 x1 x2 (nI (40 * b + cu_ix c L p)) x6 (nI (40 * b + c)) x8 x9 (cu_b (cu_ia c F L p)) x11 m cx cy a1 a2 a3 a4 a5 := by
  by_cases h : c = 1 ∧ p ≤ L
  · obtain ⟨⟨e2, e3⟩, w1, w2⟩ := hs.2 0 (by omega)
    have ei : cu_ix c L p = 0 := by unfold cu_ix; rw [if_pos h]
    rw [ei] at H ⊢
    refine pk_le (40 * b + c) (40 * b + 0) (fun z => absurd z (by omega)) (fun _ => ?_)
    rw [nI_clamp (show 40 * b + 0 < 2 ^ 31 by omega), e2, e3]
    by_cases g : F ≤ p
    · have ea : cu_ia c F L p = true := by unfold cu_ia; exact decide_eq_true (by omega)
      have en : cu_nx c F L p = L + 1 := by unfold cu_nx; rw [if_pos h, if_pos g]
      rw [ea, en] at H
      rw [ea]
      refine br_f (by decide) ⟨pk_in (40 * b + 0) 200 (by omega), ?_⟩
      dsimp only
      rw [nI_1]
      exact H
    · have ea : cu_ia c F L p = false := by unfold cu_ia; exact decide_eq_false (by omega)
      have en : cu_nx c F L p = F := by unfold cu_nx; rw [if_pos h, if_neg g]
      rw [ea, en] at H
      rw [ea]
      exact br_t rfl ⟨pk_in (40 * b + 0) 200 (by omega), H⟩
  · have ei : cu_ix c L p = c := by unfold cu_ix; rw [if_neg h]
    have en : cu_nx c F L p = 256 := by unfold cu_nx; rw [if_neg h]
    rw [ei, en] at H
    rw [ei]
    exact pk_le (40 * b + c) (40 * b + c) (fun _ => H) (fun z => absurd z (by omega))
theorem cu_126 {b c F L p : Nat} (hb : b < 5) (hc : c ≤ 1) (hp : p ≤ 256) (hs : cu_set a1 a2 a3 b c (fun _ => (F, L)))
    (H : wX_make_152 post J44 x1 x2 x5 (nI (40 * b + cu_ix c L p)) x7 (nI (40 * b + c)) (nI p) x10 (cu_b (cu_ia c F L p)) m cx cy a1 a2 a3 a4 a5) :
    wX_make_126 post J44 x1 x2 x5 (nI (40 * b + cu_ix c L p)) x7 (nI (40 * b + c)) (nI p) x10 m cx cy a1 a2 a3 a4 a5 := by
  by_cases h : c = 1 ∧ p ≤ L
  · obtain ⟨⟨e2, e3⟩, w1, w2⟩ := hs.2 0 (by omega)
    dsimp only at e2 e3 w1 w2
    have ei : cu_ix c L p = 0 := by unfold cu_ix; rw [if_pos h]
    rw [ei] at H ⊢
    refine pk_le (40 * b + c) (40 * b + 0) (fun z => absurd z (by omega)) (fun _ => ⟨pk_in (40 * b + 0) 200 (by omega), ?_⟩)
    rw [nI_clamp (show 40 * b + 0 < 2 ^ 31 by omega), e2]
    refine pk_lt p F (fun g => ?_) (fun g => ?_)
    · have ea : cu_ia c F L p = false := by unfold cu_ia; exact decide_eq_false (by omega)
      rw [ea] at H
      exact H
    · have ea : cu_ia c F L p = true := by unfold cu_ia; exact decide_eq_true (by omega)
      rw [ea] at H
      exact H
  · have ei : cu_ix c L p = c := by unfold cu_ix; rw [if_neg h]
    have ea : cu_ia c F L p = false := by unfold cu_ia; exact decide_eq_false (by omega)
    rw [ei, ea] at H
    rw [ei]
    exact pk_le (40 * b + c) (40 * b + c) (fun _ => H) (fun z => absurd z (by omega))
theorem cu_102 {b c F L p : Nat} (hb : b < 5) (hc : c ≤ 1) (hp : p ≤ 256) (hs : cu_set a1 a2 a3 b c (fun _ => (F, L)))
    (H : wX_make_126 post J44 x1 x2 (nI (40 * b + cu_ix c L p)) x6 (nI (40 * b + c)) x8 (nI p) (cu_b (cu_ia c F L p)) m cx cy a1 a2 a3 a4 a5) :
    wX_make_102 post J44 x1 x2 (nI (40 * b + cu_ix c L p)) x6 (nI (40 * b + c)) x8 (nI p) m cx cy a1 a2 a3 a4 a5 := by
  by_cases h : c = 1 ∧ p ≤ L
  · obtain ⟨⟨e2, e3⟩, w1, w2⟩ := hs.2 0 (by omega)
    dsimp only at e2 e3 w1 w2
    have ei : cu_ix c L p = 0 := by unfold cu_ix; rw [if_pos h]
    rw [ei] at H ⊢
    refine pk_le (40 * b + c) (40 * b + 0) (fun z => absurd z (by omega)) (fun _ => ⟨pk_in (40 * b + 0) 200 (by omega), ?_⟩)
    rw [nI_clamp (show 40 * b + 0 < 2 ^ 31 by omega), e2]
    refine pk_lt p F (fun g => ?_) (fun g => ?_)
    · have ea : cu_ia c F L p = false := by unfold cu_ia; exact decide_eq_false (by omega)
      rw [ea] at H
      exact H
    · have ea : cu_ia c F L p = true := by unfold cu_ia; exact decide_eq_true (by omega)
      rw [ea] at H
      exact H
  · have ei : cu_ix c L p = c := by unfold cu_ix; rw [if_neg h]
    have ea : cu_ia c F L p = false := by unfold cu_ia; exact decide_eq_false (by omega)
    rw [ei, ea] at H
    rw [ei]
    exact pk_le (40 * b + c) (40 * b + c) (fun _ => H) (fun z => absurd z (by omega))
theorem cu_77 {b c F L p i : Nat} (hb : b < 5) (hc : c ≤ 1) (hp : p ≤ 256) (hs : cu_set a1 a2 a3 b c (fun _ => (F, L))) (hi : i ≤ c) (hj : i = 0 ∨ L < p)
    (H : wX_make_102 post J44 x1 x2 x5 (nI (40 * b + cu_ix c L p)) x7 (nI (40 * b + c)) (nI p) m cx cy a1 a2 a3 a4 a5) :
    ∃ n, wX_make_77 post J44 x1 x2 x5 x7 (nI (40 * b + c)) (nI p) m cx cy a1 a2 a3 a4 a5 n (nI (40 * b + i)) := by
  by_cases h : c = 1 ∧ p ≤ L
  · obtain ⟨⟨e2, e3⟩, w1, w2⟩ := hs.2 0 (by omega)
    dsimp only at e2 e3 w1 w2
    have ei : cu_ix c L p = 0 := by unfold cu_ix; rw [if_pos h]
    have i0 : i = 0 := by omega
    subst i0
    rw [ei] at H
    refine ⟨1, pk_le (40 * b + c) (40 * b + 0) (fun z => absurd z (by omega)) (fun _ => ⟨pk_in (40 * b + 0) 200 (by omega), ?_⟩)⟩
    rw [nI_clamp (show 40 * b + 0 < 2 ^ 31 by omega), e3]
    exact br_t (nI_le (by omega) (by omega)) H
  · have ei : cu_ix c L p = c := by unfold cu_ix; rw [if_neg h]
    rw [ei] at H
    by_cases e : i = c
    · subst e
      exact ⟨1, pk_le (40 * b + i) (40 * b + i) (fun _ => H) (fun z => absurd z (by omega))⟩
    · have i0 : i = 0 := by omega
      have c1 : c = 1 := by omega
      obtain ⟨⟨e2, e3⟩, w1, w2⟩ := hs.2 0 (by omega)
      dsimp only at e2 e3 w1 w2
      subst i0 c1
      refine ⟨2, pk_le (40 * b + 1) (40 * b + 0) (fun z => absurd z (by omega)) (fun _ => ⟨pk_in (40 * b + 0) 200 (by omega), ?_⟩)⟩
      rw [nI_clamp (show 40 * b + 0 < 2 ^ 31 by omega), e3]
      exact br_f (nI_ge (by omega) (by omega)) (nm_r (nI_1 _) (pk_le (40 * b + 1) (40 * b + 1) (fun _ => H) (fun z => absurd z (by omega))))
theorem cu_52 {b c F L p i : Nat} (hb : b < 5) (hc : c ≤ 1) (hp : p ≤ 256) (hs : cu_set a1 a2 a3 b c (fun _ => (F, L))) (hi : i ≤ c) (hj : i = 0 ∨ L < p)
    (H : ∃ n, wX_make_77 post J44 x1 x2 (nI (40 * b + cu_ix c L p)) (nI (40 * b + c)) x8 (nI p) m cx cy a1 a2 a3 a4 a5 n x6) :
    ∃ n, wX_make_52 post J44 x1 x2 x6 (nI (40 * b + c)) x8 (nI p) m cx cy a1 a2 a3 a4 a5 n (nI (40 * b + i)) := by
  by_cases h : c = 1 ∧ p ≤ L
  · obtain ⟨⟨e2, e3⟩, w1, w2⟩ := hs.2 0 (by omega)
    dsimp only at e2 e3 w1 w2
    have ei : cu_ix c L p = 0 := by unfold cu_ix; rw [if_pos h]
    have i0 : i = 0 := by omega
    subst i0
    rw [ei] at H
    refine ⟨1, pk_le (40 * b + c) (40 * b + 0) (fun z => absurd z (by omega)) (fun _ => ⟨pk_in (40 * b + 0) 200 (by omega), ?_⟩)⟩
    rw [nI_clamp (show 40 * b + 0 < 2 ^ 31 by omega), e3]
    exact br_t (nI_le (by omega) (by omega)) H
  · have ei : cu_ix c L p = c := by unfold cu_ix; rw [if_neg h]
    rw [ei] at H
    by_cases e : i = c
    · subst e
      exact ⟨1, pk_le (40 * b + i) (40 * b + i) (fun _ => H) (fun z => absurd z (by omega))⟩
    · have i0 : i = 0 := by omega
      have c1 : c = 1 := by omega
      obtain ⟨⟨e2, e3⟩, w1, w2⟩ := hs.2 0 (by omega)
      dsimp only at e2 e3 w1 w2
      subst i0 c1
      refine ⟨2, pk_le (40 * b + 1) (40 * b + 0) (fun z => absurd z (by omega)) (fun _ => ⟨pk_in (40 * b + 0) 200 (by omega), ?_⟩)⟩
      rw [nI_clamp (show 40 * b + 0 < 2 ^ 31 by omega), e3]
      exact br_f (nI_ge (by omega) (by omega)) (nm_r (nI_1 _) (pk_le (40 * b + 1) (40 * b + 1) (fun _ => H) (fun z => absurd z (by omega))))
end
/-- set pictures: bounds of what comes next -/
theorem cu_nx_bd {c F L p : Nat} {b : Nat} (hs : cu_set a1 a2 a3 b c (fun _ => (F, L))) (hp : p < 256) : p < cu_nx c F L p ∧ cu_nx c F L p ≤ 256 := by
  unfold cu_nx
  split
  · rename_i h
    obtain ⟨_, w1, w2⟩ := hs.2 0 (by omega)
    dsimp only at w1 w2
    split
    · omega
    · omega
  · omega
theorem cu_44 {post : Int32 → St2 → Prop} {d how a b cA FA LA cB FB LB : Nat} {R : List (Nat × Nat)} (hh : how < 3) (ha : a < 5) (hb : b < 5) (hcA : cA ≤ 1) (hcB : cB ≤ 1)
    (hA : cu_set a1 a2 a3 a cA (fun _ => (FA, LA))) (hB : cu_set a1 a2 a3 b cB (fun _ => (FB, LB))) (hR : R.length ≤ 40)
    (H : ∀ b4 b5, cu_md b4 b5 R → ∃ fu : Nat, wX_make_340 post (nI d) (nI R.length) cx cy fu 0 a1 a2 a3 b4 b5) :
    ∀ (n p : Nat) (M : List (Nat × Nat)) (i j : Nat) (a4 a5 : Nat → Int32), cu_go how cA FA LA cB FB LB n p M = some R → p ≤ 256 → cu_md a4 a5 M → i ≤ cA → (i = 0 ∨ LA < p) → j ≤ cB → (j = 0 ∨ LB < p) →
      wX_make_44 post (nI d) (nI how) (nI (40 * a + cA)) (nI (40 * b + cB)) n (nI (40 * a + i)) (nI (40 * b + j)) (nI p) (nI M.length) cx cy a1 a2 a3 a4 a5 := by
  intro n
  induction n with
  | zero => intro p M i j a4 a5 h; exact absurd h (by simp [cu_go])
  | succ n ih =>
    intro p M i j a4 a5 h hp hM hi hi' hj hj'
    have hl := cu_go_len _ _ _ h
    rw [cu_go] at h
    by_cases hp' : 256 ≤ p
    · rw [if_pos hp'] at h
      have e := Option.some.inj h
      subst e
      exact pk_le 256 p (fun _ => pk_le M.length 40 (fun _ => H a4 a5 hM) (fun z => absurd z (by omega))) (fun z => absurd z (by omega))
    · rw [if_neg hp'] at h
      have n1 := cu_nx_bd (p := p) hA (by omega)
      have n2 := cu_nx_bd (p := p) hB (by omega)
      refine pk_le 256 p (fun z => absurd z (by omega)) (fun _ => ?_)
      refine cu_52 ha hcA hp hA hi hi' (cu_77 hb hcB hp hB hj hj' ?_)
      refine cu_102 ha hcA hp hA (cu_126 hb hcB hp hB (cu_152 ha hcA hA (cu_192 hb hcB hB (cu_230 n1.2 n2.2 (cu_241 hh _ _ ?_)))))
      refine cu_301 _ hM (by omega) (by omega) (by omega) (fun b4 b5 hb' => ?_)
      refine ih _ _ _ _ b4 b5 h (by omega) hb' ?_ ?_ ?_ ?_
      · unfold cu_ix; split <;> omega
      · unfold cu_ix; split <;> omega
      · unfold cu_ix; split <;> omega
      · unfold cu_ix; split <;> omega
theorem cu_340 {post : Int32 → St2 → Prop} {d : Nat} {R : List (Nat × Nat)} (hd : d < 4) (hM : cu_md a4 a5 R) (hR : R.length ≤ 40)
    (H : ∀ b2 b3, cu_set (upd a1 d (nI R.length)) b2 b3 d R.length (cu_at R) → (∀ j, (j < 40 * d ∨ 40 * d + 40 ≤ j) → b2 j = a2 j ∧ b3 j = a3 j) → post (nI (cu_cs (cu_at R) R.length)) (nI R.length, cx, cy, upd a1 d (nI R.length), b2, b3, a4, a5)) :
    ∃ fu : Nat, wX_make_340 post (nI d) (nI R.length) cx cy fu 0 a1 a2 a3 a4 a5 := by
  refine pk_loop (σ := (Nat → Int32) × (Nat → Int32)) (fun n i s => wX_make_340 post (nI d) (nI R.length) cx cy n (nI i) a1 s.1 s.2 a4 a5)
    (fun i s => (∀ k, k < i → s.1 (40 * d + k) = a4 k ∧ s.2 (40 * d + k) = a5 k) ∧ (∀ j, (j < 40 * d ∨ 40 * d + 40 ≤ j) → s.1 j = a2 j ∧ s.2 j = a3 j)) R.length 0 (a2, a3) (Nat.zero_le _) ⟨fun k hk => absurd hk (by omega), fun j _ => ⟨rfl, rfl⟩⟩ ?_ ?_
  · intro n s h
    obtain ⟨h1, h2⟩ := h
    refine pk_le R.length R.length (fun _ => ⟨pk_in d 5 (by omega), nm_r (e' := upd a1 d (nI R.length)) (by rw [nI_clamp (by omega), cu_8 _ (by omega)]) ?_⟩) (fun z => absurd z (by omega))
    have hs : cu_set (upd a1 d (nI R.length)) s.1 s.2 d R.length (cu_at R) := by
      refine ⟨pk_us, fun k hk => ?_⟩
      obtain ⟨⟨r4, r5⟩, w⟩ := hM k hk
      rw [(h1 k hk).1, (h1 k hk).2, r4, r5]
      exact ⟨⟨rfl, rfl⟩, w⟩
    exact cu_cells hd hR hs (H s.1 s.2 hs h2)
  · intro n i s hi h hw
    obtain ⟨h1, h2⟩ := h
    obtain ⟨⟨r4, r5⟩, w1, w2⟩ := hM i hi
    have ix : 40 * nI d + nI i = nI (40 * d + i) := by
      show nI 40 * nI d + nI i = _
      rw [pk_mul, nI_add]
    have n4 : vp_nar .short (a4 (nI i).toNatClampNeg) = a4 i := by rw [nI_clamp (by omega), vp_nar_short, r4]; exact cu_16 _ (by omega)
    have n5 : vp_nar .short (a5 (nI i).toNatClampNeg) = a5 i := by rw [nI_clamp (by omega), vp_nar_short, r5]; exact cu_16 _ w2
    refine pk_le R.length i (fun z => absurd z (by omega)) (fun _ => ⟨pk_in i 84 (by omega), pk_in (40 * d + i) 200 (by omega) ix, nm_r (e' := upd s.1 (40 * d + i) (a4 i)) (by rw [ix, n4, nI_clamp (by omega)]) ⟨pk_in i 84 (by omega), pk_in (40 * d + i) 200 (by omega) ix, nm_r (e' := upd s.2 (40 * d + i) (a5 i)) (by rw [ix, n5, nI_clamp (by omega)]) (nm_r (nI_1 i) (hw (upd s.1 (40 * d + i) (a4 i), upd s.2 (40 * d + i) (a5 i)) ⟨?_, ?_⟩))⟩⟩)
    · intro k hk
      by_cases e : k = i
      · subst e
        exact ⟨pk_us, pk_us⟩
      · have ne : 40 * d + k ≠ 40 * d + i := by omega
        exact ⟨(pk_un ne).trans (h1 k (by omega)).1, (pk_un ne).trans (h1 k (by omega)).2⟩
    · intro j hj
      have ne : j ≠ 40 * d + i := by omega
      exact ⟨(pk_un ne).trans (h2 j hj).1, (pk_un ne).trans (h2 j hj).2⟩
/-- make: what it answers and leaves -/
theorem cu_make {post : Int32 → St2 → Prop} {d how a b cA FA LA cB FB LB : Nat} {R : List (Nat × Nat)} (hd : d < 4) (hh : how < 3) (ha : a < 5) (hb : b < 5) (hcA : cA ≤ 1) (hcB : cB ≤ 1)
    (hA : cu_set a1 a2 a3 a cA (fun _ => (FA, LA))) (hB : cu_set a1 a2 a3 b cB (fun _ => (FB, LB))) (hR : R.length ≤ 40) (hg : ∃ n, cu_go how cA FA LA cB FB LB n 0 [] = some R)
    (H : ∀ f b2 b3 b4 b5, cu_set (upd a1 d (nI R.length)) b2 b3 d R.length (cu_at R) → (∀ j, (j < 40 * d ∨ 40 * d + 40 ≤ j) → b2 j = a2 j ∧ b3 j = a3 j) → post (nI (cu_cs (cu_at R) R.length)) (f, cx, cy, upd a1 d (nI R.length), b2, b3, b4, b5)) :
    wpX_make post (m, cx, cy, a1, a2, a3, a4, a5) (nI d) (nI how) (nI a) (nI b) := by
  unfold wpX_make
  dsimp only
  obtain ⟨n, hn⟩ := hg
  refine nm_r (e' := nI (40 * a + 0)) (pk_mul 40 a) (nm_r (e' := nI (40 * b + 0)) (pk_mul 40 b) ⟨pk_in a 5 ha, nm_r (e' := nI (40 * a + cA)) ?_ ⟨pk_in b 5 hb, nm_r (e' := nI (40 * b + cB)) ?_ ⟨n, ?_⟩⟩⟩)
  · rw [nI_clamp (by omega), hA.1, nI_add]
    rfl
  · rw [nI_clamp (by omega), hB.1, nI_add]
    rfl
  · exact cu_44 hh ha hb hcA hcB hA hB hR (fun b4 b5 hM => cu_340 hd hM hR (fun b2 b3 => H _ b2 b3 b4 b5)) n 0 [] 0 0 a4 a5 hn (by omega) (fun k hk => absurd hk (Nat.not_lt_zero k)) (by omega) (Or.inl rfl) (by omega) (Or.inl rfl)
end
end
section
/-! change and combine. -/
theorem cu_keep {a1 a2 a3 b1 b2 b3 : Nat → Int32} {d e c : Nat} {g : Nat → Nat × Nat} (he : e < 4) (hed : e ≠ d) (hc : c ≤ 40) (hs : cu_set a1 a2 a3 e c g)
    (h1 : ∀ j, j ≠ d → j ≠ 4 → b1 j = a1 j) (h2 : ∀ j, (j < 40 * d ∨ 40 * d + 40 ≤ j) → j ≠ 160 → b2 j = a2 j ∧ b3 j = a3 j) : cu_set b1 b2 b3 e c g := by
  refine ⟨(h1 e hed (by omega)).trans hs.1, fun k hk => ?_⟩
  have := h2 (40 * e + k) (by omega) (by omega)
  rw [this.1, this.2]
  exact hs.2 k hk
section
variable {m cx cy : Int32} {a1 a2 a3 a4 a5 : Nat → Int32}
theorem cu_change {post : Int32 → St2 → Prop} {d k u v c F L how : Nat} {p2 : Int32} {R : List (Nat × Nat)} (hd : d < 4) (hk : k < 5) (hu : u < 2 ^ k) (hv : v < 2 ^ k) (hc : c ≤ 1)
    (hs : cu_set a1 a2 a3 d c (fun _ => (F, L))) (hp2 : (p2 = 0 ∧ how = 2) ∨ (¬ p2 = 0 ∧ how = 1)) (hR : R.length ≤ 40) (hg : ∃ n, cu_go how c F L 1 (cu_F k u v) (cu_F k u v + cu_sz k - 1) n 0 [] = some R)
    (H : ∀ f b1 b2 b3 b4 b5, cu_set b1 b2 b3 d R.length (cu_at R) → (∀ j, j ≠ d → j ≠ 4 → b1 j = a1 j) → (∀ j, (j < 40 * d ∨ 40 * d + 40 ≤ j) → j ≠ 160 → b2 j = a2 j ∧ b3 j = a3 j) → post (nI (cu_cs (cu_at R) R.length)) (f, cx, cy, b1, b2, b3, b4, b5)) :
    wpX_change post (m, cx, cy, a1, a2, a3, a4, a5) (nI d) (1024 * nI k + 32 * nI u + nI v) p2 := by
  obtain ⟨q0, q1, q2, q3⟩ := cu_sq k hk u hu v hv
  obtain ⟨l0, l1, l2, l3, _⟩ := cu_lev k hk
  obtain ⟨t0, t1, t2⟩ := cu_tab k hk u hu v hv
  obtain ⟨z0, z1⟩ := cu_szs k hk
  have p16 : (2 : Nat) ^ k ≤ 2 ^ 4 := Nat.pow_le_pow_right (by omega) (by omega)
  unfold wpX_change
  dsimp only
  refine cu_is hd (br_f (by decide) (br_t q0 (nm_r q1 (nm_r q2 (nm_r q3 (br_f l0 ?_))))))
  rw [l1, l2]
  refine br_f (nI_ge hu (by omega)) (br_t (nI_lt hv (by omega)) (nm_e (nm_r l3 ?_)))
  rw [pk_mul, pk_mul]
  refine cu_number (nm_r (e' := nI (cu_F k u v)) t0 (nm_e (nm_r (e' := upd a2 160 (nI (cu_F k u v))) (by rw [cu_16 _ (by omega)]) (nm_r (e' := upd a3 160 (nI (cu_F k u v + cu_sz k - 1))) ?_ ?_))))
  · rw [nI_add, cu_qm (by omega), cu_16 _ (by omega)]
  · have hs' : cu_set (upd a1 4 1) (upd a2 160 (nI (cu_F k u v))) (upd a3 160 (nI (cu_F k u v + cu_sz k - 1))) d c (fun _ => (F, L)) := by
      refine ⟨(pk_un (by omega)).trans hs.1, fun k hk => ?_⟩
      rw [pk_un (show 40 * d + k ≠ 160 by omega), pk_un (show 40 * d + k ≠ 160 by omega)]
      exact hs.2 k hk
    have ho : cu_set (upd a1 4 1) (upd a2 160 (nI (cu_F k u v))) (upd a3 160 (nI (cu_F k u v + cu_sz k - 1))) 4 1 (fun _ => (cu_F k u v, cu_F k u v + cu_sz k - 1)) := by
      refine ⟨pk_us, fun k hk => ?_⟩
      have k0 : k = 0 := by omega
      subst k0
      exact ⟨⟨pk_us, pk_us⟩, by dsimp only; omega, by dsimp only; omega⟩
    have fin : ∀ how', how' = how → wX_change_140 post (nI d) (nI how') (nI d) m cx cy (upd a1 4 1) (upd a2 160 (nI (cu_F k u v))) (upd a3 160 (nI (cu_F k u v + cu_sz k - 1))) a4 a5 := by
      intro how' eh
      subst eh
      unfold wX_change_140
      refine cu_make (a := d) (b := 4) (how := how') hd (by omega) (by omega) (by omega) hc (by omega) hs' ho hR hg (fun f b2 b3 b4 b5 r1 r2 => ?_)
      refine H f _ b2 b3 b4 b5 r1 (fun j j1 j2 => ?_) (fun j j1 j2 => ?_)
      · rw [pk_un j1, pk_un j2]
      · obtain ⟨e2, e3⟩ := r2 j j1
        rw [e2, e3, pk_un j2, pk_un j2]
        exact ⟨rfl, rfl⟩
    rcases hp2 with ⟨e, eh⟩ | ⟨e, eh⟩
    · exact br_t e (fin 2 eh.symm)
    · exact br_f e (fin 1 eh.symm)
theorem cu_combine {post : Int32 → St2 → Prop} {d how a b cA FA LA cB FB LB : Nat} {R : List (Nat × Nat)} (hd : d < 4) (hh : how < 3) (ha : a < 4) (hb : b < 4) (hcA : cA ≤ 1) (hcB : cB ≤ 1)
    (hA : cu_set a1 a2 a3 a cA (fun _ => (FA, LA))) (hB : cu_set a1 a2 a3 b cB (fun _ => (FB, LB))) (hR : R.length ≤ 40) (hg : ∃ n, cu_go how cA FA LA cB FB LB n 0 [] = some R)
    (H : ∀ f b2 b3 b4 b5, cu_set (upd a1 d (nI R.length)) b2 b3 d R.length (cu_at R) → (∀ j, (j < 40 * d ∨ 40 * d + 40 ≤ j) → b2 j = a2 j ∧ b3 j = a3 j) → post (nI (cu_cs (cu_at R) R.length)) (f, cx, cy, upd a1 d (nI R.length), b2, b3, b4, b5)) :
    wpX_combine post (m, cx, cy, a1, a2, a3, a4, a5) (nI d) (nI how) (nI a) (nI b) := by
  unfold wpX_combine
  dsimp only
  refine cu_is hd (br_f (by decide) (cu_is ha (br_f (by decide) (cu_is hb (br_f (by decide) (br_f (nI_pos (by omega)) (br_t (nI_le (a := how) (b := 2) (by omega) (by omega)) ?_)))))))
  exact cu_make hd hh (by omega) (by omega) hcA hcB hA hB hR hg (fun f b2 b3 b4 b5 r1 r2 => H f b2 b3 b4 b5 r1 r2)
theorem cu_combineB {post : Int32 → St2 → Prop} {d a b : Nat} {p1 : Int32} (hd : d < 4) (ha : a < 4) (hb : b < 4) (h : p1 < 0 ∨ ¬ p1 ≤ 2)
    (H : post (-1) (m, cx, cy, a1, a2, a3, a4, a5)) :
    wpX_combine post (m, cx, cy, a1, a2, a3, a4, a5) (nI d) p1 (nI a) (nI b) := by
  unfold wpX_combine
  dsimp only
  refine cu_is hd (br_f (by decide) (cu_is ha (br_f (by decide) (cu_is hb (br_f (by decide) ?_)))))
  rcases h with h | h
  · exact br_t h H
  · exact br_c (fun _ => H) (fun _ => br_f h H)
end
end
section
/-! The plain law: what the pure loop gives for two runs, nested or apart. -/
def cu_put (z : Bool) (M : List (Nat × Nat)) (p q : Nat) : List (Nat × Nat) := if z = true ∧ p < q then cu_ap M p q else M
def cu_R (how cA FA LA cB FB LB p : Nat) (M R : List (Nat × Nat)) : Prop := ∃ n, cu_go how cA FA LA cB FB LB n p M = some R
theorem cu_seg {how cA FA LA cB FB LB : Nat} {M R : List (Nat × Nat)} (p q : Nat) (x y : Bool) (hpq : p ≤ q) (hq : q ≤ 256)
    (h : p < q → min (cu_nx cA FA LA p) (cu_nx cB FB LB p) = q ∧ cu_ia cA FA LA p = x ∧ cu_ia cB FB LB p = y)
    (H : cu_R how cA FA LA cB FB LB q (cu_put (cu_hw how x y) M p q) R) : cu_R how cA FA LA cB FB LB p M R := by
  by_cases e : p = q
  · subst e
    have : cu_put (cu_hw how x y) M p p = M := by unfold cu_put; rw [if_neg (by omega)]
    rw [this] at H
    exact H
  · obtain ⟨n, hn⟩ := H
    have hlt : p < q := by omega
    obtain ⟨h1, h2, h3⟩ := h hlt
    refine ⟨n + 1, ?_⟩
    rw [cu_go, if_neg (by omega), h1, h2, h3, ← hn]
    congr 1
    unfold cu_put
    by_cases z : cu_hw how x y = true
    · rw [if_pos z, if_pos ⟨z, hlt⟩]
    · rw [if_neg z, if_neg (fun t => z t.1)]
theorem cu_fin {how cA FA LA cB FB LB : Nat} {M R : List (Nat × Nat)} (h : M = R) : cu_R how cA FA LA cB FB LB 256 M R := by
  refine ⟨1, ?_⟩
  rw [cu_go, if_pos (Nat.le_refl _), h]
theorem cu_iaT {c F L p : Nat} (h : c = 1 ∧ p ≤ L ∧ F ≤ p) : cu_ia c F L p = true := by unfold cu_ia; exact decide_eq_true h
theorem cu_iaF {c F L p : Nat} (h : ¬ (c = 1 ∧ p ≤ L ∧ F ≤ p)) : cu_ia c F L p = false := by unfold cu_ia; exact decide_eq_false h
/-- nothing and a run -/
theorem cu_E {F L f l : Nat} (h1 : f ≤ l) (h2 : l < 256) : cu_R 1 0 F L 1 f l 0 [] [(f, l)] := by
  refine cu_seg 0 f false false (by omega) (by omega) (fun z => ⟨(by unfold cu_nx; (repeat' split) <;> omega), cu_iaF (by omega), cu_iaF (by omega)⟩) ?_
  refine cu_seg f (l + 1) false true (by omega) (by omega) (fun z => ⟨(by unfold cu_nx; (repeat' split) <;> omega), cu_iaF (by omega), cu_iaT (by omega)⟩) ?_
  refine cu_seg (l + 1) 256 false false (by omega) (by omega) (fun z => ⟨(by unfold cu_nx; (repeat' split) <;> omega), cu_iaF (by omega), cu_iaF (by omega)⟩) ?_
  refine cu_fin ?_
  have h3 : f < l + 1 := by omega
  simp [cu_put, cu_hw, cu_ap, h3]
/-- A ahead of B -/
theorem cu_D1 {how a a' b b' : Nat} {R : List (Nat × Nat)} (h1 : a ≤ a') (h2 : a' < b) (h3 : b ≤ b') (h4 : b' < 256)
    (hR : cu_put (cu_hw how false false) (cu_put (cu_hw how false true) (cu_put (cu_hw how false false) (cu_put (cu_hw how true false) (cu_put (cu_hw how false false) [] 0 a) a (a' + 1)) (a' + 1) b) b (b' + 1)) (b' + 1) 256 = R) :
    cu_R how 1 a a' 1 b b' 0 [] R := by
  refine cu_seg 0 a false false (by omega) (by omega) (fun z => ⟨(by unfold cu_nx; (repeat' split) <;> omega), cu_iaF (by omega), cu_iaF (by omega)⟩) ?_
  refine cu_seg a (a' + 1) true false (by omega) (by omega) (fun z => ⟨(by unfold cu_nx; (repeat' split) <;> omega), cu_iaT (by omega), cu_iaF (by omega)⟩) ?_
  refine cu_seg (a' + 1) b false false (by omega) (by omega) (fun z => ⟨(by unfold cu_nx; (repeat' split) <;> omega), cu_iaF (by omega), cu_iaF (by omega)⟩) ?_
  refine cu_seg b (b' + 1) false true (by omega) (by omega) (fun z => ⟨(by unfold cu_nx; (repeat' split) <;> omega), cu_iaF (by omega), cu_iaT (by omega)⟩) ?_
  refine cu_seg (b' + 1) 256 false false (by omega) (by omega) (fun z => ⟨(by unfold cu_nx; (repeat' split) <;> omega), cu_iaF (by omega), cu_iaF (by omega)⟩) ?_
  exact cu_fin hR
/-- B ahead of A -/
theorem cu_D2 {how a a' b b' : Nat} {R : List (Nat × Nat)} (h1 : b ≤ b') (h2 : b' < a) (h3 : a ≤ a') (h4 : a' < 256)
    (hR : cu_put (cu_hw how false false) (cu_put (cu_hw how true false) (cu_put (cu_hw how false false) (cu_put (cu_hw how false true) (cu_put (cu_hw how false false) [] 0 b) b (b' + 1)) (b' + 1) a) a (a' + 1)) (a' + 1) 256 = R) :
    cu_R how 1 a a' 1 b b' 0 [] R := by
  refine cu_seg 0 b false false (by omega) (by omega) (fun z => ⟨(by unfold cu_nx; (repeat' split) <;> omega), cu_iaF (by omega), cu_iaF (by omega)⟩) ?_
  refine cu_seg b (b' + 1) false true (by omega) (by omega) (fun z => ⟨(by unfold cu_nx; (repeat' split) <;> omega), cu_iaF (by omega), cu_iaT (by omega)⟩) ?_
  refine cu_seg (b' + 1) a false false (by omega) (by omega) (fun z => ⟨(by unfold cu_nx; (repeat' split) <;> omega), cu_iaF (by omega), cu_iaF (by omega)⟩) ?_
  refine cu_seg a (a' + 1) true false (by omega) (by omega) (fun z => ⟨(by unfold cu_nx; (repeat' split) <;> omega), cu_iaT (by omega), cu_iaF (by omega)⟩) ?_
  refine cu_seg (a' + 1) 256 false false (by omega) (by omega) (fun z => ⟨(by unfold cu_nx; (repeat' split) <;> omega), cu_iaF (by omega), cu_iaF (by omega)⟩) ?_
  exact cu_fin hR
/-- A within B -/
theorem cu_N1 {how a a' b b' : Nat} {R : List (Nat × Nat)} (h1 : b ≤ a) (h2 : a ≤ a') (h3 : a' ≤ b') (h4 : b' < 256)
    (hR : cu_put (cu_hw how false false) (cu_put (cu_hw how false true) (cu_put (cu_hw how true true) (cu_put (cu_hw how false true) (cu_put (cu_hw how false false) [] 0 b) b a) a (a' + 1)) (a' + 1) (b' + 1)) (b' + 1) 256 = R) :
    cu_R how 1 a a' 1 b b' 0 [] R := by
  refine cu_seg 0 b false false (by omega) (by omega) (fun z => ⟨(by unfold cu_nx; (repeat' split) <;> omega), cu_iaF (by omega), cu_iaF (by omega)⟩) ?_
  refine cu_seg b a false true (by omega) (by omega) (fun z => ⟨(by unfold cu_nx; (repeat' split) <;> omega), cu_iaF (by omega), cu_iaT (by omega)⟩) ?_
  refine cu_seg a (a' + 1) true true (by omega) (by omega) (fun z => ⟨(by unfold cu_nx; (repeat' split) <;> omega), cu_iaT (by omega), cu_iaT (by omega)⟩) ?_
  refine cu_seg (a' + 1) (b' + 1) false true (by omega) (by omega) (fun z => ⟨(by unfold cu_nx; (repeat' split) <;> omega), cu_iaF (by omega), cu_iaT (by omega)⟩) ?_
  refine cu_seg (b' + 1) 256 false false (by omega) (by omega) (fun z => ⟨(by unfold cu_nx; (repeat' split) <;> omega), cu_iaF (by omega), cu_iaF (by omega)⟩) ?_
  exact cu_fin hR
/-- B within A -/
theorem cu_N2 {how a a' b b' : Nat} {R : List (Nat × Nat)} (h1 : a ≤ b) (h2 : b ≤ b') (h3 : b' ≤ a') (h4 : a' < 256)
    (hR : cu_put (cu_hw how false false) (cu_put (cu_hw how true false) (cu_put (cu_hw how true true) (cu_put (cu_hw how true false) (cu_put (cu_hw how false false) [] 0 a) a b) b (b' + 1)) (b' + 1) (a' + 1)) (a' + 1) 256 = R) :
    cu_R how 1 a a' 1 b b' 0 [] R := by
  refine cu_seg 0 a false false (by omega) (by omega) (fun z => ⟨(by unfold cu_nx; (repeat' split) <;> omega), cu_iaF (by omega), cu_iaF (by omega)⟩) ?_
  refine cu_seg a b true false (by omega) (by omega) (fun z => ⟨(by unfold cu_nx; (repeat' split) <;> omega), cu_iaT (by omega), cu_iaF (by omega)⟩) ?_
  refine cu_seg b (b' + 1) true true (by omega) (by omega) (fun z => ⟨(by unfold cu_nx; (repeat' split) <;> omega), cu_iaT (by omega), cu_iaT (by omega)⟩) ?_
  refine cu_seg (b' + 1) (a' + 1) true false (by omega) (by omega) (fun z => ⟨(by unfold cu_nx; (repeat' split) <;> omega), cu_iaT (by omega), cu_iaF (by omega)⟩) ?_
  refine cu_seg (a' + 1) 256 false false (by omega) (by omega) (fun z => ⟨(by unfold cu_nx; (repeat' split) <;> omega), cu_iaF (by omega), cu_iaF (by omega)⟩) ?_
  exact cu_fin hR
/-- what the law expects of combine: cells, and pieces -/
def cu_due (how s t w : Nat) : Nat := if how = 0 then w else if how = 1 then s + t - w else s - w
def cu_pn (how : Nat) (me : Bool) : Nat := if how = 0 then (if me = true then 1 else 0) else if how = 1 then (if me = true then 1 else 2) else 1
def cu_w (me : Bool) (s t : Nat) : Nat := if me = true then min s t else 0
def cu_ok (how s t w : Nat) (me : Bool) (R : List (Nat × Nat)) : Prop :=
  R.length ≤ 2 ∧ cu_cs (cu_at R) R.length = cu_due how s t w ∧ (R.length = 0 ↔ cu_due how s t w = 0) ∧
  ((how = 0 ∨ me = false ∨ how = 1) → ∃ T : Nat → Nat, (∀ k, k < R.length → cu_pc (T k) (cu_at R k).1 (cu_at R k).2) ∧ cu_ts T R.length = cu_pn how me)
theorem cu_ok0 {how s t w : Nat} {me : Bool} (hd : cu_due how s t w = 0) (hp : (how = 0 ∨ me = false ∨ how = 1) → cu_pn how me = 0) : cu_ok how s t w me [] := by
  refine ⟨Nat.zero_le _, ?_, ?_, fun h => ⟨fun _ => 0, fun k hk => absurd hk (Nat.not_lt_zero k), ?_⟩⟩
  · rw [hd]
    rfl
  · exact ⟨fun _ => hd, fun _ => rfl⟩
  · rw [hp h]
    rfl
theorem cu_ok1 {how s t w f l n : Nat} {me : Bool} (hd : cu_due how s t w = l - f + 1) (hp : (how = 0 ∨ me = false ∨ how = 1) → cu_pn how me = n ∧ cu_pc n f l) : cu_ok how s t w me [(f, l)] := by
  refine ⟨(by show 1 ≤ 2; omega), ?_, ?_, fun h => ⟨fun _ => n, fun k hk => ?_, ?_⟩⟩
  · rw [hd]
    show 0 + (l - f + 1) = _
    omega
  · rw [hd]
    exact ⟨fun h => absurd h (Nat.succ_ne_zero _), fun h => absurd h (by omega)⟩
  · have k0 : k = 0 := Nat.lt_one_iff.mp hk
    subst k0
    exact (hp h).2
  · rw [(hp h).1]
    show 0 + n = n
    omega
theorem cu_ok2 {how s t w f l f' l' : Nat} {me : Bool} (hd : cu_due how s t w = (l - f + 1) + (l' - f' + 1)) (hp : (how = 0 ∨ me = false ∨ how = 1) → cu_pn how me = 2 ∧ cu_pc 1 f l ∧ cu_pc 1 f' l') :
    cu_ok how s t w me [(f', l'), (f, l)] := by
  refine ⟨(by show 2 ≤ 2; omega), ?_, ?_, fun h => ⟨fun _ => 1, fun k hk => ?_, ?_⟩⟩
  · rw [hd]
    show 0 + (l - f + 1) + (l' - f' + 1) = _
    omega
  · rw [hd]
    exact ⟨fun h => absurd h (Nat.succ_ne_zero _), fun h => absurd h (by omega)⟩
  · have hk' : k < 2 := hk
    have k0 : k = 0 ∨ k = 1 := by omega
    rcases k0 with k0 | k0 <;> subst k0
    · exact (hp h).2.1
    · exact (hp h).2.2
  · rw [(hp h).1]
    rfl
theorem cu_pD1 {how a b s t : Nat} (hh : how < 3) (hs : 0 < s) (ht : 0 < t) (h : a + s ≤ b) (hb : b + t ≤ 256) (pa : cu_pc 1 a (a + s - 1)) (pb : cu_pc 1 b (b + t - 1)) (pj : a + s = b → cu_pc 2 a (b + t - 1)) :
    ∃ R, cu_R how 1 a (a + s - 1) 1 b (b + t - 1) 0 [] R ∧ cu_ok how s t 0 false R := by
  have hc : how = 0 ∨ how = 1 ∨ how = 2 := by omega
  have e1 : a + s - 1 + 1 = a + s := by omega
  have e2 : b + t - 1 + 1 = b + t := by omega
  have l1 : a < a + s := by omega
  have l2 : b < b + t := by omega
  rcases hc with g | g | g <;> subst g
  · exact ⟨[], cu_D1 (by omega) (by omega) (by omega) (by omega) (by simp [cu_put, cu_hw]), cu_ok0 rfl (fun _ => rfl)⟩
  · by_cases j : a + s = b
    · refine ⟨[(a, b + t - 1)], cu_D1 (by omega) (by omega) (by omega) (by omega) ?_, cu_ok1 (n := 2) ?_ (fun _ => ⟨rfl, pj j⟩)⟩
      · have jl : a < b := by omega
        have jb : b - 1 + 1 = b := by omega
        rw [e1, e2]
        simp [cu_put, cu_hw, cu_ap, l1, l2, e1, j, jl, jb]
      · show s + t - 0 = _
        omega
    · refine ⟨[(b, b + t - 1), (a, a + s - 1)], cu_D1 (by omega) (by omega) (by omega) (by omega) ?_, cu_ok2 ?_ (fun _ => ⟨rfl, pa, pb⟩)⟩
      · rw [e1, e2]
        simp [cu_put, cu_hw, cu_ap, l1, l2, e1, j]
      · show s + t - 0 = _
        omega
  · refine ⟨[(a, a + s - 1)], cu_D1 (by omega) (by omega) (by omega) (by omega) ?_, cu_ok1 (n := 1) ?_ (fun _ => ⟨rfl, pa⟩)⟩
    · rw [e1, e2]
      simp [cu_put, cu_hw, cu_ap, l1, l2, e1]
    · show s - 0 = _
      omega
theorem cu_pD2 {how a b s t : Nat} (hh : how < 3) (hs : 0 < s) (ht : 0 < t) (h : b + t ≤ a) (ha : a + s ≤ 256) (pa : cu_pc 1 a (a + s - 1)) (pb : cu_pc 1 b (b + t - 1)) (pj : b + t = a → cu_pc 2 b (a + s - 1)) :
    ∃ R, cu_R how 1 a (a + s - 1) 1 b (b + t - 1) 0 [] R ∧ cu_ok how s t 0 false R := by
  have hc : how = 0 ∨ how = 1 ∨ how = 2 := by omega
  have e1 : a + s - 1 + 1 = a + s := by omega
  have e2 : b + t - 1 + 1 = b + t := by omega
  have l1 : a < a + s := by omega
  have l2 : b < b + t := by omega
  rcases hc with g | g | g <;> subst g
  · exact ⟨[], cu_D2 (by omega) (by omega) (by omega) (by omega) (by simp [cu_put, cu_hw]), cu_ok0 rfl (fun _ => rfl)⟩
  · by_cases j : b + t = a
    · refine ⟨[(b, a + s - 1)], cu_D2 (by omega) (by omega) (by omega) (by omega) ?_, cu_ok1 (n := 2) ?_ (fun _ => ⟨rfl, pj j⟩)⟩
      · have jl : b < a := by omega
        have jb : a - 1 + 1 = a := by omega
        rw [e1, e2]
        simp [cu_put, cu_hw, cu_ap, l1, l2, e2, j, jl, jb]
      · show s + t - 0 = _
        omega
    · refine ⟨[(a, a + s - 1), (b, b + t - 1)], cu_D2 (by omega) (by omega) (by omega) (by omega) ?_, cu_ok2 ?_ (fun _ => ⟨rfl, pb, pa⟩)⟩
      · rw [e1, e2]
        simp [cu_put, cu_hw, cu_ap, l1, l2, e2, j]
      · show s + t - 0 = _
        omega
  · refine ⟨[(a, a + s - 1)], cu_D2 (by omega) (by omega) (by omega) (by omega) ?_, cu_ok1 (n := 1) ?_ (fun _ => ⟨rfl, pa⟩)⟩
    · rw [e1, e2]
      simp [cu_put, cu_hw, cu_ap, l1, l2, e1]
    · show s - 0 = _
      omega
theorem cu_pN1 {how a b s t : Nat} (hh : how < 3) (hs : 0 < s) (h1 : b ≤ a) (h2 : a + s ≤ b + t) (hb : b + t ≤ 256) (pa : cu_pc 1 a (a + s - 1)) (pb : cu_pc 1 b (b + t - 1)) :
    ∃ R, cu_R how 1 a (a + s - 1) 1 b (b + t - 1) 0 [] R ∧ cu_ok how s t s true R := by
  have hc : how = 0 ∨ how = 1 ∨ how = 2 := by omega
  have e1 : a + s - 1 + 1 = a + s := by omega
  have e2 : b + t - 1 + 1 = b + t := by omega
  have l1 : a < a + s := by omega
  rcases hc with g | g | g <;> subst g
  · refine ⟨[(a, a + s - 1)], cu_N1 (by omega) (by omega) (by omega) (by omega) ?_, cu_ok1 (n := 1) ?_ (fun _ => ⟨rfl, pa⟩)⟩
    · rw [e1, e2]
      simp [cu_put, cu_hw, cu_ap, l1]
    · show s = _
      omega
  · refine ⟨[(b, b + t - 1)], cu_N1 (by omega) (by omega) (by omega) (by omega) ?_, cu_ok1 (n := 1) ?_ (fun _ => ⟨rfl, pb⟩)⟩
    · rw [e1, e2]
      by_cases x : b < a
      · have x1 : a - 1 + 1 = a := by omega
        by_cases y : a + s < b + t
        · simp [cu_put, cu_hw, cu_ap, l1, x, y, x1, e1]
        · have y1 : a + s = b + t := by omega
          simp [cu_put, cu_hw, cu_ap, l1, x, x1, e1, y1]
          omega
      · have x1 : b = a := by omega
        subst x1
        by_cases y : b + s < b + t
        · have y' : s < t := by omega
          simp [cu_put, cu_hw, cu_ap, l1, y', e1, hs]
        · have y1 : s = t := by omega
          subst y1
          simp [cu_put, cu_hw, cu_ap, l1, e1, hs]
    · show s + t - s = _
      omega
  · refine ⟨[], cu_N1 (by omega) (by omega) (by omega) (by omega) (by simp [cu_put, cu_hw]), cu_ok0 (Nat.sub_self s) (fun h => absurd h (by simp))⟩
theorem cu_pN2 {how a b s t : Nat} (hh : how < 3) (ht : 0 < t) (h1 : a ≤ b) (h2 : b + t ≤ a + s) (ha : a + s ≤ 256) (pa : cu_pc 1 a (a + s - 1)) (pb : cu_pc 1 b (b + t - 1)) :
    ∃ R, cu_R how 1 a (a + s - 1) 1 b (b + t - 1) 0 [] R ∧ cu_ok how s t t true R := by
  have hc : how = 0 ∨ how = 1 ∨ how = 2 := by omega
  have e1 : a + s - 1 + 1 = a + s := by omega
  have e2 : b + t - 1 + 1 = b + t := by omega
  have l2 : b < b + t := by omega
  rcases hc with g | g | g <;> subst g
  · refine ⟨[(b, b + t - 1)], cu_N2 (by omega) (by omega) (by omega) (by omega) ?_, cu_ok1 (n := 1) ?_ (fun _ => ⟨rfl, pb⟩)⟩
    · rw [e1, e2]
      simp [cu_put, cu_hw, cu_ap, l2]
    · show t = _
      omega
  · refine ⟨[(a, a + s - 1)], cu_N2 (by omega) (by omega) (by omega) (by omega) ?_, cu_ok1 (n := 1) ?_ (fun _ => ⟨rfl, pa⟩)⟩
    · rw [e1, e2]
      by_cases x : a < b
      · have x1 : b - 1 + 1 = b := by omega
        by_cases y : b + t < a + s
        · simp [cu_put, cu_hw, cu_ap, l2, x, y, x1, e2]
        · have y1 : b + t = a + s := by omega
          simp [cu_put, cu_hw, cu_ap, l2, x, x1, e2, y1]
          omega
      · have x1 : a = b := by omega
        subst x1
        by_cases y : a + t < a + s
        · have y' : t < s := by omega
          simp [cu_put, cu_hw, cu_ap, l2, y', e2, ht]
        · have y1 : t = s := by omega
          subst y1
          simp [cu_put, cu_hw, cu_ap, l2, e2, ht]
    · show s + t - t = _
      omega
  · have kn : ¬ ((2 : Nat) = 0 ∨ true = false ∨ (2 : Nat) = 1) := by simp
    by_cases x : a < b
    · by_cases y : b + t < a + s
      · refine ⟨[(b + t, a + s - 1), (a, b - 1)], cu_N2 (by omega) (by omega) (by omega) (by omega) ?_, cu_ok2 ?_ (fun h => absurd h kn)⟩
        · have x1 : ¬ b - 1 + 1 = b + t := by omega
          rw [e1, e2]
          simp [cu_put, cu_hw, cu_ap, x, y, x1]
        · show s - t = _
          omega
      · refine ⟨[(a, b - 1)], cu_N2 (by omega) (by omega) (by omega) (by omega) ?_, cu_ok1 (n := 0) ?_ (fun h => absurd h kn)⟩
        · rw [e1, e2]
          simp [cu_put, cu_hw, cu_ap, x, y]
        · show s - t = _
          omega
    · by_cases y : b + t < a + s
      · refine ⟨[(b + t, a + s - 1)], cu_N2 (by omega) (by omega) (by omega) (by omega) ?_, cu_ok1 (n := 0) ?_ (fun h => absurd h kn)⟩
        · rw [e1, e2]
          simp [cu_put, cu_hw, cu_ap, x, y]
        · show s - t = _
          omega
      · refine ⟨[], cu_N2 (by omega) (by omega) (by omega) (by omega) ?_, cu_ok0 ?_ (fun h => absurd h kn)⟩
        · rw [e1, e2]
          simp [cu_put, cu_hw, x, y]
        · show s - t = 0
          omega
theorem cu_pc1 {k a : Nat} (hk : k < 5) (ha : a % cu_sz k = 0) : cu_pc 1 a (a + cu_sz k - 1) := by
  have hp : 0 < cu_sz k := (cu_szs k hk).1
  refine ⟨4 - k, by omega, ha, ?_, Or.inr (Or.inr ?_), ?_⟩
  · show a + cu_sz k ≤ _
    omega
  · rw [Nat.pow_succ]
    show _ < a + cu_sz k * 4
    omega
  · show a + cu_sz k - 1 < a + cu_sz k
    omega
theorem cu_pc2h {k l a b : Nat} (hk : k < 5) (hl : l < 5) (ha : a % cu_sz k = 0) (hb : b % cu_sz l = 0) (h : a + cu_sz k = b) : 4 - k = 4 ∨ a % (cu_sz k * 4) ≠ 0 ∨ a + cu_sz k + cu_sz l < a + cu_sz k * 4 := by
  have hk' : k = 0 ∨ k = 1 ∨ k = 2 ∨ k = 3 ∨ k = 4 := by omega
  have hl' : l = 0 ∨ l = 1 ∨ l = 2 ∨ l = 3 ∨ l = 4 := by omega
  have s0 : cu_sz 0 = 256 := rfl
  have s1 : cu_sz 1 = 64 := rfl
  have s2 : cu_sz 2 = 16 := rfl
  have s3 : cu_sz 3 = 4 := rfl
  have s4 : cu_sz 4 = 1 := rfl
  rcases hk' with g | g | g | g | g <;> rcases hl' with j | j | j | j | j <;> subst g <;> subst j <;> simp only [s0, s1, s2, s3, s4] at ha hb h ⊢ <;> omega
theorem cu_pc2 {k l a b : Nat} (hk : k < 5) (hl : l < 5) (ha : a % cu_sz k = 0) (hb : b % cu_sz l = 0) (h : a + cu_sz k = b) : cu_pc 2 a (b + cu_sz l - 1) := by
  have hp : 0 < cu_sz k := (cu_szs k hk).1
  have hq : 0 < cu_sz l := (cu_szs l hl).1
  have hh := cu_pc2h hk hl ha hb h
  refine ⟨4 - k, by omega, ha, ?_, ?_, ?_⟩
  · show a + cu_sz k ≤ _
    omega
  · rw [Nat.pow_succ]
    show _ ∨ a % (cu_sz k * 4) ≠ 0 ∨ _ < a + cu_sz k * 4
    omega
  · show cu_pc 1 (a + cu_sz k) (b + cu_sz l - 1)
    rw [h]
    exact cu_pc1 hl hb
theorem cu_plain {how k l a b : Nat} {me : Bool} (hh : how < 3) (hk : k < 5) (hl : l < 5) (ha : a % cu_sz k = 0) (hb : b % cu_sz l = 0) (ha' : a + cu_sz k ≤ 256) (hb' : b + cu_sz l ≤ 256)
    (hm : me = true ↔ a / cu_sz (min k l) = b / cu_sz (min k l)) :
    ∃ R, cu_R how 1 a (a + cu_sz k - 1) 1 b (b + cu_sz l - 1) 0 [] R ∧ cu_ok how (cu_sz k) (cu_sz l) (cu_w me (cu_sz k) (cu_sz l)) me R := by
  have hp : 0 < cu_sz k := (cu_szs k hk).1
  have hq : 0 < cu_sz l := (cu_szs l hl).1
  have pa := cu_pc1 hk ha
  have pb := cu_pc1 hl hb
  have D : me = false → (a + cu_sz k ≤ b ∨ b + cu_sz l ≤ a) → ∃ R, cu_R how 1 a (a + cu_sz k - 1) 1 b (b + cu_sz l - 1) 0 [] R ∧ cu_ok how (cu_sz k) (cu_sz l) (cu_w me (cu_sz k) (cu_sz l)) me R := by
    intro e h
    subst e
    rcases h with h | h
    · exact cu_pD1 hh hp hq h hb' pa pb (fun j => cu_pc2 hk hl ha hb j)
    · exact cu_pD2 hh hp hq h ha' pa pb (fun j => cu_pc2 hl hk hb ha j)
  rcases Nat.le_total k l with h | h
  · rw [Nat.min_eq_left h] at hm
    obtain ⟨r1, r2⟩ := cu_rel hk hl ha hb h
    cases me with
    | false => exact D rfl (r2 (fun e => absurd (hm.mpr e) (by decide)))
    | true =>
      obtain ⟨n1, n2⟩ := r1 (hm.mp rfl)
      have ew : cu_w true (cu_sz k) (cu_sz l) = cu_sz l := by show min (cu_sz k) (cu_sz l) = _; omega
      rw [ew]
      exact cu_pN2 hh hq n1 n2 ha' pa pb
  · rw [Nat.min_eq_right h] at hm
    obtain ⟨r1, r2⟩ := cu_rel hl hk hb ha h
    cases me with
    | false => exact D rfl ((r2 (fun e => absurd (hm.mpr e.symm) (by decide))).symm)
    | true =>
      obtain ⟨n1, n2⟩ := r1 (hm.mp rfl).symm
      have ew : cu_w true (cu_sz k) (cu_sz l) = cu_sz k := by show min (cu_sz k) (cu_sz l) = _; omega
      rw [ew]
      exact cu_pN1 hh hp n1 n2 hb' pa pb
end
section
/-! The law's walk. -/
theorem cu_wc (me : Bool) (s t : Nat) : cu_w me s t = cu_w me t s := by
  unfold cu_w
  split
  · exact Nat.min_comm s t
  · rfl
theorem cu_wle (me : Bool) (s t : Nat) : cu_w me s t ≤ s ∧ cu_w me s t ≤ t := by
  unfold cu_w
  split
  · omega
  · omega
section
variable {post : Int32 → St0 → Prop} {mc ms kc ks : Nat} {f cx cy : Int32} {b1 b2 b3 b4 b5 : Nat → Int32} {k l u v p q : Nat}
theorem cu_472 {me : Bool} (hk : k < 5) (hu : u < 2 ^ k) (hv : v < 2 ^ k) (hl : l < 5) (hp : p < 2 ^ l) (hq : q < 2 ^ l)
    (hm : me = true ↔ cu_F k u v / cu_sz (min k l) = cu_F l p q / cu_sz (min k l)) (hs : cu_set b1 b2 b3 1 1 (fun _ => (cu_F l p q, cu_F l p q + cu_sz l - 1))) (H : post 1 ()) :
    wL_lawOf_472 post mc ms (nI k) (nI u) (nI v) (nI (cu_sz l)) (nI (cu_w me (cu_sz k) (cu_sz l))) kc ks f cx cy b1 b2 b3 b4 b5 := by
  obtain ⟨_, t1, t2⟩ := cu_tab k hk u hu v hv
  obtain ⟨_, r1, r2⟩ := cu_tab l hl p hp q hq
  obtain ⟨R, hg, o1, o2, _, _⟩ := cu_plain (how := 2) (k := l) (l := k) (me := me) (by omega) hl hk r1 t1 r2 t2 (by rw [Nat.min_comm]; exact hm.trans eq_comm)
  unfold wL_lawOf_472
  refine cu_change (d := 1) (how := 2) (R := R) (by omega) hk hu hv (Nat.le_refl 1) hs (Or.inl ⟨rfl, rfl⟩) (by omega) hg (fun f b1 b2 b3 b4 b5 _ _ _ => ?_)
  refine br_t ?_ H
  rw [o2, cu_wc me (cu_sz k), pk_sub (cu_wle me _ _).1]
  rfl
theorem cu_447 {x3 x4 x5 x12 x13 x16 z : Int32} {c n : Nat} {g : Nat → Nat × Nat} (hc : c ≤ 40) (hs : cu_set b1 b2 b3 2 c g)
    (h : x16 = 0 ∨ ∃ T : Nat → Nat, (∀ k, k < c → cu_pc (T k) (g k).1 (g k).2) ∧ cu_ts T c = n)
    (H : wL_lawOf_472 post mc ms x3 x4 x5 x12 x13 kc ks f cx cy b1 b2 b3 b4 b5) :
    wL_lawOf_447 post mc ms x3 x4 x5 x12 x13 x16 (nI n) z kc ks f cx cy b1 b2 b3 b4 b5 := by
  refine br_c (fun _ => H) (fun h0 => br_c (fun _ => ?_) (fun _ => H))
  rcases h with h | ⟨T, hT, hn⟩
  · exact absurd h h0
  · exact cu_pieces (d := 2) (by omega) hc hs hT (br_t (by rw [hn]) H)
theorem cu_398 {x2 x3 x4 x5 x6 x7 x8 x10 x12 x13 x16 x17 : Int32} (H : ∀ z, wL_lawOf_447 post mc ms x3 x4 x5 x12 x13 x16 x17 z kc ks f cx cy b1 b2 b3 b4 b5) :
    wL_lawOf_398 post mc ms x2 x3 x4 x5 x6 x7 x8 x10 x12 x13 x16 x17 kc ks f cx cy b1 b2 b3 b4 b5 :=
  br_c (fun _ => br_c (fun _ => br_c (fun _ => br_c (fun _ => H 0) (fun _ => br_c (fun _ => br_c (fun _ => H 1) (fun _ => H 0)) (fun _ => H 0))) (fun _ => H 0)) (fun _ => H 0)) (fun _ => H 0)
theorem cu_360 {x3 x4 x5 x6 x7 x8 x12 x13 x16 : Int32} {how : Nat} {me : Bool} (hh : how < 3)
    (H : wL_lawOf_398 post mc ms (nI how) x3 x4 x5 x6 x7 x8 (cu_b me) x12 x13 x16 (nI (cu_pn how me)) kc ks f cx cy b1 b2 b3 b4 b5) :
    wL_lawOf_360 post mc ms (nI how) x3 x4 x5 x6 x7 x8 (cu_b me) x12 x13 x16 kc ks f cx cy b1 b2 b3 b4 b5 := by
  have hc : how = 0 ∨ how = 1 ∨ how = 2 := by omega
  rcases hc with h | h | h <;> subst h <;> cases me
  · exact br_t rfl (br_t rfl H)
  · exact br_t rfl (br_f (by decide) H)
  · exact br_f (by decide) (br_t rfl (br_t rfl H))
  · exact br_f (by decide) (br_t rfl (br_f (by decide) H))
  · exact br_f (by decide) (br_f (by decide) H)
  · exact br_f (by decide) (br_f (by decide) H)
theorem cu_336 {x3 x4 x5 x6 x7 x8 x12 x13 z0 z1 : Int32} {how : Nat} {me : Bool} (hh : how < 3) (hz : z1 = z0)
    (H1 : (how = 0 ∨ me = false ∨ how = 1) → wL_lawOf_360 post mc ms (nI how) x3 x4 x5 x6 x7 x8 (cu_b me) x12 x13 1 kc ks f cx cy b1 b2 b3 b4 b5)
    (H0 : wL_lawOf_360 post mc ms (nI how) x3 x4 x5 x6 x7 x8 (cu_b me) x12 x13 0 kc ks f cx cy b1 b2 b3 b4 b5) :
    wL_lawOf_336 post mc ms (nI how) x3 x4 x5 x6 x7 x8 (cu_b me) x12 x13 z0 z1 kc ks f cx cy b1 b2 b3 b4 b5 := by
  refine br_t hz ?_
  refine pk_eq how 0 (fun h => H1 (Or.inl h)) (fun h => ?_)
  cases me with
  | false => exact br_t rfl (H1 (Or.inr (Or.inl rfl)))
  | true => exact br_f (by decide) (pk_eq how 1 (fun h => H1 (Or.inr (Or.inr h))) (fun h => H0))
theorem cu_290 {how : Nat} {me : Bool} {R : List (Nat × Nat)} (hh : how < 3) (hk : k < 5) (hu : u < 2 ^ k) (hv : v < 2 ^ k) (hl : l < 5) (hp : p < 2 ^ l) (hq : q < 2 ^ l)
    (hm : me = true ↔ cu_F k u v / cu_sz (min k l) = cu_F l p q / cu_sz (min k l)) (hs : cu_set b1 b2 b3 1 1 (fun _ => (cu_F l p q, cu_F l p q + cu_sz l - 1)))
    (h2 : cu_set b1 b2 b3 2 R.length (cu_at R)) (ho : cu_ok how (cu_sz k) (cu_sz l) (cu_w me (cu_sz k) (cu_sz l)) me R) (H : post 1 ()) :
    wL_lawOf_290 post mc ms (nI how) (nI k) (nI u) (nI v) (nI l) (nI p) (nI q) (cu_b me) (nI (cu_sz l)) (nI (cu_w me (cu_sz k) (cu_sz l)))
      (nI (cu_due how (cu_sz k) (cu_sz l) (cu_w me (cu_sz k) (cu_sz l)))) (nI (cu_due how (cu_sz k) (cu_sz l) (cu_w me (cu_sz k) (cu_sz l)))) (nI (cu_cs (cu_at R) R.length)) kc ks f cx cy b1 b2 b3 b4 b5 := by
  obtain ⟨o1, o2, o3, o4⟩ := ho
  have z1 := cu_szs k hk
  have z2 := cu_szs l hl
  have hdue : cu_due how (cu_sz k) (cu_sz l) (cu_w me (cu_sz k) (cu_sz l)) < 2 ^ 31 := by
    have := cu_wle me (cu_sz k) (cu_sz l)
    unfold cu_due
    split
    · omega
    · split
      · omega
      · omega
  have H472 : wL_lawOf_472 post mc ms (nI k) (nI u) (nI v) (nI (cu_sz l)) (nI (cu_w me (cu_sz k) (cu_sz l))) kc ks f cx cy b1 b2 b3 b4 b5 := cu_472 hk hu hv hl hp hq hm hs H
  refine br_t (by rw [o2]) (br_f (nI_pos (by omega)) (br_t (nI_le (a := how) (b := 2) (by omega) (by omega)) ?_))
  refine cu_touched (d := 2) (by omega) (by omega) h2 ?_
  have main : ∀ z0 z1 : Int32, z1 = z0 → wL_lawOf_336 post mc ms (nI how) (nI k) (nI u) (nI v) (nI l) (nI p) (nI q) (cu_b me) (nI (cu_sz l)) (nI (cu_w me (cu_sz k) (cu_sz l))) z0 z1 kc ks f cx cy b1 b2 b3 b4 b5 := by
    intro z0 z1 hz
    exact cu_336 hh hz (fun hn => cu_360 hh (cu_398 (fun z => cu_447 (by omega) h2 (Or.inr (o4 hn)) H472))) (cu_360 hh (cu_398 (fun z => cu_447 (by omega) h2 (Or.inl rfl) H472)))
  refine pk_le (cu_due how (cu_sz k) (cu_sz l) (cu_w me (cu_sz k) (cu_sz l))) 0 (fun h => main _ _ ?_) (fun h => main _ _ ?_) rfl rfl hdue
  · rw [if_pos (o3.mpr (by omega))]
  · rw [if_neg (fun e => absurd (o3.mp e) (by omega))]
theorem cu_198 {me : Bool} {c z0 : Int32} (hk : k < 5) (hu : u < 2 ^ k) (hv : v < 2 ^ k) (hl : l < 5) (hp : p < 2 ^ l) (hq : q < 2 ^ l)
    (hm : me = true ↔ cu_F k u v / cu_sz (min k l) = cu_F l p q / cu_sz (min k l))
    (hz : ∀ how, how < 3 → c = nI how → z0 = nI (cu_due how (cu_sz k) (cu_sz l) (cu_w me (cu_sz k) (cu_sz l)))) (H : post 1 ()) :
    wL_lawOf_198 post 160 2544 c (nI k) (nI u) (nI v) (nI l) (nI p) (nI q) (cu_b me) (nI (cu_sz k)) (nI (cu_sz l)) (nI (cu_w me (cu_sz k) (cu_sz l))) z0 0 0 := by
  obtain ⟨_, t1, t2⟩ := cu_tab k hk u hu v hv
  obtain ⟨_, r1, r2⟩ := cu_tab l hl p hp q hq
  have y1 := cu_szs k hk
  have y2 := cu_szs l hl
  have one : ∀ {F s : Nat}, 0 < s → cu_cs (cu_at [(F, F + s - 1)]) [(F, F + s - 1)].length = s := by
    intro F s h
    show 0 + (F + s - 1 - F + 1) = s
    omega
  unfold wL_lawOf_198
  refine ⟨by omega, by omega, 5, 573, by omega, by omega, ?_⟩
  unfold wpX_init
  refine ⟨by omega, by omega, by omega, by omega, by omega, by omega, by omega, by omega, by omega, by omega, ?_⟩
  refine cu_change (d := 0) (c := 0) (F := 0) (L := 0) (how := 1) (R := [(cu_F k u v, cu_F k u v + cu_sz k - 1)]) (by omega) hk hu hv (by omega) ⟨rfl, fun k hk => absurd hk (Nat.not_lt_zero k)⟩ (Or.inr ⟨by decide, rfl⟩) (by show 1 ≤ 40; omega) (cu_E (by omega) (by omega)) (fun f b1 b2 b3 b4 b5 s0 k1 k2 => ?_)
  refine br_t (congrArg nI (one y1.1)) ?_
  refine cu_change (d := 1) (c := 0) (F := 0) (L := 0) (how := 1) (R := [(cu_F l p q, cu_F l p q + cu_sz l - 1)]) (by omega) hl hp hq (by omega) ⟨k1 1 (by omega) (by omega), fun k hk => absurd hk (Nat.not_lt_zero k)⟩ (Or.inr ⟨by decide, rfl⟩) (by show 1 ≤ 40; omega) (cu_E (by omega) (by omega)) (fun g e1 e2 e3 e4 e5 s1 j1 j2 => ?_)
  refine br_t (congrArg nI (one y2.1)) ?_
  have s0' := cu_keep (e := 0) (by omega) (by omega) (by show 1 ≤ 40; omega) s0 j1 j2
  have n2 : e1 2 = 0 := (j1 2 (by omega) (by omega)).trans (k1 2 (by omega) (by omega))
  have fA : cu_set e1 e2 e3 0 1 (fun _ => (cu_F k u v, cu_F k u v + cu_sz k - 1)) := by
    refine ⟨s0'.1, fun k hk => ?_⟩
    have k0 : k = 0 := by omega
    subst k0
    exact s0'.2 0 (by show 0 < 1; omega)
  have fB : cu_set e1 e2 e3 1 1 (fun _ => (cu_F l p q, cu_F l p q + cu_sz l - 1)) := by
    refine ⟨s1.1, fun k hk => ?_⟩
    have k0 : k = 0 := by omega
    subst k0
    exact s1.2 0 (by show 0 < 1; omega)
  by_cases bad : c < 0 ∨ ¬ c ≤ 2
  · refine cu_combineB (d := 2) (a := 0) (b := 1) (by omega) (by omega) (by omega) bad ?_
    have h304 : ∀ kc ks, wL_lawOf_304 post 160 2544 kc ks g 0 0 e1 e2 e3 e4 e5 := by
      intro kc ks
      exact cu_cells (d := 2) (c := 0) (g := fun _ => (0, 0)) (by omega) (by omega) ⟨n2, fun k hk => absurd hk (Nat.not_lt_zero k)⟩ (br_t rfl H)
    have h284 : ∀ kc ks, wL_lawOf_284 post 160 2544 c (nI k) (nI u) (nI v) (nI l) (nI p) (nI q) (cu_b me) (nI (cu_sz l)) (nI (cu_w me (cu_sz k) (cu_sz l))) z0 (-1) kc ks g 0 0 e1 e2 e3 e4 e5 := by
      intro kc ks
      refine br_t rfl (br_c (fun _ => h304 _ _) (fun h => br_f ?_ (h304 _ _)))
      rcases bad with b | b
      · exact absurd b h
      · exact b
    refine br_c (fun _ => h284 _ _) (fun h => br_f ?_ (h284 _ _))
    rcases bad with b | b
    · exact absurd b h
    · exact b
  · have n0 : ¬ c < 0 := fun h => bad (Or.inl h)
    have n3 : c ≤ 2 := by
      by_cases h : c ≤ 2
      · exact h
      · exact absurd (Or.inr h) bad
    obtain ⟨how, hh, ec⟩ := nI_of2 (M := 2) (n := 2) (by decide) n0 n3
    have hh' : how < 3 := by omega
    have ez := hz how hh' ec
    subst ec
    subst ez
    obtain ⟨R, hg, ho⟩ := cu_plain hh' hk hl t1 r1 t2 r2 hm
    refine cu_combine (d := 2) (a := 0) (b := 1) (R := R) (by omega) hh' (by omega) (by omega) (Nat.le_refl 1) (Nat.le_refl 1) fA fB (Nat.le_trans ho.1 (by omega)) hg (fun f' d2 d3 d4 d5 m1 m2 => ?_)
    refine br_f n0 (br_t n3 ?_)
    refine cu_290 hh' hk hu hv hl hp hq hm ?_ m1 ho H
    exact cu_keep (d := 2) (e := 1) (by omega) (by omega) (by omega) fB (fun j i1 i2 => pk_un i1) (fun j i1 i2 => m2 j i1)
theorem cu_166 {me : Bool} {c : Int32} (hk : k < 5) (hu : u < 2 ^ k) (hv : v < 2 ^ k) (hl : l < 5) (hp : p < 2 ^ l) (hq : q < 2 ^ l)
    (hm : me = true ↔ cu_F k u v / cu_sz (min k l) = cu_F l p q / cu_sz (min k l)) (H : post 1 ()) :
    wL_lawOf_166 post 160 2544 c (nI k) (nI u) (nI v) (nI l) (nI p) (nI q) (cu_b me) (nI (cu_sz k)) (nI (cu_sz l)) (nI (cu_w me (cu_sz k) (cu_sz l))) 0 0 := by
  have hw := cu_wle me (cu_sz k) (cu_sz l)
  refine br_c (fun h => ?_) (fun h => br_c (fun h1 => ?_) (fun h1 => ?_))
  · refine cu_198 hk hu hv hl hp hq hm (fun how hh e => ?_) H
    have e0 : how = 0 := (nI_eq (by omega) (by omega)).mp (e.symm.trans h)
    subst e0
    rfl
  · refine cu_198 hk hu hv hl hp hq hm (fun how hh e => ?_) H
    have e0 : how = 1 := (nI_eq (by omega) (by omega)).mp (e.symm.trans h1)
    subst e0
    rw [nI_add, pk_sub (by omega)]
    rfl
  · refine cu_198 hk hu hv hl hp hq hm (fun how hh e => ?_) H
    have e0 : how = 2 := by
      have a0 : how ≠ 0 := fun z => h (by rw [e, z]; rfl)
      have a1 : how ≠ 1 := fun z => h1 (by rw [e, z]; rfl)
      omega
    subst e0
    rw [pk_sub hw.1]
    rfl
theorem cu_122 {me : Bool} {c : Int32} (hk : k < 5) (hu : u < 2 ^ k) (hv : v < 2 ^ k) (hl : l < 5) (hp : p < 2 ^ l) (hq : q < 2 ^ l)
    (hm : me = true ↔ cu_F k u v / cu_sz (min k l) = cu_F l p q / cu_sz (min k l)) (H : post 1 ()) :
    wL_lawOf_122 post 160 2544 c (nI k) (nI u) (nI v) (nI l) (nI p) (nI q) (cu_b me) 0 0 := by
  have y1 := cu_szs k hk
  have y2 := cu_szs l hl
  have K := cu_166 (post := post) (c := c) hk hu hv hl hp hq hm H
  refine nm_r (cu_lev k hk).2.2.2.2 (nm_r (cu_lev l hl).2.2.2.2 ?_)
  cases me with
  | false => exact br_t rfl K
  | true =>
    refine br_f (by decide) (pk_le (cu_sz l) (cu_sz k) (fun h => ?_) (fun h => ?_))
    · have e : cu_w true (cu_sz k) (cu_sz l) = cu_sz l := by show min (cu_sz k) (cu_sz l) = _; omega
      rw [e] at K
      exact K
    · have e : cu_w true (cu_sz k) (cu_sz l) = cu_sz k := by show min (cu_sz k) (cu_sz l) = _; omega
      rw [e] at K
      exact K
theorem cu_79 {m : Nat} {c : Int32} (hk : k < 5) (hu : u < 2 ^ k) (hv : v < 2 ^ k) (hl : l < 5) (hp : p < 2 ^ l) (hq : q < 2 ^ l) (e : m = min k l) (H : post 1 ()) :
    wL_lawOf_79 post 160 2544 c (nI k) (nI u) (nI v) (nI l) (nI p) (nI q) (nI m) 0 0 := by
  have p1 : (2 : Nat) ^ k ≤ 2 ^ 4 := Nat.pow_le_pow_right (by omega) (by omega)
  have p2 : (2 : Nat) ^ l ≤ 2 ^ 4 := Nat.pow_le_pow_right (by omega) (by omega)
  have mt := cu_meet (m := m) hk hl (by omega) (by omega) hu hv hp hq
  have d1 := Nat.div_le_self u (2 ^ (k - m))
  have d2 := Nat.div_le_self v (2 ^ (k - m))
  have d3 := Nat.div_le_self p (2 ^ (l - m))
  have d4 := Nat.div_le_self q (2 ^ (l - m))
  have F0 : ¬ (u / 2 ^ (k - m) = p / 2 ^ (l - m) ∧ v / 2 ^ (k - m) = q / 2 ^ (l - m)) → wL_lawOf_122 post 160 2544 c (nI k) (nI u) (nI v) (nI l) (nI p) (nI q) 0 0 0 := by
    intro h
    refine cu_122 (me := false) hk hu hv hl hp hq ?_ H
    rw [← e, ← mt]
    exact ⟨fun z => absurd z (by decide), fun z => absurd z h⟩
  unfold wL_lawOf_79
  rw [pk_shrN (by omega) _ _ (cu_dif k hk m (by omega)), pk_shrN (by omega) _ _ (cu_dif l hl m (by omega)), pk_shrN (by omega) _ _ (cu_dif k hk m (by omega)), pk_shrN (by omega) _ _ (cu_dif l hl m (by omega))]
  refine pk_eq (u / 2 ^ (k - m)) (p / 2 ^ (l - m)) (fun g1 => pk_eq (v / 2 ^ (k - m)) (q / 2 ^ (l - m)) (fun g2 => ?_) (fun g2 => F0 (fun z => g2 z.2))) (fun g1 => F0 (fun z => g1 z.1))
  refine cu_122 (me := true) hk hu hv hl hp hq ?_ H
  rw [← e, ← mt]
  exact ⟨fun _ => ⟨g1, g2⟩, fun _ => rfl⟩
theorem cu_lawOf (a b c : Int32) (H : post 1 ()) : wpL_lawOf post 160 2544 () a b c := by
  have lv : ∀ x : Int32, ∃ k : Nat, k < 5 ∧ (x &&& 255) - (x &&& 255) / 5 * 5 = nI k := by
    intro x
    obtain ⟨j, hj, e⟩ := pk_andE x (m := 255) 8 (by decide)
    rw [e]
    exact ⟨j % 5, Nat.mod_lt _ (by omega), pk_rem (d := 5) (by omega) (by omega) (by omega)⟩
  obtain ⟨k, hk, ek⟩ := lv a
  obtain ⟨l, hl, el⟩ := lv b
  obtain ⟨u, hu, eu⟩ := pk_andE (a >>> ((8 : Int32) &&& 31)) k (cu_msk k hk)
  obtain ⟨v, hv, ev⟩ := pk_andE (a >>> ((12 : Int32) &&& 31)) k (cu_msk k hk)
  obtain ⟨p, hp, ep⟩ := pk_andE (b >>> ((8 : Int32) &&& 31)) l (cu_msk l hl)
  obtain ⟨q, hq, eq⟩ := pk_andE (b >>> ((12 : Int32) &&& 31)) l (cu_msk l hl)
  refine ⟨by decide, nm_r ek (nm_r eu (nm_r ev ⟨by decide, nm_r el (nm_r ep (nm_r eq ?_))⟩))⟩
  exact pk_le l k (fun h => cu_79 hk hu hv hl hp hq (by omega) H) (fun h => cu_79 hk hu hv hl hp hq (by omega) H)
end
theorem cu_cell {P : Int32 → Prop} {L i : Nat} {xs : Nat → Int32} (hL : L ≤ 3) (hi : i < 3) (H : ∀ r, P r) : wpL_cellAt P L xs () (nI i) :=
  pk_le L i (fun _ => H _) (fun h => ⟨pk_in i L h, H _⟩)
end
section
theorem i_vc (xs : Nat → Int32) (L : Nat) (hL : L ≤ 3) : wpL_law (fun r => r = 1) L xs :=
  cu_cell (i := 0) hL (by omega) (fun a => cu_cell (i := 1) hL (by omega) (fun b => cu_cell (i := 2) hL (by omega) (fun c => ⟨160, 2544, by omega, by omega, cu_lawOf a b c rfl⟩)))
end
