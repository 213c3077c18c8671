section
/-- how many of the six lowest bits are set -/
def sj_pc (m : Nat) : Nat := m % 2 + m / 2 % 2 + m / 4 % 2 + m / 8 % 2 + m / 16 % 2 + m / 32 % 2
theorem sj_pc6 (m : Nat) : sj_pc m ≤ 6 := by
  unfold sj_pc
  omega
theorem sj_pc1a : ∀ m, m < 64 → 1 ≤ m → 1 ≤ sj_pc m := by decide +kernel
theorem sj_pc1 {m : Nat} (h : 1 ≤ m) (h6 : m < 64) : 1 ≤ sj_pc m := sj_pc1a m h6 h
theorem sj_pcor : ∀ a, a < 64 → ∀ b, b < 64 → sj_pc (a ||| b) + sj_pc (a &&& b) = sj_pc a + sj_pc b := by decide +kernel
theorem sj_pcle : ∀ a, a < 64 → ∀ b, b < 64 → sj_pc (a &&& b) ≤ sj_pc a ∧ sj_pc (a &&& b) ≤ sj_pc b := by decide +kernel
theorem sj_pcmono : ∀ a, a < 64 → ∀ b, b < 64 → (∀ x, x < 6 → a.testBit x = true → b.testBit x = true) → sj_pc a ≤ sj_pc b := by decide +kernel
theorem sj_pcra : ∀ w, w < 64 → ∀ x, x < 6 → w.testBit x = true → sj_pc w = sj_pc (w - 2 ^ x) + 1 := by decide +kernel
theorem sj_pcrb : ∀ w, w < 64 → ∀ x, x < 6 → w.testBit x = true → ∀ y, y < 6 → (w - 2 ^ x).testBit y = (w.testBit y && decide (y ≠ x)) := by decide +kernel
theorem sj_pcrm {w x : Nat} (hw : w < 64) (hx : x < 6) (h : w.testBit x = true) : sj_pc w = sj_pc (w - 2 ^ x) + 1 ∧ ∀ y, y < 6 → ((w - 2 ^ x).testBit y = true ↔ (w.testBit y = true ∧ y ≠ x)) := by
  refine ⟨sj_pcra w hw x hx h, fun y hy => ?_⟩
  rw [sj_pcrb w hw x hx h y hy, Bool.and_eq_true, decide_eq_true_iff]
theorem sj_pcrr : ∀ x, x < 6 → ∀ w, w < 64 → w.testBit x = true → ∀ v, v < 64 → v.testBit x = true → sj_pc (w &&& v) = sj_pc ((w - 2 ^ x) &&& (v - 2 ^ x)) + 1 := by decide +kernel
theorem sj_pcr1 : ∀ x, x < 6 → ∀ w, w < 64 → w.testBit x = true → ∀ v, v < 64 → v.testBit x = false → sj_pc ((w - 2 ^ x) &&& v) = sj_pc (w &&& v) := by decide +kernel
theorem sj_and : ∀ a, a < 64 → ∀ b, b < 64 → nI a &&& nI b = nI (a &&& b) ∧ a &&& b < 64 := by decide +kernel
theorem sj_or : ∀ a, a < 64 → ∀ b, b < 64 → nI a ||| nI b = nI (a ||| b) ∧ a ||| b < 64 := by decide +kernel
theorem sj_bs : ∀ m, m < 64 → ∀ i, i < 6 → nI (sj_pc (m % 2 ^ i)) + ((nI m >>> (nI i &&& 31)) &&& 1) = nI (sj_pc (m % 2 ^ (i + 1))) := by decide +kernel
theorem sj_bit : ∀ m, m < 64 → ∀ t, t < 30 → ((nI m >>> (nI t &&& 31)) &&& 1) = if m.testBit t then 1 else 0 := by decide +kernel
theorem sj_bit1 {m t : Nat} (hm : m < 64) (ht : t < 30) : (((nI m >>> (nI t &&& 31)) &&& 1) = 1) ↔ m.testBit t = true := by
  rw [sj_bit m hm t ht]
  cases m.testBit t <;> decide
theorem sj_setb : ∀ m, m < 64 → ∀ b, b < 6 → m.testBit b = true → nI (m % 2 ^ b) ||| ((1 : Int32) <<< (nI b &&& 31)) = nI (m % 2 ^ (b + 1)) ∧ nI (m % 2 ^ b) &&& ((1 : Int32) <<< (nI b &&& 31)) = 0 := by decide +kernel
theorem sj_skip : ∀ m, m < 64 → ∀ t, t < 30 → m.testBit t = false → m % 2 ^ (t + 1) = m % 2 ^ t := by decide +kernel
theorem sj_msa : ∀ m, m < 64 → ∀ t, t < 30 → m.testBit t = true → t < 6 ∧ sj_pc (m % 2 ^ (t + 1)) = sj_pc (m % 2 ^ t) + 1 := by decide +kernel
theorem sj_msb : ∀ m, m < 64 → ∀ t, t < 6 → m.testBit t = true → ∀ x, x < 6 → (m % 2 ^ (t + 1)).testBit x = ((m % 2 ^ t).testBit x || decide (x = t)) := by decide +kernel
theorem sj_msc : ∀ m, m < 64 → ∀ t, t < 6 → ∀ x, x < 6 → (m % 2 ^ t).testBit x = true → x < t := by decide +kernel
theorem sj_mstep {m t : Nat} (hm : m < 64) (ht : t < 30) (h : m.testBit t = true) : t < 6 ∧ sj_pc (m % 2 ^ (t + 1)) = sj_pc (m % 2 ^ t) + 1 ∧ (∀ x, x < 6 → ((m % 2 ^ (t + 1)).testBit x = true ↔ (m % 2 ^ t).testBit x = true ∨ x = t)) ∧ (∀ x, x < 6 → (m % 2 ^ t).testBit x = true → x < t) := by
  obtain ⟨h6, hp⟩ := sj_msa m hm t ht h
  refine ⟨h6, hp, fun x hx => ?_, fun x hx hb => sj_msc m hm t h6 x hx hb⟩
  rw [sj_msb m hm t h6 h x hx, Bool.or_eq_true, decide_eq_true_iff]
def sj_w1 (p0 : Int32) : Int32 := p0 - (((p0.toUInt32 >>> ((1 : Int32).toUInt32 &&& Int32.toUInt32 31)).toInt32) &&& 1431655765)
def sj_w2 (x : Int32) : Int32 := (x &&& 858993459) + (((x.toUInt32 >>> ((2 : Int32).toUInt32 &&& Int32.toUInt32 31)).toInt32) &&& 858993459)
def sj_w3 (x : Int32) : Int32 := (x + ((x.toUInt32 >>> ((4 : Int32).toUInt32 &&& Int32.toUInt32 31)).toInt32)) &&& 252645135
def sj_w4 (x : Int32) : Int32 := ((x * 16843009).toUInt32 >>> ((24 : Int32).toUInt32 &&& Int32.toUInt32 31)).toInt32
theorem sj_swar : ∀ m, m < 64 → sj_w4 (sj_w3 (sj_w2 (sj_w1 (nI m)))) = nI (sj_pc m) := by decide +kernel
theorem sj_fill {f s : Nat → Int32} {i : Nat} {x : Int32} (h : ∀ j, j < i → s j = f j) (hx : x = f i) : ∀ j, j < i + 1 → upd s i x j = f j := by
  intro j hj
  by_cases e : j = i
  · rw [e, pk_us, hx]
  · rw [pk_un e]
    exact h j (by omega)
/-- rounded up -/
def sj_nd (t u z : Nat) : Nat := (t * z + u - 1) / u
theorem sj_ndI {t u z c : Nat} (hu : 1 ≤ u) : sj_nd t u z ≤ c ↔ t * z ≤ u * c := by
  unfold sj_nd
  rw [Nat.div_le_iff_le_mul_add_pred hu]
  omega
def sj_pf (t u z : Nat) : Nat := z - sj_nd t u z + 1
theorem sj_pfz {t u z : Nat} (ht : 1 ≤ t) (htu : t ≤ u) (hz : 1 ≤ z) : sj_nd t u z ≤ z ∧ sj_pf t u z ≤ z := by
  have h1 : sj_nd t u z ≤ z := (sj_ndI (by omega)).mpr (Nat.mul_le_mul_right z htu)
  have h2 : ¬ sj_nd t u z ≤ 0 := by
    intro h
    have h3 := (sj_ndI (by omega)).mp h
    have h4 := Nat.mul_le_mul ht hz
    omega
  refine ⟨h1, ?_⟩
  unfold sj_pf
  omega
/-- alike: u times the common ones against t times all -/
def sj_al (t u a b : Nat) : Prop := t * sj_pc (a ||| b) ≤ u * sj_pc (a &&& b)
theorem sj_alI {t u a b : Nat} (ha : a < 64) (hb : b < 64) (ht : 1 ≤ t) : sj_nd t (t + u) (sj_pc a + sj_pc b) ≤ sj_pc (a &&& b) ↔ sj_al t u a b := by
  rw [sj_ndI (by omega), ← sj_pcor a ha b hb, Nat.mul_add, Nat.add_mul]
  unfold sj_al
  omega
end
section
/-! the six pairs of four records, a graph as a number below 64; four places of two bits as a number below 256 -/
def sj_I (n : Nat) : Nat := if n < 3 then 0 else if n < 5 then 1 else 2
def sj_J (n : Nat) : Nat := if n < 3 then n + 1 else if n < 5 then n - 1 else 3
def sj_gt (q j : Nat) : Nat := q / 4 ^ j % 4
def sj_st (q j v : Nat) : Nat := (if j = 0 then v else sj_gt q 0) + 4 * (if j = 1 then v else sj_gt q 1) + 16 * (if j = 2 then v else sj_gt q 2) + 64 * (if j = 3 then v else sj_gt q 3)
def sj_ls (l n : Nat) : Nat := sj_st (sj_st l (sj_I n) (min (sj_gt l (sj_I n)) (sj_gt l (sj_J n)))) (sj_J n) (min (sj_gt l (sj_I n)) (sj_gt l (sj_J n)))
/-- the law's label behind k steps -/
def sj_lab (g : Nat) : Nat → Nat
  | 0 => 228
  | k + 1 => if g.testBit (k % 6) then sj_ls (sj_lab g k) (k % 6) else sj_lab g k
theorem sj_lsv : ∀ l, l < 256 → ∀ n, n < 6 → sj_ls l n < 256 := by decide +kernel
theorem sj_labv {g : Nat} : ∀ k, sj_lab g k < 256 := by
  intro k
  induction k with
  | zero => exact (show 228 < 256 by decide)
  | succ k ih =>
    rw [sj_lab]
    split
    · exact sj_lsv _ ih _ (Nat.mod_lt _ (by omega))
    · exact ih
theorem sj_lsI : ∀ l, l < 256 → ∀ n, n < 6 → ((nI l &&& ((((3 : Int32) <<< ((2 * nI (sj_I n)) &&& 31)) ||| ((3 : Int32) <<< ((2 * nI (sj_J n)) &&& 31))) ^^^ (-1))) ||| (nI (min (sj_gt l (sj_I n)) (sj_gt l (sj_J n))) <<< ((2 * nI (sj_I n)) &&& 31))) ||| (nI (min (sj_gt l (sj_I n)) (sj_gt l (sj_J n))) <<< ((2 * nI (sj_J n)) &&& 31)) = nI (sj_ls l n) := by decide +kernel
theorem sj_gtI : ∀ l, l < 256 → ∀ r, r < 4 → (nI l >>> ((2 * nI r) &&& 31)) &&& 3 = nI (sj_gt l r) := by decide +kernel
theorem sj_gt4 (q j : Nat) : sj_gt q j < 4 := Nat.mod_lt _ (by omega)
theorem sj_li : ∀ r, r < 4 → nI (228 % 4 ^ r) ||| (nI r <<< ((2 * nI r) &&& 31)) = nI (228 % 4 ^ (r + 1)) := by decide +kernel
/-- a place of the union: every parent at most its place -/
def sj_ok (p : Nat) : Bool := decide (p < 256) && decide (sj_gt p 0 = 0) && decide (sj_gt p 1 ≤ 1) && decide (sj_gt p 2 ≤ 2)
def sj_rt (p j : Nat) : Nat := sj_gt p (sj_gt p (sj_gt p j))
/-- the roots -/
def sj_rq (p : Nat) : Nat := sj_rt p 0 + 4 * sj_rt p 1 + 16 * sj_rt p 2 + 64 * sj_rt p 3
def sj_jp (q x y j : Nat) : Nat := if sj_gt q j = x ∨ sj_gt q j = y then min x y else sj_gt q j
def sj_jn (q x y : Nat) : Nat := sj_jp q x y 0 + 4 * sj_jp q x y 1 + 16 * sj_jp q x y 2 + 64 * sj_jp q x y 3
/-- the roots behind k pairs -/
def sj_uf (g : Nat) : Nat → Nat
  | 0 => 228
  | k + 1 => if g.testBit k then sj_jn (sj_uf g k) (sj_gt (sj_uf g k) (sj_I k)) (sj_gt (sj_uf g k) (sj_J k)) else sj_uf g k
theorem sj_ufl : ∀ g, g < 64 → sj_uf g 6 = sj_lab g 18 := by decide +kernel
theorem sj_stg : ∀ p, p < 256 → ∀ j, j < 4 → ∀ v, v < 4 → sj_st p j v < 256 ∧ ∀ i, i < 4 → sj_gt (sj_st p j v) i = if i = j then v else sj_gt p i := by decide +kernel
theorem sj_hv : ∀ p, p < 256 → sj_ok p = true → ∀ i, i < 4 → sj_gt p i ≤ i ∧ decide (sj_gt p i = i) = decide (sj_gt (sj_rq p) i = i) ∧ sj_gt p (sj_gt p i) ≤ sj_gt p i ∧ sj_ok (sj_st p i (sj_gt p (sj_gt p i))) = true ∧ sj_rq (sj_st p i (sj_gt p (sj_gt p i))) = sj_rq p ∧ sj_gt (sj_rq p) (sj_gt p (sj_gt p i)) = sj_gt (sj_rq p) i := by decide +kernel
theorem sj_jv : ∀ p, p < 256 → sj_ok p = true → ∀ i, i < 4 → ∀ j, j < 4 → sj_ok (sj_st (sj_st p (sj_gt (sj_rq p) i) (min (sj_gt (sj_rq p) i) (sj_gt (sj_rq p) j))) (sj_gt (sj_rq p) j) (min (sj_gt (sj_rq p) i) (sj_gt (sj_rq p) j))) = true ∧ sj_rq (sj_st (sj_st p (sj_gt (sj_rq p) i) (min (sj_gt (sj_rq p) i) (sj_gt (sj_rq p) j))) (sj_gt (sj_rq p) j) (min (sj_gt (sj_rq p) i) (sj_gt (sj_rq p) j))) = sj_jn (sj_rq p) (sj_gt (sj_rq p) i) (sj_gt (sj_rq p) j) := by decide +kernel
/-- rows of the graph, the record itself among them -/
def sj_ix (a b : Nat) : Nat := if min a b = 0 then max a b - 1 else a + b
def sj_rb (g a b : Nat) : Nat := if a = b then 2 ^ b else if g.testBit (sj_ix a b) then 2 ^ b else 0
def sj_rw (g a : Nat) : Nat := sj_rb g a 0 + sj_rb g a 1 + sj_rb g a 2 + sj_rb g a 3
theorem sj_rw16 : ∀ g, g < 64 → ∀ a, a < 4 → sj_rw g a < 16 := by decide +kernel
theorem sj_rwb : ∀ g, g < 64 → ∀ a, a < 4 → ∀ b, b < 4 → (sj_rw g a).testBit b = if a = b then true else g.testBit (sj_ix a b) := by decide +kernel
theorem sj_ixv : ∀ a, a < 4 → ∀ b, b < 4 → a ≠ b → sj_ix a b < 6 ∧ ((sj_I (sj_ix a b) = a ∧ sj_J (sj_ix a b) = b) ∨ (sj_I (sj_ix a b) = b ∧ sj_J (sj_ix a b) = a)) := by decide +kernel
theorem sj_ijv : ∀ n, n < 6 → sj_I n < 4 ∧ sj_J n < 4 ∧ sj_I n ≠ sj_J n ∧ sj_ix (sj_J n) (sj_I n) = n := by decide +kernel
/-- the first pair of a row -/
def sj_of (r : Nat) : Nat := if r = 0 then 0 else if r = 1 then 3 else if r = 2 then 5 else 6
theorem sj_ofv : ∀ r, r < 4 → sj_of r + (4 - (r + 1)) = sj_of (r + 1) ∧ ∀ b, b < 4 → r < b → sj_of r + (b - (r + 1)) < 6 ∧ sj_I (sj_of r + (b - (r + 1))) = r ∧ sj_J (sj_of r + (b - (r + 1))) = b ∧ sj_ix r b = sj_of r + (b - (r + 1)) := by decide +kernel
/-- how many pairs the rows below k hold -/
def sj_ps (g : Nat) : Nat → Nat
  | 0 => 0
  | k + 1 => sj_ps g k + sj_pc (sj_rw g k / 2 ^ (k + 1))
theorem sj_psv : ∀ g, g < 64 → sj_ps g 4 = sj_pc g := by decide +kernel
theorem sj_ush : ∀ F, F < 16 → ∀ a, a < 4 → ((nI F).toUInt32 >>> ((nI a + 1).toUInt32 &&& Int32.toUInt32 31)).toInt32 = nI (F / 2 ^ (a + 1)) := by decide +kernel
/-- how many of the first k places hold themselves -/
def sj_gc (q : Nat) : Nat → Nat
  | 0 => 0
  | k + 1 => sj_gc q k + (if sj_gt q k = k then 1 else 0)
theorem sj_gcl (q : Nat) : ∀ k, sj_gc q k ≤ k := by
  intro k
  induction k with
  | zero => exact Nat.le_refl 0
  | succ k ih =>
    rw [sj_gc]
    split <;> omega
/-- the nearest so far -/
def sj_nb (m : Nat → Nat) : Nat → Nat
  | 0 => 1
  | k + 1 => if 1 < k ∧ sj_pc (m (sj_nb m k) &&& m 0) * sj_pc (m k ||| m 0) < sj_pc (m k &&& m 0) * sj_pc (m (sj_nb m k) ||| m 0) then k else sj_nb m k
theorem sj_nb4 (m : Nat → Nat) : ∀ k, k ≤ 4 → sj_nb m k < 4 := by
  intro k
  induction k with
  | zero => exact fun _ => (show 1 < 4 by decide)
  | succ k ih =>
    intro h
    rw [sj_nb]
    split
    · omega
    · exact ih (by omega)
/-- the sets, the threshold and the graph -/
def sj_H (m : Nat → Nat) (t u g : Nat) : Prop := (∀ r, r < 4 → 1 ≤ m r ∧ m r < 64) ∧ 1 ≤ t ∧ t ≤ u ∧ u ≤ 11 ∧ g < 64 ∧ ∀ n, n < 6 → (g.testBit n = true ↔ sj_al t u (m (sj_I n)) (m (sj_J n)))
theorem sj_alc {t u a b : Nat} : sj_al t u a b ↔ sj_al t u b a := by
  unfold sj_al
  rw [Nat.or_comm, Nat.and_comm]
theorem sj_rwa {m : Nat → Nat} {t u g a b : Nat} (H : sj_H m t u g) (ha : a < 4) (hb : b < 4) : (sj_rw g a).testBit b = true ↔ sj_al t u (m a) (m b) := by
  rw [sj_rwb g H.2.2.2.2.1 a ha b hb]
  by_cases e : a = b
  · rw [if_pos e, e]
    refine ⟨fun _ => ?_, fun _ => rfl⟩
    unfold sj_al
    rw [Nat.or_self, Nat.and_self]
    exact Nat.mul_le_mul_right _ H.2.2.1
  · rw [if_neg e]
    obtain ⟨h1, h2⟩ := sj_ixv a ha b hb e
    rw [H.2.2.2.2.2 _ h1]
    rcases h2 with ⟨e1, e2⟩ | ⟨e1, e2⟩
    · rw [e1, e2]
    · rw [e1, e2]
      exact sj_alc
theorem sj_graph (q : Nat → Prop) : ∃ g, g < 64 ∧ ∀ n, n < 6 → (g.testBit n = true ↔ q n) := by
  have key : ∀ k, k ≤ 6 → ∃ g, g < 2 ^ k ∧ ∀ n, n < k → (g.testBit n = true ↔ q n) := by
    intro k
    induction k with
    | zero => exact fun _ => ⟨0, by decide, fun n hn => absurd hn (by omega)⟩
    | succ k ih =>
      intro hk
      obtain ⟨g, h1, h2⟩ := ih (by omega)
      by_cases c : q k
      · refine ⟨2 ^ k + g, by rw [Nat.pow_succ]; omega, fun n hn => ?_⟩
        by_cases e : n = k
        · rw [e, Nat.testBit_two_pow_add_eq, Nat.testBit_lt_two_pow h1]
          exact ⟨fun _ => c, fun _ => rfl⟩
        · rw [Nat.testBit_two_pow_add_gt (by omega)]
          exact h2 n (by omega)
      · refine ⟨g, by rw [Nat.pow_succ]; omega, fun n hn => ?_⟩
        by_cases e : n = k
        · rw [e, Nat.testBit_lt_two_pow h1]
          exact ⟨fun z => absurd z (by decide), fun z => absurd z c⟩
        · exact h2 n (by omega)
  exact key 6 (by omega)
end
section
theorem sj_onesL {post : Int32 → Prop} {x : Int32} (m : Nat) (hm : m < 64) (h : post (nI (sj_pc m))) (hx : x = nI m := by rfl) : wpL_ones post () x := by
  subst hx
  exact pk_loop (fun n i s => wL_ones_4 post (nI m) n s (nI i)) (fun i s => s = nI (sj_pc (m % 2 ^ i))) 6 0 0 (by omega) (by rw [Nat.pow_zero, Nat.mod_one]; rfl)
    (fun n s hs => pk_le 6 6 (fun _ => by rw [hs, Nat.mod_eq_of_lt (by omega)]; exact h) (fun z => absurd z (by omega)))
    (fun n i s hi hs hw => pk_le 6 i (fun z => absurd z (by omega)) (fun _ => nm_r (by rw [hs]; exact sj_bs m hm i hi) (nm_r (nI_1 i) (hw _ rfl))))
theorem sj_onesX {post : Int32 → Prop} {x : Int32} (m : Nat) (hm : m < 64) (h : post (nI (sj_pc m))) (hx : x = nI m := by rfl) : wpX_ones post () x := by
  subst hx
  have h' : post (sj_w4 (sj_w3 (sj_w2 (sj_w1 (nI m))))) := by
    rw [sj_swar m hm]
    exact h
  exact nm_e (nm_e (nm_e h'))
/-- the sets that the law makes of its first int -/
def sj_m (c : Int32) (r : Nat) : Nat := 1 + ((c >>> ((6 * nI r) &&& 31)) &&& 63).toNatClampNeg % 63
theorem sj_mv1 (c : Int32) (r : Nat) : 1 ≤ sj_m c r ∧ sj_m c r < 64 := by
  unfold sj_m
  omega
theorem sj_set {post : Int32 → Prop} {c x : Int32} (r : Nat) (h : post (nI (sj_m c r))) (hx : x = nI r := by rfl) : wpL_set post () c x := by
  subst hx
  refine ⟨by decide, ?_⟩
  obtain ⟨j, hj, e⟩ := pk_andE (c >>> ((6 * nI r) &&& 31)) (m := 63) 6 (by decide)
  unfold sj_m at h
  rw [e, nI_clamp (by omega)] at h
  rw [e]
  have e2 : (1 : Int32) + (nI j - nI j / 63 * 63) = nI (1 + j % 63) := by
    rw [show (63 : Int32) = nI 63 from rfl, pk_rem (by omega) (by omega) (by omega), show (1 : Int32) = nI 1 from rfl, nI_add]
  rw [e2]
  exact h
theorem sj_alike {post : Int32 → Prop} {x y : Int32} {a b t u : Nat} (ha : a < 64) (hb : b < 64) (ht : t ≤ 11) (hu : u ≤ 11) (h1 : sj_al t u a b → post 1) (h0 : ¬ sj_al t u a b → post 0) (hx : x = nI a := by rfl) (hy : y = nI b := by rfl) : wpL_alike post () x y (nI t) (nI u) := by
  subst hx hy
  obtain ⟨e1, l1⟩ := sj_and a ha b hb
  obtain ⟨e2, l2⟩ := sj_or a ha b hb
  refine sj_onesL _ l1 (sj_onesL _ l2 ?_ e2) e1
  have k1 : t * sj_pc (a ||| b) ≤ 11 * 6 := Nat.mul_le_mul ht (sj_pc6 _)
  have k2 : u * sj_pc (a &&& b) ≤ 11 * 6 := Nat.mul_le_mul hu (sj_pc6 _)
  refine pk_lt (u * sj_pc (a &&& b)) (t * sj_pc (a ||| b)) (fun z => h0 ?_) (fun z => h1 ?_) (pk_mul _ _) (pk_mul _ _)
  · unfold sj_al
    omega
  · exact z
theorem sj_prefix {post : Int32 → Prop} {dr ds ct cu : Int32} {a1 a2 a3 a4 a5 a6 a7 a8 : Nat → Int32} {t u z : Nat} {x : Int32} (ht : 1 ≤ t) (htu : t ≤ u) (hu : u ≤ 11) (hz : z ≤ 6) (h : post (nI (sj_pf t u z))) (hx : x = nI z := by rfl) : wpX_prefixLength post (dr, ds, ct, nI t, nI u, cu, a1, a2, a3, a4, a5, a6, a7, a8) x := by
  subst hx
  have hm : t * z ≤ u * z := Nat.mul_le_mul_right z htu
  have hm2 : u * z ≤ 11 * 6 := Nat.mul_le_mul hu hz
  have e : (nI t * nI z + nI u) - 1 = nI (t * z + u - 1) := by
    rw [pk_mul, nI_add, show (1 : Int32) = nI 1 from rfl, pk_sub (by omega)]
  have hn : sj_nd t u z ≤ z := (sj_ndI (by omega)).mpr hm
  have k : wX_prefixLength_28 post (nI z) (nI u) (nI (t * z + u - 1)) dr ds ct (nI t) (nI u) cu a1 a2 a3 a4 a5 a6 a7 a8 := by
    refine ⟨nI_ne0 (by omega) (by omega), nm_r (pk_div (by omega) (by omega) (by omega)) ?_⟩
    show post (nI z - nI (sj_nd t u z) + 1)
    rw [pk_sub hn, nI_1]
    exact h
  rw [← e] at k
  exact pk_le u 0 (fun z => absurd z (by omega)) (fun _ => k)
theorem sj_isRec {post : Int32 → Prop} {dr ds tp bt cu : Int32} {a1 a2 a3 a4 a5 a6 a7 a8 : Nat → Int32} {r : Nat} {x : Int32} (hr : r < 4) (h : post 1) (hx : x = nI r := by rfl) : wpX_isRecord post (dr, ds, nI 4, tp, bt, cu, a1, a2, a3, a4, a5, a6, a7, a8) x := by
  subst hx
  exact br_f (nI_pos (by omega)) (pk_le 4 r (fun z => absurd z (by omega)) (fun _ => h))
/-- the records: masks and sizes -/
def sj_B (m : Nat → Nat) (n : Nat) (a1 a2 : Nat → Int32) : Prop := ∀ r, r < n → a1 r = nI (m r) ∧ a2 r = nI (sj_pc (m r))
end
section
/-- how many of the first n tokens stand before token t -/
def sj_rk (c : Nat → Int32) (t : Nat) : Nat → Nat
  | 0 => 0
  | n + 1 => sj_rk c t n + (if (c n).toInt < (c t).toInt ∨ ((c n).toInt = (c t).toInt ∧ n < t) then 1 else 0)
theorem sj_rkT {c : Nat → Int32} {t n : Nat} (h : (c n).toInt < (c t).toInt ∨ ((c n).toInt = (c t).toInt ∧ n < t)) : sj_rk c t (n + 1) = sj_rk c t n + 1 := by
  rw [sj_rk, if_pos h]
theorem sj_rkF {c : Nat → Int32} {t n : Nat} (h : ¬ ((c n).toInt < (c t).toInt ∨ ((c n).toInt = (c t).toInt ∧ n < t))) : sj_rk c t (n + 1) = sj_rk c t n := by
  rw [sj_rk, if_neg h, Nat.add_zero]
theorem sj_rkB (c : Nat → Int32) (t : Nat) : ∀ n, sj_rk c t n + (if t < n then 1 else 0) ≤ n := by
  intro n
  induction n with
  | zero => exact Nat.le_refl 0
  | succ n ih =>
    rw [sj_rk]
    by_cases e : n = t
    · subst e
      rw [if_neg (by omega)] at ih
      rw [if_neg (by omega), if_pos (by omega)]
      omega
    · have e2 : (if t < n + 1 then 1 else 0) = (if t < n then 1 else 0) := by
        by_cases c2 : t < n
        · rw [if_pos c2, if_pos (by omega)]
        · rw [if_neg c2, if_neg (by omega)]
      rw [e2]
      split <;> omega
theorem sj_rkM {c : Nat → Int32} {s t : Nat} (h : (c s).toInt < (c t).toInt ∨ ((c s).toInt = (c t).toInt ∧ s < t)) : ∀ n, sj_rk c s n + (if s < n then 1 else 0) ≤ sj_rk c t n := by
  intro n
  induction n with
  | zero => exact Nat.le_refl 0
  | succ n ih =>
    by_cases e : n = s
    · subst e
      rw [if_neg (by omega)] at ih
      rw [sj_rkF (by omega), sj_rkT h, if_pos (by omega)]
      omega
    · have e2 : (if s < n + 1 then 1 else 0) = (if s < n then 1 else 0) := by
        by_cases c2 : s < n
        · rw [if_pos c2, if_pos (by omega)]
        · rw [if_neg c2, if_neg (by omega)]
      rw [e2]
      by_cases c1 : (c n).toInt < (c s).toInt ∨ ((c n).toInt = (c s).toInt ∧ n < s)
      · rw [sj_rkT c1, sj_rkT (by omega)]
        omega
      · rw [sj_rkF c1]
        by_cases c3 : (c n).toInt < (c t).toInt ∨ ((c n).toInt = (c t).toInt ∧ n < t)
        · rw [sj_rkT c3]
          omega
        · rw [sj_rkF c3]
          exact ih
/-- ranks: below 30, different -/
def sj_K (K : Nat → Nat) : Prop := (∀ t, t < 30 → K t < 30) ∧ (∀ s t, s < 30 → t < 30 → K s = K t → s = t)
theorem sj_rkK (c : Nat → Int32) : sj_K (fun t => sj_rk c t 30) := by
  constructor
  · intro t ht
    have h := sj_rkB c t 30
    rw [if_pos ht] at h
    exact h
  · intro s t hs ht e
    have e' : sj_rk c s 30 = sj_rk c t 30 := e
    by_cases c1 : (c s).toInt < (c t).toInt ∨ ((c s).toInt = (c t).toInt ∧ s < t)
    · have h := sj_rkM c1 30
      rw [if_pos hs] at h
      omega
    · by_cases c2 : (c t).toInt < (c s).toInt ∨ ((c t).toInt = (c s).toInt ∧ t < s)
      · have h := sj_rkM c2 30
        rw [if_pos ht] at h
        omega
      · omega
theorem sj_rk17 {post : St2 → Prop} {J2 : Int32 → (Nat → Int32) → (Nat → Int32) → (Nat → Int32) → (Nat → Int32) → (Nat → Int32) → (Nat → Int32) → (Nat → Int32) → (Nat → Int32) → Prop} {dr ds tp bt cu : Int32} {a1 a2 a3 a4 a5 a6 a7 a8 : Nat → Int32} {i : Nat} (hi : i < 30) (h : ∀ a5, J2 (nI (i + 1)) a1 a2 a3 a4 a5 a6 a7 a8) : ∃ n, wX_rankTokens_17 post J2 (nI i) dr ds (nI 4) tp bt cu n 0 a1 a2 a3 a4 a5 a6 a7 a8 :=
  pk_loop (fun n k s => wX_rankTokens_17 post J2 (nI i) dr ds (nI 4) tp bt cu n (nI k) a1 a2 a3 a4 s a6 a7 a8) (fun _ _ => True) 4 0 a5 (by omega) trivial
    (fun n s _ => pk_le 4 4 (fun _ => nm_r (nI_1 i) (h s)) (fun z => absurd z (by omega)))
    (fun n k s hk _ hw => pk_le 4 k (fun z => absurd z (by omega)) (fun _ => ⟨pk_in i 30 hi, pk_in k 20 (by omega), pk_in i 30 hi, nm_e (nm_r (nI_1 k) (hw _ trivial))⟩))
theorem sj_rk68 {post : St2 → Prop} {J58 : Int32 → (Nat → Int32) → (Nat → Int32) → (Nat → Int32) → (Nat → Int32) → (Nat → Int32) → (Nat → Int32) → (Nat → Int32) → (Nat → Int32) → Prop} {dr ds ct tp bt cu : Int32} {a1 a2 a3 a4 a5 a6 a7 a8 : Nat → Int32} {t : Nat} (ht : t < 30) (h : J58 (nI (t + 1)) a1 a2 a3 (upd a4 t (nI (sj_rk a5 t 30))) a5 a6 a7 a8) : ∃ n, wX_rankTokens_68 post J58 (nI t) dr ds ct tp bt cu a1 a2 a3 a4 a5 a6 a7 a8 n 0 0 := by
  refine pk_loop (fun n k s => wX_rankTokens_68 post J58 (nI t) dr ds ct tp bt cu a1 a2 a3 a4 a5 a6 a7 a8 n s (nI k)) (fun k s => s = nI (sj_rk a5 t k)) 30 0 0 (by omega) rfl ?_ ?_
  · intro n s hs
    subst hs
    exact pk_le 30 30 (fun _ => ⟨pk_in t 30 ht, nm_r (by rw [nI_clamp (by omega)]) (nm_r (nI_1 t) h)⟩) (fun z => absurd z (by omega))
  · intro n k s hk hs hw
    subst hs
    refine pk_le 30 k (fun z => absurd z (by omega)) (fun _ => ⟨pk_in k 30 hk, pk_in t 30 ht, ?_⟩)
    rw [nI_clamp (show k < 2 ^ 31 by omega), nI_clamp (show t < 2 ^ 31 by omega)]
    refine br_c (fun g => nm_r (nI_1 _) (nm_r (nI_1 k) (hw _ ?_))) (fun g => ⟨pk_in k 30 hk, pk_in t 30 ht, br_c (fun g2 => pk_le t k (fun z => nm_r (nI_1 k) (hw _ ?_)) (fun z => nm_r (nI_1 _) (nm_r (nI_1 k) (hw _ ?_)))) (fun g2 => nm_r (nI_1 k) (hw _ ?_))⟩)
    · rw [sj_rkT (Or.inl (Int32.lt_iff_toInt_lt.mp g))]
    · rw [sj_rkF (fun y => y.elim (fun y => g (Int32.lt_iff_toInt_lt.mpr y)) (fun y => absurd y.2 (by omega)))]
    · rw [sj_rkT (Or.inr ⟨by rw [g2], z⟩)]
    · rw [sj_rkF (fun y => y.elim (fun y => g (Int32.lt_iff_toInt_lt.mpr y)) (fun y => g2 (Int32.toInt_inj.mp y.1)))]
theorem sj_rk58 {post : St2 → Prop} {dr ds ct tp bt cu : Int32} {a1 a2 a3 a4 a5 a6 a7 a8 : Nat → Int32} (h : ∀ a4, (∀ t, t < 30 → a4 t = nI (sj_rk a5 t 30)) → post (dr, ds, ct, tp, bt, cu, a1, a2, a3, a4, a5, a6, a7, a8)) : ∃ n, wX_rankTokens_58 post dr ds ct tp bt cu n 0 a1 a2 a3 a4 a5 a6 a7 a8 :=
  pk_loop (fun n i s => wX_rankTokens_58 post dr ds ct tp bt cu n (nI i) a1 a2 a3 s a5 a6 a7 a8) (fun i s => ∀ t, t < i → s t = nI (sj_rk a5 t 30)) 30 0 a4 (by omega) (fun t ht => absurd ht (by omega))
    (fun n s hs => pk_le 30 30 (fun _ => h s hs) (fun z => absurd z (by omega)))
    (fun n i s hi hs hw => pk_le 30 i (fun z => absurd z (by omega)) (fun _ => sj_rk68 hi (hw _ (sj_fill (f := fun t => nI (sj_rk a5 t 30)) hs rfl))))
theorem sj_rank {post : St2 → Prop} {dr ds tp bt cu : Int32} {a1 a2 a3 a4 a5 a6 a7 a8 : Nat → Int32} (h : ∀ K a4 a5, sj_K K → (∀ t, t < 30 → a4 t = nI (K t)) → post (dr, ds, nI 4, tp, bt, cu, a1, a2, a3, a4, a5, a6, a7, a8)) : wpX_rankTokens post (dr, ds, nI 4, tp, bt, cu, a1, a2, a3, a4, a5, a6, a7, a8) :=
  pk_loop (fun n i s => wX_rankTokens_2 post dr ds (nI 4) tp bt cu n (nI i) a1 a2 a3 a4 s a6 a7 a8) (fun _ _ => True) 30 0 a5 (by omega) trivial
    (fun n s _ => pk_le 30 30 (fun _ => sj_rk58 (fun a4 h4 => h _ a4 s (sj_rkK s) h4)) (fun z => absurd z (by omega)))
    (fun n i s hi _ hw => pk_le 30 i (fun z => absurd z (by omega)) (fun _ => ⟨pk_in i 30 hi, nm_e (sj_rk17 hi (fun a5' => hw a5' trivial))⟩))
end
section
theorem sj_at (r k : Nat) : (12 : Int32) * nI r + nI k = nI (12 * r + k) := by
  rw [show (12 : Int32) = nI 12 from rfl, pk_mul, nI_add]
theorem sj_atm (r k : Nat) : (12 : Int32) * nI r + nI (k + 1) - 1 = nI (12 * r + k) := by
  rw [sj_at, ← Nat.add_assoc, nI_pred]
/-- the line while the inserter walks down: places below p as they were, those above p moved up by one -/
def sj_mv (r z v p : Nat) (b s : Nat → Int32) (G : Nat → Nat) : Prop :=
  p ≤ z ∧ (∀ k, k < p → s (12 * r + k) = nI (G k)) ∧ (∀ k, p ≤ k → k < z → s (12 * r + k + 1) = nI (G k) ∧ v < G k) ∧ (∀ j, j < 12 * r ∨ 12 * r + 12 ≤ j → s j = b j)
theorem sj_mvS {r z v p : Nat} {b s : Nat → Int32} {G : Nat → Nat} (hz : z < 12) (h : sj_mv r z v (p + 1) b s G) (hv : v < G p) : sj_mv r z v p b (upd s (12 * r + (p + 1)) (nI (G p))) G := by
  obtain ⟨h1, h2, h3, h4⟩ := h
  refine ⟨by omega, fun k hk => ?_, fun k hk hk2 => ?_, fun j hj => ?_⟩
  · rw [pk_un (by omega)]
    exact h2 k (by omega)
  · by_cases e : k = p
    · subst e
      exact ⟨pk_us, hv⟩
    · rw [pk_un (by omega)]
      exact h3 k (by omega) hk2
  · rw [pk_un (by omega)]
    exact h4 j hj
theorem sj_31 {post : St2 → Prop} {J5 : Int32 → Int32 → (Nat → Int32) → (Nat → Int32) → (Nat → Int32) → (Nat → Int32) → (Nat → Int32) → (Nat → Int32) → (Nat → Int32) → (Nat → Int32) → Prop} {dr ds ct tp bt cu : Int32} {a1 a2 a3 a4 a5 a6 a7 a8 : Nat → Int32} {x2 : Int32} {r z t v : Nat} {G : Nat → Nat} (hr : r < 20) (hz : z < 12) (ht : t < 30) (hv : a4 t = nI v) (hvb : v < 30) (hG : ∀ k, k < z → G k < 30 ∧ a3 (12 * r + k) = nI (G k))
    (h : ∀ p s, sj_mv r z v p a3 s G → (∀ k, p = k + 1 → G k ≤ v) → J5 (nI (z + 1)) (nI (t + 1)) a1 a2 (upd s (12 * r + p) (nI v)) a4 a5 a6 a7 a8) :
    ∃ n, wX_spell_31 post J5 (nI r) x2 (nI z) (nI t) dr ds ct tp bt cu n (nI z) a1 a2 a3 a4 a5 a6 a7 a8 := by
  have ex : ∀ p s, sj_mv r z v p a3 s G → (∀ k, p = k + 1 → G k ≤ v) → wX_spell_92 post J5 (nI r) x2 (nI z) (nI t) (nI p) dr ds ct tp bt cu a1 a2 s a4 a5 a6 a7 a8 := by
    intro p s hs hp
    have hpz := hs.1
    unfold wX_spell_92
    rw [sj_at, nI_clamp (show 12 * r + p < 2 ^ 31 by omega), nI_clamp (show t < 2 ^ 31 by omega), hv]
    exact ⟨pk_in t 30 ht, pk_in (12 * r + p) 252 (by omega), nm_e (nm_r (nI_1 z) (nm_r (nI_1 t) (h p s hs hp)))⟩
  refine ⟨z + 1, pk_loopD (fun n p s => wX_spell_31 post J5 (nI r) x2 (nI z) (nI t) dr ds ct tp bt cu n (nI p) a1 a2 s a4 a5 a6 a7 a8) (fun p s => sj_mv r z v p a3 s G) ?_ ?_ z a3 ?_⟩
  · intro n s hs
    exact pk_le 0 0 (fun _ => ex 0 s hs (fun k e => absurd e (by omega))) (fun z => absurd z (by omega))
  · intro n p s hs hw
    have hpz := hs.1
    have hg := (hG p (by omega)).1
    refine pk_le (p + 1) 0 (fun z => absurd z (by omega)) (fun _ => ?_)
    rw [sj_atm, sj_at, nI_clamp (show 12 * r + p < 2 ^ 31 by omega), nI_clamp (show 12 * r + (p + 1) < 2 ^ 31 by omega), nI_clamp (show t < 2 ^ 31 by omega), hv, hs.2.1 p (by omega)]
    refine ⟨pk_in (12 * r + p) 252 (by omega), pk_in t 30 ht, pk_le (G p) v (fun g => ex (p + 1) s hs (fun k e => ?_)) (fun g => ⟨pk_in (12 * r + p) 252 (by omega), pk_in (12 * r + (p + 1)) 252 (by omega), nm_e (nm_r (pk_m1 p) (hw _ (sj_mvS hz hs g)))⟩)⟩
    rw [show k = p by omega]
    exact g
  · exact ⟨Nat.le_refl z, fun k hk => (hG k hk).2, fun k h1 h2 => absurd h1 (by omega), fun j _ => rfl⟩
/-- a line: the ranks of the set's tokens in rising order; T: the token at a place -/
def sj_ln (K : Nat → Nat) (a : Nat → Int32) (r m : Nat) (T : Nat → Nat) : Prop :=
  (∀ k, k < sj_pc m → T k < 6 ∧ m.testBit (T k) = true ∧ a (12 * r + k) = nI (K (T k))) ∧ (∀ k l, k < l → l < sj_pc m → K (T k) < K (T l)) ∧ (∀ t, t < 6 → m.testBit t = true → ∃ k, k < sj_pc m ∧ T k = t)
theorem sj_lnS {K T : Nat → Nat} {a s : Nat → Int32} {r m t p : Nat} (hK : sj_K K) (hm : m < 64) (ht : t < 30) (hb : m.testBit t = true) (hl : sj_ln K a r (m % 2 ^ t) T) (hs : sj_mv r (sj_pc (m % 2 ^ t)) (K t) p a s (fun k => K (T k))) (hp : ∀ k, p = k + 1 → K (T k) ≤ K t) :
    ∃ T', sj_ln K (upd s (12 * r + p) (nI (K t))) r (m % 2 ^ (t + 1)) T' := by
  obtain ⟨hpz, s1, s2, s3⟩ := hs
  obtain ⟨l1, l2, l3⟩ := hl
  obtain ⟨h6, f1, f2, f3⟩ := sj_mstep hm ht hb
  have lt : ∀ k, k < p → K (T k) < K t := by
    intro k hk
    have h1 := hp (p - 1) (by omega)
    have h2 : K (T k) ≤ K (T (p - 1)) := by
      by_cases e : k = p - 1
      · rw [e]
        exact Nat.le_refl _
      · exact Nat.le_of_lt (l2 k (p - 1) (by omega) (by omega))
    have h3 : K (T k) ≠ K t := by
      intro e
      have h4 := l1 k (by omega)
      have h5 := hK.2 _ _ (by omega) ht e
      have h7 := f3 (T k) h4.1 h4.2.1
      omega
    omega
  have gt : ∀ j, p ≤ j → j < sj_pc (m % 2 ^ t) → K t < K (T j) := fun j h1 h2 => (s2 j h1 h2).2
  refine ⟨fun k => if k < p then T k else if k = p then t else T (k - 1), ?_, ?_, ?_⟩
  · intro k hk
    rw [f1] at hk
    dsimp only
    by_cases c1 : k < p
    · rw [if_pos c1]
      have h4 := l1 k (by omega)
      refine ⟨h4.1, (f2 _ h4.1).mpr (Or.inl h4.2.1), ?_⟩
      rw [pk_un (by omega)]
      exact s1 k c1
    · rw [if_neg c1]
      by_cases c2 : k = p
      · rw [if_pos c2, c2]
        exact ⟨h6, (f2 t h6).mpr (Or.inr rfl), pk_us⟩
      · rw [if_neg c2]
        obtain ⟨j, rfl⟩ : ∃ j, k = j + 1 := ⟨k - 1, by omega⟩
        rw [Nat.add_sub_cancel]
        have h4 := l1 j (by omega)
        refine ⟨h4.1, (f2 _ h4.1).mpr (Or.inl h4.2.1), ?_⟩
        rw [pk_un (by omega)]
        exact (s2 j (by omega) (by omega)).1
  · intro k l hkl hl
    rw [f1] at hl
    dsimp only
    by_cases c1 : l < p
    · rw [if_pos c1, if_pos (show k < p by omega)]
      exact l2 k l hkl (by omega)
    · rw [if_neg c1]
      by_cases c2 : l = p
      · rw [if_pos c2, if_pos (show k < p by omega)]
        exact lt k (by omega)
      · rw [if_neg c2]
        have g1 := gt (l - 1) (by omega) (by omega)
        by_cases c3 : k < p
        · rw [if_pos c3]
          have g2 := lt k c3
          omega
        · rw [if_neg c3]
          by_cases c4 : k = p
          · rw [if_pos c4]
            exact g1
          · rw [if_neg c4]
            exact l2 (k - 1) (l - 1) (by omega) (by omega)
  · intro x hx hb'
    rcases (f2 x hx).mp hb' with h | h
    · obtain ⟨k, hk, e⟩ := l3 x hx h
      by_cases c : k < p
      · refine ⟨k, by omega, ?_⟩
        dsimp only
        rw [if_pos c]
        exact e
      · refine ⟨k + 1, by omega, ?_⟩
        dsimp only
        rw [if_neg (by omega), if_neg (by omega), Nat.add_sub_cancel]
        exact e
    · refine ⟨p, by omega, ?_⟩
      dsimp only
      rw [if_neg (by omega), if_pos rfl]
      exact h.symm
theorem sj_spell {post : St2 → Prop} {dr ds ct tp bt cu : Int32} {a1 a2 a3 a4 a5 a6 a7 a8 : Nat → Int32} {K : Nat → Nat} {r m : Nat} {x y : Int32} (hr : r < 20) (hm : m < 64) (hK : sj_K K) (h4 : ∀ t, t < 30 → a4 t = nI (K t))
    (h : ∀ s T, sj_ln K s r m T → (∀ j, j < 12 * r ∨ 12 * r + 12 ≤ j → s j = a3 j) → post (dr, ds, ct, tp, bt, cu, a1, a2, s, a4, a5, a6, a7, a8)) (hx : x = nI r := by rfl) (hy : y = nI m := by rfl) : wpX_spell post (dr, ds, ct, tp, bt, cu, a1, a2, a3, a4, a5, a6, a7, a8) x y := by
  subst hx hy
  refine pk_loop (σ := Int32 × (Nat → Int32)) (fun n i s => wX_spell_5 post (nI r) (nI m) dr ds ct tp bt cu n s.1 (nI i) a1 a2 s.2 a4 a5 a6 a7 a8) (fun i s => s.1 = nI (sj_pc (m % 2 ^ i)) ∧ (∃ T, sj_ln K s.2 r (m % 2 ^ i) T) ∧ ∀ j, j < 12 * r ∨ 12 * r + 12 ≤ j → s.2 j = a3 j) 30 0 (0, a3) (by omega) ?_ ?_ ?_
  · rw [Nat.pow_zero, Nat.mod_one]
    refine ⟨rfl, ⟨fun _ => 0, fun k hk => absurd hk (Nat.not_lt_zero k), fun k l h1 h2 => absurd h2 (Nat.not_lt_zero l), fun t ht hb => ?_⟩, fun j _ => rfl⟩
    rw [Nat.zero_testBit] at hb
    exact absurd hb (by decide)
  · rintro n ⟨s1, s2⟩ ⟨h1, ⟨T, h2⟩, h3⟩
    rw [Nat.mod_eq_of_lt (by omega)] at h2
    exact pk_le 30 30 (fun _ => h s2 T h2 h3) (fun z => absurd z (by omega))
  · rintro n i ⟨s1, s2⟩ hi ⟨h1, ⟨T, h2⟩, h3⟩ hw
    dsimp only at h1 h2 h3
    subst h1
    refine pk_le 30 i (fun z => absurd z (by omega)) (fun _ => ?_)
    have h6 := sj_pc6 (m % 2 ^ i)
    by_cases hb : m.testBit i = true
    · refine br_t ((sj_bit1 hm hi).mpr hb) (pk_le 12 (sj_pc (m % 2 ^ i)) (fun z => absurd z (by omega)) (fun _ => sj_31 (G := fun k => K (T k)) hr (by omega) hi (h4 i hi) (hK.1 i hi) (fun k hk => ⟨hK.1 _ (Nat.lt_of_lt_of_le (h2.1 k hk).1 (by omega)), (h2.1 k hk).2.2⟩) (fun p s hs hp => ?_)))
      refine hw (nI (sj_pc (m % 2 ^ i) + 1), upd s (12 * r + p) (nI (K i))) ⟨?_, sj_lnS hK hm hi hb h2 hs hp, fun j hj => ?_⟩
      · rw [(sj_mstep hm hi hb).2.1]
      · have hpz := hs.1
        dsimp only
        rw [pk_un (by omega), hs.2.2.2 j hj]
        exact h3 j hj
    · have hf : m.testBit i = false := by
        cases e : m.testBit i
        · rfl
        · exact absurd e hb
      have es := sj_skip m hm i hi hf
      refine br_f (fun z => hb ((sj_bit1 hm hi).mp z)) (nm_r (nI_1 i) (hw (nI (sj_pc (m % 2 ^ i)), s2) ?_))
      rw [es]
      exact ⟨rfl, ⟨T, h2⟩, h3⟩
end
section
/-- w: the mask of the tokens that stand at places i and behind -/
def sj_sf (A : Nat → Nat) (z i w : Nat) : Prop := w < 64 ∧ sj_pc w + i = z ∧ ∀ x, x < 6 → (w.testBit x = true ↔ ∃ k, i ≤ k ∧ k < z ∧ A k = x)
theorem sj_sf0 {K : Nat → Nat} {a : Nat → Int32} {r m : Nat} {T : Nat → Nat} (hm : m < 64) (h : sj_ln K a r m T) : sj_sf T (sj_pc m) 0 m := by
  refine ⟨hm, rfl, fun x hx => ⟨fun hb => ?_, fun ⟨k, _, hk, e⟩ => ?_⟩⟩
  · obtain ⟨k, hk, e⟩ := h.2.2 x hx hb
    exact ⟨k, Nat.zero_le k, hk, e⟩
  · rw [← e]
    exact (h.1 k hk).2.1
theorem sj_sfS {A : Nat → Nat} {z i w : Nat} (hA : ∀ k, k < z → A k < 6) (inj : ∀ k l, k < l → l < z → A k ≠ A l) (hi : i < z) (h : sj_sf A z i w) : w.testBit (A i) = true ∧ sj_sf A z (i + 1) (w - 2 ^ (A i)) := by
  obtain ⟨h1, h2, h3⟩ := h
  have hb : w.testBit (A i) = true := (h3 _ (hA i hi)).mpr ⟨i, Nat.le_refl i, hi, rfl⟩
  obtain ⟨p1, p2⟩ := sj_pcrm h1 (hA i hi) hb
  refine ⟨hb, Nat.lt_of_le_of_lt (Nat.sub_le _ _) h1, by omega, fun x hx => ?_⟩
  rw [p2 x hx, h3 x hx]
  constructor
  · rintro ⟨⟨k, k1, k2, k3⟩, ne⟩
    refine ⟨k, ?_, k2, k3⟩
    by_cases e : k = i
    · rw [e] at k3
      exact absurd k3.symm ne
    · omega
  · rintro ⟨k, k1, k2, k3⟩
    refine ⟨⟨k, by omega, k2, k3⟩, fun e => ?_⟩
    exact inj i k (by omega) k2 (by rw [k3, e])
theorem sj_sfE {A : Nat → Nat} {z : Nat} {m : Nat} (hA : ∀ k, k < z → A k < 6) (inj : ∀ k l, k < l → l < z → A k ≠ A l) (h0 : sj_sf A z 0 m) : ∀ i, i ≤ z → ∃ w, sj_sf A z i w := by
  intro i
  induction i with
  | zero => exact fun _ => ⟨m, h0⟩
  | succ i ih =>
    intro hi
    obtain ⟨w, hw⟩ := ih (by omega)
    exact ⟨_, (sj_sfS hA inj (by omega) hw).2⟩
theorem sj_lnI {K : Nat → Nat} {a : Nat → Int32} {r m : Nat} {T : Nat → Nat} (h : sj_ln K a r m T) : ∀ k l, k < l → l < sj_pc m → T k ≠ T l := by
  intro k l h1 h2 e
  have h3 := h.2.1 k l h1 h2
  rw [e] at h3
  omega
/-- what two sets share stands behind the first that they share -/
theorem sj_first {K : Nat → Nat} {a : Nat → Int32} {r m : Nat} {T : Nat → Nat} {c i : Nat} (hm : m < 64) (h : sj_ln K a r m T) (hc : c < 64) (hi : i < sj_pc m) (hn : ∀ x, x < 6 → c.testBit x = true → ∃ k, i ≤ k ∧ k < sj_pc m ∧ T k = x) : sj_pc c + i ≤ sj_pc m := by
  obtain ⟨w, w1, w2, w3⟩ := sj_sfE (fun k hk => (h.1 k hk).1) (sj_lnI h) (sj_sf0 hm h) i (by omega)
  have hmono := sj_pcmono c hc w w1 (fun x hx hb => (w3 x hx).mpr (hn x hx hb))
  omega
theorem sj_andb {a b x : Nat} : (a &&& b).testBit x = true ↔ a.testBit x = true ∧ b.testBit x = true := by
  rw [Nat.testBit_and, Bool.and_eq_true]
/-- the prefix filter: alike sets meet within their prefixes -/
theorem sj_meet {K : Nat → Nat} {a : Nat → Int32} {r b mr mb t u : Nat} {A B : Nat → Nat} (hK : sj_K K) (hr : mr < 64) (hb : mb < 64) (hr1 : 1 ≤ mr) (ht : 1 ≤ t) (htu : t ≤ u) (la : sj_ln K a r mr A) (lb : sj_ln K a b mb B) (hal : sj_al t u mr mb) :
    ∃ k, k < sj_pf t u (sj_pc mr) ∧ ∃ l, l < sj_pf t u (sj_pc mb) ∧ K (B l) = K (A k) := by
  have hal' : t * sj_pc (mr ||| mb) ≤ u * sj_pc (mr &&& mb) := hal
  have e1 := sj_pcor mr hr mb hb
  obtain ⟨g1, g2⟩ := sj_pcle mr hr mb hb
  have c64 := (sj_and mr hr mb hb).2
  have p1 := sj_pc1 hr1 hr
  have q1 : t * sj_pc mr ≤ t * sj_pc (mr ||| mb) := Nat.mul_le_mul_left t (by omega)
  have q2 : t * sj_pc mb ≤ t * sj_pc (mr ||| mb) := Nat.mul_le_mul_left t (by omega)
  have q3 : 1 * 1 ≤ t * sj_pc mr := Nat.mul_le_mul ht p1
  have n1 : sj_nd t u (sj_pc mr) ≤ sj_pc (mr &&& mb) := (sj_ndI (by omega)).mpr (by omega)
  have n2 : sj_nd t u (sj_pc mb) ≤ sj_pc (mr &&& mb) := (sj_ndI (by omega)).mpr (by omega)
  have cpos : 1 ≤ sj_pc (mr &&& mb) := by
    rcases Nat.eq_zero_or_pos (sj_pc (mr &&& mb)) with z | z
    · rw [z] at hal'
      omega
    · exact z
  have ex : ∃ k, k < sj_pc mr ∧ mb.testBit (A k) = true := by
    refine Classical.byContradiction (fun hno => ?_)
    have h0 := sj_pcmono _ c64 0 (by decide) (fun x hx hb2 => by
      obtain ⟨b1, b2⟩ := sj_andb.mp hb2
      obtain ⟨k, hk, e⟩ := la.2.2 x hx b1
      exact absurd ⟨k, hk, by rw [e]; exact b2⟩ hno)
    have z0 : sj_pc 0 = 0 := by decide
    omega
  obtain ⟨i, ⟨hi, hbi⟩, hmin⟩ := pk_least _ ex
  have ai := la.1 i hi
  have f1 := sj_first hr la c64 hi (fun x hx hb2 => by
    obtain ⟨b1, b2⟩ := sj_andb.mp hb2
    obtain ⟨k, hk, e⟩ := la.2.2 x hx b1
    refine ⟨k, ?_, hk, e⟩
    rcases Nat.lt_or_ge k i with z | z
    · exact absurd ⟨hk, by rw [e]; exact b2⟩ (hmin k z)
    · exact z)
  obtain ⟨j, hj, ej⟩ := lb.2.2 (A i) ai.1 hbi
  have f2 := sj_first hb lb c64 hj (fun x hx hb2 => by
    obtain ⟨b1, b2⟩ := sj_andb.mp hb2
    obtain ⟨l, hl, e⟩ := lb.2.2 x hx b2
    refine ⟨l, ?_, hl, e⟩
    rcases Nat.lt_or_ge l j with z | z
    · have o1 := lb.2.1 l j z hj
      obtain ⟨k, hk, e'⟩ := la.2.2 x hx b1
      rw [ej, e, ← e'] at o1
      rcases Nat.lt_or_ge k i with y | y
      · exact absurd ⟨hk, by rw [e']; exact b2⟩ (hmin k y)
      · by_cases ee : k = i
        · rw [ee] at o1
          omega
        · have o2 := la.2.1 i k (by omega) hk
          omega
    · exact z)
  refine ⟨i, ?_, j, ?_, by rw [ej]⟩
  · unfold sj_pf
    omega
  · unfold sj_pf
    omega
theorem sj_163 {post : Int32 → Prop} {J : Int32 → Int32 → Int32 → Int32 → Prop} {dr ds ct tp bt cu : Int32} {a1 a2 a3 a4 a5 a6 a7 a8 : Nat → Int32} {x1 x2 x3 x5 : Int32} {a b i j s k : Nat} (ha : a < 30) (hb : b < 30)
    (h1 : a = b → J (nI (i + 1)) (nI (j + 1)) (nI s) (nI (k + 1))) (h2 : a < b → J (nI (i + 1)) (nI j) (nI s) (nI (k + 1))) (h3 : b < a → J (nI i) (nI (j + 1)) (nI s) (nI (k + 1))) :
    wX_verify_163 post J x1 x2 x3 x5 (nI i) (nI j) (nI s) (nI k) (nI a) (nI b) dr ds ct tp bt cu a1 a2 a3 a4 a5 a6 a7 a8 :=
  pk_lt b a
    (fun z => nm_r (nI_add i 0) (pk_lt a b (fun z2 => absurd z2 (by omega)) (fun _ => nm_r (nI_1 j) (nm_r (nI_1 k) (h3 z)))))
    (fun z => nm_r (nI_1 i) (pk_lt a b (fun z2 => nm_r (nI_add j 0) (nm_r (nI_1 k) (h2 z2))) (fun z2 => nm_r (nI_1 j) (nm_r (nI_1 k) (h1 (by omega))))))
theorem sj_55 {post : Int32 → Prop} {dr ds ct tp bt cu : Int32} {a1 a2 a3 a4 a5 a6 a7 a8 : Nat → Int32} {K : Nat → Nat} {r b mr mb N c : Nat} {A B : Nat → Nat} (hK : sj_K K) (hr : r < 20) (hb : b < 20) (h2 : a2 b = nI (sj_pc mb)) (la : sj_ln K a3 r mr A) (lb : sj_ln K a3 b mb B) (hN : N < 100) (p1 : N ≤ c → post 1) (p0 : c < N → post 0) :
    ∀ n i j s k w v, 24 < k + n → k ≤ i + j → i ≤ sj_pc mr → j ≤ sj_pc mb → sj_sf A (sj_pc mr) i w → sj_sf B (sj_pc mb) j v → s + sj_pc (w &&& v) = c → s ≤ i → wX_verify_55 post (nI r) (nI (sj_pc mr)) (nI b) (nI N) dr ds ct tp bt cu a1 a2 a3 a4 a5 a6 a7 a8 n (nI i) (nI j) (nI s) (nI k) := by
  have ra := sj_pc6 mr
  have rb := sj_pc6 mb
  intro n
  induction n with
  | zero => exact fun i j s k w v h1 h3 h4 h5 _ _ _ _ => absurd h1 (by omega)
  | succ n ih =>
    intro i j s k w v hn hk hi hj sa sb hc hs
    obtain ⟨le1, le2⟩ := sj_pcle w sa.1 v sb.1
    have w2 := sa.2.1
    have v2 := sb.2.1
    have fin : (i = sj_pc mr ∨ j = sj_pc mb) → wX_verify_203 post (nI N) (nI s) dr ds ct tp bt cu a1 a2 a3 a4 a5 a6 a7 a8 := fun o =>
      pk_lt s N (fun z => p0 (by omega)) (fun z => p1 (by omega))
    have st : i < sj_pc mr → j < sj_pc mb → ∀ z, c ≤ s + z → z ≤ 6 → wX_verify_111 post (wX_verify_55 post (nI r) (nI (sj_pc mr)) (nI b) (nI N) dr ds ct tp bt cu a1 a2 a3 a4 a5 a6 a7 a8 n) (nI r) (nI (sj_pc mr)) (nI b) (nI N) (nI i) (nI j) (nI s) (nI k) (nI z) dr ds ct tp bt cu a1 a2 a3 a4 a5 a6 a7 a8 := by
      intro hi' hj' z hz hz6
      have ai := la.1 i hi'
      have bj := lb.1 j hj'
      have ka := hK.1 (A i) (by omega)
      have kb := hK.1 (B j) (by omega)
      obtain ⟨ba, sa'⟩ := sj_sfS (fun k hk => (la.1 k hk).1) (sj_lnI la) hi' sa
      obtain ⟨bb, sb'⟩ := sj_sfS (fun k hk => (lb.1 k hk).1) (sj_lnI lb) hj' sb
      unfold wX_verify_111
      rw [nI_add, sj_at, sj_at, nI_clamp (show 12 * r + i < 2 ^ 31 by omega), nI_clamp (show 12 * b + j < 2 ^ 31 by omega), ai.2.2, bj.2.2]
      refine pk_le N (s + z) (fun _ => ⟨pk_in (12 * r + i) 252 (by omega), nm_e ⟨pk_in (12 * b + j) 252 (by omega), nm_e (pk_eq (K (A i)) (K (B j)) (fun e => nm_r (nI_1 s) (sj_163 ka kb (fun _ => ?_) (fun y => absurd y (by omega)) (fun y => absurd y (by omega)))) (fun e => sj_163 ka kb (fun y => absurd y e) (fun y => ?_) (fun y => ?_)))⟩⟩) (fun y => p0 (by omega))
      · have eab : A i = B j := hK.2 _ _ (by omega) (by omega) e
        rw [eab] at ba sa'
        have h5 := sj_pcrr (B j) bj.1 w sa.1 ba v sb.1 bb
        exact ih (i + 1) (j + 1) (s + 1) (k + 1) _ _ (by omega) (by omega) (by omega) (by omega) sa' sb' (by omega) (by omega)
      · have vf : v.testBit (A i) = false := by
          cases ev : v.testBit (A i)
          · rfl
          · obtain ⟨l, l1, l2, l3⟩ := (sb.2.2 (A i) ai.1).mp ev
            by_cases el : l = j
            · rw [el] at l3
              rw [l3] at y
              omega
            · have o := lb.2.1 j l (by omega) l2
              rw [l3] at o
              omega
        have h5 := sj_pcr1 (A i) ai.1 w sa.1 ba v sb.1 vf
        exact ih (i + 1) j s (k + 1) _ _ (by omega) (by omega) (by omega) (by omega) sa' sb (by omega) (by omega)
      · have wf : w.testBit (B j) = false := by
          cases ev : w.testBit (B j)
          · rfl
          · obtain ⟨l, l1, l2, l3⟩ := (sa.2.2 (B j) bj.1).mp ev
            by_cases el : l = i
            · rw [el] at l3
              rw [l3] at y
              omega
            · have o := la.2.1 i l (by omega) l2
              rw [l3] at o
              omega
        have h5 := sj_pcr1 (B j) bj.1 v sb.1 bb w sa.1 wf
        rw [Nat.and_comm, Nat.and_comm v w] at h5
        exact ih i (j + 1) s (k + 1) _ _ (by omega) (by omega) (by omega) (by omega) sa sb' (by omega) (by omega)
    refine pk_le 24 k (fun z => absurd z (by omega)) (fun _ => pk_le (sj_pc mr) i (fun z => fin (Or.inl (by omega))) (fun hi' => ⟨pk_in b 20 hb, ?_⟩))
    rw [nI_clamp (show b < 2 ^ 31 by omega), h2]
    refine pk_le (sj_pc mb) j (fun z => fin (Or.inr (by omega))) (fun hj' => ⟨pk_in b 20 hb, ?_⟩)
    rw [pk_sub (Nat.le_of_lt hj'), pk_sub (Nat.le_of_lt hi')]
    exact pk_le (sj_pc mb - j) (sj_pc mr - i) (fun z => ⟨pk_in b 20 hb, st hi' hj' _ (by omega) (by omega)⟩) (fun z => st hi' hj' _ (by omega) (by omega))
theorem sj_verify {post : Int32 → Prop} {dr ds ct cu : Int32} {a1 a2 a3 a4 a5 a6 a7 a8 : Nat → Int32} {K : Nat → Nat} {r b mr mb t u : Nat} {A B : Nat → Nat} {x y z : Int32} (hK : sj_K K) (hr : r < 20) (hb : b < 20) (hmr : mr < 64) (hmb : mb < 64) (ht : 1 ≤ t) (htu : t ≤ u) (hu : u ≤ 11) (h2 : a2 b = nI (sj_pc mb)) (la : sj_ln K a3 r mr A) (lb : sj_ln K a3 b mb B) (p1 : sj_al t u mr mb → post 1) (p0 : ¬ sj_al t u mr mb → post 0) (hx : x = nI r := by rfl) (hy : y = nI (sj_pc mr) := by rfl) (hz : z = nI b := by rfl) : wpX_verify post (dr, ds, ct, nI t, nI u, cu, a1, a2, a3, a4, a5, a6, a7, a8) x y z := by
  subst hx hy hz
  have ra := sj_pc6 mr
  have rb := sj_pc6 mb
  have hI : sj_nd t (t + u) (sj_pc mr + sj_pc mb) ≤ sj_pc (mr &&& mb) ↔ sj_al t u mr mb := sj_alI hmr hmb ht
  have m1 : t * (sj_pc mr + sj_pc mb) ≤ 11 * 12 := Nat.mul_le_mul (by omega) (by omega)
  have e : (nI t * (nI (sj_pc mr) + nI (sj_pc mb)) + nI (t + u)) - 1 = nI (t * (sj_pc mr + sj_pc mb) + (t + u) - 1) := by
    rw [nI_add, pk_mul, nI_add, show (1 : Int32) = nI 1 from rfl, pk_sub (by omega)]
  have hN : sj_nd t (t + u) (sj_pc mr + sj_pc mb) ≤ 12 := by
    have h := (sj_ndI (t := t) (u := t + u) (z := sj_pc mr + sj_pc mb) (c := sj_pc mr + sj_pc mb) (by omega)).mpr (Nat.mul_le_mul_right _ (by omega))
    omega
  have k : wX_verify_40 post (nI r) (nI (sj_pc mr)) (nI b) (nI (t + u)) (nI (t * (sj_pc mr + sj_pc mb) + (t + u) - 1)) dr ds ct (nI t) (nI u) cu a1 a2 a3 a4 a5 a6 a7 a8 := by
    refine ⟨nI_ne0 (by omega) (by omega), nm_r (pk_div (by omega) (by omega) (by omega)) ?_⟩
    exact ⟨25, sj_55 (c := sj_pc (mr &&& mb)) (N := sj_nd t (t + u) (sj_pc mr + sj_pc mb)) hK hr hb h2 la lb (by omega) (fun z => p1 (hI.mp z)) (fun z => p0 (fun y => absurd (hI.mpr y) (by omega))) 25 0 0 0 0 mr mb (by omega) (by omega) (by omega) (by omega) (sj_sf0 hmr la) (sj_sf0 hmb lb) (by omega) (by omega)⟩
  rw [← e, ← h2] at k
  refine nm_r (nI_add t u) ⟨pk_in b 20 hb, ?_⟩
  rw [nI_clamp (show b < 2 ^ 31 by omega)]
  exact pk_le (t + u) 0 (fun z => absurd z (by omega)) (fun _ => k)
/-- the index: at a rank the records below R that have it within their prefix -/
def sj_id (K m : Nat → Nat) (t u : Nat) (T : Nat → Nat → Nat) (R : Nat) (a : Nat → Int32) : Prop := ∀ x, x < 30 → ∃ D, D < 16 ∧ a x = nI D ∧ ∀ b, b < 4 → (D.testBit b = true ↔ b < R ∧ ∃ l, l < sj_pf t u (sj_pc (m b)) ∧ K (T b l) = x)
theorem sj_113 {post : Int32 → Prop} {J : Int32 → Int32 → Prop} {dr ds ct cu : Int32} {a1 a2 a3 a4 a5 a6 a7 a8 : Nat → Int32} {K : Nat → Nat} {r b mr mb t u C : Nat} {A B : Nat → Nat} {z0 s : Int32} (hK : sj_K K) (hr : r < 20) (hb : b < 4) (hmr : mr < 64) (hmb : mb < 64) (ht : 1 ≤ t) (htu : t ≤ u) (hu : u ≤ 11) (h2 : a2 b = nI (sj_pc mb)) (la : sj_ln K a3 r mr A) (lb : sj_ln K a3 b mb B) (hC : C < 16) (cb : sj_al t u mr mb → C.testBit b = true) (zb : sj_al t u mr mb → ¬ z0 = 0)
    (hn : ¬ sj_al t u mr mb → J s (nI (b + 1))) (hy : sj_al t u mr mb → J (s ||| ((1 : Int32) <<< (nI b &&& 31))) (nI (b + 1))) :
    wX_probe_113 post J (nI r) (nI (sj_pc mr)) (nI C) s (nI b) z0 dr ds ct (nI t) (nI u) cu a1 a2 a3 a4 a5 a6 a7 a8 := by
  by_cases hc : C.testBit b = true
  · refine br_t ((sj_bit1 (by omega) (by omega)).mpr hc) (br_c (fun z => nm_r (nI_1 b) (hn (fun y => zb y z))) (fun _ => ?_))
    refine sj_verify hK hr (by omega) hmr hmb ht htu hu h2 la lb (fun y => ?_) (fun y => ?_)
    · exact br_f (by decide) (nm_e (nm_r (nI_1 b) (hy y)))
    · exact br_t rfl (nm_r (nI_1 b) (hn y))
  · exact br_f (fun z => hc ((sj_bit1 (by omega) (by omega)).mp z)) (nm_r (nI_1 b) (hn (fun y => hc (cb y))))
theorem sj_57 {post : Int32 → Prop} {dr ds cu : Int32} {a1 a2 a3 a4 a5 a6 a7 a8 : Nat → Int32} {K m : Nat → Nat} {r t u g C : Nat} {T : Nat → Nat → Nat} (H : sj_H m t u g) (hK : sj_K K) (hr : r < 4) (hB : sj_B m 4 a1 a2) (hl : ∀ b, b < 4 → sj_ln K a3 b (m b) (T b)) (hC : C < 16) (cb : ∀ b, b < 4 → sj_al t u (m r) (m b) → C.testBit b = true) (h : post (nI (sj_rw g r))) :
    ∃ n, wX_probe_57 post (nI r) (nI (sj_pc (m r))) (nI C) dr ds (nI 4) (nI t) (nI u) cu a1 a2 a3 a4 a5 a6 a7 a8 n 0 0 := by
  obtain ⟨hm, ht, htu, hu, hg, _⟩ := id H
  have F16 := sj_rw16 g hg r hr
  refine pk_loop (fun n b s => wX_probe_57 post (nI r) (nI (sj_pc (m r))) (nI C) dr ds (nI 4) (nI t) (nI u) cu a1 a2 a3 a4 a5 a6 a7 a8 n s (nI b)) (fun b s => s = nI (sj_rw g r % 2 ^ b)) 4 0 0 (by omega) (by rw [Nat.pow_zero, Nat.mod_one]; rfl) ?_ ?_
  · intro n s hs
    rw [Nat.mod_eq_of_lt (by omega)] at hs
    subst hs
    exact pk_le 4 4 (fun _ => h) (fun z => absurd z (by omega))
  · intro n b s hb hs hw
    subst hs
    have hal := sj_rwa H hr hb
    have k1 := sj_pc6 (m r)
    have k2 := sj_pc6 (m b)
    have m1 : u * sj_pc (m b) ≤ 11 * 6 := Nat.mul_le_mul hu k2
    have m2 : u * sj_pc (m r) ≤ 11 * 6 := Nat.mul_le_mul hu k1
    have m3 : t * sj_pc (m r) ≤ 11 * 6 := Nat.mul_le_mul (by omega) k1
    have m4 : t * sj_pc (m b) ≤ 11 * 6 := Nat.mul_le_mul (by omega) k2
    have near : sj_al t u (m r) (m b) → t * sj_pc (m r) ≤ u * sj_pc (m b) ∧ t * sj_pc (m b) ≤ u * sj_pc (m r) := by
      intro y
      have y' : t * sj_pc (m r ||| m b) ≤ u * sj_pc (m r &&& m b) := y
      have e1 := sj_pcor _ (hm r hr).2 _ (hm b hb).2
      obtain ⟨g1, g2⟩ := sj_pcle _ (hm r hr).2 _ (hm b hb).2
      have q1 : t * sj_pc (m r) ≤ t * sj_pc (m r ||| m b) := Nat.mul_le_mul_left t (by omega)
      have q2 : t * sj_pc (m b) ≤ t * sj_pc (m r ||| m b) := Nat.mul_le_mul_left t (by omega)
      have q3 : u * sj_pc (m r &&& m b) ≤ u * sj_pc (m r) := Nat.mul_le_mul_left u g1
      have q4 : u * sj_pc (m r &&& m b) ≤ u * sj_pc (m b) := Nat.mul_le_mul_left u g2
      omega
    have go : ∀ z0 : Int32, (sj_al t u (m r) (m b) → ¬ z0 = 0) → wX_probe_113 post (wX_probe_57 post (nI r) (nI (sj_pc (m r))) (nI C) dr ds (nI 4) (nI t) (nI u) cu a1 a2 a3 a4 a5 a6 a7 a8 n) (nI r) (nI (sj_pc (m r))) (nI C) (nI (sj_rw g r % 2 ^ b)) (nI b) z0 dr ds (nI 4) (nI t) (nI u) cu a1 a2 a3 a4 a5 a6 a7 a8 := by
      intro z0 hz
      refine sj_113 hK (by omega) hb (hm r hr).2 (hm b hb).2 ht htu hu (hB b hb).2 (hl r hr) (hl b hb) hC (cb b hb) hz (fun y => hw _ ?_) (fun y => hw _ ?_)
      · have hf : (sj_rw g r).testBit b = false := by
          cases e : (sj_rw g r).testBit b
          · rfl
          · exact absurd (hal.mp e) y
        rw [sj_skip _ (by omega) b (by omega) hf]
      · exact (sj_setb _ (by omega) b (by omega) (hal.mpr y)).1
    refine pk_le 4 b (fun z => absurd z (by omega)) (fun _ => ⟨pk_in b 20 (by omega), ?_⟩)
    rw [nI_clamp (show b < 2 ^ 31 by omega), (hB b hb).2, pk_mul, pk_mul, pk_mul, pk_mul]
    exact pk_lt (u * sj_pc (m b)) (t * sj_pc (m r)) (fun z => go 0 (fun y => absurd (near y).1 (by omega))) (fun z => ⟨pk_in b 20 (by omega), pk_lt (u * sj_pc (m r)) (t * sj_pc (m b)) (fun z2 => go 0 (fun y => absurd (near y).2 (by omega))) (fun z2 => go 1 (fun _ => by decide))⟩)
theorem sj_probe {post : Int32 → Prop} {dr ds cu : Int32} {a1 a2 a3 a4 a5 a6 a7 a8 : Nat → Int32} {K m : Nat → Nat} {r t u g : Nat} {T : Nat → Nat → Nat} {x y : Int32} (H : sj_H m t u g) (hK : sj_K K) (hr : r < 4) (hB : sj_B m 4 a1 a2) (hl : ∀ b, b < 4 → sj_ln K a3 b (m b) (T b)) (hd : sj_id K m t u T 4 a6) (h : post (nI (sj_rw g r))) (hx : x = nI r := by rfl) (hy : y = nI (sj_pc (m r)) := by rfl) :
    wpX_probe post (dr, ds, nI 4, nI t, nI u, cu, a1, a2, a3, a4, a5, a6, a7, a8) x y := by
  subst hx hy
  obtain ⟨hm, ht, htu, hu, hg, _⟩ := id H
  have p1 := sj_pc1 (hm r hr).1 (hm r hr).2
  have p6 := sj_pc6 (m r)
  obtain ⟨_, pz⟩ := sj_pfz ht htu p1
  refine br_f (nI_ne0 (by omega) (by omega)) (sj_prefix ht htu hu p6 ?_)
  refine pk_loop (fun n k s => wX_probe_18 post (nI r) (nI (sj_pc (m r))) (nI (sj_pf t u (sj_pc (m r)))) dr ds (nI 4) (nI t) (nI u) cu a1 a2 a3 a4 a5 a6 a7 a8 n s (nI k)) (fun k s => ∃ C, C < 16 ∧ s = nI C ∧ ∀ b, b < 4 → (C.testBit b = true ↔ ∃ k', k' < k ∧ ∃ l, l < sj_pf t u (sj_pc (m b)) ∧ K (T b l) = K (T r k'))) (sj_pf t u (sj_pc (m r))) 0 0 (by omega) ⟨0, by omega, rfl, fun b hb => ?_⟩ ?_ ?_
  · rw [Nat.zero_testBit]
    exact ⟨fun z => absurd z (by decide), fun ⟨k, hk, _⟩ => absurd hk (by omega)⟩
  · rintro n s ⟨C, hC, rfl, hb⟩
    refine pk_le (sj_pf t u (sj_pc (m r))) (sj_pf t u (sj_pc (m r))) (fun _ => sj_57 H hK hr hB hl hC (fun b hb4 hal => ?_) h) (fun z => absurd z (by omega))
    exact (hb b hb4).mpr (sj_meet hK (hm r hr).2 (hm b hb4).2 (hm r hr).1 ht htu (hl r hr) (hl b hb4) hal)
  · rintro n k s hk ⟨C, hC, rfl, hb⟩ hw
    have lk := (hl r hr).1 k (by omega)
    have kk := hK.1 (T r k) (by omega)
    obtain ⟨D, hD, eD, bD⟩ := hd _ kk
    refine pk_le (sj_pf t u (sj_pc (m r))) k (fun z => absurd z (by omega)) (fun _ => ?_)
    rw [sj_at, nI_clamp (show 12 * r + k < 2 ^ 31 by omega), lk.2.2, nI_clamp (show K (T r k) < 2 ^ 31 by omega), eD]
    refine ⟨pk_in (12 * r + k) 252 (by omega), pk_in _ 30 kk, nm_r (sj_or C (by omega) D (by omega)).1 (nm_r (nI_1 k) (hw _ ⟨C ||| D, Nat.or_lt_two_pow (n := 4) hC hD, rfl, fun b hb4 => ?_⟩))⟩
    rw [Nat.testBit_or, Bool.or_eq_true, hb b hb4, bD b hb4]
    constructor
    · rintro (⟨k', h1, h2⟩ | ⟨_, l, h1, h2⟩)
      · exact ⟨k', by omega, h2⟩
      · exact ⟨k, by omega, l, h1, h2⟩
    · rintro ⟨k', h1, l, h2, h3⟩
      by_cases e : k' = k
      · rw [e] at h3
        exact Or.inr ⟨hb4, l, h2, h3⟩
      · exact Or.inl ⟨k', by omega, l, h2, h3⟩
end
section
/-- the union: some parents with these roots -/
def sj_U (a : Nat → Int32) (q : Nat) : Prop := ∃ p, p < 256 ∧ sj_ok p = true ∧ sj_rq p = q ∧ ∀ i, i < 4 → a i = nI (sj_gt p i)
theorem sj_put {a : Nat → Int32} {p j v : Nat} (hp : p < 256) (hj : j < 4) (hv : v < 4) (h : ∀ i, i < 4 → a i = nI (sj_gt p i)) : ∀ i, i < 4 → upd a j (nI v) i = nI (sj_gt (sj_st p j v) i) := by
  intro i hi
  rw [(sj_stg p hp j hj v hv).2 i hi]
  by_cases e : i = j
  · rw [if_pos e, e, pk_us]
  · rw [if_neg e, pk_un e]
    exact h i hi
theorem sj_root4 {post : Int32 → St2 → Prop} {dr ds ct tp bt cu : Int32} {a1 a2 a3 a4 a5 a6 a7 : Nat → Int32} {q r : Nat} (h : ∀ a8, sj_U a8 q → post (nI (sj_gt q r)) (dr, ds, ct, tp, bt, cu, a1, a2, a3, a4, a5, a6, a7, a8)) :
    ∀ n k i p (a8 : Nat → Int32), i < n → i < 4 → k + i ≤ 3 → p < 256 → sj_ok p = true → sj_rq p = q → sj_gt q i = sj_gt q r → (∀ j, j < 4 → a8 j = nI (sj_gt p j)) → wX_root_4 post dr ds ct tp bt cu n (nI i) (nI k) a1 a2 a3 a4 a5 a6 a7 a8 := by
  intro n
  induction n with
  | zero => exact fun k i p a8 h1 _ _ _ _ _ _ _ => absurd h1 (by omega)
  | succ n ih =>
    intro k i p a8 hi hi4 hk hp hok hq hr ha
    obtain ⟨v1, v2, v3, v4, v5, v6⟩ := sj_hv p hp hok i hi4
    rw [hq] at v2 v5 v6
    have g4 := sj_gt4 p (sj_gt p i)
    refine pk_le 20 k (fun z => absurd z (by omega)) (fun _ => ⟨pk_in i 20 (by omega), ?_⟩)
    rw [nI_clamp (show i < 2 ^ 31 by omega), ha i hi4, nI_clamp (show sj_gt p i < 2 ^ 31 by omega), ha (sj_gt p i) (by omega)]
    refine pk_eq (sj_gt p i) i (fun e => ?_) (fun ne => ⟨pk_in i 20 (by omega), pk_in (sj_gt p i) 20 (by omega), pk_in i 20 (by omega), nm_e ⟨pk_in i 20 (by omega), nm_r pk_us (nm_r (nI_1 k) ?_)⟩⟩)
    · have e2 : sj_gt q i = i := by
        rw [e] at v2
        exact of_decide_eq_true (v2.symm.trans (decide_eq_true rfl))
      have hh := h a8 ⟨p, hp, hok, hq, ha⟩
      rw [← hr, e2] at hh
      exact hh
    · exact ih (k + 1) (sj_gt p (sj_gt p i)) (sj_st p i (sj_gt p (sj_gt p i))) _ (by omega) (by omega) (by omega) (sj_stg p hp i hi4 _ g4).1 v4 v5 (by rw [v6, hr]) (sj_put hp hi4 g4 ha)
theorem sj_root {post : Int32 → St2 → Prop} {dr ds ct tp bt cu : Int32} {a1 a2 a3 a4 a5 a6 a7 a8 : Nat → Int32} {q r : Nat} {x : Int32} (hr : r < 4) (hU : sj_U a8 q) (h : ∀ a8, sj_U a8 q → post (nI (sj_gt q r)) (dr, ds, ct, tp, bt, cu, a1, a2, a3, a4, a5, a6, a7, a8)) (hx : x = nI r := by rfl) : wpX_root post (dr, ds, ct, tp, bt, cu, a1, a2, a3, a4, a5, a6, a7, a8) x := by
  subst hx
  obtain ⟨p, hp, hok, hq, ha⟩ := hU
  exact ⟨r + 1, sj_root4 h (r + 1) 0 r p a8 (by omega) hr (by omega) hp hok hq rfl ha⟩
theorem sj_join {post : St2 → Prop} {dr ds tp bt cu : Int32} {a1 a2 a3 a4 a5 a6 a7 a8 : Nat → Int32} {g r : Nat} {x : Int32} (hg : g < 64) (hr : r < 4) (h7 : a7 r = nI (sj_rw g r)) (hU : sj_U a8 (sj_uf g (sj_of r))) (h : ∀ a8, sj_U a8 (sj_uf g (sj_of (r + 1))) → post (dr, ds, nI 4, tp, bt, cu, a1, a2, a3, a4, a5, a6, a7, a8)) (hx : x = nI r := by rfl) : wpX_joinRow post (dr, ds, nI 4, tp, bt, cu, a1, a2, a3, a4, a5, a6, a7, a8) x := by
  subst hx
  obtain ⟨o1, o2⟩ := sj_ofv r hr
  refine nm_r (nI_1 r) (pk_loop (fun n b s => wX_joinRow_4 post (nI r) n (nI b) dr ds (nI 4) tp bt cu a1 a2 a3 a4 a5 a6 a7 s) (fun b s => r < b ∧ sj_U s (sj_uf g (sj_of r + (b - (r + 1))))) 4 (r + 1) a8 (by omega) (by rw [Nat.sub_self]; exact ⟨Nat.lt_succ_self r, hU⟩) ?_ ?_)
  · rintro n s ⟨_, hs⟩
    rw [o1] at hs
    exact pk_le 4 4 (fun _ => h s hs) (fun z => absurd z (by omega))
  · rintro n b s hb ⟨hrb, hs⟩ hw
    · obtain ⟨p1, p2, p3, p4⟩ := o2 b hb hrb
      have e1 : sj_of r + (b + 1 - (r + 1)) = sj_of r + (b - (r + 1)) + 1 := by omega
      have F16 := sj_rw16 g hg r hr
      have eb := sj_rwb g hg r hr b hb
      rw [if_neg (by omega), p4] at eb
      refine pk_le 4 b (fun z => absurd z (by omega)) (fun _ => ⟨pk_in r 20 (by omega), ?_⟩)
      rw [nI_clamp (show r < 2 ^ 31 by omega), h7]
      rw [e1, sj_uf, p2, p3] at hw
      generalize sj_uf g (sj_of r + (b - (r + 1))) = q at hs hw
      by_cases hbit : g.testBit (sj_of r + (b - (r + 1))) = true
      · rw [if_pos hbit] at hw
        refine br_t ((sj_bit1 (by omega) (by omega)).mpr (by rw [eb]; exact hbit)) (sj_root hr hs (fun s1 hs1 => sj_root hb hs1 (fun s2 hs2 => ?_)))
        have x4 := sj_gt4 q r
        have y4 := sj_gt4 q b
        have fin : wX_joinRow_51 post (wX_joinRow_4 post (nI r) n) (nI r) (nI b) (nI (sj_gt q r)) (nI (sj_gt q b)) (nI (min (sj_gt q r) (sj_gt q b))) dr ds (nI 4) tp bt cu a1 a2 a3 a4 a5 a6 a7 s2 := by
          unfold wX_joinRow_51
          rw [nI_clamp (show sj_gt q r < 2 ^ 31 by omega), nI_clamp (show sj_gt q b < 2 ^ 31 by omega)]
          refine ⟨pk_in (sj_gt q r) 20 (by omega), nm_e ⟨pk_in (sj_gt q b) 20 (by omega), nm_e (nm_r (nI_1 b) (hw _ ⟨by omega, ?_⟩))⟩⟩
          obtain ⟨p, hp, hok, hq, ha⟩ := hs2
          obtain ⟨j1, j2⟩ := sj_jv p hp hok r hr b hb
          rw [hq] at j1 j2
          have m4 : min (sj_gt q r) (sj_gt q b) < 4 := by omega
          have st1 := (sj_stg p hp _ x4 _ m4).1
          exact ⟨_, (sj_stg _ st1 _ y4 _ m4).1, j1, j2, sj_put st1 y4 m4 (sj_put hp x4 m4 ha)⟩
        refine pk_le (sj_gt q b) (sj_gt q r) (fun z => ?_) (fun z => ?_)
        · rw [Nat.min_eq_right z] at fin
          exact fin
        · rw [Nat.min_eq_left (Nat.le_of_lt z)] at fin
          exact fin
      · rw [if_neg hbit] at hw
        exact br_f (fun z => hbit (by rw [← eb]; exact (sj_bit1 (by omega) (by omega)).mp z)) (nm_r (nI_1 b) (hw _ ⟨by omega, hs⟩))
end
section
/-- the index while record r's prefix is entered: k of its places are in -/
def sj_ie (K m : Nat → Nat) (t u : Nat) (T : Nat → Nat → Nat) (r k : Nat) (a : Nat → Int32) : Prop := ∀ x, x < 30 → ∃ D, D < 16 ∧ a x = nI D ∧ ∀ b, b < 4 → (D.testBit b = true ↔ (b < r ∧ ∃ l, l < sj_pf t u (sj_pc (m b)) ∧ K (T b l) = x) ∨ (b = r ∧ ∃ l, l < k ∧ K (T b l) = x))
theorem sj_setD : ∀ D, D < 16 → ∀ r, r < 4 → nI D ||| ((1 : Int32) <<< (nI r &&& 31)) = nI (D ||| 2 ^ r) ∧ D ||| 2 ^ r < 16 := by decide +kernel
theorem sj_setE : ∀ D, D < 16 → ∀ r, r < 4 → ∀ b, b < 4 → (D ||| 2 ^ r).testBit b = (D.testBit b || decide (b = r)) := by decide +kernel
theorem sj_72 {post : St2 → Prop} {J : Int32 → Int32 → Int32 → Int32 → Int32 → Int32 → Int32 → (Nat → Int32) → (Nat → Int32) → (Nat → Int32) → (Nat → Int32) → (Nat → Int32) → (Nat → Int32) → (Nat → Int32) → (Nat → Int32) → Prop} {dr ds ct tp bt cu : Int32} {a1 a2 a3 a4 a5 a6 a7 a8 : Nat → Int32} {K m : Nat → Nat} {t u r P : Nat} {T : Nat → Nat → Nat} (hr : r < 4) (hK : sj_K K) (hP : P = sj_pf t u (sj_pc (m r))) (hPz : P ≤ sj_pc (m r)) (hl : sj_ln K a3 r (m r) (T r)) (hd : sj_ie K m t u T r 0 a6) (h : ∀ a6, sj_id K m t u T (r + 1) a6 → J (nI (r + 1)) dr ds ct tp bt cu a1 a2 a3 a4 a5 a6 a7 a8) :
    ∃ n, wX_refresh_72 post J (nI r) (nI P) dr ds ct tp bt cu n 0 a1 a2 a3 a4 a5 a6 a7 a8 := by
  have p6 := sj_pc6 (m r)
  refine pk_loop (fun n k s => wX_refresh_72 post J (nI r) (nI P) dr ds ct tp bt cu n (nI k) a1 a2 a3 a4 a5 s a7 a8) (fun k s => sj_ie K m t u T r k s) P 0 a6 (by omega) hd ?_ ?_
  · intro n s hs
    refine pk_le P P (fun _ => nm_r (nI_1 r) (h s (fun x hx => ?_))) (fun z => absurd z (by omega))
    obtain ⟨D, h1, h2, h3⟩ := hs x hx
    refine ⟨D, h1, h2, fun b hb => ?_⟩
    rw [h3 b hb]
    constructor
    · rintro (⟨e1, e2⟩ | ⟨e1, e2⟩)
      · exact ⟨by omega, e2⟩
      · rw [e1] at e2 ⊢
        rw [hP] at e2
        exact ⟨by omega, e2⟩
    · rintro ⟨e1, e2⟩
      by_cases e : b = r
      · rw [e] at e2
        rw [e, hP]
        exact Or.inr ⟨rfl, e2⟩
      · exact Or.inl ⟨by omega, e2⟩
  · intro n k s hk hs hw
    have lk := hl.1 k (by omega)
    have kk := hK.1 (T r k) (by omega)
    refine pk_le P k (fun z => absurd z (by omega)) (fun _ => ?_)
    rw [sj_at, nI_clamp (show 12 * r + k < 2 ^ 31 by omega), lk.2.2]
    obtain ⟨D, h1, h2, h3⟩ := hs _ kk
    obtain ⟨d1, d2⟩ := sj_setD D h1 r hr
    refine ⟨pk_in (12 * r + k) 252 (by omega), nm_e ?_⟩
    rw [nI_clamp (show K (T r k) < 2 ^ 31 by omega), h2, d1]
    refine ⟨pk_in _ 30 kk, pk_in _ 30 kk, nm_e (nm_r (nI_1 k) (hw _ (fun x hx => ?_)))⟩
    by_cases ex : x = K (T r k)
    · refine ⟨D ||| 2 ^ r, d2, by rw [ex, pk_us], fun b hb => ?_⟩
      rw [sj_setE D h1 r hr b hb, Bool.or_eq_true, decide_eq_true_iff, h3 b hb]
      constructor
      · rintro ((⟨e1, e2⟩ | ⟨e1, l, e2, e3⟩) | e1)
        · rw [← ex] at e2
          exact Or.inl ⟨e1, e2⟩
        · rw [← ex] at e3
          exact Or.inr ⟨e1, l, by omega, e3⟩
        · exact Or.inr ⟨e1, k, by omega, by rw [e1, ex]⟩
      · rintro (⟨e1, e2⟩ | ⟨e1, e2⟩)
        · rw [ex] at e2
          exact Or.inl (Or.inl ⟨e1, e2⟩)
        · exact Or.inr e1
    · obtain ⟨D', h1', h2', h3'⟩ := hs x hx
      refine ⟨D', h1', by rw [pk_un ex]; exact h2', fun b hb => ?_⟩
      rw [h3' b hb]
      constructor
      · rintro (e1 | ⟨e1, l, e2, e3⟩)
        · exact Or.inl e1
        · exact Or.inr ⟨e1, l, by omega, e3⟩
      · rintro (e1 | ⟨e1, l, e2, e3⟩)
        · exact Or.inl e1
        · by_cases el : l = k
          · rw [el, e1] at e3
            exact absurd e3.symm ex
          · exact Or.inr ⟨e1, l, by omega, e3⟩
/-- fresh: the rows of the graph, the union of all its pairs -/
def sj_F (m : Nat → Nat) (g : Nat) (a1 a2 a7 a8 : Nat → Int32) : Prop := sj_B m 4 a1 a2 ∧ (∀ r, r < 4 → a7 r = nI (sj_rw g r)) ∧ sj_U a8 (sj_uf g 6)
theorem sj_162 {post : St2 → Prop} {dr ds tp bt cu : Int32} {a1 a2 a3 a4 a5 a6 a7 a8 : Nat → Int32} {g : Nat} (hg : g < 64) (h7 : ∀ r, r < 4 → a7 r = nI (sj_rw g r)) (h8 : ∀ r, r < 4 → a8 r = nI r) (h : ∀ a8, sj_U a8 (sj_uf g 6) → post (dr, ds, nI 4, tp, bt, cu, a1, a2, a3, a4, a5, a6, a7, a8)) : ∃ n, wX_refresh_162 post n 0 dr ds (nI 4) tp bt cu a1 a2 a3 a4 a5 a6 a7 a8 := by
  have u0 : sj_U a8 (sj_uf g (sj_of 0)) := by
    refine ⟨228, by decide, by decide, (show sj_rq 228 = 228 by decide), fun i hi => ?_⟩
    rw [h8 i hi]
    exact congrArg nI ((show ∀ i, i < 4 → i = sj_gt 228 i by decide) i hi)
  refine pk_loop (fun n r s => wX_refresh_162 post n (nI r) dr ds (nI 4) tp bt cu a1 a2 a3 a4 a5 a6 a7 s) (fun r s => sj_U s (sj_uf g (sj_of r))) 4 0 a8 (by omega) u0 ?_ ?_
  · intro n s hs
    exact pk_le 4 4 (fun _ => h s hs) (fun z => absurd z (by omega))
  · intro n r s hr hs hw
    exact pk_le 4 r (fun z => absurd z (by omega)) (fun _ => sj_join hg hr (h7 r hr) hs (fun s' hs' => nm_r (nI_1 r) (hw s' hs')))
theorem sj_122 {post : St2 → Prop} {dr ds cu : Int32} {a1 a2 a3 a4 a5 a6 a7 a8 : Nat → Int32} {K m : Nat → Nat} {t u g : Nat} {T : Nat → Nat → Nat} (H : sj_H m t u g) (hK : sj_K K) (hB : sj_B m 4 a1 a2) (hl : ∀ b, b < 4 → sj_ln K a3 b (m b) (T b)) (hd : sj_id K m t u T 4 a6) (h : ∀ a7 a8, sj_F m g a1 a2 a7 a8 → post (dr, ds, nI 4, nI t, nI u, cu, a1, a2, a3, a4, a5, a6, a7, a8)) : ∃ n, wX_refresh_122 post dr ds (nI 4) (nI t) (nI u) cu n 0 a1 a2 a3 a4 a5 a6 a7 a8 := by
  refine pk_loop (σ := (Nat → Int32) × (Nat → Int32)) (fun n r s => wX_refresh_122 post dr ds (nI 4) (nI t) (nI u) cu n (nI r) a1 a2 a3 a4 a5 a6 s.1 s.2) (fun r s => (∀ j, j < r → s.1 j = nI (sj_rw g j)) ∧ (∀ j, j < r → s.2 j = nI j)) 4 0 (a7, a8) (by omega) ⟨fun j hj => absurd hj (by omega), fun j hj => absurd hj (by omega)⟩ ?_ ?_
  · rintro n ⟨s1, s2⟩ ⟨h1, h2⟩
    exact pk_le 4 4 (fun _ => sj_162 H.2.2.2.2.1 h1 h2 (fun a8 h8 => h s1 a8 ⟨hB, h1, h8⟩)) (fun z => absurd z (by omega))
  · rintro n r ⟨s1, s2⟩ hr ⟨h1, h2⟩ hw
    refine pk_le 4 r (fun z => absurd z (by omega)) (fun _ => ?_)
    rw [nI_clamp (show r < 2 ^ 31 by omega)]
    refine ⟨pk_in r 20 (by omega), sj_probe H hK hr hB hl hd ?_ rfl (hB r hr).2⟩
    exact ⟨pk_in r 20 (by omega), nm_e ⟨pk_in r 20 (by omega), nm_e (nm_r (nI_1 r) (hw (upd s1 r (nI (sj_rw g r)), upd s2 r (nI r)) ⟨sj_fill (f := fun j => nI (sj_rw g j)) h1 rfl, sj_fill (f := fun j => nI j) h2 rfl⟩))⟩⟩
theorem sj_40 {post : St2 → Prop} {dr ds cu : Int32} {a1 a2 a3 a4 a5 a6 a7 a8 : Nat → Int32} {K m : Nat → Nat} {t u g : Nat} (H : sj_H m t u g) (hK : sj_K K) (h4 : ∀ t, t < 30 → a4 t = nI (K t)) (hB : sj_B m 4 a1 a2) (h6 : ∀ x, x < 30 → a6 x = nI 0) (h : ∀ a3 a6 a7 a8, sj_F m g a1 a2 a7 a8 → post (dr, ds, nI 4, nI t, nI u, cu, a1, a2, a3, a4, a5, a6, a7, a8)) : ∃ n, wX_refresh_40 post n 0 dr ds (nI 4) (nI t) (nI u) cu a1 a2 a3 a4 a5 a6 a7 a8 := by
  obtain ⟨hm, ht, htu, hu, hg, _⟩ := id H
  refine pk_loop (σ := (Nat → Int32) × (Nat → Int32)) (fun n r s => wX_refresh_40 post n (nI r) dr ds (nI 4) (nI t) (nI u) cu a1 a2 s.1 a4 a5 s.2 a7 a8) (fun r s => ∃ T : Nat → Nat → Nat, (∀ b, b < r → sj_ln K s.1 b (m b) (T b)) ∧ sj_id K m t u T r s.2) 4 0 (a3, a6) (by omega) ⟨fun _ _ => 0, fun b hb => absurd hb (by omega), fun x hx => ⟨0, by omega, h6 x hx, fun b hb => ?_⟩⟩ ?_ ?_
  · rw [Nat.zero_testBit]
    exact ⟨fun z => absurd z (by decide), fun z => absurd z.1 (by omega)⟩
  · rintro n ⟨s1, s2⟩ ⟨T, h1, h2⟩
    exact pk_le 4 4 (fun _ => sj_122 H hK hB h1 h2 (fun a7 a8 hF => h s1 s2 a7 a8 hF)) (fun z => absurd z (by omega))
  · rintro n r ⟨s1, s2⟩ hr ⟨T, h1, h2⟩ hw
    have p6 := sj_pc6 (m r)
    obtain ⟨_, pz⟩ := sj_pfz ht htu (sj_pc1 (hm r hr).1 (hm r hr).2)
    refine pk_le 4 r (fun z => absurd z (by omega)) (fun _ => ⟨pk_in r 20 (by omega), sj_spell (by omega) (hm r hr).2 hK h4 (fun s' T' hl' hfr => ?_) rfl (by rw [nI_clamp (by omega)]; exact (hB r hr).1)⟩)
    refine ⟨pk_in r 20 (by omega), sj_prefix ht htu hu p6 ?_ (by rw [nI_clamp (by omega)]; exact (hB r hr).2)⟩
    obtain ⟨T2, eT', eT⟩ : ∃ T2 : Nat → Nat → Nat, T2 r = T' ∧ ∀ b, b ≠ r → T2 b = T b := ⟨fun b => if b = r then T' else T b, if_pos rfl, fun b hb => if_neg hb⟩
    refine sj_72 (T := T2) hr hK rfl pz (by rw [eT']; exact hl') (fun x hx => ?_) (fun a6' h6' => hw (s', a6') ⟨T2, fun b hb => ?_, h6'⟩)
    · obtain ⟨D, d1, d2, d3⟩ := h2 x hx
      refine ⟨D, d1, d2, fun b hb => ?_⟩
      rw [d3 b hb]
      constructor
      · rintro ⟨e1, e2⟩
        refine Or.inl ⟨e1, ?_⟩
        rw [eT b (by omega)]
        exact e2
      · rintro (⟨e1, e2⟩ | ⟨e1, l, e2, _⟩)
        · rw [eT b (by omega)] at e2
          exact ⟨e1, e2⟩
        · exact absurd e2 (by omega)
    · by_cases e : b = r
      · rw [e, eT']
        exact hl'
      · rw [eT b e]
        obtain ⟨l1, l2, l3⟩ := h1 b (by omega)
        have b6 := sj_pc6 (m b)
        refine ⟨fun k hk => ⟨(l1 k hk).1, (l1 k hk).2.1, ?_⟩, l2, l3⟩
        dsimp only
        rw [hfr (12 * b + k) (by omega)]
        exact (l1 k hk).2.2
theorem sj_refresh {post : St2 → Prop} {dr ds : Int32} {a1 a2 a3 a4 a5 a6 a7 a8 : Nat → Int32} {m : Nat → Nat} {t u g : Nat} (H : sj_H m t u g) (hB : sj_B m 4 a1 a2) (h : ∀ a3 a4 a5 a6 a7 a8, sj_F m g a1 a2 a7 a8 → post (dr, ds, nI 4, nI t, nI u, 1, a1, a2, a3, a4, a5, a6, a7, a8)) : wpX_refresh post (dr, ds, nI 4, nI t, nI u, 0, a1, a2, a3, a4, a5, a6, a7, a8) := by
  refine br_t rfl (sj_rank (fun K a4' a5' hK h4 => ?_))
  refine pk_loop (fun n x s => wX_refresh_19 post dr ds (nI 4) (nI t) (nI u) 1 n (nI x) a1 a2 a3 a4' a5' s a7 a8) (fun i s => ∀ x, x < i → s x = nI 0) 30 0 a6 (by omega) (fun x hx => absurd hx (by omega)) ?_ ?_
  · intro n s hs
    exact pk_le 30 30 (fun _ => sj_40 H hK h4 hB hs (fun a3 a6 a7 a8 hF => h a3 a4' a5' a6 a7 a8 hF)) (fun z => absurd z (by omega))
  · intro n i s hi hs hw
    refine pk_le 30 i (fun z => absurd z (by omega)) (fun _ => ⟨pk_in i 30 hi, nm_e (nm_r (nI_1 i) (hw _ ?_))⟩)
    rw [nI_clamp (show i < 2 ^ 31 by omega)]
    exact sj_fill (f := fun _ => nI 0) hs rfl
/-- the object as the law holds it behind the stores: stale or fresh -/
def sj_Q (m : Nat → Nat) (g : Nat) (cu : Int32) (a1 a2 a7 a8 : Nat → Int32) : Prop := sj_B m 4 a1 a2 ∧ (cu = 0 ∨ (cu = 1 ∧ sj_F m g a1 a2 a7 a8))
theorem sj_refQ {post : St2 → Prop} {dr ds cu : Int32} {a1 a2 a3 a4 a5 a6 a7 a8 : Nat → Int32} {m : Nat → Nat} {t u g : Nat} (H : sj_H m t u g) (hQ : sj_Q m g cu a1 a2 a7 a8) (h : ∀ a3 a4 a5 a6 a7 a8, sj_F m g a1 a2 a7 a8 → post (dr, ds, nI 4, nI t, nI u, 1, a1, a2, a3, a4, a5, a6, a7, a8)) : wpX_refresh post (dr, ds, nI 4, nI t, nI u, cu, a1, a2, a3, a4, a5, a6, a7, a8) := by
  rcases hQ with ⟨hB, rfl | ⟨rfl, hF⟩⟩
  · exact sj_refresh H hB h
  · exact br_f (by decide) (h a3 a4 a5 a6 a7 a8 hF)
end
section
theorem sj_FQ {m : Nat → Nat} {g : Nat} {a1 a2 a7 a8 : Nat → Int32} (h : sj_F m g a1 a2 a7 a8) : sj_Q m g 1 a1 a2 a7 a8 := ⟨h.1, Or.inr ⟨rfl, h⟩⟩
theorem sj_similar {post : Int32 → St2 → Prop} {dr ds cu : Int32} {a1 a2 a3 a4 a5 a6 a7 a8 : Nat → Int32} {m : Nat → Nat} {t u g i j : Nat} {x y : Int32} (H : sj_H m t u g) (hQ : sj_Q m g cu a1 a2 a7 a8) (hj : j < 4) (hi : i < 4) (h : ∀ a3 a4 a5 a6 a7 a8, sj_F m g a1 a2 a7 a8 → post (if (sj_rw g j).testBit i then 1 else 0) (dr, ds, nI 4, nI t, nI u, 1, a1, a2, a3, a4, a5, a6, a7, a8)) (hx : x = nI j := by rfl) (hy : y = nI i := by rfl) : wpX_similar post (dr, ds, nI 4, nI t, nI u, cu, a1, a2, a3, a4, a5, a6, a7, a8) x y := by
  subst hx hy
  have F16 := sj_rw16 g H.2.2.2.2.1 j hj
  unfold wpX_similar
  refine sj_isRec hj (br_f (by decide) (sj_isRec hi (br_f (by decide) (sj_refQ H hQ (fun a3 a4 a5 a6 a7 a8 hF => ⟨pk_in j 20 (by omega), ?_⟩)))))
  rw [nI_clamp (show j < 2 ^ 31 by omega), hF.2.1 j hj, sj_bit _ (by omega) i (by omega)]
  exact h a3 a4 a5 a6 a7 a8 hF
theorem sj_pairs {post : Int32 → St2 → Prop} {dr ds cu : Int32} {a1 a2 a3 a4 a5 a6 a7 a8 : Nat → Int32} {m : Nat → Nat} {t u g : Nat} (H : sj_H m t u g) (hQ : sj_Q m g cu a1 a2 a7 a8) (h : ∀ a3 a4 a5 a6 a7 a8, sj_F m g a1 a2 a7 a8 → post (nI (sj_pc g)) (dr, ds, nI 4, nI t, nI u, 1, a1, a2, a3, a4, a5, a6, a7, a8)) : wpX_pairs post (dr, ds, nI 4, nI t, nI u, cu, a1, a2, a3, a4, a5, a6, a7, a8) := by
  have hg := H.2.2.2.2.1
  unfold wpX_pairs
  refine sj_refQ H hQ (fun a3 a4 a5 a6 a7 a8 hF => ?_)
  refine pk_loop (fun n a s => wX_pairs_8 post dr ds (nI 4) (nI t) (nI u) 1 a1 a2 a3 a4 a5 a6 a7 a8 n s (nI a)) (fun a s => s = nI (sj_ps g a)) 4 0 0 (by omega) rfl ?_ ?_
  · intro n s hs
    rw [sj_psv g hg] at hs
    subst hs
    exact pk_le 4 4 (fun _ => h a3 a4 a5 a6 a7 a8 hF) (fun z => absurd z (by omega))
  · intro n a s ha hs hw
    subst hs
    have F16 := sj_rw16 g hg a ha
    refine pk_le 4 a (fun z => absurd z (by omega)) (fun _ => ⟨pk_in a 20 (by omega), sj_onesX (sj_rw g a / 2 ^ (a + 1)) (Nat.lt_of_le_of_lt (Nat.div_le_self _ _) (by omega)) (nm_r (nI_add _ _) (nm_r (nI_1 a) (hw _ rfl))) ?_⟩)
    rw [nI_clamp (show a < 2 ^ 31 by omega), hF.2.1 a ha]
    exact sj_ush _ F16 a ha
theorem sj_groups {post : Int32 → St2 → Prop} {dr ds cu : Int32} {a1 a2 a3 a4 a5 a6 a7 a8 : Nat → Int32} {m : Nat → Nat} {t u g : Nat} (H : sj_H m t u g) (hQ : sj_Q m g cu a1 a2 a7 a8) (h : ∀ a3 a4 a5 a6 a7 a8, sj_F m g a1 a2 a7 a8 → post (nI (sj_gc (sj_uf g 6) 4)) (dr, ds, nI 4, nI t, nI u, 1, a1, a2, a3, a4, a5, a6, a7, a8)) : wpX_groups post (dr, ds, nI 4, nI t, nI u, cu, a1, a2, a3, a4, a5, a6, a7, a8) := by
  have hg := H.2.2.2.2.1
  unfold wpX_groups
  refine sj_refQ H hQ (fun a3 a4 a5 a6 a7 a8 hF => ?_)
  obtain ⟨p, hp, hok, hq, ha8⟩ := hF.2.2
  refine pk_loop (fun n a s => wX_groups_8 post dr ds (nI 4) (nI t) (nI u) 1 a1 a2 a3 a4 a5 a6 a7 a8 n s (nI a)) (fun a s => s = nI (sj_gc (sj_uf g 6) a)) 4 0 0 (by omega) rfl ?_ ?_
  · intro n s hs
    subst hs
    exact pk_le 4 4 (fun _ => h a3 a4 a5 a6 a7 a8 hF) (fun z => absurd z (by omega))
  · intro n a s ha hs hw
    subst hs
    have v2 := (sj_hv p hp hok a ha).2.1
    rw [hq] at v2
    have g4 := sj_gt4 p a
    refine pk_le 4 a (fun z => absurd z (by omega)) (fun _ => ⟨pk_in a 20 (by omega), ?_⟩)
    rw [nI_clamp (show a < 2 ^ 31 by omega), ha8 a ha]
    refine pk_eq (sj_gt p a) a (fun e => nm_r (nI_1 _) (nm_r (nI_1 a) (hw _ ?_))) (fun ne => nm_r (nI_1 a) (hw _ ?_))
    · rw [sj_gc, if_pos (of_decide_eq_true (v2.symm.trans (decide_eq_true e)))]
    · rw [sj_gc, if_neg (of_decide_eq_false (v2.symm.trans (decide_eq_false ne))), Nat.add_zero]
theorem sj_groupOf {post : Int32 → St2 → Prop} {dr ds cu : Int32} {a1 a2 a3 a4 a5 a6 a7 a8 : Nat → Int32} {m : Nat → Nat} {t u g r : Nat} {x : Int32} (H : sj_H m t u g) (hQ : sj_Q m g cu a1 a2 a7 a8) (hr : r < 4) (h : ∀ a3 a4 a5 a6 a7 a8, sj_F m g a1 a2 a7 a8 → post (nI (sj_gt (sj_uf g 6) r)) (dr, ds, nI 4, nI t, nI u, 1, a1, a2, a3, a4, a5, a6, a7, a8)) (hx : x = nI r := by rfl) : wpX_groupOf post (dr, ds, nI 4, nI t, nI u, cu, a1, a2, a3, a4, a5, a6, a7, a8) x := by
  subst hx
  unfold wpX_groupOf
  exact sj_isRec hr (br_f (by decide) (sj_refQ H hQ (fun a3 a4 a5 a6 a7 a8 hF => sj_root hr hF.2.2 (fun a8' h8 => h a3 a4 a5 a6 a7 a8' ⟨hF.1, hF.2.1, h8⟩))))
theorem sj_size {post : Int32 → Prop} {dr ds tp bt cu : Int32} {a1 a2 a3 a4 a5 a6 a7 a8 : Nat → Int32} {m : Nat → Nat} {r : Nat} {x : Int32} (hB : sj_B m 4 a1 a2) (hr : r < 4) (h : post (nI (sj_pc (m r)))) (hx : x = nI r := by rfl) : wpX_size post (dr, ds, nI 4, tp, bt, cu, a1, a2, a3, a4, a5, a6, a7, a8) x := by
  subst hx
  unfold wpX_size
  refine sj_isRec hr (br_f (by decide) ⟨pk_in r 20 (by omega), ?_⟩)
  rw [nI_clamp (show r < 2 ^ 31 by omega), (hB r hr).2]
  exact h
theorem sj_common {post : Int32 → Prop} {dr ds tp bt cu : Int32} {a1 a2 a3 a4 a5 a6 a7 a8 : Nat → Int32} {m : Nat → Nat} {a b : Nat} {x y : Int32} (hm : ∀ r, r < 4 → 1 ≤ m r ∧ m r < 64) (hB : sj_B m 4 a1 a2) (ha : a < 4) (hb : b < 4) (h : post (nI (sj_pc (m b &&& m a)))) (hx : x = nI a := by rfl) (hy : y = nI b := by rfl) : wpX_common post (dr, ds, nI 4, tp, bt, cu, a1, a2, a3, a4, a5, a6, a7, a8) x y := by
  subst hx hy
  unfold wpX_common
  obtain ⟨e, l⟩ := sj_and (m a) (hm a ha).2 (m b) (hm b hb).2
  rw [Nat.and_comm] at e l
  refine sj_isRec ha (br_f (by decide) (sj_isRec hb (br_f (by decide) ⟨pk_in a 20 (by omega), pk_in b 20 (by omega), sj_onesX _ l h ?_⟩)))
  rw [nI_clamp (show a < 2 ^ 31 by omega), nI_clamp (show b < 2 ^ 31 by omega), (hB a ha).1, (hB b hb).1]
  exact e
theorem sj_nearest {post : Int32 → Prop} {dr ds tp bt cu : Int32} {a1 a2 a3 a4 a5 a6 a7 a8 : Nat → Int32} {m : Nat → Nat} {x : Int32} (hm : ∀ r, r < 4 → 1 ≤ m r ∧ m r < 64) (hB : sj_B m 4 a1 a2) (h : post (nI (sj_nb m 4))) (hx : x = nI 0 := by rfl) : wpX_nearest post (dr, ds, nI 4, tp, bt, cu, a1, a2, a3, a4, a5, a6, a7, a8) x := by
  subst hx
  unfold wpX_nearest
  refine sj_isRec (r := 0) (by omega) (br_f (by decide) ?_)
  refine pk_loop (σ := Int32 × Int32 × Int32) (fun n b s => wX_nearest_21 post (nI 0) dr ds (nI 4) tp bt cu a1 a2 a3 a4 a5 a6 a7 a8 n s.1 s.2.1 s.2.2 (nI b)) (fun b s => (b ≤ 1 ∧ s = (-2, 0, 1)) ∨ (2 ≤ b ∧ s = (nI (sj_nb m b), nI (sj_pc (m (sj_nb m b) &&& m 0)), nI (sj_pc (m (sj_nb m b) ||| m 0))))) 4 0 (-2, 0, 1) (by omega) (Or.inl ⟨by omega, rfl⟩) ?_ ?_
  · rintro n s (⟨z, _⟩ | ⟨_, rfl⟩)
    · exact absurd z (by omega)
    · exact pk_le 4 4 (fun _ => h) (fun z => absurd z (by omega))
  · intro n b s hb hs hw
    refine pk_le 4 b (fun z => absurd z (by omega)) (fun _ => pk_eq b 0 (fun e => nm_r (nI_1 b) (hw s ?_)) (fun ne => ⟨pk_in 0 20 (by omega), pk_in b 20 (by omega), ?_⟩))
    · rcases hs with ⟨_, e2⟩ | ⟨z, _⟩
      · exact Or.inl ⟨by omega, e2⟩
      · exact absurd z (by omega)
    · obtain ⟨e, l⟩ := sj_and (m 0) (hm 0 (by omega)).2 (m b) (hm b hb).2
      rw [Nat.and_comm] at e l
      have po := sj_pcor (m b) (hm b hb).2 (m 0) (hm 0 (by omega)).2
      have c6 := sj_pc6 (m b &&& m 0)
      have u6 := sj_pc6 (m b ||| m 0)
      have ea : nI (sj_pc (m 0)) + nI (sj_pc (m b)) - nI (sj_pc (m b &&& m 0)) = nI (sj_pc (m b ||| m 0)) := by
        rw [nI_add, pk_sub (by omega)]
        exact congrArg nI (by omega)
      rw [nI_clamp (show 0 < 2 ^ 31 by omega), nI_clamp (show b < 2 ^ 31 by omega), (hB 0 (by omega)).1, (hB b hb).1, (hB 0 (by omega)).2, (hB b hb).2]
      refine sj_onesX _ l ⟨pk_in 0 20 (by omega), pk_in b 20 (by omega), nm_r ea ?_⟩ e
      rcases hs with ⟨z, rfl⟩ | ⟨z, rfl⟩
      · refine br_t (by decide) (nm_r (nI_1 b) (hw (nI b, nI (sj_pc (m b &&& m 0)), nI (sj_pc (m b ||| m 0))) (Or.inr ⟨by omega, ?_⟩)))
        have e1 : b = 1 := by omega
        subst e1
        have e2 : sj_nb m (1 + 1) = 1 := by
          rw [sj_nb, if_neg (fun z => absurd z.1 (by omega)), sj_nb, if_neg (fun z => absurd z.1 (by omega)), sj_nb]
        rw [e2]
      · have y4 := sj_nb4 m b (by omega)
        have c6' := sj_pc6 (m (sj_nb m b) &&& m 0)
        have u6' := sj_pc6 (m (sj_nb m b) ||| m 0)
        have k1 : sj_pc (m b &&& m 0) * sj_pc (m (sj_nb m b) ||| m 0) ≤ 6 * 6 := Nat.mul_le_mul c6 u6'
        have k2 : sj_pc (m (sj_nb m b) &&& m 0) * sj_pc (m b ||| m 0) ≤ 6 * 6 := Nat.mul_le_mul c6' u6
        refine br_f (nI_pos (by omega)) (pk_le (sj_pc (m b &&& m 0) * sj_pc (m (sj_nb m b) ||| m 0)) (sj_pc (m (sj_nb m b) &&& m 0) * sj_pc (m b ||| m 0)) (fun y => nm_r (nI_1 b) (hw (nI (sj_nb m b), nI (sj_pc (m (sj_nb m b) &&& m 0)), nI (sj_pc (m (sj_nb m b) ||| m 0))) (Or.inr ⟨by omega, ?_⟩))) (fun y => nm_r (nI_1 b) (hw (nI b, nI (sj_pc (m b &&& m 0)), nI (sj_pc (m b ||| m 0))) (Or.inr ⟨by omega, ?_⟩))) (pk_mul _ _) (pk_mul _ _))
        · have e2 : sj_nb m (b + 1) = sj_nb m b := by
            rw [sj_nb, if_neg (fun w => absurd w.2 (by omega))]
          rw [e2]
        · have e2 : sj_nb m (b + 1) = b := by
            rw [sj_nb, if_pos ⟨by omega, y⟩]
          rw [e2]
theorem sj_threshold {post : Int32 → St2 → Prop} {dr ds ct tp bt cu : Int32} {a1 a2 a3 a4 a5 a6 a7 a8 : Nat → Int32} {t u : Nat} (ht : 1 ≤ t) (htu : t ≤ u) (hu : u ≤ 11) (h : post 0 (dr, ds, ct, nI t, nI u, 0, a1, a2, a3, a4, a5, a6, a7, a8)) : wpX_threshold post (dr, ds, ct, tp, bt, cu, a1, a2, a3, a4, a5, a6, a7, a8) (nI t) (nI u) :=
  pk_lt t 1 (fun z => absurd z (by omega)) (fun _ => pk_lt 12 t (fun z => absurd z (by omega)) (fun _ => pk_lt u 1 (fun z => absurd z (by omega)) (fun _ => pk_le u 12 (fun _ => pk_le t u (fun _ => h) (fun z => absurd z (by omega))) (fun z => absurd z (by omega)))))
theorem sj_store {post : Int32 → St2 → Prop} {dr ds tp bt cu : Int32} {a1 a2 a3 a4 a5 a6 a7 a8 : Nat → Int32} {r : Nat} (hr : r < 20) (hd : ¬ ds = 0) (h : post (nI r) (dr, ds, nI (r + 1), tp, bt, 0, upd a1 r dr, upd a2 r ds, a3, a4, a5, a6, a7, a8)) : wpX_store post (dr, ds, nI r, tp, bt, cu, a1, a2, a3, a4, a5, a6, a7, a8) := by
  refine br_f hd (pk_eq r 20 (fun z => absurd z (by omega)) (fun _ => ?_))
  rw [nI_clamp (show r < 2 ^ 31 by omega)]
  refine ⟨pk_in r 20 hr, nm_e ⟨pk_in r 20 hr, nm_e (nm_r (nI_1 r) ?_)⟩⟩
  rw [nI_pred]
  exact h
theorem sj_token {post : Int32 → St2 → Prop} {ct tp bt cu : Int32} {a1 a2 a3 a4 a5 a6 a7 a8 : Nat → Int32} {M i : Nat} (hM : M < 64) (hi : i < 6) (hb : M.testBit i = true) (h : post (nI (sj_pc (M % 2 ^ (i + 1)))) (nI (M % 2 ^ (i + 1)), nI (sj_pc (M % 2 ^ (i + 1))), ct, tp, bt, cu, a1, a2, a3, a4, a5, a6, a7, a8)) : wpX_token post (nI (M % 2 ^ i), nI (sj_pc (M % 2 ^ i)), ct, tp, bt, cu, a1, a2, a3, a4, a5, a6, a7, a8) (nI i) := by
  obtain ⟨s1, s2⟩ := sj_setb M hM i hi hb
  obtain ⟨_, s3⟩ := sj_msa M hM i (by omega) hb
  have p6 := sj_pc6 (M % 2 ^ i)
  unfold wpX_token
  refine br_f (nI_pos (by omega)) (pk_le 30 i (fun z => absurd z (by omega)) (fun _ => br_f (by decide) (nm_e (br_t s2 (pk_eq (sj_pc (M % 2 ^ i)) 12 (fun z => absurd z (by omega)) (fun _ => nm_r s1 (nm_r (nI_1 _) ?_)))))))
  rw [← s3]
  exact h
end
section
/-- the pairs that the law has counted -/
def sj_pq (g p k : Nat) : Nat := if p = 0 then sj_pc (g % 2 ^ k) else sj_pc g
theorem sj_238 {post : Int32 → St0 → Prop} {J1 J2 : Int32 → Int32 → Int32 → Int32 → Int32 → Int32 → Int32 → Int32 → Int32 → (Nat → Int32) → (Nat → Int32) → (Nat → Int32) → (Nat → Int32) → (Nat → Int32) → (Nat → Int32) → (Nat → Int32) → (Nat → Int32) → Prop} {dr ds cu : Int32} {a1 a2 a3 a4 a5 a6 a7 a8 : Nat → Int32} {mc ms kc ks : Nat} {m : Nat → Nat} {t u g p k : Nat} {c x3 x4 x7 x8 x14 : Int32} (H : sj_H m t u g) (hQ : sj_Q m g cu a1 a2 a7 a8) (hk : k < 6) (hb : (x14 = 0 ∧ g.testBit k = false) ∨ (x14 = 1 ∧ g.testBit k = true))
    (h : ∀ a3 a4 a5 a6 a7 a8, sj_F m g a1 a2 a7 a8 → J2 (nI (sj_lab g (6 * p + k + 1))) x7 (nI (k + 1)) dr ds (nI 4) (nI t) (nI u) 1 a1 a2 a3 a4 a5 a6 a7 a8) :
    wL_lawOf_238 post mc ms J1 J2 c x3 x4 (nI (sj_lab g (6 * p + k))) x7 x8 (nI k) (nI (sj_I k)) (nI (sj_J k)) x14 kc ks dr ds (nI 4) (nI t) (nI u) cu a1 a2 a3 a4 a5 a6 a7 a8 := by
  obtain ⟨i4, j4, ne, eix⟩ := sj_ijv k hk
  have hg := H.2.2.2.2.1
  have er := sj_rwb g hg (sj_J k) j4 (sj_I k) i4
  rw [if_neg (fun z => ne z.symm), eix] at er
  have hmod : (6 * p + k) % 6 = k := by omega
  rw [sj_lab, hmod] at h
  have hl := sj_labv (g := g) (6 * p + k)
  generalize sj_lab g (6 * p + k) = l at h hl
  have x4' := sj_gt4 l (sj_I k)
  have y4' := sj_gt4 l (sj_J k)
  unfold wL_lawOf_238
  refine sj_similar H hQ j4 i4 (fun a3 a4 a5 a6 a7 a8 hF => ?_)
  have h' := h a3 a4 a5 a6 a7 a8 hF
  rw [er]
  rcases hb with ⟨rfl, hb⟩ | ⟨rfl, hb⟩
  · rw [hb] at h' ⊢
    rw [if_neg (by decide)] at h'
    have fin : ∀ z0 : Int32, wL_lawOf_298 post mc ms J1 J2 c x3 x4 (nI l) x7 x8 (nI k) (nI (sj_I k)) (nI (sj_J k)) 0 z0 kc ks dr ds (nI 4) (nI t) (nI u) 1 a1 a2 a3 a4 a5 a6 a7 a8 :=
      fun z0 => br_t rfl (nm_r (nI_1 k) h')
    exact br_t rfl (br_t (by decide) (nm_e (nm_e (br_c (fun _ => fin _) (fun _ => fin _)))))
  · rw [hb] at h' ⊢
    rw [if_pos rfl] at h'
    have fin : wL_lawOf_298 post mc ms J1 J2 c x3 x4 (nI l) x7 x8 (nI k) (nI (sj_I k)) (nI (sj_J k)) 1 (nI (min (sj_gt l (sj_I k)) (sj_gt l (sj_J k)))) kc ks dr ds (nI 4) (nI t) (nI u) 1 a1 a2 a3 a4 a5 a6 a7 a8 :=
      br_f (by decide) (nm_r (sj_lsI l hl k hk) (nm_r (nI_1 k) h'))
    refine br_f (by decide) (br_t (by decide) (nm_r (sj_gtI l hl _ i4) (nm_r (sj_gtI l hl _ j4) (pk_le (sj_gt l (sj_J k)) (sj_gt l (sj_I k)) (fun z => ?_) (fun z => ?_)))))
    · rw [Nat.min_eq_right z] at fin
      exact fin
    · rw [Nat.min_eq_left (Nat.le_of_lt z)] at fin
      exact fin
theorem sj_195 {post : Int32 → St0 → Prop} {J1 J2 : Int32 → Int32 → Int32 → Int32 → Int32 → Int32 → Int32 → Int32 → Int32 → (Nat → Int32) → (Nat → Int32) → (Nat → Int32) → (Nat → Int32) → (Nat → Int32) → (Nat → Int32) → (Nat → Int32) → (Nat → Int32) → Prop} {dr ds cu : Int32} {a1 a2 a3 a4 a5 a6 a7 a8 : Nat → Int32} {mc ms kc ks : Nat} {t u g p k : Nat} {c x10 x11 : Int32} (H : sj_H (sj_m c) t u g) (hQ : sj_Q (sj_m c) g cu a1 a2 a7 a8) (hp : p < 3) (hk : k < 6)
    (h : ∀ a3 a4 a5 a6 a7 a8, sj_F (sj_m c) g a1 a2 a7 a8 → J2 (nI (sj_lab g (6 * p + k + 1))) (nI (sj_pq g p (k + 1))) (nI (k + 1)) dr ds (nI 4) (nI t) (nI u) 1 a1 a2 a3 a4 a5 a6 a7 a8)
    (h10 : x10 = nI (sj_I k)) (h11 : x11 = nI (sj_J k)) :
    wL_lawOf_195 post mc ms J1 J2 c (nI t) (nI u) (nI (sj_lab g (6 * p + k))) (nI (sj_pq g p k)) (nI p) (nI k) x10 x11 kc ks dr ds (nI 4) (nI t) (nI u) cu a1 a2 a3 a4 a5 a6 a7 a8 := by
  subst h10 h11
  obtain ⟨hm, ht, htu, hu, hg, hbit⟩ := id H
  obtain ⟨i4, j4, _, _⟩ := sj_ijv k hk
  unfold wL_lawOf_195
  refine sj_set (sj_I k) (sj_set (sj_J k) (sj_alike (hm _ i4).2 (hm _ j4).2 (by omega) hu (fun y => ?_) (fun y => ?_)))
  · have hb : g.testBit k = true := (hbit k hk).mpr y
    refine pk_eq p 0 (fun e => br_f (by decide) (nm_r ?_ (sj_238 H hQ hk (Or.inr ⟨rfl, hb⟩) h))) (fun ne => ?_)
    · rw [nI_1]
      unfold sj_pq
      rw [if_pos e, if_pos e, (sj_msa g hg k (by omega) hb).2]
    · unfold sj_pq at h ⊢
      rw [if_neg ne] at h ⊢
      exact sj_238 H hQ hk (Or.inr ⟨rfl, hb⟩) h
  · have hb : g.testBit k = false := by
      cases e : g.testBit k
      · rfl
      · exact absurd ((hbit k hk).mp e) y
    have eq : sj_pq g p (k + 1) = sj_pq g p k := by
      unfold sj_pq
      rw [sj_skip g hg k (by omega) hb]
    rw [eq] at h
    exact br_c (fun _ => br_t rfl (sj_238 H hQ hk (Or.inl ⟨rfl, hb⟩) h)) (fun _ => sj_238 H hQ hk (Or.inl ⟨rfl, hb⟩) h)
theorem sj_138 {post : Int32 → St0 → Prop} {J1 : Int32 → Int32 → Int32 → Int32 → Int32 → Int32 → Int32 → Int32 → Int32 → (Nat → Int32) → (Nat → Int32) → (Nat → Int32) → (Nat → Int32) → (Nat → Int32) → (Nat → Int32) → (Nat → Int32) → (Nat → Int32) → Prop} {dr ds cu : Int32} {a1 a2 a3 a4 a5 a6 a7 a8 : Nat → Int32} {mc ms kc ks : Nat} {t u g p : Nat} {c : Int32} (H : sj_H (sj_m c) t u g) (hQ : sj_Q (sj_m c) g cu a1 a2 a7 a8) (hp : p < 3)
    (h : ∀ cu a3 a4 a5 a6 a7 a8, sj_Q (sj_m c) g cu a1 a2 a7 a8 → J1 (nI (sj_lab g (6 * p + 6))) (nI (sj_pc g)) (nI (p + 1)) dr ds (nI 4) (nI t) (nI u) cu a1 a2 a3 a4 a5 a6 a7 a8) :
    ∃ n, wL_lawOf_138 post mc ms J1 c (nI t) (nI u) (nI p) kc ks n (nI (sj_lab g (6 * p))) (nI (sj_pq g p 0)) 0 dr ds (nI 4) (nI t) (nI u) cu a1 a2 a3 a4 a5 a6 a7 a8 := by
  have hg := H.2.2.2.2.1
  refine pk_loop (σ := Int32 × (Nat → Int32) × (Nat → Int32) × (Nat → Int32) × (Nat → Int32) × (Nat → Int32) × (Nat → Int32)) (fun n k s => wL_lawOf_138 post mc ms J1 c (nI t) (nI u) (nI p) kc ks n (nI (sj_lab g (6 * p + k))) (nI (sj_pq g p k)) (nI k) dr ds (nI 4) (nI t) (nI u) s.1 a1 a2 s.2.1 s.2.2.1 s.2.2.2.1 s.2.2.2.2.1 s.2.2.2.2.2.1 s.2.2.2.2.2.2) (fun k s => sj_Q (sj_m c) g s.1 a1 a2 s.2.2.2.2.2.1 s.2.2.2.2.2.2) 6 0 (cu, a3, a4, a5, a6, a7, a8) (by omega) hQ ?_ ?_
  · rintro n ⟨cu, a3, a4, a5, a6, a7, a8⟩ hs
    have h' := h cu a3 a4 a5 a6 a7 a8 hs
    have e : sj_pq g p 6 = sj_pc g := by
      unfold sj_pq
      rw [Nat.mod_eq_of_lt (show g < 2 ^ 6 by omega)]
      split <;> rfl
    rw [← e] at h'
    exact pk_le 6 6 (fun _ => nm_r (nI_1 p) h') (fun z => absurd z (by omega))
  · rintro n k ⟨cu, a3, a4, a5, a6, a7, a8⟩ hk hs hw
    dsimp only at hs
    have body : ∀ x10 x11 : Int32, x10 = nI (sj_I k) → x11 = nI (sj_J k) → wL_lawOf_195 post mc ms J1 (wL_lawOf_138 post mc ms J1 c (nI t) (nI u) (nI p) kc ks n) c (nI t) (nI u) (nI (sj_lab g (6 * p + k))) (nI (sj_pq g p k)) (nI p) (nI k) x10 x11 kc ks dr ds (nI 4) (nI t) (nI u) cu a1 a2 a3 a4 a5 a6 a7 a8 :=
      fun x10 x11 e1 e2 => sj_195 H hs hp hk (fun a3 a4 a5 a6 a7 a8 hF => hw (1, a3, a4, a5, a6, a7, a8) (sj_FQ hF)) e1 e2
    refine pk_le 6 k (fun z => absurd z (by omega)) (fun _ => pk_le 3 k (fun z => pk_le 5 k (fun z2 => pk_le 3 k (fun _ => pk_le 5 k (fun _ => body 2 3 ?_ ?_) (fun y => absurd y (by omega))) (fun y => absurd y (by omega))) (fun z2 => pk_le 3 k (fun _ => pk_le 5 k (fun y => absurd y (by omega)) (fun _ => body 1 _ ?_ ?_)) (fun y => absurd y (by omega)))) (fun z => pk_le 3 k (fun y => absurd y (by omega)) (fun _ => body 0 _ ?_ ?_)))
    · rw [sj_I, if_neg (by omega), if_neg (by omega)]
      rfl
    · rw [sj_J, if_neg (by omega), if_neg (by omega)]
      rfl
    · rw [sj_I, if_neg (by omega), if_pos (by omega)]
      rfl
    · rw [sj_J, if_neg (by omega), if_pos (by omega), show (1 : Int32) = nI 1 from rfl, pk_sub (by omega)]
    · rw [sj_I, if_pos (by omega)]
      rfl
    · rw [sj_J, if_pos (by omega), nI_1]
theorem sj_392 {post : Int32 → St0 → Prop} {J : Int32 → Int32 → Int32 → Int32 → Int32 → Int32 → Int32 → Int32 → Int32 → (Nat → Int32) → (Nat → Int32) → (Nat → Int32) → (Nat → Int32) → (Nat → Int32) → (Nat → Int32) → (Nat → Int32) → (Nat → Int32) → Prop} {dr ds cu : Int32} {a1 a2 a3 a4 a5 a6 a7 a8 : Nat → Int32} {mc ms kc ks : Nat} {t u g r : Nat} {c x7 x8 : Int32} (H : sj_H (sj_m c) t u g) (hQ : sj_Q (sj_m c) g cu a1 a2 a7 a8) (hr : r < 4)
    (h : ∀ a3 a4 a5 a6 a7 a8, sj_F (sj_m c) g a1 a2 a7 a8 → J x8 (nI (sj_nb (sj_m c) (r + 1))) (nI (r + 1)) dr ds (nI 4) (nI t) (nI u) 1 a1 a2 a3 a4 a5 a6 a7 a8) :
    wL_lawOf_392 post mc ms J c (nI (sj_lab g 18)) x7 x8 (nI (sj_nb (sj_m c) r)) (nI (sj_m c 0)) (nI r) kc ks dr ds (nI 4) (nI t) (nI u) cu a1 a2 a3 a4 a5 a6 a7 a8 := by
  obtain ⟨hm, ht, htu, hu, hg, _⟩ := id H
  have y4 := sj_nb4 (sj_m c) r (by omega)
  have e18 := sj_ufl g hg
  have hl := sj_labv (g := g) 18
  have an := fun a (ha : a < 4) => sj_and _ (hm a ha).2 _ (hm 0 (by omega)).2
  have orr := fun a (ha : a < 4) => sj_or _ (hm a ha).2 _ (hm 0 (by omega)).2
  unfold wL_lawOf_392
  rw [sj_gtI _ hl r hr]
  refine sj_groupOf H hQ hr (fun a3 a4 a5 a6 a7 a8 hF => br_t (by rw [e18]) (sj_set r (sj_set (sj_nb (sj_m c) r) (sj_size hF.1 hr (sj_onesL (sj_m c r) (hm r hr).2 (br_t rfl (sj_common (a := 0) hm hF.1 (by omega) hr (sj_onesL _ (an r hr).2 (br_t rfl ?_) (an r hr).1))))))))
  have h' := h a3 a4 a5 a6 a7 a8 hF
  rw [sj_nb] at h'
  refine pk_le r 1 (fun z => nm_r (nI_1 r) ?_) (fun z => sj_onesL _ (an r hr).2 (sj_onesL _ (orr _ y4).2 (sj_onesL _ (an _ y4).2 (sj_onesL _ (orr r hr).2 ?_ (orr r hr).1) (an _ y4).1) (orr _ y4).1) (an r hr).1)
  · rw [if_neg (fun w => absurd w.1 (by omega))] at h'
    exact h'
  · have k1 : sj_pc (sj_m c r &&& sj_m c 0) * sj_pc (sj_m c (sj_nb (sj_m c) r) ||| sj_m c 0) ≤ 6 * 6 := Nat.mul_le_mul (sj_pc6 _) (sj_pc6 _)
    have k2 : sj_pc (sj_m c (sj_nb (sj_m c) r) &&& sj_m c 0) * sj_pc (sj_m c r ||| sj_m c 0) ≤ 6 * 6 := Nat.mul_le_mul (sj_pc6 _) (sj_pc6 _)
    refine pk_le (sj_pc (sj_m c r &&& sj_m c 0) * sj_pc (sj_m c (sj_nb (sj_m c) r) ||| sj_m c 0)) (sj_pc (sj_m c (sj_nb (sj_m c) r) &&& sj_m c 0) * sj_pc (sj_m c r ||| sj_m c 0)) (fun y => nm_r (nI_1 r) ?_) (fun y => nm_r (nI_1 r) ?_) (pk_mul _ _) (pk_mul _ _)
    · rw [if_neg (fun w => absurd w.2 (by omega))] at h'
      exact h'
    · rw [if_pos ⟨by omega, y⟩] at h'
      exact h'
theorem sj_369 {post : Int32 → St0 → Prop} {dr ds cu : Int32} {a1 a2 a3 a4 a5 a6 a7 a8 : Nat → Int32} {mc ms kc ks : Nat} {t u g : Nat} {c x6 x7 : Int32} (H : sj_H (sj_m c) t u g) (hQ : sj_Q (sj_m c) g cu a1 a2 a7 a8) (hp : post 1 ()) (h6 : x6 = nI (sj_lab g 18)) (h7 : x7 = nI (sj_pc g)) :
    ∃ n, wL_lawOf_369 post mc ms c x6 x7 (nI (sj_m c 0)) kc ks n 0 1 0 dr ds (nI 4) (nI t) (nI u) cu a1 a2 a3 a4 a5 a6 a7 a8 := by
  subst h6 h7
  obtain ⟨hm, ht, htu, hu, hg, _⟩ := id H
  have e18 := sj_ufl g hg
  have hl := sj_labv (g := g) 18
  refine pk_loop (σ := Int32 × (Nat → Int32) × (Nat → Int32) × (Nat → Int32) × (Nat → Int32) × (Nat → Int32) × (Nat → Int32)) (fun n r s => wL_lawOf_369 post mc ms c (nI (sj_lab g 18)) (nI (sj_pc g)) (nI (sj_m c 0)) kc ks n (nI (sj_gc (sj_lab g 18) r)) (nI (sj_nb (sj_m c) r)) (nI r) dr ds (nI 4) (nI t) (nI u) s.1 a1 a2 s.2.1 s.2.2.1 s.2.2.2.1 s.2.2.2.2.1 s.2.2.2.2.2.1 s.2.2.2.2.2.2) (fun k s => sj_Q (sj_m c) g s.1 a1 a2 s.2.2.2.2.2.1 s.2.2.2.2.2.2) 4 0 (cu, a3, a4, a5, a6, a7, a8) (by omega) hQ ?_ ?_
  · rintro n ⟨cu, a3, a4, a5, a6, a7, a8⟩ hs
    dsimp only at hs
    refine pk_le 4 4 (fun _ => sj_pairs H hs (fun a3 a4 a5 a6 a7 a8 hF => br_t rfl (sj_groups H (sj_FQ hF) (fun a3 a4 a5 a6 a7 a8 hF => br_t (by rw [e18]) (sj_nearest hm hF.1 (br_t rfl hp)))))) (fun z => absurd z (by omega))
  · rintro n r ⟨cu, a3, a4, a5, a6, a7, a8⟩ hr hs hw
    dsimp only at hs
    have g4 := sj_gt4 (sj_lab g 18) r
    have body : wL_lawOf_392 post mc ms (wL_lawOf_369 post mc ms c (nI (sj_lab g 18)) (nI (sj_pc g)) (nI (sj_m c 0)) kc ks n) c (nI (sj_lab g 18)) (nI (sj_pc g)) (nI (sj_gc (sj_lab g 18) (r + 1))) (nI (sj_nb (sj_m c) r)) (nI (sj_m c 0)) (nI r) kc ks dr ds (nI 4) (nI t) (nI u) cu a1 a2 a3 a4 a5 a6 a7 a8 :=
      sj_392 H hs hr (fun a3 a4 a5 a6 a7 a8 hF => hw (1, a3, a4, a5, a6, a7, a8) (sj_FQ hF))
    refine pk_le 4 r (fun z => absurd z (by omega)) (fun _ => ?_)
    rw [sj_gtI _ hl r hr]
    rw [sj_gc] at body
    refine pk_eq (sj_gt (sj_lab g 18) r) r (fun e => nm_r (nI_1 _) ?_) (fun ne => ?_)
    · rw [if_pos e] at body
      exact body
    · rw [if_neg ne, Nat.add_zero] at body
      exact body
theorem sj_129 {post : Int32 → St0 → Prop} {dr ds cu : Int32} {a1 a2 a3 a4 a5 a6 a7 a8 : Nat → Int32} {mc ms kc ks : Nat} {t u g : Nat} {c x6 : Int32} (H : sj_H (sj_m c) t u g) (hQ : sj_Q (sj_m c) g cu a1 a2 a7 a8) (hp : post 1 ()) (h6 : x6 = nI 228) :
    ∃ n, wL_lawOf_129 post mc ms c (nI t) (nI u) kc ks n x6 0 0 dr ds (nI 4) (nI t) (nI u) cu a1 a2 a3 a4 a5 a6 a7 a8 := by
  subst h6
  refine pk_loop (σ := Int32 × Int32 × (Nat → Int32) × (Nat → Int32) × (Nat → Int32) × (Nat → Int32) × (Nat → Int32) × (Nat → Int32)) (fun n p s => wL_lawOf_129 post mc ms c (nI t) (nI u) kc ks n (nI (sj_lab g (6 * p))) s.1 (nI p) dr ds (nI 4) (nI t) (nI u) s.2.1 a1 a2 s.2.2.1 s.2.2.2.1 s.2.2.2.2.1 s.2.2.2.2.2.1 s.2.2.2.2.2.2.1 s.2.2.2.2.2.2.2) (fun p s => s.1 = nI (sj_pq g p 0) ∧ sj_Q (sj_m c) g s.2.1 a1 a2 s.2.2.2.2.2.2.1 s.2.2.2.2.2.2.2) 3 0 (0, cu, a3, a4, a5, a6, a7, a8) (by omega) ⟨?_, hQ⟩ ?_ ?_
  · unfold sj_pq
    rw [if_pos rfl, Nat.pow_zero, Nat.mod_one]
    rfl
  · rintro n ⟨x7, cu, a3, a4, a5, a6, a7, a8⟩ ⟨h7, hs⟩
    dsimp only at hs h7
    exact pk_le 3 3 (fun _ => sj_set 0 (sj_369 H hs hp rfl (by rw [h7]; unfold sj_pq; rw [if_neg (by decide)]))) (fun z => absurd z (by omega))
  · rintro n p ⟨x7, cu, a3, a4, a5, a6, a7, a8⟩ hp3 ⟨h7, hs⟩ hw
    dsimp only at hs h7
    subst h7
    exact pk_le 3 p (fun z => absurd z (by omega)) (fun _ => sj_138 H hs hp3 (fun cu a3 a4 a5 a6 a7 a8 hs' => hw (nI (sj_pc g), cu, a3, a4, a5, a6, a7, a8) ⟨by unfold sj_pq; rw [if_neg (by omega)], hs'⟩))
theorem sj_61 {post : Int32 → St0 → Prop} {J : Int32 → Int32 → Int32 → Int32 → Int32 → Int32 → Int32 → Int32 → (Nat → Int32) → (Nat → Int32) → (Nat → Int32) → (Nat → Int32) → (Nat → Int32) → (Nat → Int32) → (Nat → Int32) → (Nat → Int32) → Prop} {a1 a2 a3 a4 a5 a6 a7 a8 : Nat → Int32} {mc ms kc ks : Nat} {t u r M : Nat} {c x3 x4 : Int32} (hr : r < 4) (hM : M < 64) (hM1 : 1 ≤ M)
    (h : J (nI (228 % 4 ^ (r + 1))) (nI (r + 1)) (nI M) (nI (sj_pc M)) (nI (r + 1)) (nI t) (nI u) 0 (upd a1 r (nI M)) (upd a2 r (nI (sj_pc M))) a3 a4 a5 a6 a7 a8) :
    ∃ n, wL_lawOf_61 post mc ms J c x3 x4 (nI (228 % 4 ^ r)) (nI r) (nI M) kc ks n 0 0 0 (nI r) (nI t) (nI u) 0 a1 a2 a3 a4 a5 a6 a7 a8 := by
  have p1 := sj_pc1 hM1 hM
  have p6 := sj_pc6 M
  refine pk_loop (σ := Int32 × Int32) (fun n i s => wL_lawOf_61 post mc ms J c x3 x4 (nI (228 % 4 ^ r)) (nI r) (nI M) kc ks n (nI i) s.1 s.2 (nI r) (nI t) (nI u) 0 a1 a2 a3 a4 a5 a6 a7 a8) (fun i s => s.1 = nI (M % 2 ^ i) ∧ s.2 = nI (sj_pc (M % 2 ^ i))) 6 0 (0, 0) (by omega) (by rw [Nat.pow_zero, Nat.mod_one]; exact ⟨rfl, rfl⟩) ?_ ?_
  · rintro n ⟨s1, s2⟩ ⟨h1, h2⟩
    rw [Nat.mod_eq_of_lt (by omega)] at h1 h2
    dsimp only at h1 h2
    subst h1 h2
    exact pk_le 6 6 (fun _ => sj_store (by omega) (nI_ne0 (by omega) (by omega)) (br_t rfl (nm_r (sj_li r hr) (nm_r (nI_1 r) h)))) (fun z => absurd z (by omega))
  · rintro n i ⟨s1, s2⟩ hi ⟨h1, h2⟩ hw
    dsimp only at h1 h2
    subst h1 h2
    refine pk_le 6 i (fun z => absurd z (by omega)) (fun _ => ?_)
    by_cases hb : M.testBit i = true
    · exact br_t ((sj_bit1 hM (by omega)).mpr hb) (sj_token hM hi hb (nm_r (nI_1 i) (hw (nI (M % 2 ^ (i + 1)), nI (sj_pc (M % 2 ^ (i + 1)))) ⟨rfl, rfl⟩)))
    · have hf : M.testBit i = false := by
        cases e : M.testBit i
        · rfl
        · exact absurd e hb
      refine br_f (fun z => hb ((sj_bit1 hM (by omega)).mp z)) (nm_r (nI_1 i) (hw (nI (M % 2 ^ i), nI (sj_pc (M % 2 ^ i))) ?_))
      rw [sj_skip M hM i (by omega) hf]
      exact ⟨rfl, rfl⟩
theorem sj_38 {post : Int32 → St0 → Prop} {dr ds : Int32} {a1 a2 a3 a4 a5 a6 a7 a8 : Nat → Int32} {mc ms kc ks : Nat} {t u g : Nat} {c : Int32} (H : sj_H (sj_m c) t u g) (hp : post 1 ()) :
    ∃ n, wL_lawOf_38 post mc ms c (nI t) (nI u) kc ks n 0 0 dr ds 0 (nI t) (nI u) 0 a1 a2 a3 a4 a5 a6 a7 a8 := by
  obtain ⟨hm, _⟩ := id H
  refine pk_loop (σ := Int32 × Int32 × (Nat → Int32) × (Nat → Int32)) (fun n r s => wL_lawOf_38 post mc ms c (nI t) (nI u) kc ks n (nI (228 % 4 ^ r)) (nI r) s.1 s.2.1 (nI r) (nI t) (nI u) 0 s.2.2.1 s.2.2.2 a3 a4 a5 a6 a7 a8) (fun r s => sj_B (sj_m c) r s.2.2.1 s.2.2.2) 4 0 (dr, ds, a1, a2) (by omega) (fun r hr => absurd hr (by omega)) ?_ ?_
  · rintro n ⟨dr, ds, a1, a2⟩ hs
    dsimp only at hs
    exact pk_le 4 4 (fun _ => sj_129 H ⟨hs, Or.inl rfl⟩ hp rfl) (fun z => absurd z (by omega))
  · rintro n r ⟨dr, ds, a1, a2⟩ hr hs hw
    dsimp only at hs
    refine pk_le 4 r (fun z => absurd z (by omega)) (fun _ => ?_)
    unfold wpX_clear
    refine sj_set r (sj_61 hr (hm r hr).2 (hm r hr).1 (hw (nI (sj_m c r), nI (sj_pc (sj_m c r)), upd a1 r (nI (sj_m c r)), upd a2 r (nI (sj_pc (sj_m c r)))) (fun j hj => ?_)))
    exact ⟨sj_fill (f := fun j => nI (sj_m c j)) (fun j hj => (hs j hj).1) rfl j hj, sj_fill (f := fun j => nI (sj_pc (sj_m c j))) (fun j hj => (hs j hj).2) rfl j hj⟩
end
section
theorem sj_lawOf {post : Int32 → St0 → Prop} (hp : post 1 ()) (c y z : Int32) : wpL_lawOf post 9 436 () c y z := by
  obtain ⟨j, hj, ej⟩ := pk_andE y (m := 7) 3 (by decide)
  obtain ⟨k, hk, ek⟩ := pk_andE z (m := 3) 2 (by decide)
  have e1 : (1 : Int32) + (y &&& 7) = nI (1 + j) := by
    rw [ej, show (1 : Int32) = nI 1 from rfl, nI_add]
  have e2 : nI (1 + j) + (z &&& 3) = nI (1 + j + k) := by
    rw [ek, nI_add]
  obtain ⟨g, hg, hbit⟩ := sj_graph (fun n => sj_al (1 + j) (1 + j + k) (sj_m c (sj_I n)) (sj_m c (sj_J n)))
  have H : sj_H (sj_m c) (1 + j) (1 + j + k) g := ⟨fun r _ => sj_mv1 c r, by omega, by omega, by omega, hg, hbit⟩
  refine nm_r e1 (nm_r e2 ⟨by omega, by omega, 8, 422, by omega, by omega, ?_⟩)
  refine ⟨by omega, by omega, by omega, by omega, by omega, by omega, by omega, by omega, by omega, by omega, by omega, by omega, by omega, by omega, by omega, by omega, ?_⟩
  exact sj_threshold (by omega) (by omega) (by omega) (sj_38 H hp)
theorem sj_cell {post : Int32 → Prop} {xs : Nat → Int32} {L : Nat} {x : Int32} (hL : L ≤ 3) (k : Nat) (hk : k < 3) (h : ∀ v, post v) (hx : x = nI k := by rfl) : wpL_cellAt post L xs () x := by
  subst hx
  exact pk_le L k (fun _ => h 0) (fun z => ⟨pk_in k L z, h _⟩)
theorem i_vc (xs : Nat → Int32) (L : Nat) (hL : L ≤ 3) : wpL_law (fun r => r = 1) L xs := by
  unfold wpL_law
  exact sj_cell hL 0 (by omega) (fun c => sj_cell hL 1 (by omega) (fun y => sj_cell hL 2 (by omega) (fun z => ⟨9, 436, by omega, by omega, sj_lawOf rfl c y z⟩)))
end
