section
/-! the picture: a box of three clocks; small numbers -/
def cz_M (l h : Nat → Nat) (p q : Nat) : Int := if p = q then 0 else (h p : Int) - (l q : Int)
def cz_box (l h : Nat → Nat) : Prop := l 0 = 0 ∧ h 0 = 0 ∧ ∀ p, p < 4 → l p ≤ h p ∧ h p ≤ 12
def cz_st (h : Nat → Nat) (i c : Nat) : Nat → Nat := fun j => if j = i then c else h j
/-- the work array holds the box -/
def cz_okw (w : Nat → Int32) (l h : Nat → Nat) : Prop := ∀ p q, p < 4 → q < 4 → (w (4 * p + q)).toInt = cz_M l h p q
/-- zone z of the bounds holds the box -/
def cz_okz (a : Nat → Int32) (z : Nat) (l h : Nat → Nat) : Prop := ∀ p q, p < 4 → q < 4 → (a (16 * z + 4 * p + q)).toInt = cz_M l h p q
theorem cz_10 : ¬ (1 : Int32) = 0 := by decide
theorem cz_40 : ¬ (4 : Int32) = 0 := by decide
theorem cz_t0 : (0 : Int32).toInt = 0 := by decide
theorem cz_t1 : (1 : Int32).toInt = 1 := by decide
theorem cz_t2 : (2 : Int32).toInt = 2 := by decide
theorem cz_t3 : (3 : Int32).toInt = 3 := by decide
theorem cz_t12 : (12 : Int32).toInt = 12 := by decide
theorem cz_add {x y : Int32} {a b : Int} (hx : x.toInt = a) (hy : y.toInt = b) (ha : -1000 ≤ a ∧ a ≤ 1000) (hb : -1000 ≤ b ∧ b ≤ 1000) : (x + y).toInt = a + b := by
  rw [Int32.toInt_add, hx, hy]
  exact Int.bmod_eq_of_le (by omega) (by omega)
theorem cz_sub {x y : Int32} {a b : Int} (hx : x.toInt = a) (hy : y.toInt = b) (ha : -1000 ≤ a ∧ a ≤ 1000) (hb : -1000 ≤ b ∧ b ≤ 1000) : (x - y).toInt = a - b := by
  rw [Int32.toInt_sub, hx, hy]
  exact Int.bmod_eq_of_le (by omega) (by omega)
theorem cz_neg {x : Int32} {a : Int} (hx : x.toInt = a) (ha : -1000 ≤ a ∧ a ≤ 1000) : (-x).toInt = -a := by
  rw [Int32.toInt_neg, hx]
  exact Int.bmod_eq_of_le (by omega) (by omega)
theorem cz_ofT {x : Int32} {n : Nat} (hx : x.toInt = (n : Int)) (hn : n < 2 ^ 31) : x = nI n := by
  apply Int32.toInt_inj.mp
  rw [hx, nI_toInt hn]
theorem cz_i4 (p i : Nat) : (4 : Int32) * nI p + nI i = nI (4 * p + i) := by
  rw [← nI_add, ← pk_mul]
  rfl
theorem cz_i16 (z i : Nat) : (16 : Int32) * nI z + nI i = nI (16 * z + i) := by
  rw [← nI_add, ← pk_mul]
  rfl
theorem cz_i3 (z p q : Nat) : (16 : Int32) * nI z + 4 * nI p + nI q = nI (16 * z + 4 * p + q) := by
  rw [← nI_add, ← nI_add, ← pk_mul, ← pk_mul]
  rfl
theorem cz_i2 (z p : Nat) : (16 : Int32) * nI z + 4 * nI p = nI (16 * z + 4 * p) := by
  rw [← nI_add, ← pk_mul, ← pk_mul]
  rfl
theorem cz_d4 {k : Nat} (h : k < 16) : nI k / (4 : Int32) = nI (k / 4) := pk_div (d := 4) (by omega) (by omega) (by omega)
theorem cz_r4 {k : Nat} (h : k < 16) : nI k - nI k / (4 : Int32) * (4 : Int32) = nI (k % 4) := pk_rem (d := 4) (by omega) (by omega) (by omega)
theorem cz_Mb {l h : Nat → Nat} (hb : cz_box l h) {p q : Nat} (hp : p < 4) (hq : q < 4) : -12 ≤ cz_M l h p q ∧ cz_M l h p q ≤ 12 := by
  have h1 := hb.2.2 p hp
  have h2 := hb.2.2 q hq
  unfold cz_M
  split <;> omega
theorem cz_st_s {h : Nat → Nat} {i c : Nat} : cz_st h i c i = c := if_pos rfl
theorem cz_st_n {h : Nat → Nat} {i c j : Nat} (n : j ≠ i) : cz_st h i c j = h j := if_neg n
theorem cz_st_e {h : Nat → Nat} {i c : Nat} (e : c = h i) : cz_st h i c = h := by
  funext j
  unfold cz_st
  split
  · rename_i g
    rw [g, e]
  · rfl
theorem cz_box_st {l h : Nat → Nat} {i c : Nat} (hb : cz_box l h) (hi : 1 ≤ i) (hc : c ≤ 12) : cz_box (cz_st l i c) (cz_st h i c) := by
  refine ⟨?_, ?_, fun p hp => ?_⟩
  · rw [cz_st_n (by omega)]; exact hb.1
  · rw [cz_st_n (by omega)]; exact hb.2.1
  · by_cases e : p = i
    · rw [e, cz_st_s, cz_st_s]; omega
    · rw [cz_st_n e, cz_st_n e]; exact hb.2.2 p hp
theorem cz_box_h {l h : Nat → Nat} {i c : Nat} (hb : cz_box l h) (hi : 1 ≤ i) (h1 : l i ≤ c) (hc : c ≤ 12) : cz_box l (cz_st h i c) := by
  refine ⟨hb.1, ?_, fun p hp => ?_⟩
  · rw [cz_st_n (by omega)]; exact hb.2.1
  · by_cases e : p = i
    · rw [e, cz_st_s]; exact ⟨h1, hc⟩
    · rw [cz_st_n e]; exact hb.2.2 p hp
/-! the small methods that read the zone's and the clock's number -/
theorem cz_zone {P : Int32 → Prop} {u : St0} {z : Nat} (hz : z < 3) (H : P 1) : wpX_isZone P u (nI z) :=
  br_f (nI_pos (by omega)) (br_f (nI_nlt (a := 2) (b := z) (by omega) (by omega)) H)
theorem cz_zbad {P : Int32 → Prop} {u : St0} {x : Int32} (hx : x < 0 ∨ 2 < x) (H : P 0) : wpX_isZone P u x :=
  br_c (fun _ => H) (fun h => br_t (hx.resolve_left h) H)
theorem cz_clock {P : Int32 → Prop} {u : St0} {k : Nat} (h1 : 1 ≤ k) (h3 : k ≤ 3) (H : P 1) : wpX_isClock P u (nI k) :=
  br_f (nI_nlt (a := k) (b := 1) (by omega) (by omega)) (br_f (nI_nlt (a := 3) (b := k) (by omega) (by omega)) H)
theorem cz_cbad {P : Int32 → Prop} {u : St0} {x : Int32} (hx : x < 1 ∨ 3 < x) (H : P 0) : wpX_isClock P u x :=
  br_c (fun _ => H) (fun h => br_t (hx.resolve_left h) H)
theorem cz_fill {f s : Nat → Int32} {i k : Nat} {x : Int32} (hk : k = i) (h : ∀ j, j < i → s j = f j) (hx : x = f i) : ∀ j, j < i + 1 → upd s k x j = f j := by
  intro j hj
  rw [hk]
  by_cases e : j = i
  · rw [e, pk_us, hx]
  · rw [pk_un e]
    exact h j (by omega)
end
section
/-! take, narrow, fix -/
theorem cz_take {post : St2 → Prop} {a1 a2 a3 : Nat → Int32} {z : Nat} (hz : z < 3) (H : ∀ w, (∀ t, t < 16 → w t = a1 (16 * z + t)) → post (a1, a2, w)) : wpX_take post (a1, a2, a3) (nI z) := by
  unfold wpX_take
  dsimp only
  refine pk_loop (fun n i s => wX_take_2 post (nI z) n (nI i) a1 a2 s) (fun i s => ∀ t, t < i → s t = a1 (16 * z + t)) 16 0 a3 (by omega) lt_0
    (fun n s h => pk_le 16 16 (fun _ => H s h) (fun g => absurd g (by omega)))
    (fun n i s hi h hw => pk_le 16 i (fun g => absurd g (by omega)) (fun _ => ⟨pk_in (16 * z + i) 48 (by omega) (cz_i16 z i), pk_in i 16 hi, nm_e (nm_r (nI_1 i) (hw _ ?_))⟩))
  refine cz_fill (f := fun t => a1 (16 * z + t)) (nI_clamp (by omega)) h ?_
  rw [pk_cl (16 * z + i) (cz_i16 z i)]
theorem cz_takeB {post : St2 → Prop} {a1 a2 a3 : Nat → Int32} {z : Nat} {l h : Nat → Nat} (hz : z < 3) (ok : cz_okz a1 z l h) (H : ∀ w, cz_okw w l h → post (a1, a2, w)) : wpX_take post (a1, a2, a3) (nI z) := by
  refine cz_take hz (fun w hw => H w (fun p q hp hq => ?_))
  rw [hw _ (by omega), ← Nat.add_assoc]
  exact ok p q hp hq
theorem cz_nloop {post : Int32 → St2 → Prop} {a1 a2 w : Nat → Int32} {i j : Nat} {x : Int32} {M M' : Nat → Nat → Int} (hi : i < 4) (hj : j < 4)
    (hM : ∀ p q, p < 4 → q < 4 → -12 ≤ M p q ∧ M p q ≤ 12) (hx : -12 ≤ x.toInt ∧ x.toInt ≤ 12)
    (hcol : ∀ p, p < 4 → M' p i = M p i) (hrow : ∀ q, q < 4 → M' j q = M j q)
    (hst : ∀ p q, p < 4 → q < 4 → M' p q = if M p q ≤ M p i + x.toInt + M j q then M p q else M p i + x.toInt + M j q)
    (hw : ∀ p q, p < 4 → q < 4 → (w (4 * p + q)).toInt = M p q)
    (H : ∀ w', (∀ p q, p < 4 → q < 4 → (w' (4 * p + q)).toInt = M' p q) → post 1 (a1, a2, w')) :
    ∃ fu, wX_narrow_36 post (nI i) (nI j) x fu 0 a1 a2 w := by
  refine pk_loop (fun n k s => wX_narrow_36 post (nI i) (nI j) x n (nI k) a1 a2 s) (fun k s => ∀ p q, p < 4 → q < 4 → (s (4 * p + q)).toInt = if 4 * p + q < k then M' p q else M p q) 16 0 w (by omega) ?_ ?_ ?_
  · intro p q hp hq
    rw [if_neg (by omega)]
    exact hw p q hp hq
  · intro n s h
    refine pk_le 16 16 (fun _ => H s (fun p q hp hq => ?_)) (fun g => absurd g (by omega))
    have t := h p q hp hq
    rw [if_pos (by omega)] at t
    exact t
  · intro n k s hk h hwk
    have hp : k / 4 < 4 := by omega
    have hq : k % 4 < 4 := by omega
    have f1 : (s (4 * (k / 4) + i)).toInt = M (k / 4) i := by
      rw [h _ _ hp hi]
      split
      · exact hcol _ hp
      · rfl
    have f2 : (s (4 * j + k % 4)).toInt = M j (k % 4) := by
      rw [h _ _ hj hq]
      split
      · exact hrow _ hq
      · rfl
    have f3 : (s k).toInt = M (k / 4) (k % 4) := by
      have t := h _ _ hp hq
      rw [show 4 * (k / 4) + k % 4 = k by omega, if_neg (by omega)] at t
      exact t
    have b1 := hM _ _ hp hi
    have b2 := hM _ _ hj hq
    have f4 : (s (4 * (k / 4) + i) + x + s (4 * j + k % 4)).toInt = M (k / 4) i + x.toInt + M j (k % 4) := cz_add (cz_add f1 rfl (by omega) (by omega)) f2 (by omega) (by omega)
    have st := hst _ _ hp hq
    have N : ∀ v : Int32, v.toInt = M' (k / 4) (k % 4) → ∀ p q, p < 4 → q < 4 → (upd s k v (4 * p + q)).toInt = if 4 * p + q < k + 1 then M' p q else M p q := by
      intro v hv p q hp' hq'
      by_cases e : 4 * p + q = k
      · rw [e, pk_us, hv, if_pos (by omega), show k / 4 = p by omega, show k % 4 = q by omega]
      · rw [pk_un e, h p q hp' hq']
        by_cases g : 4 * p + q < k
        · rw [if_pos g, if_pos (by omega)]
        · rw [if_neg g, if_neg (by omega)]
    refine pk_le 16 k (fun g => absurd g (by omega)) (fun _ => ⟨cz_40, nm_r (cz_d4 hk) ⟨cz_40, nm_r (cz_r4 hk) ⟨pk_in (4 * (k / 4) + i) 16 (by omega) (cz_i4 _ _), pk_in (4 * j + k % 4) 16 (by omega) (cz_i4 _ _), nm_e ⟨pk_in k 16 hk, ?_⟩⟩⟩⟩)
    rw [pk_cl (4 * (k / 4) + i) (cz_i4 _ _), pk_cl (4 * j + k % 4) (cz_i4 _ _), nI_clamp (show k < 2 ^ 31 by omega)]
    refine br_c (fun g => ⟨pk_in k 16 hk, pk_in k 16 hk, nm_e (nm_r (nI_1 k) (hwk _ (N _ ?_)))⟩) (fun g => ⟨pk_in k 16 hk, nm_e (nm_r (nI_1 k) (hwk _ (N _ ?_)))⟩)
    · rw [Int32.le_iff_toInt_le, f3, f4] at g
      rw [if_pos g] at st
      rw [f3, st]
    · rw [Int32.le_iff_toInt_le, f3, f4] at g
      rw [if_neg g] at st
      rw [f4, st]
theorem cz_123 {i : Nat} (h1 : 1 ≤ i) (h3 : i ≤ 3) : i = 1 ∨ i = 2 ∨ i = 3 := by omega
theorem cz_0123 {i : Nat} (h3 : i < 4) : i = 0 ∨ i = 1 ∨ i = 2 ∨ i = 3 := by omega
theorem cz_stA {l h : Nat → Nat} {i c p q : Nat} (hb : cz_box l h) (h1 : 1 ≤ i) (h3 : i ≤ 3) (hc : l i ≤ c) (hc' : c < h i) (hp : p < 4) (hq : q < 4) :
    cz_M l (cz_st h i c) p q = if cz_M l h p q ≤ cz_M l h p i + (c : Int) + cz_M l h 0 q then cz_M l h p q else cz_M l h p i + (c : Int) + cz_M l h 0 q := by
  have b0 := hb.1
  have b1 := hb.2.1
  have bp := hb.2.2 p hp
  have bq := hb.2.2 q hq
  have e0 : cz_M l h 0 q = - (l q : Int) := by
    unfold cz_M
    split
    · rename_i g
      rw [← g, b0]
      rfl
    · rw [b1]; omega
  rw [e0]
  by_cases e : p = i
  · rw [e] at bp ⊢
    by_cases g : q = i
    · rw [g]
      unfold cz_M
      rw [if_pos rfl, if_pos rfl, if_pos (by omega)]
    · unfold cz_M
      have g' : ¬ i = q := fun t => g t.symm
      rw [if_neg g', if_neg g', if_pos rfl, cz_st_s, if_neg (by omega)]
      omega
  · have ei : cz_M l h p i = (h p : Int) - l i := if_neg e
    rw [ei]
    by_cases g : p = q
    · rw [← g] at bq ⊢
      unfold cz_M
      rw [if_pos rfl, if_pos rfl, if_pos (by omega)]
    · unfold cz_M
      rw [if_neg g, if_neg g, cz_st_n e, if_pos (by omega)]
theorem cz_stB {l h : Nat → Nat} {i c p q : Nat} (hb : cz_box l h) (h1 : 1 ≤ i) (h3 : i ≤ 3) (hc : l i < c) (hc' : c ≤ h i) (hp : p < 4) (hq : q < 4) :
    cz_M (cz_st l i c) h p q = if cz_M l h p q ≤ cz_M l h p 0 + -(c : Int) + cz_M l h i q then cz_M l h p q else cz_M l h p 0 + -(c : Int) + cz_M l h i q := by
  have b0 := hb.1
  have b1 := hb.2.1
  have bp := hb.2.2 p hp
  have bq := hb.2.2 q hq
  have e0 : cz_M l h p 0 = (h p : Int) := by
    unfold cz_M
    split
    · rename_i g
      rw [g, b1]
      rfl
    · rw [b0]; omega
  rw [e0]
  by_cases e : q = i
  · rw [e] at bq ⊢
    by_cases g : p = i
    · rw [g]
      unfold cz_M
      rw [if_pos rfl, if_pos rfl, if_pos (by omega)]
    · unfold cz_M
      rw [if_neg g, if_neg g, if_pos rfl, cz_st_s, if_neg (by omega)]
      omega
  · have ei : cz_M l h i q = (h i : Int) - l q := if_neg (fun t => e t.symm)
    rw [ei]
    by_cases g : p = q
    · rw [← g] at bq ⊢
      unfold cz_M
      rw [if_pos rfl, if_pos rfl, if_pos (by omega)]
    · unfold cz_M
      rw [if_neg g, if_neg g, cz_st_n e, if_pos (by omega)]
theorem cz_colA {l h : Nat → Nat} {i c p : Nat} : cz_M l (cz_st h i c) p i = cz_M l h p i := by
  unfold cz_M
  by_cases e : p = i
  · rw [if_pos e, if_pos e]
  · rw [if_neg e, if_neg e, cz_st_n e]
theorem cz_rowA {l h : Nat → Nat} {i c q : Nat} (h1 : 1 ≤ i) : cz_M l (cz_st h i c) 0 q = cz_M l h 0 q := by
  unfold cz_M
  rw [cz_st_n (by omega)]
theorem cz_colB {l h : Nat → Nat} {i c p : Nat} (h1 : 1 ≤ i) : cz_M (cz_st l i c) h p 0 = cz_M l h p 0 := by
  unfold cz_M
  rw [cz_st_n (by omega)]
theorem cz_rowB {l h : Nat → Nat} {i c q : Nat} : cz_M (cz_st l i c) h i q = cz_M l h i q := by
  unfold cz_M
  by_cases e : i = q
  · rw [if_pos e, if_pos e]
  · rw [if_neg e, if_neg e, cz_st_n (fun t => e t.symm)]
theorem cz_Mi0 {l h : Nat → Nat} {i : Nat} (hb : cz_box l h) (h1 : 1 ≤ i) : cz_M l h i 0 = (h i : Int) := by
  unfold cz_M
  rw [if_neg (by omega), hb.1]
  omega
theorem cz_M0i {l h : Nat → Nat} {i : Nat} (hb : cz_box l h) (h1 : 1 ≤ i) : cz_M l h 0 i = -(l i : Int) := by
  unfold cz_M
  rw [if_neg (by omega), hb.2.1]
  omega
theorem cz_narA {post : Int32 → St2 → Prop} {a1 a2 w : Nat → Int32} {l h : Nat → Nat} {i c : Nat} (h1 : 1 ≤ i) (h3 : i ≤ 3) (hb : cz_box l h) (hc : c ≤ 12) (ok : cz_okw w l h)
    (H1 : l i ≤ c → ∀ w', cz_okw w' l (cz_st h i (min (h i) c)) → post 1 (a1, a2, w')) (H0 : c < l i → post 0 (a1, a2, w)) : wpX_narrow post (a1, a2, w) (nI i) 0 (nI c) := by
  unfold wpX_narrow
  dsimp only
  have e1 : (4 : Int32) * nI i + 0 = nI (4 * i + 0) := cz_i4 i 0
  have e2 : (4 : Int32) * 0 + nI i = nI (4 * 0 + i) := cz_i4 0 i
  have f1 : (w (4 * i + 0)).toInt = (h i : Int) := by rw [ok i 0 (by omega) (by omega), cz_Mi0 hb h1]
  have f2 : (w (4 * 0 + i)).toInt = -(l i : Int) := by rw [ok 0 i (by omega) (by omega), cz_M0i hb h1]
  have bi := hb.2.2 i (by omega)
  have tc : (nI c).toInt = (c : Int) := nI_toInt (by omega)
  have f3 : (nI c + w (4 * 0 + i)).toInt = (c : Int) + -(l i : Int) := cz_add tc f2 (by omega) (by omega)
  refine ⟨pk_in (4 * i + 0) 16 (by omega) e1, ?_⟩
  rw [pk_cl (4 * i + 0) e1, pk_cl (4 * 0 + i) e2]
  refine br_c (fun g => ⟨pk_in (4 * 0 + i) 16 (by omega) e2, br_c (fun g2 => ?_) (fun g2 => H0 ?_)⟩) (fun g => H1 ?_ w ?_)
  · rw [Int32.lt_iff_toInt_lt, tc, f1] at g
    rw [Int32.le_iff_toInt_le, cz_t0, f3] at g2
    refine cz_nloop (M := cz_M l h) (M' := cz_M l (cz_st h i c)) (j := 0) (by omega) (by omega) (fun p q hp hq => cz_Mb hb hp hq) (by rw [tc]; omega) (fun p hp => cz_colA) (fun q hq => cz_rowA h1) (fun p q hp hq => ?_) ok (fun w' hw' => H1 (by omega) w' ?_)
    · rw [tc]
      exact cz_stA hb h1 h3 (by omega) (by omega) hp hq
    · rw [Nat.min_eq_right (by omega)]
      exact hw'
  · rw [Int32.le_iff_toInt_le, cz_t0, f3] at g2
    omega
  · rw [Int32.lt_iff_toInt_lt, tc, f1] at g
    omega
  · rw [Int32.lt_iff_toInt_lt, tc, f1] at g
    rw [cz_st_e (Nat.min_eq_left (by omega))]
    exact ok
theorem cz_narB {post : Int32 → St2 → Prop} {a1 a2 w : Nat → Int32} {l h : Nat → Nat} {i c : Nat} (h1 : 1 ≤ i) (h3 : i ≤ 3) (hb : cz_box l h) (hc : c ≤ 12) (ok : cz_okw w l h)
    (H1 : c ≤ h i → ∀ w', cz_okw w' (cz_st l i (max (l i) c)) h → post 1 (a1, a2, w')) (H0 : h i < c → post 0 (a1, a2, w)) : wpX_narrow post (a1, a2, w) 0 (nI i) (-nI c) := by
  unfold wpX_narrow
  dsimp only
  have e1 : (4 : Int32) * nI i + 0 = nI (4 * i + 0) := cz_i4 i 0
  have e2 : (4 : Int32) * 0 + nI i = nI (4 * 0 + i) := cz_i4 0 i
  have f1 : (w (4 * i + 0)).toInt = (h i : Int) := by rw [ok i 0 (by omega) (by omega), cz_Mi0 hb h1]
  have f2 : (w (4 * 0 + i)).toInt = -(l i : Int) := by rw [ok 0 i (by omega) (by omega), cz_M0i hb h1]
  have bi := hb.2.2 i (by omega)
  have tc : (-nI c).toInt = -(c : Int) := cz_neg (nI_toInt (by omega)) (by omega)
  have f3 : (-nI c + w (4 * i + 0)).toInt = -(c : Int) + (h i : Int) := cz_add tc f1 (by omega) (by omega)
  refine ⟨pk_in (4 * 0 + i) 16 (by omega) e2, ?_⟩
  rw [pk_cl (4 * i + 0) e1, pk_cl (4 * 0 + i) e2]
  refine br_c (fun g => ⟨pk_in (4 * i + 0) 16 (by omega) e1, br_c (fun g2 => ?_) (fun g2 => H0 ?_)⟩) (fun g => H1 ?_ w ?_)
  · rw [Int32.lt_iff_toInt_lt, tc, f2] at g
    rw [Int32.le_iff_toInt_le, cz_t0, f3] at g2
    refine cz_nloop (M := cz_M l h) (M' := cz_M (cz_st l i c) h) (i := 0) (by omega) (by omega) (fun p q hp hq => cz_Mb hb hp hq) (by rw [tc]; omega) (fun p hp => cz_colB h1) (fun q hq => cz_rowB) (fun p q hp hq => ?_) ok (fun w' hw' => H1 (by omega) w' ?_)
    · rw [tc]
      exact cz_stB hb h1 h3 (by omega) (by omega) hp hq
    · rw [Nat.max_eq_right (by omega)]
      exact hw'
  · rw [Int32.le_iff_toInt_le, cz_t0, f3] at g2
    omega
  · rw [Int32.lt_iff_toInt_lt, tc, f2] at g
    omega
  · rw [Int32.lt_iff_toInt_lt, tc, f2] at g
    rw [cz_st_e (Nat.max_eq_left (by omega))]
    exact ok
theorem cz_fix {post : Int32 → St2 → Prop} {a1 a2 w : Nat → Int32} {l h : Nat → Nat} {i c : Nat} (h1 : 1 ≤ i) (h3 : i ≤ 3) (hb : cz_box l h) (hc : c ≤ 12) (ok : cz_okw w l h)
    (H1 : l i ≤ c ∧ c ≤ h i → ∀ w', cz_okw w' (cz_st l i c) (cz_st h i c) → post 1 (a1, a2, w')) (H0 : ¬ (l i ≤ c ∧ c ≤ h i) → ∀ w', post 0 (a1, a2, w')) : wpX_fix post (a1, a2, w) (nI i) (nI c) := by
  unfold wpX_fix
  dsimp only
  have bi := hb.2.2 i (by omega)
  refine cz_narA h1 h3 hb hc ok (fun g w' ok' => br_f cz_10 ?_) (fun g => br_t rfl (H0 (fun t => absurd t.1 (by omega)) w))
  refine cz_narB (l := l) (h := cz_st h i (min (h i) c)) h1 h3 (cz_box_h hb h1 (by omega) (by omega)) hc ok' (fun g2 w2 ok2 => br_f cz_10 ?_) (fun g2 => br_t rfl (H0 (fun t => ?_) w'))
  · rw [cz_st_s] at g2
    rw [Nat.min_eq_right (by omega), Nat.max_eq_right (by omega)] at ok2
    exact H1 ⟨g, by omega⟩ w2 ok2
  · rw [cz_st_s] at g2
    omega
end
section
/-! spanFor, size -/
theorem cz_span {post : Int32 → Prop} {a1 a2 w : Nat → Int32} {l h : Nat → Nat} {a b : Nat} (hb : cz_box l h) (ok : cz_okw w l h) (ha : l 1 ≤ a) (ha' : a ≤ h 1) (hbb : l 2 ≤ b) (hbb' : b ≤ h 2)
    (H : post (nI (h 3 + 1 - l 3))) : wpX_spanFor post (a1, a2, w) (nI a) (nI b) := by
  have q1 := hb.2.2 1 (by omega)
  have q2 := hb.2.2 2 (by omega)
  have q3 := hb.2.2 3 (by omega)
  have f12 : (w 12).toInt = (h 3 : Int) := (ok 3 0 (by omega) (by omega)).trans (cz_Mi0 hb (by omega))
  have f13 : (w 13).toInt = (h 3 : Int) - l 1 := ok 3 1 (by omega) (by omega)
  have f14 : (w 14).toInt = (h 3 : Int) - l 2 := ok 3 2 (by omega) (by omega)
  have f3 : (w 3).toInt = -(l 3 : Int) := (ok 0 3 (by omega) (by omega)).trans (cz_M0i hb (by omega))
  have f7 : (w 7).toInt = (h 1 : Int) - l 3 := ok 1 3 (by omega) (by omega)
  have f11 : (w 11).toInt = (h 2 : Int) - l 3 := ok 2 3 (by omega) (by omega)
  have ta : (nI a).toInt = (a : Int) := nI_toInt (by omega)
  have tb : (nI b).toInt = (b : Int) := nI_toInt (by omega)
  have g4 : (w 13 + nI a).toInt = (h 3 : Int) - l 1 + a := cz_add f13 ta (by omega) (by omega)
  have g5 : (w 14 + nI b).toInt = (h 3 : Int) - l 2 + b := cz_add f14 tb (by omega) (by omega)
  have g6 : (-(w 3)).toInt = (l 3 : Int) := by rw [cz_neg f3 (by omega)]; omega
  have g7 : (nI a - w 7).toInt = (a : Int) - ((h 1 : Int) - l 3) := cz_sub ta f7 (by omega) (by omega)
  have g8 : (nI b - w 11).toInt = (b : Int) - ((h 2 : Int) - l 3) := cz_sub tb f11 (by omega) (by omega)
  have gr : w 12 - -(w 3) + 1 = nI (h 3 + 1 - l 3) := by
    refine cz_ofT ?_ (by omega)
    rw [cz_add (cz_sub f12 g6 (by omega) (by omega)) cz_t1 (by omega) (by omega)]
    omega
  unfold wpX_spanFor
  dsimp only
  refine nm_e (nm_e (nm_e (br_t ?_ (br_t ?_ (nm_e (nm_e (nm_e (br_t ?_ (br_t ?_ (br_f ?_ ?_))))))))))
  · rw [Int32.le_iff_toInt_le, f12, g4]; omega
  · rw [Int32.le_iff_toInt_le, f12, g5]; omega
  · rw [Int32.le_iff_toInt_le, g7, g6]; omega
  · rw [Int32.le_iff_toInt_le, g8, g6]; omega
  · rw [Int32.lt_iff_toInt_lt, f12, g6]; omega
  · rw [gr]; exact H
theorem cz_sub1 {a c S : Nat} (h : a ≤ c) : (c - a) * S + S = (c + 1 - a) * S := by
  rw [show c + 1 - a = (c - a) + 1 by omega, Nat.succ_mul]
theorem cz_size_in {post : Int32 → St2 → Prop} {J : Int32 → Int32 → (Nat → Int32) → (Nat → Int32) → (Nat → Int32) → Prop} {x1 x3 : Int32} {a1 a2 w : Nat → Int32} {l h : Nat → Nat} {a B : Nat}
    (hb : cz_box l h) (ok : cz_okw w l h) (ha : l 1 ≤ a) (ha' : a ≤ h 1) (H : J (nI (B + (h 2 + 1 - l 2) * (h 3 + 1 - l 3))) (nI (a + 1)) a1 a2 w) :
    ∃ fu, wX_size_85 post J x1 x3 (nI a) (nI (h 2)) a1 a2 w fu (nI B) (nI (l 2)) := by
  have q2 := hb.2.2 2 (by omega)
  obtain ⟨n, hn⟩ := pk_loop (σ := Unit) (fun n b _ => wX_size_85 post J x1 x3 (nI a) (nI (h 2)) a1 a2 w n (nI (B + (b - l 2) * (h 3 + 1 - l 3))) (nI b)) (fun b _ => l 2 ≤ b) (h 2 + 1) (l 2) () (by omega) (Nat.le_refl _)
    (fun n _ _ => pk_lt (h 2) (h 2 + 1) (fun _ => nm_r (nI_1 a) H) (fun g => absurd g (by omega)))
    (fun n b _ hlt hle hw => pk_lt (h 2) b (fun g => absurd g (by omega)) (fun g => cz_span hb ok ha ha' hle g (nm_r (by rw [nI_add, Nat.add_assoc, cz_sub1 hle]) (nm_r (nI_1 b) (hw () (by omega))))))
  refine ⟨n, ?_⟩
  have t : wX_size_85 post J x1 x3 (nI a) (nI (h 2)) a1 a2 w n (nI (B + (l 2 - l 2) * (h 3 + 1 - l 3))) (nI (l 2)) := hn
  rw [Nat.sub_self, Nat.zero_mul, Nat.add_zero] at t
  exact t
theorem cz_size {post : Int32 → St2 → Prop} {a1 a2 a3 : Nat → Int32} {z : Nat} {l h : Nat → Nat} (hz : z < 3) (hb : cz_box l h) (ok : cz_okz a1 z l h) (hn : a2 z = 0)
    (H : ∀ w, post (nI ((h 1 + 1 - l 1) * ((h 2 + 1 - l 2) * (h 3 + 1 - l 3)))) (a1, a2, w)) : wpX_size post (a1, a2, a3) (nI z) := by
  have q1 := hb.2.2 1 (by omega)
  have q2 := hb.2.2 2 (by omega)
  unfold wpX_size
  dsimp only
  have e4 : (16 : Int32) * nI z + 4 = nI (16 * z + 4) := cz_i16 z 4
  have e1 : (16 : Int32) * nI z + 1 = nI (16 * z + 1) := cz_i16 z 1
  have f4 : a1 (16 * z + 4) = nI (h 1) := cz_ofT ((ok 1 0 (by omega) (by omega)).trans (cz_Mi0 hb (by omega))) (by omega)
  have f1 : -(a1 (16 * z + 1)) = nI (l 1) := by
    refine cz_ofT ?_ (by omega)
    rw [cz_neg ((ok 0 1 (by omega) (by omega)).trans (cz_M0i hb (by omega))) (by omega)]
    omega
  refine cz_zone hz (br_f cz_10 ⟨pk_in z 3 hz, br_t (by rw [nI_clamp (by omega)]; exact hn) ⟨pk_in (16 * z + 4) 48 (by omega) e4, nm_r (e' := nI (h 1)) (by rw [pk_cl (16 * z + 4) e4]; exact f4) ⟨pk_in (16 * z + 1) 48 (by omega) e1, nm_r (e' := nI (l 1)) (by rw [pk_cl (16 * z + 1) e1]; exact f1) ?_⟩⟩⟩)
  have key : ∃ n, wX_size_48 post (nI z) (nI (h 1)) n (nI ((l 1 - l 1) * ((h 2 + 1 - l 2) * (h 3 + 1 - l 3)))) (nI (l 1)) a1 a2 a3 := by
    refine pk_loop (fun n a s => wX_size_48 post (nI z) (nI (h 1)) n (nI ((a - l 1) * ((h 2 + 1 - l 2) * (h 3 + 1 - l 3)))) (nI a) a1 a2 s) (fun a _ => l 1 ≤ a) (h 1 + 1) (l 1) a3 (by omega) (Nat.le_refl _)
      (fun n s _ => pk_lt (h 1) (h 1 + 1) (fun _ => H s) (fun g => absurd g (by omega)))
      (fun n a s hlt hle hwk => pk_lt (h 1) a (fun g => absurd g (by omega)) (fun g => cz_takeB hz ok (fun w okw => cz_fix (i := 1) (by omega) (by omega) hb (by omega) okw (fun _ w' ok' => ?_) (fun t => absurd ⟨hle, g⟩ t))))
    have hb' : cz_box (cz_st l 1 a) (cz_st h 1 a) := cz_box_st hb (by omega) (by omega)
    have g8 : w' 8 = nI (h 2) := cz_ofT ((ok' 2 0 (by omega) (by omega)).trans (cz_Mi0 hb' (by omega))) (by omega)
    have g2 : -(w' 2) = nI (l 2) := by
      refine cz_ofT ?_ (by omega)
      have t : (w' 2).toInt = -(l 2 : Int) := (ok' 0 2 (by omega) (by omega)).trans (cz_M0i hb' (by omega))
      rw [cz_neg t (by omega)]
      omega
    refine nm_r g8 (nm_r g2 (cz_size_in (l := cz_st l 1 a) (h := cz_st h 1 a) hb' ok' (Nat.le_refl a) (Nat.le_refl a) ?_))
    have t := hwk w' (show l 1 ≤ a + 1 by omega)
    rw [← cz_sub1 hle] at t
    exact t
  rw [Nat.sub_self, Nat.zero_mul] at key
  exact key
end
section
/-! all, the constructor, set -/
def cz_l0 : Nat → Nat := fun _ => 0
def cz_h0 : Nat → Nat := fun p => if p = 0 then 0 else 12
theorem cz_b0 : cz_box cz_l0 cz_h0 := by
  refine ⟨rfl, rfl, fun p hp => ?_⟩
  unfold cz_l0 cz_h0
  split <;> omega
theorem cz_M00 {p q : Nat} (h : p = q ∨ p = 0) : cz_M cz_l0 cz_h0 p q = 0 := by
  unfold cz_M cz_l0 cz_h0
  split
  · rfl
  · rw [if_pos (by omega)]
    rfl
theorem cz_M12 {p q : Nat} (h : p ≠ q) (h0 : p ≠ 0) : cz_M cz_l0 cz_h0 p q = 12 := by
  unfold cz_M cz_l0 cz_h0
  rw [if_neg h, if_neg h0]
  rfl
theorem cz_all {post : Int32 → St2 → Prop} {a1 a2 a3 : Nat → Int32} {z : Nat} (hz : z < 3)
    (H : ∀ a, cz_okz a z cz_l0 cz_h0 → (∀ m, (m < 16 * z ∨ 16 * z + 16 ≤ m) → a m = a1 m) → post 0 (a, upd a2 z 0, a3)) : wpX_all post (a1, a2, a3) (nI z) := by
  unfold wpX_all
  dsimp only
  refine cz_zone hz (br_f cz_10 ⟨pk_in z 3 hz, nm_r (e' := upd a2 z 0) (by rw [nI_clamp (by omega)]) ?_⟩)
  refine pk_loop (fun n i s => wX_all_18 post (nI z) n (nI i) s (upd a2 z 0) a3)
    (fun i s => (∀ p q, p < 4 → q < 4 → 4 * p + q < i → (s (16 * z + 4 * p + q)).toInt = cz_M cz_l0 cz_h0 p q) ∧ (∀ m, (m < 16 * z ∨ 16 * z + 16 ≤ m) → s m = a1 m)) 16 0 a1 (by omega) ⟨fun p q _ _ g => absurd g (by omega), fun m _ => rfl⟩ ?_ ?_
  · intro n s h
    exact pk_le 16 16 (fun _ => H s (fun p q hp hq => h.1 p q hp hq (by omega)) h.2) (fun g => absurd g (by omega))
  · intro n i s hi h hw
    have key : ∀ r : Int32, r.toInt = cz_M cz_l0 cz_h0 (i / 4) (i % 4) → (vp_in ((16 * nI z) + nI i) 48 ∧ ∀ b : Nat → Int32, b = upd s ((16 * nI z) + nI i).toNatClampNeg r → (∀ x : Int32, x = nI i + 1 → (wX_all_18 post (nI z) n x b (upd a2 z 0) a3))) := by
      intro r hr
      refine ⟨pk_in (16 * z + i) 48 (by omega) (cz_i16 z i), nm_e (nm_r (nI_1 i) (hw _ ?_))⟩
      rw [pk_cl (16 * z + i) (cz_i16 z i)]
      refine ⟨fun p q hp hq g => ?_, fun m hm => ?_⟩
      · by_cases e : 4 * p + q = i
        · rw [show 16 * z + 4 * p + q = 16 * z + i by omega, pk_us, hr, show i / 4 = p by omega, show i % 4 = q by omega]
        · rw [pk_un (by omega)]
          exact h.1 p q hp hq (by omega)
      · rw [pk_un (by omega)]
        exact h.2 m hm
    refine pk_le 16 i (fun g => absurd g (by omega)) (fun _ => ⟨cz_40, cz_40, ?_⟩)
    exact pk_eq (i / 4) (i % 4) (fun e => key 0 (by rw [cz_M00 (Or.inl e)]; rfl)) (fun e => pk_eq (i / 4) 0 (fun e0 => key 0 (by rw [cz_M00 (Or.inr e0)]; rfl)) (fun e0 => key 12 (by rw [cz_M12 e e0]; rfl)) (cz_d4 hi)) (cz_d4 hi) (cz_r4 hi)
theorem cz_init {post : St2 → Prop} {mc ms : Nat} {u : St1} (hmc : 3 ≤ mc) (hms : 67 ≤ ms) (H : ∀ a1 a2 a3, (∀ z, z < 3 → cz_okz a1 z cz_l0 cz_h0) → (∀ z, z < 3 → a2 z = 0) → post (a1, a2, a3)) : wpX_init post mc ms u := by
  refine ⟨by omega, by omega, by omega, by omega, hmc, hms, ?_⟩
  refine pk_loop (σ := St2) (fun n i s => wX_init_29 post mc ms 3 67 n (nI i) s.1 s.2.1 s.2.2) (fun i s => (∀ z, z < i → cz_okz s.1 z cz_l0 cz_h0) ∧ (∀ z, s.2.1 z = 0)) 3 0 ((fun _ => 0), (fun _ => 0), (fun _ => 0)) (by omega) ⟨fun z g => absurd g (by omega), fun z => rfl⟩ ?_ ?_
  · intro n s h
    exact pk_le 3 3 (fun _ => H s.1 s.2.1 s.2.2 h.1 (fun z _ => h.2 z)) (fun g => absurd g (by omega))
  · intro n i s hi h hw
    refine pk_le 3 i (fun g => absurd g (by omega)) (fun _ => cz_all hi (fun a ok fr => nm_r (nI_1 i) (hw (a, upd s.2.1 i 0, s.2.2) ⟨fun z hz => ?_, fun z => ?_⟩)))
    · by_cases e : z = i
      · rw [e]
        exact ok
      · intro p q hp hq
        show (a (16 * z + 4 * p + q)).toInt = _
        rw [fr _ (by omega)]
        exact h.1 z (by omega) p q hp hq
    · show upd s.2.1 i 0 z = 0
      by_cases e : z = i
      · rw [e, pk_us]
      · rw [pk_un e]
        exact h.2 z
theorem cz_set {post : Int32 → St2 → Prop} {a1 a2 a3 : Nat → Int32} {z k v : Nat} {l h : Nat → Nat} (hz : z < 3) (h1 : 1 ≤ k) (h3 : k ≤ 3) (hv : v ≤ 12) (hb : cz_box l h) (ok : cz_okz a1 z l h) (hn : a2 z = 0)
    (H : ∀ a, cz_okz a z (cz_st l k v) (cz_st h k v) → post 1 (a, a2, a3)) : wpX_set post (a1, a2, a3) (nI z) (nI k) (nI v) := by
  unfold wpX_set
  dsimp only
  refine cz_zone hz (br_f cz_10 (cz_clock h1 h3 (br_f cz_10 (br_f (nI_pos (by omega)) (br_t (nI_le (b := 12) hv (by omega)) ?_)))))
  have tv : (nI v).toInt = (v : Int) := nI_toInt (by omega)
  refine pk_loop (fun n j s => wX_set_35 post (nI z) (nI k) (nI v) n (nI j) s a2 a3)
    (fun j s => ∀ p q, p < 4 → q < 4 → (s (16 * z + 4 * p + q)).toInt = if (p = k ∧ q < j) ∨ (q = k ∧ p < j) then cz_M (cz_st l k v) (cz_st h k v) p q else cz_M l h p q) 4 0 a1 (by omega) ?_ ?_ ?_
  · intro p q hp hq
    rw [if_neg (by omega)]
    exact ok p q hp hq
  · intro n s hI
    refine pk_le 4 4 (fun _ => ?_) (fun g => absurd g (by omega))
    refine ⟨pk_in z 3 hz, br_t (by rw [nI_clamp (by omega)]; exact hn) (H s (fun p q hp hq => ?_))⟩
    have t := hI p q hp hq
    by_cases e : p = k ∨ q = k
    · rw [if_pos (by omega)] at t
      exact t
    · rw [if_neg (by omega)] at t
      rw [t]
      unfold cz_M
      rw [cz_st_n (by omega), cz_st_n (by omega)]
  · intro n j s hj hI hw
    refine pk_le 4 j (fun g => absurd g (by omega)) (fun _ => ⟨pk_in z 3 hz, br_t (by rw [nI_clamp (by omega)]; exact hn) ?_⟩)
    refine pk_eq j k (fun e => nm_r (nI_1 j) (hw s (fun p q hp hq => ?_))) (fun e => ?_)
    · have t := hI p q hp hq
      by_cases c1 : p = k ∧ q = k
      · rw [c1.1, c1.2] at t ⊢
        rw [t]
        unfold cz_M
        rw [if_pos rfl, if_pos rfl]
        split <;> split <;> rfl
      · by_cases c2 : (p = k ∧ q < j) ∨ (q = k ∧ p < j)
        · rw [if_pos c2] at t
          rw [if_pos (by omega)]
          exact t
        · rw [if_neg c2] at t
          rw [if_neg (by omega)]
          exact t
    · have bj := hb.2.2 j hj
      have i1 : (16 : Int32) * nI z + nI j = nI (16 * z + 4 * 0 + j) := cz_i16 z j
      have i2 := cz_i3 z k j
      have i3 : (16 : Int32) * nI z + 4 * nI j = nI (16 * z + 4 * j + 0) := cz_i2 z j
      have i4 := cz_i3 z j k
      have f1 : (s (16 * z + 4 * 0 + j)).toInt = -(l j : Int) := by
        rw [hI 0 j (by omega) hj, if_neg (by omega)]
        by_cases g : j = 0
        · rw [g, hb.1]; rfl
        · exact cz_M0i hb (by omega)
      have f2 : (s (16 * z + 4 * j + 0)).toInt = (h j : Int) := by
        rw [hI j 0 hj (by omega), if_neg (by omega)]
        by_cases g : j = 0
        · rw [g, hb.2.1]; rfl
        · exact cz_Mi0 hb (by omega)
      have g1 : (nI v + s (16 * z + 4 * 0 + j)).toInt = (v : Int) + -(l j : Int) := cz_add tv f1 (by omega) (by omega)
      have g2 : (s (16 * z + 4 * j + 0) - nI v).toInt = (h j : Int) - v := cz_sub f2 tv (by omega) (by omega)
      have m1 : cz_M (cz_st l k v) (cz_st h k v) k j = (v : Int) + -(l j : Int) := by
        unfold cz_M
        rw [if_neg (fun t => e t.symm), cz_st_s, cz_st_n e]
        omega
      have m2 : cz_M (cz_st l k v) (cz_st h k v) j k = (h j : Int) - v := by
        unfold cz_M
        rw [if_neg e, cz_st_s, cz_st_n e]
      refine ⟨pk_in (16 * z + 4 * 0 + j) 48 (by omega) i1, pk_in (16 * z + 4 * k + j) 48 (by omega) i2, nm_e ⟨pk_in (16 * z + 4 * j + 0) 48 (by omega) i3, pk_in (16 * z + 4 * j + k) 48 (by omega) i4, nm_e (nm_r (nI_1 j) (hw _ (fun p q hp hq => ?_)))⟩⟩
      rw [pk_cl (16 * z + 4 * 0 + j) i1, pk_cl (16 * z + 4 * k + j) i2, pk_cl (16 * z + 4 * j + 0) i3, pk_cl (16 * z + 4 * j + k) i4]
      rw [pk_un (show 16 * z + 4 * j + 0 ≠ 16 * z + 4 * k + j by omega)]
      by_cases c1 : p = j ∧ q = k
      · rw [c1.1, c1.2, pk_us, if_pos (by omega), g2, m2]
      · rw [pk_un (show 16 * z + 4 * p + q ≠ 16 * z + 4 * j + k by omega)]
        by_cases c2 : p = k ∧ q = j
        · rw [c2.1, c2.2, pk_us, if_pos (by omega), g1, m1]
        · rw [pk_un (show 16 * z + 4 * p + q ≠ 16 * z + 4 * k + j by omega), hI p q hp hq]
          by_cases c3 : (p = k ∧ q < j) ∨ (q = k ∧ p < j)
          · rw [if_pos c3, if_pos (by omega)]
          · rw [if_neg c3, if_neg (by omega)]
end
section
/-! has; the law from its rows 260 and 226 on, in a good zone -/
def cz_C (l h : Nat → Nat) (x y c : Int32) : Prop := ((l 1 : Int) ≤ x.toInt ∧ x.toInt ≤ (h 1 : Int)) ∧ ((l 2 : Int) ≤ y.toInt ∧ y.toInt ≤ (h 2 : Int)) ∧ ((l 3 : Int) ≤ c.toInt ∧ c.toInt ≤ (h 3 : Int))
theorem cz_CN {l h : Nat → Nat} {a b c : Nat} (ha : a ≤ 12) (hb : b ≤ 12) (hc : c ≤ 12) : cz_C l h (nI a) (nI b) (nI c) ↔ (l 1 ≤ a ∧ a ≤ h 1) ∧ (l 2 ≤ b ∧ b ≤ h 2) ∧ (l 3 ≤ c ∧ c ≤ h 3) := by
  unfold cz_C
  rw [nI_toInt (by omega), nI_toInt (by omega), nI_toInt (by omega)]
  omega
theorem cz_of12 {x : Int32} (h0 : ¬ x < 0) (h1 : ¬ 12 < x) : ∃ a : Nat, a ≤ 12 ∧ x = nI a := by
  refine nI_of2 (M := 12) (n := 12) (by rfl) h0 ?_
  rw [Int32.lt_iff_toInt_lt] at h1
  rw [Int32.le_iff_toInt_le]
  omega
theorem cz_neg0 {x : Int32} (h : x < 0) : x.toInt < 0 := by
  rw [Int32.lt_iff_toInt_lt, cz_t0] at h
  exact h
theorem cz_big {x : Int32} (h : 12 < x) : 12 < x.toInt := by
  rw [Int32.lt_iff_toInt_lt, cz_t12] at h
  exact h
theorem cz_has {post : Int32 → St2 → Prop} {a1 a2 a3 : Nat → Int32} {z : Nat} {l h : Nat → Nat} (x y c : Int32) (hz : z < 3) (hb : cz_box l h) (ok : cz_okz a1 z l h) (hn : a2 z = 0)
    (H1 : cz_C l h x y c → ∀ w, post 1 (a1, a2, w)) (H0 : ¬ cz_C l h x y c → ∀ w, post 0 (a1, a2, w)) : wpX_has post (a1, a2, a3) (nI z) x y c := by
  have q1 := hb.2.2 1 (by omega)
  have q2 := hb.2.2 2 (by omega)
  have q3 := hb.2.2 3 (by omega)
  unfold wpX_has
  dsimp only
  refine cz_zone hz (br_f cz_10 ?_)
  have out : ¬ cz_C l h x y c → wX_has_45 post (nI z) x y c a1 a2 a3 := fun hC => ⟨pk_in z 3 hz, br_t (by rw [nI_clamp (by omega)]; exact hn) (br_t rfl (H0 hC a3))⟩
  refine br_c (fun g => out (fun hC => ?_)) (fun gx0 => br_c (fun g => out (fun hC => ?_)) (fun gx1 => br_c (fun g => out (fun hC => ?_)) (fun gy0 => br_c (fun g => out (fun hC => ?_)) (fun gy1 => br_c (fun g => out (fun hC => ?_)) (fun gc0 => br_c (fun g => out (fun hC => ?_)) (fun gc1 => ?_))))))
  · have t := cz_neg0 g
    have t2 := hC.1.1
    omega
  · have t := cz_big g
    have t2 := hC.1.2
    omega
  · have t := cz_neg0 g
    have t2 := hC.2.1.1
    omega
  · have t := cz_big g
    have t2 := hC.2.1.2
    omega
  · have t := cz_neg0 g
    have t2 := hC.2.2.1
    omega
  · have t := cz_big g
    have t2 := hC.2.2.2
    omega
  · clear out
    obtain ⟨a, ha, rfl⟩ := cz_of12 gx0 gx1
    obtain ⟨b, hbb, rfl⟩ := cz_of12 gy0 gy1
    obtain ⟨d, hd, rfl⟩ := cz_of12 gc0 gc1
    rw [cz_CN ha hbb hd] at H1 H0
    refine ⟨pk_in z 3 hz, br_t (by rw [nI_clamp (by omega)]; exact hn) (br_f cz_10 (cz_takeB hz ok (fun w okw => ?_)))⟩
    have B1 : cz_box (cz_st l 1 a) (cz_st h 1 a) := cz_box_st hb (by omega) ha
    have B2 : cz_box (cz_st (cz_st l 1 a) 2 b) (cz_st (cz_st h 1 a) 2 b) := cz_box_st B1 (by omega) hbb
    refine cz_fix (i := 1) (by omega) (by omega) hb ha okw (fun c1 w1 ok1 => br_f cz_10 ?_) (fun c1 w1 => br_t rfl (br_t rfl (br_t rfl (H0 (fun t => c1 t.1) w1))))
    refine cz_fix (i := 2) (l := cz_st l 1 a) (h := cz_st h 1 a) (by omega) (by omega) B1 hbb ok1 (fun c2 w2 ok2 => br_f cz_10 (br_f cz_10 ?_)) (fun c2 w2 => br_t rfl (br_t rfl (br_t rfl (H0 (fun t => c2 t.2.1) w2))))
    exact cz_fix (i := 3) (l := cz_st (cz_st l 1 a) 2 b) (h := cz_st (cz_st h 1 a) 2 b) (by omega) (by omega) B2 hd ok2 (fun c3 w3 ok3 => br_f cz_10 (br_f cz_10 (H1 ⟨c1, c2, c3⟩ w3))) (fun c3 w3 => br_t rfl (br_t rfl (H0 (fun t => c3 t.2.2) w3)))
theorem cz_pair {P : Int32 → Prop} {u : St0} {k : Nat} (h1 : 1 ≤ k) (h3 : k ≤ 3) (H : P 1) : wpX_isPair P u 0 (nI k) :=
  br_f (by decide) (br_f (by decide) (br_f (nI_pos (by omega)) (br_f (nI_nlt (a := 3) (b := k) (by omega) (by omega)) (br_f (fun t => nI_ne0 (show 0 < k by omega) (by omega) t.symm) H))))
theorem cz_pbad {P : Int32 → Prop} {u : St0} {x : Int32} (hx : x < 1 ∨ 3 < x) (H : P 0) : wpX_isPair P u 0 x := by
  refine br_f (by decide) (br_f (by decide) (br_c (fun _ => H) (fun g0 => br_c (fun _ => H) (fun g3 => br_c (fun _ => H) (fun ge => ?_)))))
  rw [Int32.lt_iff_toInt_lt, cz_t0] at g0
  rw [Int32.lt_iff_toInt_lt, Int32.lt_iff_toInt_lt, cz_t1, cz_t3] at hx
  rw [Int32.lt_iff_toInt_lt, cz_t3] at g3
  rw [← Int32.toInt_inj, cz_t0] at ge
  omega
/-- what the law's numbers of clock, value and 'done' are, against the box -/
def cz_Q (l : Nat → Nat) (x1 x2 x7 x8 : Int32) : Prop := (x7 = 0 ∧ (x1 < 1 ∨ 3 < x1)) ∨ (x7 = 1 ∧ ∃ k : Nat, 1 ≤ k ∧ k ≤ 3 ∧ x1 = nI k ∧ ((x8 = 0 ∧ l k = 0) ∨ (x8 = 1 ∧ x2 = nI (l k))))
theorem cz_309 {post : Int32 → St0 → Prop} {mc ms kc ks z : Nat} {r : Int32} {a1 a2 a3 : Nat → Int32} (hz : z < 3) (hn : a2 z = 0) (hp : post 1 ()) : wL_lawOf_309 post mc ms (nI z) 1 r r kc ks a1 a2 a3 := by
  refine br_t rfl ?_
  unfold wpX_empty
  dsimp only
  exact cz_zone hz (br_f cz_10 ⟨pk_in z 3 hz, br_t (by rw [nI_clamp (by omega)]; exact hn) (br_f cz_10 (br_t rfl hp))⟩)
theorem cz_260 {post : Int32 → St0 → Prop} {mc ms kc ks z : Nat} {x1 x2 x7 x8 r : Int32} {a1 a2 a3 : Nat → Int32} {l h : Nat → Nat} (hz : z < 3) (hb : cz_box l h) (ok : cz_okz a1 z l h) (hn : a2 z = 0) (hp : post 1 ()) (hQ : cz_Q l x1 x2 x7 x8) :
    wL_lawOf_260 post mc ms (nI z) x1 x2 1 x7 x8 r r kc ks a1 a2 a3 := by
  refine br_t rfl ?_
  unfold wpX_widest
  dsimp only
  refine cz_zone hz (br_f cz_10 ?_)
  rcases hQ with ⟨e7, hx⟩ | ⟨e7, k, h1, h3, e1, hQ⟩
  · exact cz_pbad hx (br_t rfl (br_f cz_10 (br_t e7 (cz_309 hz hn hp))))
  · subst e1
    have bk := hb.2.2 k (by omega)
    have i1 : (16 : Int32) * nI z + 4 * 0 + nI k = nI (16 * z + 4 * 0 + k) := cz_i3 z 0 k
    have f1 : a1 (16 * z + 4 * 0 + k) = -nI (l k) := by
      apply Int32.toInt_inj.mp
      rw [ok 0 k (by omega) (by omega), cz_M0i hb h1, cz_neg (nI_toInt (by omega)) (by omega)]
    refine cz_pair h1 h3 (br_f cz_10 ⟨pk_in z 3 hz, br_t (by rw [nI_clamp (by omega)]; exact hn) ⟨pk_in (16 * z + 4 * 0 + k) 48 (by omega) i1, ?_⟩⟩)
    rw [pk_cl (16 * z + 4 * 0 + k) i1, f1]
    refine br_f cz_10 (br_f (by rw [e7]; exact cz_10) ?_)
    rcases hQ with ⟨e8, e⟩ | ⟨e8, e⟩
    · refine br_t e8 ?_
      rw [e]
      exact cz_309 hz hn hp
    · refine br_f (by rw [e8]; exact cz_10) ?_
      rw [e]
      exact cz_309 hz hn hp
theorem cz_226 {post : Int32 → St0 → Prop} {mc ms kc ks z : Nat} {x1 x2 x3 x4 x5 x7 x8 x13 : Int32} {a1 a2 a3 : Nat → Int32} {l h : Nat → Nat} (hz : z < 3) (hb : cz_box l h) (ok : cz_okz a1 z l h) (hn : a2 z = 0) (hp : post 1 ()) (hQ : cz_Q l x1 x2 x7 x8)
    (hh : (x13 = 0 ∧ ¬ cz_C l h x3 x4 x5) ∨ (x13 = 1 ∧ cz_C l h x3 x4 x5)) : wL_lawOf_226 post mc ms (nI z) x1 x2 x3 x4 x5 1 x7 x8 x13 kc ks a1 a2 a3 := by
  unfold wL_lawOf_226
  refine cz_has x3 x4 x5 hz hb ok hn (fun hC w => br_f cz_10 ?_) (fun hC w => br_f cz_10 ?_)
  · rcases hh with ⟨e, t⟩ | ⟨e, t⟩
    · exact absurd hC t
    · exact br_f (by rw [e]; exact cz_10) (cz_260 hz hb ok hn hp hQ)
  · rcases hh with ⟨e, t⟩ | ⟨e, t⟩
    · exact br_t e (cz_260 hz hb ok hn hp hQ)
    · exact absurd t hC
/-- the three readings lie in 0..12 -/
def cz_D (x y c : Int32) : Prop := (0 ≤ x.toInt ∧ x.toInt ≤ 12) ∧ (0 ≤ y.toInt ∧ y.toInt ≤ 12) ∧ (0 ≤ c.toInt ∧ c.toInt ≤ 12)
theorem cz_in {P : Int32 → Prop} {u : St0} {x : Int32} (H1 : 0 ≤ x.toInt ∧ x.toInt ≤ 12 → P 1) (H0 : ¬ (0 ≤ x.toInt ∧ x.toInt ≤ 12) → P 0) : wpL_in P u x 0 12 := by
  refine br_c (fun g => H0 ?_) (fun g => br_c (fun g2 => H0 ?_) (fun g2 => H1 ?_))
  · have t := cz_neg0 g
    omega
  · have t := cz_big g2
    omega
  · rw [Int32.lt_iff_toInt_lt, cz_t0] at g
    rw [Int32.lt_iff_toInt_lt, cz_t12] at g2
    omega
theorem cz_136 {post : Int32 → St0 → Prop} {mc ms kc ks : Nat} {x0 x1 x2 x3 x4 x5 x6 x7 x8 r : Int32} {a1 a2 a3 : Nat → Int32}
    (K : ∀ y, (y = 0 ∧ ¬ cz_D x3 x4 x5) ∨ (y = 1 ∧ cz_D x3 x4 x5) → wL_lawOf_178 post mc ms x0 x1 x2 x3 x4 x5 x6 x7 x8 y kc ks a1 a2 a3) : wL_lawOf_136 post mc ms x0 x1 x2 x3 x4 x5 x6 x7 x8 r r kc ks a1 a2 a3 :=
  br_t rfl (cz_in (fun d1 => br_f cz_10 (cz_in (fun d2 => br_f cz_10 (cz_in (fun d3 => br_f cz_10 (K 1 (Or.inr ⟨rfl, d1, d2, d3⟩))) (fun d3 => br_t rfl (K 0 (Or.inl ⟨rfl, fun t => d3 t.2.2⟩))))) (fun d2 => br_t rfl (K 0 (Or.inl ⟨rfl, fun t => d2 t.2.1⟩))))) (fun d1 => br_t rfl (K 0 (Or.inl ⟨rfl, fun t => d1 t.1⟩))))
end
section
/-! the law -/
theorem cz_inA {P : Int32 → Prop} {u : St0} {x lo hi : Int32} (H0 : P 0) (H1 : P 1) : wpL_in P u x lo hi :=
  br_c (fun _ => H0) (fun _ => br_c (fun _ => H0) (fun _ => H1))
/-- no zone: every call answers its error -/
theorem cz_bad {post : Int32 → St0 → Prop} {mc ms kc ks : Nat} {x0 x1 x2 x3 x4 x5 x7 : Int32} {a1 a2 a3 : Nat → Int32} (hx : x0 < 0 ∨ 2 < x0) (hp : post 1 ()) : wL_lawOf_82 post mc ms x0 x1 x2 x3 x4 x5 0 x7 0 (-1) kc ks a1 a2 a3 := by
  unfold wL_lawOf_82 wpX_set
  dsimp only
  refine cz_zbad hx (br_t rfl (br_t rfl ?_))
  unfold wpX_size
  dsimp only
  refine cz_zbad hx (br_t rfl (br_t rfl ?_))
  refine cz_136 (fun y _ => br_t rfl ?_)
  unfold wL_lawOf_226 wpX_has
  dsimp only
  refine cz_zbad hx (br_t rfl (br_t rfl (br_t rfl ?_)))
  unfold wpX_widest
  dsimp only
  refine cz_zbad hx (br_t rfl (br_t rfl (br_t rfl ?_)))
  unfold wpX_empty
  dsimp only
  exact cz_zbad hx (br_t rfl (br_t rfl (br_t rfl hp)))
theorem cz_C0 {x y c : Int32} : cz_C cz_l0 cz_h0 x y c ↔ cz_D x y c := Iff.rfl
/-- a zone, nothing set: from the size on -/
theorem cz_same {post : Int32 → St0 → Prop} {mc ms kc ks z : Nat} {x1 x2 x3 x4 x5 x7 : Int32} {a1 a2 a3 : Nat → Int32} (hz : z < 3) (ok : cz_okz a1 z cz_l0 cz_h0) (hn : a2 z = 0) (hp : post 1 ()) (hQ : cz_Q cz_l0 x1 x2 x7 0) :
    wL_lawOf_136 post mc ms (nI z) x1 x2 x3 x4 x5 1 x7 0 2197 2197 kc ks a1 a2 a3 :=
  cz_136 (fun y hy => br_t rfl (cz_226 hz cz_b0 ok hn hp hQ hy))
theorem cz_82s {post : Int32 → St0 → Prop} {mc ms kc ks z : Nat} {x1 x2 x3 x4 x5 x7 : Int32} {a1 a2 a3 : Nat → Int32} (hz : z < 3) (ok : cz_okz a1 z cz_l0 cz_h0) (hn : a2 z = 0) (hp : post 1 ()) (hQ : cz_Q cz_l0 x1 x2 x7 0) (r : Int32)
    (hr : ∀ P : Int32 → St2 → Prop, P r (a1, a2, a3) → wpX_set P (a1, a2, a3) (nI z) x1 x2) : wL_lawOf_82 post mc ms (nI z) x1 x2 x3 x4 x5 1 x7 0 r kc ks a1 a2 a3 := by
  unfold wL_lawOf_82
  exact hr _ (br_t rfl (cz_size hz cz_b0 ok hn (fun w => br_f cz_10 (br_t rfl (cz_same hz ok hn hp hQ)))))
theorem cz_set2 {P : Int32 → St2 → Prop} {a1 a2 a3 : Nat → Int32} {z : Nat} {x1 x2 : Int32} (hz : z < 3) (hx : x1 < 1 ∨ 3 < x1) (H : P (-2) (a1, a2, a3)) : wpX_set P (a1, a2, a3) (nI z) x1 x2 := by
  unfold wpX_set
  dsimp only
  exact cz_zone hz (br_f cz_10 (cz_cbad hx (br_t rfl H)))
theorem cz_set3 {P : Int32 → St2 → Prop} {a1 a2 a3 : Nat → Int32} {z k : Nat} {x2 : Int32} (hz : z < 3) (h1 : 1 ≤ k) (h3 : k ≤ 3) (hx : x2 < 0 ∨ 12 < x2) (H : P (-3) (a1, a2, a3)) : wpX_set P (a1, a2, a3) (nI z) (nI k) x2 := by
  unfold wpX_set
  dsimp only
  refine cz_zone hz (br_f cz_10 (cz_clock h1 h3 (br_f cz_10 (br_c (fun _ => H) (fun g => br_f (fun t => ?_) H)))))
  have g2 := hx.resolve_left g
  rw [Int32.lt_iff_toInt_lt] at g2
  rw [Int32.le_iff_toInt_le] at t
  omega
theorem cz_wid {k v : Nat} (h1 : 1 ≤ k) (h3 : k ≤ 3) : (cz_st cz_h0 k v 1 + 1 - cz_st cz_l0 k v 1) * ((cz_st cz_h0 k v 2 + 1 - cz_st cz_l0 k v 2) * (cz_st cz_h0 k v 3 + 1 - cz_st cz_l0 k v 3)) = 169 := by
  have e : v + 1 - v = 1 := by omega
  rcases cz_123 h1 h3 with rfl | rfl | rfl
  · show (v + 1 - v) * ((12 + 1 - 0) * (12 + 1 - 0)) = 169
    rw [e]
  · show (12 + 1 - 0) * ((v + 1 - v) * (12 + 1 - 0)) = 169
    rw [e]
  · show (12 + 1 - 0) * ((12 + 1 - 0) * (v + 1 - v)) = 169
    rw [e]
/-- a zone, a clock set -/
theorem cz_206 {post : Int32 → St0 → Prop} {mc ms kc ks z : Nat} {x1 x2 x3 x4 x5 x7 x8 y t : Int32} {a1 a2 a3 : Nat → Int32} {l h : Nat → Nat} (hz : z < 3) (hb : cz_box l h) (ok : cz_okz a1 z l h) (hn : a2 z = 0) (hp : post 1 ()) (hQ : cz_Q l x1 x2 x7 x8)
    (hy : (y = 0 ∧ ¬ cz_D x3 x4 x5) ∨ (y = 1 ∧ cz_D x3 x4 x5)) (hC : cz_C l h x3 x4 x5 ↔ cz_D x3 x4 x5 ∧ t = x2) : wL_lawOf_206 post mc ms (nI z) x1 x2 x3 x4 x5 1 x7 x8 y t kc ks a1 a2 a3 := by
  have no : ¬ cz_C l h x3 x4 x5 → wL_lawOf_223 post mc ms (nI z) x1 x2 x3 x4 x5 1 x7 x8 kc ks a1 a2 a3 := fun g => cz_226 hz hb ok hn hp hQ (Or.inl ⟨rfl, g⟩)
  rcases hy with ⟨e, d⟩ | ⟨e, d⟩
  · exact br_t e (no (fun g => d (hC.mp g).1))
  · exact br_f (by rw [e]; exact cz_10) (br_c (fun g => cz_226 hz hb ok hn hp hQ (Or.inr ⟨rfl, hC.mpr ⟨d, g⟩⟩)) (fun g => no (fun q => g (hC.mp q).2)))
theorem cz_eqv {x : Int32} {v : Nat} (hv : v ≤ 12) : x = nI v ↔ x.toInt = (v : Int) := by
  rw [← Int32.toInt_inj, nI_toInt (by omega)]
theorem cz_82d {post : Int32 → St0 → Prop} {mc ms kc ks z k v : Nat} {x3 x4 x5 : Int32} {a1 a2 a3 : Nat → Int32} (hz : z < 3) (ok : cz_okz a1 z cz_l0 cz_h0) (hn : a2 z = 0) (hp : post 1 ()) (h1 : 1 ≤ k) (h3 : k ≤ 3) (hv : v ≤ 12) :
    wL_lawOf_82 post mc ms (nI z) (nI k) (nI v) x3 x4 x5 1 1 1 1 kc ks a1 a2 a3 := by
  unfold wL_lawOf_82
  refine cz_set hz h1 h3 hv cz_b0 ok hn (fun a oka => br_t rfl ?_)
  have hb : cz_box (cz_st cz_l0 k v) (cz_st cz_h0 k v) := cz_box_st cz_b0 h1 hv
  have hQ : cz_Q (cz_st cz_l0 k v) (nI k) (nI v) 1 1 := Or.inr ⟨rfl, k, h1, h3, rfl, Or.inr ⟨rfl, by rw [cz_st_s]⟩⟩
  refine cz_size hz hb oka hn (fun w => br_f cz_10 (br_f cz_10 ?_))
  rw [cz_wid h1 h3]
  refine cz_136 (fun y hy => br_f cz_10 ?_)
  rcases cz_123 h1 h3 with rfl | rfl | rfl
  · refine br_t rfl (cz_206 hz hb oka hn hp hQ hy ?_)
    rw [cz_eqv hv]
    show (((v : Int) ≤ x3.toInt ∧ x3.toInt ≤ (v : Int)) ∧ (0 ≤ x4.toInt ∧ x4.toInt ≤ 12) ∧ (0 ≤ x5.toInt ∧ x5.toInt ≤ 12)) ↔ ((0 ≤ x3.toInt ∧ x3.toInt ≤ 12) ∧ (0 ≤ x4.toInt ∧ x4.toInt ≤ 12) ∧ (0 ≤ x5.toInt ∧ x5.toInt ≤ 12)) ∧ x3.toInt = (v : Int)
    omega
  · refine br_f (by decide) (br_t rfl (cz_206 hz hb oka hn hp hQ hy ?_))
    rw [cz_eqv hv]
    show ((0 ≤ x3.toInt ∧ x3.toInt ≤ 12) ∧ ((v : Int) ≤ x4.toInt ∧ x4.toInt ≤ (v : Int)) ∧ (0 ≤ x5.toInt ∧ x5.toInt ≤ 12)) ↔ ((0 ≤ x3.toInt ∧ x3.toInt ≤ 12) ∧ (0 ≤ x4.toInt ∧ x4.toInt ≤ 12) ∧ (0 ≤ x5.toInt ∧ x5.toInt ≤ 12)) ∧ x4.toInt = (v : Int)
    omega
  · refine br_f (by decide) (br_f (by decide) (cz_206 hz hb oka hn hp hQ hy ?_))
    rw [cz_eqv hv]
    show ((0 ≤ x3.toInt ∧ x3.toInt ≤ 12) ∧ (0 ≤ x4.toInt ∧ x4.toInt ≤ 12) ∧ ((v : Int) ≤ x5.toInt ∧ x5.toInt ≤ (v : Int))) ↔ ((0 ≤ x3.toInt ∧ x3.toInt ≤ 12) ∧ (0 ≤ x4.toInt ∧ x4.toInt ≤ 12) ∧ (0 ≤ x5.toInt ∧ x5.toInt ≤ 12)) ∧ x5.toInt = (v : Int)
    omega
/-- the constructor, then the rest by the law's three flags -/
theorem cz_41 {post : Int32 → St0 → Prop} {x0 x1 x2 x3 x4 x5 x6 x7 x8 r : Int32}
    (hr : (x6 = 0 ∧ r = -1) ∨ (x6 = 1 ∧ x7 = 0 ∧ r = -2) ∨ (x6 = 1 ∧ x7 = 1 ∧ x8 = 0 ∧ r = -3) ∨ (x6 = 1 ∧ x7 = 1 ∧ x8 = 1 ∧ r = 1))
    (H : ∀ kc ks a1 a2 a3, (∀ z, z < 3 → cz_okz a1 z cz_l0 cz_h0) → (∀ z, z < 3 → a2 z = 0) → wL_lawOf_82 post 42 672 x0 x1 x2 x3 x4 x5 x6 x7 x8 r kc ks a1 a2 a3) : wL_lawOf_41 post 42 672 x0 x1 x2 x3 x4 x5 x6 x7 x8 0 0 := by
  refine ⟨by omega, by omega, 3, 67, by omega, by omega, cz_init (by omega) (by omega) (fun a1 a2 a3 ok hn => ?_)⟩
  rcases hr with ⟨rfl, rfl⟩ | ⟨rfl, rfl, rfl⟩ | ⟨rfl, rfl, rfl, rfl⟩ | ⟨rfl, rfl, rfl, rfl⟩
  · exact br_t rfl (H _ _ a1 a2 a3 ok hn)
  · exact br_f cz_10 (br_t rfl (H _ _ a1 a2 a3 ok hn))
  · exact br_f cz_10 (br_f cz_10 (br_t rfl (H _ _ a1 a2 a3 ok hn)))
  · exact br_f cz_10 (br_f cz_10 (br_f cz_10 (H _ _ a1 a2 a3 ok hn)))
theorem cz_inR {P : Int32 → Prop} {u : St0} {x lo hi : Int32} (H1 : ¬ x < lo → ¬ hi < x → P 1) (H0 : x < lo ∨ hi < x → P 0) : wpL_in P u x lo hi :=
  br_c (fun g => H0 (Or.inl g)) (fun g => br_c (fun g2 => H0 (Or.inr g2)) (fun g2 => H1 g g2))
theorem cz_of {x M : Int32} {n : Nat} (hM : M.toInt = n) (h0 : ¬ x < 0) (h1 : ¬ M < x) : ∃ a : Nat, a ≤ n ∧ x = nI a := by
  refine nI_of2 hM h0 ?_
  rw [Int32.lt_iff_toInt_lt] at h1
  rw [Int32.le_iff_toInt_le]
  omega
theorem cz_ofk {x : Int32} (h0 : ¬ x < 1) (h1 : ¬ 3 < x) : ∃ a : Nat, 1 ≤ a ∧ a ≤ 3 ∧ x = nI a := by
  have g : ¬ x < 0 := by
    intro t
    rw [Int32.lt_iff_toInt_lt, cz_t1] at h0
    have t2 := cz_neg0 t
    omega
  obtain ⟨a, ha, rfl⟩ := cz_of (n := 3) cz_t3 g h1
  refine ⟨a, ?_, ha, rfl⟩
  rw [Int32.lt_iff_toInt_lt, cz_t1, nI_toInt (by omega)] at h0
  omega
theorem cz_lawOf {post : Int32 → St0 → Prop} {u : St0} (z k v a b c : Int32) (hp : post 1 ()) : wpL_lawOf post 42 672 u z k v a b c := by
  refine cz_inR (fun z0 z2 => ?_) (fun hz => ?_)
  · obtain ⟨zz, hz, rfl⟩ := cz_of (n := 2) cz_t2 z0 z2
    have hz' : zz < 3 := by omega
    refine cz_inR (fun k1 k3 => br_f cz_10 (br_f cz_10 ?_)) (fun hk => br_f cz_10 (br_t rfl ?_))
    · obtain ⟨kk, h1, h3, rfl⟩ := cz_ofk k1 k3
      refine cz_inR (fun v0 v12 => br_f cz_10 ?_) (fun hv => br_t rfl ?_)
      · obtain ⟨vv, hv, rfl⟩ := cz_of (n := 12) cz_t12 v0 v12
        exact cz_41 (r := 1) (Or.inr (Or.inr (Or.inr ⟨rfl, rfl, rfl, rfl⟩))) (fun kc ks a1 a2 a3 ok hn => cz_82d hz' (ok zz hz') (hn zz hz') hp h1 h3 hv)
      · exact cz_41 (r := -3) (Or.inr (Or.inr (Or.inl ⟨rfl, rfl, rfl, rfl⟩))) (fun kc ks a1 a2 a3 ok hn => cz_82s hz' (ok zz hz') (hn zz hz') hp (Or.inr ⟨rfl, kk, h1, h3, rfl, Or.inl ⟨rfl, rfl⟩⟩) (-3) (fun P h => cz_set3 hz' h1 h3 hv h))
    · exact cz_41 (r := -2) (Or.inr (Or.inl ⟨rfl, rfl, rfl⟩)) (fun kc ks a1 a2 a3 ok hn => cz_82s hz' (ok zz hz') (hn zz hz') hp (Or.inl ⟨rfl, hk⟩) (-2) (fun P h => cz_set2 hz' hk h))
  · exact cz_inA (br_t rfl (cz_41 (r := -1) (Or.inl ⟨rfl, rfl⟩) (fun kc ks a1 a2 a3 ok hn => cz_bad hz hp))) (br_t rfl (cz_41 (r := -1) (Or.inl ⟨rfl, rfl⟩) (fun kc ks a1 a2 a3 ok hn => cz_bad hz hp)))
theorem cz_cell {P : Int32 → Prop} {L : Nat} {xs : Nat → Int32} {u : St0} (i : Nat) (hi : i ≤ 6) (hL : L ≤ 6) (H : ∀ r, P r) : wpL_cellAt P L xs u (nI i) :=
  pk_le L i (fun _ => H 0) (fun g => ⟨pk_in i L g, H _⟩)
theorem i_vc (xs : Nat → Int32) (L : Nat) (hL : L ≤ 6) : wpL_law (fun r => r = 1) L xs :=
  cz_cell 0 (by omega) hL (fun r1 => cz_cell 1 (by omega) hL (fun r2 => cz_cell 2 (by omega) hL (fun r3 => cz_cell 3 (by omega) hL (fun r4 => cz_cell 4 (by omega) hL (fun r5 => cz_cell 5 (by omega) hL (fun r6 => ⟨42, 672, by omega, by omega, cz_lawOf r1 r2 r3 r4 r5 r6 rfl⟩))))))
end
