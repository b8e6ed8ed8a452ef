section
/-! counting below a bound, sums, double counting -/
def ic_cn (p : Nat → Bool) : Nat → Nat
  | 0 => 0
  | n + 1 => ic_cn p n + (p n).toNat
theorem ic_cn_s (p : Nat → Bool) (n : Nat) : ic_cn p (n + 1) = ic_cn p n + (p n).toNat := rfl
theorem ic_tn_le (b : Bool) : b.toNat ≤ 1 := by cases b <;> decide
theorem ic_cn_le (p : Nat → Bool) (n : Nat) : ic_cn p n ≤ n := by
  induction n with
  | zero => exact Nat.le_refl 0
  | succ n ih =>
    rw [ic_cn_s]
    have := ic_tn_le (p n)
    omega
theorem ic_cn_congr {p q : Nat → Bool} {n : Nat} (h : ∀ k, k < n → p k = q k) : ic_cn p n = ic_cn q n := by
  induction n with
  | zero => rfl
  | succ n ih => rw [ic_cn_s, ic_cn_s, ih (fun k hk => h k (by omega)), h n (by omega)]
theorem ic_cn_upd {p q : Nat → Bool} {n a : Nat} (ha : a < n) (h : ∀ k, k < n → k ≠ a → p k = q k) : ic_cn p n + (q a).toNat = ic_cn q n + (p a).toNat := by
  induction n with
  | zero => omega
  | succ n ih =>
    rw [ic_cn_s, ic_cn_s]
    by_cases e : a = n
    · subst e
      rw [ic_cn_congr (p := p) (q := q) (fun k hk => h k (by omega) (by omega))]
      omega
    · have h1 := ih (by omega) (fun k hk hne => h k (by omega) hne)
      have h2 : p n = q n := h n (by omega) (by omega)
      rw [h2]
      omega
theorem ic_cn_pos {p : Nat → Bool} {n a : Nat} (ha : a < n) (h : p a = true) : 0 < ic_cn p n := by
  induction n with
  | zero => omega
  | succ n ih =>
    rw [ic_cn_s]
    by_cases e : a = n
    · subst e
      rw [h]
      have : true.toNat = 1 := rfl
      omega
    · have := ih (by omega)
      omega
theorem ic_cn_zero {p : Nat → Bool} {n a : Nat} (h0 : ic_cn p n = 0) (ha : a < n) : p a = false := by
  cases h : p a
  · rfl
  · have := ic_cn_pos ha h
    omega
theorem ic_cn_ex {p : Nat → Bool} {n : Nat} (h : 0 < ic_cn p n) : ∃ a, a < n ∧ p a = true := by
  induction n with
  | zero => exact absurd h (Nat.lt_irrefl 0)
  | succ n ih =>
    rw [ic_cn_s] at h
    cases e : p n
    · rw [e] at h
      have h2 : false.toNat = 0 := rfl
      obtain ⟨a, ha, hp⟩ := ih (by omega)
      exact ⟨a, by omega, hp⟩
    · exact ⟨n, by omega, e⟩
theorem ic_cn_one {p : Nat → Bool} {n a b : Nat} (h1 : ic_cn p n = 1) (ha : a < n) (hb : b < n) (pa : p a = true) (pb : p b = true) : a = b := by
  by_cases e : a = b
  · exact e
  · have h : ic_cn p n + (decide (b ≠ b) && p b).toNat = ic_cn (fun k => decide (k ≠ b) && p k) n + (p b).toNat := ic_cn_upd (q := fun k => decide (k ≠ b) && p k) hb (fun k _ hk => by simp [hk])
    rw [pb, h1] at h
    have e1 : (decide (b ≠ b) && true).toNat = 0 := by simp
    have e2 : true.toNat = 1 := rfl
    rw [e1, e2] at h
    have h2 : ic_cn (fun k => decide (k ≠ b) && p k) n = 0 := by omega
    have h3 := ic_cn_zero h2 ha
    simp [e, pa] at h3
theorem ic_cn_mono {p q : Nat → Bool} {n : Nat} (h : ∀ k, k < n → p k = true → q k = true) : ic_cn p n ≤ ic_cn q n := by
  induction n with
  | zero => exact Nat.le_refl 0
  | succ n ih =>
    rw [ic_cn_s, ic_cn_s]
    have h1 := ih (fun k hk => h k (by omega))
    cases e : p n
    · have h2 : false.toNat = 0 := rfl
      omega
    · rw [h n (by omega) e]
      omega
def ic_sm (f : Nat → Nat) : Nat → Nat
  | 0 => 0
  | n + 1 => ic_sm f n + f n
theorem ic_sm_s (f : Nat → Nat) (n : Nat) : ic_sm f (n + 1) = ic_sm f n + f n := rfl
theorem ic_sm_le {f g : Nat → Nat} {n : Nat} (h : ∀ k, k < n → f k ≤ g k) : ic_sm f n ≤ ic_sm g n := by
  induction n with
  | zero => exact Nat.le_refl 0
  | succ n ih =>
    rw [ic_sm_s, ic_sm_s]
    have h1 := ih (fun k hk => h k (by omega))
    have h2 := h n (by omega)
    omega
theorem ic_sm_add (f g : Nat → Nat) (n : Nat) : ic_sm (fun k => f k + g k) n = ic_sm f n + ic_sm g n := by
  induction n with
  | zero => rfl
  | succ n ih =>
    rw [ic_sm_s, ic_sm_s, ic_sm_s, ih]
    omega
theorem ic_sm_c (c n : Nat) : ic_sm (fun _ => c) n = c * n := by
  induction n with
  | zero => rfl
  | succ n ih => rw [ic_sm_s, ih, Nat.mul_succ]
theorem ic_sm_hit (x : Int32) (n : Nat) (hn : n < 2 ^ 31) : ((∀ t, t < n → ¬ x = nI t) ∧ ic_sm (fun t => (x == nI t).toNat) n = 0) ∨ ((∃ t, t < n ∧ x = nI t) ∧ ic_sm (fun t => (x == nI t).toNat) n = 1) := by
  induction n with
  | zero => exact Or.inl ⟨fun t ht => absurd ht (by omega), rfl⟩
  | succ n ih =>
    rw [ic_sm_s]
    rcases ih (by omega) with ⟨h1, h2⟩ | ⟨⟨t, ht, hx⟩, h2⟩
    · by_cases e : x = nI n
      · refine Or.inr ⟨⟨n, by omega, e⟩, ?_⟩
        rw [h2, e, beq_self_eq_true]
        rfl
      · refine Or.inl ⟨fun t ht => ?_, ?_⟩
        · by_cases et : t = n
          · rw [et]
            exact e
          · exact h1 t (by omega)
        · rw [h2, beq_eq_false_iff_ne.mpr e]
          rfl
    · refine Or.inr ⟨⟨t, by omega, hx⟩, ?_⟩
      have ne : ¬ x = nI n := fun z => by
        rw [hx, nI_eq (by omega) (by omega)] at z
        omega
      rw [h2, beq_eq_false_iff_ne.mpr ne]
      rfl
theorem ic_dbl (a : Nat → Bool) (g : Nat → Int32) (n : Nat) (hn : n < 2 ^ 31) (m : Nat) : ic_sm (fun t => ic_cn (fun x => a x && (g x == nI t)) m) n ≤ ic_cn a m := by
  induction m with
  | zero =>
    show ic_sm (fun _ => 0) n ≤ 0
    rw [ic_sm_c]
    omega
  | succ m ih =>
    show ic_sm (fun t => ic_cn (fun x => a x && (g x == nI t)) m + (a m && (g m == nI t)).toNat) n ≤ ic_cn a m + (a m).toNat
    rw [ic_sm_add (fun t => ic_cn (fun x => a x && (g x == nI t)) m) (fun t => (a m && (g m == nI t)).toNat)]
    have key : ic_sm (fun t => (a m && (g m == nI t)).toNat) n ≤ (a m).toNat := by
      cases e : a m
      · show ic_sm (fun _ => 0) n ≤ 0
        rw [ic_sm_c]
        omega
      · show ic_sm (fun t => (g m == nI t).toNat) n ≤ 1
        rcases ic_sm_hit (g m) n hn with ⟨_, h⟩ | ⟨_, h⟩
        · omega
        · omega
    omega
theorem ic_blk (l : Nat → Bool) (n : Nat) : ic_cn (fun x => l (x / 4)) (4 * n) = 4 * ic_cn l n := by
  induction n with
  | zero => rfl
  | succ n ih =>
    rw [Nat.mul_succ, ic_cn_s l n]
    show ic_cn (fun x => l (x / 4)) (4 * n) + (l ((4 * n) / 4)).toNat + (l ((4 * n + 1) / 4)).toNat + (l ((4 * n + 2) / 4)).toNat + (l ((4 * n + 3) / 4)).toNat = 4 * (ic_cn l n + (l n).toNat)
    rw [ih, show (4 * n) / 4 = n by omega, show (4 * n + 1) / 4 = n by omega, show (4 * n + 2) / 4 = n by omega, show (4 * n + 3) / 4 = n by omega]
    omega
theorem ic_cn_sm (f : Nat → Nat) (n : Nat) : ic_cn (fun t => decide (0 < f t)) n ≤ ic_sm f n := by
  induction n with
  | zero => exact Nat.le_refl 0
  | succ n ih =>
    rw [ic_cn_s, ic_sm_s]
    by_cases e : 0 < f n
    · rw [decide_eq_true e]
      have : true.toNat = 1 := rfl
      omega
    · rw [decide_eq_false e]
      have : false.toNat = 0 := rfl
      omega
/-- how many first slots name table t -/
def ic_rf (F : Nat → Int32) (t : Nat) : Nat := ic_cn (fun k => F k == nI t) 32
/-- how many entries that count name place p -/
def ic_rp (lv : Nat → Bool) (G : Nat → Int32) (p : Nat) : Nat := ic_cn (fun x => lv x && (G x == nI p)) 144
/-- entry x lies in a table that some first slot names -/
def ic_lv (F : Nat → Int32) (x : Nat) : Bool := decide (0 < ic_rf F (x / 4))
theorem ic_rf_le (F : Nat → Int32) (t : Nat) : ic_rf F t ≤ 32 := ic_cn_le _ _
theorem ic_rp_le (lv : Nat → Bool) (G : Nat → Int32) (p : Nat) : ic_rp lv G p ≤ 144 := ic_cn_le _ _
theorem ic_rf_sum (F : Nat → Int32) : ic_sm (ic_rf F) 36 ≤ 32 := by
  have h : ic_sm (fun t => ic_cn (fun x => true && (F x == nI t)) 32) 36 ≤ ic_cn (fun _ => true) 32 := ic_dbl (fun _ => true) F 36 (by omega) 32
  have h2 := ic_cn_le (fun _ => true) 32
  have h3 : ic_sm (ic_rf F) 36 = ic_sm (fun t => ic_cn (fun x => true && (F x == nI t)) 32) 36 := rfl
  omega
theorem ic_freeT (F : Nat → Int32) : ∃ t, t < 36 ∧ ic_rf F t = 0 := by
  refine Classical.byContradiction fun h => ?_
  have h1 : ∀ t, t < 36 → 1 ≤ ic_rf F t := fun t ht => Nat.pos_of_ne_zero (fun z => h ⟨t, ht, z⟩)
  have h2 : ic_sm (fun _ => 1) 36 ≤ ic_sm (ic_rf F) 36 := ic_sm_le h1
  rw [ic_sm_c] at h2
  have h3 := ic_rf_sum F
  omega
theorem ic_lv_le (F : Nat → Int32) : ic_cn (ic_lv F) 144 ≤ 128 := by
  have h1 : ic_cn (ic_lv F) 144 = 4 * ic_cn (fun t => decide (0 < ic_rf F t)) 36 := ic_blk (fun t => decide (0 < ic_rf F t)) 36
  have h2 := ic_cn_sm (ic_rf F) 36
  have h3 := ic_rf_sum F
  omega
theorem ic_freeP {lv : Nat → Bool} {G : Nat → Int32} (hl : ic_cn lv 144 < 132) : ∃ p, p < 132 ∧ ic_rp lv G p = 0 := by
  refine Classical.byContradiction fun h => ?_
  have h1 : ∀ p, p < 132 → 1 ≤ ic_rp lv G p := fun p hp => Nat.pos_of_ne_zero (fun z => h ⟨p, hp, z⟩)
  have h2 : ic_sm (fun _ => 1) 132 ≤ ic_sm (ic_rp lv G) 132 := ic_sm_le h1
  rw [ic_sm_c] at h2
  have h3 : ic_sm (ic_rp lv G) 132 ≤ ic_cn lv 144 := ic_dbl lv G 132 (by omega) 144
  omega
end
section
/-! the invariant of the tables, and what keeps it -/
theorem ic_f0 : false.toNat = 0 := rfl
theorem ic_t1 : true.toNat = 1 := rfl
theorem ic_neg {x : Int32} (hx : x < 0) {n : Nat} (h : n < 2 ^ 31) : ¬ x = nI n := by
  intro z
  rw [z] at hx
  exact nI_pos h hx
theorem ic_m1 : (-1 : Int32) < 0 := by decide
theorem ic_m2 : (-2 : Int32) < 0 := by decide
theorem ic_upd_id {F : Nat → Int32} {a : Nat} {y : Int32} (h : F a = y) : upd F a y = F := by
  funext j
  by_cases e : j = a
  · rw [e, pk_us, h]
  · rw [pk_un e]
def ic_VF (F : Nat → Int32) : Prop := ∀ k, k < 32 → F k = -1 ∨ ∃ t, t < 36 ∧ F k = nI t
def ic_vg (e : Int32) : Prop := e = -1 ∨ e = -2 ∨ ∃ p, p < 132 ∧ e = nI p
def ic_VG (G : Nat → Int32) : Prop := ∀ x, x < 144 → ic_vg (G x)
def ic_IT (F T : Nat → Int32) : Prop := ∀ t, t < 36 → T t = nI (ic_rf F t)
def ic_IU (lv : Nat → Bool) (G U : Nat → Int32) : Prop := ∀ p, p < 132 → U p = nI (ic_rp lv G p)
def ic_I (F G T U : Nat → Int32) : Prop := ic_VF F ∧ ic_VG G ∧ ic_IT F T ∧ ic_IU (ic_lv F) G U
theorem ic_rf_upd {F : Nat → Int32} {a : Nat} (y : Int32) (ha : a < 32) (t : Nat) : ic_rf (upd F a y) t + (F a == nI t).toNat = ic_rf F t + (y == nI t).toNat := by
  have h : ic_rf (upd F a y) t + (F a == nI t).toNat = ic_rf F t + (upd F a y a == nI t).toNat := ic_cn_upd (p := fun k => upd F a y k == nI t) (q := fun k => F k == nI t) ha (fun k _ hk => by
    show (upd F a y k == nI t) = (F k == nI t)
    rw [pk_un hk])
  rw [pk_us] at h
  exact h
theorem ic_rf_pos {F : Nat → Int32} {k t : Nat} (hk : k < 32) (h : F k = nI t) : 0 < ic_rf F t := ic_cn_pos hk (by
  show (F k == nI t) = true
  rw [h, beq_self_eq_true])
theorem ic_rf_one {F : Nat → Int32} {a b t : Nat} (h1 : ic_rf F t = 1) (ha : a < 32) (hb : b < 32) (ea : F a = nI t) (eb : F b = nI t) : a = b := by
  refine ic_cn_one h1 ha hb ?_ ?_
  · show (F a == nI t) = true
    rw [ea, beq_self_eq_true]
  · show (F b == nI t) = true
    rw [eb, beq_self_eq_true]
theorem ic_lv_of {F : Nat → Int32} {k t j : Nat} (hk : k < 32) (h : F k = nI t) (hj : j < 4) : ic_lv F (t * 4 + j) = true := by
  show decide (0 < ic_rf F ((t * 4 + j) / 4)) = true
  rw [show (t * 4 + j) / 4 = t by omega]
  exact decide_eq_true (ic_rf_pos hk h)
theorem ic_lv_no {F : Nat → Int32} {t j : Nat} (h : ic_rf F t = 0) (hj : j < 4) : ic_lv F (t * 4 + j) = false := by
  show decide (0 < ic_rf F ((t * 4 + j) / 4)) = false
  rw [show (t * 4 + j) / 4 = t by omega]
  exact decide_eq_false (by omega)
theorem ic_rp_rm {lv : Nat → Bool} {G : Nat → Int32} {x0 : Nat} (hx : x0 < 144) (hl : lv x0 = true) (q : Nat) : ic_rp (fun x => lv x && decide (x ≠ x0)) G q + (G x0 == nI q).toNat = ic_rp lv G q := by
  have h : ic_rp (fun x => lv x && decide (x ≠ x0)) G q + (lv x0 && (G x0 == nI q)).toNat = ic_rp lv G q + ((lv x0 && decide (x0 ≠ x0)) && (G x0 == nI q)).toNat := ic_cn_upd (p := fun x => (lv x && decide (x ≠ x0)) && (G x == nI q)) (q := fun x => lv x && (G x == nI q)) hx (fun k _ hk => by
    show ((lv k && decide (k ≠ x0)) && (G k == nI q)) = (lv k && (G k == nI q))
    rw [decide_eq_true hk, Bool.and_true])
  have e1 : (lv x0 && (G x0 == nI q)) = (G x0 == nI q) := by rw [hl, Bool.true_and]
  have e2 : ((lv x0 && decide (x0 ≠ x0)) && (G x0 == nI q)) = false := by simp
  rw [e1, e2, ic_f0, Nat.add_zero] at h
  exact h
theorem ic_rp_add {lv : Nat → Bool} {G : Nat → Int32} {x0 : Nat} {e : Int32} (hx : x0 < 144) (hl : lv x0 = false) (q : Nat) : ic_rp (fun x => lv x || decide (x = x0)) (upd G x0 e) q = ic_rp lv G q + (e == nI q).toNat := by
  have h : ic_rp (fun x => lv x || decide (x = x0)) (upd G x0 e) q + (lv x0 && (G x0 == nI q)).toNat = ic_rp lv G q + ((lv x0 || decide (x0 = x0)) && (upd G x0 e x0 == nI q)).toNat := ic_cn_upd (p := fun x => (lv x || decide (x = x0)) && (upd G x0 e x == nI q)) (q := fun x => lv x && (G x == nI q)) hx (fun k _ hk => by
    show ((lv k || decide (k = x0)) && (upd G x0 e k == nI q)) = (lv k && (G k == nI q))
    rw [decide_eq_false hk, Bool.or_false, pk_un hk])
  have e1 : (lv x0 && (G x0 == nI q)) = false := by rw [hl, Bool.false_and]
  have e2 : ((lv x0 || decide (x0 = x0)) && (upd G x0 e x0 == nI q)) = (e == nI q) := by
    rw [pk_us]
    simp
  rw [e1, e2, ic_f0, Nat.add_zero] at h
  exact h
theorem ic_rp_c {lv lv' : Nat → Bool} {G : Nat → Int32} {q : Nat} (h : ∀ x, x < 144 → lv x = lv' x) : ic_rp lv G q = ic_rp lv' G q := ic_cn_congr (fun k hk => by
  show (lv k && (G k == nI q)) = (lv' k && (G k == nI q))
  rw [h k hk])
theorem ic_IU_c {lv lv' : Nat → Bool} {G U : Nat → Int32} (h : ∀ x, x < 144 → lv x = lv' x) (hU : ic_IU lv G U) : ic_IU lv' G U := fun p hp => (hU p hp).trans (congrArg nI (ic_rp_c h))
theorem ic_IU_rn {lv : Nat → Bool} {G U : Nat → Int32} {x0 : Nat} (hx : x0 < 144) (hl : lv x0 = true) (hg : G x0 < 0) (hU : ic_IU lv G U) : ic_IU (fun x => lv x && decide (x ≠ x0)) G U := fun p hp => by
  have h := ic_rp_rm (G := G) hx hl p
  rw [beq_eq_false_iff_ne.mpr (ic_neg hg (by omega)), ic_f0, Nat.add_zero] at h
  exact (hU p hp).trans (congrArg nI h.symm)
theorem ic_IU_rp {lv : Nat → Bool} {G U : Nat → Int32} {x0 p0 : Nat} (hx : x0 < 144) (hl : lv x0 = true) (hp0 : p0 < 132) (hg : G x0 = nI p0) (hU : ic_IU lv G U) : ic_IU (fun x => lv x && decide (x ≠ x0)) G (upd U p0 (U p0 - 1)) := fun p hp => by
  have h := ic_rp_rm (G := G) hx hl p
  by_cases e : p = p0
  · rw [e, hg, beq_self_eq_true, ic_t1] at h
    rw [e, pk_us, hU p0 hp0, ← h]
    exact nI_pred _
  · have ne : ¬ G x0 = nI p := by
      rw [hg, nI_eq (by omega) (by omega)]
      omega
    rw [beq_eq_false_iff_ne.mpr ne, ic_f0, Nat.add_zero] at h
    rw [pk_un e]
    exact (hU p hp).trans (congrArg nI h.symm)
theorem ic_IU_an {lv : Nat → Bool} {G U : Nat → Int32} {x0 : Nat} {e : Int32} (hx : x0 < 144) (hl : lv x0 = false) (he : e < 0) (hU : ic_IU lv G U) : ic_IU (fun x => lv x || decide (x = x0)) (upd G x0 e) U := fun p hp => by
  have h := ic_rp_add (G := G) (e := e) hx hl p
  rw [beq_eq_false_iff_ne.mpr (ic_neg he (by omega)), ic_f0, Nat.add_zero] at h
  exact (hU p hp).trans (congrArg nI h.symm)
theorem ic_IU_ap {lv : Nat → Bool} {G U : Nat → Int32} {x0 p0 : Nat} {y : Int32} (hx : x0 < 144) (hl : lv x0 = false) (hp0 : p0 < 132) (hy : y = U p0 + 1) (hU : ic_IU lv G U) : ic_IU (fun x => lv x || decide (x = x0)) (upd G x0 (nI p0)) (upd U p0 y) := fun p hp => by
  have h := ic_rp_add (G := G) (e := nI p0) hx hl p
  by_cases e : p = p0
  · rw [e, beq_self_eq_true, ic_t1] at h
    rw [e, pk_us, hy, hU p0 hp0, h]
    exact nI_1 _
  · have ne : ¬ nI p0 = nI p := by
      rw [nI_eq (by omega) (by omega)]
      omega
    rw [beq_eq_false_iff_ne.mpr ne, ic_f0, Nat.add_zero] at h
    rw [pk_un e]
    exact (hU p hp).trans (congrArg nI h.symm)
theorem ic_ra (lv : Nat → Bool) (x0 : Nat) (h0 : lv x0 = true) (x : Nat) : ((lv x && decide (x ≠ x0)) || decide (x = x0)) = lv x := by
  by_cases e : x = x0
  · rw [e, h0]
    simp
  · simp [e]
def ic_rm (lv : Nat → Bool) (lo hi : Nat) : Nat → Bool := fun x => lv x && !(decide (lo ≤ x) && decide (x < hi))
def ic_ad (lv : Nat → Bool) (lo hi : Nat) : Nat → Bool := fun x => lv x || (decide (lo ≤ x) && decide (x < hi))
theorem ic_rm_s (lv : Nat → Bool) (lo hi x : Nat) (h : lo ≤ hi) : (ic_rm lv lo hi x && decide (x ≠ hi)) = ic_rm lv lo (hi + 1) x := by
  unfold ic_rm
  cases lv x
  · rfl
  · rw [Bool.true_and, Bool.true_and, Bool.eq_iff_iff]
    simp
    omega
theorem ic_ad_s (lv : Nat → Bool) (lo hi x : Nat) (h : lo ≤ hi) : (ic_ad lv lo hi x || decide (x = hi)) = ic_ad lv lo (hi + 1) x := by
  unfold ic_ad
  cases lv x
  · rw [Bool.false_or, Bool.false_or, Bool.eq_iff_iff]
    simp
    omega
  · rfl
theorem ic_rm_0 (lv : Nat → Bool) (lo x : Nat) : lv x = ic_rm lv lo lo x := by
  unfold ic_rm
  cases lv x
  · rfl
  · rw [Bool.true_and, Bool.eq_iff_iff]
    simp
    omega
theorem ic_ad_0 (lv : Nat → Bool) (lo x : Nat) : lv x = ic_ad lv lo lo x := by
  unfold ic_ad
  cases lv x
  · rw [Bool.false_or, Bool.eq_iff_iff]
    simp
  · rfl
theorem ic_rm_out (lv : Nat → Bool) (lo hi x : Nat) (h : hi ≤ x) : ic_rm lv lo hi x = lv x := by
  unfold ic_rm
  rw [decide_eq_false (show ¬ x < hi by omega), Bool.and_false]
  simp
theorem ic_ad_out (lv : Nat → Bool) (lo hi x : Nat) (h : hi ≤ x) : ic_ad lv lo hi x = lv x := by
  unfold ic_ad
  rw [decide_eq_false (show ¬ x < hi by omega), Bool.and_false, Bool.or_false]
/-! what an entry says -/
def ic_vl (V : Nat → Int32) (e : Int32) : Option Int32 := if e = -1 then none else if e < 0 then some 0 else some (V e.toNatClampNeg)
def ic_en (F G : Nat → Int32) (k j : Nat) : Int32 := if F k < 0 then -1 else G ((F k).toNatClampNeg * 4 + j)
theorem ic_en_n {F G : Nat → Int32} {k : Nat} (j : Nat) (h : F k = -1) : ic_en F G k j = -1 := by
  unfold ic_en
  rw [if_pos (by rw [h]; decide)]
theorem ic_en_s {F G : Nat → Int32} {k t : Nat} (j : Nat) (h : F k = nI t) (ht : t < 36) : ic_en F G k j = G (t * 4 + j) := by
  unfold ic_en
  rw [h, if_neg (nI_pos (by omega)), nI_clamp (by omega)]
theorem ic_en_c {F F' G : Nat → Int32} {k k' : Nat} (j : Nat) (h : F' k' = F k) : ic_en F' G k' j = ic_en F G k j := by
  unfold ic_en
  rw [h]
theorem ic_vl_n (V : Nat → Int32) : ic_vl V (-1) = none := by
  unfold ic_vl
  rw [if_pos rfl]
theorem ic_vl_z (V : Nat → Int32) : ic_vl V (-2) = some 0 := by
  unfold ic_vl
  rw [if_neg (by decide), if_pos (by decide)]
theorem ic_vl_p (V : Nat → Int32) {p : Nat} (hp : p < 132) : ic_vl V (nI p) = some (V p) := by
  unfold ic_vl
  rw [if_neg (fun z => ic_neg ic_m1 (show p < 2 ^ 31 by omega) z.symm), if_neg (nI_pos (by omega)), nI_clamp (by omega)]
theorem ic_vl_none {V : Nat → Int32} {e : Int32} (h : ic_vl V e = none) : e = -1 := by
  unfold ic_vl at h
  by_cases h1 : e = -1
  · exact h1
  · rw [if_neg h1] at h
    by_cases h2 : e < 0
    · rw [if_pos h2] at h
      exact absurd h (by simp)
    · rw [if_neg h2] at h
      exact absurd h (by simp)
theorem ic_en_v {F G : Nat → Int32} {k j : Nat} (hF : ic_VF F) (hG : ic_VG G) (hk : k < 32) (hj : j < 4) : ic_vg (ic_en F G k j) := by
  rcases hF k hk with h | ⟨t, ht, h⟩
  · rw [ic_en_n j h]
    exact Or.inl rfl
  · rw [ic_en_s j h ht]
    exact hG _ (by omega)
/-- a place written for one entry alone: the others say what they said -/
theorem ic_st_own {F G T U V : Nat → Int32} {a t j p : Nat} {w : Int32} (hI : ic_I F G T U) (ha : a < 32) (ht : t < 36) (hj : j < 4) (hF : F a = nI t) (h1 : ic_rf F t = 1) (hp : p < 132) (hg : G (t * 4 + j) = nI p) (hu : U p = 1) :
    ∀ k i, k < 32 → i < 4 → ic_vl (upd V p w) (ic_en F G k i) = if k = a ∧ i = j then some w else ic_vl V (ic_en F G k i) := by
  obtain ⟨hVF, hVG, hIT, hIU⟩ := hI
  have hr : ic_rp (ic_lv F) G p = 1 := by
    have h := hIU p hp
    rw [hu] at h
    have h2 := ic_rp_le (ic_lv F) G p
    exact ((nI_eq (a := 1) (by omega) (by omega)).mp h).symm
  intro k i hk hi
  by_cases e : k = a ∧ i = j
  · rw [if_pos e, e.1, e.2, ic_en_s j hF ht, hg, ic_vl_p _ hp, pk_us]
  · rw [if_neg e]
    rcases hVF k hk with h | ⟨s, hs, h⟩
    · rw [ic_en_n i h, ic_vl_n, ic_vl_n]
    · rw [ic_en_s i h hs]
      rcases hVG (s * 4 + i) (by omega) with g | g | ⟨q, hq, g⟩
      · rw [g, ic_vl_n, ic_vl_n]
      · rw [g, ic_vl_z, ic_vl_z]
      · rw [g, ic_vl_p _ hq, ic_vl_p _ hq]
        by_cases eq : q = p
        · have hx : s * 4 + i = t * 4 + j := by
            refine ic_cn_one hr (by omega) (by omega) ?_ ?_
            · show (ic_lv F (s * 4 + i) && (G (s * 4 + i) == nI p)) = true
              rw [ic_lv_of hk h hi, g, eq, beq_self_eq_true]
              rfl
            · show (ic_lv F (t * 4 + j) && (G (t * 4 + j) == nI p)) = true
              rw [ic_lv_of ha hF hj, hg, beq_self_eq_true]
              rfl
          have hst : s = t := by omega
          have hij : i = j := by omega
          rw [hst] at h
          exact absurd ⟨ic_rf_one h1 hk ha h hF, hij⟩ e
        · rw [pk_un eq]
/-- an entry of an own table written: the others are what they were -/
theorem ic_st_en {F G : Nat → Int32} {a t j : Nat} {e : Int32} (hF : ic_VF F) (ha : a < 32) (ht : t < 36) (hj : j < 4) (hFa : F a = nI t) (h1 : ic_rf F t = 1) :
    ∀ k i, k < 32 → i < 4 → ic_en F (upd G (t * 4 + j) e) k i = if k = a ∧ i = j then e else ic_en F G k i := by
  intro k i hk hi
  by_cases c : k = a ∧ i = j
  · rw [if_pos c, c.1, c.2, ic_en_s j hFa ht, pk_us]
  · rw [if_neg c]
    rcases hF k hk with h | ⟨s, hs, h⟩
    · rw [ic_en_n i h, ic_en_n i h]
    · rw [ic_en_s i h hs, ic_en_s i h hs]
      by_cases hx : s * 4 + i = t * 4 + j
      · have hst : s = t := by omega
        have hij : i = j := by omega
        rw [hst] at h
        exact absurd ⟨ic_rf_one h1 hk ha h hFa, hij⟩ c
      · rw [pk_un hx]
/-- a free place written: every entry but that one says what it said -/
theorem ic_st_fr {F G V : Nat → Int32} {a t j p : Nat} {w : Int32} (hVF : ic_VF F) (hVG : ic_VG G) (ha : a < 32) (ht : t < 36) (hj : j < 4) (hFa : F a = nI t) (h1 : ic_rf F t = 1) (hp : p < 132) (h0 : ic_rp (fun x => ic_lv F x && decide (x ≠ t * 4 + j)) G p = 0) :
    ∀ k i, k < 32 → i < 4 → ic_vl (upd V p w) (ic_en F (upd G (t * 4 + j) (nI p)) k i) = if k = a ∧ i = j then some w else ic_vl V (ic_en F G k i) := by
  intro k i hk hi
  rw [ic_st_en hVF ha ht hj hFa h1 k i hk hi]
  by_cases c : k = a ∧ i = j
  · rw [if_pos c, if_pos c, ic_vl_p _ hp, pk_us]
  · rw [if_neg c, if_neg c]
    rcases hVF k hk with h | ⟨s, hs, h⟩
    · rw [ic_en_n i h, ic_vl_n, ic_vl_n]
    · rw [ic_en_s i h hs]
      rcases hVG (s * 4 + i) (by omega) with g | g | ⟨q, hq, g⟩
      · rw [g, ic_vl_n, ic_vl_n]
      · rw [g, ic_vl_z, ic_vl_z]
      · rw [g, ic_vl_p _ hq, ic_vl_p _ hq]
        have hx : s * 4 + i ≠ t * 4 + j := by
          intro hx
          have hst : s = t := by omega
          have hij : i = j := by omega
          rw [hst] at h
          exact c ⟨ic_rf_one h1 hk ha h hFa, hij⟩
        have eq : q ≠ p := by
          intro eq
          have z : ((ic_lv F (s * 4 + i) && decide (s * 4 + i ≠ t * 4 + j)) && (G (s * 4 + i) == nI p)) = false := ic_cn_zero h0 (show s * 4 + i < 144 by omega)
          rw [ic_lv_of hk h hi, g, eq, beq_self_eq_true, decide_eq_true hx] at z
          exact absurd z (by decide)
        rw [pk_un eq]
/-! first slots written -/
theorem ic_I_rel {F G T U T' U' : Nat → Int32} {a t n : Nat} (hI : ic_I F G T U) (ha : a < 32) (ht : t < 36) (hF : F a = nI t) (hn : ic_rf F t = n + 1) (hT : T' = upd T t (nI n)) (hU : ic_IU (fun x => ic_lv F x && (decide (0 < n) || decide (x / 4 ≠ t))) G U') : ic_I (upd F a (-1)) G T' U' := by
  obtain ⟨hVF, hVG, hIT, hIU⟩ := hI
  have hr : ∀ s, s < 36 → ic_rf (upd F a (-1)) s = if s = t then n else ic_rf F s := by
    intro s hs
    have h := ic_rf_upd (F := F) (-1) ha s
    rw [beq_eq_false_iff_ne.mpr (ic_neg ic_m1 (show s < 2 ^ 31 by omega)), ic_f0, Nat.add_zero, hF] at h
    by_cases e : s = t
    · rw [e, beq_self_eq_true, ic_t1] at h
      rw [if_pos e, e]
      omega
    · rw [beq_eq_false_iff_ne.mpr (show ¬ nI t = nI s by rw [nI_eq (by omega) (by omega)]; omega), ic_f0, Nat.add_zero] at h
      rw [if_neg e]
      exact h
  refine ⟨fun k hk => ?_, hVG, fun s hs => ?_, ic_IU_c (fun x hx => ?_) hU⟩
  · by_cases e : k = a
    · rw [e, pk_us]
      exact Or.inl rfl
    · rw [pk_un e]
      exact hVF k hk
  · rw [hr s hs, hT]
    by_cases e : s = t
    · rw [if_pos e, e, pk_us]
    · rw [if_neg e, pk_un e]
      exact hIT s hs
  · show (decide (0 < ic_rf F (x / 4)) && (decide (0 < n) || decide (x / 4 ≠ t))) = decide (0 < ic_rf (upd F a (-1)) (x / 4))
    rw [hr (x / 4) (by omega)]
    by_cases e : x / 4 = t
    · rw [if_pos e, e, hn]
      simp
    · rw [if_neg e, decide_eq_true e]
      simp
theorem ic_I_sh {F G T U : Nat → Int32} {a b t : Nat} (hI : ic_I F G T U) (ha : a < 32) (hb : b < 32) (ht : t < 36) (hF : F a = -1) (hFb : F b = nI t) : ic_I (upd F a (nI t)) G (upd T t (T t + 1)) U := by
  obtain ⟨hVF, hVG, hIT, hIU⟩ := hI
  have hr : ∀ s, s < 36 → ic_rf (upd F a (nI t)) s = if s = t then ic_rf F t + 1 else ic_rf F s := by
    intro s hs
    have h := ic_rf_upd (F := F) (nI t) ha s
    rw [hF, beq_eq_false_iff_ne.mpr (ic_neg ic_m1 (show s < 2 ^ 31 by omega)), ic_f0, Nat.add_zero] at h
    by_cases e : s = t
    · rw [e, beq_self_eq_true, ic_t1] at h
      rw [if_pos e, e]
      exact h
    · rw [beq_eq_false_iff_ne.mpr (show ¬ nI t = nI s by rw [nI_eq (by omega) (by omega)]; omega), ic_f0, Nat.add_zero] at h
      rw [if_neg e]
      exact h
  refine ⟨fun k hk => ?_, hVG, fun s hs => ?_, ic_IU_c (fun x hx => ?_) hIU⟩
  · by_cases e : k = a
    · rw [e, pk_us]
      exact Or.inr ⟨t, ht, rfl⟩
    · rw [pk_un e]
      exact hVF k hk
  · rw [hr s hs]
    by_cases e : s = t
    · rw [if_pos e, e, pk_us, hIT t ht]
      exact nI_1 _
    · rw [if_neg e, pk_un e]
      exact hIT s hs
  · show decide (0 < ic_rf F (x / 4)) = decide (0 < ic_rf (upd F a (nI t)) (x / 4))
    rw [hr (x / 4) (by omega)]
    by_cases e : x / 4 = t
    · have := ic_rf_pos hb hFb
      rw [if_pos e, e, decide_eq_true this, decide_eq_true (by omega)]
    · rw [if_neg e]
theorem ic_I_mv {F G T U : Nat → Int32} {a b : Nat} (hI : ic_I F G T U) (ha : a < 32) (hb : b < 32) (hab : a ≠ b) (hF : F a = -1) : ic_I (upd (upd F a (F b)) b (-1)) G T U := by
  obtain ⟨hVF, hVG, hIT, hIU⟩ := hI
  have hr : ∀ s, s < 36 → ic_rf (upd (upd F a (F b)) b (-1)) s = ic_rf F s := by
    intro s hs
    have h := ic_rf_upd (F := F) (F b) ha s
    have h2 := ic_rf_upd (F := upd F a (F b)) (-1) hb s
    have n1 : ((-1 : Int32) == nI s) = false := beq_eq_false_iff_ne.mpr (ic_neg ic_m1 (show s < 2 ^ 31 by omega))
    rw [hF, n1, ic_f0, Nat.add_zero] at h
    rw [n1, ic_f0, Nat.add_zero, pk_un (Ne.symm hab)] at h2
    omega
  refine ⟨fun k hk => ?_, hVG, fun s hs => ?_, ic_IU_c (fun x hx => ?_) hIU⟩
  · by_cases e : k = b
    · rw [e, pk_us]
      exact Or.inl rfl
    · rw [pk_un e]
      by_cases e2 : k = a
      · rw [e2, pk_us]
        exact hVF b hb
      · rw [pk_un e2]
        exact hVF k hk
  · rw [hr s hs]
    exact hIT s hs
  · show decide (0 < ic_rf F (x / 4)) = decide (0 < ic_rf (upd (upd F a (F b)) b (-1)) (x / 4))
    rw [hr (x / 4) (by omega)]
end
section
/-! a slot gets a new table of its own -/
theorem ic_I_own {F G T U G' T' U' : Nat → Int32} {a m : Nat} (hI : ic_I F G T U) (ha : a < 32) (hm : m < 36) (h0 : ic_rf F m = 0) (hG : ic_VG G')
    (hU : ic_IU (ic_ad (ic_lv F) (m * 4) (m * 4 + 4)) G' U') (hp : ∀ s, s < 36 → F a = nI s → 1 < ic_rf F s)
    (hT : ∀ s, s < 36 → T' s = nI (if s = m then 1 else ic_rf F s - (F a == nI s).toNat)) : ic_I (upd F a (nI m)) G' T' U' := by
  obtain ⟨hVF, hVG, hIT, hIU⟩ := hI
  have ham : ¬ F a = nI m := fun z => by
    have := ic_rf_pos ha z
    omega
  have hr : ∀ s, s < 36 → ic_rf (upd F a (nI m)) s = if s = m then 1 else ic_rf F s - (F a == nI s).toNat := by
    intro s hs
    have h := ic_rf_upd (F := F) (nI m) ha s
    by_cases e : s = m
    · rw [e, beq_self_eq_true, ic_t1, beq_eq_false_iff_ne.mpr ham, ic_f0, Nat.add_zero, h0] at h
      rw [if_pos e, e]
      exact h
    · rw [beq_eq_false_iff_ne.mpr (show ¬ nI m = nI s by rw [nI_eq (by omega) (by omega)]; omega), ic_f0, Nat.add_zero] at h
      rw [if_neg e]
      omega
  refine ⟨fun k hk => ?_, hG, fun s hs => ?_, ic_IU_c (fun x hx => ?_) hU⟩
  · by_cases e : k = a
    · rw [e, pk_us]
      exact Or.inr ⟨m, hm, rfl⟩
    · rw [pk_un e]
      exact hVF k hk
  · rw [hr s hs]
    exact hT s hs
  · show (decide (0 < ic_rf F (x / 4)) || (decide (m * 4 ≤ x) && decide (x < m * 4 + 4))) = decide (0 < ic_rf (upd F a (nI m)) (x / 4))
    rw [hr (x / 4) (by omega)]
    by_cases e : x / 4 = m
    · rw [if_pos e, decide_eq_true (show m * 4 ≤ x by omega), decide_eq_true (show x < m * 4 + 4 by omega)]
      simp
    · have hz : (decide (m * 4 ≤ x) && decide (x < m * 4 + 4)) = false := by
        by_cases c : m * 4 ≤ x
        · rw [decide_eq_false (show ¬ x < m * 4 + 4 by omega), Bool.and_false]
        · rw [decide_eq_false c, Bool.false_and]
      rw [if_neg e, hz, Bool.or_false]
      by_cases c : F a = nI (x / 4)
      · have h1 := hp (x / 4) (by omega) c
        have h2 := ic_tn_le (F a == nI (x / 4))
        rw [decide_eq_true (by omega), decide_eq_true (by omega)]
      · rw [beq_eq_false_iff_ne.mpr c, ic_f0, Nat.sub_zero]
theorem ic_en_own {F G G' : Nat → Int32} {a m : Nat} (hF : ic_VF F) (hm : m < 36) (h0 : ic_rf F m = 0) (h1 : ∀ x, x < m * 4 ∨ m * 4 + 4 ≤ x → G' x = G x) (h2 : ∀ i, i < 4 → G' (m * 4 + i) = ic_en F G a i) :
    ∀ k i, k < 32 → i < 4 → ic_en (upd F a (nI m)) G' k i = ic_en F G k i := by
  intro k i hk hi
  by_cases e : k = a
  · rw [e, ic_en_s i (pk_us (f := F) (k := a)) hm]
    exact h2 i hi
  · have e2 : upd F a (nI m) k = F k := pk_un e
    rcases hF k hk with h | ⟨s, hs, h⟩
    · rw [ic_en_n i h, ic_en_n i (e2.trans h)]
    · have hsm : s ≠ m := fun z => by
        rw [z] at h
        have := ic_rf_pos hk h
        omega
      rw [ic_en_s i h hs, ic_en_s i (e2.trans h) hs]
      exact h1 _ (by omega)
/-! the small walks -/
theorem ic_tj (m j : Nat) : nI m * 4 + nI j = nI (m * 4 + j) := by
  rw [show (4 : Int32) = nI 4 from rfl, pk_mul, nI_add]
theorem ic_sh2 {c : Nat} (hc : c < 16) : nI c >>> ((2 : Int32) &&& 31) = nI (c / 4) := pk_shrN (by omega) _ 2 (by decide)
theorem ic_an3 {c : Nat} (hc : c < 16) : nI c &&& 3 = nI (c % 4) := pk_andN (by omega) 2 (by decide)
theorem ic_bad {post : Int32 → Prop} {im sh : Int32} {F G T V U mk cp bf : Nat → Int32} {c : Nat} (hc : c < 16) (H : post 0) : wpX_bad post (im, sh, F, G, T, V, U, mk, cp, bf) (nI c) :=
  br_f (nI_pos (by omega)) (br_t (nI_lt (b := 16) hc (by decide)) H)
theorem ic_entry {post : Int32 → Prop} {im sh : Int32} {F G T V U mk cp bf : Nat → Int32} {f c : Nat} (hF : ic_VF F) (hf : f < 8) (hc : c < 16) (H : post (ic_en F G (f * 4 + c / 4) (c % 4))) : wpX_entry post (im, sh, F, G, T, V, U, mk, cp, bf) (nI f) (nI c) := by
  unfold wpX_entry
  dsimp only
  rw [ic_sh2 hc, ic_an3 hc, ic_tj, nI_clamp (show f * 4 + c / 4 < 2 ^ 31 by omega)]
  refine ⟨pk_in (f * 4 + c / 4) 32 (by omega), nm_e ?_⟩
  rcases hF (f * 4 + c / 4) (by omega) with h | ⟨t, ht, h⟩
  · rw [ic_en_n _ h] at H
    exact br_f (by rw [h]; decide) H
  · rw [ic_en_s _ h ht] at H
    rw [h, ic_tj, nI_clamp (show t * 4 + c % 4 < 2 ^ 31 by omega)]
    exact br_t (nI_pos' (by omega)) ⟨pk_in (t * 4 + c % 4) 144 (by omega), H⟩
theorem ic_wordOf {post : Int32 → Prop} {im sh : Int32} {F G T V U mk cp bf : Nat → Int32} {e : Int32} (he : ic_vg e) (H : post ((ic_vl V e).getD 0)) : wpX_wordOf post (im, sh, F, G, T, V, U, mk, cp, bf) e := by
  rcases he with h | h | ⟨p, hp, h⟩
  · rw [h, ic_vl_n] at H
    rw [h]
    exact br_f (by decide) H
  · rw [h, ic_vl_z] at H
    rw [h]
    exact br_f (by decide) H
  · rw [h, ic_vl_p V hp] at H
    rw [h]
    refine br_t (nI_pos' (by omega)) ⟨pk_in p 132 hp, ?_⟩
    rw [nI_clamp (show p < 2 ^ 31 by omega)]
    exact H
theorem ic_leavePlace {post : St2 → Prop} {im sh : Int32} {F G T V U mk cp bf : Nat → Int32} {lv : Nat → Bool} {x0 : Nat} {e : Int32} (hx : x0 < 144) (hl : lv x0 = true) (hG : ic_VG G) (he : e = G x0) (hU : ic_IU lv G U)
    (H : ∀ U', ic_IU (fun x => lv x && decide (x ≠ x0)) G U' → post (im, sh, F, G, T, V, U', mk, cp, bf)) : wpX_leavePlace post (im, sh, F, G, T, V, U, mk, cp, bf) e := by
  rcases hG x0 hx with h | h | ⟨p, hp, h⟩
  · rw [he, h]
    exact br_t (by decide) (H U (ic_IU_rn hx hl (by rw [h]; decide) hU))
  · rw [he, h]
    exact br_t (by decide) (H U (ic_IU_rn hx hl (by rw [h]; decide) hU))
  · rw [he, h]
    exact br_f (nI_pos (by omega)) ⟨pk_in p 132 hp, pk_in p 132 hp, nm_r (by rw [nI_clamp (show p < 2 ^ 31 by omega)]) (H _ (ic_IU_rp hx hl hp h hU))⟩
theorem ic_lt30 {post : St2 → Prop} {im sh : Int32} {F G T V mk cp bf : Nat → Int32} {lv : Nat → Bool} {t : Nat} (ht : t < 36) (hG : ic_VG G) (hl : ∀ j, j < 4 → lv (t * 4 + j) = true)
    (H : ∀ U', ic_IU (ic_rm lv (t * 4) (t * 4 + 4)) G U' → post (im, sh, F, G, T, V, U', mk, cp, bf)) :
    ∀ (r j : Nat) (U : Nat → Int32), j + r = 4 → ic_IU (ic_rm lv (t * 4) (t * 4 + j)) G U → wX_leaveTable_30 post (nI t) (r + 1) (nI j) im sh F G T V U mk cp bf := by
  intro r
  induction r with
  | zero =>
    intro j U hj hU
    have e : j = 4 := by omega
    rw [e] at hU ⊢
    exact pk_le 4 4 (fun _ => H U hU) (fun z => absurd z (by omega))
  | succ r ih =>
    intro j U hj hU
    refine pk_le 4 j (fun z => absurd z (by omega)) (fun _ => ?_)
    rw [ic_tj, nI_clamp (show t * 4 + j < 2 ^ 31 by omega)]
    refine ⟨pk_in (t * 4 + j) 144 (by omega), ic_leavePlace (show t * 4 + j < 144 by omega) ((ic_rm_out lv _ _ _ (Nat.le_refl _)).trans (hl j (by omega))) hG rfl hU (fun U' hU' => ?_)⟩
    exact nm_r (nI_1 j) (ih (j + 1) U' (by omega) (ic_IU_c (fun x _ => ic_rm_s lv (t * 4) (t * 4 + j) x (by omega)) hU'))
theorem ic_lt_neg {post : St2 → Prop} {im sh : Int32} {F G T V U mk cp bf : Nat → Int32} (H : post (im, sh, F, G, T, V, U, mk, cp, bf)) : wpX_leaveTable post (im, sh, F, G, T, V, U, mk, cp, bf) (-1) :=
  br_f (by decide) H
theorem ic_lt_many {post : St2 → Prop} {im sh : Int32} {F G T V U mk cp bf : Nat → Int32} {t n : Nat} (ht : t < 36) (hn : 0 < n) (hn2 : n < 2 ^ 31) (hT : T t = nI (n + 1)) (H : post (im, sh, F, G, upd T t (nI n), V, U, mk, cp, bf)) :
    wpX_leaveTable post (im, sh, F, G, T, V, U, mk, cp, bf) (nI t) := by
  have e : (nI t).toNatClampNeg = t := nI_clamp (by omega)
  refine br_t (nI_pos' (by omega)) ⟨pk_in t 36 ht, pk_in t 36 ht, nm_r (e' := upd T t (nI n)) (by rw [e, hT, nI_pred]) ⟨pk_in t 36 ht, ?_⟩⟩
  refine br_f ?_ H
  rw [e, pk_us]
  exact nI_ne0 hn hn2
theorem ic_lt_last {post : St2 → Prop} {im sh : Int32} {F G T V U mk cp bf : Nat → Int32} {lv : Nat → Bool} {t : Nat} (ht : t < 36) (hT : T t = 1) (hG : ic_VG G) (hl : ∀ j, j < 4 → lv (t * 4 + j) = true) (hU : ic_IU lv G U)
    (H : ∀ U', ic_IU (ic_rm lv (t * 4) (t * 4 + 4)) G U' → post (im, sh, F, G, upd T t 0, V, U', mk, cp, bf)) :
    wpX_leaveTable post (im, sh, F, G, T, V, U, mk, cp, bf) (nI t) := by
  have e : (nI t).toNatClampNeg = t := nI_clamp (by omega)
  refine br_t (nI_pos' (by omega)) ⟨pk_in t 36 ht, pk_in t 36 ht, nm_r (e' := upd T t 0) (by rw [e, hT]; rfl) ⟨pk_in t 36 ht, ?_⟩⟩
  refine br_t ?_ ⟨5, ic_lt30 ht hG hl H 4 0 U rfl (ic_IU_c (fun x _ => ic_rm_0 lv (t * 4) x) hU)⟩
  rw [e, pk_us]
def ic_d : Nat → Int32
  | 0 => -1
  | n + 1 => nI n
theorem ic_d_m1 (i : Nat) : nI i + (-1) = ic_d i := by
  cases i with
  | zero => rfl
  | succ i => exact pk_m1 i
theorem ic_fT5 {post : Int32 → St2 → Prop} {im sh : Int32} {F G T V U mk cp bf : Nat → Int32} (H : ∀ t, t < 36 → T t = 0 → post (nI t) (im, sh, F, G, upd T t 1, V, U, mk, cp, bf)) :
    ∀ i r : Nat, i ≤ 36 → r < 36 → (T r = 0 ∨ ∃ t, t < i ∧ T t = 0) → wX_freshTable_5 post im sh F G T V U mk cp bf (i + 1) (nI r) (ic_d i) := by
  intro i
  induction i with
  | zero =>
    intro r _ hr h
    have h0 : T r = 0 := h.elim id (fun ⟨t, z, _⟩ => absurd z (by omega))
    exact br_t (by decide) ⟨pk_in r 36 hr, nm_r (by rw [nI_clamp (show r < 2 ^ 31 by omega)]) (H r hr h0)⟩
  | succ i ih =>
    intro r hi hr h
    refine br_f (nI_pos (show i < 2 ^ 31 by omega)) ⟨pk_in i 36 (by omega), ?_⟩
    rw [show (ic_d (i + 1)).toNatClampNeg = i from nI_clamp (by omega)]
    refine br_c (fun z => nm_r (ic_d_m1 i) (ih i (by omega) (by omega) (Or.inl z))) (fun z => nm_r (ic_d_m1 i) (ih r (by omega) hr ?_))
    rcases h with h | ⟨t, ht, h⟩
    · exact Or.inl h
    · refine Or.inr ⟨t, ?_, h⟩
      have : t ≠ i := fun q => z (q ▸ h)
      omega
theorem ic_freshTable {post : Int32 → St2 → Prop} {im sh : Int32} {F G T V U mk cp bf : Nat → Int32} (hT : ∃ t, t < 36 ∧ T t = 0) (H : ∀ t, t < 36 → T t = 0 → post (nI t) (im, sh, F, G, upd T t 1, V, U, mk, cp, bf)) :
    wpX_freshTable post (im, sh, F, G, T, V, U, mk, cp, bf) :=
  ⟨37, ic_fT5 H 36 0 (by omega) (by omega) (Or.inr hT)⟩
theorem ic_fP6 {post : Int32 → St2 → Prop} {im sh w : Int32} {F G T V U mk cp bf : Nat → Int32} (H : ∀ p, p < 132 → U p = 0 → post (nI p) (im, sh, F, G, T, upd V p w, upd U p 1, mk, cp, bf)) :
    ∀ i r : Nat, i ≤ 132 → r < 132 → (U r = 0 ∨ ∃ t, t < i ∧ U t = 0) → wX_freshPlace_6 post w im sh F G T V U mk cp bf (i + 1) (nI r) (ic_d i) := by
  intro i
  induction i with
  | zero =>
    intro r _ hr h
    have h0 : U r = 0 := h.elim id (fun ⟨t, z, _⟩ => absurd z (by omega))
    exact br_t (by decide) ⟨pk_in r 132 hr, nm_r (by rw [nI_clamp (show r < 2 ^ 31 by omega)]) ⟨pk_in r 132 hr, nm_r (by rw [nI_clamp (show r < 2 ^ 31 by omega)]) (H r hr h0)⟩⟩
  | succ i ih =>
    intro r hi hr h
    refine br_f (nI_pos (show i < 2 ^ 31 by omega)) ⟨pk_in i 132 (by omega), ?_⟩
    rw [show (ic_d (i + 1)).toNatClampNeg = i from nI_clamp (by omega)]
    refine br_c (fun z => nm_r (ic_d_m1 i) (ih i (by omega) (by omega) (Or.inl z))) (fun z => nm_r (ic_d_m1 i) (ih r (by omega) hr ?_))
    rcases h with h | ⟨t, ht, h⟩
    · exact Or.inl h
    · refine Or.inr ⟨t, ?_, h⟩
      have : t ≠ i := fun q => z (q ▸ h)
      omega
theorem ic_freshPlace {post : Int32 → St2 → Prop} {im sh w : Int32} {F G T V U mk cp bf : Nat → Int32} (hU : ∃ p, p < 132 ∧ U p = 0) (H : ∀ p, p < 132 → U p = 0 → post (nI p) (im, sh, F, G, T, upd V p w, upd U p 1, mk, cp, bf)) :
    wpX_freshPlace post (im, sh, F, G, T, V, U, mk, cp, bf) w :=
  ⟨133, ic_fP6 H 132 0 (by omega) (by omega) (Or.inr hU)⟩
end
section
/-! a table of one's own, saying, sharing, clearing -/
theorem ic_rf_new {F : Nat → Int32} {a m : Nat} (ha : a < 32) (h0 : ic_rf F m = 0) : ic_rf (upd F a (nI m)) m = 1 := by
  have ham : ¬ F a = nI m := fun z => by
    have := ic_rf_pos ha z
    omega
  have h := ic_rf_upd (F := F) (nI m) ha m
  rw [beq_self_eq_true, ic_t1, beq_eq_false_iff_ne.mpr ham, ic_f0, Nat.add_zero, h0] at h
  exact h
theorem ic_own71 {post : Int32 → St2 → Prop} {J : Int32 → (Nat → Int32) → (Nat → Int32) → (Nat → Int32) → (Nat → Int32) → (Nat → Int32) → (Nat → Int32) → (Nat → Int32) → (Nat → Int32) → Prop} {x3 x4 im sh z : Int32} {F G T V U mk cp bf : Nat → Int32} {lv : Nat → Bool} {m j : Nat}
    (hm : m < 36) (hj : j < 4) (hz : ic_vg z) (hl : lv (m * 4 + j) = false) (hU : ic_IU lv G U)
    (H : ∀ U', ic_IU (fun x => lv x || decide (x = m * 4 + j)) (upd G (m * 4 + j) z) U' → J (nI (j + 1)) F (upd G (m * 4 + j) z) T V U' mk cp bf) :
    wX_ownTable_71 post J x3 x4 (nI m) (nI j) z im sh F G T V U mk cp bf := by
  unfold wX_ownTable_71
  rw [ic_tj, nI_clamp (show m * 4 + j < 2 ^ 31 by omega)]
  refine ⟨pk_in (m * 4 + j) 144 (by omega), nm_e ?_⟩
  rcases hz with h | h | ⟨p, hp, h⟩
  · exact br_t (by rw [h]; decide) (nm_r (nI_1 j) (H U (ic_IU_an (by omega) hl (by rw [h]; decide) hU)))
  · exact br_t (by rw [h]; decide) (nm_r (nI_1 j) (H U (ic_IU_an (by omega) hl (by rw [h]; decide) hU)))
  · refine br_f (by rw [h]; exact nI_pos (by omega)) ⟨pk_in p 132 hp h, pk_in p 132 hp h, nm_r (e' := upd U p (U p + 1)) (by rw [h, nI_clamp (show p < 2 ^ 31 by omega)]) (nm_r (nI_1 j) (H _ ?_))⟩
    rw [h]
    exact ic_IU_ap (by omega) hl hp rfl hU
theorem ic_own44 {post : Int32 → St2 → Prop} {im sh y : Int32} {F G0 T T2 V mk cp bf src : Nat → Int32} {lv : Nat → Bool} {a m : Nat} (ha : a < 32) (hm : m < 36) (hsv : ∀ i, i < 4 → ic_vg (src i))
    (hy : (y = -1 ∧ T2 = T ∧ (∀ i, i < 4 → src i = -1)) ∨ (∃ t n, t < 36 ∧ t ≠ m ∧ 0 < n ∧ n < 2 ^ 31 ∧ y = nI t ∧ T t = nI (n + 1) ∧ T2 = upd T t (nI n) ∧ (∀ i, i < 4 → src i = G0 (t * 4 + i))))
    (hl : ∀ j, j < 4 → lv (m * 4 + j) = false)
    (H : ∀ G U, (∀ x, x < m * 4 ∨ m * 4 + 4 ≤ x → G x = G0 x) → (∀ i, i < 4 → G (m * 4 + i) = src i) → ic_VG G → ic_IU (ic_ad lv (m * 4) (m * 4 + 4)) G U → post (nI m) (im, sh, upd F a (nI m), G, T2, V, U, mk, cp, bf)) :
    ∀ (r j : Nat) (G U : Nat → Int32), j + r = 4 → (∀ x, x < m * 4 ∨ m * 4 + j ≤ x → G x = G0 x) → (∀ i, i < j → G (m * 4 + i) = src i) → ic_VG G → ic_IU (ic_ad lv (m * 4) (m * 4 + j)) G U →
      wX_ownTable_44 post (nI a) y (nI m) im sh (r + 1) (nI j) F G T V U mk cp bf := by
  intro r
  induction r with
  | zero =>
    intro j G U hj h1 h2 h3 h4
    have e : j = 4 := by omega
    rw [e] at h1 h2 h4 ⊢
    refine pk_le 4 4 (fun _ => ?_) (fun z => absurd z (by omega))
    rcases hy with ⟨hy, hT, hs⟩ | ⟨t, n, ht, htm, hn, hn2, hy, hTt, hT, hs⟩
    · rw [hy]
      rw [hT] at H
      exact ic_lt_neg (And.intro (pk_in a 32 ha) (nm_r (by rw [nI_clamp (show a < 2 ^ 31 by omega)]) (H G U h1 h2 h3 h4)))
    · rw [hy]
      rw [hT] at H
      exact ic_lt_many ht hn hn2 hTt (And.intro (pk_in a 32 ha) (nm_r (by rw [nI_clamp (show a < 2 ^ 31 by omega)]) (H G U h1 h2 h3 h4)))
  | succ r ih =>
    intro j G U hj h1 h2 h3 h4
    refine pk_le 4 j (fun z => absurd z (by omega)) (fun _ => ?_)
    have step : ∀ z, z = src j → wX_ownTable_71 post (wX_ownTable_44 post (nI a) y (nI m) im sh (r + 1)) (nI a) y (nI m) (nI j) z im sh F G T V U mk cp bf := by
      intro z hz
      refine ic_own71 hm (by omega) (by rw [hz]; exact hsv j (by omega)) ((ic_ad_out lv _ _ _ (Nat.le_refl _)).trans (hl j (by omega))) h4 (fun U' hU' => ih (j + 1) _ U' (by omega) (fun x hx => ?_) (fun i hi => ?_) (fun x hx => ?_) ?_)
      · rw [pk_un (show x ≠ m * 4 + j by omega)]
        exact h1 x (by omega)
      · by_cases e : i = j
        · rw [e, pk_us, hz]
        · rw [pk_un (show m * 4 + i ≠ m * 4 + j by omega)]
          exact h2 i (by omega)
      · by_cases e : x = m * 4 + j
        · rw [e, pk_us, hz]
          exact hsv j (by omega)
        · rw [pk_un e]
          exact h3 x hx
      · exact ic_IU_c (fun x _ => ic_ad_s lv (m * 4) (m * 4 + j) x (by omega)) hU'
    rcases hy with ⟨hy, hT, hs⟩ | ⟨t, n, ht, htm, hn, hn2, hy, hTt, hT, hs⟩
    · exact br_f (by rw [hy]; decide) (step _ (hs j (by omega)).symm)
    · have e1 : y * 4 + nI j = nI (t * 4 + j) := by rw [hy, ic_tj]
      refine br_t (by rw [hy]; exact nI_pos' (by omega)) ⟨pk_in (t * 4 + j) 144 (by omega) e1, step _ ?_⟩
      rw [e1, nI_clamp (show t * 4 + j < 2 ^ 31 by omega), h1 (t * 4 + j) (by omega), hs j (by omega)]
theorem ic_own35 {post : Int32 → St2 → Prop} {im sh : Int32} {F G T V U mk cp bf : Nat → Int32} {a : Nat} (hI : ic_I F G T U) (ha : a < 32) (hp : ∀ s, s < 36 → F a = nI s → 1 < ic_rf F s)
    (H : ∀ m F' G' T' U', m < 36 → ic_I F' G' T' U' → F' a = nI m → ic_rf F' m = 1 → (∀ k, k ≠ a → F' k = F k) → (∀ k i, k < 32 → i < 4 → ic_en F' G' k i = ic_en F G k i) → post (nI m) (im, sh, F', G', T', V, U', mk, cp, bf)) :
    wX_ownTable_35 post (nI a) (F a) im sh F G T V U mk cp bf := by
  have hI' := hI
  obtain ⟨hVF, hVG, hIT, hIU⟩ := hI'
  unfold wX_ownTable_35
  refine ic_freshTable ?_ (fun m hm hTm => ?_)
  · obtain ⟨t, ht, h⟩ := ic_freeT F
    exact ⟨t, ht, by rw [hIT t ht, h]; rfl⟩
  · have h0 : ic_rf F m = 0 := by
      rw [hIT m hm] at hTm
      exact (nI_eq (b := 0) (by have := ic_rf_le F m; omega) (by omega)).mp hTm
    have fin : ∀ T2, (∀ s, s < 36 → T2 s = nI (if s = m then 1 else ic_rf F s - (F a == nI s).toNat)) → ∀ G' U', (∀ x, x < m * 4 ∨ m * 4 + 4 ≤ x → G' x = G x) → (∀ i, i < 4 → G' (m * 4 + i) = ic_en F G a i) → ic_VG G' → ic_IU (ic_ad (ic_lv F) (m * 4) (m * 4 + 4)) G' U' → post (nI m) (im, sh, upd F a (nI m), G', T2, V, U', mk, cp, bf) :=
      fun T2 hT2 G' U' h1 h2 h3 h4 => H m (upd F a (nI m)) G' T2 U' hm (ic_I_own hI ha hm h0 h3 h4 hp hT2) pk_us (ic_rf_new ha h0) (fun k hk => pk_un hk) (ic_en_own hVF hm h0 h1 h2)
    have hsv : ∀ i, i < 4 → ic_vg (ic_en F G a i) := fun i hi => ic_en_v hVF hVG ha hi
    refine Exists.intro 5 ?_
    rcases hVF a ha with h | ⟨t, ht, h⟩
    · refine ic_own44 (src := fun i => ic_en F G a i) (lv := ic_lv F) (G0 := G) (T2 := upd T m 1) ha hm hsv (Or.inl ⟨h, rfl, fun i _ => ic_en_n i h⟩) (fun j hj => ic_lv_no h0 hj) (fin _ (fun s hs => ?_)) 4 0 G U rfl (fun _ _ => rfl) (fun i hi => absurd hi (by omega)) hVG (ic_IU_c (fun x _ => ic_ad_0 (ic_lv F) (m * 4) x) hIU)
      by_cases e : s = m
      · rw [if_pos e, e, pk_us]
        rfl
      · rw [if_neg e, pk_un e, h, beq_eq_false_iff_ne.mpr (ic_neg ic_m1 (show s < 2 ^ 31 by omega)), ic_f0, Nat.sub_zero]
        exact hIT s hs
    · have h1 := hp t ht h
      obtain ⟨n, hn⟩ : ∃ n, ic_rf F t = n + 1 := ⟨ic_rf F t - 1, by omega⟩
      have hle := ic_rf_le F t
      have htm : t ≠ m := fun z => by
        rw [z] at h1
        omega
      refine ic_own44 (src := fun i => ic_en F G a i) (lv := ic_lv F) (G0 := G) (T2 := upd (upd T m 1) t (nI n)) ha hm hsv (Or.inr ⟨t, n, ht, htm, by omega, by omega, h, ?_, rfl, fun i _ => ic_en_s i h ht⟩) (fun j hj => ic_lv_no h0 hj) (fin _ (fun s hs => ?_)) 4 0 G U rfl (fun _ _ => rfl) (fun i hi => absurd hi (by omega)) hVG (ic_IU_c (fun x _ => ic_ad_0 (ic_lv F) (m * 4) x) hIU)
      · rw [pk_un htm, hIT t ht, hn]
      · by_cases e : s = t
        · rw [e, if_neg htm, pk_us, h, beq_self_eq_true, ic_t1, hn]
          rfl
        · rw [pk_un e]
          by_cases e2 : s = m
          · rw [if_pos e2, e2, pk_us]
            rfl
          · rw [if_neg e2, pk_un e2, h, beq_eq_false_iff_ne.mpr (show ¬ nI t = nI s by rw [nI_eq (by omega) (by omega)]; omega), ic_f0, Nat.sub_zero]
            exact hIT s hs
theorem ic_ownTable {post : Int32 → St2 → Prop} {im sh : Int32} {F G T V U mk cp bf : Nat → Int32} {f c : Nat} (hI : ic_I F G T U) (hf : f < 8) (hc : c < 16)
    (H : ∀ m F' G' T' U', m < 36 → ic_I F' G' T' U' → F' (f * 4 + c / 4) = nI m → ic_rf F' m = 1 → (∀ k, k ≠ f * 4 + c / 4 → F' k = F k) → (∀ k i, k < 32 → i < 4 → ic_en F' G' k i = ic_en F G k i) → post (nI m) (im, sh, F', G', T', V, U', mk, cp, bf)) :
    wpX_ownTable post (im, sh, F, G, T, V, U, mk, cp, bf) (nI f) (nI c) := by
  obtain ⟨a, ha⟩ : ∃ a, a = f * 4 + c / 4 := ⟨_, rfl⟩
  have ha32 : a < 32 := by omega
  rw [← ha] at H
  have hI' := hI
  obtain ⟨hVF, hVG, hIT, hIU⟩ := hI'
  refine nm_r (e' := nI a) (by rw [ic_sh2 hc, ic_tj, ha]) ⟨pk_in a 32 ha32, nm_r (e' := F a) (by rw [nI_clamp (show a < 2 ^ 31 by omega)]) ?_⟩
  rcases hVF a ha32 with h | ⟨t, ht, h⟩
  · exact br_t (by rw [h]; decide) (ic_own35 hI ha32 (fun s hs z => absurd (h.symm.trans z) (ic_neg ic_m1 (by omega))) H)
  · have hle := ic_rf_le F t
    have hpos := ic_rf_pos ha32 h
    have ecl : (F a).toNatClampNeg = t := by rw [h, nI_clamp (by omega)]
    refine br_f (by rw [h]; exact nI_pos (by omega)) ⟨pk_in t 36 ht h, ?_⟩
    rw [ecl, hIT t ht]
    refine br_c (fun z => ?_) (fun z => ic_own35 hI ha32 (fun s hs z2 => ?_) H)
    · have hr : ic_rf F t = 1 := (nI_eq (b := 1) (by omega) (by omega)).mp z
      have hh := H t F G T U ht hI h hr (fun _ _ => rfl) (fun _ _ _ _ => rfl)
      rw [h]
      exact hh
    · have hst : t = s := by
        rw [h, nI_eq (by omega) (by omega)] at z2
        exact z2
      rw [← hst]
      have : ic_rf F t ≠ 1 := fun q => z (by rw [q]; rfl)
      omega
theorem ic_VG_u {G : Nat → Int32} {x0 : Nat} {e : Int32} (hG : ic_VG G) (he : ic_vg e) : ic_VG (upd G x0 e) := by
  intro x hx
  by_cases c : x = x0
  · rw [c, pk_us]
    exact he
  · rw [pk_un c]
    exact hG x hx
theorem ic_I_pn {F G T U U1 : Nat → Int32} {x0 : Nat} {e : Int32} (hI : ic_I F G T U) (hx : x0 < 144) (hl : ic_lv F x0 = true) (he : e = -1 ∨ e = -2) (hU : ic_IU (fun x => ic_lv F x && decide (x ≠ x0)) G U1) : ic_I F (upd G x0 e) T U1 := by
  obtain ⟨hVF, hVG, hIT, hIU⟩ := hI
  have hn : e < 0 := by
    rcases he with h | h
    · rw [h]
      decide
    · rw [h]
      decide
  refine ⟨hVF, ic_VG_u hVG (he.elim Or.inl (fun h => Or.inr (Or.inl h))), hIT, ic_IU_c (fun x _ => ic_ra (ic_lv F) x0 hl x) (ic_IU_an hx ?_ hn hU)⟩
  simp
theorem ic_I_pp {F G T U U1 : Nat → Int32} {x0 p : Nat} (hI : ic_I F G T U) (hx : x0 < 144) (hl : ic_lv F x0 = true) (hp : p < 132) (h0 : U1 p = 0) (hU : ic_IU (fun x => ic_lv F x && decide (x ≠ x0)) G U1) : ic_I F (upd G x0 (nI p)) T (upd U1 p 1) := by
  obtain ⟨hVF, hVG, hIT, hIU⟩ := hI
  refine ⟨hVF, ic_VG_u hVG (Or.inr (Or.inr ⟨p, hp, rfl⟩)), hIT, ic_IU_c (fun x _ => ic_ra (ic_lv F) x0 hl x) (ic_IU_ap hx ?_ hp ?_ hU)⟩
  · simp
  · rw [h0]
    rfl
theorem ic_say {post : St2 → Prop} {im sh w : Int32} {F G T V U mk cp bf : Nat → Int32} {f c : Nat} (hI : ic_I F G T U) (hf : f < 8) (hc : c < 16)
    (H : ∀ F' G' T' V' U', ic_I F' G' T' U' → (∀ k, k ≠ f * 4 + c / 4 → F' k = F k) → (∀ k i, k < 32 → i < 4 → ic_vl V' (ic_en F' G' k i) = if k = f * 4 + c / 4 ∧ i = c % 4 then some w else ic_vl V (ic_en F G k i)) → post (im, sh, F', G', T', V', U', mk, cp, bf)) :
    wpX_say post (im, sh, F, G, T, V, U, mk, cp, bf) (nI f) (nI c) w := by
  refine ic_ownTable hI hf hc (fun m F' G' T' U' hm hI' hF' hr hfr hen => ?_)
  obtain ⟨a, ha⟩ : ∃ a, a = f * 4 + c / 4 := ⟨_, rfl⟩
  obtain ⟨j, hj⟩ : ∃ j, j = c % 4 := ⟨_, rfl⟩
  have ha32 : a < 32 := by omega
  have hj4 : j < 4 := by omega
  have hx : m * 4 + j < 144 := by omega
  rw [← ha] at H hF' hfr
  rw [← hj] at H
  have hI2 := hI'
  obtain ⟨hVF, hVG, hIT, hIU⟩ := hI2
  have hl : ic_lv F' (m * 4 + j) = true := ic_lv_of ha32 hF' hj4
  have ecl : (nI (m * 4 + j)).toNatClampNeg = m * 4 + j := nI_clamp (by omega)
  refine nm_r (e' := nI (m * 4 + j)) (by rw [ic_an3 hc, ic_tj, hj]) ⟨pk_in (m * 4 + j) 144 hx, nm_r (e' := G' (m * 4 + j)) (by rw [ecl]) ?_⟩
  have s56 : wX_say_56 post w (nI (m * 4 + j)) (G' (m * 4 + j)) im sh F' G' T' V U' mk cp bf := by
    unfold wX_say_56
    refine ic_leavePlace hx hl hVG rfl hIU (fun U1 hU1 => ?_)
    refine br_c (fun z => And.intro (pk_in (m * 4 + j) 144 hx) (nm_r (e' := upd G' (m * 4 + j) (-2)) (by rw [ecl]) (H F' _ T' V U1 (ic_I_pn hI' hx hl (Or.inr rfl) hU1) hfr (fun k i hk hi => ?_)))) (fun z => ic_freshPlace ?_ (fun p hp hp0 => And.intro (pk_in (m * 4 + j) 144 hx) (nm_r (e' := upd G' (m * 4 + j) (nI p)) (by rw [ecl]) (H F' _ T' _ _ (ic_I_pp hI' hx hl hp hp0 hU1) hfr (fun k i hk hi => ?_)))))
    · rw [ic_st_en hVF ha32 hm hj4 hF' hr k i hk hi]
      by_cases q : k = a ∧ i = j
      · rw [if_pos q, if_pos q, ic_vl_z, z]
      · rw [if_neg q, if_neg q, hen k i hk hi]
    · have hcn : ic_cn (fun x => ic_lv F' x && decide (x ≠ m * 4 + j)) 144 < 132 := by
        have h1 := ic_lv_le F'
        have h2 : ic_cn (fun x => ic_lv F' x && decide (x ≠ m * 4 + j)) 144 ≤ ic_cn (ic_lv F') 144 := ic_cn_mono (fun k _ hk => (Bool.and_eq_true_iff.mp hk).1)
        omega
      obtain ⟨p, hp, h0⟩ := ic_freeP (G := G') hcn
      exact ⟨p, hp, by rw [hU1 p hp, h0]; rfl⟩
    · have h0 : ic_rp (fun x => ic_lv F' x && decide (x ≠ m * 4 + j)) G' p = 0 := by
        have h1 := hU1 p hp
        rw [hp0] at h1
        exact ((nI_eq (a := 0) (by omega) (by have := ic_rp_le (fun x => ic_lv F' x && decide (x ≠ m * 4 + j)) G' p; omega)).mp h1).symm
      rw [ic_st_fr hVF hVG ha32 hm hj4 hF' hr hp h0 k i hk hi, hen k i hk hi]
  refine br_c (fun z => s56) (fun z => br_c (fun z2 => s56) (fun z2 => ?_))
  obtain ⟨p, hp, hg⟩ : ∃ p, p < 132 ∧ G' (m * 4 + j) = nI p := by
    rcases hVG (m * 4 + j) hx with h | h | h
    · exact absurd (by rw [h]; decide) z2
    · exact absurd (by rw [h]; decide) z2
    · exact h
  have epl : (G' (m * 4 + j)).toNatClampNeg = p := by rw [hg, nI_clamp (by omega)]
  refine ⟨pk_in p 132 hp hg, br_c (fun z3 => ⟨pk_in p 132 hp hg, nm_r (e' := upd V p w) (by rw [epl]) (H F' G' T' _ U' hI' hfr (fun k i hk hi => ?_))⟩) (fun _ => s56)⟩
  rw [epl] at z3
  rw [ic_st_own hI' ha32 hm hj4 hF' hr hp hg z3 k i hk hi, hen k i hk hi]
theorem ic_sayNothing {post : St2 → Prop} {im sh : Int32} {F G T V U mk cp bf : Nat → Int32} {f c : Nat} (hI : ic_I F G T U) (hf : f < 8) (hc : c < 16)
    (H : ∀ F' G' T' U', ic_I F' G' T' U' → (∀ k, k ≠ f * 4 + c / 4 → F' k = F k) → (∀ k i, k < 32 → i < 4 → ic_vl V (ic_en F' G' k i) = if k = f * 4 + c / 4 ∧ i = c % 4 then none else ic_vl V (ic_en F G k i)) → post (im, sh, F', G', T', V, U', mk, cp, bf)) :
    wpX_sayNothing post (im, sh, F, G, T, V, U, mk, cp, bf) (nI f) (nI c) := by
  unfold wpX_sayNothing
  refine ic_entry hI.1 hf hc (br_c (fun z => ?_) (fun z => ?_))
  · refine H F G T U hI (fun _ _ => rfl) (fun k i hk hi => ?_)
    by_cases q : k = f * 4 + c / 4 ∧ i = c % 4
    · rw [if_pos q, q.1, q.2, z, ic_vl_n]
    · rw [if_neg q]
  · refine ic_ownTable hI hf hc (fun m F' G' T' U' hm hI' hF' hr hfr hen => ?_)
    have he : ic_en F G (f * 4 + c / 4) (c % 4) = G' (m * 4 + c % 4) := by
      rw [← hen _ _ (by omega) (by omega), ic_en_s _ hF' hm]
    obtain ⟨a, ha⟩ : ∃ a, a = f * 4 + c / 4 := ⟨_, rfl⟩
    obtain ⟨j, hj⟩ : ∃ j, j = c % 4 := ⟨_, rfl⟩
    have ha32 : a < 32 := by omega
    have hj4 : j < 4 := by omega
    have hx : m * 4 + j < 144 := by omega
    rw [← ha] at H hF' hfr he
    rw [← hj] at H he
    have hI2 := hI'
    obtain ⟨hVF, hVG, hIT, hIU⟩ := hI2
    have hl : ic_lv F' (m * 4 + j) = true := ic_lv_of ha32 hF' hj4
    have eix : nI m * 4 + (nI c &&& 3) = nI (m * 4 + j) := by rw [ic_an3 hc, ic_tj, hj]
    rw [← ha, ← hj] 
    refine ic_leavePlace hx hl hVG he hIU (fun U1 hU1 => And.intro (pk_in (m * 4 + j) 144 hx eix) (nm_r (e' := upd G' (m * 4 + j) (-1)) (by rw [eix, nI_clamp (show m * 4 + j < 2 ^ 31 by omega)]) (H F' _ T' U1 (ic_I_pn hI' hx hl (Or.inl rfl) hU1) hfr (fun k i hk hi => ?_))))
    rw [ic_st_en hVF ha32 hm hj4 hF' hr k i hk hi]
    by_cases q : k = a ∧ i = j
    · rw [if_pos q, if_pos q, ic_vl_n]
    · rw [if_neg q, if_neg q, hen k i hk hi]
theorem ic_sh2l {post : St2 → Prop} {im sh : Int32} {F0 G V U mk cp bf : Nat → Int32} {f g : Nat} (hf : f < 8) (hg : g < 8) (hfg : f ≠ g) (hE : ∀ i, i < 4 → F0 (f * 4 + i) = -1)
    (H : ∀ F T, ic_I F G T U → (∀ k, ¬ (f * 4 ≤ k ∧ k < f * 4 + 4) → F k = F0 k) → (∀ i, i < 4 → F (f * 4 + i) = F0 (g * 4 + i)) → post (im, sh, F, G, T, V, U, mk, cp, bf)) :
    ∀ (r j : Nat) (F T : Nat → Int32), j + r = 4 → ic_I F G T U → (∀ k, ¬ (f * 4 ≤ k ∧ k < f * 4 + j) → F k = F0 k) → (∀ i, i < j → F (f * 4 + i) = F0 (g * 4 + i)) → wX_share_2 post (nI f) (nI g) im sh (r + 1) (nI j) F G T V U mk cp bf := by
  intro r
  induction r with
  | zero =>
    intro j F T hj h1 h2 h3
    have e : j = 4 := by omega
    rw [e] at h2 h3 ⊢
    exact pk_le 4 4 (fun _ => H F T h1 h2 h3) (fun z => absurd z (by omega))
  | succ r ih =>
    intro j F T hj h1 h2 h3
    refine pk_le 4 j (fun z => absurd z (by omega)) (fun _ => ?_)
    have eg : (nI g * 4 + nI j).toNatClampNeg = g * 4 + j := by rw [ic_tj, nI_clamp (by omega)]
    have ef : (nI f * 4 + nI j).toNatClampNeg = f * 4 + j := by rw [ic_tj, nI_clamp (by omega)]
    have hb : F (g * 4 + j) = F0 (g * 4 + j) := h2 _ (by omega)
    have haE : F (f * 4 + j) = -1 := (h2 _ (by omega)).trans (hE j (by omega))
    have step : ∀ T', ic_I (upd F (f * 4 + j) (F (g * 4 + j))) G T' U → wX_share_40 post (wX_share_2 post (nI f) (nI g) im sh (r + 1)) (nI f) (nI g) (nI j) (F (g * 4 + j)) im sh F G T' V U mk cp bf := by
      intro T' hI'
      unfold wX_share_40
      refine ⟨pk_in (f * 4 + j) 32 (by omega) (ic_tj f j), nm_r (e' := upd F (f * 4 + j) (F (g * 4 + j))) (by rw [ef]) (nm_r (nI_1 j) (ih (j + 1) _ T' (by omega) hI' (fun k hk => ?_) (fun i hi => ?_)))⟩
      · rw [pk_un (show k ≠ f * 4 + j by omega)]
        exact h2 k (by omega)
      · by_cases e : i = j
        · rw [e, pk_us, hb]
        · rw [pk_un (show f * 4 + i ≠ f * 4 + j by omega)]
          exact h3 i (by omega)
    refine ⟨pk_in (g * 4 + j) 32 (by omega) (ic_tj g j), nm_r (e' := F (g * 4 + j)) (by rw [eg]) ?_⟩
    rcases h1.1 (g * 4 + j) (by omega) with h | ⟨t, ht, h⟩
    · refine br_t (by rw [h]; decide) (step T ?_)
      rw [h, ic_upd_id haE]
      exact h1
    · have et : (F (g * 4 + j)).toNatClampNeg = t := by rw [h, nI_clamp (by omega)]
      refine br_f (by rw [h]; exact nI_pos (by omega)) ⟨pk_in t 36 ht h, pk_in t 36 ht h, nm_r (e' := upd T t (T t + 1)) (by rw [et]) (step _ ?_)⟩
      have hh := ic_I_sh h1 (show f * 4 + j < 32 by omega) (show g * 4 + j < 32 by omega) ht haE h
      rw [h]
      exact hh
theorem ic_share {post : St2 → Prop} {im sh : Int32} {F G T V U mk cp bf : Nat → Int32} {f g : Nat} (hI : ic_I F G T U) (hf : f < 8) (hg : g < 8) (hfg : f ≠ g) (hE : ∀ i, i < 4 → F (f * 4 + i) = -1)
    (H : ∀ F' T', ic_I F' G T' U → (∀ k, ¬ (f * 4 ≤ k ∧ k < f * 4 + 4) → F' k = F k) → (∀ i, i < 4 → F' (f * 4 + i) = F (g * 4 + i)) → post (im, sh, F', G, T', V, U, mk, cp, bf)) :
    wpX_share post (im, sh, F, G, T, V, U, mk, cp, bf) (nI f) (nI g) :=
  ⟨5, ic_sh2l hf hg hfg hE H 4 0 F T rfl hI (fun _ _ => rfl) (fun i hi => absurd hi (by omega))⟩
theorem ic_ct2 {post : St2 → Prop} {im sh : Int32} {F0 G V mk cp bf : Nat → Int32} {f : Nat} (hf : f < 8)
    (H : ∀ F T U, ic_I F G T U → (∀ k, ¬ (f * 4 ≤ k ∧ k < f * 4 + 4) → F k = F0 k) → (∀ i, i < 4 → F (f * 4 + i) = -1) → post (im, sh, F, G, T, V, U, mk, cp, bf)) :
    ∀ (r j : Nat) (F T U : Nat → Int32), j + r = 4 → ic_I F G T U → (∀ k, ¬ (f * 4 ≤ k ∧ k < f * 4 + j) → F k = F0 k) → (∀ i, i < j → F (f * 4 + i) = -1) → wX_clearTable_2 post (nI f) (r + 1) (nI j) im sh F G T V U mk cp bf := by
  intro r
  induction r with
  | zero =>
    intro j F T U hj h1 h2 h3
    have e : j = 4 := by omega
    rw [e] at h2 h3 ⊢
    exact pk_le 4 4 (fun _ => H F T U h1 h2 h3) (fun z => absurd z (by omega))
  | succ r ih =>
    intro j F T U hj h1 h2 h3
    refine pk_le 4 j (fun z => absurd z (by omega)) (fun _ => ?_)
    have ef : (nI f * 4 + nI j).toNatClampNeg = f * 4 + j := by rw [ic_tj, nI_clamp (by omega)]
    have ha : f * 4 + j < 32 := by omega
    have step : ∀ T' U', ic_I (upd F (f * 4 + j) (-1)) G T' U' → vp_in (nI f * 4 + nI j) 32 ∧ ∀ F' : Nat → Int32, F' = upd F (f * 4 + j) (-1) → ∀ x : Int32, x = nI j + 1 → wX_clearTable_2 post (nI f) (r + 1) x im sh F' G T' V U' mk cp bf := by
      intro T' U' hI'
      refine ⟨pk_in (f * 4 + j) 32 ha (ic_tj f j), nm_e (nm_r (nI_1 j) (ih (j + 1) _ T' U' (by omega) hI' (fun k hk => ?_) (fun i hi => ?_)))⟩
      · rw [pk_un (show k ≠ f * 4 + j by omega)]
        exact h2 k (by omega)
      · by_cases e : i = j
        · rw [e, pk_us]
        · rw [pk_un (show f * 4 + i ≠ f * 4 + j by omega)]
          exact h3 i (by omega)
    refine ⟨pk_in (f * 4 + j) 32 ha (ic_tj f j), ?_⟩
    rw [ef]
    rcases h1.1 (f * 4 + j) ha with h | ⟨t, ht, h⟩
    · rw [h]
      refine ic_lt_neg (step T U ?_)
      rw [ic_upd_id h]
      exact h1
    · have hpos := ic_rf_pos ha h
      have hle := ic_rf_le F t
      obtain ⟨n, hn⟩ : ∃ n, ic_rf F t = n + 1 := ⟨ic_rf F t - 1, by omega⟩
      have hTt : T t = nI (n + 1) := by rw [h1.2.2.1 t ht, hn]
      rw [h]
      by_cases hn0 : n = 0
      · rw [hn0] at hTt hn
        refine ic_lt_last ht hTt h1.2.1 (fun i hi => ic_lv_of ha h hi) h1.2.2.2 (fun U' hU' => step _ U' (ic_I_rel (n := 0) h1 ha ht h hn rfl (ic_IU_c (fun x _ => ?_) hU')))
        unfold ic_rm
        congr 1
        rw [Bool.eq_iff_iff]
        simp
        omega
      · refine ic_lt_many ht (by omega) (by omega) hTt (step _ U (ic_I_rel h1 ha ht h hn rfl (ic_IU_c (fun x _ => ?_) h1.2.2.2)))
        rw [decide_eq_true (show 0 < n by omega), Bool.true_or, Bool.and_true]
theorem ic_clearTable {post : St2 → Prop} {im sh : Int32} {F G T V U mk cp bf : Nat → Int32} {f : Nat} (hI : ic_I F G T U) (hf : f < 8)
    (H : ∀ F' T' U', ic_I F' G T' U' → (∀ k, ¬ (f * 4 ≤ k ∧ k < f * 4 + 4) → F' k = F k) → (∀ i, i < 4 → F' (f * 4 + i) = -1) → post (im, sh, F', G, T', V, U', mk, cp, bf)) :
    wpX_clearTable post (im, sh, F, G, T, V, U, mk, cp, bf) (nI f) :=
  ⟨5, ic_ct2 hf H 4 0 F T U rfl hI (fun _ _ => rfl) (fun i hi => absurd hi (by omega))⟩
end
section
/-! the picture: row f, cluster c, what is said there; images i, snapshots s -/
def ic_K (i s : Nat) (m : Nat → Nat → Option Int32) (F G T V U : Nat → Int32) : Prop :=
  ic_I F G T U ∧ (∀ f c, f < 8 → c < 16 → ic_vl V (ic_en F G (f * 4 + c / 4) (c % 4)) = m f c) ∧ (∀ f, f < 8 → (i ≤ f ∧ f < 4 ∨ 4 + s ≤ f) → ∀ k, k < 4 → F (f * 4 + k) = -1)
theorem ic_K_c {i s : Nat} {m m' : Nat → Nat → Option Int32} {F G T V U : Nat → Int32} (h : ic_K i s m F G T V U) (e : ∀ f c, f < 8 → c < 16 → m f c = m' f c) : ic_K i s m' F G T V U :=
  ⟨h.1, fun f c hf hc => (h.2.1 f c hf hc).trans (e f c hf hc), h.2.2⟩
def ic_W (i : Nat) (m : Nat → Nat → Option Int32) (f c : Nat) : Int32 := (m f c).getD (if i = 2 then (m 0 c).getD 0 else 0)
def ic_set (m : Nat → Nat → Option Int32) (f c : Nat) (x : Option Int32) : Nat → Nat → Option Int32 := fun f' c' => if f' = f ∧ c' = c then x else m f' c'
def ic_row (m : Nat → Nat → Option Int32) (f : Nat) (r : Nat → Option Int32) : Nat → Nat → Option Int32 := fun f' c' => if f' = f then r c' else m f' c'
def ic_sd (x : Option Int32) : Int32 := if x.isSome then 1 else 0
theorem ic_K_set {i s f c : Nat} {m : Nat → Nat → Option Int32} {x : Option Int32} {F G T V U F' G' T' V' U' : Nat → Int32} (hK : ic_K i s m F G T V U) (hi : i = 1 ∨ i = 2) (hf : f = i - 1) (hc : c < 16) (hI' : ic_I F' G' T' U') (hfr : ∀ k, k ≠ f * 4 + c / 4 → F' k = F k)
    (hv : ∀ k j, k < 32 → j < 4 → ic_vl V' (ic_en F' G' k j) = if k = f * 4 + c / 4 ∧ j = c % 4 then x else ic_vl V (ic_en F G k j)) : ic_K i s (ic_set m f c x) F' G' T' V' U' := by
  refine ⟨hI', fun f' c' hf' hc' => ?_, fun f' hf' hz k hk => ?_⟩
  · rw [hv _ _ (by omega) (by omega)]
    unfold ic_set
    by_cases e : f' = f ∧ c' = c
    · rw [if_pos e, e.1, e.2, if_pos ⟨rfl, rfl⟩]
    · rw [if_neg e, if_neg (by omega)]
      exact hK.2.1 f' c' hf' hc'
  · rw [hfr _ (by omega)]
    exact hK.2.2 f' hf' hz k hk
theorem ic_K_rows {i s i' s' : Nat} {m m' : Nat → Nat → Option Int32} {F G T V U F' T' U' : Nat → Int32} (hK : ic_K i s m F G T V U) (hI' : ic_I F' G T' U')
    (hr : ∀ f, f < 8 → (∃ g, g < 8 ∧ (∀ k, k < 4 → F' (f * 4 + k) = F (g * 4 + k)) ∧ ∀ c, c < 16 → m' f c = m g c) ∨ ((∀ k, k < 4 → F' (f * 4 + k) = -1) ∧ ∀ c, c < 16 → m' f c = none))
    (hE : ∀ f, f < 8 → (i' ≤ f ∧ f < 4 ∨ 4 + s' ≤ f) → ∀ k, k < 4 → F' (f * 4 + k) = -1) : ic_K i' s' m' F' G T' V U' := by
  refine ⟨hI', fun f c hf hc => ?_, hE⟩
  rcases hr f hf with ⟨g, hg, h1, h2⟩ | ⟨h1, h2⟩
  · rw [h2 c hc, ← hK.2.1 g c hg hc, ic_en_c (c % 4) (h1 (c / 4) (by omega))]
  · rw [h2 c hc, ic_en_n _ (h1 (c / 4) (by omega)), ic_vl_n]
theorem ic_top1 {i : Nat} (hi : i = 1 ∨ i = 2) : nI i - 1 = nI (i - 1) := by
  rcases hi with h | h
  · rw [h]
    decide
  · rw [h]
    decide
theorem ic_top {post : Int32 → Prop} {sh : Int32} {F G T V U mk cp bf : Nat → Int32} {i : Nat} (hi : i = 1 ∨ i = 2) (H : post (nI (i - 1))) : wpX_top post (nI i, sh, F, G, T, V, U, mk, cp, bf) := by
  unfold wpX_top
  rw [← ic_top1 hi] at H
  exact H
theorem ic_lookUp {post : Int32 → Prop} {sh : Int32} {F G T V U mk cp bf : Nat → Int32} {i s f c : Nat} {m : Nat → Nat → Option Int32} (hK : ic_K i s m F G T V U) (hi : i = 1 ∨ i = 2) (hf : f < 8) (hc : c < 16) (H : post (ic_W i m f c)) :
    wpX_lookUp post (nI i, sh, F, G, T, V, U, mk, cp, bf) (nI f) (nI c) := by
  have hm := hK.2.1 f c hf hc
  have hv : ic_vg (ic_en F G (f * 4 + c / 4) (c % 4)) := ic_en_v hK.1.1 hK.1.2.1 (by omega) (by omega)
  have hv0 : ic_vg (ic_en F G (0 * 4 + c / 4) (c % 4)) := ic_en_v hK.1.1 hK.1.2.1 (by omega) (by omega)
  unfold wpX_lookUp
  refine ic_entry hK.1.1 hf hc ?_
  unfold ic_W at H
  rcases hi with h | h
  · rw [h] at H ⊢
    refine nm_r (e' := -1) (by decide) (Exists.intro 1 (br_t (by decide) (ic_wordOf hv ?_)))
    rw [hm]
    rw [if_neg (by decide)] at H
    exact H
  · rw [h] at H ⊢
    rw [if_pos rfl] at H
    refine nm_r (e' := 0) (by decide) (Exists.intro 2 (br_f (by decide) (br_c (fun z => ?_) (fun z => ic_wordOf hv ?_))))
    · refine ic_entry (f := 0) hK.1.1 (by omega) hc (nm_r (e' := -1) (by decide) (br_t (by decide) (ic_wordOf hv0 ?_)))
      rw [hK.2.1 0 c (by omega) hc]
      rw [z, ic_vl_n] at hm
      rw [← hm] at H
      exact H
    · rw [hm]
      cases e : m f c with
      | none =>
        rw [e] at hm
        exact absurd (ic_vl_none hm) z
      | some w =>
        rw [e] at H
        exact H
theorem ic_word {post : Int32 → Prop} {sh : Int32} {F G T V U mk cp bf : Nat → Int32} {i s c : Nat} {m : Nat → Nat → Option Int32} (hK : ic_K i s m F G T V U) (hi : i = 1 ∨ i = 2) (hc : c < 16) (H : post (ic_W i m (i - 1) c)) :
    wpX_word post (nI i, sh, F, G, T, V, U, mk, cp, bf) (nI c) := by
  unfold wpX_word
  exact ic_top hi (ic_lookUp hK hi (by omega) hc H)
theorem ic_read {post : Int32 → Prop} {sh : Int32} {F G T V U mk cp bf : Nat → Int32} {i s c : Nat} {m : Nat → Nat → Option Int32} (hK : ic_K i s m F G T V U) (hi : i = 1 ∨ i = 2) (hc : c < 16) (H : post (ic_W i m (i - 1) c)) :
    wpX_read post (nI i, sh, F, G, T, V, U, mk, cp, bf) (nI c) := by
  unfold wpX_read
  exact ic_bad hc (br_t rfl (ic_word hK hi hc H))
theorem ic_said {post : Int32 → Prop} {sh : Int32} {F G T V U mk cp bf : Nat → Int32} {i s c : Nat} {m : Nat → Nat → Option Int32} (hK : ic_K i s m F G T V U) (hi : i = 1 ∨ i = 2) (hc : c < 16) (H : post (ic_sd (m (i - 1) c))) :
    wpX_said post (nI i, sh, F, G, T, V, U, mk, cp, bf) (nI c) := by
  unfold wpX_said
  refine ic_bad hc (br_t rfl (ic_top hi (ic_entry hK.1.1 (by omega) hc (br_c (fun z => ?_) (fun z => ?_)))))
  · have hm := hK.2.1 (i - 1) c (by omega) hc
    rw [z, ic_vl_n] at hm
    rw [← hm] at H
    exact H
  · have hm := hK.2.1 (i - 1) c (by omega) hc
    cases e : m (i - 1) c with
    | none =>
      rw [e] at hm
      exact absurd (ic_vl_none hm) z
    | some w =>
      rw [e] at H
      exact H
theorem ic_noShot {post : Int32 → Prop} {im : Int32} {F G T V U mk cp bf : Nat → Int32} {s q : Nat} (hq : q < s) (hs : s ≤ 4) (H : post 0) : wpX_noShot post (im, nI s, F, G, T, V, U, mk, cp, bf) (nI q) :=
  br_f (nI_pos (by omega)) (br_t (nI_lt hq (by omega)) H)
theorem ic_4s (s : Nat) : 4 + nI s = nI (4 + s) := by
  rw [show (4 : Int32) = nI 4 from rfl, nI_add]
theorem ic_peek {post : Int32 → Prop} {F G T V U mk cp bf : Nat → Int32} {i s q c : Nat} {m : Nat → Nat → Option Int32} (hK : ic_K i s m F G T V U) (hi : i = 1 ∨ i = 2) (hq : q < s) (hs : s ≤ 4) (hc : c < 16) (H : post (ic_W i m (4 + q) c)) :
    wpX_peek post (nI i, nI s, F, G, T, V, U, mk, cp, bf) (nI q) (nI c) := by
  unfold wpX_peek
  refine ic_noShot hq hs (br_t rfl (ic_bad hc (br_t rfl ?_)))
  rw [ic_4s]
  exact ic_lookUp hK hi (by omega) hc H
theorem ic_write {post : Int32 → St2 → Prop} {sh w : Int32} {F G T V U mk cp bf : Nat → Int32} {i s c : Nat} {m : Nat → Nat → Option Int32} (hK : ic_K i s m F G T V U) (hi : i = 1 ∨ i = 2) (hc : c < 16)
    (H : ∀ F' G' T' V' U' mk', ic_K i s (ic_set m (i - 1) c (some w)) F' G' T' V' U' → post (nI (ic_W i m (i - 1) c != w).toNat) (nI i, sh, F', G', T', V', U', mk', cp, bf)) :
    wpX_write post (nI i, sh, F, G, T, V, U, mk, cp, bf) (nI c) w := by
  unfold wpX_write
  refine ic_bad hc (br_t rfl (ic_word hK hi hc (ic_top hi (ic_say hK.1 (by omega) hc (fun F' G' T' V' U' hI' hfr hv => ?_)))))
  have hK' := ic_K_set hK hi rfl hc hI' hfr hv
  refine br_c (fun z => ?_) (fun z => And.intro (pk_in c 16 hc) (nm_e ?_))
  · have h := H F' G' T' V' U' mk hK'
    rw [z, bne_self_eq_false] at h
    exact h
  · have h := H F' G' T' V' U' (upd mk (nI c).toNatClampNeg 1) hK'
    rw [bne_iff_ne.mpr z] at h
    exact h
theorem ic_fi29 {post : Int32 → St2 → Prop} {sh w : Int32} {cp bf : Nat → Int32} {i s c d : Nat} {m : Nat → Nat → Option Int32} (hi : i = 1 ∨ i = 2) (hd : d < 16)
    (H : ∀ F G T V U mk, ic_K i s (ic_row m (i - 1) (fun k => if c ≤ k ∧ k < d + 1 then some w else m (i - 1) k)) F G T V U → post (nI (ic_cn (fun k => decide (c ≤ k) && (ic_W i m (i - 1) k != w)) (d + 1))) (nI i, sh, F, G, T, V, U, mk, cp, bf)) :
    ∀ (r k : Nat) (F G T V U mk : Nat → Int32), k + r = d + 1 → c ≤ k → ic_K i s (ic_row m (i - 1) (fun k' => if c ≤ k' ∧ k' < k then some w else m (i - 1) k')) F G T V U →
      wX_fill_29 post (nI d) w (r + 1) (nI (ic_cn (fun k => decide (c ≤ k) && (ic_W i m (i - 1) k != w)) k)) (nI k) (nI i) sh F G T V U mk cp bf := by
  intro r
  induction r with
  | zero =>
    intro k F G T V U mk hk hck hK
    have e : k = d + 1 := by omega
    rw [e] at hK ⊢
    exact pk_lt d (d + 1) (fun _ => H F G T V U mk hK) (fun z => absurd z (by omega))
  | succ r ih =>
    intro k F G T V U mk hk hck hK
    refine pk_lt d k (fun z => absurd z (by omega)) (fun _ => ic_write hK hi (by omega) (fun F' G' T' V' U' mk' hK' => nm_r ?_ (nm_r (nI_1 k) (ih (k + 1) F' G' T' V' U' mk' (by omega) (by omega) (ic_K_c hK' (fun f c' hf hc' => ?_))))))
    · rw [nI_add, ic_cn_s, decide_eq_true hck, Bool.true_and]
      have e : ic_W i (ic_row m (i - 1) (fun k' => if c ≤ k' ∧ k' < k then some w else m (i - 1) k')) (i - 1) k = ic_W i m (i - 1) k := by
        unfold ic_W ic_row
        dsimp only
        rw [if_pos rfl, if_neg (show ¬ (c ≤ k ∧ k < k) by omega)]
        rcases hi with h | h
        · rw [h]
          rfl
        · rw [h]
          rfl
      rw [e]
    · unfold ic_set ic_row
      dsimp only
      by_cases e : f = i - 1
      · rw [if_pos e, if_pos e]
        by_cases e2 : c' = k
        · rw [if_pos ⟨e, e2⟩, if_pos (by omega)]
        · rw [if_neg (fun z => e2 z.2)]
          by_cases e3 : c ≤ c' ∧ c' < k
          · rw [if_pos e3, if_pos (by omega)]
          · rw [if_neg e3, if_neg (by omega)]
      · rw [if_neg e, if_neg e, if_neg (fun z => e z.1)]
theorem ic_fill {post : Int32 → St2 → Prop} {sh w : Int32} {F G T V U mk cp bf : Nat → Int32} {i s c d : Nat} {m : Nat → Nat → Option Int32} (hK : ic_K i s m F G T V U) (hi : i = 1 ∨ i = 2) (hcd : c ≤ d) (hd : d < 16)
    (H : ∀ F G T V U mk, ic_K i s (ic_row m (i - 1) (fun k => if c ≤ k ∧ k < d + 1 then some w else m (i - 1) k)) F G T V U → post (nI (ic_cn (fun k => decide (c ≤ k) && (ic_W i m (i - 1) k != w)) (d + 1))) (nI i, sh, F, G, T, V, U, mk, cp, bf)) :
    wpX_fill post (nI i, sh, F, G, T, V, U, mk, cp, bf) (nI c) (nI d) w := by
  unfold wpX_fill
  refine ic_bad (by omega) (br_t rfl (ic_bad hd (br_t rfl (br_t (nI_le hcd (by omega)) (Exists.intro (d + 1 - c + 1) ?_)))))
  have h := ic_fi29 hi hd H (d + 1 - c) c F G T V U mk (by omega) (Nat.le_refl c) (ic_K_c hK (fun f c' hf hc' => ?_))
  · have e : ic_cn (fun k => decide (c ≤ k) && (ic_W i m (i - 1) k != w)) c = 0 := by
      have e1 : ic_cn (fun k => decide (c ≤ k) && (ic_W i m (i - 1) k != w)) c = ic_cn (fun _ => false) c := ic_cn_congr (fun k hk => by
        show (decide (c ≤ k) && (ic_W i m (i - 1) k != w)) = false
        rw [decide_eq_false (by omega), Bool.false_and])
      rw [e1]
      refine Nat.eq_zero_of_not_pos (fun z => ?_)
      obtain ⟨a, _, ha⟩ := ic_cn_ex z
      exact absurd ha (by decide)
    rw [e] at h
    exact h
  · unfold ic_row
    dsimp only
    by_cases e : f = i - 1
    · rw [if_pos e, if_neg (by omega), e]
    · rw [if_neg e]
theorem ic_overlay {post : Int32 → St2 → Prop} {F G T V U mk cp bf : Nat → Int32} {m : Nat → Nat → Option Int32} (hK : ic_K 1 0 m F G T V U) (H : ic_K 2 0 m F G T V U → post (nI 2) (nI 2, nI 0, F, G, T, V, U, mk, cp, bf)) :
    wpX_overlay post (nI 1, nI 0, F, G, T, V, U, mk, cp, bf) :=
  br_f (by decide) (br_t (by decide) (nm_r (e' := nI 2) (by decide) (H ⟨hK.1, hK.2.1, fun f hf hz => hK.2.2 f hf (by omega)⟩)))
theorem ic_snapshot {post : Int32 → St2 → Prop} {F G T V U mk cp bf : Nat → Int32} {i s : Nat} {m : Nat → Nat → Option Int32} (hK : ic_K i s m F G T V U) (hi : i = 1 ∨ i = 2) (hs : s < 4)
    (H : ∀ F' T', ic_K i (s + 1) (ic_row m (4 + s) (m (i - 1))) F' G T' V U → post (nI s) (nI i, nI (s + 1), F', G, T', V, U, mk, cp, bf)) :
    wpX_snapshot post (nI i, nI s, F, G, T, V, U, mk, cp, bf) := by
  unfold wpX_snapshot
  refine br_f (fun z => ?_) (ic_top hi ?_)
  · have : s = 4 := (nI_eq (b := 4) (by omega) (by omega)).mp z
    omega
  · rw [ic_4s]
    refine ic_share hK.1 (by omega) (by omega) (by omega) (hK.2.2 (4 + s) (by omega) (Or.inr (Nat.le_refl _))) (fun F' T' hI' h1 h2 => nm_r (nI_1 s) ?_)
    rw [nI_pred]
    refine H F' T' (ic_K_rows hK hI' (fun f hf => Or.inl ?_) (fun f hf hz k hk => ?_))
    · by_cases e : f = 4 + s
      · refine ⟨i - 1, by omega, fun k hk => ?_, fun c hc => ?_⟩
        · rw [e]
          exact h2 k hk
        · unfold ic_row
          rw [if_pos e]
      · refine ⟨f, hf, fun k hk => h1 _ (by omega), fun c hc => ?_⟩
        unfold ic_row
        rw [if_neg e]
    · rw [h1 _ (by omega)]
      exact hK.2.2 f hf (by omega) k hk
theorem ic_dc34 {post : Int32 → St2 → Prop} {sh x2 z0 : Int32} {F G T V U mk cp bf : Nat → Int32} {i s c : Nat} {m : Nat → Nat → Option Int32} (hK : ic_K i s m F G T V U) (hi : i = 1 ∨ i = 2) (hc : c < 16)
    (H : ∀ F' G' T' U' mk', ic_K i s (ic_set m (i - 1) c none) F' G' T' V U' → post z0 (nI i, sh, F', G', T', V, U', mk', cp, bf)) :
    wX_discard_34 post (nI c) x2 z0 (nI i) sh F G T V U mk cp bf := by
  unfold wX_discard_34
  refine ic_top hi (ic_sayNothing hK.1 (by omega) hc (fun F' G' T' U' hI' hfr hv => ?_))
  have hK' := ic_K_set hK hi rfl hc hI' hfr hv
  exact ic_word hK' hi hc (br_c (fun z => H F' G' T' U' mk hK') (fun z => And.intro (pk_in c 16 hc) (nm_e (H F' G' T' U' _ hK'))))
theorem ic_discard {post : Int32 → St2 → Prop} {sh : Int32} {F G T V U mk cp bf : Nat → Int32} {i s c : Nat} {m : Nat → Nat → Option Int32} (hK : ic_K i s m F G T V U) (hi : i = 1 ∨ i = 2) (hc : c < 16)
    (H : ∀ F' G' T' U' mk', ic_K i s (ic_set m (i - 1) c none) F' G' T' V U' → post (ic_sd (m (i - 1) c)) (nI i, sh, F', G', T', V, U', mk', cp, bf)) :
    wpX_discard post (nI i, sh, F, G, T, V, U, mk, cp, bf) (nI c) := by
  unfold wpX_discard
  have hm := hK.2.1 (i - 1) c (by omega) hc
  refine ic_bad hc (br_t rfl (ic_word hK hi hc (ic_top hi (ic_entry hK.1.1 (by omega) hc (br_c (fun z => ic_dc34 hK hi hc ?_) (fun z => ic_dc34 hK hi hc ?_))))))
  · rw [z, ic_vl_n] at hm
    rw [← hm] at H
    exact H
  · cases e : m (i - 1) c with
    | none =>
      rw [e] at hm
      exact absurd (ic_vl_none hm) z
    | some w =>
      rw [e] at H
      exact H
theorem ic_kw2 {post : St2 → Prop} {sh : Int32} {F G T V U mk cp : Nat → Int32} {i s : Nat} {m : Nat → Nat → Option Int32} (hK : ic_K i s m F G T V U) (hi : i = 1 ∨ i = 2)
    (H : ∀ bf, (∀ c, c < 16 → bf c = ic_W i m (i - 1) c) → post (nI i, sh, F, G, T, V, U, mk, cp, bf)) :
    ∀ (r k : Nat) (bf : Nat → Int32), k + r = 16 → (∀ c, c < k → bf c = ic_W i m (i - 1) c) → wX_keepWords_2 post (nI i) sh (r + 1) (nI k) F G T V U mk cp bf := by
  intro r
  induction r with
  | zero =>
    intro k bf hk hb
    have e : k = 16 := by omega
    rw [e] at hb ⊢
    exact pk_le 16 16 (fun _ => H bf hb) (fun z => absurd z (by omega))
  | succ r ih =>
    intro k bf hk hb
    refine pk_le 16 k (fun z => absurd z (by omega)) (fun _ => ic_word hK hi (by omega) (And.intro (pk_in k 16 (by omega)) (nm_r (e' := upd bf k (ic_W i m (i - 1) k)) (by rw [nI_clamp (show k < 2 ^ 31 by omega)]) (nm_r (nI_1 k) (ih (k + 1) _ (by omega) (fun c hc => ?_))))))
    by_cases e : c = k
    · rw [e, pk_us]
    · rw [pk_un e]
      exact hb c (by omega)
theorem ic_keepWords {post : St2 → Prop} {sh : Int32} {F G T V U mk cp bf : Nat → Int32} {i s : Nat} {m : Nat → Nat → Option Int32} (hK : ic_K i s m F G T V U) (hi : i = 1 ∨ i = 2)
    (H : ∀ bf, (∀ c, c < 16 → bf c = ic_W i m (i - 1) c) → post (nI i, sh, F, G, T, V, U, mk, cp, bf)) : wpX_keepWords post (nI i, sh, F, G, T, V, U, mk, cp, bf) :=
  ⟨17, ic_kw2 hK hi H 16 0 bf rfl (fun c hc => absurd hc (by omega))⟩
theorem ic_mc4 {post : Int32 → St2 → Prop} {sh : Int32} {F G T V U cp bf : Nat → Int32} {i s : Nat} {m : Nat → Nat → Option Int32} (hK : ic_K i s m F G T V U) (hi : i = 1 ∨ i = 2)
    (H : ∀ mk, post (nI (ic_cn (fun c => ic_W i m (i - 1) c != bf c) 16)) (nI i, sh, F, G, T, V, U, mk, cp, bf)) :
    ∀ (r k : Nat) (mk : Nat → Int32), k + r = 16 → wX_markChanges_4 post (nI i) sh (r + 1) (nI (ic_cn (fun c => ic_W i m (i - 1) c != bf c) k)) (nI k) F G T V U mk cp bf := by
  intro r
  induction r with
  | zero =>
    intro k mk hk
    have e : k = 16 := by omega
    rw [e]
    exact pk_le 16 16 (fun _ => H mk) (fun z => absurd z (by omega))
  | succ r ih =>
    intro k mk hk
    have ecl : (nI k).toNatClampNeg = k := nI_clamp (by omega)
    refine pk_le 16 k (fun z => absurd z (by omega)) (fun _ => ic_word hK hi (by omega) (And.intro (pk_in k 16 (by omega)) ?_))
    rw [ecl]
    refine br_c (fun z => nm_r (nI_1 k) ?_) (fun z => And.intro (pk_in k 16 (by omega)) (nm_e (nm_r ?_ (nm_r (nI_1 k) (ih (k + 1) _ (by omega))))))
    · have h := ih (k + 1) mk (by omega)
      rw [ic_cn_s, z, bne_self_eq_false, ic_f0, Nat.add_zero] at h
      exact h
    · rw [ic_cn_s, bne_iff_ne.mpr z, ic_t1]
      exact nI_1 _
theorem ic_markChanges {post : Int32 → St2 → Prop} {sh : Int32} {F G T V U mk cp bf : Nat → Int32} {i s : Nat} {m : Nat → Nat → Option Int32} (hK : ic_K i s m F G T V U) (hi : i = 1 ∨ i = 2)
    (H : ∀ mk, post (nI (ic_cn (fun c => ic_W i m (i - 1) c != bf c) 16)) (nI i, sh, F, G, T, V, U, mk, cp, bf)) : wpX_markChanges post (nI i, sh, F, G, T, V, U, mk, cp, bf) :=
  ⟨17, ic_mc4 hK hi H 16 0 mk rfl⟩
theorem ic_revert {post : Int32 → St2 → Prop} {F G T V U mk cp bf : Nat → Int32} {i s q : Nat} {m : Nat → Nat → Option Int32} (hK : ic_K i s m F G T V U) (hi : i = 1 ∨ i = 2) (hq : q < s) (hs : s ≤ 4)
    (H : ∀ F' T' U' mk' bf', ic_K i s (ic_row m (i - 1) (m (4 + q))) F' G T' V U' → post (nI (ic_cn (fun c => ic_W i (ic_row m (i - 1) (m (4 + q))) (i - 1) c != ic_W i m (i - 1) c) 16)) (nI i, nI s, F', G, T', V, U', mk', cp, bf')) :
    wpX_revert post (nI i, nI s, F, G, T, V, U, mk, cp, bf) (nI q) := by
  unfold wpX_revert
  refine ic_noShot hq hs (br_t rfl (ic_keepWords hK hi (fun bf' hb => ic_top hi (ic_clearTable hK.1 (by omega) (fun F1 T1 U1 hI1 h1 h2 => ic_top hi ?_)))))
  rw [ic_4s]
  refine ic_share hI1 (by omega) (by omega) (by omega) h2 (fun F' T' hI' h3 h4 => ?_)
  have hK' : ic_K i s (ic_row m (i - 1) (m (4 + q))) F' G T' V U1 := by
    refine ic_K_rows hK hI' (fun f hf => Or.inl ?_) (fun f hf hz k hk => ?_)
    · by_cases e : f = i - 1
      · refine ⟨4 + q, by omega, fun k hk => ?_, fun c hc => ?_⟩
        · rw [e, h4 k hk]
          exact h1 _ (by omega)
        · unfold ic_row
          rw [if_pos e]
      · refine ⟨f, hf, fun k hk => (h3 _ (by omega)).trans (h1 _ (by omega)), fun c hc => ?_⟩
        unfold ic_row
        rw [if_neg e]
    · rw [h3 _ (by omega), h1 _ (by omega)]
      exact hK.2.2 f hf hz k hk
  refine ic_markChanges hK' hi (fun mk' => ?_)
  have e : ic_cn (fun c => ic_W i (ic_row m (i - 1) (m (4 + q))) (i - 1) c != bf' c) 16 = ic_cn (fun c => ic_W i (ic_row m (i - 1) (m (4 + q))) (i - 1) c != ic_W i m (i - 1) c) 16 := ic_cn_congr (fun c hc => by
    show (ic_W i (ic_row m (i - 1) (m (4 + q))) (i - 1) c != bf' c) = (ic_W i (ic_row m (i - 1) (m (4 + q))) (i - 1) c != ic_W i m (i - 1) c)
    rw [hb c hc])
  rw [e]
  exact H F' T' U1 mk' bf' hK'
/-- what is said once the first snapshot is forgotten -/
def ic_fg (s : Nat) (m : Nat → Nat → Option Int32) : Nat → Nat → Option Int32 := fun f c => if f < 4 then m f c else if f < 4 + (s - 1) then m (f + 1) c else none
theorem ic_fo34 {post : Int32 → St2 → Prop} {im : Int32} {F0 G T V U mk cp bf : Nat → Int32} {s' : Nat} (hs : s' ≤ 3) (hE : ∀ k, k < 4 → F0 (16 + k) = -1)
    (H : ∀ F, ic_I F G T U → (∀ x, x < 16 → F x = F0 x) → (∀ x, 16 ≤ x → x < 16 + 4 * s' → F x = F0 (x + 4)) → (∀ x, 16 + 4 * s' ≤ x → x < 20 + 4 * s' → F x = -1) → (∀ x, 20 + 4 * s' ≤ x → F x = F0 x) → post (nI s') (im, nI s', F, G, T, V, U, mk, cp, bf)) :
    ∀ (r k : Nat) (F : Nat → Int32), k + r = 16 + 4 * s' → 16 ≤ k → ic_I F G T U → (∀ x, x < 16 → F x = F0 x) → (∀ x, 16 ≤ x → x < k → F x = F0 (x + 4)) → (∀ x, k ≤ x → x < k + 4 → F x = -1) → (∀ x, k + 4 ≤ x → F x = F0 x) →
      wX_forget_34 post im (nI s') (r + 1) (nI k) F G T V U mk cp bf := by
  have e44 : (4 + nI s') * 4 = nI (16 + 4 * s') := by
    rw [ic_4s, show (4 : Int32) = nI 4 from rfl, pk_mul, show (4 + s') * 4 = 16 + 4 * s' by omega]
  intro r
  induction r with
  | zero =>
    intro k F hk hk16 hI h1 h2 h3 h4
    have e : k = 16 + 4 * s' := by omega
    refine pk_le (16 + 4 * s') k (fun _ => ?_) (fun z => absurd z (by omega)) e44
    rw [e] at h2 h3 h4
    exact H F hI h1 h2 (fun x hx hx2 => h3 x hx (by omega)) (fun x hx => h4 x (by omega))
  | succ r ih =>
    intro k F hk hk16 hI h1 h2 h3 h4
    have ek : nI k + 4 = nI (k + 4) := by rw [show (4 : Int32) = nI 4 from rfl, nI_add]
    refine pk_le (16 + 4 * s') k (fun z => absurd z (by omega)) (fun _ => ?_) e44
    have c1 : (nI k).toNatClampNeg = k := nI_clamp (by omega)
    have c2 : (nI k + 4).toNatClampNeg = k + 4 := by rw [ek, nI_clamp (by omega)]
    refine ⟨pk_in (k + 4) 32 (by omega) ek, pk_in k 32 (by omega), nm_r (e' := upd F k (F (k + 4))) (by rw [c1, c2]) ⟨pk_in (k + 4) 32 (by omega) ek, nm_r (e' := upd (upd F k (F (k + 4))) (k + 4) (-1)) (by rw [c2]) (nm_r (nI_1 k) (ih (k + 1) _ (by omega) (by omega) (ic_I_mv hI (by omega) (by omega) (by omega) (h3 k (by omega) (by omega))) (fun x hx => ?_) (fun x hx hx2 => ?_) (fun x hx hx2 => ?_) (fun x hx => ?_)))⟩⟩
    · rw [pk_un (by omega), pk_un (by omega)]
      exact h1 x hx
    · rw [pk_un (by omega)]
      by_cases e : x = k
      · rw [e, pk_us]
        exact h4 _ (by omega)
      · rw [pk_un e]
        exact h2 x hx (by omega)
    · by_cases e : x = k + 4
      · rw [e, pk_us]
      · rw [pk_un e, pk_un (by omega)]
        exact h3 x (by omega) (by omega)
    · rw [pk_un (by omega), pk_un (by omega)]
      exact h4 x (by omega)
theorem ic_forget {post : Int32 → St2 → Prop} {F G T V U mk cp bf : Nat → Int32} {i s : Nat} {m : Nat → Nat → Option Int32} (hK : ic_K i s m F G T V U) (hi : i = 1 ∨ i = 2) (hs1 : 1 ≤ s) (hs : s ≤ 4)
    (H : ∀ F' T' U', ic_K i (s - 1) (ic_fg s m) F' G T' V U' → post (nI (s - 1)) (nI i, nI (s - 1), F', G, T', V, U', mk, cp, bf)) :
    wpX_forget post (nI i, nI s, F, G, T, V, U, mk, cp, bf) (nI 0) := by
  unfold wpX_forget
  refine ic_noShot (by omega) hs (br_t rfl ?_)
  rw [ic_4s]
  refine ic_clearTable hK.1 (by omega) (fun F1 T1 U1 hI1 h1 h2 => nm_r (e' := nI (s - 1)) (pk_sub (b := 1) hs1) (nm_r (e' := nI 16) (by decide) (Exists.intro (4 * (s - 1) + 1) ?_)))
  refine ic_fo34 (F0 := F1) (by omega) (fun k hk => h2 k hk) (fun F' hI' g1 g2 g3 g4 => ?_) (4 * (s - 1)) 16 F1 (by omega) (by omega) hI1 (fun _ _ => rfl) (fun x hx hx2 => absurd hx2 (by omega)) (fun x hx hx2 => ?_) (fun _ _ => rfl)
  · refine H F' T1 U1 (ic_K_rows hK hI' (fun f hf => ?_) (fun f hf hz k hk => ?_))
    · by_cases e : f < 4
      · refine Or.inl ⟨f, hf, fun k hk => (g1 _ (by omega)).trans (h1 _ (by omega)), fun c hc => ?_⟩
        unfold ic_fg
        rw [if_pos e]
      · by_cases e2 : f < 4 + (s - 1)
        · refine Or.inl ⟨f + 1, by omega, fun k hk => ?_, fun c hc => ?_⟩
          · rw [g2 _ (by omega) (by omega), show f * 4 + k + 4 = (f + 1) * 4 + k by omega]
            exact h1 _ (by omega)
          · unfold ic_fg
            rw [if_neg e, if_pos e2]
        · refine Or.inr ⟨fun k hk => ?_, fun c hc => ?_⟩
          · by_cases e3 : f = 4 + (s - 1)
            · exact g3 _ (by omega) (by omega)
            · rw [g4 _ (by omega), h1 _ (by omega)]
              exact hK.2.2 f hf (by omega) k hk
          · unfold ic_fg
            rw [if_neg e, if_neg e2]
    · by_cases e : f < 4
      · rw [g1 _ (by omega), h1 _ (by omega)]
        exact hK.2.2 f hf (by omega) k hk
      · by_cases e3 : f = 4 + (s - 1)
        · exact g3 _ (by omega) (by omega)
        · rw [g4 _ (by omega), h1 _ (by omega)]
          exact hK.2.2 f hf (by omega) k hk
  · have := h2 (x - 16) (by omega)
    rw [show (4 + 0) * 4 + (x - 16) = x by omega] at this
    exact this
end
section
/-! the rest of the class: the constructor, commit, pull, digest -/
theorem ic_commit {post : Int32 → St2 → Prop} {F G T V U mk cp bf : Nat → Int32} (H : post (-4) (nI 2, nI 1, F, G, T, V, U, mk, cp, bf)) : wpX_commit post (nI 2, nI 1, F, G, T, V, U, mk, cp, bf) :=
  br_f (by decide) (br_f (by decide) H)
theorem ic_pu82 {post : Int32 → St2 → Prop} {sh : Int32} {F0 G T V U mk cp bf : Nat → Int32}
    (H : ∀ F, ic_I F G T U → (∀ k, k < 4 → F k = F0 (4 + k)) → (∀ k, k < 4 → F (4 + k) = -1) → (∀ x, 8 ≤ x → F x = F0 x) → post (nI 1) (nI 1, sh, F, G, T, V, U, mk, cp, bf)) :
    ∀ (r j : Nat) (F : Nat → Int32), j + r = 4 → ic_I F G T U → (∀ k, k < j → F k = F0 (4 + k)) → (∀ k, j ≤ k → k < 4 → F k = -1) → (∀ k, k < j → F (4 + k) = -1) → (∀ k, j ≤ k → k < 4 → F (4 + k) = F0 (4 + k)) → (∀ x, 8 ≤ x → F x = F0 x) →
      wX_pull_82 post (nI 0) (nI 2) sh (r + 1) (nI j) F G T V U mk cp bf := by
  intro r
  induction r with
  | zero =>
    intro j F hj hI h1 h2 h3 h4 h5
    have e : j = 4 := by omega
    rw [e] at h1 h2 h3 h4 ⊢
    exact pk_le 4 4 (fun _ => nm_r (e' := nI 1) (by decide) (H F hI h1 h3 h5)) (fun z => absurd z (by omega))
  | succ r ih =>
    intro j F hj hI h1 h2 h3 h4 h5
    have e1 : nI (2 - 1) * 4 + nI j = nI (4 + j) := (ic_tj (2 - 1) j).trans (congrArg nI (by omega))
    have e0 : nI 0 * 4 + nI j = nI j := (ic_tj 0 j).trans (congrArg nI (by omega))
    have c1 : (nI (2 - 1) * 4 + nI j).toNatClampNeg = 4 + j := by rw [e1, nI_clamp (by omega)]
    have c0 : (nI 0 * 4 + nI j).toNatClampNeg = j := by rw [e0, nI_clamp (by omega)]
    refine pk_le 4 j (fun z => absurd z (by omega)) (fun _ => ic_top (i := 2) (Or.inr rfl) ⟨pk_in (4 + j) 32 (by omega) e1, pk_in j 32 (by omega) e0, nm_r (e' := upd F j (F (4 + j))) (by rw [c0, c1]) (ic_top (i := 2) (Or.inr rfl) (And.intro (pk_in (4 + j) 32 (by omega) e1) (nm_r (e' := upd (upd F j (F (4 + j))) (4 + j) (-1)) (by rw [c1]) (nm_r (nI_1 j) (ih (j + 1) _ (by omega) (ic_I_mv hI (by omega) (by omega) (by omega) (h2 j (by omega) (by omega))) (fun k hk => ?_) (fun k hk hk2 => ?_) (fun k hk => ?_) (fun k hk hk2 => ?_) (fun x hx => ?_))))))⟩)
    · rw [pk_un (by omega)]
      by_cases e : k = j
      · rw [e, pk_us]
        exact h4 j (by omega) (by omega)
      · rw [pk_un e]
        exact h1 k (by omega)
    · rw [pk_un (by omega), pk_un (by omega)]
      exact h2 k (by omega) hk2
    · by_cases e : k = j
      · rw [e, pk_us]
      · rw [pk_un (by omega), pk_un (by omega)]
        exact h3 k (by omega)
    · rw [pk_un (by omega), pk_un (by omega)]
      exact h4 k (by omega) hk2
    · rw [pk_un (by omega), pk_un (by omega)]
      exact h5 x hx
def ic_pl (m : Nat → Nat → Option Int32) : Nat → Nat → Option Int32 := fun f c => if f = 0 then (m 1 c).or (m 0 c) else if f = 1 then none else m f c
def ic_pm (m : Nat → Nat → Option Int32) (k : Nat) : Nat → Nat → Option Int32 := fun f c => if f = 1 ∧ c < k then (m 1 c).or (m 0 c) else m f c
theorem ic_pm_set {m : Nat → Nat → Option Int32} {k : Nat} {x : Option Int32} (h : x = (m 1 k).or (m 0 k)) (f c : Nat) : ic_set (ic_pm m k) 1 k x f c = ic_pm m (k + 1) f c := by
  unfold ic_set ic_pm
  by_cases e : f = 1 ∧ c = k
  · rw [if_pos e, if_pos (by omega), h, e.2]
  · rw [if_neg e]
    by_cases e2 : f = 1 ∧ c < k
    · rw [if_pos e2, if_pos (by omega)]
    · rw [if_neg e2, if_neg (by omega)]
theorem ic_pm_stay {m : Nat → Nat → Option Int32} {k : Nat} (h : m 1 k = (m 1 k).or (m 0 k)) (f c : Nat) : ic_pm m k f c = ic_pm m (k + 1) f c := by
  unfold ic_pm
  by_cases e : f = 1 ∧ c = k
  · rw [if_neg (by omega), if_pos (by omega), e.1, e.2]
    exact h
  · by_cases e2 : f = 1 ∧ c < k
    · rw [if_pos e2, if_pos (by omega)]
    · rw [if_neg e2, if_neg (by omega)]
theorem ic_pu20 {post : Int32 → St2 → Prop} {sh : Int32} {mk cp bf : Nat → Int32} {s : Nat} {m : Nat → Nat → Option Int32}
    (H : ∀ F G T V U, ic_K 1 s (ic_pl m) F G T V U → post (nI 1) (nI 1, sh, F, G, T, V, U, mk, cp, bf)) :
    ∀ (r k : Nat) (F G T V U : Nat → Int32), k + r = 16 → ic_K 2 s (ic_pm m k) F G T V U → wX_pull_20 post (nI 0) (r + 1) (nI k) (nI 2) sh F G T V U mk cp bf := by
  intro r
  induction r with
  | zero =>
    intro k F G T V U hk hK
    have e : k = 16 := by omega
    rw [e] at hK ⊢
    refine pk_le 16 16 (fun _ => ic_clearTable (f := 0) hK.1 (by omega) (fun F1 T1 U1 hI1 h1 h2 => Exists.intro 5 (ic_pu82 (F0 := F1) (fun F' hI' g1 g2 g3 => ?_) 4 0 F1 rfl hI1 (fun k hk => absurd hk (by omega)) (fun k _ hk => ?_) (fun k hk => absurd hk (by omega)) (fun _ _ _ => rfl) (fun _ _ => rfl)))) (fun z => absurd z (by omega))
    · refine H F' G T1 V U1 (ic_K_rows hK hI' (fun f hf => ?_) (fun f hf hz k hk => ?_))
      · by_cases e0 : f = 0
        · refine Or.inl ⟨1, by omega, fun k hk => ?_, fun c hc => ?_⟩
          · rw [show f * 4 + k = k by omega, g1 k hk, show 1 * 4 + k = 4 + k by omega]
            exact h1 _ (by omega)
          · unfold ic_pl ic_pm
            rw [if_pos e0, if_pos ⟨rfl, hc⟩]
        · by_cases e1 : f = 1
          · refine Or.inr ⟨fun k hk => ?_, fun c hc => ?_⟩
            · rw [show f * 4 + k = 4 + k by omega]
              exact g2 k hk
            · unfold ic_pl
              rw [if_neg e0, if_pos e1]
          · refine Or.inl ⟨f, hf, fun k hk => (g3 _ (by omega)).trans (h1 _ (by omega)), fun c hc => ?_⟩
            unfold ic_pl ic_pm
            rw [if_neg e0, if_neg e1, if_neg (fun z => e1 z.1)]
      · by_cases e1 : f = 1
        · rw [show f * 4 + k = 4 + k by omega]
          exact g2 k hk
        · rw [g3 _ (by omega), h1 _ (by omega)]
          exact hK.2.2 f hf (by omega) k hk
    · have := h2 k hk
      rw [show 0 * 4 + k = k by omega] at this
      exact this
  | succ r ih =>
    intro k F G T V U hk hK
    have hk16 : k < 16 := by omega
    have A := hK.2.1 0 k (by omega) hk16
    have B := hK.2.1 1 k (by omega) hk16
    have A' : ic_pm m k 0 k = m 0 k := if_neg (by omega)
    have B' : ic_pm m k 1 k = m 1 k := if_neg (by omega)
    rw [A'] at A
    rw [B'] at B
    have hv0 : ic_vg (ic_en F G (0 * 4 + k / 4) (k % 4)) := ic_en_v hK.1.1 hK.1.2.1 (by omega) (by omega)
    refine pk_le 16 k (fun z => absurd z (by omega)) (fun _ => ic_entry (f := 0) hK.1.1 (by omega) hk16 (br_c (fun z => nm_r (nI_1 k) (ih (k + 1) F G T V U (by omega) (ic_K_c hK (fun f c _ _ => ic_pm_stay ?_ f c)))) (fun z => ic_top (i := 2) (Or.inr rfl) (ic_entry (f := 1) hK.1.1 (by omega) hk16 (br_c (fun z2 => ic_wordOf hv0 (ic_top (i := 2) (Or.inr rfl) (ic_say (f := 1) hK.1 (by omega) hk16 (fun F' G' T' V' U' hI' hfr hv => nm_r (nI_1 k) (ih (k + 1) F' G' T' V' U' (by omega) (ic_K_c (ic_K_set hK (Or.inr rfl) rfl hk16 hI' hfr hv) (fun f c _ _ => ic_pm_set ?_ f c))))))) (fun z2 => nm_r (nI_1 k) (ih (k + 1) F G T V U (by omega) (ic_K_c hK (fun f c _ _ => ic_pm_stay ?_ f c)))))))))
    · rw [z, ic_vl_n] at A
      rw [← A]
      cases m 1 k <;> rfl
    · rw [z2, ic_vl_n] at B
      rw [← B, A]
      cases e : m 0 k with
      | none =>
        rw [e] at A
        exact absurd (ic_vl_none A) z
      | some w => rfl
    · cases e : m 1 k with
      | none =>
        rw [e] at B
        exact absurd (ic_vl_none B) z2
      | some w => rfl
theorem ic_pull {post : Int32 → St2 → Prop} {sh : Int32} {F G T V U mk cp bf : Nat → Int32} {s : Nat} {m : Nat → Nat → Option Int32} (hK : ic_K 2 s m F G T V U)
    (H : ∀ F G T V U, ic_K 1 s (ic_pl m) F G T V U → post (nI 1) (nI 1, sh, F, G, T, V, U, mk, cp, bf)) : wpX_pull post (nI 2, sh, F, G, T, V, U, mk, cp, bf) := by
  unfold wpX_pull
  refine br_f (by decide) (ic_top (i := 2) (Or.inr rfl) (nm_r (e' := nI 0) (by decide) (Exists.intro 17 (ic_pu20 H 16 0 F G T V U rfl (ic_K_c hK (fun f c _ _ => ?_))))))
  unfold ic_pm
  rw [if_neg (by omega)]
def ic_ds (g : Nat → Int32) : Nat → Int32
  | 0 => 0
  | n + 1 => ic_ds g n + (nI n + 1) * g n
theorem ic_ds_c {g h : Nat → Int32} {n : Nat} (e : ∀ k, k < n → g k = h k) : ic_ds g n = ic_ds h n := by
  induction n with
  | zero => rfl
  | succ n ih =>
    show ic_ds g n + (nI n + 1) * g n = ic_ds h n + (nI n + 1) * h n
    rw [ih (fun k hk => e k (by omega)), e n (by omega)]
theorem ic_di4 {post : Int32 → Prop} {sh : Int32} {F G T V U mk cp bf : Nat → Int32} {i s : Nat} {m : Nat → Nat → Option Int32} (hK : ic_K i s m F G T V U) (hi : i = 1 ∨ i = 2) (H : post (ic_ds (fun c => ic_W i m (i - 1) c) 16)) :
    ∀ r k : Nat, k + r = 16 → wX_digest_4 post (nI i) sh F G T V U mk cp bf (r + 1) (ic_ds (fun c => ic_W i m (i - 1) c) k) (nI k) := by
  intro r
  induction r with
  | zero =>
    intro k hk
    have e : k = 16 := by omega
    rw [e]
    exact pk_le 16 16 (fun _ => H) (fun z => absurd z (by omega))
  | succ r ih =>
    intro k hk
    exact pk_le 16 k (fun z => absurd z (by omega)) (fun _ => ic_word hK hi (by omega) (nm_e (nm_r (nI_1 k) (ih (k + 1) (by omega)))))
theorem ic_digest {post : Int32 → Prop} {sh : Int32} {F G T V U mk cp bf : Nat → Int32} {i s : Nat} {m : Nat → Nat → Option Int32} (hK : ic_K i s m F G T V U) (hi : i = 1 ∨ i = 2) (H : post (ic_ds (fun c => ic_W i m (i - 1) c) 16)) :
    wpX_digest post (nI i, sh, F, G, T, V, U, mk, cp, bf) :=
  ⟨17, ic_di4 hK hi H 16 0 rfl⟩
theorem ic_cn_none {p : Nat → Bool} {n : Nat} (h : ∀ k, k < n → p k = false) : ic_cn p n = 0 := by
  refine Nat.eq_zero_of_not_pos (fun z => ?_)
  obtain ⟨a, ha, hp⟩ := ic_cn_ex z
  rw [h a ha] at hp
  exact absurd hp (by decide)
theorem ic_K_0 {F : Nat → Int32} (h : ∀ k, k < 32 → F k = -1) : ic_K 1 0 (fun _ _ => none) F (fun _ => 0) (fun _ => 0) (fun _ => 0) (fun _ => 0) := by
  have hr : ∀ t, t < 36 → ic_rf F t = 0 := fun t ht => ic_cn_none (fun k hk => by
    show (F k == nI t) = false
    rw [h k hk]
    exact beq_eq_false_iff_ne.mpr (ic_neg ic_m1 (by omega)))
  refine ⟨⟨fun k hk => Or.inl (h k hk), fun x hx => Or.inr (Or.inr ⟨0, by omega, rfl⟩), fun t ht => ?_, fun p hp => ?_⟩, fun f c hf hc => ?_, fun f hf _ k hk => h _ (by omega)⟩
  · rw [hr t ht]
    rfl
  · have e : ic_rp (ic_lv F) (fun _ => 0) p = 0 := ic_cn_none (fun x hx => by
      show (decide (0 < ic_rf F (x / 4)) && ((0 : Int32) == nI p)) = false
      rw [hr (x / 4) (by omega)]
      rfl)
    rw [e]
    rfl
  · rw [ic_en_n _ (h _ (by omega)), ic_vl_n]
theorem ic_in78 {post : St2 → Prop} {mc ms kc ks : Nat} {im sh : Int32} {G T V U mk cp bf : Nat → Int32} (H : ∀ F, (∀ k, k < 32 → F k = -1) → post (im, sh, F, G, T, V, U, mk, cp, bf)) :
    ∀ (r k : Nat) (F : Nat → Int32), k + r = 32 → (∀ x, x < k → F x = -1) → wX_init_78 post mc ms kc ks im sh (r + 1) (nI k) F G T V U mk cp bf := by
  intro r
  induction r with
  | zero =>
    intro k F hk h
    have e : k = 32 := by omega
    rw [e] at h ⊢
    exact pk_le 32 32 (fun _ => H F h) (fun z => absurd z (by omega))
  | succ r ih =>
    intro k F hk h
    refine pk_le 32 k (fun z => absurd z (by omega)) (fun _ => ⟨pk_in k 32 (by omega), nm_r (e' := upd F k (-1)) (by rw [nI_clamp (show k < 2 ^ 31 by omega)]) (nm_r (nI_1 k) (ih (k + 1) _ (by omega) (fun x hx => ?_)))⟩)
    by_cases e : x = k
    · rw [e, pk_us]
    · rw [pk_un e]
      exact h x (by omega)
theorem ic_init {post : St2 → Prop} (H : ∀ F, ic_K 1 0 (fun _ _ => none) F (fun _ => 0) (fun _ => 0) (fun _ => 0) (fun _ => 0) → post (nI 1, nI 0, F, (fun _ => 0), (fun _ => 0), (fun _ => 0), (fun _ => 0), (fun _ => 0), (fun _ => 0), (fun _ => 0))) : wpX_init post 8 524 (0, 0) :=
  ⟨by decide, by decide, by decide, by decide, by decide, by decide, by decide, by decide, by decide, by decide, by decide, by decide, by decide, by decide, by decide, by decide, 33, ic_in78 (fun F h => H F (ic_K_0 h)) 32 0 _ rfl (fun x hx => absurd hx (by omega))⟩
end
section
/-! the law's two loops -/
def ic_rg {α : Type} (a b : Nat) (x y : α) (k : Nat) : α := if a ≤ k ∧ k < b + 1 then x else y
theorem ic_rg_t {α : Type} {a b k : Nat} {x y : α} (h : a ≤ k ∧ k < b + 1) : ic_rg a b x y k = x := if_pos h
theorem ic_rg_f {α : Type} {a b k : Nat} {x y : α} (h : ¬ (a ≤ k ∧ k < b + 1)) : ic_rg a b x y k = y := if_neg h
/-- the picture of the law: rows 0, 1, 4 and 5 -/
def ic_q (r0 r1 r4 r5 : Nat → Option Int32) : Nat → Nat → Option Int32 := fun f c => if f = 0 then r0 c else if f = 1 then r1 c else if f = 4 then r4 c else if f = 5 then r5 c else none
theorem ic_q1 (r0 r1 r4 r5 : Nat → Option Int32) (k : Nat) : ic_W 2 (ic_q r0 r1 r4 r5) (2 - 1) k = (r1 k).getD ((r0 k).getD 0) := rfl
theorem ic_q4 (r0 r1 r4 r5 : Nat → Option Int32) (k : Nat) : ic_W 2 (ic_q r0 r1 r4 r5) (4 + 0) k = (r4 k).getD ((r0 k).getD 0) := rfl
theorem ic_q5 (r0 r1 r4 r5 : Nat → Option Int32) (k : Nat) : ic_W 2 (ic_q r0 r1 r4 r5) (4 + 1) k = (r5 k).getD ((r0 k).getD 0) := rfl
theorem ic_q0 (r0 r1 r4 r5 : Nat → Option Int32) (k : Nat) : ic_W 1 (ic_q r0 r1 r4 r5) (1 - 1) k = (r0 k).getD 0 := rfl
theorem ic_rng {α : Type} {P : α → Prop} {A : Prop} {a b k : Nat} {x y : α} (ha : a < 16) (hb : b < 16) (hk : k < 16) (hA : P y → A) (h : P (ic_rg a b x y k)) : (nI k < nI a → A) ∧ (¬ nI k < nI a → ((nI b < nI k → A) ∧ (¬ nI b < nI k → P x))) := by
  refine pk_lt k a (fun z => hA ?_) (fun z => pk_lt b k (fun z2 => hA ?_) (fun z2 => ?_))
  · rw [ic_rg_f (by omega)] at h
    exact h
  · rw [ic_rg_f (by omega)] at h
    exact h
  · rw [ic_rg_t (by omega)] at h
    exact h
theorem ic_rng2 {α : Type} {P : α → Prop} {A B : Prop} {a b k : Nat} {x y : α} (ha : a < 16) (hb : b < 16) (hk : k < 16) (hA : P y → A) (hB : P x → B) (h : P (ic_rg a b x y k)) : (nI k < nI a → A) ∧ (¬ nI k < nI a → ((nI k ≤ nI b → B) ∧ (¬ nI k ≤ nI b → A))) := by
  refine pk_lt k a (fun z => hA ?_) (fun z => pk_le k b (fun z2 => hB ?_) (fun z2 => hA ?_))
  · rw [ic_rg_f (by omega)] at h
    exact h
  · rw [ic_rg_t (by omega)] at h
    exact h
  · rw [ic_rg_f (by omega)] at h
    exact h
theorem ic_sel {α : Type} {P : α → Prop} {C : Prop} {x y z : α} (h1 : C → x = z) (h2 : ¬ C → y = z) (h : P z) : (C → P x) ∧ (¬ C → P y) :=
  ⟨fun q => by rw [h1 q]; exact h, fun q => by rw [h2 q]; exact h⟩
/-! what the object answers, in the law's words -/
theorem ic_a_bl {a b k : Nat} {v : Int32} : (none : Option Int32).getD ((ic_rg a b (some v) none k).getD 0) = ic_rg a b v 0 k := by
  by_cases h : a ≤ k ∧ k < b + 1
  · rw [ic_rg_t h, ic_rg_t h]
    rfl
  · rw [ic_rg_f h, ic_rg_f h]
    rfl
theorem ic_a_tp {a b c d k : Nat} {v w : Int32} : (ic_rg c d (some w) none k).getD ((ic_rg a b (some v) none k).getD 0) = ic_rg c d w (ic_rg a b v 0 k) k := by
  by_cases h : c ≤ k ∧ k < d + 1
  · rw [ic_rg_t h, ic_rg_t h]
    rfl
  · rw [ic_rg_f h, ic_rg_f h]
    exact ic_a_bl
theorem ic_a_nw {a b c d e k : Nat} {v w : Int32} : (if k = e then none else ic_rg c d (some w) none k).getD ((ic_rg a b (some v) none k).getD 0) = (if k = e then ic_rg a b v 0 k else ic_rg c d w (ic_rg a b v 0 k) k) := by
  by_cases h : k = e
  · rw [if_pos h, if_pos h]
    exact ic_a_bl
  · rw [if_neg h, if_neg h]
    exact ic_a_tp
theorem ic_a_pl {a b c d k : Nat} {v w : Int32} : ((ic_rg c d (some w) none k).or (ic_rg a b (some v) none k)).getD 0 = ic_rg c d w (ic_rg a b v 0 k) k := by
  by_cases h : c ≤ k ∧ k < d + 1
  · rw [ic_rg_t h, ic_rg_t h]
    rfl
  · rw [ic_rg_f h, ic_rg_f h]
    exact ic_a_bl
theorem ic_a_sp {a b c d k : Nat} {v w : Int32} : ic_sd ((ic_rg c d (some w) none k).or (ic_rg a b (some v) none k)) = ic_rg c d 1 (ic_rg a b 1 0 k) k := by
  by_cases h : c ≤ k ∧ k < d + 1
  · rw [ic_rg_t h, ic_rg_t h]
    rfl
  · rw [ic_rg_f h, ic_rg_f h]
    by_cases h2 : a ≤ k ∧ k < b + 1
    · rw [ic_rg_t h2, ic_rg_t h2]
      rfl
    · rw [ic_rg_f h2, ic_rg_f h2]
      rfl
theorem ic_a_sc {c d k : Nat} {w : Int32} : ic_sd (ic_rg c d (some w) none k) = ic_rg c d 1 0 k := by
  by_cases h : c ≤ k ∧ k < d + 1
  · rw [ic_rg_t h, ic_rg_t h]
    rfl
  · rw [ic_rg_f h, ic_rg_f h]
    rfl
/-! the second loop -/
theorem ic_it2 {post : Int32 → St0 → Prop} {mc ms kc ks : Nat} {J : Int32 → Int32 → Int32 → Prop} {v w x13 x15 x16 x17 x19 x20 x21 x22 x23 x24 x25 x26 sh : Int32} {F G T V U mk cp bf : Nat → Int32} {a b c d e k : Nat} (ha : a < 16) (hb : b < 16) (hc : c < 16) (hd : d < 16) (he : e < 16) (hk : k < 16)
    (hK : ic_K 1 0 (ic_q (fun k => (ic_rg c d (some w) none k).or (ic_rg a b (some v) none k)) (fun _ => none) (fun _ => none) (fun _ => none)) F G T V U) (H : J 1 (x26 + (nI k + 1) * (ic_rg c d w (ic_rg a b v 0 k) k)) (nI (k + 1))) :
    wL_lawOf_463 post mc ms J v w (nI a) (nI b) (nI c) (nI d) (nI e) x13 x15 x16 x17 1 x19 x20 x21 x22 x23 x24 x25 x26 (nI k) (ic_rg a b v 0 k) kc ks (nI 1) sh F G T V U mk cp bf := by
  unfold wL_lawOf_463
  refine ic_rng (P := fun z => wL_lawOf_485 post mc ms J v w (nI a) (nI b) (nI c) (nI d) (nI e) x13 x15 x16 x17 1 x19 x20 x21 x22 x23 x24 x25 x26 (nI k) z kc ks (nI 1) sh F G T V U mk cp bf) hc hd hk id ?_
  show wL_lawOf_485 post mc ms J v w (nI a) (nI b) (nI c) (nI d) (nI e) x13 x15 x16 x17 1 x19 x20 x21 x22 x23 x24 x25 x26 (nI k) (ic_rg c d w (ic_rg a b v 0 k) k) kc ks (nI 1) sh F G T V U mk cp bf
  unfold wL_lawOf_485
  refine nm_e (br_f (by decide) (ic_read hK (Or.inl rfl) hk (br_t ?_ (ic_said hK (Or.inl rfl) hk ?_))))
  · rw [ic_q0]
    exact ic_a_pl
  · have es : ic_sd (ic_q (fun k => (ic_rg c d (some w) none k).or (ic_rg a b (some v) none k)) (fun _ => none) (fun _ => none) (fun _ => none) (1 - 1) k) = ic_rg c d 1 (ic_rg a b 1 0 k) k := ic_a_sp
    rw [es]
    refine ic_rng2 (P := fun z => wL_lawOf_556 post mc ms J v w (nI a) (nI b) (nI c) (nI d) (nI e) x13 x15 x16 x17 x19 x20 x21 x22 x23 x24 x25 (x26 + (nI k + 1) * (ic_rg c d w (ic_rg a b v 0 k) k)) (nI k) z (ic_rg c d 1 (ic_rg a b 1 0 k) k) kc ks (nI 1) sh F G T V U mk cp bf) (x := 1) (y := ic_rg a b 1 0 k) hc hd hk (fun h => ?_) id ?_
    · unfold wL_lawOf_537
      exact ic_rng (P := fun z => wL_lawOf_556 post mc ms J v w (nI a) (nI b) (nI c) (nI d) (nI e) x13 x15 x16 x17 x19 x20 x21 x22 x23 x24 x25 (x26 + (nI k + 1) * (ic_rg c d w (ic_rg a b v 0 k) k)) (nI k) z (ic_rg c d 1 (ic_rg a b 1 0 k) k) kc ks (nI 1) sh F G T V U mk cp bf) (x := 1) (y := 0) ha hb hk id h
    · exact br_t rfl (nm_r (nI_1 k) H)
theorem ic_end {post : Int32 → St0 → Prop} {mc ms kc ks : Nat} {v w x13 x15 x16 x17 x19 x20 x21 x22 x23 x24 x25 x26 : Int32} {a b c d e : Nat} (ha : a < 16) (hb : b < 16) (hc : c < 16) (hd : d < 16) (he : e < 16)
    (h15 : x15 = ic_rg c d 1 0 e) (h19 : x19 = x17) (h20 : x20 = 1) (h21 : x21 = ic_rg c d w (ic_rg a b v 0 e) e) (h22 : x22 = x16) (h23 : x23 = -4) (h24 : x24 = 1) (h25 : x25 = x26) (H : post 1 ()) :
    wL_lawOf_605 post mc ms v w (nI a) (nI b) (nI c) (nI d) (nI e) x16 x17 x19 x20 x21 x22 x23 x24 x25 x26 (ic_rg c d 1 0 e) x15 kc ks := by
  unfold wL_lawOf_605
  refine br_t h15 (br_t h19 (br_t h20 (br_t h22 (br_t h23 (br_t h24 (br_t h25 ?_))))))
  refine ic_rng (P := fun z => wL_lawOf_687 post mc ms z x21 kc ks) (x := w) (y := ic_rg a b v 0 e) hc hd he (fun h => ?_) ?_
  · unfold wL_lawOf_668
    exact ic_rng (P := fun z => wL_lawOf_687 post mc ms z x21 kc ks) (x := v) (y := 0) ha hb he id h
  · exact br_t h21 H
theorem ic_lo2 {post : Int32 → St0 → Prop} {mc ms kc ks : Nat} {v w x13 x15 x16 x17 x19 x20 x21 x22 x23 x24 x25 sh : Int32} {F G T V U mk cp bf : Nat → Int32} {a b c d e : Nat} (ha : a < 16) (hb : b < 16) (hc : c < 16) (hd : d < 16) (he : e < 16)
    (hK : ic_K 1 0 (ic_q (fun k => (ic_rg c d (some w) none k).or (ic_rg a b (some v) none k)) (fun _ => none) (fun _ => none) (fun _ => none)) F G T V U) (h13 : x13 = x16) (h15 : x15 = ic_rg c d 1 0 e) (h19 : x19 = x17) (h20 : x20 = 1) (h21 : x21 = ic_rg c d w (ic_rg a b v 0 e) e) (h22 : x22 = x16) (h23 : x23 = -4) (h24 : x24 = 1)
    (h25 : x25 = ic_ds (fun k => (ic_rg c d w (ic_rg a b v 0 k) k)) 16) (H : post 1 ()) :
    ∀ r k : Nat, k + r = 16 → wL_lawOf_437 post mc ms v w (nI a) (nI b) (nI c) (nI d) (nI e) x13 x15 x16 x17 x19 x20 x21 x22 x23 x24 x25 kc ks (nI 1) sh F G T V U mk cp bf (r + 1) 1 (ic_ds (fun k => (ic_rg c d w (ic_rg a b v 0 k) k)) k) (nI k) := by
  intro r
  induction r with
  | zero =>
    intro k hk
    have ek : k = 16 := by omega
    rw [ek]
    refine pk_le 16 16 (fun _ => br_f (by decide) (br_t h13 ?_)) (fun z => absurd z (by omega))
    exact ic_rng (P := fun z => wL_lawOf_605 post mc ms v w (nI a) (nI b) (nI c) (nI d) (nI e) x16 x17 x19 x20 x21 x22 x23 x24 x25 (ic_ds (fun k => (ic_rg c d w (ic_rg a b v 0 k) k)) 16) z x15 kc ks) (x := 1) (y := 0) hc hd he id (ic_end (x13 := x13) ha hb hc hd he h15 h19 h20 h21 h22 h23 h24 h25 H)
  | succ r ih =>
    intro k hk
    refine pk_le 16 k (fun z => absurd z (by omega)) (fun _ => ?_)
    exact ic_rng (P := fun z => wL_lawOf_463 post mc ms (wL_lawOf_437 post mc ms v w (nI a) (nI b) (nI c) (nI d) (nI e) x13 x15 x16 x17 x19 x20 x21 x22 x23 x24 x25 kc ks (nI 1) sh F G T V U mk cp bf (r + 1)) v w (nI a) (nI b) (nI c) (nI d) (nI e) x13 x15 x16 x17 1 x19 x20 x21 x22 x23 x24 x25 (ic_ds (fun k => (ic_rg c d w (ic_rg a b v 0 k) k)) k) (nI k) z kc ks (nI 1) sh F G T V U mk cp bf) (x := v) (y := 0) ha hb (by omega) id (ic_it2 ha hb hc hd he (by omega) hK (ih (k + 1) (by omega)))
/-! the first loop -/
theorem ic_it1 {post : Int32 → St0 → Prop} {mc ms kc ks : Nat} {J : Int32 → Int32 → Int32 → Int32 → Prop} {v w x13 x15 : Int32} {F G T V U mk cp bf : Nat → Int32} {a b c d e k p q : Nat} (ha : a < 16) (hb : b < 16) (hc : c < 16) (hd : d < 16) (he : e < 16) (hk : k < 16)
    (hK : ic_K 2 2 (ic_q (ic_rg a b (some v) none) (fun k => if k = e then none else ic_rg c d (some w) none k) (fun _ => none) (ic_rg c d (some w) none)) F G T V U) (H : J (nI (p + ((ic_rg c d w (ic_rg a b v 0 k) k) != (ic_rg a b v 0 k)).toNat)) (nI (q + ((if k = e then ic_rg a b v 0 k else ic_rg c d w (ic_rg a b v 0 k) k) != (ic_rg a b v 0 k)).toNat)) 1 (nI (k + 1))) :
    wL_lawOf_198 post mc ms J v w (nI a) (nI b) (nI c) (nI d) (nI e) x13 x15 (nI p) (nI q) 1 (nI k) (ic_rg a b v 0 k) kc ks (nI 2) (nI 2) F G T V U mk cp bf := by
  unfold wL_lawOf_198
  refine ic_rng (P := fun z => wL_lawOf_219 post mc ms J v w (nI a) (nI b) (nI c) (nI d) (nI e) x13 x15 (nI p) (nI q) 1 (nI k) (ic_rg a b v 0 k) z kc ks (nI 2) (nI 2) F G T V U mk cp bf) (x := 1) (y := 0) hc hd hk id ?_
  show wL_lawOf_219 post mc ms J v w (nI a) (nI b) (nI c) (nI d) (nI e) x13 x15 (nI p) (nI q) 1 (nI k) (ic_rg a b v 0 k) (ic_rg c d 1 0 k) kc ks (nI 2) (nI 2) F G T V U mk cp bf
  unfold wL_lawOf_219
  refine ic_sel (P := fun z => wL_lawOf_232 post mc ms J v w (nI a) (nI b) (nI c) (nI d) (nI e) x13 x15 (nI p) (nI q) 1 (nI k) (ic_rg a b v 0 k) (ic_rg c d 1 0 k) z kc ks (nI 2) (nI 2) F G T V U mk cp bf) (z := (ic_rg c d w (ic_rg a b v 0 k) k)) (fun h => ?_) (fun h => ?_) ?_
  · by_cases z : c ≤ k ∧ k < d + 1
    · rw [ic_rg_t z] at h
      exact absurd h (by decide)
    · rw [ic_rg_f z]
  · by_cases z : c ≤ k ∧ k < d + 1
    · rw [ic_rg_t z]
    · rw [ic_rg_f z] at h
      exact absurd rfl h
  show wL_lawOf_232 post mc ms J v w (nI a) (nI b) (nI c) (nI d) (nI e) x13 x15 (nI p) (nI q) 1 (nI k) (ic_rg a b v 0 k) (ic_rg c d 1 0 k) (ic_rg c d w (ic_rg a b v 0 k) k) kc ks (nI 2) (nI 2) F G T V U mk cp bf
  unfold wL_lawOf_232
  refine ic_sel (P := fun z => wL_lawOf_248 post mc ms J v w (nI a) (nI b) (nI c) (nI d) (nI e) x13 x15 (nI p) (nI q) 1 (nI k) (ic_rg a b v 0 k) (ic_rg c d 1 0 k) (ic_rg c d w (ic_rg a b v 0 k) k) z kc ks (nI 2) (nI 2) F G T V U mk cp bf) (z := (if k = e then ic_rg a b v 0 k else ic_rg c d w (ic_rg a b v 0 k) k)) (fun h => ?_) (fun h => ?_) ?_
  · rw [if_pos ((nI_eq (by omega) (by omega)).mp h)]
  · rw [if_neg (fun z => h (by rw [z]))]
  show wL_lawOf_248 post mc ms J v w (nI a) (nI b) (nI c) (nI d) (nI e) x13 x15 (nI p) (nI q) 1 (nI k) (ic_rg a b v 0 k) (ic_rg c d 1 0 k) (ic_rg c d w (ic_rg a b v 0 k) k) (if k = e then ic_rg a b v 0 k else ic_rg c d w (ic_rg a b v 0 k) k) kc ks (nI 2) (nI 2) F G T V U mk cp bf
  unfold wL_lawOf_248
  refine ic_sel (P := fun z => wL_lawOf_266 post mc ms J v w (nI a) (nI b) (nI c) (nI d) (nI e) x13 x15 (nI q) 1 (nI k) (ic_rg a b v 0 k) (ic_rg c d 1 0 k) (ic_rg c d w (ic_rg a b v 0 k) k) (if k = e then ic_rg a b v 0 k else ic_rg c d w (ic_rg a b v 0 k) k) z kc ks (nI 2) (nI 2) F G T V U mk cp bf) (z := nI (p + ((ic_rg c d w (ic_rg a b v 0 k) k) != (ic_rg a b v 0 k)).toNat)) (fun h => ?_) (fun h => ?_) ?_
  · rw [h, bne_self_eq_false, ic_f0, Nat.add_zero]
  · rw [bne_iff_ne.mpr h, ic_t1, nI_1]
  show wL_lawOf_266 post mc ms J v w (nI a) (nI b) (nI c) (nI d) (nI e) x13 x15 (nI q) 1 (nI k) (ic_rg a b v 0 k) (ic_rg c d 1 0 k) (ic_rg c d w (ic_rg a b v 0 k) k) (if k = e then ic_rg a b v 0 k else ic_rg c d w (ic_rg a b v 0 k) k) (nI (p + ((ic_rg c d w (ic_rg a b v 0 k) k) != (ic_rg a b v 0 k)).toNat)) kc ks (nI 2) (nI 2) F G T V U mk cp bf
  unfold wL_lawOf_266
  refine ic_sel (P := fun z => wL_lawOf_284 post mc ms J v w (nI a) (nI b) (nI c) (nI d) (nI e) x13 x15 (nI (p + ((ic_rg c d w (ic_rg a b v 0 k) k) != (ic_rg a b v 0 k)).toNat)) 1 (nI k) (ic_rg a b v 0 k) (ic_rg c d 1 0 k) (ic_rg c d w (ic_rg a b v 0 k) k) (if k = e then ic_rg a b v 0 k else ic_rg c d w (ic_rg a b v 0 k) k) z kc ks (nI 2) (nI 2) F G T V U mk cp bf) (z := nI (q + ((if k = e then ic_rg a b v 0 k else ic_rg c d w (ic_rg a b v 0 k) k) != (ic_rg a b v 0 k)).toNat)) (fun h => ?_) (fun h => ?_) ?_
  · rw [h, bne_self_eq_false, ic_f0, Nat.add_zero]
  · rw [bne_iff_ne.mpr h, ic_t1, nI_1]
  show wL_lawOf_284 post mc ms J v w (nI a) (nI b) (nI c) (nI d) (nI e) x13 x15 (nI (p + ((ic_rg c d w (ic_rg a b v 0 k) k) != (ic_rg a b v 0 k)).toNat)) 1 (nI k) (ic_rg a b v 0 k) (ic_rg c d 1 0 k) (ic_rg c d w (ic_rg a b v 0 k) k) (if k = e then ic_rg a b v 0 k else ic_rg c d w (ic_rg a b v 0 k) k) (nI (q + ((if k = e then ic_rg a b v 0 k else ic_rg c d w (ic_rg a b v 0 k) k) != (ic_rg a b v 0 k)).toNat)) kc ks (nI 2) (nI 2) F G T V U mk cp bf
  unfold wL_lawOf_284
  refine br_f (by decide) (ic_read hK (Or.inr rfl) hk (br_t ?_ (ic_said hK (Or.inr rfl) hk ?_)))
  · rw [ic_q1]
    exact ic_a_nw
  · have h327 : ∀ z, ic_sd (ic_q (ic_rg a b (some v) none) (fun k => if k = e then none else ic_rg c d (some w) none k) (fun _ => none) (ic_rg c d (some w) none) (2 - 1) k) = z → wL_lawOf_327 post mc ms J v w (nI a) (nI b) (nI c) (nI d) (nI e) x13 x15 (nI (p + ((ic_rg c d w (ic_rg a b v 0 k) k) != (ic_rg a b v 0 k)).toNat)) (nI (q + ((if k = e then ic_rg a b v 0 k else ic_rg c d w (ic_rg a b v 0 k) k) != (ic_rg a b v 0 k)).toNat)) (nI k) (ic_rg a b v 0 k) (ic_rg c d w (ic_rg a b v 0 k) k) z (ic_sd (ic_q (ic_rg a b (some v) none) (fun k => if k = e then none else ic_rg c d (some w) none k) (fun _ => none) (ic_rg c d (some w) none) (2 - 1) k)) kc ks (nI 2) (nI 2) F G T V U mk cp bf := by
      intro z hz
      unfold wL_lawOf_327
      refine br_t hz (ic_peek (q := 0) hK (Or.inr rfl) (by omega) (by omega) hk (br_t ?_ (ic_peek (q := 1) hK (Or.inr rfl) (by omega) (by omega) hk (br_t ?_ (nm_r (nI_1 k) H)))))
      · rw [ic_q4]
        exact ic_a_bl
      · rw [ic_q5]
        exact ic_a_tp
    have er : ic_q (ic_rg a b (some v) none) (fun k => if k = e then none else ic_rg c d (some w) none k) (fun _ => none) (ic_rg c d (some w) none) (2 - 1) k = if k = e then none else ic_rg c d (some w) none k := rfl
    refine br_c (fun h => h327 0 ?_) (fun h => br_c (fun h2 => h327 0 ?_) (fun h2 => h327 1 ?_))
    · rw [er]
      by_cases z : k = e
      · rw [if_pos z]
        rfl
      · rw [if_neg z, ic_a_sc]
        exact h
    · rw [er, if_pos ((nI_eq (by omega) (by omega)).mp h2)]
      rfl
    · rw [er, if_neg (fun z => h2 (by rw [z])), ic_a_sc]
      by_cases z : c ≤ k ∧ k < d + 1
      · rw [ic_rg_t z]
      · rw [ic_rg_f z] at h
        exact absurd rfl h
end
section
/-! the law -/
theorem ic_f8 {P : Nat → Prop} (h0 : P 0) (h1 : P 1) (h2 : P 2) (h3 : P 3) (h4 : P 4) (h5 : P 5) (h6 : P 6) (h7 : P 7) (f : Nat) (hf : f < 8) : P f :=
  match f, hf with
  | 0, _ => h0
  | 1, _ => h1
  | 2, _ => h2
  | 3, _ => h3
  | 4, _ => h4
  | 5, _ => h5
  | 6, _ => h6
  | 7, _ => h7
theorem ic_q_c {m : Nat → Nat → Option Int32} {r0 r1 r4 r5 : Nat → Option Int32} (h0 : ∀ c, m 0 c = r0 c) (h1 : ∀ c, m 1 c = r1 c) (h2 : ∀ c, m 2 c = none) (h3 : ∀ c, m 3 c = none) (h4 : ∀ c, m 4 c = r4 c) (h5 : ∀ c, m 5 c = r5 c) (h6 : ∀ c, m 6 c = none) (h7 : ∀ c, m 7 c = none) :
    ∀ f c, f < 8 → c < 16 → m f c = ic_q r0 r1 r4 r5 f c :=
  fun f c hf _ => ic_f8 (P := fun f => m f c = ic_q r0 r1 r4 r5 f c) (h0 c) (h1 c) (h2 c) (h3 c) (h4 c) (h5 c) (h6 c) (h7 c) f hf
theorem ic_bne (x y : Int32) : (x != y) = (y != x) := by
  by_cases h : x = y
  · rw [h]
  · rw [bne_iff_ne.mpr h, bne_iff_ne.mpr (Ne.symm h)]
theorem ic_lo1 {post : Int32 → St0 → Prop} {mc ms kc ks : Nat} {v w x13 x15 : Int32} {F G T V U mk cp bf : Nat → Int32} {a b c d e : Nat} (ha : a < 16) (hb : b < 16) (hc : c < 16) (hd : d < 16) (he : e < 16)
    (hK : ic_K 2 2 (ic_q (ic_rg a b (some v) none) (fun k => if k = e then none else ic_rg c d (some w) none k) (fun _ => none) (ic_rg c d (some w) none)) F G T V U) (h13 : x13 = nI (ic_cn (fun k => (ic_rg c d w (ic_rg a b v 0 k) k) != (ic_rg a b v 0 k)) 16)) (h15 : x15 = ic_rg c d 1 0 e) (H : post 1 ()) :
    ∀ r k : Nat, k + r = 16 → wL_lawOf_172 post mc ms v w (nI a) (nI b) (nI c) (nI d) (nI e) x13 x15 kc ks (nI 2) (nI 2) F G T V U mk cp bf (r + 1) (nI (ic_cn (fun k => (ic_rg c d w (ic_rg a b v 0 k) k) != (ic_rg a b v 0 k)) k)) (nI (ic_cn (fun k => (if k = e then ic_rg a b v 0 k else ic_rg c d w (ic_rg a b v 0 k) k) != (ic_rg a b v 0 k)) k)) 1 (nI k) := by
  intro r
  induction r with
  | zero =>
    intro k hk
    have ek : k = 16 := by omega
    rw [ek]
    refine pk_le 16 16 (fun _ => ?_) (fun z => absurd z (by omega))
    refine ic_revert (q := 0) hK (Or.inr rfl) (by omega) (by omega) (fun F1 T1 U1 mk1 bf1 hK1 => ?_)
    have hK1' : ic_K 2 2 (ic_q (ic_rg a b (some v) none) (fun _ => none) (fun _ => none) (ic_rg c d (some w) none)) F1 G T1 V U1 := ic_K_c hK1 (ic_q_c (fun _ => rfl) (fun _ => rfl) (fun _ => rfl) (fun _ => rfl) (fun _ => rfl) (fun _ => rfl) (fun _ => rfl) (fun _ => rfl))
    refine ic_forget hK1' (Or.inr rfl) (by omega) (by omega) (fun F2 T2 U2 hK2 => ?_)
    have hK2' : ic_K 2 1 (ic_q (ic_rg a b (some v) none) (fun _ => none) (ic_rg c d (some w) none) (fun _ => none)) F2 G T2 V U2 := ic_K_c hK2 (ic_q_c (fun _ => rfl) (fun _ => rfl) (fun _ => rfl) (fun _ => rfl) (fun _ => rfl) (fun _ => rfl) (fun _ => rfl) (fun _ => rfl))
    refine ic_peek (q := 0) hK2' (Or.inr rfl) (by omega) (by omega) he ?_
    refine ic_revert (q := 0) hK2' (Or.inr rfl) (by omega) (by omega) (fun F3 T3 U3 mk3 bf3 hK3 => ?_)
    have hK3' : ic_K 2 1 (ic_q (ic_rg a b (some v) none) (ic_rg c d (some w) none) (ic_rg c d (some w) none) (fun _ => none)) F3 G T3 V U3 := ic_K_c hK3 (ic_q_c (fun _ => rfl) (fun _ => rfl) (fun _ => rfl) (fun _ => rfl) (fun _ => rfl) (fun _ => rfl) (fun _ => rfl) (fun _ => rfl))
    refine ic_commit ?_
    refine ic_forget hK3' (Or.inr rfl) (by omega) (by omega) (fun F4 T4 U4 hK4 => ?_)
    have hK4' : ic_K 2 0 (ic_q (ic_rg a b (some v) none) (ic_rg c d (some w) none) (fun _ => none) (fun _ => none)) F4 G T4 V U4 := ic_K_c hK4 (ic_q_c (fun _ => rfl) (fun _ => rfl) (fun _ => rfl) (fun _ => rfl) (fun _ => rfl) (fun _ => rfl) (fun _ => rfl) (fun _ => rfl))
    refine ic_pull hK4' (fun F5 G5 T5 V5 U5 hK5 => ?_)
    have hK5' : ic_K 1 0 (ic_q (fun k => (ic_rg c d (some w) none k).or (ic_rg a b (some v) none k)) (fun _ => none) (fun _ => none) (fun _ => none)) F5 G5 T5 V5 U5 := ic_K_c hK5 (ic_q_c (fun _ => rfl) (fun _ => rfl) (fun _ => rfl) (fun _ => rfl) (fun _ => rfl) (fun _ => rfl) (fun _ => rfl) (fun _ => rfl))
    refine ic_digest hK5' (Or.inl rfl) (Exists.intro 17 (ic_lo2 ha hb hc hd he hK5' h13 h15 ?_ rfl ?_ ?_ rfl rfl ?_ H 16 0 rfl))
    · refine congrArg nI (ic_cn_congr (fun k hk => ?_))
      show (ic_W 2 (ic_q (ic_rg a b (some v) none) (fun _ => none) (fun _ => none) (ic_rg c d (some w) none)) (2 - 1) k != ic_W 2 (ic_q (ic_rg a b (some v) none) (fun k => if k = e then none else ic_rg c d (some w) none k) (fun _ => none) (ic_rg c d (some w) none)) (2 - 1) k) = ((if k = e then ic_rg a b v 0 k else ic_rg c d w (ic_rg a b v 0 k) k) != (ic_rg a b v 0 k))
      rw [ic_q1, ic_q1, ic_a_nw, ic_a_bl]
      exact ic_bne _ _
    · rw [ic_q4]
      exact ic_a_tp
    · refine congrArg nI (ic_cn_congr (fun k hk => ?_))
      show (ic_W 2 (ic_q (ic_rg a b (some v) none) (ic_rg c d (some w) none) (ic_rg c d (some w) none) (fun _ => none)) (2 - 1) k != ic_W 2 (ic_q (ic_rg a b (some v) none) (fun _ => none) (ic_rg c d (some w) none) (fun _ => none)) (2 - 1) k) = ((ic_rg c d w (ic_rg a b v 0 k) k) != (ic_rg a b v 0 k))
      rw [ic_q1, ic_q1, ic_a_tp, ic_a_bl]
    · refine ic_ds_c (fun k hk => ?_)
      show ic_W 1 (ic_q (fun k => (ic_rg c d (some w) none k).or (ic_rg a b (some v) none k)) (fun _ => none) (fun _ => none) (fun _ => none)) (1 - 1) k = (ic_rg c d w (ic_rg a b v 0 k) k)
      rw [ic_q0]
      exact ic_a_pl
  | succ r ih =>
    intro k hk
    refine pk_le 16 k (fun z => absurd z (by omega)) (fun _ => ?_)
    exact ic_rng (P := fun z => wL_lawOf_198 post mc ms (wL_lawOf_172 post mc ms v w (nI a) (nI b) (nI c) (nI d) (nI e) x13 x15 kc ks (nI 2) (nI 2) F G T V U mk cp bf (r + 1)) v w (nI a) (nI b) (nI c) (nI d) (nI e) x13 x15 (nI (ic_cn (fun k => (ic_rg c d w (ic_rg a b v 0 k) k) != (ic_rg a b v 0 k)) k)) (nI (ic_cn (fun k => (if k = e then ic_rg a b v 0 k else ic_rg c d w (ic_rg a b v 0 k) k) != (ic_rg a b v 0 k)) k)) 1 (nI k) z kc ks (nI 2) (nI 2) F G T V U mk cp bf) (x := v) (y := 0) ha hb (by omega) id (ic_it1 ha hb hc hd he (by omega) hK (ih (k + 1) (by omega)))
theorem ic_cn_ext {p : Nat → Bool} {n N : Nat} (h : n ≤ N) : ic_cn p n = ic_cn (fun k => decide (k < n) && p k) N := by
  induction N with
  | zero =>
    have e : n = 0 := by omega
    rw [e]
    rfl
  | succ N ih =>
    by_cases e : n = N + 1
    · rw [e]
      exact ic_cn_congr (fun k hk => by
        show p k = (decide (k < N + 1) && p k)
        rw [decide_eq_true hk, Bool.true_and])
    · rw [ic_cn_s, ih (by omega), decide_eq_false (show ¬ N < n by omega), Bool.false_and, ic_f0, Nat.add_zero]
theorem ic_cn_ge (a n : Nat) : ic_cn (fun k => decide (a ≤ k)) n = n - a := by
  induction n with
  | zero =>
    rw [Nat.zero_sub]
    rfl
  | succ n ih =>
    rw [ic_cn_s, ih]
    by_cases e : a ≤ n
    · rw [decide_eq_true e, ic_t1]
      omega
    · rw [decide_eq_false e, ic_f0]
      omega
theorem ic_rem {a q : Nat} (ha : a < 16) (hq : q < 16) : nI a + (nI q - nI q / (16 - nI a) * (16 - nI a)) = nI (a + q % (16 - a)) := by
  have e : 16 - nI a = nI (16 - a) := pk_sub (a := 16) (by omega)
  rw [e, pk_rem (by omega) (by omega) (by omega), nI_add]
theorem ic_ne16 {a : Nat} (ha : a < 16) : ¬ 16 - nI a = 0 := by
  have e : 16 - nI a = nI (16 - a) := pk_sub (a := 16) (by omega)
  rw [e]
  exact nI_ne0 (by omega) (by omega)
theorem ic_first {a b : Nat} {v : Int32} (h : a ≤ b) : (v = 0 → nI (ic_cn (fun k => decide (a ≤ k) && ((0 : Int32) != v)) (b + 1)) = 0) ∧ (¬ v = 0 → nI (ic_cn (fun k => decide (a ≤ k) && ((0 : Int32) != v)) (b + 1)) = (nI b - nI a) + 1) := by
  refine ⟨fun z => ?_, fun z => ?_⟩
  · rw [ic_cn_none (fun k _ => by rw [z, bne_self_eq_false, Bool.and_false])]
    rfl
  · have e : ic_cn (fun k => decide (a ≤ k) && ((0 : Int32) != v)) (b + 1) = ic_cn (fun k => decide (a ≤ k)) (b + 1) := ic_cn_congr (fun k _ => by
      show (decide (a ≤ k) && ((0 : Int32) != v)) = decide (a ≤ k)
      rw [bne_iff_ne.mpr (Ne.symm z), Bool.and_true])
    rw [e, ic_cn_ge, pk_sub h, nI_1, show b + 1 - a = b - a + 1 by omega]
theorem ic_second {a b c d : Nat} {v w : Int32} (hd : d < 16) : ic_cn (fun k => decide (c ≤ k) && ((ic_rg a b v 0 k) != w)) (d + 1) = ic_cn (fun k => (ic_rg c d w (ic_rg a b v 0 k) k) != (ic_rg a b v 0 k)) 16 := by
  rw [ic_cn_ext (show d + 1 ≤ 16 by omega)]
  refine ic_cn_congr (fun k hk => ?_)
  show (decide (k < d + 1) && (decide (c ≤ k) && ((ic_rg a b v 0 k) != w))) = ((ic_rg c d w (ic_rg a b v 0 k) k) != (ic_rg a b v 0 k))
  by_cases h : c ≤ k ∧ k < d + 1
  · rw [ic_rg_t h, decide_eq_true h.1, decide_eq_true h.2, Bool.true_and, Bool.true_and]
    exact ic_bne _ _
  · rw [ic_rg_f h, bne_self_eq_false]
    by_cases h2 : c ≤ k
    · rw [decide_eq_false (show ¬ k < d + 1 by omega), Bool.false_and]
    · rw [decide_eq_false h2, Bool.false_and, Bool.and_false]
theorem ic_lawOf {post : Int32 → St0 → Prop} (p0 v w p3 : Int32) (H : post 1 ()) : wpL_lawOf post 9 534 () p0 v w p3 := by
  obtain ⟨a, ha, ea⟩ := pk_andE p0 (m := 15) 4 (by decide)
  obtain ⟨q, hq, eq⟩ := pk_andE (p0 >>> ((4 : Int32) &&& 31)) (m := 15) 4 (by decide)
  obtain ⟨c, hc, ec⟩ := pk_andE (p0 >>> ((8 : Int32) &&& 31)) (m := 15) 4 (by decide)
  obtain ⟨q2, hq2, eq2⟩ := pk_andE (p0 >>> ((12 : Int32) &&& 31)) (m := 15) 4 (by decide)
  obtain ⟨e, he, ee⟩ := pk_andE p3 (m := 15) 4 (by decide)
  have ha : a < 16 := ha
  have hq : q < 16 := hq
  have hc : c < 16 := hc
  have hq2 : q2 < 16 := hq2
  have he : e < 16 := he
  have hm1 : q % (16 - a) < 16 - a := Nat.mod_lt _ (by omega)
  have hm2 : q2 % (16 - c) < 16 - c := Nat.mod_lt _ (by omega)
  obtain ⟨b, eb⟩ : ∃ b, b = a + q % (16 - a) := ⟨_, rfl⟩
  obtain ⟨d, ed⟩ : ∃ d, d = c + q2 % (16 - c) := ⟨_, rfl⟩
  have hab : a ≤ b := by omega
  have hb : b < 16 := by omega
  have hcd : c ≤ d := by omega
  have hd : d < 16 := by omega
  refine ⟨by decide, by decide, 8, 524, by decide, by decide, ic_init (fun F0 hK0 => ?_)⟩
  refine nm_r (e' := nI a) ea (And.intro (ic_ne16 ha) (nm_r (e' := nI b) (by rw [eq, ic_rem ha hq, eb]) (nm_r (e' := nI c) ec (And.intro (ic_ne16 hc) (nm_r (e' := nI d) (by rw [eq2, ic_rem hc hq2, ed]) (nm_r (e' := nI e) ee ?_))))))
  refine ic_fill hK0 (Or.inl rfl) hab hb (fun F1 G1 T1 V1 U1 mk1 hK1 => ?_)
  have hK1' : ic_K 1 0 (ic_q (ic_rg a b (some v) none) (fun _ => none) (fun _ => none) (fun _ => none)) F1 G1 T1 V1 U1 := ic_K_c hK1 (ic_q_c (fun _ => rfl) (fun _ => rfl) (fun _ => rfl) (fun _ => rfl) (fun _ => rfl) (fun _ => rfl) (fun _ => rfl) (fun _ => rfl))
  refine ic_overlay hK1' (fun hK2 => ?_)
  refine ic_snapshot hK2 (Or.inr rfl) (by omega) (fun F3 T3 hK3 => ?_)
  have hK3' : ic_K 2 1 (ic_q (ic_rg a b (some v) none) (fun _ => none) (fun _ => none) (fun _ => none)) F3 G1 T3 V1 U1 := ic_K_c hK3 (ic_q_c (fun _ => rfl) (fun _ => rfl) (fun _ => rfl) (fun _ => rfl) (fun _ => rfl) (fun _ => rfl) (fun _ => rfl) (fun _ => rfl))
  refine ic_fill hK3' (Or.inr rfl) hcd hd (fun F4 G4 T4 V4 U4 mk4 hK4 => ?_)
  have hK4' : ic_K 2 1 (ic_q (ic_rg a b (some v) none) (ic_rg c d (some w) none) (fun _ => none) (fun _ => none)) F4 G4 T4 V4 U4 := ic_K_c hK4 (ic_q_c (fun _ => rfl) (fun _ => rfl) (fun _ => rfl) (fun _ => rfl) (fun _ => rfl) (fun _ => rfl) (fun _ => rfl) (fun _ => rfl))
  refine ic_snapshot hK4' (Or.inr rfl) (by omega) (fun F5 T5 hK5 => ?_)
  have hK5' : ic_K 2 2 (ic_q (ic_rg a b (some v) none) (ic_rg c d (some w) none) (fun _ => none) (ic_rg c d (some w) none)) F5 G4 T5 V4 U4 := ic_K_c hK5 (ic_q_c (fun _ => rfl) (fun _ => rfl) (fun _ => rfl) (fun _ => rfl) (fun _ => rfl) (fun _ => rfl) (fun _ => rfl) (fun _ => rfl))
  refine ic_discard hK5' (Or.inr rfl) he (fun F6 G6 T6 U6 mk6 hK6 => ?_)
  have hK6' : ic_K 2 2 (ic_q (ic_rg a b (some v) none) (fun k => if k = e then none else ic_rg c d (some w) none k) (fun _ => none) (ic_rg c d (some w) none)) F6 G6 T6 V4 U6 := by
    refine ic_K_c hK6 (ic_q_c (fun _ => rfl) (fun k => ?_) (fun _ => rfl) (fun _ => rfl) (fun _ => rfl) (fun _ => rfl) (fun _ => rfl) (fun _ => rfl))
    show (if 1 = 2 - 1 ∧ k = e then none else ic_rg c d (some w) none k) = if k = e then none else ic_rg c d (some w) none k
    by_cases z : k = e
    · rw [if_pos ⟨rfl, z⟩, if_pos z]
    · rw [if_neg (fun q => z q.2), if_neg z]
  have h13 : nI (ic_cn (fun k => decide (c ≤ k) && (ic_W 2 (ic_q (ic_rg a b (some v) none) (fun _ => none) (fun _ => none) (fun _ => none)) (2 - 1) k != w)) (d + 1)) = nI (ic_cn (fun k => (ic_rg c d w (ic_rg a b v 0 k) k) != (ic_rg a b v 0 k)) 16) := by
    rw [← ic_second hd]
    refine congrArg nI (ic_cn_congr (fun k hk => ?_))
    show (decide (c ≤ k) && (ic_W 2 (ic_q (ic_rg a b (some v) none) (fun _ => none) (fun _ => none) (fun _ => none)) (2 - 1) k != w)) = (decide (c ≤ k) && ((ic_rg a b v 0 k) != w))
    rw [ic_q1, ic_a_bl]
  have L := fun kc ks => ic_lo1 (post := post) (mc := 9) (ms := 534) (kc := kc) (ks := ks) (mk := mk6) (cp := fun _ => 0) (bf := fun _ => 0) ha hb hc hd he hK6' h13 (ic_a_sc (w := w)) H 16 0 rfl
  have h1 := ic_first (v := v) hab
  refine br_t rfl (br_t rfl (br_t rfl (br_c (fun z => ?_) (fun z => ?_))))
  · exact br_t (h1.1 z) (Exists.intro 17 (L _ _))
  · exact br_t (h1.2 z) (Exists.intro 17 (L _ _))
theorem ic_cell {post : Int32 → Prop} {L : Nat} {xs : Nat → Int32} (j : Nat) (hj : j < 4) (hL : L ≤ 4) (H : ∀ r, post r) : wpL_cellAt post L xs () (nI j) :=
  pk_le L j (fun _ => H 0) (fun z => ⟨pk_in j L z, H _⟩)
theorem i_vc (xs : Nat → Int32) (L : Nat) (hL : L ≤ 4) : wpL_law (fun r => r = 1) L xs :=
  ic_cell 0 (by omega) hL (fun r1 => ic_cell 1 (by omega) hL (fun r2 => ic_cell 2 (by omega) hL (fun r3 => ic_cell 3 (by omega) hL (fun r4 => Exists.intro 9 (Exists.intro 534 ⟨by decide, by decide, ic_lawOf r1 r2 r3 r4 rfl⟩)))))
end
