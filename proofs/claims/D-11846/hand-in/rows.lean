section
/-- the edges of a point by its places, 24 for none -/
def sl_PL : List Nat := [0, 12, 24, 24, 0, 1, 13, 24, 1, 2, 14, 24, 2, 15, 24, 24, 3, 12, 16, 24, 3, 4, 13, 17, 4, 5, 14, 18, 5, 15, 19, 24, 6, 16, 20, 24, 6, 7, 17, 21, 7, 8, 18, 22, 8, 19, 23, 24, 9, 20, 24, 24, 9, 10, 21, 24, 10, 11, 22, 24, 11, 23, 24, 24]
def sl_P (k : Nat) : Nat := sl_PL.getD k 24
/-- the two ends of an edge -/
def sl_A (e : Nat) : Nat := if e < 12 then e / 3 * 4 + e % 3 else e - 12
def sl_E (e : Nat) : Nat := if e < 12 then e / 3 * 4 + e % 3 + 1 else e - 8
/-- the edges of a cell -/
def sl_C (k : Nat) : Nat := if k % 4 = 0 then k / 4 / 3 * 3 + k / 4 % 3 else if k % 4 = 1 then k / 4 / 3 * 3 + 3 + k / 4 % 3 else if k % 4 = 2 then 12 + k / 4 / 3 * 4 + k / 4 % 3 else 13 + k / 4 / 3 * 4 + k / 4 % 3
/-- what the points' table holds when e edges are placed -/
def sl_pv (e k : Nat) : Int32 := if sl_P k < e then nI (sl_P k) else -1
def sl_bd (a3 a4 a5 a6 : Nat → Int32) : Prop := (∀ e, e < 24 → a3 e = nI (sl_A e)) ∧ (∀ e, e < 24 → a4 e = nI (sl_E e)) ∧ (∀ k, k < 36 → a5 k = nI (sl_C k)) ∧ (∀ k, k < 64 → a6 k = sl_pv 24 k)
theorem sl_A16 : ∀ e, e < 24 → sl_A e < 16 := by decide +kernel
theorem sl_E16 : ∀ e, e < 24 → sl_E e < 16 := by decide +kernel
theorem sl_C24 : ∀ k, k < 36 → sl_C k < 24 := by decide +kernel
theorem sl_pv_lt {e k : Nat} (h : sl_P k < e) : sl_pv e k = nI (sl_P k) := if_pos h
theorem sl_pv_ge {e k : Nat} (h : ¬ sl_P k < e) : sl_pv e k = -1 := if_neg h
/-- the rectangle's edges that the law has marked after i turns -/
def sl_R (t l h w : Nat) : Nat → Nat → Bool
  | 0, _ => false
  | i + 1, e => sl_R t l h w i e || (decide (i < w) && (decide (e = t * 3 + l + i) || decide (e = (t + h) * 3 + l + i))) || (decide (i < h) && (decide (e = 12 + (t + i) * 4 + l) || decide (e = 12 + (t + i) * 4 + l + w)))
/-- how many of a point's first n places hold an edge of q -/
def sl_ca (q : Nat → Bool) (p : Nat) : Nat → Nat
  | 0 => 0
  | n + 1 => sl_ca q p n + (if sl_P (p * 4 + n) < 24 then (if q (sl_P (p * 4 + n)) = true then 1 else 0) else 0)
/-- how many of a cell's first n edges are in q -/
def sl_ci (q : Nat → Bool) (c : Nat) : Nat → Nat
  | 0 => 0
  | n + 1 => sl_ci q c n + (if q (sl_C (c * 4 + n)) = true then 1 else 0)
/-- the root of a point -/
def sl_rt (P : Nat → Nat) : Nat → Nat → Nat
  | 0, p => p
  | n + 1, p => if P p = p then p else sl_rt P n (P p)
def sl_up (P : Nat → Nat) (x y : Nat) : Nat → Nat := fun q => if q = x then y else P q
/-- the pieces after e edges: how many closed, and the links -/
def sl_uf (R : Nat → Bool) : Nat → Nat × (Nat → Nat)
  | 0 => (0, fun q => q)
  | e + 1 => if R e = true then (if sl_rt (sl_uf R e).2 16 (sl_A e) = sl_rt (sl_uf R e).2 16 (sl_E e) then ((sl_uf R e).1 + 1, (sl_uf R e).2) else ((sl_uf R e).1, sl_up (sl_uf R e).2 (sl_rt (sl_uf R e).2 16 (sl_A e)) (sl_rt (sl_uf R e).2 16 (sl_E e)))) else sl_uf R e
/-- how many pieces -/
def sl_pc (R : Nat → Bool) (P : Nat → Nat) : Nat → Nat
  | 0 => 0
  | p + 1 => if P p = p then (if 0 < sl_ca R p 4 then sl_pc R P p + 1 else sl_pc R P p) else sl_pc R P p
/-- the bit set of the chosen edges -/
def sl_set (R : Nat → Bool) : Nat → Int32
  | 0 => 0
  | n + 1 => if R n = true then sl_set R n ||| ((1 : Int32) <<< (nI n &&& 31)) else sl_set R n
def sl_on (x : Int32) : Nat → Int32
  | 0 => 0
  | n + 1 => sl_on x n + ((x >>> (nI n &&& 31)) &&& 1)
/-- a row's sum and oddness, from the sum s -/
def sl_ii (x : Int32) (r : Nat) (s : Int32) : Nat → Int32 × Int32
  | 0 => (s, 0)
  | c + 1 => ((sl_ii x r s c).1 + ((sl_ii x r s c).2 ^^^ ((x >>> (((12 + (nI r * 4)) + nI c) &&& 31)) &&& 1)), (sl_ii x r s c).2 ^^^ ((x >>> (((12 + (nI r * 4)) + nI c) &&& 31)) &&& 1))
def sl_io (x : Int32) : Nat → Int32
  | 0 => 0
  | r + 1 => (sl_ii x r (sl_io x r) 3).1
/-- what the walk needs of the chosen edges -/
def sl_ok (R : Nat → Bool) : Prop := (∀ p, p < 16 → sl_ca R p 4 = 0 ∨ sl_ca R p 4 = 2) ∧ (sl_uf R 24).1 = 1 ∧ sl_pc R (sl_uf R 24).2 16 = 1 ∧ ¬ sl_set R 24 = 0
/-- a cell's edges are chosen, or meet a point with two chosen ones -/
def sl_cl (R : Nat → Bool) (c : Nat) : Prop := ∀ k, k < 4 → R (sl_C (c * 4 + k)) = true ∨ ∃ p, p < 16 ∧ (sl_ca R p 4 = 2 ∧ ∃ j, j < 4 ∧ sl_P (p * 4 + j) = sl_C (c * 4 + k))
/-- how many places of the first n are not 0 -/
def sl_n (a : Nat → Int32) : Nat → Nat
  | 0 => 0
  | n + 1 => sl_n a n + (if a n = 0 then 0 else 1)
theorem sl_n_le (a : Nat → Int32) : ∀ n, sl_n a n ≤ n := by
  intro n
  induction n with
  | zero => exact Nat.le_refl 0
  | succ n ih =>
    show sl_n a n + (if a n = 0 then 0 else 1) ≤ n + 1
    split <;> omega
theorem sl_n_lt (a : Nat → Int32) : ∀ n k, k < n → a k = 0 → sl_n a n < n := by
  intro n
  induction n with
  | zero => intro k hk; omega
  | succ n ih =>
    intro k hk h0
    show sl_n a n + (if a n = 0 then 0 else 1) < n + 1
    by_cases e : k = n
    · rw [← e, if_pos h0]
      have := sl_n_le a k
      omega
    · have := ih k (by omega) h0
      split <;> omega
theorem sl_n_same {a b : Nat → Int32} : ∀ n, (∀ k, k < n → a k = b k) → sl_n a n = sl_n b n := by
  intro n
  induction n with
  | zero => intro _; rfl
  | succ n ih =>
    intro h
    show sl_n a n + (if a n = 0 then 0 else 1) = sl_n b n + (if b n = 0 then 0 else 1)
    rw [ih (fun k hk => h k (by omega)), h n (by omega)]
theorem sl_n_up {a : Nat → Int32} {k : Nat} {v : Int32} (h0 : a k = 0) (hv : ¬ v = 0) : ∀ n, k < n → sl_n (upd a k v) n = sl_n a n + 1 := by
  intro n
  induction n with
  | zero => intro hk; omega
  | succ n ih =>
    intro hk
    show sl_n (upd a k v) n + (if upd a k v n = 0 then 0 else 1) = sl_n a n + (if a n = 0 then 0 else 1) + 1
    by_cases e : k = n
    · have e1 : sl_n (upd a k v) k = sl_n a k := sl_n_same k (fun j hj => pk_un (show j ≠ k by omega))
      rw [← e, pk_us, if_neg hv, if_pos h0]
      omega
    · rw [pk_un (show n ≠ k by omega), ih (by omega)]
      omega
/-- the state of the edges: the chosen ones are R, the trail counts all that are decided -/
def sl_I (R : Nat → Bool) (a7 : Nat → Int32) (tr : Int32) : Prop := (∀ e, e < 24 → (R e = true → a7 e = 1) ∧ (R e = false → a7 e = 0 ∨ a7 e = 2)) ∧ tr = nI (sl_n a7 24)
theorem sl_I_0 {R : Nat → Bool} {a7 : Nat → Int32} {tr : Int32} {e : Nat} (h : sl_I R a7 tr) (he : e < 24) (h0 : a7 e = 0) : R e = false := by
  cases hr : R e with
  | false => rfl
  | true =>
    have := (h.1 e he).1 hr
    rw [h0] at this
    exact absurd this (by decide)
theorem sl_I_up {R : Nat → Bool} {a7 : Nat → Int32} {tr : Int32} {e : Nat} (h : sl_I R a7 tr) (he : e < 24) (h0 : a7 e = 0) : sl_I R (upd a7 e 2) (nI (sl_n a7 24 + 1)) := by
  refine ⟨fun j hj => ?_, ?_⟩
  · by_cases ej : j = e
    · subst ej
      rw [pk_us]
      exact ⟨fun z => absurd (z.symm.trans (sl_I_0 h he h0)) (by decide), fun _ => Or.inr rfl⟩
    · rw [pk_un ej]
      exact h.1 j hj
  · rw [sl_n_up h0 (by decide) 24 he]
theorem sl_I_1 {R : Nat → Bool} {a7 : Nat → Int32} {tr : Int32} (h : sl_I R a7 tr) : ∀ e, e < 24 → decide (a7 e = 1) = R e := by
  intro e he
  cases hr : R e with
  | true => exact decide_eq_true ((h.1 e he).1 hr)
  | false =>
    rcases (h.1 e he).2 hr with z | z
    · exact decide_eq_false (by rw [z]; decide)
    · exact decide_eq_false (by rw [z]; decide)
theorem sl_I_ne {R : Nat → Bool} {a7 : Nat → Int32} {tr : Int32} {e : Nat} (h : sl_I R a7 tr) (he : e < 24) (hr : R e = true) : ¬ a7 e = 0 := by
  rw [(h.1 e he).1 hr]
  decide
theorem sl_ca_c {q q' : Nat → Bool} (p : Nat) (h : ∀ e, e < 24 → q e = q' e) : ∀ n, sl_ca q p n = sl_ca q' p n := by
  intro n
  induction n with
  | zero => rfl
  | succ n ih =>
    show sl_ca q p n + (if sl_P (p * 4 + n) < 24 then (if q (sl_P (p * 4 + n)) = true then 1 else 0) else 0) = sl_ca q' p n + (if sl_P (p * 4 + n) < 24 then (if q' (sl_P (p * 4 + n)) = true then 1 else 0) else 0)
    rw [ih]
    by_cases e : sl_P (p * 4 + n) < 24
    · rw [if_pos e, if_pos e, h _ e]
    · rw [if_neg e, if_neg e]
theorem sl_ca_le (q : Nat → Bool) (p : Nat) : ∀ n, sl_ca q p n ≤ n := by
  intro n
  induction n with
  | zero => exact Nat.le_refl 0
  | succ n ih =>
    show sl_ca q p n + (if sl_P (p * 4 + n) < 24 then (if q (sl_P (p * 4 + n)) = true then 1 else 0) else 0) ≤ n + 1
    split
    · split <;> omega
    · omega
theorem sl_ci_c {q q' : Nat → Bool} (c : Nat) (hc : c < 9) (h : ∀ e, e < 24 → q e = q' e) : ∀ n, n ≤ 4 → sl_ci q c n = sl_ci q' c n := by
  intro n
  induction n with
  | zero => intro _; rfl
  | succ n ih =>
    intro hn
    show sl_ci q c n + (if q (sl_C (c * 4 + n)) = true then 1 else 0) = sl_ci q' c n + (if q' (sl_C (c * 4 + n)) = true then 1 else 0)
    rw [ih (by omega), h _ (sl_C24 _ (by omega))]
theorem sl_ci_le (q : Nat → Bool) (c : Nat) : ∀ n, sl_ci q c n ≤ n := by
  intro n
  induction n with
  | zero => exact Nat.le_refl 0
  | succ n ih =>
    show sl_ci q c n + (if q (sl_C (c * 4 + n)) = true then 1 else 0) ≤ n + 1
    split <;> omega
theorem sl_ci_0 {q : Nat → Bool} (c : Nat) : ∀ n, (∀ k, k < n → q (sl_C (c * 4 + k)) = false) → sl_ci q c n = 0 := by
  intro n
  induction n with
  | zero => intro _; rfl
  | succ n ih =>
    intro h
    show sl_ci q c n + (if q (sl_C (c * 4 + n)) = true then 1 else 0) = 0
    exact Nat.add_eq_zero_iff.mpr ⟨ih (fun k hk => h k (by omega)), if_neg (by rw [h n (by omega)]; decide)⟩
theorem sl_ix (p i : Nat) : nI p * 4 + nI i = nI (p * 4 + i) := by
  have h : nI p * nI 4 + nI i = nI (p * 4 + i) := by rw [pk_mul, nI_add]
  exact h
end
section
/-- where an edge stands among a point's places -/
def sl_s (p e : Nat) : Nat := if sl_P (p * 4) = e then 0 else if sl_P (p * 4 + 1) = e then 1 else if sl_P (p * 4 + 2) = e then 2 else 3
theorem sl_plc : ∀ e, e < 24 → sl_s (sl_A e) e < 4 ∧ sl_s (sl_E e) e < 4 ∧ (∀ j, j < sl_s (sl_A e) e → sl_P (sl_A e * 4 + j) < e) ∧ sl_P (sl_A e * 4 + sl_s (sl_A e) e) = e ∧ (∀ j, j < sl_s (sl_E e) e → sl_P (sl_E e * 4 + j) < e) ∧ sl_P (sl_E e * 4 + sl_s (sl_E e) e) = e ∧ ¬ sl_A e = sl_E e ∧ (∀ k, k < 64 → sl_P k = e → k = sl_A e * 4 + sl_s (sl_A e) e ∨ k = sl_E e * 4 + sl_s (sl_E e) e) := by decide +kernel
theorem sl_all {P : Nat → Nat → Nat → Nat → Bool} (H : (List.range 3).all (fun t => (List.range 3).all (fun l => (List.range (3 - t)).all (fun h => (List.range (3 - l)).all (fun w => P t l (h + 1) (w + 1))))) = true) : ∀ t, t < 3 → ∀ l, l < 3 → ∀ h, h < 4 → ∀ w, w < 4 → 0 < h → 0 < w → t + h ≤ 3 → l + w ≤ 3 → P t l h w = true := by
  intro t ht l hl h _ w _ h0 w0 hth hlw
  have r := List.all_eq_true.mp (List.all_eq_true.mp (List.all_eq_true.mp (List.all_eq_true.mp H t (List.mem_range.mpr ht)) l (List.mem_range.mpr hl)) (h - 1) (List.mem_range.mpr (by omega))) (w - 1) (List.mem_range.mpr (by omega))
  rw [show h - 1 + 1 = h by omega, show w - 1 + 1 = w by omega] at r
  exact r
theorem sl_f1 : ∀ t, t < 3 → ∀ l, l < 3 → ∀ h, h < 4 → ∀ w, w < 4 → 0 < h → 0 < w → t + h ≤ 3 → l + w ≤ 3 → ∀ p, p < 16 → sl_ca (sl_R t l h w 3) p 4 = 0 ∨ sl_ca (sl_R t l h w 3) p 4 = 2 := fun t ht l hl h hh w hw h0 w0 hth hlw p hp => of_decide_eq_true (List.all_eq_true.mp (sl_all (P := fun t l h w => (List.range 16).all (fun p => decide (sl_ca (sl_R t l h w 3) p 4 = 0 ∨ sl_ca (sl_R t l h w 3) p 4 = 2))) (by decide +kernel) t ht l hl h hh w hw h0 w0 hth hlw) p (List.mem_range.mpr hp))
theorem sl_f2 : ∀ t, t < 3 → ∀ l, l < 3 → ∀ h, h < 4 → ∀ w, w < 4 → 0 < h → 0 < w → t + h ≤ 3 → l + w ≤ 3 → (sl_uf (sl_R t l h w 3) 24).1 = 1 := fun t ht l hl h hh w hw h0 w0 hth hlw => of_decide_eq_true (sl_all (P := fun t l h w => decide ((sl_uf (sl_R t l h w 3) 24).1 = 1)) (by decide +kernel) t ht l hl h hh w hw h0 w0 hth hlw)
theorem sl_f3 : ∀ t, t < 3 → ∀ l, l < 3 → ∀ h, h < 4 → ∀ w, w < 4 → 0 < h → 0 < w → t + h ≤ 3 → l + w ≤ 3 → sl_pc (sl_R t l h w 3) (sl_uf (sl_R t l h w 3) 24).2 16 = 1 := fun t ht l hl h hh w hw h0 w0 hth hlw => of_decide_eq_true (sl_all (P := fun t l h w => decide (sl_pc (sl_R t l h w 3) (sl_uf (sl_R t l h w 3) 24).2 16 = 1)) (by decide +kernel) t ht l hl h hh w hw h0 w0 hth hlw)
theorem sl_f4 : ∀ t, t < 3 → ∀ l, l < 3 → ∀ h, h < 4 → ∀ w, w < 4 → 0 < h → 0 < w → t + h ≤ 3 → l + w ≤ 3 → ¬ sl_set (sl_R t l h w 3) 24 = 0 := fun t ht l hl h hh w hw h0 w0 hth hlw => of_decide_eq_true (sl_all (P := fun t l h w => decide (¬ sl_set (sl_R t l h w 3) 24 = 0)) (by decide +kernel) t ht l hl h hh w hw h0 w0 hth hlw)
theorem sl_f5 : ∀ t, t < 3 → ∀ l, l < 3 → ∀ h, h < 4 → ∀ w, w < 4 → 0 < h → 0 < w → t + h ≤ 3 → l + w ≤ 3 → sl_on (sl_set (sl_R t l h w 3) 24) 24 = nI (2 * (h + w)) := fun t ht l hl h hh w hw h0 w0 hth hlw => of_decide_eq_true (sl_all (P := fun t l h w => decide (sl_on (sl_set (sl_R t l h w 3) 24) 24 = nI (2 * (h + w)))) (by decide +kernel) t ht l hl h hh w hw h0 w0 hth hlw)
theorem sl_f6 : ∀ t, t < 3 → ∀ l, l < 3 → ∀ h, h < 4 → ∀ w, w < 4 → 0 < h → 0 < w → t + h ≤ 3 → l + w ≤ 3 → sl_io (sl_set (sl_R t l h w 3) 24) 3 = nI (h * w) := fun t ht l hl h hh w hw h0 w0 hth hlw => of_decide_eq_true (sl_all (P := fun t l h w => decide (sl_io (sl_set (sl_R t l h w 3) 24) 3 = nI (h * w))) (by decide +kernel) t ht l hl h hh w hw h0 w0 hth hlw)
theorem sl_f7 : ∀ t, t < 3 → ∀ l, l < 3 → ∀ h, h < 4 → ∀ w, w < 4 → 0 < h → 0 < w → t + h ≤ 3 → l + w ≤ 3 → sl_ci (sl_R t l h w 3) (t * 3 + l) 4 = (if h = 1 then 2 else 1) + (if w = 1 then 2 else 1) := fun t ht l hl h hh w hw h0 w0 hth hlw => of_decide_eq_true (sl_all (P := fun t l h w => decide (sl_ci (sl_R t l h w 3) (t * 3 + l) 4 = (if h = 1 then 2 else 1) + (if w = 1 then 2 else 1))) (by decide +kernel) t ht l hl h hh w hw h0 w0 hth hlw)
theorem sl_f8 : ∀ t, t < 3 → ∀ l, l < 3 → ∀ h, h < 4 → ∀ w, w < 4 → 0 < h → 0 < w → t + h ≤ 3 → l + w ≤ 3 → ∀ k, k < 4 → sl_R t l h w 3 (sl_C ((t * 3 + l) * 4 + k)) = true ∨ ∃ p, p < 16 ∧ (sl_ca (sl_R t l h w 3) p 4 = 2 ∧ ∃ j, j < 4 ∧ sl_P (p * 4 + j) = sl_C ((t * 3 + l) * 4 + k)) := by
  intro t ht l hl h hh w hw h0 w0 hth hlw k hk
  have r := List.all_eq_true.mp (sl_all (P := fun t l h w => (List.range 4).all (fun k => sl_R t l h w 3 (sl_C ((t * 3 + l) * 4 + k)) || (List.range 16).any (fun p => decide (sl_ca (sl_R t l h w 3) p 4 = 2) && (List.range 4).any (fun j => decide (sl_P (p * 4 + j) = sl_C ((t * 3 + l) * 4 + k)))))) (by decide +kernel) t ht l hl h hh w hw h0 w0 hth hlw) k (List.mem_range.mpr hk)
  rcases Bool.or_eq_true_iff.mp r with z | z
  · exact Or.inl z
  · obtain ⟨p, hp, z⟩ := List.any_eq_true.mp z
    have z2 := Bool.and_eq_true_iff.mp z
    obtain ⟨j, hj, y⟩ := List.any_eq_true.mp z2.2
    exact Or.inr ⟨p, List.mem_range.mp hp, of_decide_eq_true z2.1, j, List.mem_range.mp hj, of_decide_eq_true y⟩
theorem sl_f9 : ∀ t, t < 3 → ∀ l, l < 3 → ∀ h, h < 4 → ∀ w, w < 4 → 0 < h → 0 < w → t + h ≤ 3 → l + w ≤ 3 → (sl_set (sl_R t l h w 3) 24 >>> (nI (t * 3 + l) &&& 31)) &&& 1 = 1 := fun t ht l hl h hh w hw h0 w0 hth hlw => of_decide_eq_true (sl_all (P := fun t l h w => decide ((sl_set (sl_R t l h w 3) 24 >>> (nI (t * 3 + l) &&& 31)) &&& 1 = 1)) (by decide +kernel) t ht l hl h hh w hw h0 w0 hth hlw)
end
section
theorem sl_C_0 (i : Nat) : sl_C (i * 4) = i / 3 * 3 + i % 3 := by
  unfold sl_C
  rw [if_pos (by omega), show i * 4 / 4 = i by omega]
theorem sl_C_1 (i : Nat) : sl_C (i * 4 + 1) = i / 3 * 3 + 3 + i % 3 := by
  unfold sl_C
  rw [if_neg (by omega), if_pos (by omega), show (i * 4 + 1) / 4 = i by omega]
theorem sl_C_2 (i : Nat) : sl_C (i * 4 + 2) = 12 + i / 3 * 4 + i % 3 := by
  unfold sl_C
  rw [if_neg (by omega), if_neg (by omega), if_pos (by omega), show (i * 4 + 2) / 4 = i by omega]
theorem sl_C_3 (i : Nat) : sl_C (i * 4 + 3) = 13 + i / 3 * 4 + i % 3 := by
  unfold sl_C
  rw [if_neg (by omega), if_neg (by omega), if_neg (by omega), show (i * 4 + 3) / 4 = i by omega]
theorem sl_cfill {s : Nat → Int32} {i : Nat} (h : ∀ k, k < 4 * i → s k = nI (sl_C k)) : ∀ k, k < 4 * (i + 1) → upd (upd (upd (upd s (i * 4) (nI (i / 3 * 3 + i % 3))) (i * 4 + 1) (nI (i / 3 * 3 + 3 + i % 3))) (i * 4 + 2) (nI (12 + i / 3 * 4 + i % 3))) (i * 4 + 3) (nI (13 + i / 3 * 4 + i % 3)) k = nI (sl_C k) := by
  intro k hk
  by_cases e3 : k = i * 4 + 3
  · rw [e3, pk_us, sl_C_3]
  · rw [pk_un e3]
    by_cases e2 : k = i * 4 + 2
    · rw [e2, pk_us, sl_C_2]
    · rw [pk_un e2]
      by_cases e1 : k = i * 4 + 1
      · rw [e1, pk_us, sl_C_1]
      · rw [pk_un e1]
        by_cases e0 : k = i * 4
        · rw [e0, pk_us, sl_C_0]
        · rw [pk_un e0]
          exact h k (by omega)
theorem sl_fl {s f : Nat → Int32} {i : Nat} (h : ∀ e, e < i → s e = f e) : ∀ e, e < i + 1 → upd s i (f i) e = f e := by
  intro e he
  by_cases c : e = i
  · rw [c, pk_us]
  · rw [pk_un c]
    exact h e (by omega)
theorem sl_u1 {f : Nat → Int32} {x v v' : Int32} {k : Nat} (hx : x = nI k) (hk : k < 2 ^ 31) (hv : v = v') : upd f x.toNatClampNeg v = upd f k v' := by
  subst hx hv
  rw [nI_clamp hk]
theorem sl_vin {x : Int32} {k n : Nat} (hx : x = nI k) (hk : k < n) (hn : n < 2 ^ 31) : vp_in x n := by
  subst hx
  exact vp_in_nI hk hn
theorem sl_b0 (r c : Nat) : nI r * 3 + nI c = nI (r * 3 + c) := by
  have h : nI r * nI 3 + nI c = nI (r * 3 + c) := by rw [pk_mul, nI_add]
  exact h
theorem sl_b1 (r c : Nat) : nI r * 3 + 3 + nI c = nI (r * 3 + 3 + c) := by
  have h : nI r * nI 3 + nI 3 + nI c = nI (r * 3 + 3 + c) := by rw [pk_mul, nI_add, nI_add]
  exact h
theorem sl_b2 (r c : Nat) : 12 + nI r * 4 + nI c = nI (12 + r * 4 + c) := by
  have h : nI 12 + nI r * nI 4 + nI c = nI (12 + r * 4 + c) := by rw [pk_mul, nI_add, nI_add]
  exact h
theorem sl_b3 (r c : Nat) : 13 + nI r * 4 + nI c = nI (13 + r * 4 + c) := by
  have h : nI 13 + nI r * nI 4 + nI c = nI (13 + r * 4 + c) := by rw [pk_mul, nI_add, nI_add]
  exact h
theorem sl_d3 {i : Nat} (h : i < 2 ^ 31) : nI i / 3 = nI (i / 3) := pk_div (d := 3) h (by omega) (by omega)
theorem sl_m3 {i : Nat} (h : i < 2 ^ 31) : nI i - nI i / 3 * 3 = nI (i % 3) := pk_rem (d := 3) h (by omega) (by omega)
theorem sl_x4 (i : Nat) : nI i * 4 = nI (i * 4) := pk_mul i 4
section
variable {post : St2 → Prop} {tr de mo re fo : Int32} {a1 a2 a3 a4 a5 a6 a7 a8 a9 a10 a11 a12 a13 : Nat → Int32}
theorem sl_join {p e k : Nat} (hp : p < 16) (hk : k < 4) (h1 : ∀ j, j < k → ¬ a6 (p * 4 + j) < 0) (h2 : k < 3 → a6 (p * 4 + k) < 0) (H : post (tr, de, mo, re, fo, a1, a2, a3, a4, a5, upd a6 (p * 4 + k) (nI e), a7, a8, a9, a10, a11, a12, a13)) : wpX_join post (tr, de, mo, re, fo, a1, a2, a3, a4, a5, a6, a7, a8, a9, a10, a11, a12, a13) (nI p) (nI e) := by
  have X : wX_join_26 post (nI p) (nI e) (nI k) tr de mo re fo a1 a2 a3 a4 a5 a6 a7 a8 a9 a10 a11 a12 a13 := And.intro (sl_vin (sl_ix p k) (by omega) (by omega)) (nm_r (sl_u1 (sl_ix p k) (by omega) rfl) H)
  refine pk_loop (σ := Unit) (fun n i _ => wX_join_2 post (nI p) (nI e) tr de mo re fo a1 a2 a3 a4 a5 a6 a7 a8 a9 a10 a11 a12 a13 n (nI i)) (fun _ _ => True) k 0 () (by omega) trivial (fun n _ _ => ?_) (fun n i _ hi _ hw => ?_)
  · exact pk_le 3 k (fun _ => X) (fun z => ⟨sl_vin (sl_ix p k) (by omega) (by omega), br_t (by rw [sl_ix, nI_clamp (by omega)]; exact h2 z) X⟩)
  · exact pk_le 3 i (fun z => absurd z (by omega)) (fun z => ⟨sl_vin (sl_ix p i) (by omega) (by omega), br_f (by rw [sl_ix, nI_clamp (by omega)]; exact h1 i hi) (nm_r (nI_1 i) (hw () trivial))⟩)
theorem sl_place {e a b k1 k2 : Nat} (he : e < 24) (ha : a < 16) (hb : b < 16) (hk1 : k1 < 4) (hk2 : k2 < 4) (h1 : ∀ j, j < k1 → ¬ a6 (a * 4 + j) < 0) (h2 : k1 < 3 → a6 (a * 4 + k1) < 0) (h3 : ∀ j, j < k2 → ¬ upd a6 (a * 4 + k1) (nI e) (b * 4 + j) < 0) (h4 : k2 < 3 → upd a6 (a * 4 + k1) (nI e) (b * 4 + k2) < 0) (H : post (tr, de, mo, re, fo, a1, a2, upd a3 e (nI a), upd a4 e (nI b), a5, upd (upd a6 (a * 4 + k1) (nI e)) (b * 4 + k2) (nI e), a7, a8, a9, a10, a11, a12, a13)) : wpX_place post (tr, de, mo, re, fo, a1, a2, a3, a4, a5, a6, a7, a8, a9, a10, a11, a12, a13) (nI e) (nI a) (nI b) :=
  And.intro (pk_in e 24 he) (nm_r (sl_u1 rfl (by omega) rfl) ⟨pk_in e 24 he, nm_r (sl_u1 rfl (by omega) rfl) (sl_join ha hk1 h1 h2 (sl_join hb hk2 h3 h4 H))⟩)
theorem sl_placeE {e : Nat} (he : e < 24) (h6 : ∀ k, k < 64 → a6 k = sl_pv e k) (H : ∀ b6, (∀ k, k < 64 → b6 k = sl_pv (e + 1) k) → post (tr, de, mo, re, fo, a1, a2, upd a3 e (nI (sl_A e)), upd a4 e (nI (sl_E e)), a5, b6, a7, a8, a9, a10, a11, a12, a13)) : wpX_place post (tr, de, mo, re, fo, a1, a2, a3, a4, a5, a6, a7, a8, a9, a10, a11, a12, a13) (nI e) (nI (sl_A e)) (nI (sl_E e)) := by
  obtain ⟨q1, q2, q3, q4, q5, q6, q7, q8⟩ := sl_plc e he
  have hA := sl_A16 e he
  have hE := sl_E16 e he
  refine sl_place he hA hE q1 q2 (fun j hj => ?_) (fun _ => ?_) (fun j hj => ?_) (fun _ => ?_) (H _ (fun k hk => ?_))
  · rw [h6 _ (by omega), sl_pv_lt (q3 j hj)]
    have := q3 j hj
    exact nI_pos (by omega)
  · rw [h6 _ (by omega), sl_pv_ge (by omega)]
    decide
  · rw [pk_un (by omega), h6 _ (by omega), sl_pv_lt (q5 j hj)]
    have := q5 j hj
    exact nI_pos (by omega)
  · rw [pk_un (by omega), h6 _ (by omega), sl_pv_ge (by omega)]
    decide
  · by_cases c2 : k = sl_E e * 4 + sl_s (sl_E e) e
    · rw [c2, pk_us, sl_pv_lt (by omega), q6]
    · rw [pk_un c2]
      by_cases c1 : k = sl_A e * 4 + sl_s (sl_A e) e
      · rw [c1, pk_us, sl_pv_lt (by omega), q4]
      · rw [pk_un c1, h6 k hk]
        have ne : sl_P k ≠ e := fun z => by
          rcases q8 k hk z with z | z
          · exact c1 z
          · exact c2 z
        by_cases c : sl_P k < e
        · rw [sl_pv_lt c, sl_pv_lt (by omega)]
        · rw [sl_pv_ge c, sl_pv_ge (by omega)]
variable {mc ms kc ks : Nat}
theorem sl_i220 (H : ∀ b5, (∀ k, k < 36 → b5 k = nI (sl_C k)) → post (tr, de, mo, re, fo, a1, a2, a3, a4, b5, a6, a7, a8, a9, a10, a11, a12, a13)) : ∃ n, wX_init_220 post mc ms kc ks tr de mo re fo n 0 a1 a2 a3 a4 a5 a6 a7 a8 a9 a10 a11 a12 a13 := by
  refine pk_loop (fun n i s => wX_init_220 post mc ms kc ks tr de mo re fo n (nI i) a1 a2 a3 a4 s a6 a7 a8 a9 a10 a11 a12 a13) (fun i s => ∀ k, k < 4 * i → s k = nI (sl_C k)) 9 0 a5 (by omega) (fun k hk => absurd hk (by omega)) (fun n s h => ?_) (fun n i s hi h hw => ?_)
  · exact pk_le 9 9 (fun _ => H s h) (fun z => absurd z (by omega))
  · refine pk_le 9 i (fun z => absurd z (by omega)) (fun _ => ⟨by decide, nm_r (sl_d3 (by omega)) ⟨by decide, nm_r (sl_m3 (by omega)) ⟨sl_vin (sl_x4 i) (by omega) (by omega), nm_r (sl_u1 (sl_x4 i) (by omega) (sl_b0 _ _)) ⟨sl_vin (sl_ix i 1) (by omega) (by omega), nm_r (sl_u1 (sl_ix i 1) (by omega) (sl_b1 _ _)) ⟨sl_vin (sl_ix i 2) (by omega) (by omega), nm_r (sl_u1 (sl_ix i 2) (by omega) (sl_b2 _ _)) ⟨sl_vin (sl_ix i 3) (by omega) (by omega), nm_r (sl_u1 (sl_ix i 3) (by omega) (sl_b3 _ _)) (nm_r (nI_1 i) (hw _ (sl_cfill h)))⟩⟩⟩⟩⟩⟩)
theorem sl_i193 (h3 : ∀ e, e < 12 → a3 e = nI (sl_A e)) (h4 : ∀ e, e < 12 → a4 e = nI (sl_E e)) (h6 : ∀ k, k < 64 → a6 k = sl_pv 12 k) (H : ∀ b3 b4 b5 b6, sl_bd b3 b4 b5 b6 → post (tr, de, mo, re, fo, a1, a2, b3, b4, b5, b6, a7, a8, a9, a10, a11, a12, a13)) : ∃ n, wX_init_193 post mc ms kc ks n 12 tr de mo re fo a1 a2 a3 a4 a5 a6 a7 a8 a9 a10 a11 a12 a13 := by
  refine pk_loop (fun n i (s : (Nat → Int32) × (Nat → Int32) × (Nat → Int32)) => wX_init_193 post mc ms kc ks n (nI i) tr de mo re fo a1 a2 s.1 s.2.1 a5 s.2.2 a7 a8 a9 a10 a11 a12 a13) (fun i s => 12 ≤ i ∧ (∀ e, e < i → s.1 e = nI (sl_A e)) ∧ (∀ e, e < i → s.2.1 e = nI (sl_E e)) ∧ ∀ k, k < 64 → s.2.2 k = sl_pv i k) 24 12 (a3, a4, a6) (by omega) ⟨by omega, h3, h4, h6⟩ (fun n s h => ?_) (fun n i s hi h hw => ?_)
  · exact pk_le 24 24 (fun _ => sl_i220 (fun b5 h5 => H s.1 s.2.1 b5 s.2.2 ⟨h.2.1, h.2.2.1, h5, h.2.2.2⟩)) (fun z => absurd z (by omega))
  · obtain ⟨s3, s4, s6⟩ := s
    have g0 : 12 ≤ i := h.1
    have g3 : ∀ e, e < i → s3 e = nI (sl_A e) := h.2.1
    have g4 : ∀ e, e < i → s4 e = nI (sl_E e) := h.2.2.1
    have g6 : ∀ k, k < 64 → s6 k = sl_pv i k := h.2.2.2
    have h12 : ¬ i < 12 := by omega
    have e1 : nI i - 12 = nI (sl_A i) := by
      unfold sl_A
      rw [if_neg h12]
      exact pk_sub (b := 12) (by omega)
    have e2 : nI i - 8 = nI (sl_E i) := by
      unfold sl_E
      rw [if_neg h12]
      exact pk_sub (b := 8) (by omega)
    refine pk_le 24 i (fun z => absurd z (by omega)) (fun _ => ?_)
    rw [e1, e2]
    exact sl_placeE hi g6 (fun b6 hb6 => nm_r (nI_1 i) (hw (_, _, b6) ⟨by omega, sl_fl (f := fun e => nI (sl_A e)) g3, sl_fl (f := fun e => nI (sl_E e)) g4, hb6⟩))
theorem sl_i153 (h6 : ∀ k, k < 64 → a6 k = -1) (H : ∀ b3 b4 b5 b6, sl_bd b3 b4 b5 b6 → post (tr, de, mo, re, fo, a1, a2, b3, b4, b5, b6, a7, a8, a9, a10, a11, a12, a13)) : ∃ n, wX_init_153 post mc ms kc ks n 0 tr de mo re fo a1 a2 a3 a4 a5 a6 a7 a8 a9 a10 a11 a12 a13 := by
  refine pk_loop (fun n i (s : (Nat → Int32) × (Nat → Int32) × (Nat → Int32)) => wX_init_153 post mc ms kc ks n (nI i) tr de mo re fo a1 a2 s.1 s.2.1 a5 s.2.2 a7 a8 a9 a10 a11 a12 a13) (fun i s => (∀ e, e < i → s.1 e = nI (sl_A e)) ∧ (∀ e, e < i → s.2.1 e = nI (sl_E e)) ∧ ∀ k, k < 64 → s.2.2 k = sl_pv i k) 12 0 (a3, a4, a6) (by omega) ⟨lt_0, lt_0, fun k hk => (h6 k hk).trans (sl_pv_ge (by omega)).symm⟩ (fun n s h => ?_) (fun n i s hi h hw => ?_)
  · exact pk_le 12 12 (fun _ => sl_i193 h.1 h.2.1 h.2.2 H) (fun z => absurd z (by omega))
  · obtain ⟨s3, s4, s6⟩ := s
    have g3 : ∀ e, e < i → s3 e = nI (sl_A e) := h.1
    have g4 : ∀ e, e < i → s4 e = nI (sl_E e) := h.2.1
    have g6 : ∀ k, k < 64 → s6 k = sl_pv i k := h.2.2
    have e1 : nI i / 3 * 4 + (nI i - nI i / 3 * 3) = nI (sl_A i) := by
      rw [sl_m3 (by omega), sl_d3 (by omega), sl_ix]
      unfold sl_A
      rw [if_pos hi]
    have e2 : nI (sl_A i) + 1 = nI (sl_E i) := by
      rw [nI_1]
      unfold sl_A sl_E
      rw [if_pos hi, if_pos hi]
    refine pk_le 12 i (fun z => absurd z (by omega)) (fun _ => ⟨by decide, by decide, by decide, by decide, ?_⟩)
    rw [e1, e2]
    exact sl_placeE (by omega) g6 (fun b6 hb6 => nm_r (nI_1 i) (hw (_, _, b6) ⟨sl_fl (f := fun e => nI (sl_A e)) g3, sl_fl (f := fun e => nI (sl_E e)) g4, hb6⟩))
theorem sl_i132 (H : ∀ b3 b4 b5 b6, sl_bd b3 b4 b5 b6 → post (tr, de, mo, re, fo, a1, a2, b3, b4, b5, b6, a7, a8, a9, a10, a11, a12, a13)) : ∃ n, wX_init_132 post mc ms kc ks tr de mo re fo n 0 a1 a2 a3 a4 a5 a6 a7 a8 a9 a10 a11 a12 a13 := by
  refine pk_loop (fun n i s => wX_init_132 post mc ms kc ks tr de mo re fo n (nI i) a1 a2 a3 a4 a5 s a7 a8 a9 a10 a11 a12 a13) (fun i s => ∀ k, k < i → s k = -1) 64 0 a6 (by omega) lt_0 (fun n s h => ?_) (fun n i s hi h hw => ?_)
  · exact pk_le 64 64 (fun _ => sl_i153 h H) (fun z => absurd z (by omega))
  · exact pk_le 64 i (fun z => absurd z (by omega)) (fun _ => ⟨pk_in i 64 hi, nm_r (sl_u1 rfl (by omega) rfl) (nm_r (nI_1 i) (hw _ (sl_fl (f := fun _ => -1) h)))⟩)
theorem sl_i111 (H : ∀ b1 b3 b4 b5 b6, (∀ k, k < 9 → b1 k = 5) → sl_bd b3 b4 b5 b6 → post (tr, de, mo, re, fo, b1, a2, b3, b4, b5, b6, a7, a8, a9, a10, a11, a12, a13)) : ∃ n, wX_init_111 post mc ms kc ks tr de mo re fo n 0 a1 a2 a3 a4 a5 a6 a7 a8 a9 a10 a11 a12 a13 := by
  refine pk_loop (fun n i s => wX_init_111 post mc ms kc ks tr de mo re fo n (nI i) s a2 a3 a4 a5 a6 a7 a8 a9 a10 a11 a12 a13) (fun i s => ∀ k, k < i → s k = 5) 9 0 a1 (by omega) lt_0 (fun n s h => ?_) (fun n i s hi h hw => ?_)
  · exact pk_le 9 9 (fun _ => sl_i132 (fun b3 b4 b5 b6 hb => H s b3 b4 b5 b6 h hb)) (fun z => absurd z (by omega))
  · exact pk_le 9 i (fun z => absurd z (by omega)) (fun _ => ⟨pk_in i 9 hi, nm_r (sl_u1 rfl (by omega) rfl) (nm_r (nI_1 i) (hw _ (sl_fl (f := fun _ => 5) h)))⟩)
end
theorem sl_init {post : St2 → Prop} {mc ms : Nat} (hm : 13 ≤ mc) (hs : 576 ≤ ms) (H : ∀ b1 b3 b4 b5 b6, (∀ k, k < 9 → b1 k = 5) → sl_bd b3 b4 b5 b6 → post (0, 0, 0, 0, 0, b1, (fun _ => 0), b3, b4, b5, b6, (fun _ => 0), (fun _ => 0), (fun _ => 0), (fun _ => 0), (fun _ => 0), (fun _ => 0), (fun _ => 0))) : wpX_init post mc ms (0, 0, 0, 0, 0) :=
  And.intro (by omega) ⟨by omega, by omega, by omega, by omega, by omega, by omega, by omega, by omega, by omega, by omega, by omega, by omega, by omega, by omega, by omega, by omega, by omega, by omega, by omega, by omega, by omega, by omega, by omega, by omega, by omega, sl_i111 H⟩
end
section
section
variable {post : St2 → Prop} {tr de mo re fo : Int32} {a1 a2 a3 a4 a5 a6 a7 a8 a9 a10 a11 a12 a13 : Nat → Int32}
theorem sl_assign {e t : Nat} {v : Int32} (he : e < 24) (h0 : a7 e = 0) (hv : ¬ v = 0) (htr : tr = nI t) (ht : t < 24) (H : post (nI (t + 1), de, 1, re, fo, a1, a2, a3, a4, a5, a6, upd a7 e v, upd a8 t (nI e), a9, a10, a11, a12, a13)) : wpX_assign post (tr, de, mo, re, fo, a1, a2, a3, a4, a5, a6, a7, a8, a9, a10, a11, a12, a13) (nI e) v := by
  subst htr
  have c : a7 (nI e).toNatClampNeg = 0 := by rw [nI_clamp (by omega)]; exact h0
  exact And.intro (pk_in e 24 he) (br_f (fun z => hv (z.symm.trans c)) ⟨pk_in e 24 he, br_t c ⟨pk_in e 24 he, nm_r (sl_u1 rfl (by omega) rfl) ⟨pk_in t 24 ht, nm_r (sl_u1 rfl (by omega) rfl) (nm_r (nI_1 t) H)⟩⟩⟩)
/-- an edge without a side is crossed off -/
theorem sl_asg {R : Nat → Bool} {e : Nat} (he : e < 24) (hI : sl_I R a7 tr) (h0 : a7 e = 0) (H : ∀ tr' b8, sl_I R (upd a7 e 2) tr' → post (tr', de, 1, re, fo, a1, a2, a3, a4, a5, a6, upd a7 e 2, b8, a9, a10, a11, a12, a13)) : wpX_assign post (tr, de, mo, re, fo, a1, a2, a3, a4, a5, a6, a7, a8, a9, a10, a11, a12, a13) (nI e) 2 :=
  sl_assign he h0 (by decide) hI.2 (sl_n_lt a7 24 e he h0) (H _ _ (sl_I_up hI he h0))
theorem sl_mono {a b : Nat → Int32} {e : Nat} (h : ∀ j, j < 24 → ¬ a j = 0 → ¬ b j = 0) : ∀ j, j < 24 → ¬ a j = 0 → ¬ upd b e 2 j = 0 := by
  intro j hj ha
  by_cases c : j = e
  · rw [c, pk_us]
    decide
  · rw [pk_un c]
    exact h j hj ha
end
section
variable {post : Int32 → Prop} {tr de mo re fo : Int32} {a1 a2 a3 a4 a5 a6 a7 a8 a9 a10 a11 a12 a13 : Nat → Int32}
theorem sl_countAt {s : Int32} {p : Nat} (hp : p < 16) (hb : sl_bd a3 a4 a5 a6) (H : post (nI (sl_ca (fun e => decide (a7 e = s)) p 4))) : wpX_countAt post (tr, de, mo, re, fo, a1, a2, a3, a4, a5, a6, a7, a8, a9, a10, a11, a12, a13) (nI p) s := by
  refine pk_loop (σ := Unit) (fun n i _ => wX_countAt_5 post (nI p) s tr de mo re fo a1 a2 a3 a4 a5 a6 a7 a8 a9 a10 a11 a12 a13 n (nI (sl_ca (fun e => decide (a7 e = s)) p i)) (nI i)) (fun _ _ => True) 4 0 () (by omega) trivial (fun n _ _ => ?_) (fun n i _ hi _ hw => ?_)
  · exact pk_le 4 4 (fun _ => H) (fun z => absurd z (by omega))
  · have t : wX_countAt_5 post (nI p) s tr de mo re fo a1 a2 a3 a4 a5 a6 a7 a8 a9 a10 a11 a12 a13 n (nI (sl_ca (fun e => decide (a7 e = s)) p i + (if sl_P (p * 4 + i) < 24 then (if decide (a7 (sl_P (p * 4 + i)) = s) = true then 1 else 0) else 0))) (nI (i + 1)) := hw () trivial
    have e6 : a6 (nI p * 4 + nI i).toNatClampNeg = sl_pv 24 (p * 4 + i) := by
      rw [sl_ix, nI_clamp (by omega)]
      exact hb.2.2.2 _ (by omega)
    refine pk_le 4 i (fun z => absurd z (by omega)) (fun _ => ⟨sl_vin (sl_ix p i) (by omega) (by omega), nm_r e6 ?_⟩)
    by_cases c : sl_P (p * 4 + i) < 24
    · rw [if_pos c] at t
      rw [sl_pv_lt c]
      refine br_f (nI_pos (by omega)) ⟨vp_in_nI c (by omega), ?_⟩
      rw [nI_clamp (by omega)]
      by_cases d : a7 (sl_P (p * 4 + i)) = s
      · rw [if_pos (decide_eq_true d)] at t
        exact br_t d (nm_r (nI_1 _) (nm_r (nI_1 i) t))
      · rw [if_neg (by rw [decide_eq_false d]; decide)] at t
        exact br_f d (nm_r (nI_1 i) t)
    · rw [if_neg c] at t
      rw [sl_pv_ge c]
      exact br_t (by decide) (nm_r (nI_1 i) t)
/-- the chosen edges at a point -/
theorem sl_countR {R : Nat → Bool} {p : Nat} (hp : p < 16) (hb : sl_bd a3 a4 a5 a6) (hI : sl_I R a7 tr) (H : post (nI (sl_ca R p 4))) : wpX_countAt post (tr, de, mo, re, fo, a1, a2, a3, a4, a5, a6, a7, a8, a9, a10, a11, a12, a13) (nI p) 1 :=
  sl_countAt hp hb (by rw [sl_ca_c p (sl_I_1 hI) 4]; exact H)
theorem sl_has {R : Nat → Bool} {p : Nat} (hp : p < 16) (hb : sl_bd a3 a4 a5 a6) (hI : sl_I R a7 tr) (h0 : sl_ca R p 4 = 0 → post 0) (h1 : 0 < sl_ca R p 4 → post 1) : wpX_hasChosen post (tr, de, mo, re, fo, a1, a2, a3, a4, a5, a6, a7, a8, a9, a10, a11, a12, a13) (nI p) := by
  have q := sl_ca_le R p 4
  exact sl_countR hp hb hI (pk_le (sl_ca R p 4) 0 (fun z => h0 (by omega)) (fun z => h1 z))
end
section
variable {post : St2 → Prop} {tr de mo re fo : Int32} {a1 a2 a3 a4 a5 a6 a7 a8 a9 a10 a11 a12 a13 : Nat → Int32}
theorem sl_fillPoint {R : Nat → Bool} {p : Nat} (hp : p < 16) (hb : sl_bd a3 a4 a5 a6) (hI : sl_I R a7 tr) (H : ∀ tr' mo' b7 b8, sl_I R b7 tr' → (∀ e, e < 24 → ¬ a7 e = 0 → ¬ b7 e = 0) → (∀ k, k < 4 → sl_P (p * 4 + k) < 24 → ¬ b7 (sl_P (p * 4 + k)) = 0) → post (tr', de, mo', re, fo, a1, a2, a3, a4, a5, a6, b7, b8, a9, a10, a11, a12, a13)) : wpX_fillPoint post (tr, de, mo, re, fo, a1, a2, a3, a4, a5, a6, a7, a8, a9, a10, a11, a12, a13) (nI p) 2 := by
  refine pk_loop (fun n i (s : Int32 × Int32 × (Nat → Int32) × (Nat → Int32)) => wX_fillPoint_2 post (nI p) 2 n (nI i) s.1 de s.2.1 re fo a1 a2 a3 a4 a5 a6 s.2.2.1 s.2.2.2 a9 a10 a11 a12 a13) (fun i s => sl_I R s.2.2.1 s.1 ∧ (∀ e, e < 24 → ¬ a7 e = 0 → ¬ s.2.2.1 e = 0) ∧ (∀ k, k < i → sl_P (p * 4 + k) < 24 → ¬ s.2.2.1 (sl_P (p * 4 + k)) = 0)) 4 0 (tr, mo, a7, a8) (by omega) ⟨hI, fun _ _ h => h, lt_0⟩ (fun n s h => ?_) (fun n i s hi h hw => ?_)
  · exact pk_le 4 4 (fun _ => H s.1 s.2.1 s.2.2.1 s.2.2.2 h.1 h.2.1 h.2.2) (fun z => absurd z (by omega))
  · obtain ⟨t1, m1, b7, b8⟩ := s
    have g1 : sl_I R b7 t1 := h.1
    have g2 : ∀ e, e < 24 → ¬ a7 e = 0 → ¬ b7 e = 0 := h.2.1
    have g3 : ∀ k, k < i → sl_P (p * 4 + k) < 24 → ¬ b7 (sl_P (p * 4 + k)) = 0 := h.2.2
    have hv : ∀ t2 m2 c7 c8, sl_I R c7 t2 → (∀ e, e < 24 → ¬ a7 e = 0 → ¬ c7 e = 0) → (∀ k, k < i + 1 → sl_P (p * 4 + k) < 24 → ¬ c7 (sl_P (p * 4 + k)) = 0) → wX_fillPoint_2 post (nI p) 2 n (nI (i + 1)) t2 de m2 re fo a1 a2 a3 a4 a5 a6 c7 c8 a9 a10 a11 a12 a13 := fun t2 m2 c7 c8 x y z => hw (t2, m2, c7, c8) ⟨x, y, z⟩
    have e6 : a6 (nI p * 4 + nI i).toNatClampNeg = sl_pv 24 (p * 4 + i) := by
      rw [sl_ix, nI_clamp (by omega)]
      exact hb.2.2.2 _ (by omega)
    refine pk_le 4 i (fun z => absurd z (by omega)) (fun _ => ⟨sl_vin (sl_ix p i) (by omega) (by omega), nm_r e6 ?_⟩)
    by_cases c : sl_P (p * 4 + i) < 24
    · rw [sl_pv_lt c]
      refine br_f (nI_pos (by omega)) ⟨vp_in_nI c (by omega), ?_⟩
      by_cases d : b7 (sl_P (p * 4 + i)) = 0
      · refine br_t (by rw [nI_clamp (by omega)]; exact d) (sl_asg c g1 d (fun t2 c8 q => nm_r (nI_1 i) (hv t2 1 _ c8 q (sl_mono g2) (fun k hk hk2 => ?_))))
        by_cases f : k = i
        · rw [f, pk_us]
          decide
        · have u := g3 k (by omega) hk2
          by_cases f2 : sl_P (p * 4 + k) = sl_P (p * 4 + i)
          · rw [f2, pk_us]
            decide
          · rw [pk_un f2]
            exact u
      · exact br_f (by rw [nI_clamp (by omega)]; exact d) (nm_r (nI_1 i) (hv t1 m1 b7 b8 g1 g2 (lt_s g3 (fun _ => d))))
    · rw [sl_pv_ge c]
      exact br_t (by decide) (nm_r (nI_1 i) (hv t1 m1 b7 b8 g1 g2 (lt_s g3 (fun z => absurd z c))))
theorem sl_checkPoint {R : Nat → Bool} {p : Nat} (hp : p < 16) (hb : sl_bd a3 a4 a5 a6) (hI : sl_I R a7 tr) (hk : sl_ca R p 4 = 0 ∨ sl_ca R p 4 = 2) (H : ∀ tr' mo' b7 b8, sl_I R b7 tr' → (∀ e, e < 24 → ¬ a7 e = 0 → ¬ b7 e = 0) → (sl_ca R p 4 = 2 → ∀ k, k < 4 → sl_P (p * 4 + k) < 24 → ¬ b7 (sl_P (p * 4 + k)) = 0) → post (tr', de, mo', re, fo, a1, a2, a3, a4, a5, a6, b7, b8, a9, a10, a11, a12, a13)) : wpX_checkPoint post (tr, de, mo, re, fo, a1, a2, a3, a4, a5, a6, a7, a8, a9, a10, a11, a12, a13) (nI p) := by
  refine sl_countR hp hb hI (sl_countAt hp hb ?_)
  rcases hk with z | z
  · rw [z]
    exact br_f (by decide) (br_f (by decide) (br_f (by decide) (br_c (fun _ => br_f (by decide) (sl_fillPoint hp hb hI (fun t2 m2 c7 c8 x y v => H t2 m2 c7 c8 x y (fun _ => v)))) (fun _ => H tr mo a7 a8 hI (fun _ _ h => h) (fun u => absurd (z.symm.trans u) (by decide))))))
  · rw [z]
    exact br_f (by decide) (br_f (by decide) (br_t rfl (sl_fillPoint hp hb hI (fun t2 m2 c7 c8 x y v => H t2 m2 c7 c8 x y (fun _ => v)))))
end
end
section
section
variable {post : Int32 → Prop} {tr de mo re fo : Int32} {a1 a2 a3 a4 a5 a6 a7 a8 a9 a10 a11 a12 a13 : Nat → Int32}
theorem sl_countIn {s : Int32} {c : Nat} (hc : c < 9) (hb : sl_bd a3 a4 a5 a6) (H : post (nI (sl_ci (fun e => decide (a7 e = s)) c 4))) : wpX_countIn post (tr, de, mo, re, fo, a1, a2, a3, a4, a5, a6, a7, a8, a9, a10, a11, a12, a13) (nI c) s := by
  refine pk_loop (σ := Unit) (fun n i _ => wX_countIn_5 post (nI c) s tr de mo re fo a1 a2 a3 a4 a5 a6 a7 a8 a9 a10 a11 a12 a13 n (nI (sl_ci (fun e => decide (a7 e = s)) c i)) (nI i)) (fun _ _ => True) 4 0 () (by omega) trivial (fun n _ _ => ?_) (fun n i _ hi _ hw => ?_)
  · exact pk_le 4 4 (fun _ => H) (fun z => absurd z (by omega))
  · have t : wX_countIn_5 post (nI c) s tr de mo re fo a1 a2 a3 a4 a5 a6 a7 a8 a9 a10 a11 a12 a13 n (nI (sl_ci (fun e => decide (a7 e = s)) c i + (if decide (a7 (sl_C (c * 4 + i)) = s) = true then 1 else 0))) (nI (i + 1)) := hw () trivial
    have q := sl_C24 (c * 4 + i) (by omega)
    have e5 : a5 (nI c * 4 + nI i).toNatClampNeg = nI (sl_C (c * 4 + i)) := by
      rw [sl_ix, nI_clamp (by omega)]
      exact hb.2.2.1 _ (by omega)
    refine pk_le 4 i (fun z => absurd z (by omega)) (fun _ => ⟨sl_vin (sl_ix c i) (by omega) (by omega), sl_vin e5 q (by omega), ?_⟩)
    rw [e5, nI_clamp (by omega)]
    by_cases d : a7 (sl_C (c * 4 + i)) = s
    · rw [if_pos (decide_eq_true d)] at t
      exact br_t d (nm_r (nI_1 _) (nm_r (nI_1 i) t))
    · rw [if_neg (by rw [decide_eq_false d]; decide)] at t
      exact br_f d (nm_r (nI_1 i) t)
theorem sl_countInR {R : Nat → Bool} {c : Nat} (hc : c < 9) (hb : sl_bd a3 a4 a5 a6) (hI : sl_I R a7 tr) (H : post (nI (sl_ci R c 4))) : wpX_countIn post (tr, de, mo, re, fo, a1, a2, a3, a4, a5, a6, a7, a8, a9, a10, a11, a12, a13) (nI c) 1 :=
  sl_countIn hc hb (by rw [sl_ci_c c hc (sl_I_1 hI) 4 (by omega)]; exact H)
theorem sl_countIn0 {c : Nat} (hc : c < 9) (hb : sl_bd a3 a4 a5 a6) (hd : ∀ k, k < 4 → ¬ a7 (sl_C (c * 4 + k)) = 0) (H : post (nI 0)) : wpX_countIn post (tr, de, mo, re, fo, a1, a2, a3, a4, a5, a6, a7, a8, a9, a10, a11, a12, a13) (nI c) 0 :=
  sl_countIn hc hb (by rw [sl_ci_0 c 4 (fun k hk => decide_eq_false (hd k hk))]; exact H)
end
section
variable {post : St2 → Prop} {tr de mo re fo : Int32} {a1 a2 a3 a4 a5 a6 a7 a8 a9 a10 a11 a12 a13 : Nat → Int32}
theorem sl_fillCell {c : Nat} {s : Int32} (hc : c < 9) (hb : sl_bd a3 a4 a5 a6) (hd : ∀ k, k < 4 → ¬ a7 (sl_C (c * 4 + k)) = 0) (H : post (tr, de, mo, re, fo, a1, a2, a3, a4, a5, a6, a7, a8, a9, a10, a11, a12, a13)) : wpX_fillCell post (tr, de, mo, re, fo, a1, a2, a3, a4, a5, a6, a7, a8, a9, a10, a11, a12, a13) (nI c) s := by
  refine pk_loop (σ := Unit) (fun n i _ => wX_fillCell_2 post (nI c) s n (nI i) tr de mo re fo a1 a2 a3 a4 a5 a6 a7 a8 a9 a10 a11 a12 a13) (fun _ _ => True) 4 0 () (by omega) trivial (fun n _ _ => ?_) (fun n i _ hi _ hw => ?_)
  · exact pk_le 4 4 (fun _ => H) (fun z => absurd z (by omega))
  · have q := sl_C24 (c * 4 + i) (by omega)
    have e5 : a5 (nI c * 4 + nI i).toNatClampNeg = nI (sl_C (c * 4 + i)) := by
      rw [sl_ix, nI_clamp (by omega)]
      exact hb.2.2.1 _ (by omega)
    exact pk_le 4 i (fun z => absurd z (by omega)) (fun _ => ⟨sl_vin (sl_ix c i) (by omega) (by omega), nm_r e5 ⟨vp_in_nI q (by omega), br_f (by rw [nI_clamp (by omega)]; exact hd i hi) (nm_r (nI_1 i) (hw () trivial))⟩⟩)
theorem sl_checkCell5 {c : Nat} (hc : c < 9) (h : a1 c = 5) (H : post (tr, de, mo, re, fo, a1, a2, a3, a4, a5, a6, a7, a8, a9, a10, a11, a12, a13)) : wpX_checkCell post (tr, de, mo, re, fo, a1, a2, a3, a4, a5, a6, a7, a8, a9, a10, a11, a12, a13) (nI c) :=
  And.intro (pk_in c 9 hc) (nm_r (show a1 (nI c).toNatClampNeg = 5 by rw [nI_clamp (by omega)]; exact h) (br_t rfl H))
theorem sl_checkCellV {R : Nat → Bool} {c v : Nat} (hc : c < 9) (hb : sl_bd a3 a4 a5 a6) (hI : sl_I R a7 tr) (hd : ∀ k, k < 4 → ¬ a7 (sl_C (c * 4 + k)) = 0) (h1 : a1 c = nI v) (hv : v < 5) (Hg : v = sl_ci R c 4 → post (tr, de, mo, re, fo, a1, a2, a3, a4, a5, a6, a7, a8, a9, a10, a11, a12, a13)) (Hb : ¬ v = sl_ci R c 4 → post (tr, 1, mo, re, fo, a1, a2, a3, a4, a5, a6, a7, a8, a9, a10, a11, a12, a13)) : wpX_checkCell post (tr, de, mo, re, fo, a1, a2, a3, a4, a5, a6, a7, a8, a9, a10, a11, a12, a13) (nI c) := by
  have hr := sl_ci_le R c 4
  have ne : ¬ nI v = 5 := fun z => by
    have := (nI_eq (b := 5) (by omega) (by omega)).mp z
    omega
  refine And.intro (pk_in c 9 hc) (nm_r (show a1 (nI c).toNatClampNeg = nI v by rw [nI_clamp (by omega)]; exact h1) (br_f ne (sl_countInR hc hb hI (sl_countIn0 hc hb hd ?_))))
  have ez : nI (sl_ci R c 4) + nI 0 = nI (sl_ci R c 4) := by rw [nI_add, Nat.add_zero]
  rw [ez]
  exact pk_lt v (sl_ci R c 4) (fun z => Hb (by omega)) (fun z => pk_le v (sl_ci R c 4) (fun z2 => br_t (by rw [show v = sl_ci R c 4 by omega]) (sl_fillCell hc hb hd (Hg (by omega)))) (fun z2 => Hb (by omega)))
end
end
section
theorem sl_rt_lt {P : Nat → Nat} (hP : ∀ q, q < 16 → P q < 16) : ∀ m p, p < 16 → sl_rt P m p < 16 := by
  intro m
  induction m with
  | zero => intro p hp; exact hp
  | succ m ih =>
    intro p hp
    show (if P p = p then p else sl_rt P m (P p)) < 16
    split
    · exact hp
    · exact ih _ (hP p hp)
theorem sl_uf_n {R : Nat → Bool} {e : Nat} (hr : R e = false) : sl_uf R (e + 1) = sl_uf R e := by
  show (if R e = true then _ else sl_uf R e) = sl_uf R e
  rw [if_neg (by rw [hr]; decide)]
theorem sl_uf_c {R : Nat → Bool} {e : Nat} (hr : R e = true) (hx : sl_rt (sl_uf R e).2 16 (sl_A e) = sl_rt (sl_uf R e).2 16 (sl_E e)) : sl_uf R (e + 1) = ((sl_uf R e).1 + 1, (sl_uf R e).2) := by
  show (if R e = true then (if sl_rt (sl_uf R e).2 16 (sl_A e) = sl_rt (sl_uf R e).2 16 (sl_E e) then ((sl_uf R e).1 + 1, (sl_uf R e).2) else _) else _) = _
  rw [if_pos hr, if_pos hx]
theorem sl_uf_j {R : Nat → Bool} {e : Nat} (hr : R e = true) (hx : ¬ sl_rt (sl_uf R e).2 16 (sl_A e) = sl_rt (sl_uf R e).2 16 (sl_E e)) : sl_uf R (e + 1) = ((sl_uf R e).1, sl_up (sl_uf R e).2 (sl_rt (sl_uf R e).2 16 (sl_A e)) (sl_rt (sl_uf R e).2 16 (sl_E e))) := by
  show (if R e = true then (if sl_rt (sl_uf R e).2 16 (sl_A e) = sl_rt (sl_uf R e).2 16 (sl_E e) then _ else ((sl_uf R e).1, sl_up (sl_uf R e).2 (sl_rt (sl_uf R e).2 16 (sl_A e)) (sl_rt (sl_uf R e).2 16 (sl_E e)))) else _) = _
  rw [if_pos hr, if_neg hx]
theorem sl_up_lt {P : Nat → Nat} {x y : Nat} (hP : ∀ q, q < 16 → P q < 16) (hy : y < 16) : ∀ q, q < 16 → sl_up P x y q < 16 := by
  intro q hq
  show (if q = x then y else P q) < 16
  split
  · exact hy
  · exact hP q hq
theorem sl_uf_lt (R : Nat → Bool) : ∀ e, e ≤ 24 → ∀ q, q < 16 → (sl_uf R e).2 q < 16 := by
  intro e
  induction e with
  | zero => intro _ q hq; exact hq
  | succ e ih =>
    intro he
    have hP := ih (by omega)
    cases hr : R e with
    | false => rw [sl_uf_n hr]; exact hP
    | true =>
      by_cases hx : sl_rt (sl_uf R e).2 16 (sl_A e) = sl_rt (sl_uf R e).2 16 (sl_E e)
      · rw [sl_uf_c hr hx]; exact hP
      · rw [sl_uf_j hr hx]; exact sl_up_lt hP (sl_rt_lt hP 16 _ (sl_E16 e (by omega)))
theorem sl_upv {s : Nat → Int32} {P : Nat → Nat} {x y : Nat} (h : ∀ q, q < 16 → s q = nI (P q)) : ∀ q, q < 16 → upd s x (nI y) q = nI (sl_up P x y q) := by
  intro q hq
  show upd s x (nI y) q = nI (if q = x then y else P q)
  by_cases c : q = x
  · rw [c, pk_us, if_pos rfl]
  · rw [pk_un c, if_neg c]
    exact h q hq
section
variable {post : Int32 → Prop} {tr de mo re fo : Int32} {a1 a2 a3 a4 a5 a6 a7 a8 a9 a10 a11 a12 a13 : Nat → Int32}
theorem sl_root {P : Nat → Nat} (h9 : ∀ q, q < 16 → a9 q = nI (P q)) (hP : ∀ q, q < 16 → P q < 16) : ∀ m i p, i + m = 16 → p < 16 → post (nI (sl_rt P m p)) → wX_rootOf_4 post tr de mo re fo a1 a2 a3 a4 a5 a6 a7 a8 a9 a10 a11 a12 a13 (m + 1) (nI p) (nI i) := by
  intro m
  induction m with
  | zero =>
    intro i p hi hp H
    exact pk_le 16 i (fun _ => H) (fun z => absurd z (by omega))
  | succ m ih =>
    intro i p hi hp H
    have H2 : post (nI (if P p = p then p else sl_rt P m (P p))) := H
    have e9 : a9 (nI p).toNatClampNeg = nI (P p) := by
      rw [nI_clamp (by omega)]
      exact h9 p hp
    have lt := hP p hp
    refine pk_le 16 i (fun z => absurd z (by omega)) (fun _ => ⟨vp_in_nI hp (by omega), ?_⟩)
    rw [e9]
    by_cases e : P p = p
    · rw [if_pos e] at H2
      exact br_t (by rw [e]) H2
    · rw [if_neg e] at H2
      exact br_f (fun z => e ((nI_eq (by omega) (by omega)).mp z)) ⟨vp_in_nI hp (by omega), nm_e (nm_r (nI_1 i) (ih (i + 1) (P p) (by omega) lt H2))⟩
theorem sl_rootOf {P : Nat → Nat} {p : Nat} (h9 : ∀ q, q < 16 → a9 q = nI (P q)) (hP : ∀ q, q < 16 → P q < 16) (hp : p < 16) (H : post (nI (sl_rt P 16 p))) : wpX_rootOf post (tr, de, mo, re, fo, a1, a2, a3, a4, a5, a6, a7, a8, a9, a10, a11, a12, a13) (nI p) :=
  Exists.intro 17 (sl_root h9 hP 16 0 p (by omega) hp H)
end
section
variable {post : St2 → Prop} {tr de mo re fo : Int32} {a1 a2 a3 a4 a5 a6 a7 a8 a9 a10 a11 a12 a13 : Nat → Int32}
theorem sl_k157 {R : Nat → Bool} (hI : sl_I R a7 tr) (H : ∀ tr' mo' b7 b8, sl_I R b7 tr' → (∀ e, e < 24 → ¬ b7 e = 0) → post (tr', de, mo', re, fo, a1, a2, a3, a4, a5, a6, b7, b8, a9, a10, a11, a12, a13)) : ∃ n, wX_checkPieces_157 post n 0 tr de mo re fo a1 a2 a3 a4 a5 a6 a7 a8 a9 a10 a11 a12 a13 := by
  refine pk_loop (fun n i (s : Int32 × Int32 × (Nat → Int32) × (Nat → Int32)) => wX_checkPieces_157 post n (nI i) s.1 de s.2.1 re fo a1 a2 a3 a4 a5 a6 s.2.2.1 s.2.2.2 a9 a10 a11 a12 a13) (fun i s => sl_I R s.2.2.1 s.1 ∧ (∀ e, e < i → ¬ s.2.2.1 e = 0)) 24 0 (tr, mo, a7, a8) (by omega) ⟨hI, lt_0⟩ (fun n s h => ?_) (fun n i s hi h hw => ?_)
  · exact pk_le 24 24 (fun _ => H s.1 s.2.1 s.2.2.1 s.2.2.2 h.1 h.2) (fun z => absurd z (by omega))
  · obtain ⟨t1, m1, b7, b8⟩ := s
    have g1 : sl_I R b7 t1 := h.1
    have g2 : ∀ e, e < i → ¬ b7 e = 0 := h.2
    have hv : ∀ t2 m2 c7 c8, sl_I R c7 t2 → (∀ e, e < i + 1 → ¬ c7 e = 0) → wX_checkPieces_157 post n (nI (i + 1)) t2 de m2 re fo a1 a2 a3 a4 a5 a6 c7 c8 a9 a10 a11 a12 a13 := fun t2 m2 c7 c8 x y => hw (t2, m2, c7, c8) ⟨x, y⟩
    refine pk_le 24 i (fun z => absurd z (by omega)) (fun _ => ⟨pk_in i 24 hi, ?_⟩)
    by_cases d : b7 i = 0
    · refine br_t (by rw [nI_clamp (by omega)]; exact d) (sl_asg hi g1 d (fun t2 c8 q => nm_r (nI_1 i) (hv t2 1 _ c8 q (fun k hk => ?_))))
      by_cases f : k = i
      · rw [f, pk_us]
        decide
      · rw [pk_un f]
        exact g2 k (by omega)
    · exact br_f (by rw [nI_clamp (by omega)]; exact d) (nm_r (nI_1 i) (hv t1 m1 b7 b8 g1 (lt_s g2 d)))
theorem sl_k97 {R : Nat → Bool} {P : Nat → Nat} (hb : sl_bd a3 a4 a5 a6) (hI : sl_I R a7 tr) (h9 : ∀ q, q < 16 → a9 q = nI (P q)) (hP : ∀ q, q < 16 → P q < 16) (hpc : sl_pc R P 16 = 1) (H : ∀ tr' mo' b7 b8, sl_I R b7 tr' → (∀ e, e < 24 → ¬ b7 e = 0) → post (tr', de, mo', re, fo, a1, a2, a3, a4, a5, a6, b7, b8, a9, a10, a11, a12, a13)) : ∃ n, wX_checkPieces_97 post (nI 1) tr de mo re fo a1 a2 a3 a4 a5 a6 a7 a8 a9 a10 a11 a12 a13 n 0 0 := by
  refine pk_loop (σ := Unit) (fun n i _ => wX_checkPieces_97 post (nI 1) tr de mo re fo a1 a2 a3 a4 a5 a6 a7 a8 a9 a10 a11 a12 a13 n (nI (sl_pc R P i)) (nI i)) (fun _ _ => True) 16 0 () (by omega) trivial (fun n _ _ => ?_) (fun n i _ hi _ hw => ?_)
  · refine pk_le 16 16 (fun _ => br_f (by decide) (br_f (by decide) (br_t ?_ (sl_k157 hI H)))) (fun z => absurd z (by omega))
    rw [hpc]
    decide
  · have t : wX_checkPieces_97 post (nI 1) tr de mo re fo a1 a2 a3 a4 a5 a6 a7 a8 a9 a10 a11 a12 a13 n (nI (if P i = i then (if 0 < sl_ca R i 4 then sl_pc R P i + 1 else sl_pc R P i) else sl_pc R P i)) (nI (i + 1)) := hw () trivial
    have lt := hP i hi
    refine pk_le 16 i (fun z => absurd z (by omega)) (fun _ => ⟨pk_in i 16 hi, ?_⟩)
    rw [nI_clamp (by omega), h9 i hi]
    refine pk_eq (P i) i (fun z => ?_) (fun z => ?_)
    · rw [if_pos z] at t
      refine sl_has hi hb hI (fun c => ?_) (fun c => ?_)
      · rw [if_neg (by omega)] at t
        exact br_t rfl (nm_r (nI_1 i) t)
      · rw [if_pos c] at t
        exact br_f (by decide) (nm_r (nI_1 _) (nm_r (nI_1 i) t))
    · rw [if_neg z] at t
      exact nm_r (nI_1 i) t
theorem sl_k27 {R : Nat → Bool} (ho : sl_ok R) (hb : sl_bd a3 a4 a5 a6) (hI : sl_I R a7 tr) (h9 : ∀ q, q < 16 → a9 q = nI q) (H : ∀ tr' mo' b7 b8 b9, sl_I R b7 tr' → (∀ e, e < 24 → ¬ b7 e = 0) → post (tr', de, mo', re, fo, a1, a2, a3, a4, a5, a6, b7, b8, b9, a10, a11, a12, a13)) : ∃ n, wX_checkPieces_27 post 0 tr de mo re fo n 0 0 a1 a2 a3 a4 a5 a6 a7 a8 a9 a10 a11 a12 a13 := by
  refine pk_loop (fun n i s => wX_checkPieces_27 post 0 tr de mo re fo n (nI (sl_uf R i).1) (nI i) a1 a2 a3 a4 a5 a6 a7 a8 s a10 a11 a12 a13) (fun i s => ∀ q, q < 16 → s q = nI ((sl_uf R i).2 q)) 24 0 a9 (by omega) h9 (fun n s h => ?_) (fun n i s hi h hw => ?_)
  · refine pk_le 24 24 (fun _ => ?_) (fun z => absurd z (by omega))
    rw [ho.2.1]
    exact sl_k97 hb hI h (sl_uf_lt R 24 (by omega)) ho.2.2.1 (fun t2 m2 c7 c8 x y => H t2 m2 c7 c8 s x y)
  · have hv : ∀ c9, (∀ q, q < 16 → c9 q = nI ((sl_uf R (i + 1)).2 q)) → wX_checkPieces_27 post 0 tr de mo re fo n (nI (sl_uf R (i + 1)).1) (nI (i + 1)) a1 a2 a3 a4 a5 a6 a7 a8 c9 a10 a11 a12 a13 := hw
    have hP := sl_uf_lt R i (by omega)
    have hA := sl_A16 i hi
    have hE := sl_E16 i hi
    have e3 : a3 (nI i).toNatClampNeg = nI (sl_A i) := by
      rw [nI_clamp (by omega)]
      exact hb.1 i hi
    have e4 : a4 (nI i).toNatClampNeg = nI (sl_E i) := by
      rw [nI_clamp (by omega)]
      exact hb.2.1 i hi
    refine pk_le 24 i (fun z => absurd z (by omega)) (fun _ => ⟨pk_in i 24 hi, ?_⟩)
    cases hr : R i with
    | true =>
      refine br_t (by rw [nI_clamp (by omega)]; exact (hI.1 i hi).1 hr) ⟨pk_in i 24 hi, ?_⟩
      rw [e3, e4]
      refine sl_rootOf h hP hA ⟨pk_in i 24 hi, sl_rootOf h hP hE ?_⟩
      have l1 := sl_rt_lt hP 16 (sl_A i) hA
      have l2 := sl_rt_lt hP 16 (sl_E i) hE
      refine pk_eq (sl_rt (sl_uf R i).2 16 (sl_A i)) (sl_rt (sl_uf R i).2 16 (sl_E i)) (fun z => ?_) (fun z => ⟨vp_in_nI l1 (by omega), ?_⟩)
      · rw [sl_uf_c hr z] at hv
        exact nm_r (nI_1 _) (nm_r (nI_1 i) (hv s h))
      · rw [sl_uf_j hr z] at hv
        exact nm_r (sl_u1 rfl (by omega) rfl) (nm_r (nI_1 i) (hv _ (sl_upv h)))
    | false =>
      rw [sl_uf_n hr] at hv
      refine br_f (fun z => ?_) (nm_r (nI_1 i) (hv s h))
      rw [nI_clamp (by omega)] at z
      rcases (hI.1 i hi).2 hr with y | y
      · rw [y] at z; exact absurd z (by decide)
      · rw [y] at z; exact absurd z (by decide)
theorem sl_checkPieces {R : Nat → Bool} (ho : sl_ok R) (hb : sl_bd a3 a4 a5 a6) (hI : sl_I R a7 tr) (H : ∀ tr' mo' b7 b8 b9, sl_I R b7 tr' → (∀ e, e < 24 → ¬ b7 e = 0) → post (tr', de, mo', re, fo, a1, a2, a3, a4, a5, a6, b7, b8, b9, a10, a11, a12, a13)) : wpX_checkPieces post (tr, de, mo, re, fo, a1, a2, a3, a4, a5, a6, a7, a8, a9, a10, a11, a12, a13) := by
  refine pk_loop (fun n i s => wX_checkPieces_6 post 0 0 tr de mo re fo n (nI i) a1 a2 a3 a4 a5 a6 a7 a8 s a10 a11 a12 a13) (fun i s => ∀ q, q < i → s q = nI q) 16 0 a9 (by omega) lt_0 (fun n s h => ?_) (fun n i s hi h hw => ?_)
  · exact pk_le 16 16 (fun _ => sl_k27 ho hb hI h H) (fun z => absurd z (by omega))
  · exact pk_le 16 i (fun z => absurd z (by omega)) (fun _ => ⟨pk_in i 16 hi, nm_r (sl_u1 rfl (by omega) rfl) (nm_r (nI_1 i) (hw _ (sl_fl (f := fun q => nI q) h)))⟩)
end
end
section
/-- the points with two chosen edges, ahead of n, have no edge without a side -/
def sl_D (R : Nat → Bool) (a7 : Nat → Int32) (n : Nat) : Prop := ∀ p, p < n → sl_ca R p 4 = 2 → ∀ k, k < 4 → sl_P (p * 4 + k) < 24 → ¬ a7 (sl_P (p * 4 + k)) = 0
/-- then so has a cell of the rectangle's rim -/
theorem sl_rim {R : Nat → Bool} {a7 : Nat → Int32} {tr : Int32} {c : Nat} (hc : c < 9) (hI : sl_I R a7 tr) (hD : sl_D R a7 16) (hcl : sl_cl R c) : ∀ k, k < 4 → ¬ a7 (sl_C (c * 4 + k)) = 0 := by
  intro k hk
  have q := sl_C24 (c * 4 + k) (by omega)
  rcases hcl k hk with z | ⟨p, hp, h2, j, hj, e⟩
  · exact sl_I_ne hI q z
  · have u := hD p hp h2 j hj (by omega)
    rw [e] at u
    exact u
/-- no clue, or the right one -/
def sl_good (R : Nat → Bool) (a1 : Nat → Int32) : Prop := ∀ c, c < 9 → a1 c = 5 ∨ (a1 c = nI (sl_ci R c 4) ∧ sl_ci R c 4 < 5 ∧ sl_cl R c)
/-- the clue of one cell is wrong -/
def sl_bad (R : Nat → Bool) (a1 : Nat → Int32) : Prop := ∃ c v, c < 9 ∧ v < 5 ∧ a1 c = nI v ∧ ¬ v = sl_ci R c 4 ∧ sl_cl R c ∧ ∀ d, d < c → a1 d = 5
section
variable {post : St2 → Prop} {tr de mo re fo : Int32} {a1 a2 a3 a4 a5 a6 a7 a8 a9 a10 a11 a12 a13 : Nat → Int32} {x1 : Int32} {R : Nat → Bool} {J : Int32 → Int32 → Int32 → Int32 → Int32 → Int32 → (Nat → Int32) → (Nat → Int32) → (Nat → Int32) → (Nat → Int32) → (Nat → Int32) → (Nat → Int32) → (Nat → Int32) → (Nat → Int32) → (Nat → Int32) → (Nat → Int32) → (Nat → Int32) → (Nat → Int32) → (Nat → Int32) → Prop}
theorem sl_p84 (ho : sl_ok R) (hb : sl_bd a3 a4 a5 a6) (hI : sl_I R a7 tr) (H : ∀ tr' mo' b7 b8 b9, sl_I R b7 tr' → (∀ e, e < 24 → ¬ b7 e = 0) → J (x1 + 1) tr' 0 mo' re fo a1 a2 a3 a4 a5 a6 b7 b8 b9 a10 a11 a12 a13) : wX_propagate_84 post J x1 tr 0 mo re fo a1 a2 a3 a4 a5 a6 a7 a8 a9 a10 a11 a12 a13 :=
  br_t rfl (sl_checkPieces ho hb hI (fun t2 m2 c7 c8 c9 x y => nm_e (H t2 m2 c7 c8 c9 x y)))
theorem sl_p60 (ho : sl_ok R) (hb : sl_bd a3 a4 a5 a6) (hI : sl_I R a7 tr) (hD : sl_D R a7 16) (hg : sl_good R a1) (H : ∀ tr' mo' b7 b8 b9, sl_I R b7 tr' → (∀ e, e < 24 → ¬ b7 e = 0) → J (x1 + 1) tr' 0 mo' re fo a1 a2 a3 a4 a5 a6 b7 b8 b9 a10 a11 a12 a13) : ∃ n, wX_propagate_60 post J x1 n 0 tr 0 mo re fo a1 a2 a3 a4 a5 a6 a7 a8 a9 a10 a11 a12 a13 := by
  refine pk_loop (σ := Unit) (fun n i _ => wX_propagate_60 post J x1 n (nI i) tr 0 mo re fo a1 a2 a3 a4 a5 a6 a7 a8 a9 a10 a11 a12 a13) (fun _ _ => True) 9 0 () (by omega) trivial (fun n _ _ => ?_) (fun n i _ hi _ hw => ?_)
  · exact pk_le 9 9 (fun _ => sl_p84 ho hb hI H) (fun z => absurd z (by omega))
  · refine pk_le 9 i (fun z => absurd z (by omega)) (fun _ => br_t rfl ?_)
    rcases hg i hi with z | ⟨z, z5, zc⟩
    · exact sl_checkCell5 hi z (nm_r (nI_1 i) (hw () trivial))
    · exact sl_checkCellV hi hb hI (sl_rim hi hI hD zc) z z5 (fun _ => nm_r (nI_1 i) (hw () trivial)) (fun u => absurd rfl u)
theorem sl_q60 (hb : sl_bd a3 a4 a5 a6) (hI : sl_I R a7 tr) (hD : sl_D R a7 16) (hg : sl_bad R a1) (H : J (x1 + 1) tr 1 mo re fo a1 a2 a3 a4 a5 a6 a7 a8 a9 a10 a11 a12 a13) : ∃ n, wX_propagate_60 post J x1 n 0 tr 0 mo re fo a1 a2 a3 a4 a5 a6 a7 a8 a9 a10 a11 a12 a13 := by
  obtain ⟨c, v, hc, hv, h1, hne, hcl, h5⟩ := hg
  have X : wX_propagate_84 post J x1 tr 1 mo re fo a1 a2 a3 a4 a5 a6 a7 a8 a9 a10 a11 a12 a13 := br_f (by decide) (nm_e H)
  refine pk_loop (fun n i s => wX_propagate_60 post J x1 n (nI i) tr s mo re fo a1 a2 a3 a4 a5 a6 a7 a8 a9 a10 a11 a12 a13) (fun i s => (i ≤ c → s = 0) ∧ (c < i → s = 1)) 9 0 0 (by omega) ⟨fun _ => rfl, fun z => absurd z (by omega)⟩ (fun n s h => ?_) (fun n i s hi h hw => ?_)
  · have e : s = 1 := h.2 hc
    subst e
    exact pk_le 9 9 (fun _ => X) (fun z => absurd z (by omega))
  · refine pk_le 9 i (fun z => absurd z (by omega)) (fun _ => ?_)
    by_cases l : c < i
    · have e : s = 1 := h.2 l
      subst e
      exact br_f (by decide) X
    · have e : s = 0 := h.1 (by omega)
      subst e
      refine br_t rfl ?_
      by_cases m : i = c
      · rw [← m] at hcl h1 hne
        exact sl_checkCellV hi hb hI (sl_rim hi hI hD hcl) h1 hv (fun u => absurd u hne) (fun _ => nm_r (nI_1 i) (hw 1 ⟨fun z => absurd z (by omega), fun _ => rfl⟩))
      · exact sl_checkCell5 hi (h5 i (by omega)) (nm_r (nI_1 i) (hw 0 ⟨fun _ => rfl, fun z => absurd z (by omega)⟩))
theorem sl_p34 (ho : sl_ok R) (hb : sl_bd a3 a4 a5 a6) (hI : sl_I R a7 tr) (H : ∀ tr' mo' b7 b8, sl_I R b7 tr' → sl_D R b7 16 → ∃ n, wX_propagate_60 post J x1 n 0 tr' 0 mo' re fo a1 a2 a3 a4 a5 a6 b7 b8 a9 a10 a11 a12 a13) : ∃ n, wX_propagate_34 post J x1 n 0 tr 0 mo re fo a1 a2 a3 a4 a5 a6 a7 a8 a9 a10 a11 a12 a13 := by
  refine pk_loop (fun n i (s : Int32 × Int32 × (Nat → Int32) × (Nat → Int32)) => wX_propagate_34 post J x1 n (nI i) s.1 0 s.2.1 re fo a1 a2 a3 a4 a5 a6 s.2.2.1 s.2.2.2 a9 a10 a11 a12 a13) (fun i s => sl_I R s.2.2.1 s.1 ∧ sl_D R s.2.2.1 i) 16 0 (tr, mo, a7, a8) (by omega) ⟨hI, lt_0⟩ (fun n s h => ?_) (fun n i s hi h hw => ?_)
  · exact pk_le 16 16 (fun _ => H s.1 s.2.1 s.2.2.1 s.2.2.2 h.1 h.2) (fun z => absurd z (by omega))
  · obtain ⟨t1, m1, b7, b8⟩ := s
    have g1 : sl_I R b7 t1 := h.1
    have g2 : sl_D R b7 i := h.2
    refine pk_le 16 i (fun z => absurd z (by omega)) (fun _ => br_t rfl (sl_checkPoint hi hb g1 (ho.1 i hi) (fun t2 m2 c7 c8 x y v => nm_r (nI_1 i) (hw (t2, m2, c7, c8) ⟨x, ?_⟩))))
    intro p hp h2 k hk hk2
    by_cases e : p = i
    · rw [e] at h2 hk2 ⊢
      exact v h2 k hk hk2
    · exact y _ hk2 (g2 p (by omega) h2 k hk hk2)
end
section
variable {post : St2 → Prop} {tr de mo re fo : Int32} {a1 a2 a3 a4 a5 a6 a7 a8 a9 a10 a11 a12 a13 : Nat → Int32} {R : Nat → Bool}
theorem sl_propG (ho : sl_ok R) (hb : sl_bd a3 a4 a5 a6) (hI : sl_I R a7 tr) (hg : sl_good R a1) (H : ∀ tr' mo' b7 b8 b9, sl_I R b7 tr' → (∀ e, e < 24 → ¬ b7 e = 0) → post (tr', 0, mo', re, fo, a1, a2, a3, a4, a5, a6, b7, b8, b9, a10, a11, a12, a13)) : wpX_propagate post (tr, 0, mo, re, fo, a1, a2, a3, a4, a5, a6, a7, a8, a9, a10, a11, a12, a13) := by
  refine pk_loop (fun n i (s : Int32 × Int32 × (Nat → Int32) × (Nat → Int32) × (Nat → Int32)) => wX_propagate_7 post n (nI i) s.1 0 s.2.1 re fo a1 a2 a3 a4 a5 a6 s.2.2.1 s.2.2.2.1 s.2.2.2.2 a10 a11 a12 a13) (fun i s => sl_I R s.2.2.1 s.1 ∧ (i = 0 → s.2.1 = 1) ∧ (0 < i → ∀ e, e < 24 → ¬ s.2.2.1 e = 0)) 26 0 (tr, 1, a7, a8, a9) (by omega) ⟨hI, fun _ => rfl, fun z => absurd z (by omega)⟩ (fun n s h => ?_) (fun n i s hi h hw => ?_)
  · exact pk_le 26 26 (fun _ => H s.1 s.2.1 s.2.2.1 s.2.2.2.1 s.2.2.2.2 h.1 (h.2.2 (by omega))) (fun z => absurd z (by omega))
  · obtain ⟨t1, m1, b7, b8, b9⟩ := s
    have g1 : sl_I R b7 t1 := h.1
    have g2 : i = 0 → m1 = 1 := h.2.1
    have g3 : 0 < i → ∀ e, e < 24 → ¬ b7 e = 0 := h.2.2
    have hv : ∀ t2 m2 c7 c8 c9, sl_I R c7 t2 → (∀ e, e < 24 → ¬ c7 e = 0) → wX_propagate_7 post n (nI i + 1) t2 0 m2 re fo a1 a2 a3 a4 a5 a6 c7 c8 c9 a10 a11 a12 a13 := by
      intro t2 m2 c7 c8 c9 x y
      rw [nI_1]
      exact hw (t2, m2, c7, c8, c9) ⟨x, fun z => absurd z (by omega), fun _ => y⟩
    refine pk_le 26 i (fun z => absurd z (by omega)) (fun _ => br_c (fun z => ?_) (fun _ => br_t rfl (sl_p34 ho hb g1 (fun t2 m2 c7 c8 x y => sl_p60 ho hb x y hg hv))))
    refine H t1 m1 b7 b8 b9 g1 (g3 ?_)
    rcases Nat.eq_zero_or_pos i with u | u
    · have w : m1 = 1 := g2 u
      have z2 : m1 = 0 := z
      rw [w] at z2
      exact absurd z2 (by decide)
    · exact u
theorem sl_propB (ho : sl_ok R) (hb : sl_bd a3 a4 a5 a6) (hI : sl_I R a7 tr) (hg : sl_bad R a1) (H : ∀ tr' mo' b7 b8 b9, post (tr', 1, mo', re, fo, a1, a2, a3, a4, a5, a6, b7, b8, b9, a10, a11, a12, a13)) : wpX_propagate post (tr, 0, mo, re, fo, a1, a2, a3, a4, a5, a6, a7, a8, a9, a10, a11, a12, a13) := by
  have X : ∀ t2 m2 c7 c8, wX_propagate_7 post 1 (0 + 1) t2 1 m2 re fo a1 a2 a3 a4 a5 a6 c7 c8 a9 a10 a11 a12 a13 := fun t2 m2 c7 c8 => br_f (by decide) (br_c (fun _ => H t2 m2 c7 c8 a9) (fun _ => br_f (by decide) (H t2 m2 c7 c8 a9)))
  exact Exists.intro 2 (br_f (by decide) (br_f (by decide) (br_t rfl (sl_p34 ho hb hI (fun t2 m2 c7 c8 x y => sl_q60 hb x y hg (X t2 m2 c7 c8))))))
end
end
section
section
variable {post : St2 → Prop} {tr de mo re fo : Int32} {a1 a2 a3 a4 a5 a6 a7 a8 a9 a10 a11 a12 a13 : Nat → Int32} {R : Nat → Bool}
theorem sl_keep (ho : sl_ok R) (hI : sl_I R a7 tr) (H : post (tr, de, mo, re, nI 1, a1, a2, a3, a4, a5, a6, a7, a8, a9, a10, a11, a12, upd a13 0 (sl_set R 24))) : wpX_keepLoop post (tr, de, mo, re, 0, a1, a2, a3, a4, a5, a6, a7, a8, a9, a10, a11, a12, a13) := by
  refine pk_loop (σ := Unit) (fun n i _ => wX_keepLoop_4 post tr de mo re 0 a1 a2 a3 a4 a5 a6 a7 a8 a9 a10 a11 a12 a13 n (sl_set R i) (nI i)) (fun _ _ => True) 24 0 () (by omega) trivial (fun n _ _ => ?_) (fun n i _ hi _ hw => ?_)
  · exact pk_le 24 24 (fun _ => br_f ho.2.2.2 (br_t (by decide) ⟨pk_in 0 256 (by omega), nm_r (sl_u1 (k := 0) rfl (by omega) rfl) (nm_r (show (0 : Int32) + 1 = nI 1 from rfl) H)⟩)) (fun z => absurd z (by omega))
  · have t : wX_keepLoop_4 post tr de mo re 0 a1 a2 a3 a4 a5 a6 a7 a8 a9 a10 a11 a12 a13 n (if R i = true then sl_set R i ||| ((1 : Int32) <<< (nI i &&& 31)) else sl_set R i) (nI (i + 1)) := hw () trivial
    refine pk_le 24 i (fun z => absurd z (by omega)) (fun _ => ⟨pk_in i 24 hi, ?_⟩)
    rw [nI_clamp (by omega)]
    have d := sl_I_1 hI i hi
    cases hr : R i with
    | true =>
      rw [hr] at d
      rw [if_pos hr] at t
      exact br_t (of_decide_eq_true d) (nm_e (nm_r (nI_1 i) t))
    | false =>
      rw [hr] at d
      rw [if_neg (by rw [hr]; decide)] at t
      exact br_f (of_decide_eq_false d) (nm_r (nI_1 i) t)
end
section
variable {post : Int32 → St2 → Prop} {tr de mo re fo : Int32} {a1 a2 a3 a4 a5 a6 a7 a8 a9 a10 a11 a12 a13 : Nat → Int32} {R : Nat → Bool}
theorem sl_enterG {x : Int32} (ho : sl_ok R) (hI : sl_I R a7 tr) (hd : ∀ e, e < 24 → ¬ a7 e = 0) (H : post x (tr, 0, mo, re, nI 1, a1, a2, a3, a4, a5, a6, a7, a8, a9, a10, a11, a12, upd a13 0 (sl_set R 24))) : wpX_enter post (tr, 0, mo, re, 0, a1, a2, a3, a4, a5, a6, a7, a8, a9, a10, a11, a12, a13) x := by
  refine br_t rfl (pk_loop (σ := Unit) (fun n i _ => wX_enter_11 post x tr 0 mo re 0 a1 a2 a3 a4 a5 a6 a7 a8 a9 a10 a11 a12 a13 n (nI i)) (fun _ _ => True) 24 0 () (by omega) trivial (fun n _ _ => ?_) (fun n i _ hi _ hw => ?_))
  · exact pk_le 24 24 (fun _ => br_t rfl (sl_keep ho hI H)) (fun z => absurd z (by omega))
  · exact pk_le 24 i (fun z => absurd z (by omega)) (fun _ => ⟨pk_in i 24 hi, br_f (by rw [nI_clamp (by omega)]; exact hd i hi) (nm_r (nI_1 i) (hw () trivial))⟩)
end
section
variable {post : St2 → Prop} {tr de mo re fo : Int32} {a1 a2 a3 a4 a5 a6 a7 a8 a9 a10 a11 a12 a13 : Nat → Int32} {R : Nat → Bool}
theorem sl_r95 (H : post (tr, de, mo, re, fo, a1, a2, a3, a4, a5, a6, a7, a8, a9, a10, a11, a12, a13)) : ∃ n, wX_prepare_95 post n 0 0 tr de mo re fo a1 a2 a3 a4 a5 a6 a7 a8 a9 a10 a11 a12 a13 := Exists.intro 1 (br_f (by decide) (br_t (by decide) H))
/-- the marks are taken over -/
theorem sl_r51 (h2 : ∀ e, e < 24 → a2 e = if R e = true then 1 else 0) (h7 : ∀ e, e < 24 → a7 e = 0) (H : ∀ tr' mo' b7 b8, sl_I R b7 tr' → wpX_propagate (fun u => match u with | (tr, de, mo, re, fo, a1, a2, a3, a4, a5, a6, a7, a8, a9, a10, a11, a12, a13) => wpX_enter (fun r u => match u with | (tr, de, mo, re, fo, a1, a2, a3, a4, a5, a6, a7, a8, a9, a10, a11, a12, a13) => (∃ n, wX_prepare_95 post n r 0 tr de mo re fo a1 a2 a3 a4 a5 a6 a7 a8 a9 a10 a11 a12 a13)) (tr, de, mo, re, fo, a1, a2, a3, a4, a5, a6, a7, a8, a9, a10, a11, a12, a13) 0) (tr', de, mo', re, fo, a1, a2, a3, a4, a5, a6, b7, b8, a9, a10, a11, a12, a13)) : ∃ n, wX_prepare_51 post n 0 0 de mo re fo a1 a2 a3 a4 a5 a6 a7 a8 a9 a10 a11 a12 a13 := by
  refine pk_loop (fun n i (s : Int32 × Int32 × (Nat → Int32) × (Nat → Int32)) => wX_prepare_51 post n (nI i) s.1 de s.2.1 re fo a1 a2 a3 a4 a5 a6 s.2.2.1 s.2.2.2 a9 a10 a11 a12 a13) (fun i s => (∀ e, e < i → s.2.2.1 e = if R e = true then 1 else 0) ∧ (∀ e, e < 24 → i ≤ e → s.2.2.1 e = 0) ∧ s.1 = nI (sl_n s.2.2.1 24)) 24 0 (0, mo, a7, a8) (by omega) ⟨lt_0, fun e he _ => h7 e he, ?_⟩ (fun n s h => ?_) (fun n i s hi h hw => ?_)
  · show 0 = nI (sl_n a7 24)
    rw [sl_n_same (b := fun _ => 0) 24 h7]
    decide
  · refine pk_le 24 24 (fun _ => H s.1 s.2.1 s.2.2.1 s.2.2.2 ⟨fun e he => ⟨fun hr => ?_, fun hr => Or.inl ?_⟩, h.2.2⟩) (fun z => absurd z (by omega))
    · rw [h.1 e he, if_pos hr]
    · rw [h.1 e he, if_neg (by rw [hr]; decide)]
  · obtain ⟨t1, m1, b7, b8⟩ := s
    have g1 : ∀ e, e < i → b7 e = if R e = true then 1 else 0 := h.1
    have g2 : ∀ e, e < 24 → i ≤ e → b7 e = 0 := h.2.1
    have g3 : t1 = nI (sl_n b7 24) := h.2.2
    have h0 : b7 i = 0 := g2 i hi (Nat.le_refl i)
    have e2 : a2 (nI i).toNatClampNeg = if R i = true then 1 else 0 := by
      rw [nI_clamp (by omega)]
      exact h2 i hi
    refine pk_le 24 i (fun z => absurd z (by omega)) (fun _ => ⟨pk_in i 24 hi, ?_⟩)
    rw [e2]
    cases hr : R i with
    | true =>
      rw [if_pos rfl]
      refine br_f (by decide) ⟨pk_in i 24 hi, sl_assign hi h0 (by decide) g3 (sl_n_lt b7 24 i hi h0) (nm_r (nI_1 i) (hw (nI (sl_n b7 24 + 1), 1, upd b7 i 1, upd b8 (sl_n b7 24) (nI i)) ⟨fun e he => ?_, fun e he hle => ?_, ?_⟩))⟩
      · show upd b7 i 1 e = _
        by_cases c : e = i
        · rw [c, pk_us, if_pos hr]
        · rw [pk_un c]
          exact g1 e (by omega)
      · show upd b7 i 1 e = _
        rw [pk_un (show e ≠ i by omega)]
        exact g2 e he (by omega)
      · show nI (sl_n b7 24 + 1) = nI (sl_n (upd b7 i 1) 24)
        rw [sl_n_up h0 (by decide) 24 hi]
    | false =>
      rw [if_neg (by decide)]
      refine br_t rfl (nm_r (nI_1 i) (hw (t1, m1, b7, b8) ⟨lt_s g1 ?_, fun e he hle => g2 e he (by omega), g3⟩))
      show b7 i = _
      rw [h0, if_neg (by rw [hr]; decide)]
theorem sl_r30 (h2 : ∀ e, e < 24 → a2 e = if R e = true then 1 else 0) (H : ∀ tr' mo' b7 b8, sl_I R b7 tr' → wpX_propagate (fun u => match u with | (tr, de, mo, re, fo, a1, a2, a3, a4, a5, a6, a7, a8, a9, a10, a11, a12, a13) => wpX_enter (fun r u => match u with | (tr, de, mo, re, fo, a1, a2, a3, a4, a5, a6, a7, a8, a9, a10, a11, a12, a13) => (∃ n, wX_prepare_95 post n r 0 tr de mo re fo a1 a2 a3 a4 a5 a6 a7 a8 a9 a10 a11 a12 a13)) (tr, de, mo, re, fo, a1, a2, a3, a4, a5, a6, a7, a8, a9, a10, a11, a12, a13) 0) (tr', 0, mo', 1, 0, a1, a2, a3, a4, a5, a6, b7, b8, a9, a10, a11, a12, a13)) : wpX_prepare post (tr, de, mo, 0, fo, a1, a2, a3, a4, a5, a6, a7, a8, a9, a10, a11, a12, a13) := by
  refine br_t rfl (pk_loop (fun n i s => wX_prepare_30 post 0 0 mo 1 0 n (nI i) a1 a2 a3 a4 a5 a6 s a8 a9 a10 a11 a12 a13) (fun i s => ∀ e, e < i → s e = 0) 24 0 a7 (by omega) lt_0 (fun n s h => ?_) (fun n i s hi h hw => ?_))
  · exact pk_le 24 24 (fun _ => sl_r51 h2 h H) (fun z => absurd z (by omega))
  · exact pk_le 24 i (fun z => absurd z (by omega)) (fun _ => ⟨pk_in i 24 hi, nm_r (sl_u1 rfl (by omega) rfl) (nm_r (nI_1 i) (hw _ (sl_fl (f := fun _ => 0) h)))⟩)
theorem sl_prepG (ho : sl_ok R) (hb : sl_bd a3 a4 a5 a6) (h2 : ∀ e, e < 24 → a2 e = if R e = true then 1 else 0) (hg : sl_good R a1) (H : ∀ tr' mo' b7 b8 b9, post (tr', 0, mo', 1, nI 1, a1, a2, a3, a4, a5, a6, b7, b8, b9, a10, a11, a12, upd a13 0 (sl_set R 24))) : wpX_prepare post (tr, de, mo, 0, fo, a1, a2, a3, a4, a5, a6, a7, a8, a9, a10, a11, a12, a13) :=
  sl_r30 h2 (fun t2 m2 c7 c8 x => sl_propG ho hb x hg (fun t3 m3 d7 d8 d9 y z => sl_enterG ho y z (sl_r95 (H t3 m3 d7 d8 d9))))
theorem sl_prepB (ho : sl_ok R) (hb : sl_bd a3 a4 a5 a6) (h2 : ∀ e, e < 24 → a2 e = if R e = true then 1 else 0) (hg : sl_bad R a1) (H : ∀ tr' mo' b7 b8 b9, post (tr', 1, mo', 1, 0, a1, a2, a3, a4, a5, a6, b7, b8, b9, a10, a11, a12, a13)) : wpX_prepare post (tr, de, mo, 0, fo, a1, a2, a3, a4, a5, a6, a7, a8, a9, a10, a11, a12, a13) :=
  sl_r30 h2 (fun t2 m2 c7 c8 x => sl_propB ho hb x hg (fun t3 m3 d7 d8 d9 => br_f (by decide) (sl_r95 (H t3 m3 d7 d8 d9))))
theorem sl_prep1 (H : post (tr, de, mo, 1, fo, a1, a2, a3, a4, a5, a6, a7, a8, a9, a10, a11, a12, a13)) : wpX_prepare post (tr, de, mo, 1, fo, a1, a2, a3, a4, a5, a6, a7, a8, a9, a10, a11, a12, a13) := br_f (by decide) H
end
end
section
theorem sl_ones {post : Int32 → Prop} {x : Int32} (H : post (sl_on x 24)) : wpX_ones post () x := by
  refine pk_loop (σ := Unit) (fun n i _ => wX_ones_4 post x n (sl_on x i) (nI i)) (fun _ _ => True) 24 0 () (by omega) trivial (fun n _ _ => ?_) (fun n i _ hi _ hw => ?_)
  · exact pk_le 24 24 (fun _ => H) (fun z => absurd z (by omega))
  · exact pk_le 24 i (fun z => absurd z (by omega)) (fun _ => nm_e (nm_r (nI_1 i) (hw () trivial)))
theorem sl_c0 {a : Nat → Int32} {x : Int32} (h : a 0 = x) : a (0 : Int32).toNatClampNeg = x := by
  rw [sb_cl0]
  exact h
theorem sl_24 (r : Int32) : r + 24 - r = 24 := by
  rw [Int32.add_comm]
  exact Int32.add_sub_cancel _ _
section
variable {post : Int32 → St2 → Prop} {tr de mo re fo : Int32} {a1 a2 a3 a4 a5 a6 a7 a8 a9 a10 a11 a12 a13 : Nat → Int32} {R : Nat → Bool} {x : Int32}
theorem sl_solG (ho : sl_ok R) (hb : sl_bd a3 a4 a5 a6) (h2 : ∀ e, e < 24 → a2 e = if R e = true then 1 else 0) (hg : sl_good R a1) (H : ∀ tr' mo' b7 b8 b9, post (nI 1) (tr', 0, mo', 1, nI 1, a1, a2, a3, a4, a5, a6, b7, b8, b9, a10, a11, a12, upd a13 0 (sl_set R 24))) : wpX_solutions post (tr, de, mo, 0, fo, a1, a2, a3, a4, a5, a6, a7, a8, a9, a10, a11, a12, a13) := by
  unfold wpX_solutions
  exact sl_prepG ho hb h2 hg H
theorem sl_solB (ho : sl_ok R) (hb : sl_bd a3 a4 a5 a6) (h2 : ∀ e, e < 24 → a2 e = if R e = true then 1 else 0) (hg : sl_bad R a1) (H : ∀ tr' mo' b7 b8 b9, post 0 (tr', 1, mo', 1, 0, a1, a2, a3, a4, a5, a6, b7, b8, b9, a10, a11, a12, a13)) : wpX_solutions post (tr, de, mo, 0, fo, a1, a2, a3, a4, a5, a6, a7, a8, a9, a10, a11, a12, a13) := by
  unfold wpX_solutions
  exact sl_prepB ho hb h2 hg H
theorem sl_len0 (hx : a13 0 = x) (H : post (sl_on x 24) (tr, de, mo, 1, nI 1, a1, a2, a3, a4, a5, a6, a7, a8, a9, a10, a11, a12, a13)) : wpX_length post (tr, de, mo, 1, nI 1, a1, a2, a3, a4, a5, a6, a7, a8, a9, a10, a11, a12, a13) 0 := by
  unfold wpX_length
  refine sl_prep1 (br_f (by decide) (br_t (by decide) ⟨pk_in 0 256 (by omega), ?_⟩))
  rw [sl_c0 hx]
  exact sl_ones H
theorem sl_len1 (H : post 0 (tr, de, mo, 1, nI 1, a1, a2, a3, a4, a5, a6, a7, a8, a9, a10, a11, a12, a13)) : wpX_length post (tr, de, mo, 1, nI 1, a1, a2, a3, a4, a5, a6, a7, a8, a9, a10, a11, a12, a13) 1 := by
  unfold wpX_length
  exact sl_prep1 (br_f (by decide) (br_f (by decide) H))
theorem sl_ins0 (hx : a13 0 = x) (H : post (sl_io x 3) (tr, de, mo, 1, nI 1, a1, a2, a3, a4, a5, a6, a7, a8, a9, a10, a11, a12, a13)) : wpX_inside post (tr, de, mo, 1, nI 1, a1, a2, a3, a4, a5, a6, a7, a8, a9, a10, a11, a12, a13) 0 := by
  unfold wpX_inside
  refine sl_prep1 (br_f (by decide) (br_t (by decide) (pk_loop (σ := Unit) (fun n i _ => wX_inside_22 post 0 tr de mo 1 (nI 1) a1 a2 a3 a4 a5 a6 a7 a8 a9 a10 a11 a12 a13 n (sl_io x i) (nI i)) (fun _ _ => True) 3 0 () (by omega) trivial (fun n _ _ => ?_) (fun n i _ hi _ hw => ?_))))
  · exact pk_le 3 3 (fun _ => H) (fun z => absurd z (by omega))
  · refine pk_le 3 i (fun z => absurd z (by omega)) (fun _ => pk_loop (σ := Unit) (fun m j _ => wX_inside_33 post (wX_inside_22 post 0 tr de mo 1 (nI 1) a1 a2 a3 a4 a5 a6 a7 a8 a9 a10 a11 a12 a13 n) 0 (nI i) tr de mo 1 (nI 1) a1 a2 a3 a4 a5 a6 a7 a8 a9 a10 a11 a12 a13 m (sl_ii x i (sl_io x i) j).1 (sl_ii x i (sl_io x i) j).2 (nI j)) (fun _ _ => True) 3 0 () (by omega) trivial (fun m _ _ => ?_) (fun m j _ hj _ hv => ?_))
    · exact pk_le 3 3 (fun _ => nm_r (nI_1 i) (hw () trivial)) (fun z => absurd z (by omega))
    · refine pk_le 3 j (fun z => absurd z (by omega)) (fun _ => ⟨pk_in 0 256 (by omega), ?_⟩)
      rw [sl_c0 hx]
      exact nm_e (nm_e (nm_r (nI_1 j) (hv () trivial)))
theorem sl_insM (H : post 0 (tr, de, mo, 1, fo, a1, a2, a3, a4, a5, a6, a7, a8, a9, a10, a11, a12, a13)) : wpX_inside post (tr, de, mo, 1, fo, a1, a2, a3, a4, a5, a6, a7, a8, a9, a10, a11, a12, a13) (-1) := by
  unfold wpX_inside
  exact sl_prep1 (br_t (by decide) H)
theorem sl_dec1 (hx : a13 0 = x) (H : post 24 (tr, de, mo, 1, nI 1, a1, a2, a3, a4, a5, a6, a7, a8, a9, a10, a11, a12, a13)) : wpX_decided post (tr, de, mo, 1, nI 1, a1, a2, a3, a4, a5, a6, a7, a8, a9, a10, a11, a12, a13) := by
  unfold wpX_decided
  refine sl_prep1 (br_f (by decide) (Exists.intro 2 (br_f (by decide) ⟨pk_in 0 256 (by omega), nm_r (e' := x) ?_ ⟨pk_in 0 256 (by omega), nm_r (e' := x) ?_ (nm_r (e' := nI 1) rfl (br_t (by decide) (sl_ones (sl_ones ?_))))⟩⟩)))
  · rw [sl_c0 hx]
    exact Int32.neg_one_and
  · rw [sl_c0 hx]
    exact Int32.zero_or
  · show post (sl_on x 24 + 24 - sl_on x 24) _
    rw [sl_24]
    exact H
theorem sl_dec0 (H : post 0 (tr, de, mo, 1, 0, a1, a2, a3, a4, a5, a6, a7, a8, a9, a10, a11, a12, a13)) : wpX_decided post (tr, de, mo, 1, 0, a1, a2, a3, a4, a5, a6, a7, a8, a9, a10, a11, a12, a13) := by
  unfold wpX_decided
  exact sl_prep1 (br_t rfl H)
theorem sl_sho1 (hx : a13 0 = x) (H : post (sl_on x 24) (tr, de, mo, 1, nI 1, a1, a2, a3, a4, a5, a6, a7, a8, a9, a10, a11, a12, a13)) : wpX_shortest post (tr, de, mo, 1, nI 1, a1, a2, a3, a4, a5, a6, a7, a8, a9, a10, a11, a12, a13) := by
  unfold wpX_shortest
  refine sl_prep1 (Exists.intro 2 (br_f (by decide) ⟨pk_in 0 256 (by omega), ?_⟩))
  rw [sl_c0 hx]
  exact sl_ones (br_t rfl (nm_r (e' := nI 1) rfl (br_t (by decide) H)))
theorem sl_sho0 (H : post 0 (tr, de, mo, 1, 0, a1, a2, a3, a4, a5, a6, a7, a8, a9, a10, a11, a12, a13)) : wpX_shortest post (tr, de, mo, 1, 0, a1, a2, a3, a4, a5, a6, a7, a8, a9, a10, a11, a12, a13) := by
  unfold wpX_shortest
  exact sl_prep1 (Exists.intro 1 (br_t (by decide) H))
theorem sl_vot1 {p : Int32} {e : Nat} (hp : p = nI e) (he : e < 24) (hx : a13 0 = x) (hbit : (x >>> (nI e &&& 31)) &&& 1 = 1) (H : post 1 (tr, de, mo, 1, nI 1, a1, a2, a3, a4, a5, a6, a7, a8, a9, a10, a11, a12, a13)) : wpX_votes post (tr, de, mo, 1, nI 1, a1, a2, a3, a4, a5, a6, a7, a8, a9, a10, a11, a12, a13) p := by
  subst hp
  unfold wpX_votes
  refine br_f (nI_pos (by omega)) (br_t (nI_lt (b := 24) he (by omega)) (sl_prep1 (Exists.intro 2 (br_f (by decide) ⟨pk_in 0 256 (by omega), ?_⟩))))
  rw [sl_c0 hx, hbit]
  exact nm_r (e' := 1) rfl (nm_r (e' := nI 1) rfl (br_t (by decide) H))
theorem sl_vot0 {p : Int32} {e : Nat} (hp : p = nI e) (he : e < 24) (H : post 0 (tr, de, mo, 1, 0, a1, a2, a3, a4, a5, a6, a7, a8, a9, a10, a11, a12, a13)) : wpX_votes post (tr, de, mo, 1, 0, a1, a2, a3, a4, a5, a6, a7, a8, a9, a10, a11, a12, a13) p := by
  subst hp
  unfold wpX_votes
  exact br_f (nI_pos (by omega)) (br_t (nI_lt (b := 24) he (by omega)) (sl_prep1 (Exists.intro 1 (br_t (by decide) H))))
theorem sl_cho1 {p : Int32} {e : Nat} (hp : p = nI e) (he : e < 24) (hx : a13 0 = x) (hbit : (x >>> (nI e &&& 31)) &&& 1 = 1) (H : post 1 (tr, de, mo, 1, nI 1, a1, a2, a3, a4, a5, a6, a7, a8, a9, a10, a11, a12, a13)) : wpX_chosen post (tr, de, mo, 1, nI 1, a1, a2, a3, a4, a5, a6, a7, a8, a9, a10, a11, a12, a13) 0 p := by
  subst hp
  unfold wpX_chosen
  refine br_f (nI_pos (by omega)) (br_t (nI_lt (b := 24) he (by omega)) (sl_prep1 (br_f (by decide) (br_f (by decide) ⟨pk_in 0 256 (by omega), ?_⟩))))
  rw [sl_c0 hx, hbit]
  exact br_t rfl H
theorem sl_cho0 {p : Int32} {e : Nat} (hp : p = nI e) (he : e < 24) (H : post 0 (tr, de, mo, 1, 0, a1, a2, a3, a4, a5, a6, a7, a8, a9, a10, a11, a12, a13)) : wpX_chosen post (tr, de, mo, 1, 0, a1, a2, a3, a4, a5, a6, a7, a8, a9, a10, a11, a12, a13) 0 p := by
  subst hp
  unfold wpX_chosen
  exact br_f (nI_pos (by omega)) (br_t (nI_lt (b := 24) he (by omega)) (sl_prep1 (br_f (by decide) (br_t (by decide) H))))
theorem sl_mark {p : Int32} {e : Nat} (hp : p = nI e) (he : e < 24) (H : ∀ r, post r (tr, de, mo, 0, fo, a1, upd a2 e 1, a3, a4, a5, a6, a7, a8, a9, a10, a11, a12, a13)) : wpX_mark post (tr, de, mo, re, fo, a1, a2, a3, a4, a5, a6, a7, a8, a9, a10, a11, a12, a13) p 1 := by
  subst hp
  unfold wpX_mark
  exact br_f (nI_pos (by omega)) (br_t (nI_lt (b := 24) he (by omega)) (br_f (by decide) (br_t (by decide) ⟨pk_in e 24 he, nm_e ⟨pk_in e 24 he, nm_r (sl_u1 rfl (by omega) rfl) (H _)⟩⟩)))
theorem sl_clue {t l v : Nat} (ht : t < 3) (hl : l < 3) (hv : v < 5) (H : ∀ r, post r (tr, de, mo, 0, fo, upd a1 (t * 3 + l) (nI v), a2, a3, a4, a5, a6, a7, a8, a9, a10, a11, a12, a13)) : wpX_clue post (tr, de, mo, re, fo, a1, a2, a3, a4, a5, a6, a7, a8, a9, a10, a11, a12, a13) (nI t) (nI l) (nI v) := by
  unfold wpX_clue
  exact br_f (nI_pos (by omega)) (br_f (nI_nlt (b := t) (a := 2) (by omega) (by omega)) (br_f (nI_pos (by omega)) (br_t (nI_le (b := 2) (by omega) (by omega)) (br_f (nI_pos (by omega)) (br_t (nI_le (b := 5) (by omega) (by omega)) ⟨sl_vin (sl_b0 t l) (by omega) (by omega), nm_e ⟨sl_vin (sl_b0 t l) (by omega) (by omega), nm_r (sl_u1 (sl_b0 t l) (by omega) rfl) (H _)⟩⟩)))))
end
end
section
theorem sl_mk2 {s : Nat → Int32} {Q : Nat → Bool} {i w x y : Nat} (hw : i < w) (h : ∀ e, e < 24 → s e = if Q e = true then 1 else 0) : ∀ e, e < 24 → upd (upd s x 1) y 1 e = if (Q e || (decide (i < w) && (decide (e = x) || decide (e = y)))) = true then 1 else 0 := by
  intro e he
  by_cases c2 : e = y
  · rw [c2, pk_us, if_pos (by simp [hw])]
  · rw [pk_un c2]
    by_cases c1 : e = x
    · rw [c1, pk_us, if_pos (by simp [hw])]
    · rw [pk_un c1, h e he]
      simp [c1, c2]
theorem sl_mk0 {s : Nat → Int32} {Q q : Nat → Bool} {i w : Nat} (hw : w ≤ i) (h : ∀ e, e < 24 → s e = if Q e = true then 1 else 0) : ∀ e, e < 24 → s e = if (Q e || (decide (i < w) && q e)) = true then 1 else 0 := by
  intro e he
  rw [decide_eq_false (show ¬ i < w by omega), Bool.false_and, Bool.or_false]
  exact h e he
theorem sl_e1 (t l i : Nat) : nI t * 3 + nI l + nI i = nI (t * 3 + l + i) := by rw [sl_b0, nI_add]
theorem sl_e2 (t l h i : Nat) : (nI t + nI h) * 3 + nI l + nI i = nI ((t + h) * 3 + l + i) := by rw [nI_add, sl_b0, nI_add]
theorem sl_e3 (t l i : Nat) : 12 + (nI t + nI i) * 4 + nI l = nI (12 + (t + i) * 4 + l) := by rw [nI_add, sl_b2]
theorem sl_e4 (t l w i : Nat) : 12 + (nI t + nI i) * 4 + nI l + nI w = nI (12 + (t + i) * 4 + l + w) := by rw [sl_e3, nI_add]
section
variable {post : Int32 → St0 → Prop} {mc ms kc ks : Nat} {tr de mo re fo : Int32} {a1 a2 a3 a4 a5 a6 a7 a8 a9 a10 a11 a12 a13 : Nat → Int32} {R : Nat → Bool} {t l : Nat} {x7 : Int32}
theorem sl_285G (ht : t < 3) (hl : l < 3) (ho : sl_ok R) (hb : sl_bd a3 a4 a5 a6) (h2 : ∀ e, e < 24 → a2 e = if R e = true then 1 else 0) (hg : sl_good R a1) (hbit : (sl_set R 24 >>> (nI (t * 3 + l) &&& 31)) &&& 1 = 1) (hon : sl_on (sl_set R 24) 24 = x7) (H : post 1 ()) : wL_lawOf_285 post mc ms (nI t) (nI l) x7 1 kc ks tr de mo 0 fo a1 a2 a3 a4 a5 a6 a7 a8 a9 a10 a11 a12 a13 := by
  unfold wL_lawOf_285
  refine sl_solG ho hb h2 hg (fun t2 m2 c7 c8 c9 => br_f (by decide) (br_t rfl ?_))
  refine sl_vot1 (sl_b0 t l) (by omega) pk_us hbit (br_f (by decide) (br_t rfl ?_))
  refine sl_cho1 (sl_b0 t l) (by omega) pk_us hbit (br_t rfl ?_)
  refine sl_dec1 pk_us (br_f (by decide) (br_t rfl ?_))
  exact sl_sho1 pk_us (br_f (by decide) (br_t hon H))
theorem sl_285B (ht : t < 3) (hl : l < 3) (ho : sl_ok R) (hb : sl_bd a3 a4 a5 a6) (h2 : ∀ e, e < 24 → a2 e = if R e = true then 1 else 0) (hg : sl_bad R a1) (H : post 1 ()) : wL_lawOf_285 post mc ms (nI t) (nI l) x7 0 kc ks tr de mo 0 fo a1 a2 a3 a4 a5 a6 a7 a8 a9 a10 a11 a12 a13 := by
  unfold wL_lawOf_285
  refine sl_solB ho hb h2 hg (fun t2 m2 c7 c8 c9 => br_t rfl (br_t rfl ?_))
  refine sl_vot0 (sl_b0 t l) (by omega) (br_t rfl (br_t rfl ?_))
  refine sl_cho0 (sl_b0 t l) (by omega) (br_t rfl ?_)
  refine sl_dec0 (br_t rfl (br_t rfl ?_))
  exact sl_sho0 (br_t rfl (br_t rfl H))
theorem sl_252 {x1 : Int32} {sh sw : Nat} (ht : t < 3) (hl : l < 3) (ho : sl_ok R) (hb : sl_bd a3 a4 a5 a6) (h2 : ∀ e, e < 24 → a2 e = if R e = true then 1 else 0) (h1 : ∀ c, c < 9 → a1 c = 5) (hs : sl_ci R (t * 3 + l) 4 = sh + sw) (hcl : sl_cl R (t * 3 + l)) (hbit : (sl_set R 24 >>> (nI (t * 3 + l) &&& 31)) &&& 1 = 1) (hon : sl_on (sl_set R 24) 24 = x7) (H : post 1 ()) : wL_lawOf_252 post mc ms x1 (nI t) (nI l) x7 (nI sw) (nI sh) kc ks tr de mo re fo a1 a2 a3 a4 a5 a6 a7 a8 a9 a10 a11 a12 a13 := by
  obtain ⟨m, hm, em⟩ := pk_andE x1 (m := 2147483647) 31 (by decide)
  have e9 : (x1 &&& 2147483647) - (x1 &&& 2147483647) / 5 * 5 = nI (m % 5) := by
    rw [em]
    exact pk_rem (d := 5) hm (by omega) (by omega)
  have hv : m % 5 < 5 := by omega
  have hci := sl_ci_le R (t * 3 + l) 4
  unfold wL_lawOf_252
  refine nm_r (nI_add sh sw) ⟨by decide, nm_r e9 (sl_clue ht hl hv (fun r => pk_eq (m % 5) (sh + sw) (fun z => ?_) (fun z => ?_)))⟩
  · refine sl_285G ht hl ho hb h2 (fun c hc => ?_) hbit hon H
    by_cases e : c = t * 3 + l
    · rw [e, pk_us]
      exact Or.inr ⟨by rw [hs, z], by omega, hcl⟩
    · rw [pk_un e]
      exact Or.inl (h1 c hc)
  · refine sl_285B ht hl ho hb h2 ⟨t * 3 + l, m % 5, by omega, hv, pk_us, by omega, hcl, fun d hd => ?_⟩ H
    rw [pk_un (show d ≠ t * 3 + l by omega)]
    exact h1 d (by omega)
end
section
variable {post : Int32 → St0 → Prop} {mc ms kc ks : Nat} {tr de mo re fo : Int32} {a1 a2 a3 a4 a5 a6 a7 a8 a9 a10 a11 a12 a13 : Nat → Int32} {t l h w : Nat} {x1 : Int32}
theorem sl_okR (ht : t < 3) (hl : l < 3) (h0 : 0 < h) (w0 : 0 < w) (hth : t + h ≤ 3) (hlw : l + w ≤ 3) : sl_ok (sl_R t l h w 3) :=
  ⟨sl_f1 t ht l hl h (by omega) w (by omega) h0 w0 hth hlw, sl_f2 t ht l hl h (by omega) w (by omega) h0 w0 hth hlw, sl_f3 t ht l hl h (by omega) w (by omega) h0 w0 hth hlw, sl_f4 t ht l hl h (by omega) w (by omega) h0 w0 hth hlw⟩
theorem sl_end (ht : t < 3) (hl : l < 3) (h0 : 0 < h) (w0 : 0 < w) (hth : t + h ≤ 3) (hlw : l + w ≤ 3) (hb : sl_bd a3 a4 a5 a6) (h2 : ∀ e, e < 24 → a2 e = if sl_R t l h w 3 e = true then 1 else 0) (h1 : ∀ c, c < 9 → a1 c = 5) (H : post 1 ()) (n : Nat) : wL_lawOf_54 post mc ms x1 (nI t) (nI l) (nI h) (nI w) kc ks (n + 1) (nI 3) tr de mo 0 fo a1 a2 a3 a4 a5 a6 a7 a8 a9 a10 a11 a12 a13 := by
  have ho := sl_okR ht hl h0 w0 hth hlw
  have f5 := sl_f5 t ht l hl h (by omega) w (by omega) h0 w0 hth hlw
  have f6 := sl_f6 t ht l hl h (by omega) w (by omega) h0 w0 hth hlw
  have f7 := sl_f7 t ht l hl h (by omega) w (by omega) h0 w0 hth hlw
  have f8 := sl_f8 t ht l hl h (by omega) w (by omega) h0 w0 hth hlw
  have f9 := sl_f9 t ht l hl h (by omega) w (by omega) h0 w0 hth hlw
  have e7 : 2 * (nI h + nI w) = nI (2 * (h + w)) := by
    rw [nI_add]
    exact pk_mul 2 (h + w)
  refine pk_le 3 3 (fun _ => nm_r e7 ?_) (fun z => absurd z (by omega))
  refine sl_solG ho hb h2 (fun c hc => Or.inl (h1 c hc)) (fun t2 m2 c7 c8 c9 => br_t rfl ?_)
  refine sl_len0 pk_us (br_t f5 ?_)
  refine sl_ins0 pk_us (br_t (f6.trans (pk_mul h w).symm) ?_)
  refine sl_dec1 pk_us (br_t rfl ?_)
  refine sl_sho1 pk_us (br_t f5 ?_)
  refine sl_len1 (br_t rfl ?_)
  refine sl_insM (br_t rfl ?_)
  refine pk_eq h 1 (fun zh => ?_) (fun zh => ?_)
  · refine pk_eq w 1 (fun zw => ?_) (fun zw => ?_)
    · exact sl_252 (sh := 2) (sw := 2) ht hl ho hb h2 h1 (by rw [f7, if_pos zh, if_pos zw]) f8 f9 f5 H
    · exact sl_252 (sh := 2) (sw := 1) ht hl ho hb h2 h1 (by rw [f7, if_pos zh, if_neg zw]) f8 f9 f5 H
  · refine pk_eq w 1 (fun zw => ?_) (fun zw => ?_)
    · exact sl_252 (sh := 1) (sw := 2) ht hl ho hb h2 h1 (by rw [f7, if_neg zh, if_pos zw]) f8 f9 f5 H
    · exact sl_252 (sh := 1) (sw := 1) ht hl ho hb h2 h1 (by rw [f7, if_neg zh, if_neg zw]) f8 f9 f5 H
theorem sl_54 (ht : t < 3) (hl : l < 3) (h0 : 0 < h) (w0 : 0 < w) (hth : t + h ≤ 3) (hlw : l + w ≤ 3) (hb : sl_bd a3 a4 a5 a6) (h2 : ∀ e, e < 24 → a2 e = 0) (h1 : ∀ c, c < 9 → a1 c = 5) (H : post 1 ()) : ∃ n, wL_lawOf_54 post mc ms x1 (nI t) (nI l) (nI h) (nI w) kc ks n 0 tr de mo 0 fo a1 a2 a3 a4 a5 a6 a7 a8 a9 a10 a11 a12 a13 := by
  refine pk_loop (fun n i s => wL_lawOf_54 post mc ms x1 (nI t) (nI l) (nI h) (nI w) kc ks n (nI i) tr de mo 0 fo a1 s a3 a4 a5 a6 a7 a8 a9 a10 a11 a12 a13) (fun i s => ∀ e, e < 24 → s e = if sl_R t l h w i e = true then 1 else 0) 3 0 a2 (by omega) (fun e he => ?_) (fun n s hs => sl_end ht hl h0 w0 hth hlw hb hs h1 H n) (fun n i s hi hs hw => ?_)
  · show a2 e = 0
    exact h2 e he
  · have X : ∀ (s' : Nat → Int32) (Q : Nat → Bool), (∀ e, e < 24 → s' e = if Q e = true then 1 else 0) → (∀ e, (Q e || (decide (i < h) && (decide (e = 12 + (t + i) * 4 + l) || decide (e = 12 + (t + i) * 4 + l + w)))) = sl_R t l h w (i + 1) e) → wL_lawOf_100 post mc ms (wL_lawOf_54 post mc ms x1 (nI t) (nI l) (nI h) (nI w) kc ks n) x1 (nI t) (nI l) (nI h) (nI w) (nI i) kc ks tr de mo 0 fo a1 s' a3 a4 a5 a6 a7 a8 a9 a10 a11 a12 a13 := by
      intro s' Q hQ hR
      unfold wL_lawOf_100
      refine pk_le h i (fun z => nm_r (nI_1 i) (hw _ ?_)) (fun z => sl_mark (sl_e3 t l i) (by omega) (fun _ => sl_mark (sl_e4 t l w i) (by omega) (fun _ => nm_r (nI_1 i) (hw _ ?_))))
      · intro e he
        rw [← hR e]
        exact sl_mk0 (q := fun e => decide (e = 12 + (t + i) * 4 + l) || decide (e = 12 + (t + i) * 4 + l + w)) z hQ e he
      · intro e he
        rw [← hR e]
        exact sl_mk2 z hQ e he
    refine pk_le 3 i (fun z => absurd z (by omega)) (fun _ => pk_le w i (fun z => ?_) (fun z => ?_))
    · exact X s (fun e => sl_R t l h w i e || (decide (i < w) && (decide (e = t * 3 + l + i) || decide (e = (t + h) * 3 + l + i)))) (sl_mk0 (q := fun e => decide (e = t * 3 + l + i) || decide (e = (t + h) * 3 + l + i)) z hs) (fun _ => rfl)
    · exact sl_mark (sl_e1 t l i) (by omega) (fun _ => sl_mark (sl_e2 t l h i) (by omega) (fun _ => X _ (fun e => sl_R t l h w i e || (decide (i < w) && (decide (e = t * 3 + l + i) || decide (e = (t + h) * 3 + l + i)))) (sl_mk2 z hs) (fun _ => rfl)))
end
theorem sl_cell {post : Int32 → Prop} {L : Nat} {xs : Nat → Int32} (p : Nat) (hp : p < 2) (hL : L ≤ 2) (H : ∀ r, post r) : wpL_cellAt post L xs () (nI p) :=
  pk_le L p (fun _ => H 0) (fun z => ⟨pk_in p L z, H _⟩)
theorem sl_rm {y d : Int32} {k : Nat} (hk : k < 3) (hd : d = nI k) : ∃ q, q < 3 - k ∧ ¬ 3 - d = 0 ∧ 1 + ((y &&& 3) - (y &&& 3) / (3 - d) * (3 - d)) = nI (1 + q) := by
  subst hd
  obtain ⟨j, hj, e⟩ := pk_andE y (m := 3) 2 (by decide)
  have e3 : 3 - nI k = nI (3 - k) := pk_sub (a := 3) (by omega)
  refine ⟨j % (3 - k), Nat.mod_lt _ (by omega), ?_, ?_⟩
  · rw [e3]
    exact nI_ne0 (by omega) (by omega)
  · rw [e3, e, pk_rem (by omega) (by omega) (by omega)]
    exact nI_add 1 _
theorem sl_lawOf {post : Int32 → St0 → Prop} (p0 p1 : Int32) (H : post 1 ()) : wpL_lawOf post 326 5216 () p0 p1 := by
  obtain ⟨j, hj, ej⟩ := pk_andE p0 (m := 3) 2 (by decide)
  obtain ⟨g, hg, eg⟩ := pk_andE (p0 >>> ((2 : Int32) &&& 31)) (m := 3) 2 (by decide)
  have et : (p0 &&& 3) - (p0 &&& 3) / 3 * 3 = nI (j % 3) := by
    rw [ej]
    exact sl_m3 (by omega)
  have el : ((p0 >>> ((2 : Int32) &&& 31)) &&& 3) - ((p0 >>> ((2 : Int32) &&& 31)) &&& 3) / 3 * 3 = nI (g % 3) := by
    rw [eg]
    exact sl_m3 (by omega)
  obtain ⟨q5, h5, n5, e5⟩ := sl_rm (y := p0 >>> ((4 : Int32) &&& 31)) (k := j % 3) (by omega) rfl
  obtain ⟨q6, h6, n6, e6⟩ := sl_rm (y := p0 >>> ((6 : Int32) &&& 31)) (k := g % 3) (by omega) rfl
  refine And.intro (by omega) ⟨by omega, 13, 576, by omega, by omega, sl_init (by omega) (by omega) (fun b1 b3 b4 b5 b6 h1 hb => ?_)⟩
  refine And.intro (by decide) (nm_r et ⟨by decide, nm_r el ⟨n5, nm_r e5 ⟨n6, nm_r e6 ?_⟩⟩⟩)
  exact sl_54 (by omega) (by omega) (by omega) (by omega) (by omega) (by omega) hb (fun _ _ => rfl) h1 H
end
section
theorem i_vc (xs : Nat → Int32) (L : Nat) (hL : L ≤ 2) : wpL_law (fun r => r = 1) L xs :=
  sl_cell 0 (by omega) hL (fun r1 => sl_cell 1 (by omega) hL (fun r2 => ⟨326, 5216, by omega, by omega, sl_lawOf r1 r2 rfl⟩))
end
