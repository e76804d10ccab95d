section
/-! ===== pure: graphs worked off edge by edge ===== -/
/-- two points made one: whatever is the greater becomes the smaller -/
def gp_jn (f : Nat → Nat) (a b : Nat) : Nat → Nat := fun p => if f p = max a b then min a b else f p
/-- one edge drawn together -/
def gp_st (u v : Nat) (f : Nat → Nat) : Nat → Nat := if f u = f v then f else gp_jn f (f u) (f v)
/-- the edges lo .. h-1 drawn together -/
def gp_dt (fe se : Nat → Nat) (lo : Nat) (f : Nat → Nat) : Nat → Nat → Nat
  | 0 => f
  | h + 1 => if h < lo then gp_dt fe se lo f h else gp_st (fe h) (se h) (gp_dt fe se lo f h)
/-- the polynomial's value over the last r edges -/
def gp_gv (fe se : Nat → Nat) (m : Nat) (X Y : Int) : Nat → (Nat → Nat) → Int
  | 0, _ => 1
  | r + 1, f =>
    if f (fe (m - (r + 1))) = f (se (m - (r + 1))) then Y * gp_gv fe se m X Y r f
    else if gp_dt fe se (m - r) f m (fe (m - (r + 1))) = gp_dt fe se (m - r) f m (se (m - (r + 1))) then
      gp_gv fe se m X Y r f + gp_gv fe se m X Y r (gp_jn f (f (fe (m - (r + 1)))) (f (se (m - (r + 1)))))
    else X * gp_gv fe se m X Y r (gp_jn f (f (fe (m - (r + 1)))) (f (se (m - (r + 1)))))
theorem gp_gv_s (fe se : Nat → Nat) (m : Nat) (X Y : Int) (r : Nat) (f : Nat → Nat) : gp_gv fe se m X Y (r + 1) f =
    if f (fe (m - (r + 1))) = f (se (m - (r + 1))) then Y * gp_gv fe se m X Y r f
    else if gp_dt fe se (m - r) f m (fe (m - (r + 1))) = gp_dt fe se (m - r) f m (se (m - (r + 1))) then
      gp_gv fe se m X Y r f + gp_gv fe se m X Y r (gp_jn f (f (fe (m - (r + 1)))) (f (se (m - (r + 1)))))
    else X * gp_gv fe se m X Y r (gp_jn f (f (fe (m - (r + 1)))) (f (se (m - (r + 1))))) := rfl
theorem gp_jn_comm (f : Nat → Nat) (a b : Nat) : gp_jn f a b = gp_jn f b a := by
  funext p
  unfold gp_jn
  rw [Nat.max_comm, Nat.min_comm]
theorem gp_jn_eq (f : Nat → Nat) (u v : Nat) : gp_jn f (f u) (f v) u = gp_jn f (f u) (f v) v := by
  unfold gp_jn
  rcases Nat.le_total (f u) (f v) with h | h
  · rw [Nat.max_eq_right h, Nat.min_eq_left h, if_pos rfl]
    split <;> rfl
  · rw [Nat.max_eq_left h, Nat.min_eq_right h, if_pos rfl]
    split <;> rfl
theorem gp_jn_lt {f : Nat → Nat} {a b c p : Nat} (ha : a < c) (hb : b < c) (h : f p < c) : gp_jn f a b p < c := by
  unfold gp_jn
  split
  · exact Nat.lt_of_le_of_lt (Nat.min_le_left a b) ha
  · exact h
theorem gp_st_eq (f : Nat → Nat) (u v : Nat) : gp_st u v f u = gp_st u v f v := by
  unfold gp_st
  split
  · assumption
  · exact gp_jn_eq f u v
theorem gp_st_id {f : Nat → Nat} {u v : Nat} (h : f u = f v) : gp_st u v f = f := if_pos h
theorem gp_st_jn {f : Nat → Nat} {u v : Nat} (h : ¬ f u = f v) : gp_st u v f = gp_jn f (f u) (f v) := if_neg h
theorem gp_dt_skip {fe se : Nat → Nat} {lo : Nat} {f : Nat → Nat} {h : Nat} (hh : h < lo) : gp_dt fe se lo f (h + 1) = gp_dt fe se lo f h := if_pos hh
theorem gp_dt_step {fe se : Nat → Nat} {lo : Nat} {f : Nat → Nat} {h : Nat} (hh : lo ≤ h) : gp_dt fe se lo f (h + 1) = gp_st (fe h) (se h) (gp_dt fe se lo f h) := if_neg (by omega)
theorem gp_dt_lo (fe se : Nat → Nat) (lo : Nat) (f : Nat → Nat) : ∀ h, h ≤ lo → gp_dt fe se lo f h = f := by
  intro h
  induction h with
  | zero => intro _; rfl
  | succ h ih =>
    intro hh
    rw [gp_dt_skip (by omega)]
    exact ih (by omega)
theorem gp_dt_cg {fe se fe' se' : Nat → Nat} {lo : Nat} {f : Nat → Nat} {m : Nat} (hf : ∀ i, i < m → fe' i = fe i) (hs : ∀ i, i < m → se' i = se i) : ∀ h, h ≤ m → gp_dt fe' se' lo f h = gp_dt fe se lo f h := by
  intro h
  induction h with
  | zero => intro _; rfl
  | succ h ih =>
    intro hh
    show (if h < lo then gp_dt fe' se' lo f h else gp_st (fe' h) (se' h) (gp_dt fe' se' lo f h)) = (if h < lo then gp_dt fe se lo f h else gp_st (fe h) (se h) (gp_dt fe se lo f h))
    rw [ih (by omega), hf h (by omega), hs h (by omega)]
theorem gp_st_lt {f : Nat → Nat} {u v c n : Nat} (hu : u < n) (hv : v < n) (h : ∀ p, p < n → f p < c) : ∀ p, p < n → gp_st u v f p < c := by
  intro p hp
  unfold gp_st
  split
  · exact h p hp
  · exact gp_jn_lt (h u hu) (h v hv) (h p hp)
theorem gp_dt_lt {fe se : Nat → Nat} {lo : Nat} {f : Nat → Nat} {c n m : Nat} (he : ∀ i, i < m → fe i < n ∧ se i < n) (h : ∀ p, p < n → f p < c) : ∀ k, k ≤ m → ∀ p, p < n → gp_dt fe se lo f k p < c := by
  intro k
  induction k with
  | zero => intro _; exact h
  | succ k ih =>
    intro hk
    by_cases hh : k < lo
    · rw [gp_dt_skip hh]
      exact ih (by omega)
    · rw [gp_dt_step (by omega)]
      exact gp_st_lt (he k (by omega)).1 (he k (by omega)).2 (ih (by omega))
/-- a parallel edge behind the last one draws nothing more together -/
theorem gp_dt_par {fe se fe' se' : Nat → Nat} {lo : Nat} {f : Nat → Nat} {m : Nat} (hf : ∀ i, i < m + 1 → fe' i = fe i) (hs : ∀ i, i < m + 1 → se' i = se i) (h1 : fe' (m + 1) = se m) (h2 : se' (m + 1) = fe m) (hl : lo ≤ m) : gp_dt fe' se' lo f (m + 2) = gp_dt fe se lo f (m + 1) := by
  rw [gp_dt_step (by omega), h1, h2, gp_dt_cg hf hs (m + 1) (by omega), gp_dt_step (by omega)]
  exact gp_st_id (gp_st_eq _ _ _).symm
theorem gp_gv_loop {fe se : Nat → Nat} {m : Nat} {X : Int} {e : Nat} (he : e < m) (hh : fe e = se e) : ∀ r, m - r ≤ e → r ≤ m → ∀ f, gp_gv fe se m X 0 r f = 0 := by
  intro r
  induction r with
  | zero => intro h _; omega
  | succ r ih =>
    intro h1 h2 f
    rw [gp_gv_s]
    by_cases ek : m - (r + 1) = e
    · rw [ek, if_pos (by rw [hh]), Int.zero_mul]
    · have i1 := ih (by omega) (by omega)
      split
      · rw [Int.zero_mul]
      · split
        · rw [i1, i1, Int.add_zero]
        · rw [i1, Int.mul_zero]
theorem gp_gv_bd (fe se : Nat → Nat) (m : Nat) : ∀ r f, 1 ≤ gp_gv fe se m 1 1 r f ∧ gp_gv fe se m 1 1 r f ≤ gp_gv fe se m 2 1 r f ∧ gp_gv fe se m 1 1 r f ≤ gp_gv fe se m 1 2 r f ∧ gp_gv fe se m 2 1 r f ≤ ((2 ^ r : Nat) : Int) ∧ gp_gv fe se m 1 2 r f ≤ ((2 ^ r : Nat) : Int) := by
  intro r
  induction r with
  | zero => intro f; exact ⟨Int.le_refl 1, Int.le_refl 1, Int.le_refl 1, Int.le_refl 1, Int.le_refl 1⟩
  | succ r ih =>
    intro f
    obtain ⟨a1, a2, a3, a4, a5⟩ := ih f
    obtain ⟨b1, b2, b3, b4, b5⟩ := ih (gp_jn f (f (fe (m - (r + 1)))) (f (se (m - (r + 1)))))
    have hp : (2 ^ (r + 1) : Nat) = 2 * 2 ^ r := by rw [Nat.pow_succ, Nat.mul_comm]
    rw [gp_gv_s, gp_gv_s, gp_gv_s, hp]
    generalize (2 ^ r : Nat) = t at *
    split
    · omega
    · split
      · omega
      · omega
/-- at Y = 0 a parallel edge behind the last one changes nothing -/
theorem gp_gv_par {fe se fe' se' : Nat → Nat} {m : Nat} {X : Int} (hf : ∀ i, i < m + 1 → fe' i = fe i) (hs : ∀ i, i < m + 1 → se' i = se i) (h1 : fe' (m + 1) = se m) (h2 : se' (m + 1) = fe m) : ∀ r, r ≤ m → ∀ f, gp_gv fe' se' (m + 2) X 0 (r + 2) f = gp_gv fe se (m + 1) X 0 (r + 1) f := by
  intro r
  induction r with
  | zero =>
    intro _ f
    have e1 : ∀ g, gp_gv fe' se' (m + 2) X 0 1 g = if g (se m) = g (fe m) then 0 else X := by
      intro g
      show gp_gv fe' se' (m + 2) X 0 (0 + 1) g = _
      rw [gp_gv_s, show m + 2 - (0 + 1) = m + 1 by omega, show m + 2 - 0 = m + 2 by omega, h1, h2, gp_dt_lo _ _ _ _ _ (Nat.le_refl _)]
      by_cases c : g (se m) = g (fe m)
      · rw [if_pos c, if_pos c, Int.zero_mul]
      · rw [if_neg c, if_neg c, if_neg c]
        exact Int.mul_one X
    have e2 : gp_gv fe se (m + 1) X 0 1 f = if f (fe m) = f (se m) then 0 else X := by
      show gp_gv fe se (m + 1) X 0 (0 + 1) f = _
      rw [gp_gv_s, show m + 1 - (0 + 1) = m by omega, show m + 1 - 0 = m + 1 by omega, gp_dt_lo _ _ _ _ _ (Nat.le_refl _)]
      by_cases c : f (fe m) = f (se m)
      · rw [if_pos c, if_pos c, Int.zero_mul]
      · rw [if_neg c, if_neg c, if_neg c]
        exact Int.mul_one X
    rw [show (0 + 1 : Nat) = 1 from rfl, e2]
    show gp_gv fe' se' (m + 2) X 0 (1 + 1) f = _
    rw [gp_gv_s, show m + 2 - (1 + 1) = m by omega, show m + 2 - 1 = m + 1 by omega, hf m (by omega), hs m (by omega)]
    by_cases c : f (fe m) = f (se m)
    · rw [if_pos c, if_pos c, Int.zero_mul]
    · have c2 : gp_dt fe' se' (m + 1) f (m + 2) (fe m) = gp_dt fe' se' (m + 1) f (m + 2) (se m) := by
        rw [gp_dt_step (by omega), h1, h2]
        exact (gp_st_eq _ _ _).symm
      rw [if_neg c, if_neg c, if_pos c2, e1, e1, if_neg (fun z => c z.symm), if_pos (gp_jn_eq f (fe m) (se m)).symm, Int.add_zero]
  | succ r ih =>
    intro hr f
    have ih' := ih (by omega)
    have k1 : m + 2 - (r + 1 + 1 + 1) = m - (r + 1) := by omega
    have k2 : m + 1 - (r + 1 + 1) = m - (r + 1) := by omega
    have k3 : m + 2 - (r + 1 + 1) = m - r := by omega
    have k4 : m + 1 - (r + 1) = m - r := by omega
    show gp_gv fe' se' (m + 2) X 0 (r + 1 + 1 + 1) f = gp_gv fe se (m + 1) X 0 (r + 1 + 1) f
    rw [gp_gv_s fe' se' (m + 2) X 0 (r + 1 + 1) f, gp_gv_s fe se (m + 1) X 0 (r + 1) f, k1, k2, k3, k4, hf _ (by omega), hs _ (by omega), gp_dt_par hf hs h1 h2 (by omega), ih', ih']
end
section
/-! ===== numbers: packed points, masks, sums, fields of a long ===== -/
/-- points packed: three bits each -/
def gp_en (f : Nat → Nat) : Nat → Nat
  | 0 => 0
  | n + 1 => gp_en f n + f n * 2 ^ (3 * n)
theorem gp_p3 (n : Nat) : 2 ^ (3 * (n + 1)) = 2 ^ (3 * n) * 8 := by rw [Nat.mul_succ, Nat.pow_add]
theorem gp_en_lt {f : Nat → Nat} : ∀ n, (∀ p, p < n → f p < 8) → gp_en f n < 2 ^ (3 * n) := by
  intro n
  induction n with
  | zero => intro _; exact Nat.one_pos
  | succ n ih =>
    intro h
    have h1 := ih (fun p hp => h p (by omega))
    have h4 : f n * 2 ^ (3 * n) ≤ 7 * 2 ^ (3 * n) := Nat.mul_le_mul_right _ (by have := h n (by omega); omega)
    show gp_en f n + f n * 2 ^ (3 * n) < _
    rw [gp_p3]
    generalize f n * 2 ^ (3 * n) = s at *
    generalize 2 ^ (3 * n) = t at *
    omega
theorem gp_en_at {f : Nat → Nat} : ∀ n, (∀ p, p < n → f p < 8) → ∀ p, p < n → gp_en f n / 2 ^ (3 * p) % 8 = f p := by
  intro n
  induction n with
  | zero => intro _ p hp; omega
  | succ n ih =>
    intro h p hp
    show (gp_en f n + f n * 2 ^ (3 * n)) / 2 ^ (3 * p) % 8 = f p
    by_cases e : p = n
    · subst e
      rw [Nat.add_mul_div_right _ _ (Nat.two_pow_pos _), Nat.div_eq_of_lt (gp_en_lt p (fun q hq => h q (by omega))), Nat.zero_add]
      exact Nat.mod_eq_of_lt (h p (by omega))
    · obtain ⟨d, rfl⟩ : ∃ d, n = p + 1 + d := ⟨n - (p + 1), by omega⟩
      have e2 : f (p + 1 + d) * 2 ^ (3 * (p + 1 + d)) = 2 ^ (3 * p) * (8 * (f (p + 1 + d) * 2 ^ (3 * d))) := by
        rw [show 3 * (p + 1 + d) = 3 * p + (3 + 3 * d) by omega, Nat.pow_add, Nat.pow_add]
        show _ * (_ * (8 * _)) = _
        rw [Nat.mul_left_comm, Nat.mul_left_comm (f _) 8]
      rw [e2, Nat.add_mul_div_left _ _ (Nat.two_pow_pos _), Nat.add_mul_mod_self_left]
      exact ih (fun q hq => h q (by omega)) p (by omega)
theorem gp_sh : ∀ p, p < 6 → ((((3 : Int32) * nI p) &&& 31).toBitVec.smod 32).toNat = 3 * p := by decide +kernel
theorem gp_le15 {i : Nat} (h : i < 6) : 2 ^ (3 * i) ≤ 2 ^ 15 := Nat.pow_le_pow_right (by decide) (by omega)
theorem gp_le18 {i : Nat} (h : i ≤ 6) : 2 ^ (3 * i) ≤ 2 ^ 18 := Nat.pow_le_pow_right (by decide) (by omega)
theorem gp_pt {f : Nat → Nat} {n p : Nat} (hn : n ≤ 6) (h : ∀ q, q < n → f q < 8) (hp : p < n) : (nI (gp_en f n) >>> (((3 : Int32) * nI p) &&& 31)) &&& 7 = nI (f p) := by
  have h1 := gp_en_lt n h
  have h2 := gp_le18 hn
  have h3 : gp_en f n / 2 ^ (3 * p) ≤ gp_en f n := Nat.div_le_self _ _
  rw [pk_shrN (by omega) _ (3 * p) (gp_sh p (by omega)), pk_andN (by omega) 3 (by decide)]
  exact congrArg nI (gp_en_at n h p hp)
theorem gp_or (a b : Nat) : nI a ||| nI b = nI (a ||| b) := Int32.toBitVec_inj.mp (by rw [Int32.toBitVec_or]; exact BitVec.ofNat_or.symm)
theorem gp_ors {f : Nat → Nat} {i : Nat} (hi : i < 6) (h : ∀ q, q < i → f q < 8) (h8 : f i < 8) : nI (gp_en f i) ||| (nI (f i) <<< (((3 : Int32) * nI i) &&& 31)) = nI (gp_en f (i + 1)) := by
  have h1 := gp_en_lt i h
  have h2 := gp_le15 hi
  have h4 : f i * 2 ^ (3 * i) ≤ 7 * 2 ^ (3 * i) := Nat.mul_le_mul_right _ (by omega)
  rw [pk_shlN _ (3 * i) (gp_sh i hi) (by omega), gp_or]
  refine congrArg nI ?_
  show _ = gp_en f i + f i * 2 ^ (3 * i)
  rw [Nat.mul_comm, Nat.or_comm, ← Nat.two_pow_add_eq_or_of_lt h1, Nat.add_comm]
/-! the masks: edges k .. m-1 -/
def gp_ms (m k : Nat) : Int32 := nI (2 ^ m - 2 ^ k)
theorem gp_bit0 : ∀ m, m < 9 → ∀ k, k < 9 → ∀ e, e < 8 → e < k → k ≤ m → (gp_ms m k >>> (nI e &&& 31)) &&& 1 = 0 := by decide +kernel
theorem gp_bit1 {m k e : Nat} (hm : m < 9) (hk : k ≤ e) (he : e < m) : ¬ (gp_ms m k >>> (nI e &&& 31)) &&& 1 = 0 := by
  have h : ∀ m, m < 9 → ∀ k, k < 9 → ∀ e, e < 8 → (k ≤ e ∧ e < m) → (gp_ms m k >>> (nI e &&& 31)) &&& 1 = 1 := by decide +kernel
  rw [h m hm k (by omega) e (by omega) ⟨hk, he⟩]
  decide
theorem gp_msr : ∀ m, m < 9 → ∀ k, k < m → gp_ms m k &&& (((1 : Int32) <<< (nI k &&& 31)) ^^^ (-1)) = gp_ms m (k + 1) := by decide +kernel
theorem gp_ms16 : ∀ m, m < 9 → ∀ k, k ≤ m → (gp_ms m k).toInt16.toInt32 = gp_ms m k := by
  intro m hm k hk
  exact (by decide +kernel : ∀ m, m < 9 → ∀ k, k < 9 → k ≤ m → (gp_ms m k).toInt16.toInt32 = gp_ms m k) m hm k (by omega) hk
theorem gp_ms0 (m : Nat) : gp_ms m m = 0 := by
  unfold gp_ms
  rw [Nat.sub_self]
  rfl
theorem gp_msn : ∀ m, m < 9 → ∀ k, k < m → ¬ gp_ms m k = 0 := by decide +kernel
theorem gp_ms1 : ∀ m, m < 9 → ((1 : Int32) <<< (nI m &&& 31)) - 1 = gp_ms m 0 := by decide +kernel
theorem gp_b8 : ∀ t, t < 16 → (nI t).toInt8.toInt32 = nI t := by decide +kernel
theorem gp_vb8 {t : Nat} (h : t < 16) : vp_nar .byte (nI t) = nI t := by rw [vp_nar_byte, gp_b8 t h]
/-! sums -/
def gp_pw (x : Int32) : Nat → Int32
  | 0 => 1
  | n + 1 => gp_pw x n * x
def gp_sm (f : Nat → Int32) : Nat → Int32
  | 0 => 0
  | n + 1 => gp_sm f n + f n
/-- what valueAt adds up -/
def gp_rw (t : Nat → Int32) (x y : Int32) (i j : Nat) : Int32 := t (9 * i + j) * (gp_pw x i * gp_pw y j)
def gp_vl (t : Nat → Int32) (x y : Int32) : Int32 := gp_sm (fun i => gp_sm (fun j => gp_rw t x y i j) 9) 9
theorem gp_sm_cg {f g : Nat → Int32} : ∀ n, (∀ i, i < n → g i = f i) → gp_sm g n = gp_sm f n := by
  intro n
  induction n with
  | zero => intro _; rfl
  | succ n ih =>
    intro h
    show gp_sm g n + g n = gp_sm f n + f n
    rw [ih (fun i hi => h i (by omega)), h n (by omega)]
theorem gp_sm_0 : ∀ n, gp_sm (fun _ => 0) n = 0 := by
  intro n
  induction n with
  | zero => rfl
  | succ n ih =>
    show gp_sm (fun _ => 0) n + 0 = 0
    rw [ih]
    rfl
theorem gp_sm_one {f g : Nat → Int32} {d : Int32} {i0 : Nat} (ho : ∀ i, i ≠ i0 → g i = f i) (he : g i0 = f i0 + d) : ∀ n, gp_sm g n = if i0 < n then gp_sm f n + d else gp_sm f n := by
  intro n
  induction n with
  | zero => rfl
  | succ n ih =>
    show gp_sm g n + g n = if i0 < n + 1 then (gp_sm f n + f n) + d else gp_sm f n + f n
    rw [ih]
    by_cases e : n = i0
    · subst e
      rw [if_neg (by omega), if_pos (by omega), he, Int32.add_assoc]
    · rw [ho n e]
      by_cases z : i0 < n
      · rw [if_pos z, if_pos (by omega), Int32.add_assoc, Int32.add_assoc, Int32.add_comm d]
      · rw [if_neg z, if_neg (by omega)]
theorem gp_vl_add (t : Nat → Int32) (x y : Int32) {i0 j0 : Nat} (hi : i0 < 9) (hj : j0 < 9) : gp_vl (upd t (9 * i0 + j0) (t (9 * i0 + j0) + 1)) x y = gp_vl t x y + gp_pw x i0 * gp_pw y j0 := by
  have e1 : ∀ i, i ≠ i0 → gp_sm (fun j => gp_rw (upd t (9 * i0 + j0) (t (9 * i0 + j0) + 1)) x y i j) 9 = gp_sm (fun j => gp_rw t x y i j) 9 := by
    intro i hne
    refine gp_sm_cg 9 (fun j hj9 => ?_)
    unfold gp_rw
    rw [pk_un (by omega)]
  have e2 : gp_sm (fun j => gp_rw (upd t (9 * i0 + j0) (t (9 * i0 + j0) + 1)) x y i0 j) 9 = gp_sm (fun j => gp_rw t x y i0 j) 9 + gp_pw x i0 * gp_pw y j0 := by
    have g1 : ∀ j, j ≠ j0 → gp_rw (upd t (9 * i0 + j0) (t (9 * i0 + j0) + 1)) x y i0 j = gp_rw t x y i0 j := by
      intro j hne
      unfold gp_rw
      rw [pk_un (by omega)]
    have g2 : gp_rw (upd t (9 * i0 + j0) (t (9 * i0 + j0) + 1)) x y i0 j0 = gp_rw t x y i0 j0 + gp_pw x i0 * gp_pw y j0 := by
      unfold gp_rw
      rw [pk_us, Int32.add_mul, Int32.one_mul]
    rw [gp_sm_one (f := fun j => gp_rw t x y i0 j) (d := gp_pw x i0 * gp_pw y j0) (i0 := j0) g1 g2 9, if_pos hj]
  unfold gp_vl
  rw [gp_sm_one (f := fun i => gp_sm (fun j => gp_rw t x y i j) 9) (d := gp_pw x i0 * gp_pw y j0) (i0 := i0) e1 e2 9, if_pos hi]
theorem gp_vl_0 {t : Nat → Int32} (x y : Int32) (h : ∀ c, c < 81 → t c = 0) : gp_vl t x y = 0 := by
  unfold gp_vl
  rw [gp_sm_cg (f := fun _ => 0) 9 (fun i hi => ?_), gp_sm_0]
  rw [gp_sm_cg (f := fun _ => 0) 9 (fun j hj => ?_), gp_sm_0]
  unfold gp_rw
  rw [h _ (by omega), Int32.zero_mul]
theorem gp_pw_of (X : Int) : ∀ n, gp_pw (Int32.ofInt X) n = Int32.ofInt (X ^ n) := by
  intro n
  induction n with
  | zero => rw [Int.pow_zero]; rfl
  | succ n ih =>
    show gp_pw (Int32.ofInt X) n * Int32.ofInt X = _
    rw [ih, Int.pow_succ, Int32.ofInt_mul]
theorem gp_of_nat {z : Int} (h0 : 0 ≤ z) : ∃ t : Nat, z = t ∧ Int32.ofInt z = nI t := ⟨z.toNat, by omega, by
  rw [show z = ((z.toNat : Nat) : Int) by omega, Int32.ofInt_eq_ofNat]
  rfl⟩
theorem gp_1k : ∀ k : Nat, k < 7 → (1 : Int32) - nI k = Int32.ofInt (1 - (k : Int)) := by decide +kernel
end
section
theorem wb_tb (n : Nat) : (lN n).toBitVec = BitVec.ofNat 64 n := rfl
theorem wb_inj {a b : Int64} (h : a.toBitVec = b.toBitVec) : a = b := Int64.toBitVec_inj.mp h
theorem wb_tn {n : Nat} (h : n < 2 ^ 64) : (lN n).toBitVec.toNat = n := by rw [wb_tb, BitVec.toNat_ofNat, Nat.mod_eq_of_lt h]
theorem wb_of (x : Int64) : ∃ n, n < 2 ^ 64 ∧ x = lN n := ⟨x.toBitVec.toNat, x.toBitVec.isLt, wb_inj (by rw [wb_tb]; simp)⟩
theorem wb_of32 (x : Int32) : ∃ n, n < 2 ^ 32 ∧ x = nI n := ⟨x.toBitVec.toNat, x.toBitVec.isLt, Int32.toBitVec_inj.mp (by show _ = BitVec.ofNat 32 _; simp)⟩
theorem wb_c : ∀ k, k < 64 → ((nI k).toInt64 &&& 63) = lN k := by decide +kernel
theorem wb_cu : ∀ k, k < 64 → ((nI k).toInt64.toUInt64 &&& Int64.toUInt64 63) = UInt64.ofNat k := by decide +kernel
theorem wb_sm : ∀ k, k < 64 → (BitVec.ofNat 64 k).smod 64 = BitVec.ofNat 64 k := by decide +kernel
theorem wb_pw {a b : Nat} (h : a ≤ b) : 2 ^ b = 2 ^ a * 2 ^ (b - a) := by rw [← Nat.pow_add]; congr 1; omega
theorem wb_lt2 {a b : Nat} (h : a < b) : 2 ^ a < 2 ^ b := Nat.pow_lt_pow_right (by decide) h
theorem wb_mod (n : Nat) : lN n = lN (n % 2 ^ 64) := wb_inj (by rw [wb_tb, wb_tb]; apply BitVec.eq_of_toNat_eq; rw [BitVec.toNat_ofNat, BitVec.toNat_ofNat, Nat.mod_mod])
theorem wb_shr {n k : Nat} (hn : n < 2 ^ 64) (hk : k < 64) : ((lN n).toUInt64 >>> ((nI k).toInt64.toUInt64 &&& Int64.toUInt64 63)).toInt64 = lN (n / 2 ^ k) := by
  rw [wb_cu k hk]
  apply wb_inj
  apply BitVec.eq_of_toNat_eq
  show ((lN n).toUInt64 >>> UInt64.ofNat k).toNat = (BitVec.ofNat 64 _).toNat
  have h1 : (UInt64.ofNat k).toNat = k := by
    show (BitVec.ofNat 64 k).toNat = k
    rw [BitVec.toNat_ofNat, Nat.mod_eq_of_lt (by omega)]
  have h2 : (lN n).toUInt64.toNat = n := wb_tn hn
  rw [UInt64.toNat_shiftRight, h1, h2, Nat.mod_eq_of_lt hk, Nat.shiftRight_eq_div_pow, BitVec.toNat_ofNat, Nat.mod_eq_of_lt (Nat.lt_of_le_of_lt (Nat.div_le_self _ _) hn)]
theorem wb_shl (n : Nat) {k : Nat} (hk : k < 64) : lN n <<< ((nI k).toInt64 &&& 63) = lN (n * 2 ^ k) := by
  rw [wb_c k hk]
  apply wb_inj
  rw [Int64.toBitVec_shiftLeft, wb_tb, wb_tb, wb_tb, wb_sm k hk]
  apply BitVec.eq_of_toNat_eq
  rw [BitVec.shiftLeft_eq', BitVec.toNat_shiftLeft, BitVec.toNat_ofNat, BitVec.toNat_ofNat, BitVec.toNat_ofNat, Nat.mod_eq_of_lt (show k < 2 ^ 64 by omega), Nat.shiftLeft_eq, Nat.mul_mod, Nat.mod_mod, ← Nat.mul_mod]
theorem wb_and {a b : Nat} (ha : a < 2 ^ 64) (hb : b < 2 ^ 64) : lN a &&& lN b = lN (a &&& b) := by
  apply wb_inj
  rw [Int64.toBitVec_and, wb_tb, wb_tb, wb_tb]
  apply BitVec.eq_of_toNat_eq
  rw [BitVec.toNat_and, BitVec.toNat_ofNat, BitVec.toNat_ofNat, BitVec.toNat_ofNat, Nat.mod_eq_of_lt ha, Nat.mod_eq_of_lt hb, Nat.mod_eq_of_lt (Nat.and_lt_two_pow _ hb)]
theorem wb_or {a b : Nat} (ha : a < 2 ^ 64) (hb : b < 2 ^ 64) : lN a ||| lN b = lN (a ||| b) := by
  apply wb_inj
  rw [Int64.toBitVec_or, wb_tb, wb_tb, wb_tb]
  apply BitVec.eq_of_toNat_eq
  rw [BitVec.toNat_or, BitVec.toNat_ofNat, BitVec.toNat_ofNat, BitVec.toNat_ofNat, Nat.mod_eq_of_lt ha, Nat.mod_eq_of_lt hb, Nat.mod_eq_of_lt (Nat.or_lt_two_pow ha hb)]
theorem wb_mask {n k : Nat} (hn : n < 2 ^ 64) (hk : k < 64) : lN n &&& lN (2 ^ k - 1) = lN (n % 2 ^ k) := by
  rw [wb_and hn (by have := wb_lt2 hk; omega), Nat.and_two_pow_sub_one_eq_mod]
theorem wb_a1 {n : Nat} (hn : n < 2 ^ 64) : lN n &&& 1 = lN (n % 2) := wb_mask (k := 1) hn (by decide)
/-! ===== fields of three bits of a long ===== -/
def gp_fd (x : Int64) (j : Nat) : Nat := x.toBitVec.toNat / 2 ^ (3 * j) % 8
theorem gp_fd_lt (x : Int64) (j : Nat) : gp_fd x j < 8 := Nat.mod_lt _ (by decide)
theorem gp_f64 (x : Int64) {j : Nat} (hj : j < 16) : (x.toUInt64 >>> ((nI (3 * j)).toInt64.toUInt64 &&& Int64.toUInt64 63)).toInt64 &&& 7 = lN (gp_fd x j) := by
  obtain ⟨n, hn, rfl⟩ := wb_of x
  rw [wb_shr hn (by omega)]
  unfold gp_fd
  rw [wb_tn hn]
  exact wb_mask (k := 3) (Nat.lt_of_le_of_lt (Nat.div_le_self _ _) hn) (by decide)
theorem gp_f32 (x : Int64) {j : Nat} (hj : j < 16) : ((x.toUInt64 >>> ((nI (3 * j)).toInt64.toUInt64 &&& Int64.toUInt64 63)).toInt64).toInt32 &&& 7 = nI (gp_fd x j) := by
  obtain ⟨n, hn, rfl⟩ := wb_of x
  rw [wb_shr hn (by omega), lN_i, pk_and _ 3 (by decide)]
  unfold gp_fd
  rw [wb_tn hn]
  refine congrArg nI ?_
  show (n / 2 ^ (3 * j)) % 2 ^ 32 % 8 = _
  omega
theorem gp_fd_bv (x : Int64) (j : Nat) : gp_fd x j = (x.toBitVec.extractLsb' (3 * j) 3).toNat := by
  rw [BitVec.extractLsb'_toNat, Nat.shiftRight_eq_div_pow]
  rfl
theorem gp_fd_ext {x y : Int64} {j k : Nat} (h : ∀ i, i < 3 → x.toBitVec.getLsbD (3 * j + i) = y.toBitVec.getLsbD (3 * k + i)) : gp_fd x j = gp_fd y k := by
  rw [gp_fd_bv, gp_fd_bv]
  refine congrArg BitVec.toNat (BitVec.eq_of_getLsbD_eq (fun i hi => ?_))
  rw [BitVec.getLsbD_extractLsb', BitVec.getLsbD_extractLsb', h i hi]
theorem gp_shb (a : Int64) {s : Nat} (hs : s < 64) : (a <<< ((nI s).toInt64 &&& 63)).toBitVec = a.toBitVec <<< s := by
  rw [wb_c s hs, Int64.toBitVec_shiftLeft, wb_tb, wb_sm s hs, BitVec.shiftLeft_eq', BitVec.toNat_ofNat, Nat.mod_eq_of_lt (by omega)]
theorem gp_setb (x M v : Int64) {s w : Nat} (hs : s < 64) (hM : ∀ i, M.toBitVec.getLsbD i = decide (i < w)) (hv : ∀ i, w ≤ i → v.toBitVec.getLsbD i = false) {b : Nat} (hb : b < 64) :
    ((x &&& ((M <<< ((nI s).toInt64 &&& 63)) ^^^ (-1))) ||| (v <<< ((nI s).toInt64 &&& 63))).toBitVec.getLsbD b = if s ≤ b ∧ b < s + w then v.toBitVec.getLsbD (b - s) else x.toBitVec.getLsbD b := by
  have e0 : (-1 : Int64).toBitVec = BitVec.allOnes 64 := by decide
  rw [Int64.toBitVec_or, Int64.toBitVec_and, Int64.toBitVec_xor, gp_shb M hs, gp_shb v hs, e0, BitVec.getLsbD_or, BitVec.getLsbD_and, BitVec.getLsbD_xor, BitVec.getLsbD_shiftLeft, BitVec.getLsbD_shiftLeft, BitVec.getLsbD_allOnes, hM, decide_eq_true hb]
  by_cases c1 : s ≤ b
  · rw [decide_eq_false (show ¬ b < s by omega)]
    by_cases c2 : b < s + w
    · rw [if_pos ⟨c1, c2⟩, decide_eq_true (show b - s < w by omega)]
      simp
    · rw [if_neg (fun z => c2 z.2), decide_eq_false (show ¬ b - s < w by omega), hv _ (by omega)]
      simp
  · rw [if_neg (fun z => c1 z.1), decide_eq_true (show b < s by omega)]
    simp
theorem gp_mk {M : Int64} {w : Nat} (h : ∀ i, i < 64 → M.toBitVec.getLsbD i = decide (i < w)) (hw : w ≤ 64) : ∀ i, M.toBitVec.getLsbD i = decide (i < w) := by
  intro i
  by_cases c : i < 64
  · exact h i c
  · rw [BitVec.getLsbD_of_ge _ _ (by omega), decide_eq_false (by omega)]
theorem gp_m7 : ∀ i, (7 : Int64).toBitVec.getLsbD i = decide (i < 3) := gp_mk (by decide +kernel) (by decide)
theorem gp_m63 : ∀ i, (63 : Int64).toBitVec.getLsbD i = decide (i < 6) := gp_mk (by decide +kernel) (by decide)
theorem gp_vw {t w : Nat} (h : t < 2 ^ w) : ∀ i, w ≤ i → (lN t).toBitVec.getLsbD i = false := by
  intro i hi
  rw [wb_tb, BitVec.getLsbD_ofNat, Nat.testBit_lt_two_pow (Nat.lt_of_lt_of_le h (Nat.pow_le_pow_right (by decide) hi)), Bool.and_false]
theorem gp_set_in (x M v : Int64) {k w j : Nat} (hk : 3 * k < 64) (hM : ∀ i, M.toBitVec.getLsbD i = decide (i < w)) (hv : ∀ i, w ≤ i → v.toBitVec.getLsbD i = false) (hj : k ≤ j) (hw : 3 * j + 3 ≤ 3 * k + w) (h64 : 3 * j + 3 ≤ 64) :
    gp_fd ((x &&& ((M <<< ((nI (3 * k)).toInt64 &&& 63)) ^^^ (-1))) ||| (v <<< ((nI (3 * k)).toInt64 &&& 63))) j = gp_fd v (j - k) := by
  refine gp_fd_ext (fun i hi => ?_)
  rw [gp_setb x M v hk hM hv (by omega), if_pos ⟨by omega, by omega⟩, show 3 * j + i - 3 * k = 3 * (j - k) + i by omega]
theorem gp_set_out (x M v : Int64) {k w j : Nat} (hk : 3 * k < 64) (hM : ∀ i, M.toBitVec.getLsbD i = decide (i < w)) (hv : ∀ i, w ≤ i → v.toBitVec.getLsbD i = false) (hj : 3 * j + 3 ≤ 3 * k ∨ 3 * k + w ≤ 3 * j) (h64 : 3 * j + 3 ≤ 64) :
    gp_fd ((x &&& ((M <<< ((nI (3 * k)).toInt64 &&& 63)) ^^^ (-1))) ||| (v <<< ((nI (3 * k)).toInt64 &&& 63))) j = gp_fd x j := by
  refine gp_fd_ext (fun i hi => ?_)
  rw [gp_setb x M v hk hM hv (by omega), if_neg (by omega)]
theorem gp_fd_lN {t : Nat} (h : t < 64) : gp_fd (lN t) 0 = t % 8 ∧ gp_fd (lN t) 1 = t / 8 := by
  unfold gp_fd
  rw [wb_tn (by omega)]
  refine ⟨?_, ?_⟩
  · show t / 1 % 8 = _
    rw [Nat.div_one]
  · show t / 8 % 8 = _
    omega
/-- one field set -/
theorem gp_set3 (x : Int64) {k v : Nat} (hk : k < 16) (hv : v < 8) (j : Nat) (hj : j < 16) :
    gp_fd ((x &&& (((7 : Int64) <<< ((nI (3 * k)).toInt64 &&& 63)) ^^^ (-1))) ||| (lN v <<< ((nI (3 * k)).toInt64 &&& 63))) j = if j = k then v else gp_fd x j := by
  by_cases e : j = k
  · subst e
    rw [gp_set_in x 7 (lN v) (w := 3) (by omega) gp_m7 (gp_vw (w := 3) hv) (Nat.le_refl j) (by omega) (by omega), if_pos rfl, Nat.sub_self, (gp_fd_lN (by omega)).1]
    omega
  · rw [gp_set_out x 7 (lN v) (w := 3) (by omega) gp_m7 (gp_vw (w := 3) hv) (by omega) (by omega), if_neg e]
/-- an edge's two fields set -/
theorem gp_set6 (x : Int64) {m u v : Nat} (hm : m < 8) (hu : u < 8) (hv : v < 8) (j : Nat) (hj : j < 16) :
    gp_fd ((x &&& (((63 : Int64) <<< ((nI (3 * (2 * m))).toInt64 &&& 63)) ^^^ (-1))) ||| (lN (u + v * 8) <<< ((nI (3 * (2 * m))).toInt64 &&& 63))) j = if j = 2 * m then u else if j = 2 * m + 1 then v else gp_fd x j := by
  have hb : u + v * 8 < 2 ^ 6 := by omega
  by_cases e : j = 2 * m
  · subst e
    rw [gp_set_in x 63 (lN (u + v * 8)) (w := 6) (by omega) gp_m63 (gp_vw (w := 6) hb) (Nat.le_refl _) (by omega) (by omega), if_pos rfl, Nat.sub_self, (gp_fd_lN (by omega)).1]
    omega
  · rw [if_neg e]
    by_cases e2 : j = 2 * m + 1
    · subst e2
      rw [gp_set_in x 63 (lN (u + v * 8)) (w := 6) (by omega) gp_m63 (gp_vw (w := 6) hb) (by omega) (by omega) (by omega), if_pos rfl, show 2 * m + 1 - 2 * m = 1 by omega, (gp_fd_lN (by omega)).2]
      omega
    · rw [gp_set_out x 63 (lN (u + v * 8)) (w := 6) (by omega) gp_m63 (gp_vw (w := 6) hb) (by omega) (by omega), if_neg e2]
end
section
/-! ===== the walk: points, drawing together, the waiting graphs ===== -/
/-- the edges below m: their ends, points below n -/
def gp_ed (n m : Nat) (fe se : Nat → Nat) (a1 a2 : Nat → Int32) : Prop := ∀ i, i < m → (fe i < n ∧ se i < n) ∧ a1 i = nI (fe i) ∧ a2 i = nI (se i)
section
variable {pc ec rd wt : Int32} {a1 a2 a3 a4 a5 a6 a7 : Nat → Int32}
theorem gp_start {post : Int32 → Prop} {n : Nat} (hn : n ≤ 6) (hp : post (nI (gp_en (fun p => p) n))) : wpX_startPoints post (nI n, ec, rd, wt, a1, a2, a3, a4, a5, a6, a7) :=
  pk_loop (σ := Unit) (fun fu i _ => wX_startPoints_4 post (nI n) ec rd wt a1 a2 a3 a4 a5 a6 a7 fu (nI (gp_en (fun p => p) i)) (nI i)) (fun _ _ => True) n 0 () (Nat.zero_le n) trivial
    (fun fu _ _ => pk_le n n (fun _ => hp) (fun z => absurd z (Nat.lt_irrefl n)))
    (fun fu i _ hi _ hw => pk_le n i (fun z => absurd z (by omega)) (fun _ => nm_r (gp_ors (f := fun p => p) (by omega) (fun q hq => (show q < 8 by omega)) (show i < 8 by omega)) (nm_r (nI_1 i) (hw () trivial))))
theorem gp_pof {post : Int32 → Prop} {n p : Nat} {f : Nat → Nat} {y : Int32} (hn : n ≤ 6) (hf : ∀ q, q < n → f q < 8) (hp : p < n) (hy : y = nI p) (h : post (nI (f p))) : wpX_pointOf post (pc, ec, rd, wt, a1, a2, a3, a4, a5, a6, a7) (nI (gp_en f n)) y := by
  subst hy
  unfold wpX_pointOf
  dsimp only
  rw [gp_pt hn hf hp]
  exact h
theorem gp_join30 {post : Int32 → Prop} {n lo hi : Nat} {f g : Nat → Nat} (hn : n ≤ 6) (hf : ∀ q, q < n → f q < 8) (hlo : lo < 8) (hhi : hi < 8) (hg : ∀ p, g p = if f p = hi then lo else f p) (hp : post (nI (gp_en g n))) :
    ∃ fu, wX_joined_30 post (nI (gp_en f n)) (nI lo) (nI hi) (nI n) ec rd wt a1 a2 a3 a4 a5 a6 a7 fu 0 0 := by
  have hg8 : ∀ q, q < n → g q < 8 := by
    intro q hq
    rw [hg]
    split
    · exact hlo
    · exact hf q hq
  refine pk_loop (σ := Unit) (fun fu i _ => wX_joined_30 post (nI (gp_en f n)) (nI lo) (nI hi) (nI n) ec rd wt a1 a2 a3 a4 a5 a6 a7 fu (nI (gp_en g i)) (nI i)) (fun _ _ => True) n 0 () (Nat.zero_le n) trivial
    (fun fu _ _ => pk_le n n (fun _ => hp) (fun z => absurd z (Nat.lt_irrefl n)))
    (fun fu i _ hi' _ hw => pk_le n i (fun z => absurd z (by omega)) (fun _ => nm_r (gp_pt hn hf hi') ?_))
  have h := gp_ors (f := g) (i := i) (by omega) (fun q hq => hg8 q (by omega)) (hg8 i hi')
  have hfi := hf i hi'
  refine pk_eq (f i) hi (fun e => ?_) (fun e => ?_)
  · rw [hg i, if_pos e] at h
    exact nm_r h (nm_r (nI_1 i) (hw () trivial))
  · rw [hg i, if_neg e] at h
    exact nm_r h (nm_r (nI_1 i) (hw () trivial))
theorem gp_joined {post : Int32 → Prop} {n a b : Nat} {f : Nat → Nat} (hn : n ≤ 6) (hf : ∀ q, q < n → f q < 8) (ha : a < 8) (hb : b < 8) (hp : post (nI (gp_en (gp_jn f a b) n))) :
    wpX_joined post (nI n, ec, rd, wt, a1, a2, a3, a4, a5, a6, a7) (nI (gp_en f n)) (nI a) (nI b) :=
  pk_le b a
    (fun z => pk_le b a (fun _ => gp_join30 hn hf hb ha (fun p => by unfold gp_jn; rw [Nat.max_eq_left z, Nat.min_eq_right z]) hp) (fun z' => absurd z' (by omega)))
    (fun z => pk_le b a (fun z' => absurd z' (by omega)) (fun _ => gp_join30 hn hf ha hb (fun p => by unfold gp_jn; rw [Nat.max_eq_right (by omega), Nat.min_eq_left (by omega)]) hp))
theorem gp_draw {post : Int32 → Prop} {n m lo : Nat} {fe se f : Nat → Nat} (hn : n ≤ 6) (hm : m ≤ 8) (hlo : lo ≤ m) (hE : gp_ed n m fe se a1 a2) (hf : ∀ q, q < n → f q < 8) (hp : post (nI (gp_en (gp_dt fe se lo f m) n))) :
    wpX_drawnTogether post (nI n, nI m, rd, wt, a1, a2, a3, a4, a5, a6, a7) (gp_ms m lo) (nI (gp_en f n)) := by
  refine pk_loop (σ := Unit) (fun fu i _ => wX_drawnTogether_5 post (gp_ms m lo) (nI n) (nI m) rd wt a1 a2 a3 a4 a5 a6 a7 fu (nI (gp_en (gp_dt fe se lo f i) n)) (nI i)) (fun _ _ => True) m 0 () (Nat.zero_le m) trivial
    (fun fu _ _ => pk_le m m (fun _ => hp) (fun z => absurd z (Nat.lt_irrefl m)))
    (fun fu i _ hi _ hw => pk_le m i (fun z => absurd z (by omega)) (fun _ => ?_))
  have h := hw () trivial
  by_cases c : i < lo
  · rw [gp_dt_skip c] at h
    exact br_t (gp_bit0 m (by omega) lo (by omega) i (by omega) c hlo) (nm_r (nI_1 i) h)
  · rw [gp_dt_step (by omega)] at h
    have hr : ∀ q, q < n → gp_dt fe se lo f i q < 8 := gp_dt_lt (fun j hj => (hE j hj).1) hf i (by omega)
    have e1 : a1 (nI i).toNatClampNeg = nI (fe i) := by rw [nI_clamp (by omega)]; exact (hE i hi).2.1
    have e2 : a2 (nI i).toNatClampNeg = nI (se i) := by rw [nI_clamp (by omega)]; exact (hE i hi).2.2
    have b1 := hr _ (hE i hi).1.1
    have b2 := hr _ (hE i hi).1.2
    refine br_f (gp_bit1 (by omega) (by omega) hi) ⟨pk_in i 8 (by omega), gp_pof hn hr (hE i hi).1.1 e1 ⟨pk_in i 8 (by omega), gp_pof hn hr (hE i hi).1.2 e2 ?_⟩⟩
    refine pk_eq (gp_dt fe se lo f i (fe i)) (gp_dt fe se lo f i (se i)) (fun e => ?_) (fun e => ?_)
    · rw [gp_st_id e] at h
      exact nm_r (nI_1 i) h
    · rw [gp_st_jn e] at h
      exact gp_joined hn hr b1 b2 (nm_r (nI_1 i) h)
/-! the waiting graphs: (edges left from k on, what has become of the points, factors x, factors y); the head is the last one -/
abbrev gp_I : Type := Nat × (Nat → Nat) × Nat × Nat
def gp_sk (n m : Nat) (a4 a5 a6 a7 : Nat → Int32) : List gp_I → Prop
  | [] => True
  | (k, f, x, y) :: l => (l.length ≤ k ∧ k ≤ m ∧ x + y ≤ k ∧ (∀ q, q < n → f q < 8) ∧ a4 l.length = gp_ms m k ∧ a5 l.length = nI (gp_en f n) ∧ a6 l.length = nI x ∧ a7 l.length = nI y) ∧ gp_sk n m a4 a5 a6 a7 l
def gp_sv (fe se : Nat → Nat) (m : Nat) (X Y : Int) : List gp_I → Int
  | [] => 0
  | (k, f, x, y) :: l => X ^ x * Y ^ y * gp_gv fe se m X Y (m - k) f + gp_sv fe se m X Y l
def gp_mu (m : Nat) : List gp_I → Nat
  | [] => 0
  | (k, _, _, _) :: l => 3 ^ (m - k) + gp_mu m l
theorem gp_sk_fr {n m : Nat} {b4 b5 b6 b7 : Nat → Int32} : ∀ l : List gp_I, (∀ j, j < l.length → b4 j = a4 j ∧ b5 j = a5 j ∧ b6 j = a6 j ∧ b7 j = a7 j) → gp_sk n m a4 a5 a6 a7 l → gp_sk n m b4 b5 b6 b7 l := by
  intro l
  induction l with
  | nil => intro _ _; trivial
  | cons i l ih =>
    obtain ⟨k, f, x, y⟩ := i
    intro h hs
    obtain ⟨⟨h1, h2, h3, h4, h5, h6, h7, h8⟩, h9⟩ := hs
    obtain ⟨g4, g5, g6, g7⟩ := h l.length (Nat.lt_succ_self _)
    exact ⟨⟨h1, h2, h3, h4, g4.trans h5, g5.trans h6, g6.trans h7, g7.trans h8⟩, ih (fun j hj => h j (Nat.lt_succ_of_lt hj)) h9⟩
theorem gp_pushI {post : St2 → Prop} {n m k x y : Nat} {f : Nat → Nat} {l : List gp_I} {p2 p3 : Int32} (hm : m ≤ 8) (hl : l.length ≤ k) (hk : k ≤ m) (hxy : x + y ≤ k) (hf : ∀ q, q < n → f q < 8) (hs : gp_sk n m a4 a5 a6 a7 l) (e2 : p2 = nI x) (e3 : p3 = nI y)
    (hp : ∀ b4 b5 b6 b7, gp_sk n m b4 b5 b6 b7 ((k, f, x, y) :: l) → post (pc, ec, rd, nI (l.length + 1), a1, a2, a3, b4, b5, b6, b7)) :
    wpX_push post (pc, ec, rd, nI l.length, a1, a2, a3, a4, a5, a6, a7) (gp_ms m k) (nI (gp_en f n)) p2 p3 := by
  subst e2 e3
  unfold wpX_push
  dsimp only
  rw [nI_clamp (show l.length < 2 ^ 31 by omega), gp_ms16 m (by omega) k hk, gp_b8 x (by omega), gp_b8 y (by omega)]
  have v : vp_in (nI l.length) 12 := vp_in_nI (by omega) (by omega)
  refine ⟨v, nm_e ⟨v, nm_e ⟨v, nm_e ⟨v, nm_e (nm_r (nI_1 _) (hp _ _ _ _ ⟨⟨hl, hk, hxy, hf, pk_us, pk_us, pk_us, pk_us⟩, gp_sk_fr l (fun j hj => ?_) hs⟩))⟩⟩⟩⟩
  exact ⟨pk_un (by omega), pk_un (by omega), pk_un (by omega), pk_un (by omega)⟩
theorem gp_gk (fe se : Nat → Nat) (X Y : Int) {m k : Nat} (hk : k < m) (f : Nat → Nat) : gp_gv fe se m X Y (m - k) f =
    if f (fe k) = f (se k) then Y * gp_gv fe se m X Y (m - (k + 1)) f
    else if gp_dt fe se (k + 1) f m (fe k) = gp_dt fe se (k + 1) f m (se k) then gp_gv fe se m X Y (m - (k + 1)) f + gp_gv fe se m X Y (m - (k + 1)) (gp_jn f (f (fe k)) (f (se k)))
    else X * gp_gv fe se m X Y (m - (k + 1)) (gp_jn f (f (fe k)) (f (se k))) := by
  obtain ⟨r, hr⟩ : ∃ r, m = k + (r + 1) := ⟨m - (k + 1), by omega⟩
  subst hr
  rw [show k + (r + 1) - k = r + 1 by omega, show k + (r + 1) - (k + 1) = r by omega]
  show (if f (fe (k + (r + 1) - (r + 1))) = f (se (k + (r + 1) - (r + 1))) then _ else _) = _
  rw [show k + (r + 1) - (r + 1) = k by omega, show k + (r + 1) - r = k + 1 by omega]
end
end
section
/-! ===== the walk: workOff, findPolynomial, valueAt ===== -/
theorem gp_t3 {d : Nat} (h : 0 < d) : ∃ t, 0 < t ∧ 3 ^ d = 3 * t ∧ 3 ^ (d - 1) = t := by
  obtain ⟨c, rfl⟩ : ∃ c, d = c + 1 := ⟨d - 1, by omega⟩
  refine ⟨3 ^ c, Nat.pow_pos (by decide), ?_, rfl⟩
  rw [Nat.pow_succ, Nat.mul_comm]
section
variable {pc ec rd wt : Int32} {a1 a2 a3 a4 a5 a6 a7 : Nat → Int32}
theorem gp_work {post : St2 → Prop} {n m k x y : Nat} {fe se f : Nat → Nat} {l : List gp_I} (hn : n ≤ 6) (hm : m ≤ 8) (hE : gp_ed n m fe se a1 a2) (hl : l.length ≤ k) (hk : k ≤ m) (hxy : x + y ≤ k) (hf : ∀ q, q < n → f q < 8) (hs : gp_sk n m a4 a5 a6 a7 l)
    (hp : ∀ b3 b4 b5 b6 b7 (l' : List gp_I), gp_sk n m b4 b5 b6 b7 l' → gp_mu m l' < 3 ^ (m - k) + gp_mu m l →
      (∀ X Y : Int, gp_vl b3 (Int32.ofInt X) (Int32.ofInt Y) + Int32.ofInt (gp_sv fe se m X Y l') = gp_vl a3 (Int32.ofInt X) (Int32.ofInt Y) + Int32.ofInt (X ^ x * Y ^ y * gp_gv fe se m X Y (m - k) f + gp_sv fe se m X Y l)) →
      post (nI n, nI m, rd, nI l'.length, a1, a2, b3, b4, b5, b6, b7)) :
    wpX_workOff post (nI n, nI m, rd, nI l.length, a1, a2, a3, a4, a5, a6, a7) (gp_ms m k) (nI (gp_en f n)) (nI x) (nI y) := by
  by_cases c : k = m
  · subst c
    have e : (9 : Int32) * nI x + nI y = nI (9 * x + y) := by rw [show (9 : Int32) = nI 9 from rfl, pk_mul, nI_add]
    have v : vp_in ((9 : Int32) * nI x + nI y) 81 := by rw [e]; exact vp_in_nI (by omega) (by omega)
    refine br_t (gp_ms0 k) ⟨v, v, nm_e ?_⟩
    rw [e, nI_clamp (show 9 * x + y < 2 ^ 31 by omega)]
    refine hp _ _ _ _ _ l hs ?_ (fun X Y => ?_)
    · have := Nat.pow_pos (n := k - k) (show 0 < 3 by decide)
      omega
    · rw [gp_vl_add a3 _ _ (by omega) (by omega), gp_pw_of, gp_pw_of, Nat.sub_self, Int32.add_assoc]
      show _ + (_ + _) = _ + Int32.ofInt (X ^ x * Y ^ y * 1 + _)
      rw [Int.mul_one, Int32.ofInt_add, Int32.ofInt_mul]
  · have hkm : k < m := by omega
    obtain ⟨t, t0, t1, t2⟩ := gp_t3 (d := m - k) (by omega)
    have t3 : 3 ^ (m - (k + 1)) = t := by rw [← t2]; congr 1
    refine br_f (gp_msn m (by omega) k hkm) ?_
    refine pk_loop (σ := Unit) (fun fu i _ => wX_workOff_24 post (gp_ms m k) (nI (gp_en f n)) (nI x) (nI y) (nI n) (nI m) rd (nI l.length) a1 a2 a3 a4 a5 a6 a7 fu (nI i)) (fun _ _ => True) k 0 () (Nat.zero_le k) trivial
      (fun fu _ _ => ?_)
      (fun fu i _ hi _ hw => br_t (gp_bit0 m (by omega) k (by omega) i (by omega) hi hk) (nm_r (nI_1 i) (hw () trivial)))
    have e1 : a1 (nI k).toNatClampNeg = nI (fe k) := by rw [nI_clamp (by omega)]; exact (hE k hkm).2.1
    have e2 : a2 (nI k).toNatClampNeg = nI (se k) := by rw [nI_clamp (by omega)]; exact (hE k hkm).2.2
    have b1 := hf _ (hE k hkm).1.1
    have b2 := hf _ (hE k hkm).1.2
    have v : vp_in (nI k) 8 := vp_in_nI (by omega) (by omega)
    refine br_f (gp_bit1 (by omega) (Nat.le_refl k) hkm) (nm_r (gp_msr m (by omega) k hkm) ⟨v, gp_pof hn hf (hE k hkm).1.1 e1 ⟨v, gp_pof hn hf (hE k hkm).1.2 e2 ?_⟩⟩)
    refine pk_eq (f (fe k)) (f (se k)) (fun e => ?_) (fun e => ?_)
    · refine gp_pushI (y := y + 1) hm (by omega) (by omega) (by omega) hf hs rfl (nI_1 y) (fun b4 b5 b6 b7 hs' => ?_)
      refine hp a3 b4 b5 b6 b7 _ hs' ?_ (fun X Y => ?_)
      · show 3 ^ (m - (k + 1)) + gp_mu m l < _
        omega
      · show _ + Int32.ofInt (X ^ x * Y ^ (y + 1) * gp_gv fe se m X Y (m - (k + 1)) f + _) = _
        rw [gp_gk fe se X Y hkm, if_pos e, Int.pow_succ]
        congr 3
        grind
    · have hj : ∀ q, q < n → gp_jn f (f (fe k)) (f (se k)) q < 8 := fun q hq => gp_jn_lt b1 b2 (hf q hq)
      have hr : ∀ q, q < n → gp_dt fe se (k + 1) f m q < 8 := gp_dt_lt (fun j hj => (hE j hj).1) hf m (Nat.le_refl m)
      have c1 := hr _ (hE k hkm).1.1
      have c2 := hr _ (hE k hkm).1.2
      refine gp_joined hn hf b1 b2 (gp_draw hn hm (by omega) hE hf ⟨v, gp_pof hn hr (hE k hkm).1.1 e1 ⟨v, gp_pof hn hr (hE k hkm).1.2 e2 ?_⟩⟩)
      refine pk_eq (gp_dt fe se (k + 1) f m (fe k)) (gp_dt fe se (k + 1) f m (se k)) (fun e' => ?_) (fun e' => ?_)
      · refine gp_pushI hm (by omega) (by omega) (by omega) hf hs rfl rfl (fun b4 b5 b6 b7 hs' => ?_)
        refine gp_pushI (l := (k + 1, f, x, y) :: l) hm (show l.length + 1 ≤ k + 1 by omega) (by omega) (by omega) hj hs' rfl rfl (fun d4 d5 d6 d7 hs'' => ?_)
        refine hp a3 d4 d5 d6 d7 _ hs'' ?_ (fun X Y => ?_)
        · show 3 ^ (m - (k + 1)) + (3 ^ (m - (k + 1)) + gp_mu m l) < _
          omega
        · show _ + Int32.ofInt (X ^ x * Y ^ y * gp_gv fe se m X Y (m - (k + 1)) (gp_jn f (f (fe k)) (f (se k))) + (X ^ x * Y ^ y * gp_gv fe se m X Y (m - (k + 1)) f + _)) = _
          rw [gp_gk fe se X Y hkm, if_neg e, if_pos e']
          congr 2
          grind
      · refine gp_pushI (x := x + 1) hm (by omega) (by omega) (by omega) hj hs (nI_1 x) rfl (fun b4 b5 b6 b7 hs' => ?_)
        refine hp a3 b4 b5 b6 b7 _ hs' ?_ (fun X Y => ?_)
        · show 3 ^ (m - (k + 1)) + gp_mu m l < _
          omega
        · show _ + Int32.ofInt (X ^ (x + 1) * Y ^ y * gp_gv fe se m X Y (m - (k + 1)) (gp_jn f (f (fe k)) (f (se k))) + _) = _
          rw [gp_gk fe se X Y hkm, if_neg e, if_neg e', Int.pow_succ]
          congr 3
          grind
/-- the terms hold the graph's polynomial -/
def gp_T (fe se : Nat → Nat) (m : Nat) (a3 : Nat → Int32) : Prop := ∀ X Y : Int, gp_vl a3 (Int32.ofInt X) (Int32.ofInt Y) = Int32.ofInt (gp_gv fe se m X Y m (fun p => p))
theorem gp_59 {post : St2 → Prop} {n m : Nat} {fe se : Nat → Nat} {T : Int → Int → Int32} (hn : n ≤ 6) (hm : m ≤ 8) (hE : gp_ed n m fe se a1 a2)
    (hp : ∀ wt b3 b4 b5 b6 b7, (∀ X Y : Int, gp_vl b3 (Int32.ofInt X) (Int32.ofInt Y) = T X Y) → post (nI n, nI m, rd, wt, a1, a2, b3, b4, b5, b6, b7)) :
    ∀ fu a3 a4 a5 a6 a7 (l : List gp_I), gp_mu m l < fu → gp_sk n m a4 a5 a6 a7 l → (∀ X Y : Int, gp_vl a3 (Int32.ofInt X) (Int32.ofInt Y) + Int32.ofInt (gp_sv fe se m X Y l) = T X Y) →
      wX_findPolynomial_59 post fu (nI n) (nI m) rd (nI l.length) a1 a2 a3 a4 a5 a6 a7 := by
  intro fu
  induction fu with
  | zero => intro a3 a4 a5 a6 a7 l h; omega
  | succ fu ih =>
    intro a3 a4 a5 a6 a7 l hmu hs hT
    cases l with
    | nil =>
      refine br_t (show nI 0 ≤ 0 from nI_le (Nat.le_refl 0) (by decide)) (hp _ _ _ _ _ _ (fun X Y => ?_))
      rw [← hT X Y]
      show _ = _ + 0
      rw [Int32.add_zero]
    | cons i l =>
      obtain ⟨k, f, x, y⟩ := i
      obtain ⟨⟨h1, h2, h3, h4, h5, h6, h7, h8⟩, h9⟩ := hs
      have v : vp_in (nI l.length) 12 := vp_in_nI (by omega) (by omega)
      refine br_f (nI_nle (Nat.succ_pos _) (show l.length + 1 < 2 ^ 31 by omega)) (nm_r (nI_pred l.length) ⟨v, v, v, v, ?_⟩)
      rw [nI_clamp (show l.length < 2 ^ 31 by omega), h5, h6, h7, h8]
      refine gp_work hn hm hE h1 h2 h3 h4 h9 (fun b3 b4 b5 b6 b7 l' g1 g2 g3 => ?_)
      refine ih b3 b4 b5 b6 b7 l' ?_ g1 (fun X Y => ?_)
      · have : 3 ^ (m - k) + gp_mu m l < fu + 1 := hmu
        omega
      · rw [g3 X Y]
        exact hT X Y
/-- what the law knows of a graph -/
def gp_K (n m : Nat) (fe se : Nat → Nat) (rd : Int32) (a1 a2 a3 : Nat → Int32) : Prop := 1 ≤ n ∧ n ≤ 6 ∧ m ≤ 8 ∧ gp_ed n m fe se a1 a2 ∧ (¬ rd = 0 → gp_T fe se m a3)
theorem gp_find {post : St2 → Prop} {n m : Nat} {fe se : Nat → Nat} (hK : gp_K n m fe se rd a1 a2 a3)
    (hp : ∀ rd wt b3 b4 b5 b6 b7, gp_T fe se m b3 → post (nI n, nI m, rd, wt, a1, a2, b3, b4, b5, b6, b7)) :
    wpX_findPolynomial post (nI n, nI m, rd, wt, a1, a2, a3, a4, a5, a6, a7) := by
  obtain ⟨h1, hn, hm, hE, hT⟩ := hK
  refine br_c (fun _ => ?_) (fun z => hp _ _ _ _ _ _ _ (hT z))
  refine pk_loop (fun fu i s => wX_findPolynomial_15 post (nI n) (nI m) 1 wt fu (nI i) a1 a2 s a4 a5 a6 a7) (fun i s => ∀ j, j < i → s j = 0) 81 0 a3 (Nat.zero_le _) (fun j hj => absurd hj (Nat.not_lt_zero j)) (fun fu s h => ?_) (fun fu i s hi h hw => ?_)
  · refine pk_le 81 81 (fun _ => gp_start hn ?_) (fun z => absurd z (by omega))
    rw [gp_ms1 m (by omega)]
    refine gp_pushI (l := []) (x := 0) (y := 0) (k := 0) hm (Nat.le_refl 0) (Nat.zero_le m) (Nat.le_refl 0) (fun q hq => (show q < 8 by omega)) trivial rfl rfl (fun b4 b5 b6 b7 hs => ?_)
    refine ⟨gp_mu m [(0, (fun p => p), 0, 0)] + 1, gp_59 (T := fun X Y => Int32.ofInt (gp_gv fe se m X Y m (fun p => p))) hn hm hE (fun wt b3 b4 b5 b6 b7 hT => hp _ _ _ _ _ _ _ hT) _ _ _ _ _ _ [(0, (fun p => p), 0, 0)] (Nat.lt_succ_self _) hs (fun X Y => ?_)⟩
    rw [gp_vl_0 _ _ h, Int32.zero_add]
    show Int32.ofInt (X ^ 0 * Y ^ 0 * gp_gv fe se m X Y (m - 0) (fun p => p) + 0) = _
    rw [Int.pow_zero, Int.pow_zero, Int.add_zero, Int.mul_one, Int.one_mul, Nat.sub_zero]
  · refine pk_le 81 i (fun z => absurd z (by omega)) (fun _ => ⟨pk_in i 81 hi, nm_e (nm_r (nI_1 i) (hw _ (fun j hj => ?_)))⟩)
    rw [nI_clamp (show i < 2 ^ 31 by omega)]
    by_cases e : j = i
    · rw [e, pk_us]
    · rw [pk_un e]
      exact h j (by omega)
theorem gp_val {post : Int32 → St2 → Prop} {n m : Nat} {fe se : Nat → Nat} (X Y : Int) {p q : Int32} (ep : p = Int32.ofInt X) (eq' : q = Int32.ofInt Y) (hK : gp_K n m fe se rd a1 a2 a3)
    (hp : ∀ rd wt b3 b4 b5 b6 b7, gp_K n m fe se rd a1 a2 b3 → post (Int32.ofInt (gp_gv fe se m X Y m (fun p => p))) (nI n, nI m, rd, wt, a1, a2, b3, b4, b5, b6, b7)) :
    wpX_valueAt post (nI n, nI m, rd, wt, a1, a2, a3, a4, a5, a6, a7) p q := by
  subst ep eq'
  refine gp_find hK (fun rd wt b3 b4 b5 b6 b7 hT => ?_)
  have hK' : gp_K n m fe se rd a1 a2 b3 := ⟨hK.1, hK.2.1, hK.2.2.1, hK.2.2.2.1, fun _ => hT⟩
  have hv := hT X Y
  generalize Int32.ofInt X = x at hv ⊢
  generalize Int32.ofInt Y = y at hv ⊢
  refine pk_loop (σ := Unit) (fun fu i _ => wX_valueAt_12 post x y (nI n) (nI m) rd wt a1 a2 b3 b4 b5 b6 b7 fu (gp_sm (fun i => gp_sm (fun j => gp_rw b3 x y i j) 9) i) (gp_pw x i) (nI i)) (fun _ _ => True) 9 0 () (Nat.zero_le _) trivial (fun fu _ _ => ?_) (fun fu i _ hi _ hw => ?_)
  · refine pk_le 9 9 (fun _ => ?_) (fun z => absurd z (by omega))
    have h := hp rd wt b3 b4 b5 b6 b7 hK'
    rw [← hv] at h
    exact h
  · refine pk_le 9 i (fun z => absurd z (by omega)) (fun _ => ?_)
    refine Exists.elim (pk_loop (σ := Unit) (fun fu' j _ => wX_valueAt_26 post (wX_valueAt_12 post x y (nI n) (nI m) rd wt a1 a2 b3 b4 b5 b6 b7 fu) x y (gp_pw x i) (nI i) (nI n) (nI m) rd wt a1 a2 b3 b4 b5 b6 b7 fu' (gp_sm (fun i => gp_sm (fun j => gp_rw b3 x y i j) 9) i + gp_sm (fun j => gp_rw b3 x y i j) j) (gp_pw x i * gp_pw y j) (nI j)) (fun _ _ => True) 9 0 () (Nat.zero_le _) trivial (fun fu' _ _ => ?_) (fun fu' j _ hj _ hw' => ?_)) (fun fu' hfu => ⟨fu', ?_⟩)
    · exact pk_le 9 9 (fun _ => nm_e (nm_r (nI_1 i) (hw () trivial))) (fun z => absurd z (by omega))
    · have e : (9 : Int32) * nI i + nI j = nI (9 * i + j) := by rw [show (9 : Int32) = nI 9 from rfl, pk_mul, nI_add]
      refine pk_le 9 j (fun z => absurd z (by omega)) (fun _ => ?_)
      rw [e, nI_clamp (show 9 * i + j < 2 ^ 31 by omega)]
      refine ⟨vp_in_nI (by omega) (by omega), nm_r (Int32.add_assoc _ _ _) (nm_r (Int32.mul_assoc _ _ _) (nm_r (nI_1 j) (hw' () trivial)))⟩
    · have hfu' : wX_valueAt_26 post (wX_valueAt_12 post x y (nI n) (nI m) rd wt a1 a2 b3 b4 b5 b6 b7 fu) x y (gp_pw x i) (nI i) (nI n) (nI m) rd wt a1 a2 b3 b4 b5 b6 b7 fu' (gp_sm (fun i => gp_sm (fun j => gp_rw b3 x y i j) 9) i + 0) (gp_pw x i * 1) (nI 0) := hfu
      rw [Int32.add_zero, Int32.mul_one] at hfu'
      exact hfu'
end
end
section
/-! ===== the walk: parts, colourings, add, drop, merge ===== -/
def gp_cnt (f : Nat → Nat) : Nat → Nat
  | 0 => 0
  | n + 1 => gp_cnt f n + if f n = n then 1 else 0
theorem gp_cnt_le (f : Nat → Nat) : ∀ n, gp_cnt f n ≤ n := by
  intro n
  induction n with
  | zero => exact Nat.le_refl 0
  | succ n ih =>
    show gp_cnt f n + (if f n = n then 1 else 0) ≤ n + 1
    split <;> omega
def gp_mp (v k : Int32) : Nat → Int32
  | 0 => v
  | c + 1 => gp_mp v k c * k
theorem gp_mp_0 (k : Int32) : ∀ c, gp_mp 0 k c = 0 := by
  intro c
  induction c with
  | zero => rfl
  | succ c ih =>
    show gp_mp 0 k c * k = 0
    rw [ih, Int32.zero_mul]
def gp_co (n k c : Nat) (v : Int32) : Int32 := if (nI n - nI c) &&& 1 = 0 then gp_mp v (nI k) c else -gp_mp v (nI k) c
theorem gp_co_0 (n k c : Nat) : gp_co n k c 0 = 0 := by
  unfold gp_co
  rw [gp_mp_0]
  split <;> rfl
/-- what colourings(k) answers -/
def gp_col (fe se : Nat → Nat) (n m k : Nat) : Int32 := gp_co n k (gp_cnt (gp_dt fe se 0 (fun p => p) m) n) (Int32.ofInt (gp_gv fe se m (1 - (k : Int)) 0 m (fun p => p)))
def gp_mg (lo hi t : Nat) : Nat := if t = hi then lo else t
theorem gp_mg_lt {lo hi t n : Nat} (h1 : lo < n) (h2 : t < n) : gp_mg lo hi t < n := by
  unfold gp_mg
  split
  · exact h1
  · exact h2
def gp_up (f : Nat → Nat) (m u : Nat) : Nat → Nat := fun j => if j = m then u else f j
theorem gp_up_s (f : Nat → Nat) (m u : Nat) : gp_up f m u m = u := if_pos rfl
theorem gp_up_n {f : Nat → Nat} {m u j : Nat} (h : j ≠ m) : gp_up f m u j = f j := if_neg h
section
variable {pc ec rd wt : Int32} {a1 a2 a3 a4 a5 a6 a7 : Nat → Int32}
theorem gp_parts {post : Int32 → Prop} {n m : Nat} {fe se : Nat → Nat} (hn : n ≤ 6) (hm : m ≤ 8) (hE : gp_ed n m fe se a1 a2) (hp : post (nI (gp_cnt (gp_dt fe se 0 (fun p => p) m) n))) :
    wpX_parts post (nI n, nI m, rd, wt, a1, a2, a3, a4, a5, a6, a7) := by
  have hid : ∀ q, q < n → (fun p : Nat => p) q < 8 := fun q hq => (show q < 8 by omega)
  have hr : ∀ q, q < n → gp_dt fe se 0 (fun p => p) m q < 8 := gp_dt_lt (fun j hj => (hE j hj).1) hid m (Nat.le_refl m)
  refine gp_start hn ?_
  rw [gp_ms1 m (by omega)]
  refine gp_draw hn hm (Nat.zero_le m) hE hid ?_
  generalize gp_dt fe se 0 (fun p => p) m = f at hp hr ⊢
  refine pk_loop (σ := Unit) (fun fu i _ => wX_parts_23 post (nI (gp_en f n)) (nI n) (nI m) rd wt a1 a2 a3 a4 a5 a6 a7 fu (nI (gp_cnt f i)) (nI i)) (fun _ _ => True) n 0 () (Nat.zero_le n) trivial
    (fun fu _ _ => pk_le n n (fun _ => hp) (fun z => absurd z (Nat.lt_irrefl n)))
    (fun fu i _ hi _ hw => pk_le n i (fun z => absurd z (by omega)) (fun _ => ?_))
  rw [gp_pt hn hr hi]
  have h := hw () trivial
  have b := hr i hi
  have hc : gp_cnt f (i + 1) = gp_cnt f i + if f i = i then 1 else 0 := rfl
  refine pk_eq (f i) i (fun e => ?_) (fun e => ?_)
  · rw [hc, if_pos e] at h
    exact nm_r (nI_1 _) (nm_r (nI_1 i) h)
  · rw [hc, if_neg e] at h
    exact nm_r (nI_1 i) h
theorem gp_colour {post : Int32 → St2 → Prop} {n m : Nat} {fe se : Nat → Nat} (k : Nat) {p : Int32} (ep : p = nI k) (hk : k < 7) (hK : gp_K n m fe se rd a1 a2 a3)
    (hp : ∀ rd wt b3 b4 b5 b6 b7, gp_K n m fe se rd a1 a2 b3 → post (gp_col fe se n m k) (nI n, nI m, rd, wt, a1, a2, b3, b4, b5, b6, b7)) :
    wpX_colourings post (nI n, nI m, rd, wt, a1, a2, a3, a4, a5, a6, a7) p := by
  subst ep
  refine br_f (nI_pos (by omega)) (br_t (nI_le (b := 6) (by omega) (by decide)) ?_)
  refine gp_parts hK.2.1 hK.2.2.1 hK.2.2.2.1 ?_
  refine gp_val (1 - (k : Int)) 0 (gp_1k k hk) (by decide) hK (fun rd wt b3 b4 b5 b6 b7 hK' => ?_)
  have hp' := hp rd wt b3 b4 b5 b6 b7 hK'
  have hc := gp_cnt_le (gp_dt fe se 0 (fun p => p) m) n
  have hn := hK.2.1
  unfold gp_col at hp'
  generalize gp_cnt (gp_dt fe se 0 (fun p => p) m) n = c at hp' hc ⊢
  generalize Int32.ofInt (gp_gv fe se m (1 - (k : Int)) 0 m (fun p => p)) = v at hp' ⊢
  refine pk_loop (σ := Unit) (fun fu i _ => wX_colourings_29 post (nI k) (nI c) (nI n) (nI m) rd wt a1 a2 b3 b4 b5 b6 b7 fu (gp_mp v (nI k) i) (nI i)) (fun _ _ => True) c 0 () (Nat.zero_le c) trivial
    (fun fu _ _ => pk_le c c (fun _ => ?_) (fun z => absurd z (Nat.lt_irrefl c)))
    (fun fu i _ hi _ hw => pk_le c i (fun z => absurd z (by omega)) (fun _ => nm_e (nm_r (nI_1 i) (hw () trivial))))
  unfold gp_co at hp'
  refine br_c (fun e => ?_) (fun e => ?_)
  · rw [if_pos e] at hp'
    exact hp'
  · rw [if_neg e] at hp'
    exact hp'
theorem gp_add {post : Int32 → St2 → Prop} {n m u v : Nat} (hn : n ≤ 6) (hm : m < 8) (hu : u < n) (hv : v < n) (hp : post (nI (m + 1)) (nI n, nI (m + 1), 0, wt, upd a1 m (nI u), upd a2 m (nI v), a3, a4, a5, a6, a7)) :
    wpX_add post (nI n, nI m, rd, wt, a1, a2, a3, a4, a5, a6, a7) (nI u) (nI v) := by
  have v8 : vp_in (nI m) 8 := vp_in_nI hm (by decide)
  refine br_t (nI_lt (b := 8) hm (by decide)) (br_f (nI_pos (by omega)) (br_f (nI_ge hu (by omega)) (br_f (nI_pos (by omega)) (br_t (nI_lt hv (by omega)) ?_))))
  rw [nI_clamp (show m < 2 ^ 31 by omega), gp_b8 u (by omega), gp_b8 v (by omega)]
  exact ⟨v8, nm_e ⟨v8, nm_e (nm_r (nI_1 m) hp)⟩⟩
theorem gp_addF {post : Int32 → St2 → Prop} {p q : Int32} (hp : post (-2) (pc, nI 8, rd, wt, a1, a2, a3, a4, a5, a6, a7)) :
    wpX_add post (pc, nI 8, rd, wt, a1, a2, a3, a4, a5, a6, a7) p q :=
  br_f (show ¬ nI 8 < 8 by decide) hp
theorem gp_drop {post : Int32 → St2 → Prop} {m : Nat} (hm : m < 8) (hp : post (nI m) (pc, nI m, 0, wt, a1, a2, a3, a4, a5, a6, a7)) :
    wpX_drop post (pc, nI (m + 1), rd, wt, a1, a2, a3, a4, a5, a6, a7) (nI m) :=
  br_f (nI_pos (by omega)) (br_t (nI_lt (Nat.lt_succ_self m) (by omega)) (nm_r (nI_pred m) ⟨1, br_t (nI_le (Nat.le_refl m) (by omega)) hp⟩))
theorem gp_m61 {post : Int32 → St2 → Prop} {n m lo hi : Nat} {fe se : Nat → Nat} (hm : m ≤ 8) (hlo : lo < 8) (hhi : hi < 8) (hfe : ∀ i, i < m → fe i < 8) (hse : ∀ i, i < m → se i < 8)
    (h1 : ∀ j, j < m → a1 j = nI (fe j)) (h2 : ∀ j, j < m → a2 j = nI (se j))
    (hp : ∀ b1 b2, (∀ j, j < m → b1 j = nI (gp_mg lo hi (fe j)) ∧ b2 j = nI (gp_mg lo hi (se j))) → post (nI m) (pc, nI m, rd, wt, b1, b2, a3, a4, a5, a6, a7)) :
    ∃ fu, wX_merge_61 post (nI lo) (nI hi) pc (nI m) rd wt fu 0 a1 a2 a3 a4 a5 a6 a7 := by
  refine pk_loop (σ := (Nat → Int32) × (Nat → Int32)) (fun fu i s => wX_merge_61 post (nI lo) (nI hi) pc (nI m) rd wt fu (nI i) s.1 s.2 a3 a4 a5 a6 a7)
    (fun i s => ∀ j, j < m → s.1 j = nI (if j < i then gp_mg lo hi (fe j) else fe j) ∧ s.2 j = nI (if j < i then gp_mg lo hi (se j) else se j)) m 0 (a1, a2) (Nat.zero_le m)
    (fun j hj => ⟨by rw [if_neg (Nat.not_lt_zero j)]; exact h1 j hj, by rw [if_neg (Nat.not_lt_zero j)]; exact h2 j hj⟩)
    (fun fu s h => pk_le m m (fun _ => hp s.1 s.2 (fun j hj => ?_)) (fun z => absurd z (Nat.lt_irrefl m)))
    (fun fu i s hi' h hw => pk_le m i (fun z => absurd z (by omega)) (fun _ => ?_))
  · have := h j hj
    rw [if_pos hj, if_pos hj] at this
    exact this
  · obtain ⟨s1, s2⟩ := s
    have v8 : vp_in (nI i) 8 := vp_in_nI (by omega) (by decide)
    have g := h i hi'
    rw [if_neg (Nat.lt_irrefl i), if_neg (Nat.lt_irrefl i)] at g
    obtain ⟨g1, g2⟩ := g
    dsimp only at g1 g2 ⊢
    have cl : (nI i).toNatClampNeg = i := nI_clamp (by omega)
    have key : ∀ t1 t2 : Nat → Int32, (∀ j, j < m → j ≠ i → t1 j = s1 j ∧ t2 j = s2 j) → t1 i = nI (gp_mg lo hi (fe i)) → t2 i = nI (gp_mg lo hi (se i)) → wX_merge_61 post (nI lo) (nI hi) pc (nI m) rd wt fu (nI (i + 1)) t1 t2 a3 a4 a5 a6 a7 := by
      intro t1 t2 k1 k2 k3
      refine hw (t1, t2) (fun j hj => ?_)
      dsimp only
      by_cases e : j = i
      · subst e
        rw [if_pos (Nat.lt_succ_self j), if_pos (Nat.lt_succ_self j)]
        exact ⟨k2, k3⟩
      · have q := h j hj
        dsimp only at q
        rw [(k1 j hj e).1, (k1 j hj e).2, q.1, q.2]
        by_cases z : j < i
        · rw [if_pos z, if_pos z, if_pos (by omega), if_pos (by omega)]
          exact ⟨rfl, rfl⟩
        · rw [if_neg z, if_neg z, if_neg (by omega), if_neg (by omega)]
          exact ⟨rfl, rfl⟩
    have step : ∀ t1 : Nat → Int32, (∀ j, j < m → j ≠ i → t1 j = s1 j) → t1 i = nI (gp_mg lo hi (fe i)) → wX_merge_92 post (wX_merge_61 post (nI lo) (nI hi) pc (nI m) rd wt fu) (nI lo) (nI hi) (nI i) pc (nI m) rd wt t1 s2 a3 a4 a5 a6 a7 := by
      intro t1 k1 k2
      unfold wX_merge_92
      rw [cl, g2, gp_b8 lo (by omega)]
      have b := hse i hi'
      refine ⟨v8, pk_eq (se i) hi (fun e => ⟨v8, nm_e (nm_r (nI_1 i) (key t1 _ (fun j hj hne => ⟨k1 j hj hne, pk_un hne⟩) k2 ?_))⟩) (fun e => nm_r (nI_1 i) (key t1 s2 (fun j hj hne => ⟨k1 j hj hne, rfl⟩) k2 ?_))⟩
      · rw [pk_us]
        unfold gp_mg
        rw [if_pos e]
      · rw [g2]
        unfold gp_mg
        rw [if_neg e]
    have b := hfe i hi'
    rw [cl, g1, gp_b8 lo (by omega)]
    refine ⟨v8, pk_eq (fe i) hi (fun e => ⟨v8, nm_e (step _ (fun j hj hne => pk_un hne) ?_)⟩) (fun e => step s1 (fun j hj hne => rfl) ?_)⟩
    · rw [pk_us]
      unfold gp_mg
      rw [if_pos e]
    · rw [g1]
      unfold gp_mg
      rw [if_neg e]
theorem gp_merge {post : Int32 → St2 → Prop} {n m : Nat} {fe se : Nat → Nat} (hn : n ≤ 6) (hm : m < 8) (hE : gp_ed n (m + 1) fe se a1 a2)
    (hp : ∀ b1 b2, gp_ed n m (fun j => gp_mg (min (fe m) (se m)) (max (fe m) (se m)) (fe j)) (fun j => gp_mg (min (fe m) (se m)) (max (fe m) (se m)) (se j)) b1 b2 → post (nI m) (nI n, nI m, 0, wt, b1, b2, a3, a4, a5, a6, a7)) :
    wpX_merge post (nI n, nI (m + 1), rd, wt, a1, a2, a3, a4, a5, a6, a7) (nI m) := by
  have v8 : vp_in (nI m) 8 := vp_in_nI (by omega) (by decide)
  have cl : (nI m).toNatClampNeg = m := nI_clamp (by omega)
  have g := hE m (Nat.lt_succ_self m)
  have key : ∀ lo hi, lo = min (fe m) (se m) → hi = max (fe m) (se m) → lo < n → hi < n → wX_merge_50 post (nI m) (nI lo) (nI hi) (nI n) (nI (m + 1)) rd wt a1 a2 a3 a4 a5 a6 a7 := by
    intro lo hi e1 e2 l1 l2
    subst e1 e2
    refine gp_drop hm ?_
    refine gp_m61 (n := n) (fe := fe) (se := se) (by omega) (by omega) (by omega) (fun i hi => ?_) (fun i hi => ?_) (fun j hj => (hE j (by omega)).2.1) (fun j hj => (hE j (by omega)).2.2) (fun b1 b2 hb => hp b1 b2 (fun i hi => ⟨⟨?_, ?_⟩, hb i hi⟩))
    · have := (hE i (by omega)).1.1
      omega
    · have := (hE i (by omega)).1.2
      omega
    · exact gp_mg_lt l1 (hE i (by omega)).1.1
    · exact gp_mg_lt l1 (hE i (by omega)).1.2
  obtain ⟨⟨gu, gv⟩, g1, g2⟩ := g
  refine br_f (nI_pos (by omega)) (br_t (nI_lt (Nat.lt_succ_self m) (by omega)) ⟨v8, nm_r (e' := nI (fe m)) (by rw [cl]; exact g1) ⟨v8, nm_r (e' := nI (se m)) (by rw [cl]; exact g2) ?_⟩⟩)
  refine pk_le (se m) (fe m) (fun z => pk_le (se m) (fe m) (fun _ => ?_) (fun z' => absurd z' (by omega))) (fun z => pk_le (se m) (fe m) (fun z' => absurd z' (by omega)) (fun _ => ?_))
  · exact key _ _ (Nat.min_eq_right z).symm (Nat.max_eq_left z).symm gv gu
  · exact key _ _ (Nat.min_eq_left (by omega)).symm (Nat.max_eq_right (by omega)).symm gu gv
end
end
section
/-! ===== the law: holds ===== -/
/-- the law's long holds the edges below m -/
def gp_E (x : Int64) (m : Nat) (fe se : Nat → Nat) : Prop := ∀ i, i < m → gp_fd x (2 * i) = fe i ∧ gp_fd x (2 * i + 1) = se i
theorem gp_s6 (i : Nat) : (6 : Int32) * nI i = nI (3 * (2 * i)) := by
  rw [show (6 : Int32) = nI 6 from rfl, pk_mul]
  congr 1
  omega
theorem gp_s63 (i : Nat) : (6 : Int32) * nI i + 3 = nI (3 * (2 * i + 1)) := by
  rw [gp_s6, show (3 : Int32) = nI 3 from rfl, nI_add]
  congr 1
theorem gp_cmp (fe se : Nat → Nat) {m : Nat} (hm : m ≤ 8) (f : Nat → Nat) : (¬ Int32.ofInt (gp_gv fe se m 2 1 m f) < Int32.ofInt (gp_gv fe se m 1 1 m f)) ∧ (¬ Int32.ofInt (gp_gv fe se m 1 2 m f) < Int32.ofInt (gp_gv fe se m 1 1 m f)) ∧ 1 ≤ Int32.ofInt (gp_gv fe se m 1 1 m f) := by
  obtain ⟨h1, h2, h3, h4, h5⟩ := gp_gv_bd fe se m m f
  have hp : 2 ^ m ≤ 2 ^ 8 := Nat.pow_le_pow_right (by decide) hm
  generalize 2 ^ m = t at *
  rw [Int32.lt_iff_toInt_lt, Int32.lt_iff_toInt_lt, Int32.le_iff_toInt_le, Int32.toInt_ofInt_of_le (by omega) (by omega), Int32.toInt_ofInt_of_le (by omega) (by omega), Int32.toInt_ofInt_of_le (by omega) (by omega), show (1 : Int32).toInt = 1 from rfl]
  omega
theorem gp_col0 {fe se : Nat → Nat} {n m k e : Nat} (he : e < m) (hh : fe e = se e) : gp_col fe se n m k = 0 := by
  unfold gp_col
  rw [gp_gv_loop he hh m (by omega) (Nat.le_refl m)]
  exact gp_co_0 _ _ _
theorem gp_colP {fe se fe' se' : Nat → Nat} {n m k : Nat} (hf : ∀ i, i < m + 1 → fe' i = fe i) (hs : ∀ i, i < m + 1 → se' i = se i) (h1 : fe' (m + 1) = se m) (h2 : se' (m + 1) = fe m) : gp_col fe' se' n (m + 2) k = gp_col fe se n (m + 1) k := by
  unfold gp_col
  rw [gp_dt_par hf hs h1 h2 (Nat.zero_le m), gp_gv_par hf hs h1 h2 m (Nat.le_refl m)]
section
variable {pc ec rd wt : Int32} {a1 a2 a3 a4 a5 a6 a7 : Nat → Int32}
theorem gp_trees {post : Int32 → St2 → Prop} {n m : Nat} {fe se : Nat → Nat} (hK : gp_K n m fe se rd a1 a2 a3)
    (hp : ∀ rd wt b3 b4 b5 b6 b7, gp_K n m fe se rd a1 a2 b3 → post (Int32.ofInt (gp_gv fe se m 1 1 m (fun p => p))) (nI n, nI m, rd, wt, a1, a2, b3, b4, b5, b6, b7)) :
    wpX_trees post (nI n, nI m, rd, wt, a1, a2, a3, a4, a5, a6, a7) := by
  unfold wpX_trees
  exact gp_val 1 1 (by decide) (by decide) hK hp
theorem gp_forests {post : Int32 → St2 → Prop} {n m : Nat} {fe se : Nat → Nat} (hK : gp_K n m fe se rd a1 a2 a3)
    (hp : ∀ rd wt b3 b4 b5 b6 b7, gp_K n m fe se rd a1 a2 b3 → post (Int32.ofInt (gp_gv fe se m 2 1 m (fun p => p))) (nI n, nI m, rd, wt, a1, a2, b3, b4, b5, b6, b7)) :
    wpX_forests post (nI n, nI m, rd, wt, a1, a2, a3, a4, a5, a6, a7) := by
  unfold wpX_forests
  exact gp_val 2 1 (by decide) (by decide) hK hp
theorem gp_spanning {post : Int32 → St2 → Prop} {n m : Nat} {fe se : Nat → Nat} (hK : gp_K n m fe se rd a1 a2 a3)
    (hp : ∀ rd wt b3 b4 b5 b6 b7, gp_K n m fe se rd a1 a2 b3 → post (Int32.ofInt (gp_gv fe se m 1 2 m (fun p => p))) (nI n, nI m, rd, wt, a1, a2, b3, b4, b5, b6, b7)) :
    wpX_spanning post (nI n, nI m, rd, wt, a1, a2, a3, a4, a5, a6, a7) := by
  unfold wpX_spanning
  exact gp_val 1 2 (by decide) (by decide) hK hp
theorem gp_acyc {post : Int32 → St2 → Prop} {n m : Nat} {fe se : Nat → Nat} (hK : gp_K n m fe se rd a1 a2 a3)
    (hp : ∀ rd wt b3 b4 b5 b6 b7, gp_K n m fe se rd a1 a2 b3 → post (Int32.ofInt (gp_gv fe se m 2 0 m (fun p => p))) (nI n, nI m, rd, wt, a1, a2, b3, b4, b5, b6, b7)) :
    wpX_acyclic post (nI n, nI m, rd, wt, a1, a2, a3, a4, a5, a6, a7) := by
  unfold wpX_acyclic
  exact gp_val 2 0 (by decide) (by decide) hK hp
/-- an edge more -/
theorem gp_K_add {n m u v : Nat} {fe se : Nat → Nat} (hm : m < 8) (hu : u < n) (hv : v < n) (hK : gp_K n m fe se rd a1 a2 a3) : gp_K n (m + 1) (gp_up fe m u) (gp_up se m v) 0 (upd a1 m (nI u)) (upd a2 m (nI v)) a3 := by
  obtain ⟨h1, h2, h3, h4, h5⟩ := hK
  refine ⟨h1, h2, by omega, fun i hi => ?_, fun z => absurd rfl z⟩
  by_cases e : i = m
  · subst e
    rw [gp_up_s, gp_up_s, pk_us, pk_us]
    exact ⟨⟨hu, hv⟩, rfl, rfl⟩
  · rw [gp_up_n e, gp_up_n e, pk_un e, pk_un e]
    exact h4 i (by omega)
/-- the last edge gone -/
theorem gp_K_drop {n m : Nat} {fe se : Nat → Nat} (hK : gp_K n (m + 1) fe se rd a1 a2 a3) : gp_K n m fe se 0 a1 a2 a3 := by
  obtain ⟨h1, h2, h3, h4, h5⟩ := hK
  exact ⟨h1, h2, by omega, fun i hi => h4 i (by omega), fun z => absurd rfl z⟩
/-- the check of the parallel edge -/
theorem gp_tail {post : Int32 → St2 → Prop} {n m : Nat} {fe se : Nat → Nat} {x : Int64} {flag : Int32} {fu : Nat} (hK : gp_K n m fe se rd a1 a2 a3) (hE : gp_E x m fe se)
    (hp : ∀ rd wt b1 b2 b3 b4 b5 b6 b7, gp_K n m fe se rd b1 b2 b3 → post 1 (nI n, nI m, rd, wt, b1, b2, b3, b4, b5, b6, b7)) :
    wL_holds_84 post x (nI m) flag (fu + 1) (nI 7) (nI n) (nI m) rd wt a1 a2 a3 a4 a5 a6 a7 := by
  have hn := hK.2.1
  have hm := hK.2.2.1
  refine br_t (show (6 : Int32) < nI 7 by decide) ?_
  refine pk_eq m 0 (fun _ => hp _ _ _ _ _ _ _ _ _ hK) (fun e0 => ?_)
  refine pk_eq m 8 (fun _ => hp _ _ _ _ _ _ _ _ _ hK) (fun e8 => ?_)
  obtain ⟨k, rfl⟩ : ∃ k, m = k + 1 := ⟨m - 1, by omega⟩
  have hu := (hK.2.2.2.1 k (Nat.lt_succ_self k)).1.1
  have hv := (hK.2.2.2.1 k (Nat.lt_succ_self k)).1.2
  refine nm_r (nI_pred k) (nm_r (e' := nI (fe k)) ?_ (nm_r (e' := nI (se k)) ?_ ?_))
  · rw [gp_s6, gp_f32 x (by omega), (hE k (Nat.lt_succ_self k)).1]
  · rw [gp_s63, gp_f32 x (by omega), (hE k (Nat.lt_succ_self k)).2]
  refine gp_colour 3 rfl (by decide) hK (fun rd1 wt1 c3 c4 c5 c6 c7 hK1 => ?_)
  refine gp_colour 5 rfl (by decide) hK1 (fun rd2 wt2 d3 d4 d5 d6 d7 hK2 => ?_)
  refine gp_acyc hK2 (fun rd3 wt3 e3 e4 e5 e6 e7 hK3 => ?_)
  refine gp_add hn (by omega) hv hu ?_
  have hK4 := gp_K_add (show k + 1 < 8 by omega) hv hu hK3
  have q1 : ∀ i, i < k + 1 → gp_up fe (k + 1) (se k) i = fe i := fun i hi => gp_up_n (by omega)
  have q2 : ∀ i, i < k + 1 → gp_up se (k + 1) (fe k) i = se i := fun i hi => gp_up_n (by omega)
  have q3 : gp_up fe (k + 1) (se k) (k + 1) = se k := gp_up_s _ _ _
  have q4 : gp_up se (k + 1) (fe k) (k + 1) = fe k := gp_up_s _ _ _
  refine br_t (nI_1 (k + 1)).symm ?_
  refine gp_colour 3 rfl (by decide) hK4 (fun rd5 wt5 f3 f4 f5 f6 f7 hK5 => br_t (gp_colP q1 q2 q3 q4) ?_)
  refine gp_colour 5 rfl (by decide) hK5 (fun rd6 wt6 g3 g4 g5 g6 g7 hK6 => br_t (gp_colP q1 q2 q3 q4) ?_)
  refine gp_acyc hK6 (fun rd7 wt7 h3 h4 h5 h6 h7 hK7 => br_t (congrArg Int32.ofInt (gp_gv_par q1 q2 q3 q4 k (Nat.le_refl k) _)) ?_)
  refine gp_drop (by omega) (br_t rfl (hp _ _ _ _ _ _ _ _ _ ⟨hK.1, hn, hm, fun i hi => ?_, fun z => absurd rfl z⟩))
  rw [pk_un (by omega), pk_un (by omega)]
  exact hK.2.2.2.1 i hi
theorem gp_holds {post : Int32 → St2 → Prop} {n m : Nat} {fe se : Nat → Nat} {x : Int64} (hK : gp_K n m fe se rd a1 a2 a3) (hE : gp_E x m fe se)
    (hp : ∀ rd wt b1 b2 b3 b4 b5 b6 b7, gp_K n m fe se rd b1 b2 b3 → post 1 (nI n, nI m, rd, wt, b1, b2, b3, b4, b5, b6, b7)) :
    wpL_holds post (nI n, nI m, rd, wt, a1, a2, a3, a4, a5, a6, a7) x (nI m) := by
  obtain ⟨k1, k2, k3⟩ := gp_cmp fe se hK.2.2.1 (fun p => p)
  have hm := hK.2.2.1
  refine gp_trees hK (fun rd1 wt1 c3 c4 c5 c6 c7 hK1 => ?_)
  refine gp_forests hK1 (fun rd2 wt2 d3 d4 d5 d6 d7 hK2 => br_f k1 ?_)
  refine gp_trees hK2 (fun rd3 wt3 e3 e4 e5 e6 e7 hK3 => ?_)
  refine gp_spanning hK3 (fun rd4 wt4 f3 f4 f5 f6 f7 hK4 => br_f k2 ?_)
  refine gp_trees hK4 (fun rd5 wt5 g3 g4 g5 g6 g7 hK5 => br_t k3 ?_)
  refine pk_loop (σ := Int32) (fun fu i s => wL_holds_38 post x (nI m) (nI n) (nI m) rd5 wt5 a1 a2 g3 g4 g5 g6 g7 fu s (nI i)) (fun _ s => ¬ s = 0 → ∃ e, e < m ∧ fe e = se e) m 0 0 (Nat.zero_le m) (fun z => absurd rfl z) (fun fu s h => ?_) (fun fu i s hi h hw => ?_)
  · refine pk_le m m (fun _ => ?_) (fun z => absurd z (Nat.lt_irrefl m))
    refine pk_loop (σ := Int32 × Int32 × (Nat → Int32) × (Nat → Int32) × (Nat → Int32) × (Nat → Int32) × (Nat → Int32)) (fun fu i t => wL_holds_84 post x (nI m) s fu (nI i) (nI n) (nI m) t.1 t.2.1 a1 a2 t.2.2.1 t.2.2.2.1 t.2.2.2.2.1 t.2.2.2.2.2.1 t.2.2.2.2.2.2) (fun _ t => gp_K n m fe se t.1 a1 a2 t.2.2.1) 7 0 (rd5, wt5, g3, g4, g5, g6, g7) (Nat.zero_le _) hK5 (fun fu t ht => gp_tail ht hE hp) (fun fu i t hi ht hw => ?_)
    refine pk_lt 6 i (fun z => absurd z (by omega)) (fun _ => br_c (fun _ => nm_r (nI_1 i) (hw t ht)) (fun z => ?_))
    obtain ⟨e, he, hh⟩ := h z
    exact gp_colour i rfl hi ht (fun rd6 wt6 h3 h4 h5 h6 h7 hK6 => br_t (gp_col0 he hh) (nm_r (nI_1 i) (hw (rd6, wt6, h3, h4, h5, h6, h7) hK6)))
  · refine pk_le m i (fun z => absurd z (by omega)) (fun _ => ?_)
    rw [gp_s63, gp_s6, gp_f64 x (by omega), gp_f64 x (by omega), (hE i hi).1, (hE i hi).2]
    have b := hK.2.2.2.1 i hi
    have b1 := b.1.1
    have b2 := b.1.2
    have hn := hK.2.1
    exact ek_if (lN_eq (by omega) (by omega)) (fun e => nm_r (nI_1 i) (hw 1 (fun _ => ⟨i, hi, e⟩))) (fun _ => nm_r (nI_1 i) (hw s h))
end
end
section
/-! ===== the law's loop ===== -/
theorem gp_uv : ∀ u, u < 8 → ∀ v, v < 8 → nI u ||| (nI v <<< ((3 : Int32) &&& 31)) = nI (u + v * 8) := by decide +kernel
theorem gp_rm (y : Int32) {n : Nat} (h1 : 1 ≤ n) (h6 : n ≤ 6) : ∃ u, u < n ∧ (y &&& 255) - (y &&& 255) / nI n * nI n = nI u := by
  obtain ⟨j, hj, e⟩ := pk_andE y (m := 255) 8 (by decide)
  rw [e, pk_rem (by omega) (by omega) (by omega)]
  exact ⟨j % n, Nat.mod_lt _ (by omega), rfl⟩
theorem gp_E_le {x : Int64} {m : Nat} {fe se : Nat → Nat} (h : gp_E x (m + 1) fe se) : gp_E x m fe se := fun i hi => h i (by omega)
section
variable {post : Int32 → Prop} {L : Nat} {xs : Nat → Int32} {J32 : Int64 → Int32 → Int32 → Int32 → Int32 → Int32 → Int32 → (Nat → Int32) → (Nat → Int32) → (Nat → Int32) → (Nat → Int32) → (Nat → Int32) → (Nat → Int32) → (Nat → Int32) → Prop} {x1 : Int32} {kc ks : Nat} {rd wt : Int32} {a1 a2 a3 a4 a5 a6 a7 : Nat → Int32} {n m i : Nat} {fe se : Nat → Nat} {x : Int64}
/-- the next turn goes on from any state that matches -/
def gp_J (n i : Nat) (J32 : Int64 → Int32 → Int32 → Int32 → Int32 → Int32 → Int32 → (Nat → Int32) → (Nat → Int32) → (Nat → Int32) → (Nat → Int32) → (Nat → Int32) → (Nat → Int32) → (Nat → Int32) → Prop) : Prop :=
  ∀ (x : Int64) (m : Nat) (fe se : Nat → Nat) (rd wt : Int32) (a1 a2 a3 a4 a5 a6 a7 : Nat → Int32), gp_K n m fe se rd a1 a2 a3 → gp_E x m fe se → J32 x (nI m) (nI (i + 3)) (nI n) (nI m) rd wt a1 a2 a3 a4 a5 a6 a7
theorem gp_303 (hJ : gp_J n i J32) (hK : gp_K n m fe se rd a1 a2 a3) (hE : gp_E x m fe se) : wL_law_303 post L xs J32 x1 x (nI m) (nI i) kc ks (nI n) (nI m) rd wt a1 a2 a3 a4 a5 a6 a7 := by
  refine gp_holds hK hE (fun rd' wt' b1 b2 b3 b4 b5 b6 b7 hK' => br_f (show ¬ (1 : Int32) = 0 by decide) (nm_r (nI_add i 3) ?_))
  exact hJ _ _ _ _ _ _ _ _ _ _ _ _ _ hK' hE
theorem gp_254 {u v : Nat} (hu : u < n) (hv : v < n) (hJ : gp_J n i J32) (hK : gp_K n m fe se rd a1 a2 a3) (hE : gp_E x m fe se) : wL_law_254 post L xs J32 x1 x (nI m) (nI i) (nI u) (nI v) kc ks (nI n) (nI m) rd wt a1 a2 a3 a4 a5 a6 a7 := by
  have hn := hK.2.1
  have hm := hK.2.2.1
  by_cases c : m = 8
  · subst c
    exact gp_addF (br_f (show ¬ (-2 : Int32) = nI 8 + 1 by decide) (gp_303 hJ hK hE))
  · refine gp_add hn (by omega) hu hv (br_t (nI_1 m).symm (nm_r (e' := (x &&& (((63 : Int64) <<< ((nI (3 * (2 * m))).toInt64 &&& 63)) ^^^ (-1))) ||| (lN (u + v * 8) <<< ((nI (3 * (2 * m))).toInt64 &&& 63))) ?_ (nm_r (nI_1 m) (gp_303 hJ (gp_K_add (by omega) hu hv hK) (fun j hj => ?_)))))
    · rw [gp_s6, gp_uv u (by omega) v (by omega), nI_l (show u + v * 8 < 2 ^ 31 by omega)]
    · rw [gp_set6 x (by omega) (by omega) (by omega) _ (by omega), gp_set6 x (by omega) (by omega) (by omega) _ (by omega)]
      by_cases e : j = m
      · subst e
        rw [if_pos rfl, if_neg (by omega), if_pos rfl, gp_up_s, gp_up_s]
        exact ⟨rfl, rfl⟩
      · rw [if_neg (by omega), if_neg (by omega), if_neg (by omega), if_neg (by omega), gp_up_n e, gp_up_n e]
        exact hE j (by omega)
theorem gp_195 {lo hi : Nat} (hlo : lo < 8) (hhi : hi < 8) (hm : m < 8) (hJ : gp_J n i J32) (hE : gp_E x m fe se) (hK : gp_K n m (fun j => gp_mg lo hi (fe j)) (fun j => gp_mg lo hi (se j)) rd a1 a2 a3) :
    ∃ fu, wL_law_195 post L xs J32 x1 (nI m) (nI i) (nI lo) (nI hi) kc ks (nI n) (nI m) rd wt a1 a2 a3 a4 a5 a6 a7 fu x 0 := by
  refine pk_loop (σ := Int64) (fun fu k s => wL_law_195 post L xs J32 x1 (nI m) (nI i) (nI lo) (nI hi) kc ks (nI n) (nI m) rd wt a1 a2 a3 a4 a5 a6 a7 fu s (nI k)) (fun k s => ∀ j, j < 2 * m → gp_fd s j = if j < k then gp_mg lo hi (gp_fd x j) else gp_fd x j) (2 * m) 0 x (Nat.zero_le _) (fun j hj => (if_neg (Nat.not_lt_zero j)).symm) (fun fu s h => ?_) (fun fu k s hk h hw => ?_)
  · refine pk_le (2 * m) (2 * m) (fun _ => gp_303 hJ hK (fun j hj => ?_)) (fun z => absurd z (Nat.lt_irrefl _)) (hx := pk_mul 2 m)
    rw [h (2 * j) (by omega), h (2 * j + 1) (by omega), if_pos (by omega), if_pos (by omega), (hE j hj).1, (hE j hj).2]
    exact ⟨rfl, rfl⟩
  · refine pk_le (2 * m) k (fun z => absurd z (by omega)) (fun _ => ?_) (hx := pk_mul 2 m)
    have b := gp_fd_lt s k
    have hh := h k hk
    rw [if_neg (Nat.lt_irrefl k)] at hh
    have k3 : (3 : Int32) * nI k = nI (3 * k) := pk_mul 3 k
    rw [k3, gp_f64 s (by omega), nI_l (show hi < 2 ^ 31 by omega), nI_l (show lo < 2 ^ 31 by omega)]
    refine ek_if (lN_eq (by omega) (by omega)) (fun e => nm_e (nm_r (nI_1 k) (hw _ (fun j hj => ?_)))) (fun e => nm_r (nI_1 k) (hw s (fun j hj => ?_)))
    · rw [gp_set3 s (by omega) hlo j (by omega)]
      by_cases ej : j = k
      · subst ej
        rw [if_pos rfl, if_pos (Nat.lt_succ_self j), ← hh]
        unfold gp_mg
        rw [if_pos e]
      · rw [if_neg ej, h j hj]
        by_cases z : j < k
        · rw [if_pos z, if_pos (by omega)]
        · rw [if_neg z, if_neg (by omega)]
    · by_cases ej : j = k
      · subst ej
        rw [if_pos (Nat.lt_succ_self j), ← hh]
        unfold gp_mg
        rw [if_neg e]
      · rw [h j hj]
        by_cases z : j < k
        · rw [if_pos z, if_pos (by omega)]
        · rw [if_neg z, if_neg (by omega)]
theorem gp_177 {lo hi : Nat} (hlo : lo = min (fe m) (se m)) (hhi : hi = max (fe m) (se m)) (l8 : lo < 8) (h8 : hi < 8) (hJ : gp_J n i J32) (hK : gp_K n (m + 1) fe se rd a1 a2 a3) (hE : gp_E x (m + 1) fe se) :
    wL_law_177 post L xs J32 x1 x (nI m) (nI i) (nI lo) (nI hi) kc ks (nI n) (nI (m + 1)) rd wt a1 a2 a3 a4 a5 a6 a7 := by
  subst hlo hhi
  obtain ⟨k1, k2, k3, k4, k5⟩ := hK
  refine gp_merge k2 (by omega) k4 (fun b1 b2 hb => br_t rfl (gp_195 l8 h8 (by omega) hJ (gp_E_le hE) ⟨k1, k2, by omega, hb, fun z => absurd rfl z⟩))
theorem gp_100 {u v : Nat} (hi : i < L) (hL : L ≤ 260) (hu : u < n) (hv : v < n) (hJ : gp_J n i J32) (hK : gp_K n m fe se rd a1 a2 a3) (hE : gp_E x m fe se) : wL_law_100 post L xs J32 x1 x (nI m) (nI i) (nI u) (nI v) kc ks (nI n) (nI m) rd wt a1 a2 a3 a4 a5 a6 a7 := by
  have hn := hK.2.1
  have hm := hK.2.2.1
  refine ⟨pk_in i L hi, br_c (fun _ => pk_le m 0 (fun _ => gp_254 hu hv hJ hK hE) (fun z => ?_)) (fun _ => gp_254 hu hv hJ hK hE)⟩
  obtain ⟨k, rfl⟩ : ∃ k, m = k + 1 := ⟨m - 1, by omega⟩
  have gu := (hK.2.2.2.1 k (Nat.lt_succ_self k)).1.1
  have gv := (hK.2.2.2.1 k (Nat.lt_succ_self k)).1.2
  refine nm_r (pk_m1 k) (nm_r (e' := nI (fe k)) ?_ (nm_r (e' := nI (se k)) ?_ ?_))
  · rw [gp_s6, gp_f32 x (by omega), (hE k (Nat.lt_succ_self k)).1]
  · rw [gp_s63, gp_f32 x (by omega), (hE k (Nat.lt_succ_self k)).2]
  refine pk_le (se k) (fe k) (fun z => pk_le (se k) (fe k) (fun _ => ?_) (fun z' => absurd z' (by omega))) (fun z => pk_le (se k) (fe k) (fun z' => absurd z' (by omega)) (fun _ => ?_))
  · exact gp_177 (Nat.min_eq_right z).symm (Nat.max_eq_left z).symm (by omega) (by omega) hJ hK hE
  · exact gp_177 (Nat.min_eq_left (by omega)).symm (Nat.max_eq_right (by omega)).symm (by omega) (by omega) hJ hK hE
theorem gp_32 (hL : L ≤ 260) (h1 : post 1) : ∀ fu i (x : Int64) (m : Nat) (fe se : Nat → Nat) (rd wt : Int32) (a1 a2 a3 a4 a5 a6 a7 : Nat → Int32), L - i < fu → i ≤ 260 + 3 → gp_K n m fe se rd a1 a2 a3 → gp_E x m fe se → wL_law_32 post L xs (nI n) kc ks fu x (nI m) (nI i) (nI n) (nI m) rd wt a1 a2 a3 a4 a5 a6 a7 := by
  intro fu
  induction fu with
  | zero => intro i x m fe se rd wt a1 a2 a3 a4 a5 a6 a7 h; omega
  | succ fu ih =>
    intro i x m fe se rd wt a1 a2 a3 a4 a5 a6 a7 hfu hi hK hE
    refine br_c (fun _ => h1) (fun z => ?_)
    have hiL : i + 3 ≤ L := by
      have z' : ¬ (nI L - nI 3 < nI i) := z
      rw [Int32.lt_iff_toInt_lt, pk_sub_toInt (by omega) (by omega), nI_toInt (by omega)] at z'
      omega
    have hm := hK.2.2.1
    have n0 : ¬ nI n = 0 := nI_ne0 hK.1 (by have := hK.2.1; omega)
    obtain ⟨u, hu, eu⟩ := gp_rm (xs (nI i + 1).toNatClampNeg) hK.1 hK.2.1
    obtain ⟨v, hv, ev⟩ := gp_rm (xs (nI i + 2).toNatClampNeg) hK.1 hK.2.1
    have hJ : gp_J n i (wL_law_32 post L xs (nI n) kc ks fu) := fun x m fe se rd wt a1 a2 a3 a4 a5 a6 a7 hK' hE' => ih (i + 3) x m fe se rd wt a1 a2 a3 a4 a5 a6 a7 (by omega) (by omega) hK' hE'
    refine ⟨pk_in (i + 1) L (by omega) (hx := nI_1 i), n0, nm_r eu ⟨pk_in (i + 2) L (by omega) (hx := nI_add i 2), n0, nm_r ev ⟨pk_in i L (by omega), br_c (fun _ => ?_) (fun _ => gp_100 (by omega) hL hu hv hJ hK hE)⟩⟩⟩
    refine pk_le m 0 (fun _ => gp_100 (by omega) hL hu hv hJ hK hE) (fun zm => ?_)
    obtain ⟨k, rfl⟩ : ∃ k, m = k + 1 := ⟨m - 1, by omega⟩
    exact nm_r (pk_m1 k) (gp_drop (by omega) (br_t rfl (gp_303 hJ (gp_K_drop hK) (gp_E_le hE))))
end
theorem i_vc (xs : Nat → Int32) (L : Nat) (hL : L ≤ 260) : wpL_law (fun r => r = 1) L xs := by
  have key : ∀ r : Int32, (¬ (6 : Int32) = 0 ∧ (∀ x1_3 : Int32, x1_3 = 1 + ((r &&& 255) - (r &&& 255) / 6 * 6) → (∃ mc_31 ms_32 : Nat, 1 + mc_31 ≤ 8 ∧ 11 + ms_32 ≤ 156 ∧ (wpX_init (fun u => match u with | (fm15_pointCount_6, fm15_edgeCount_7, fm15_ready_8, fm15_waiting_9, am201_12, am202_15, am203_18, am204_21, am205_24, am206_27, am207_30) => (∃ fu32 : Nat, wL_law_32 (fun r => r = 1) L xs x1_3 (1 + mc_31) (11 + ms_32) fu32 0 0 1 fm15_pointCount_6 fm15_edgeCount_7 fm15_ready_8 fm15_waiting_9 am201_12 am202_15 am203_18 am204_21 am205_24 am206_27 am207_30)) mc_31 ms_32 (0, 0, 0, 0) x1_3)))) := by
    intro r
    refine ⟨by decide, ?_⟩
    obtain ⟨u, hu, eu⟩ := gp_rm r (n := 6) (by omega) (by omega)
    have e : 1 + ((r &&& 255) - (r &&& 255) / 6 * 6) = nI (1 + u) := by
      rw [show (6 : Int32) = nI 6 from rfl, eu]
      exact nI_add 1 u
    refine nm_r e ⟨7, 145, by omega, by omega, ?_⟩
    refine ⟨by omega, by omega, by omega, by omega, by omega, by omega, by omega, by omega, by omega, by omega, by omega, by omega, by omega, by omega, ?_⟩
    refine br_t (nI_le (a := 1) (by omega) (by omega)) (br_t (nI_le (b := 6) (by omega) (by omega)) ?_)
    exact ⟨L + 1, gp_32 (post := fun r => r = 1) (n := 1 + u) hL rfl (L + 1) 1 0 0 (fun _ => 0) (fun _ => 0) 0 0 _ _ _ _ _ _ _ (by omega) (by omega) ⟨by omega, by omega, by omega, fun i hi => absurd hi (Nat.not_lt_zero i), fun z => absurd rfl z⟩ (fun i hi => absurd hi (Nat.not_lt_zero i))⟩
  exact pk_le L 0 (fun _ => key 0) (fun z => ⟨pk_in 0 L z, key _⟩)
end
