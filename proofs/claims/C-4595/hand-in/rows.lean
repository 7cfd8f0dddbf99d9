section
/-! 01: numbers, stores, sums -/
theorem fa_us {f : Nat → Int32} {k : Nat} {x : Int32} : upd f k x k = x := if_pos rfl
theorem fa_un {f : Nat → Int32} {k j : Nat} {x : Int32} (h : j ≠ k) : upd f k x j = f j := if_neg h
def fa_tI (a : Nat → Int32) : Nat → Int := fun i => (a i).toInt
def fa_up (f : Nat → Int) (k : Nat) (x : Int) : Nat → Int := fun j => if j = k then x else f j
theorem fa_ps {f : Nat → Int} {k : Nat} {x : Int} : fa_up f k x k = x := if_pos rfl
theorem fa_pn {f : Nat → Int} {k j : Nat} {x : Int} (h : j ≠ k) : fa_up f k x j = f j := if_neg h
theorem fa_tu (a : Nat → Int32) (k : Nat) (x : Int32) : fa_tI (upd a k x) = fa_up (fa_tI a) k x.toInt := by
  funext j
  by_cases h : j = k
  · subst h; simp only [fa_tI, fa_us, fa_ps]
  · simp only [fa_tI, fa_un h, fa_pn h]
theorem fa_lt (x y : Int32) : x < y ↔ x.toInt < y.toInt := Int32.lt_iff_toInt_lt
theorem fa_le (x y : Int32) : x ≤ y ↔ x.toInt ≤ y.toInt := Int32.le_iff_toInt_le
theorem fa_eq (x y : Int32) : x = y ↔ x.toInt = y.toInt := Int32.toInt_inj.symm
theorem fa_0 : (0 : Int32).toInt = 0 := by decide
theorem fa_1 : (1 : Int32).toInt = 1 := by decide
theorem fa_m1 : (-1 : Int32).toInt = -1 := by decide
theorem fa_16 : (16 : Int32).toInt = 16 := by decide
theorem fa_17 : (17 : Int32).toInt = 17 := by decide
theorem fa_32 : (32 : Int32).toInt = 32 := by decide
theorem fa_far : (1048576 : Int32).toInt = 1048576 := by decide
theorem fa_100k : (100000 : Int32).toInt = 100000 := by decide
theorem fa_add {x y : Int32} (h1 : -2000000000 ≤ x.toInt + y.toInt) (h2 : x.toInt + y.toInt ≤ 2000000000) : (x + y).toInt = x.toInt + y.toInt := by
  rw [Int32.toInt_add, Int.bmod_eq_of_le (by omega) (by omega)]
theorem fa_sub {x y : Int32} (h1 : -2000000000 ≤ x.toInt - y.toInt) (h2 : x.toInt - y.toInt ≤ 2000000000) : (x - y).toInt = x.toInt - y.toInt := by
  rw [Int32.toInt_sub, Int.bmod_eq_of_le (by omega) (by omega)]
theorem fa_cl {n : Nat} (h : n < 1000000) : (nI n).toNatClampNeg = n := nI_clamp (by omega)
theorem fa_ti {n : Nat} (h : n < 1000000) : (nI n).toInt = (n : Int) := nI_toInt (by omega)
theorem fa_in {n N : Nat} (h : n < N) (hN : N < 1000000) : vp_in (nI n) N := vp_in_nI h (by omega)
theorem fa_inj {a b : Nat} (h : nI a = nI b) (ha : a < 1000000) (hb : b < 1000000) : a = b := (nI_eq (by omega) (by omega)).mp h
theorem fa_eqI {a b : Nat} (ha : a < 1000000) (hb : b < 1000000) : nI a = nI b ↔ a = b := nI_eq (by omega) (by omega)
theorem fa_lt0 {n : Nat} (h : n < 1000000) : ¬ nI n < 0 := nI_pos (by omega)
theorem fa_lit (a b : Nat) (ha : a < 1000000) (hb : b < 1000000) : nI a ≤ nI b ↔ a ≤ b := nI_leI (by omega) (by omega)
/-- a counter against a literal: (N : Int32) ≤ nI i -/
theorem fa_ge {x : Int32} {N i : Nat} (hx : x = nI N) (hi : i < 1000000) (hN : N < 1000000) : x ≤ nI i ↔ N ≤ i := by
  rw [hx, fa_lit _ _ hN hi]
theorem fa_m1p {n : Nat} (h : 0 < n) : nI n + (-1) = nI (n - 1) := by
  obtain ⟨k, rfl⟩ : ∃ k, n = k + 1 := ⟨n - 1, by omega⟩
  rw [← nI_1, Int32.add_assoc, show (1 : Int32) + (-1) = 0 from rfl, Int32.add_zero]; rfl
theorem fa_byte : ∀ n, n < 128 → vp_nar .byte (nI n) = nI n ∧ vp_nar .byte (nI n).toInt8.toInt32 = nI n := by
  intro n hn
  have h : ∀ k : Fin 128, vp_nar .byte (nI k.val) = nI k.val ∧ vp_nar .byte (nI k.val).toInt8.toInt32 = nI k.val := by decide +kernel
  exact h ⟨n, hn⟩
theorem fa_bm1 : vp_nar .byte (-1) = -1 := by decide +kernel
theorem fa_b0 : vp_nar .byte 0 = 0 := by decide +kernel
theorem fa_z0 : vp_nar .boolean 0 = 0 := by decide +kernel
theorem fa_z1 : vp_nar .boolean 1 = 1 := by decide +kernel
def fc_xr (e : Nat) : Nat := if e % 2 = 0 then e + 1 else e - 1
theorem fc_xx (e : Nat) : fc_xr (fc_xr e) = e := by
  unfold fc_xr
  split <;> split <;> omega
theorem fc_xlt {e m : Nat} (h : e < 2 * m) : fc_xr e < 2 * m := by
  unfold fc_xr
  split <;> omega
theorem fc_xne (e : Nat) : fc_xr e ≠ e := by
  unfold fc_xr
  split <;> omega
theorem fc_x0 (j : Nat) : fc_xr (2 * j) = 2 * j + 1 := by
  unfold fc_xr
  split <;> omega
theorem fc_x1 (j : Nat) : fc_xr (2 * j + 1) = 2 * j := by
  unfold fc_xr
  split <;> omega
theorem fc_xinj {a b : Nat} (h : fc_xr a = fc_xr b) : a = b := by
  have := congrArg fc_xr h
  rwa [fc_xx, fc_xx] at this
theorem fa_xor : ∀ n, n < 56 → (nI n ^^^ 1) = nI (fc_xr n) := by
  intro n hn
  have h : ∀ k : Fin 56, (nI k.val ^^^ 1) = nI (fc_xr k.val) := by decide +kernel
  exact h ⟨n, hn⟩
theorem fc_x56 {n : Nat} (h : n < 56) : fc_xr n < 56 := fc_xlt (m := 28) h
/-! sums -/
def fb_sm (f : Nat → Int) : Nat → Int
  | 0 => 0
  | n + 1 => fb_sm f n + f n
theorem fb_s (f : Nat → Int) (n : Nat) : fb_sm f (n + 1) = fb_sm f n + f n := rfl
theorem fb_congr {f g : Nat → Int} {n : Nat} (h : ∀ i, i < n → f i = g i) : fb_sm f n = fb_sm g n := by
  induction n with
  | zero => rfl
  | succ n ih => rw [fb_s, fb_s, ih (fun i hi => h i (by omega)), h n (by omega)]
theorem fb_add (f g : Nat → Int) (n : Nat) : fb_sm (fun i => f i + g i) n = fb_sm f n + fb_sm g n := by
  induction n with
  | zero => rfl
  | succ n ih => rw [fb_s, fb_s, fb_s, ih]; omega
theorem fb_sub (f g : Nat → Int) (n : Nat) : fb_sm (fun i => f i - g i) n = fb_sm f n - fb_sm g n := by
  induction n with
  | zero => rfl
  | succ n ih => rw [fb_s, fb_s, fb_s, ih]; omega
theorem fb_zero {f : Nat → Int} {n : Nat} (h : ∀ i, i < n → f i = 0) : fb_sm f n = 0 := by
  induction n with
  | zero => rfl
  | succ n ih => rw [fb_s, ih (fun i hi => h i (by omega)), h n (by omega)]; rfl
theorem fb_le {f g : Nat → Int} {n : Nat} (h : ∀ i, i < n → f i ≤ g i) : fb_sm f n ≤ fb_sm g n := by
  induction n with
  | zero => exact Int.le_refl _
  | succ n ih =>
    have h1 := ih (fun i hi => h i (by omega))
    have h2 := h n (by omega)
    rw [fb_s, fb_s]; omega
theorem fb_nn {f : Nat → Int} {n : Nat} (h : ∀ i, i < n → 0 ≤ f i) : 0 ≤ fb_sm f n := by
  induction n with
  | zero => exact Int.le_refl _
  | succ n ih =>
    have h1 := ih (fun i hi => h i (by omega))
    have h2 := h n (by omega)
    rw [fb_s]; omega
theorem fb_ge {f : Nat → Int} {n k : Nat} (h : ∀ i, i < n → 0 ≤ f i) (hk : k < n) : f k ≤ fb_sm f n := by
  induction n with
  | zero => omega
  | succ n ih =>
    rw [fb_s]
    have h2 := h n (by omega)
    by_cases e : k = n
    · subst e
      have := fb_nn (f := f) (n := k) (fun i hi => h i (by omega))
      omega
    · have := ih (fun i hi => h i (by omega)) (by omega)
      omega
theorem fb_lt {f g : Nat → Int} {n k : Nat} (h : ∀ i, i < n → f i ≤ g i) (hk : k < n) (hs : f k < g k) : fb_sm f n < fb_sm g n := by
  have h1 := fb_ge (f := fun i => g i - f i) (n := n) (k := k) (fun i hi => by have := h i hi; omega) hk
  rw [fb_sub] at h1
  omega
theorem fb_eq0 {f : Nat → Int} {n : Nat} (h : ∀ i, i < n → 0 ≤ f i) (h0 : fb_sm f n ≤ 0) : ∀ i, i < n → f i = 0 := by
  intro i hi
  have h1 := fb_ge h hi
  have h2 := h i hi
  omega
theorem fb_one {n k : Nat} (x : Int) (hk : k < n) : fb_sm (fun i => if i = k then x else 0) n = x := by
  induction n with
  | zero => omega
  | succ n ih =>
    rw [fb_s]
    by_cases e : k = n
    · subst e
      rw [fb_zero (fun i hi => by rw [if_neg (by omega)]), if_pos rfl, Int.zero_add]
    · rw [ih (by omega), if_neg (by omega), Int.add_zero]
theorem fb_up {f : Nat → Int} {n k : Nat} (x : Int) (hk : k < n) : fb_sm (fa_up f k x) n = fb_sm f n + (x - f k) := by
  have h : fb_sm (fa_up f k x) n = fb_sm (fun i => f i + (if i = k then x - f k else 0)) n := by
    refine fb_congr (fun i hi => ?_)
    by_cases e : i = k
    · subst e; rw [fa_ps, if_pos rfl]; omega
    · rw [fa_pn e, if_neg e]; omega
  rw [h, fb_add, fb_one _ hk]
theorem fb_swap (f : Nat → Nat → Int) (n k : Nat) : fb_sm (fun i => fb_sm (fun j => f i j) k) n = fb_sm (fun j => fb_sm (fun i => f i j) n) k := by
  induction n with
  | zero => exact (fb_zero (fun i hi => rfl)).symm
  | succ n ih =>
    rw [fb_s, ih, ← fb_add]
    exact fb_congr (fun i hi => rfl)
theorem fb_pair (f : Nat → Int) (m : Nat) : fb_sm f (2 * m) = fb_sm (fun j => f (2 * j) + f (2 * j + 1)) m := by
  induction m with
  | zero => rfl
  | succ m ih =>
    have : 2 * (m + 1) = 2 * m + 1 + 1 := by omega
    rw [this, fb_s, fb_s, fb_s, ih]; omega
theorem fb_const (x : Int) (n : Nat) : fb_sm (fun _ => x) n = n * x := by
  induction n with
  | zero => simp only [fb_sm]; omega
  | succ n ih =>
    rw [fb_s, ih]
    have : ((n + 1 : Nat) : Int) * x = n * x + x := by
      rw [Int.natCast_add, Int.add_mul]; simp
    rw [this]
theorem fb_mul (f : Nat → Int) (x : Int) (n : Nat) : fb_sm (fun i => x * f i) n = x * fb_sm f n := by
  induction n with
  | zero => simp only [fb_sm]; omega
  | succ n ih => rw [fb_s, fb_s, ih, Int.mul_add]
end
section
/-! 02: flows, cuts -/
def fc_ex (m : Nat) (hd : Nat → Nat) (c L : Nat → Int) (n : Nat) : Int := fb_sm (fun e => if hd e = n then c e - L e else 0) (2 * m)
def fc_RV (m : Nat) (c L : Nat → Int) : Prop := ∀ e, e < 2 * m → 0 ≤ L e ∧ L e + L (fc_xr e) = c e + c (fc_xr e)
def fc_mv (L : Nat → Int) (e : Nat) (d : Int) : Nat → Int := fun i => if i = fc_xr e then L i + d else if i = e then L i - d else L i
def fc_HD (m : Nat) (hd : Nat → Nat) : Prop := ∀ e, e < 2 * m → hd e < 16 ∧ hd (fc_xr e) ≠ hd e
def fc_CP (m : Nat) (c : Nat → Int) : Prop := m ≤ 28 ∧ ∀ j, j < m → 0 ≤ c (2 * j) ∧ c (2 * j) ≤ 99 ∧ c (2 * j + 1) = 0
theorem fc_par (e : Nat) : ∃ j, e = 2 * j ∨ e = 2 * j + 1 := ⟨e / 2, by omega⟩
theorem fc_CPe {m e : Nat} {c : Nat → Int} (h : fc_CP m c) (he : e < 2 * m) : 0 ≤ c e ∧ c e + c (fc_xr e) ≤ 99 := by
  obtain ⟨j, hj | hj⟩ := fc_par e
  · subst hj
    have := h.2 j (by omega)
    rw [fc_x0]; omega
  · subst hj
    have := h.2 j (by omega)
    rw [fc_x1]; omega
theorem fc_L99 {m e : Nat} {c L : Nat → Int} (h : fc_CP m c) (R : fc_RV m c L) (he : e < 2 * m) : 0 ≤ L e ∧ L e ≤ 99 ∧ L e + L (fc_xr e) ≤ 99 := by
  have h1 := R e he
  have h2 := R (fc_xr e) (fc_xlt he)
  have h3 := fc_CPe h he
  omega
theorem fc_mv_e {L : Nat → Int} {e : Nat} {d : Int} : fc_mv L e d e = L e - d := by
  unfold fc_mv
  rw [if_neg (fun h => fc_xne e h.symm), if_pos rfl]
theorem fc_mv_x {L : Nat → Int} {e : Nat} {d : Int} : fc_mv L e d (fc_xr e) = L (fc_xr e) + d := by
  unfold fc_mv
  rw [if_pos rfl]
theorem fc_mv_n {L : Nat → Int} {e i : Nat} {d : Int} (h1 : i ≠ e) (h2 : i ≠ fc_xr e) : fc_mv L e d i = L i := by
  unfold fc_mv
  rw [if_neg h2, if_neg h1]
theorem fc_RV_mv {m e : Nat} {c L : Nat → Int} {d : Int} (R : fc_RV m c L) (he : e < 2 * m) (h0 : 0 ≤ d) (hd : d ≤ L e) : fc_RV m c (fc_mv L e d) := by
  intro i hi
  have r := R i hi
  have r2 := R (fc_xr i) (fc_xlt hi)
  by_cases h1 : i = e
  · subst h1
    rw [fc_mv_e, fc_mv_x]; omega
  · by_cases h2 : i = fc_xr e
    · subst h2
      rw [fc_mv_x, fc_xx, fc_mv_e]
      rw [fc_xx] at r; omega
    · have h3 : fc_xr i ≠ e := fun z => h2 (by rw [← z, fc_xx])
      have h4 : fc_xr i ≠ fc_xr e := fun z => h1 (fc_xinj z)
      rw [fc_mv_n h1 h2, fc_mv_n h3 h4]; exact r
theorem fc_ex_mv {m e : Nat} {hd : Nat → Nat} {c L : Nat → Int} {d : Int} (he : e < 2 * m) (n : Nat) :
    fc_ex m hd c (fc_mv L e d) n = fc_ex m hd c L n + (if hd e = n then d else 0) - (if hd (fc_xr e) = n then d else 0) := by
  have h : fc_ex m hd c (fc_mv L e d) n = fb_sm (fun i => (if hd i = n then c i - L i else 0) + ((if i = e then (if hd e = n then d else 0) else 0) - (if i = fc_xr e then (if hd (fc_xr e) = n then d else 0) else 0))) (2 * m) := by
    refine fb_congr (fun i hi => ?_)
    by_cases h1 : i = e
    · subst h1
      rw [if_neg (show ¬ i = fc_xr i from fun z => fc_xne i z.symm), if_pos (rfl : i = i), fc_mv_e]
      split <;> omega
    · by_cases h2 : i = fc_xr e
      · subst h2
        rw [if_neg h1, if_pos (rfl : fc_xr e = fc_xr e), fc_mv_x]
        split <;> omega
      · rw [if_neg h1, if_neg h2, fc_mv_n h1 h2]; omega
  rw [h, fb_add, fb_sub, fb_one _ he, fb_one _ (fc_xlt he)]
  unfold fc_ex
  omega
theorem fc_cut {m : Nat} {hd : Nat → Nat} {c L : Nat → Int} (H : ∀ e, e < 2 * m → hd e < 16) (R : fc_RV m c L) (T : Nat → Bool) :
    fb_sm (fun n => if T n = true then fc_ex m hd c L n else 0) 16 = fb_sm (fun e => if T (hd e) = true ∧ T (hd (fc_xr e)) = false then c e - L e else 0) (2 * m) := by
  have h1 : fb_sm (fun n => if T n = true then fc_ex m hd c L n else 0) 16 = fb_sm (fun n => fb_sm (fun e => if n = hd e then (if T (hd e) = true then c e - L e else 0) else 0) (2 * m)) 16 := by
    refine fb_congr (fun n hn => ?_)
    by_cases h : T n = true
    · rw [if_pos h]
      unfold fc_ex
      refine fb_congr (fun e he => ?_)
      by_cases q : hd e = n
      · rw [if_pos q, if_pos q.symm, q, if_pos h]
      · rw [if_neg q, if_neg (fun z => q z.symm)]
    · rw [if_neg h]
      symm
      refine fb_zero (fun e he => ?_)
      by_cases q : n = hd e
      · rw [if_pos q, ← q, if_neg h]
      · rw [if_neg q]
  have h2 : fb_sm (fun e => fb_sm (fun n => if n = hd e then (if T (hd e) = true then c e - L e else 0) else 0) 16) (2 * m) = fb_sm (fun e => if T (hd e) = true then c e - L e else 0) (2 * m) :=
    fb_congr (fun e he => fb_one _ (H e he))
  rw [h1, fb_swap, h2, fb_pair, fb_pair]
  refine fb_congr (fun j hj => ?_)
  have r := (R (2 * j) (by omega)).2
  rw [fc_x0] at r
  rw [fc_x0, fc_x1]
  cases T (hd (2 * j)) <;> cases T (hd (2 * j + 1)) <;> simp <;> omega
def fc_FS (m : Nat) (hd : Nat → Nat) (c : Nat → Int) (s t : Nat) (L : Nat → Int) (F : Int) : Prop :=
  fc_RV m c L ∧ (∀ n, n < 16 → n ≠ s → n ≠ t → fc_ex m hd c L n = 0) ∧ fc_ex m hd c L t = F
def fc_cap (m : Nat) (hd : Nat → Nat) (c : Nat → Int) (S : Nat → Bool) : Int := fb_sm (fun e => if S (hd (fc_xr e)) = true ∧ S (hd e) = false then c e else 0) (2 * m)
def fc_cl (m : Nat) (hd : Nat → Nat) (L : Nat → Int) (S : Nat → Bool) : Prop := ∀ e, e < 2 * m → S (hd (fc_xr e)) = true → S (hd e) = false → L e = 0
def fc_MF (m : Nat) (hd : Nat → Nat) (c : Nat → Int) (s t : Nat) (L : Nat → Int) (F : Int) : Prop :=
  fc_FS m hd c s t L F ∧ ∃ S : Nat → Bool, S s = true ∧ S t = false ∧ fc_cl m hd L S
section FC
variable {m s t : Nat} {hd : Nat → Nat} {c L : Nat → Int} {F : Int} {S : Nat → Bool}
theorem fc_val (H : ∀ e, e < 2 * m → hd e < 16) (h : fc_FS m hd c s t L F) (ht : t < 16) (hs : S s = true) (hT : S t = false) :
    F = fb_sm (fun e => if S (hd (fc_xr e)) = true ∧ S (hd e) = false then c e - L e else 0) (2 * m) := by
  obtain ⟨R, h0, h1⟩ := h
  have k := fc_cut H R (fun n => !S n)
  have k1 : fb_sm (fun n => if (!S n) = true then fc_ex m hd c L n else 0) 16 = fb_sm (fun n => if n = t then F else 0) 16 := by
    refine fb_congr (fun n hn => ?_)
    by_cases q : n = t
    · subst q
      rw [if_pos rfl, hT, ← h1]; simp
    · rw [if_neg q]
      by_cases w : n = s
      · subst w
        rw [hs]; simp
      · rw [h0 n hn w q]; simp
  have k2 : fb_sm (fun e => if (!S (hd e)) = true ∧ (!S (hd (fc_xr e))) = false then c e - L e else 0) (2 * m) = fb_sm (fun e => if S (hd (fc_xr e)) = true ∧ S (hd e) = false then c e - L e else 0) (2 * m) := by
    refine fb_congr (fun e he => ?_)
    cases S (hd e) <;> cases S (hd (fc_xr e)) <;> simp
  have k3 := fb_one F ht
  rw [k1, k2, k3] at k
  exact k
theorem fc_res (H : ∀ e, e < 2 * m → hd e < 16) (h : fc_FS m hd c s t L F) (ht : t < 16) (hs : S s = true) (hT : S t = false) :
    F = fc_cap m hd c S - fb_sm (fun e => if S (hd (fc_xr e)) = true ∧ S (hd e) = false then L e else 0) (2 * m) := by
  rw [fc_val H h ht hs hT]
  unfold fc_cap
  rw [← fb_sub]
  refine fb_congr (fun e he => ?_)
  split <;> omega
theorem fc_Fle (H : ∀ e, e < 2 * m → hd e < 16) (h : fc_FS m hd c s t L F) (ht : t < 16) (hs : S s = true) (hT : S t = false) : F ≤ fc_cap m hd c S := by
  have k := fc_res H h ht hs hT
  have k2 : 0 ≤ fb_sm (fun e => if S (hd (fc_xr e)) = true ∧ S (hd e) = false then L e else 0) (2 * m) := by
    refine fb_nn (fun e he => ?_)
    have := (h.1 e he).1
    split <;> omega
  omega
theorem fc_Fcl (H : ∀ e, e < 2 * m → hd e < 16) (h : fc_FS m hd c s t L F) (ht : t < 16) (hs : S s = true) (hT : S t = false) (hc : fc_cl m hd L S) : F = fc_cap m hd c S := by
  have k := fc_res H h ht hs hT
  rw [fb_zero (f := fun e => if S (hd (fc_xr e)) = true ∧ S (hd e) = false then L e else 0) (fun e he => ?_)] at k
  · omega
  · split
    · next z => exact hc e he z.1 z.2
    · rfl
theorem fc_clF (H : ∀ e, e < 2 * m → hd e < 16) (h : fc_FS m hd c s t L F) (ht : t < 16) (hs : S s = true) (hT : S t = false) (hF : F = fc_cap m hd c S) : fc_cl m hd L S := by
  have k := fc_res H h ht hs hT
  intro e he h1 h2
  have z := fb_eq0 (f := fun e => if S (hd (fc_xr e)) = true ∧ S (hd e) = false then L e else 0) (n := 2 * m) (fun i hi => by
    have := (h.1 i hi).1
    split <;> omega) (by omega) e he
  rwa [if_pos ⟨h1, h2⟩] at z
theorem fc_tot (h : fc_CP m c) : fb_sm c (2 * m) ≤ 2772 := by
  rw [fb_pair]
  have k : fb_sm (fun j => c (2 * j) + c (2 * j + 1)) m ≤ fb_sm (fun _ => 99) m := fb_le (fun j hj => by
    have := h.2 j hj
    omega)
  rw [fb_const] at k
  have := h.1
  omega
theorem fc_F99 (H : ∀ e, e < 2 * m → hd e < 16) (C : fc_CP m c) (h : fc_FS m hd c s t L F) (ht : t < 16) (hst : s ≠ t) : F ≤ 2772 := by
  have k := fc_Fle (S := fun n => decide (n = s)) H h ht (by simp) (by simp; exact fun z => hst z.symm)
  have k2 : fc_cap m hd c (fun n => decide (n = s)) ≤ fb_sm c (2 * m) := by
    refine fb_le (fun e he => ?_)
    have := (fc_CPe C he).1
    split <;> omega
  have := fc_tot C
  omega
/-- a way's edge is filled: excess moves from its beginning to its end -/
theorem fc_RVin (C : fc_CP m c) (R : fc_RV m c L) {e : Nat} (he : e < 2 * m) : 0 ≤ L e ∧ L e ≤ 99 := ⟨(fc_L99 C R he).1, (fc_L99 C R he).2.1⟩
end FC
/-! pigeonhole: fewer places than numbers -/
theorem fc_pig (f : Nat → Int) : ∀ (k : Nat) (l : List Nat) (a : Int), l.length < k → ∃ h : Int, a ≤ h ∧ h < a + k ∧ ∀ n, n ∈ l → f n ≠ h := by
  intro k
  induction k with
  | zero => intro l a h; omega
  | succ k ih =>
    intro l a hl
    by_cases z : ∃ n, n ∈ l ∧ f n = a + k
    · obtain ⟨n, hn, hf⟩ := z
      obtain ⟨h, h1, h2, h3⟩ := ih (l.erase n) a (by rw [List.length_erase_of_mem hn]; have := List.length_pos_of_mem hn; omega)
      refine ⟨h, h1, by omega, fun q hq => ?_⟩
      by_cases w : q = n
      · subst w; omega
      · exact h3 q ((List.mem_erase_of_ne w).mpr hq)
    · exact ⟨a + k, by omega, by omega, fun n hn hf => z ⟨n, hn, hf⟩⟩
end
section
/-! 03: bits: the first family of the kit's BITS rows, pasted (a starting text); then rows of this claim -/
def bt (x : Int32) (i : Nat) : Bool := x.toBitVec.getLsbD i
theorem b_ext {x y : Int32} (h : ∀ i, i < 32 → bt x i = bt y i) : x = y := Int32.toBitVec_inj.mp (BitVec.eq_of_getLsbD_eq (fun i hi => h i hi))
theorem b_or (x y : Int32) (i : Nat) : bt (x ||| y) i = (bt x i || bt y i) := by unfold bt; rw [Int32.toBitVec_or, BitVec.getLsbD_or]
theorem b_and (x y : Int32) (i : Nat) : bt (x &&& y) i = (bt x i && bt y i) := by unfold bt; rw [Int32.toBitVec_and, BitVec.getLsbD_and]
theorem b_xor (x y : Int32) (i : Nat) : bt (x ^^^ y) i = (bt x i ^^ bt y i) := by unfold bt; rw [Int32.toBitVec_xor, BitVec.getLsbD_xor]
theorem b_big {x : Int32} {i : Nat} (h : 32 ≤ i) : bt x i = false := BitVec.getLsbD_of_ge _ _ h
theorem b_255 (i : Nat) : bt 255 i = decide (i < 8) := by
  rcases Nat.lt_or_ge i 32 with h | h
  · exact (by decide +kernel : ∀ i, i < 32 → bt 255 i = decide (i < 8)) i h
  · rw [b_big h, decide_eq_false (by omega)]
theorem b_m1 : ∀ i, i < 32 → bt (-1) i = true := by decide +kernel
theorem b_0 (i : Nat) : bt 0 i = false := BitVec.getLsbD_zero
theorem s_l : ∀ n, n < 32 → ((nI n &&& 31).toBitVec.smod 32).toNat = n := by decide +kernel
theorem b_shl (n : Nat) (hn : n < 32) (x : Int32) {i : Nat} (hi : i < 32) : bt (x <<< (nI n &&& 31)) i = (decide (n ≤ i) && bt x (i - n)) := by
  unfold bt
  rw [Int32.toBitVec_shiftLeft]
  show (x.toBitVec <<< ((nI n &&& 31).toBitVec.smod 32).toNat).getLsbD i = _
  rw [s_l n hn, BitVec.getLsbD_shiftLeft]
  rcases Nat.lt_or_ge i n with h | h
  · simp [h, Nat.not_le.mpr h]
  · simp [hi, h, Nat.not_lt.mpr h]
theorem b_sshr (n : Nat) (hn : n < 32) (x : Int32) {i : Nat} (hi : i < 32) : bt (x >>> (nI n &&& 31)) i = if n + i < 32 then bt x (n + i) else bt x 31 := by
  unfold bt
  rw [Int32.toBitVec_shiftRight]
  show (x.toBitVec.sshiftRight ((nI n &&& 31).toBitVec.smod 32).toNat).getLsbD i = _
  rw [s_l n hn, BitVec.getLsbD_sshiftRight, BitVec.msb_eq_getLsbD_last]
  simp [hi]
/-! rows of this claim -/
theorem fb1_1 : ∀ i, i < 32 → bt 1 i = decide (i = 0) := by decide +kernel
theorem fb1_z {x : Int32} {k : Nat} (hk : k < 32) : ((x >>> (nI k &&& 31)) &&& 1) = 0 ↔ bt x k = false := by
  have h0 : bt ((x >>> (nI k &&& 31)) &&& 1) 0 = bt x k := by
    rw [b_and, b_sshr k hk x (by omega), fb1_1 0 (by omega), Nat.add_zero, if_pos hk]; simp
  constructor
  · intro z
    rw [← h0, z, b_0]
  · intro z
    refine b_ext (fun i hi => ?_)
    rw [b_0]
    by_cases e : i = 0
    · subst e; rw [h0, z]
    · rw [b_and, fb1_1 i hi, decide_eq_false e, Bool.and_false]
theorem fb1_o {x : Int32} {k : Nat} (hk : k < 32) : ((x >>> (nI k &&& 31)) &&& 1) = 1 ↔ bt x k = true := by
  have h0 : bt ((x >>> (nI k &&& 31)) &&& 1) 0 = bt x k := by
    rw [b_and, b_sshr k hk x (by omega), fb1_1 0 (by omega), Nat.add_zero, if_pos hk]; simp
  constructor
  · intro z
    rw [← h0, z]; decide
  · intro z
    refine b_ext (fun i hi => ?_)
    by_cases e : i = 0
    · subst e; rw [h0, z]; decide
    · rw [b_and, fb1_1 i hi, decide_eq_false e, Bool.and_false]
theorem fb1_h {k i : Nat} (hk : k < 32) (hi : i < 32) : bt ((1 : Int32) <<< (nI k &&& 31)) i = decide (i = k) := by
  rw [b_shl k hk 1 hi, fb1_1 (i - k) (by omega)]
  by_cases e : i = k
  · subst e; simp
  · by_cases q : k ≤ i
    · simp [q, e]; omega
    · simp [q, e]
theorem fb1_or0 (x : Int32) : x ||| 0 = x := by
  refine b_ext (fun i hi => ?_)
  rw [b_or, b_0, Bool.or_false]
/-- a set of nodes as a mask -/
theorem fb1_oh {x : Int32} {k i : Nat} (hk : k < 32) (hi : i < 32) : bt (x ||| ((1 : Int32) <<< (nI k &&& 31))) i = (bt x i || decide (i = k)) := by
  rw [b_or, fb1_h hk hi]
theorem fb1_ah {x : Int32} {k i : Nat} (hk : k < 32) (hi : i < 32) : bt (x &&& (((1 : Int32) <<< (nI k &&& 31)) ^^^ (-1))) i = (bt x i && !decide (i = k)) := by
  rw [b_and, b_xor, fb1_h hk hi, b_m1 i hi, Bool.xor_true]
end
section
/-! 04: the network is laid -/
theorem fa_t8 {i : Nat} (h : 8 ≤ i) (hi : i < 1000000) : (8 : Int32) ≤ nI i := (fa_ge (N := 8) rfl hi (by omega)).mpr h
theorem fa_f8 {i : Nat} (h : i < 8) : ¬ (8 : Int32) ≤ nI i := fun z => by have := (fa_ge (N := 8) rfl (by omega) (by omega)).mp z; omega
theorem fa_t16 {i : Nat} (h : 16 ≤ i) (hi : i < 1000000) : (16 : Int32) ≤ nI i := (fa_ge (N := 16) rfl hi (by omega)).mpr h
theorem fa_f16 {i : Nat} (h : i < 16) : ¬ (16 : Int32) ≤ nI i := fun z => by have := (fa_ge (N := 16) rfl (by omega) (by omega)).mp z; omega
theorem fa_t20 {i : Nat} (h : 20 ≤ i) (hi : i < 1000000) : (20 : Int32) ≤ nI i := (fa_ge (N := 20) rfl hi (by omega)).mpr h
theorem fa_f20 {i : Nat} (h : i < 20) : ¬ (20 : Int32) ≤ nI i := fun z => by have := (fa_ge (N := 20) rfl (by omega) (by omega)).mp z; omega
theorem fa_t64 {i : Nat} (h : 64 ≤ i) (hi : i < 1000000) : (64 : Int32) ≤ nI i := (fa_ge (N := 64) rfl hi (by omega)).mpr h
theorem fa_f64 {i : Nat} (h : i < 64) : ¬ (64 : Int32) ≤ nI i := fun z => by have := (fa_ge (N := 64) rfl (by omega) (by omega)).mp z; omega
/-- a chain of edges -/
def fd_Ch (nx : Nat → Int32) : List Nat → Int32 → Prop
  | [], x => x = -1
  | e :: r, x => x = nI e ∧ e < 56 ∧ fd_Ch nx r (nx e)
theorem fd_Chb {nx : Nat → Int32} {l : List Nat} {x : Int32} (h : fd_Ch nx l x) : vp_nar .byte x = x := by
  cases l with
  | nil => rw [show x = -1 from h]; exact fa_bm1
  | cons e r => rw [h.1]; exact (fa_byte e (by have := h.2.1; omega)).1
theorem fd_Chu {nx : Nat → Int32} {k : Nat} {y : Int32} : ∀ {l : List Nat} {x : Int32}, fd_Ch nx l x → (∀ e, e ∈ l → e ≠ k) → fd_Ch (upd nx k y) l x := by
  intro l
  induction l with
  | nil => intro x h _; exact h
  | cons e r ih =>
    intro x h hk
    refine ⟨h.1, h.2.1, ?_⟩
    rw [fa_un (hk e (List.mem_cons_self ..))]
    exact ih h.2.2 (fun a ha => hk a (List.mem_cons_of_mem _ ha))
def fd_Nt (m : Nat) (hd : Nat → Nat) (adj : Nat → List Nat) (aet afe anx : Nat → Int32) : Prop :=
  m ≤ 28 ∧ (∀ e, e < 2 * m → aet e = nI (hd e)) ∧ fc_HD m hd ∧ (∀ v, v < 16 → fd_Ch anx (adj v) (afe v)) ∧
  (∀ v, v < 16 → ∀ e, e ∈ adj v ↔ (e < 2 * m ∧ hd (fc_xr e) = v)) ∧ (∀ v, v < 16 → (adj v).Nodup)
def fd_hd (m : Nat) (hd : Nat → Nat) (a b : Nat) : Nat → Nat := fun e => if e = 2 * m then b else if e = 2 * m + 1 then a else hd e
def fd_ad (m : Nat) (adj : Nat → List Nat) (a b : Nat) : Nat → List Nat := fun v => if v = a then (2 * m) :: adj v else if v = b then (2 * m + 1) :: adj v else adj v
def fd_c (m : Nat) (c : Nat → Int) (r : Int) : Nat → Int := fun e => if e = 2 * m then r else if e = 2 * m + 1 then 0 else c e
theorem fd_hd0 {m a b : Nat} {hd : Nat → Nat} : fd_hd m hd a b (2 * m) = b := if_pos rfl
theorem fd_hd1 {m a b : Nat} {hd : Nat → Nat} : fd_hd m hd a b (2 * m + 1) = a := by
  unfold fd_hd
  rw [if_neg (by omega), if_pos rfl]
theorem fd_hdo {m a b e : Nat} {hd : Nat → Nat} (h : e < 2 * m) : fd_hd m hd a b e = hd e := by
  unfold fd_hd
  rw [if_neg (by omega), if_neg (by omega)]
theorem fd_c0 {m : Nat} {c : Nat → Int} {r : Int} : fd_c m c r (2 * m) = r := if_pos rfl
theorem fd_c1 {m : Nat} {c : Nat → Int} {r : Int} : fd_c m c r (2 * m + 1) = 0 := by
  unfold fd_c
  rw [if_neg (by omega), if_pos rfl]
theorem fd_co {m e : Nat} {c : Nat → Int} {r : Int} (h : e < 2 * m) : fd_c m c r e = c e := by
  unfold fd_c
  rw [if_neg (by omega), if_neg (by omega)]
/-- an arc more -/
theorem fd_NtS {m a b : Nat} {hd : Nat → Nat} {adj : Nat → List Nat} {aet afe anx : Nat → Int32} (N : fd_Nt m hd adj aet afe anx) (hm : m < 28) (ha : a < 16) (hb : b < 16) (hab : a ≠ b) :
    fd_Nt (m + 1) (fd_hd m hd a b) (fd_ad m adj a b) (upd (upd aet (2 * m) (nI b)) (2 * m + 1) (nI a)) (upd (upd afe a (nI (2 * m))) b (nI (2 * m + 1))) (upd (upd anx (2 * m) (afe a)) (2 * m + 1) (afe b)) := by
  obtain ⟨N1, N2, N3, N4, N5, N6⟩ := N
  have old : ∀ v, v < 16 → ∀ e, e ∈ adj v → e < 2 * m := fun v hv e he => ((N5 v hv e).mp he).1
  have cases2 : ∀ e, e < 2 * (m + 1) → e = 2 * m ∨ e = 2 * m + 1 ∨ e < 2 * m := fun e he => by omega
  refine ⟨by omega, ?_, ?_, ?_, ?_, ?_⟩
  · intro e he
    rcases cases2 e he with h | h | h
    · subst h; rw [fa_un (by omega), fa_us, fd_hd0]
    · subst h; rw [fa_us, fd_hd1]
    · rw [fa_un (by omega), fa_un (by omega), fd_hdo h, N2 e h]
  · intro e he
    rcases cases2 e he with h | h | h
    · subst h; rw [fc_x0, fd_hd0, fd_hd1]; exact ⟨hb, hab⟩
    · subst h; rw [fc_x1, fd_hd0, fd_hd1]; exact ⟨ha, fun z => hab z.symm⟩
    · rw [fd_hdo h, fd_hdo (fc_xlt h)]; exact N3 e h
  · intro v hv
    have base : fd_Ch (upd (upd anx (2 * m) (afe a)) (2 * m + 1) (afe b)) (adj v) (afe v) :=
      fd_Chu (fd_Chu (N4 v hv) (fun e he => by have := old v hv e he; omega)) (fun e he => by have := old v hv e he; omega)
    unfold fd_ad
    by_cases h1 : v = a
    · subst h1
      rw [if_pos rfl, fa_un hab, fa_us]
      refine ⟨rfl, by omega, ?_⟩
      rw [fa_un (by omega), fa_us]; exact base
    · rw [if_neg h1]
      by_cases h2 : v = b
      · subst h2
        rw [if_pos rfl, fa_us]
        refine ⟨rfl, by omega, ?_⟩
        rw [fa_us]; exact base
      · rw [if_neg h2, fa_un h2, fa_un h1]; exact base
  · intro v hv e
    have q := N5 v hv e
    constructor
    · intro h
      unfold fd_ad at h
      by_cases h1 : v = a
      · rw [if_pos h1] at h
        rcases List.mem_cons.mp h with z | z
        · subst z; exact ⟨by omega, by rw [fc_x0, fd_hd1]; exact h1.symm⟩
        · have w := q.mp z
          exact ⟨by omega, by rw [fd_hdo (fc_xlt w.1)]; exact w.2⟩
      · rw [if_neg h1] at h
        by_cases h2 : v = b
        · rw [if_pos h2] at h
          rcases List.mem_cons.mp h with z | z
          · subst z; exact ⟨by omega, by rw [fc_x1, fd_hd0]; exact h2.symm⟩
          · have w := q.mp z
            exact ⟨by omega, by rw [fd_hdo (fc_xlt w.1)]; exact w.2⟩
        · rw [if_neg h2] at h
          have w := q.mp h
          exact ⟨by omega, by rw [fd_hdo (fc_xlt w.1)]; exact w.2⟩
    · intro h
      have hin : e ∈ adj v → e ∈ fd_ad m adj a b v := by
        intro z
        unfold fd_ad
        split
        · exact List.mem_cons_of_mem _ z
        · split
          · exact List.mem_cons_of_mem _ z
          · exact z
      rcases cases2 e h.1 with z | z | z
      · subst z
        have w := h.2
        rw [fc_x0, fd_hd1] at w
        unfold fd_ad
        rw [if_pos w.symm]; exact List.mem_cons_self ..
      · subst z
        have w := h.2
        rw [fc_x1, fd_hd0] at w
        unfold fd_ad
        rw [if_neg (fun z => hab (z.symm.trans w.symm)), if_pos w.symm]; exact List.mem_cons_self ..
      · have w := h.2
        rw [fd_hdo (fc_xlt z)] at w
        exact hin (q.mpr ⟨z, w⟩)
  · intro v hv
    unfold fd_ad
    split
    · exact List.nodup_cons.mpr ⟨fun z => by have := old v hv _ z; omega, N6 v hv⟩
    · split
      · exact List.nodup_cons.mpr ⟨fun z => by have := old v hv _ z; omega, N6 v hv⟩
      · exact N6 v hv
section NETW
variable {fpr fso fsi fed ffl fqf fqs foc : Int32} {afo ato aro aet ale afe anx alv acu acb aex ahs aqu aqd apa ago ane atr aor : Nat → Int32}
variable {m : Nat} {hd : Nat → Nat} {adj : Nat → List Nat}
theorem fe_addEdge {post : SX → Prop} {a b : Nat} {r : Int32} (N : fd_Nt m hd adj aet afe anx) (hm : m < 28) (ha : a < 16) (hb : b < 16) (hab : a ≠ b)
    (K : ∀ aet' ale' afe' anx', fd_Nt (m + 1) (fd_hd m hd a b) (fd_ad m adj a b) aet' afe' anx' → (∀ e, e < 2 * m → ale' e = ale e) → ale' (2 * m) = r → ale' (2 * m + 1) = 0 →
      post (fpr, fso, fsi, nI (2 * (m + 1)), ffl, fqf, fqs, foc, afo, ato, aro, aet', ale', afe', anx', alv, acu, acb, aex, ahs, aqu, aqd, apa, ago, ane, atr, aor)) :
    wpX_addEdge post (fpr, fso, fsi, nI (2 * m), ffl, fqf, fqs, foc, afo, ato, aro, aet, ale, afe, anx, alv, acu, acb, aex, ahs, aqu, aqd, apa, ago, ane, atr, aor) (nI a) (nI b) r := by
  have c0 : (nI (2 * m)).toNatClampNeg = 2 * m := fa_cl (by omega)
  have e1 : nI (2 * m) + 1 = nI (2 * m + 1) := nI_1 _
  have c1 : (nI (2 * m) + 1).toNatClampNeg = 2 * m + 1 := by rw [e1]; exact fa_cl (by omega)
  have ca : (nI a).toNatClampNeg = a := fa_cl (by omega)
  have cb : (nI b).toNatClampNeg = b := fa_cl (by omega)
  have w0 : vp_in (nI (2 * m)) 56 := fa_in (by omega) (by omega)
  have w1 : vp_in (nI (2 * m) + 1) 56 := by rw [e1]; exact fa_in (by omega) (by omega)
  have wa : vp_in (nI a) 16 := fa_in ha (by omega)
  have wb : vp_in (nI b) 16 := fa_in hb (by omega)
  have ba := fd_Chb (N.2.2.2.1 a ha)
  have bb := fd_Chb (N.2.2.2.1 b hb)
  refine ⟨w0, nm_r (e' := upd aet (2 * m) (nI b)) (by rw [c0, (fa_byte b (by omega)).2]) ⟨w0, nm_r (e' := upd ale (2 * m) r) (by rw [c0]) ⟨wa, w0, nm_r (e' := upd anx (2 * m) (afe a)) (by rw [c0, ca, ba]) ⟨wa, nm_r (e' := upd afe a (nI (2 * m))) (by rw [ca, (fa_byte (2 * m) (by omega)).2]) ⟨w1, nm_r (e' := upd (upd aet (2 * m) (nI b)) (2 * m + 1) (nI a)) (by rw [c1, (fa_byte a (by omega)).2]) ⟨w1, nm_r (e' := upd (upd ale (2 * m) r) (2 * m + 1) 0) (by rw [c1]) ⟨wb, w1, nm_r (e' := upd (upd anx (2 * m) (afe a)) (2 * m + 1) (afe b)) (by rw [c1, cb, fa_un (fun z => hab z.symm), bb]) ⟨wb, nm_r (e' := upd (upd afe a (nI (2 * m))) b (nI (2 * m + 1))) (by rw [cb, e1, (fa_byte (2 * m + 1) (by omega)).2]) (nm_r (e' := nI (2 * (m + 1))) (nI_add (2 * m) 2) ?_)⟩⟩⟩⟩⟩⟩⟩⟩
  exact K _ _ _ _ (fd_NtS N hm ha hb hab) (fun e he => by rw [fa_un (by omega), fa_un (by omega)]) (by rw [fa_un (by omega), fa_us]) fa_us
end NETW
end
section
/-! 05: lay -/
def fd_Dt (fpr : Int32) (afo ato aro : Nat → Int32) (th : Nat → Bool) (fr tt rm : Nat → Nat) : Prop :=
  (∀ i, i < 32 → bt fpr i = (decide (i < 20) && th i)) ∧
  ∀ k, k < 20 → afo k = nI (fr k) ∧ ato k = nI (tt k) ∧ aro k = nI (rm k) ∧ fr k < 8 ∧ tt k < 8 ∧ rm k ≤ 99 ∧ (th k = true → fr k ≠ tt k)
def fd_oo (kind s t p : Nat) : Nat := if 2 ≤ kind ∧ p ≠ s ∧ p ≠ t then p + 8 else p
def fd_rv (kind r : Nat) : Nat := if kind = 1 ∨ kind = 2 then (if 0 < r then 1 else 0) else r
def fd_AT (kind s t : Nat) (th : Nat → Bool) (fr tt rm : Nat → Nat) (g : Nat → Nat → Int → Int) : Nat → Int :=
  fun k => if th k = true then g (fd_oo kind s t (fr k)) (tt k) (fd_rv kind (rm k)) else 0
def fd_PT (kind s t much : Nat) (g : Nat → Nat → Int → Int) : Nat → Int :=
  fun p => if p ≠ s ∧ p ≠ t ∧ 2 ≤ kind then g p (p + 8) much else 0
def fd_LI (Z : (Nat → Nat → Int → Int) → Int) (m : Nat) (hd : Nat → Nat) (adj : Nat → List Nat) (c : Nat → Int) (aet ale afe anx : Nat → Int32) : Prop :=
  fd_Nt m hd adj aet afe anx ∧ fc_CP m c ∧ (∀ e, e < 2 * m → (ale e).toInt = c e) ∧
  ∀ g : Nat → Nat → Int → Int, fb_sm (fun j => g (hd (2 * j + 1)) (hd (2 * j)) (c (2 * j))) m = Z g
theorem fd_LIz {Z Z' : (Nat → Nat → Int → Int) → Int} {m : Nat} {hd : Nat → Nat} {adj : Nat → List Nat} {c : Nat → Int} {aet ale afe anx : Nat → Int32}
    (h : fd_LI Z m hd adj c aet ale afe anx) (e : ∀ g, Z g = Z' g) : fd_LI Z' m hd adj c aet ale afe anx := ⟨h.1, h.2.1, h.2.2.1, fun g => (h.2.2.2 g).trans (e g)⟩
theorem fd_oo_lt {kind s t p : Nat} (h : p < 8) : fd_oo kind s t p < 16 := by
  unfold fd_oo
  split <;> omega
theorem fd_oo_ne {kind s t p q : Nat} (hq : q < 8) (h : p ≠ q) : fd_oo kind s t p ≠ q := by
  unfold fd_oo
  split <;> omega
theorem fd_rv_le {kind r : Nat} (h : r ≤ 99) : fd_rv kind r ≤ 99 := by
  unfold fd_rv
  split
  · split <;> omega
  · exact h
section LAYW
variable {fpr fso fsi fed ffl fqf fqs foc : Int32} {afo ato aro aet ale afe anx alv acu acb aex ahs aqu aqd apa ago ane atr aor : Nat → Int32}
variable {th : Nat → Bool} {fr tt rm : Nat → Nat} {kind s t much : Nat}
theorem fe_has {post : Int32 → Prop} {k : Nat} (D : ∀ i, i < 32 → bt fpr i = (decide (i < 20) && th i)) (hk : k < 20) (h1 : th k = true → post 1) (h0 : th k = false → post 0) :
    wpX_has post (fpr, fso, fsi, fed, ffl, fqf, fqs, foc, afo, ato, aro, aet, ale, afe, anx, alv, acu, acb, aex, ahs, aqu, aqd, apa, ago, ane, atr, aor) (nI k) := by
  have e : bt fpr k = th k := by rw [D k (by omega), decide_eq_true hk, Bool.true_and]
  refine br_f (fa_lt0 (by omega)) (br_f (fa_f20 hk) (br_c (fun z => h0 ?_) (fun z => h1 ?_)))
  · rw [← e]; exact (fb1_z (by omega)).mp z
  · cases q : th k with
    | true => rfl
    | false => exact absurd ((fb1_z (by omega)).mpr (e.trans q)) z
theorem fe_outOf {post : Int32 → Prop} {p : Nat} (hp : p < 8) (hs : s < 8) (ht : t < 8) (hk : kind < 4) (h : post (nI (fd_oo kind s t p))) :
    wpX_outOf post (fpr, nI s, nI t, fed, ffl, fqf, fqs, foc, afo, ato, aro, aet, ale, afe, anx, alv, acu, acb, aex, ahs, aqu, aqd, apa, ago, ane, atr, aor) (nI p) (nI kind) := by
  have k2 : nI kind < 2 ↔ kind < 2 := by
    rw [show (2 : Int32) = nI 2 from rfl, nI_ltI (by omega) (by omega)]
  unfold fd_oo at h
  refine br_c (fun z => ?_) (fun z => br_c (fun z1 => ?_) (fun z1 => br_c (fun z2 => ?_) (fun z2 => ?_)))
  · have q := k2.mp z
    rw [if_neg (by omega)] at h
    exact br_t rfl h
  · have q := fa_inj z1 (by omega) (by omega)
    rw [if_neg (by omega)] at h
    exact br_t rfl h
  · have q := fa_inj z2 (by omega) (by omega)
    rw [if_neg (by omega)] at h
    exact br_t rfl h
  · have q1 : ¬ p = s := fun w => z1 (by rw [w])
    have q2 : ¬ p = t := fun w => z2 (by rw [w])
    have q0 : ¬ kind < 2 := fun w => z (k2.mpr w)
    rw [if_pos ⟨by omega, q1, q2⟩, ← nI_add] at h
    exact br_f (by decide) h
theorem fe_add1 {post : SX → Prop} {Z : (Nat → Nat → Int → Int) → Int} {m a b : Nat} {hd : Nat → Nat} {adj : Nat → List Nat} {c : Nat → Int} {r : Int32}
    (N : fd_LI Z m hd adj c aet ale afe anx) (hm : m < 28) (ha : a < 16) (hb : b < 16) (hab : a ≠ b) (h0 : 0 ≤ r.toInt) (h9 : r.toInt ≤ 99)
    (K : ∀ hd' adj' c' aet' ale' afe' anx', fd_LI (fun g => Z g + g a b r.toInt) (m + 1) hd' adj' c' aet' ale' afe' anx' →
      post (fpr, fso, fsi, nI (2 * (m + 1)), ffl, fqf, fqs, foc, afo, ato, aro, aet', ale', afe', anx', alv, acu, acb, aex, ahs, aqu, aqd, apa, ago, ane, atr, aor)) :
    wpX_addEdge post (fpr, fso, fsi, nI (2 * m), ffl, fqf, fqs, foc, afo, ato, aro, aet, ale, afe, anx, alv, acu, acb, aex, ahs, aqu, aqd, apa, ago, ane, atr, aor) (nI a) (nI b) r := by
  obtain ⟨N1, C, E, Zg⟩ := N
  refine fe_addEdge N1 hm ha hb hab (fun aet' ale' afe' anx' N' k1 k2 k3 => K _ _ (fd_c m c r.toInt) _ _ _ _ ⟨N', ⟨by omega, fun j hj => ?_⟩, fun e he => ?_, fun g => ?_⟩)
  · by_cases q : j = m
    · subst q; rw [fd_c0, fd_c1]; exact ⟨h0, h9, rfl⟩
    · rw [fd_co (by omega), fd_co (by omega)]; exact C.2 j (by omega)
  · by_cases q1 : e = 2 * m
    · subst q1; rw [k2, fd_c0]
    · by_cases q2 : e = 2 * m + 1
      · subst q2; rw [k3, fd_c1, fa_0]
      · rw [k1 e (by omega), fd_co (by omega)]; exact E e (by omega)
  · show _ = Z g + g a b r.toInt
    rw [fb_s, fd_hd1, fd_hd0, fd_c0, ← Zg g]
    congr 1
    refine fb_congr (fun j hj => ?_)
    rw [fd_hdo (by omega), fd_hdo (by omega), fd_co (by omega)]
theorem fe_l137 {post : SX → Prop} {A : (Nat → Nat → Int → Int) → Int} (hs : s < 8) (ht : t < 8) (hk : kind < 4) (h2 : 2 ≤ kind) (hmu : much ≤ 99)
    (K : ∀ m hd adj c aet ale afe anx, fd_LI (fun g => A g + fb_sm (fd_PT kind s t much g) 8) m hd adj c aet ale afe anx → post (fpr, fso, fsi, nI (2 * m), ffl, fqf, fqs, foc, afo, ato, aro, aet, ale, afe, anx, alv, acu, acb, aex, ahs, aqu, aqd, apa, ago, ane, atr, aor)) :
    ∀ (d p m : Nat) (hd : Nat → Nat) (adj : Nat → List Nat) (c : Nat → Int) (aet ale afe anx : Nat → Int32), p + d = 8 → m + d ≤ 28 →
      fd_LI (fun g => A g + fb_sm (fd_PT kind s t much g) p) m hd adj c aet ale afe anx →
      wX_lay_137 post (nI kind) (nI s) (nI t) (nI much) (d + 1) (nI p) fpr fso fsi (nI (2 * m)) ffl fqf fqs foc afo ato aro aet ale afe anx alv acu acb aex ahs aqu aqd apa ago ane atr aor := by
  intro d
  induction d with
  | zero =>
    intro p m hd adj c aet ale afe anx hp hm I
    obtain rfl : p = 8 := by omega
    rw [wX_lay_137]
    exact br_t (fa_t8 (by omega) (by omega)) (K _ _ _ _ _ _ _ _ I)
  | succ d ih =>
    intro p m hd adj c aet ale afe anx hp hm I
    rw [wX_lay_137]
    refine br_f (fa_f8 (by omega)) (br_f (fun z => ?_) (br_c (fun z => nm_r (nI_1 p) ?_) (fun z => br_c (fun z2 => nm_r (nI_1 p) ?_) (fun z2 => ?_))))
    · rw [show (2 : Int32) = nI 2 from rfl, nI_ltI (by omega) (by omega)] at z; omega
    · have q := fa_inj z (by omega) (by omega)
      refine ih _ _ _ _ _ _ _ _ _ (by omega) (by omega) (fd_LIz I (fun g => ?_))
      rw [fb_s]
      simp only [fd_PT, if_neg (show ¬ (p ≠ s ∧ p ≠ t ∧ 2 ≤ kind) by omega), Int.add_zero]
    · have q := fa_inj z2 (by omega) (by omega)
      refine ih _ _ _ _ _ _ _ _ _ (by omega) (by omega) (fd_LIz I (fun g => ?_))
      rw [fb_s]
      simp only [fd_PT, if_neg (show ¬ (p ≠ s ∧ p ≠ t ∧ 2 ≤ kind) by omega), Int.add_zero]
    · have q1 : ¬ p = s := fun w => z (by rw [w])
      have q2 : ¬ p = t := fun w => z2 (by rw [w])
      have e8 : nI p + 8 = nI (p + 8) := nI_add p 8
      have tm : (nI much).toInt = (much : Int) := fa_ti (by omega)
      rw [e8]
      refine fe_add1 I (by omega) (by omega) (by omega) (by omega) (by rw [tm]; omega) (by rw [tm]; omega) (fun hd' adj' c' aet' ale' afe' anx' I' => nm_r (nI_1 p) (ih _ _ _ _ _ _ _ _ _ (by omega) (by omega) (fd_LIz I' (fun g => ?_))))
      rw [fb_s, tm]
      simp only [fd_PT, if_pos (show (p ≠ s ∧ p ≠ t ∧ 2 ≤ kind) from ⟨q1, q2, h2⟩), Int.add_assoc]
theorem fe_l125 {post : SX → Prop} {J : _} {Z : (Nat → Nat → Int → Int) → Int} {x1 x2 x3 x4 : Int32} {m a b v k : Nat} {hd : Nat → Nat} {adj : Nat → List Nat} {c : Nat → Int}
    (I : fd_LI Z m hd adj c aet ale afe anx) (hm : m < 28) (ha : a < 16) (hb : b < 16) (hab : a ≠ b) (hv : v ≤ 99)
    (K : ∀ hd' adj' c' aet' ale' afe' anx', fd_LI (fun g => Z g + g a b v) (m + 1) hd' adj' c' aet' ale' afe' anx' → J (nI (k + 1)) fpr fso fsi (nI (2 * (m + 1))) ffl fqf fqs foc afo ato aro aet' ale' afe' anx' alv acu acb aex ahs aqu aqd apa ago ane atr aor) :
    wX_lay_125 post J x1 x2 x3 x4 (nI k) (nI v) (nI b) (nI a) fpr fso fsi (nI (2 * m)) ffl fqf fqs foc afo ato aro aet ale afe anx alv acu acb aex ahs aqu aqd apa ago ane atr aor := by
  have tv : (nI v).toInt = (v : Int) := fa_ti (by omega)
  refine fe_add1 I hm ha hb hab (by rw [tv]; omega) (by rw [tv]; omega) (fun hd' adj' c' aet' ale' afe' anx' I' => nm_r (nI_1 k) (K _ _ _ _ _ _ _ (fd_LIz I' (fun g => ?_))))
  rw [tv]
theorem fe_l82 {post : SX → Prop} {J : _} {Z : (Nat → Nat → Int → Int) → Int} {x4 : Int32} {m k one : Nat} {hd : Nat → Nat} {adj : Nat → List Nat} {c : Nat → Int}
    (hs : s < 8) (ht : t < 8) (hk4 : kind < 4) (hk : k < 20) (hf : afo k = nI (fr k)) (htt : ato k = nI (tt k)) (f8 : fr k < 8) (t8 : tt k < 8) (r9 : rm k ≤ 99) (hft : fr k ≠ tt k)
    (ho : one = if 0 < rm k then 1 else 0) (hm : m < 28) (I : fd_LI Z m hd adj c aet ale afe anx)
    (K : ∀ hd' adj' c' aet' ale' afe' anx', fd_LI (fun g => Z g + g (fd_oo kind s t (fr k)) (tt k) (fd_rv kind (rm k))) (m + 1) hd' adj' c' aet' ale' afe' anx' → J (nI (k + 1)) fpr (nI s) (nI t) (nI (2 * (m + 1))) ffl fqf fqs foc afo ato aro aet' ale' afe' anx' alv acu acb aex ahs aqu aqd apa ago ane atr aor) :
    wX_lay_82 post J (nI kind) (nI s) (nI t) x4 (nI k) (nI (rm k)) (nI one) fpr (nI s) (nI t) (nI (2 * m)) ffl fqf fqs foc afo ato aro aet ale afe anx alv acu acb aex ahs aqu aqd apa ago ane atr aor := by
  have ck : (nI k).toNatClampNeg = k := fa_cl (by omega)
  have w : vp_in (nI k) 20 := fa_in hk (by omega)
  have eF : afo (nI k).toNatClampNeg = nI (fr k) := by rw [ck, hf]
  have eT : ato (nI k).toNatClampNeg = nI (tt k) := by rw [ck, htt]
  have main : ∀ v : Nat, v = fd_rv kind (rm k) → wX_lay_125 post J (nI kind) (nI s) (nI t) x4 (nI k) (nI v) (nI (tt k)) (nI (fd_oo kind s t (fr k))) fpr (nI s) (nI t) (nI (2 * m)) ffl fqf fqs foc afo ato aro aet ale afe anx alv acu acb aex ahs aqu aqd apa ago ane atr aor := by
    intro v hv
    subst hv
    exact fe_l125 I hm (fd_oo_lt f8) (by omega) (fd_oo_ne t8 hft) (fd_rv_le r9) K
  unfold wX_lay_82
  rw [eF, eT]
  refine ⟨w, fe_outOf f8 hs ht hk4 ⟨w, br_c (fun z => main one ?_) (fun z => br_c (fun z2 => main one ?_) (fun z2 => main (rm k) ?_))⟩⟩
  · have q : kind = 1 := fa_inj (b := 1) z (by omega) (by omega)
    unfold fd_rv
    rw [if_pos (Or.inl q), ho]
  · have q : kind = 2 := fa_inj (b := 2) z2 (by omega) (by omega)
    unfold fd_rv
    rw [if_pos (Or.inr q), ho]
  · have q1 : ¬ kind = 1 := fun w => z (by rw [w]; rfl)
    have q2 : ¬ kind = 2 := fun w => z2 (by rw [w]; rfl)
    unfold fd_rv
    rw [if_neg (by omega)]
theorem fe_l47 {post : SX → Prop} {x4 : Int32} (D : fd_Dt fpr afo ato aro th fr tt rm) (hs : s < 8) (ht : t < 8) (hk4 : kind < 4)
    (K : ∀ m hd adj c aet ale afe anx, m ≤ 20 → fd_LI (fun g => fb_sm (fd_AT kind s t th fr tt rm g) 20) m hd adj c aet ale afe anx → ∃ n, wX_lay_137 post (nI kind) (nI s) (nI t) x4 n 0 fpr (nI s) (nI t) (nI (2 * m)) ffl fqf fqs foc afo ato aro aet ale afe anx alv acu acb aex ahs aqu aqd apa ago ane atr aor) :
    ∀ (d k m : Nat) (hd : Nat → Nat) (adj : Nat → List Nat) (c : Nat → Int) (aet ale afe anx : Nat → Int32), k + d = 20 → m ≤ k →
      fd_LI (fun g => fb_sm (fd_AT kind s t th fr tt rm g) k) m hd adj c aet ale afe anx →
      wX_lay_47 post (nI kind) (nI s) (nI t) x4 (d + 1) (nI k) fpr (nI s) (nI t) (nI (2 * m)) ffl fqf fqs foc afo ato aro aet ale afe anx alv acu acb aex ahs aqu aqd apa ago ane atr aor := by
  intro d
  induction d with
  | zero =>
    intro k m hd adj c aet ale afe anx hp hm I
    obtain rfl : k = 20 := by omega
    rw [wX_lay_47]
    exact br_t (fa_t20 (by omega) (by omega)) (K _ _ _ _ _ _ _ _ hm I)
  | succ d ih =>
    intro k m hd adj c aet ale afe anx hp hm I
    rw [wX_lay_47]
    have ck : (nI k).toNatClampNeg = k := fa_cl (by omega)
    have w : vp_in (nI k) 20 := fa_in (by omega) (by omega)
    obtain ⟨h1, h2, h3, h4, h5, h6, h7⟩ := D.2 k (by omega)
    refine br_f (fa_f20 (by omega)) (fe_has D.1 (by omega) (fun z => ?_) (fun z => ?_))
    · refine br_f (by decide) ⟨w, nm_r (e' := nI (rm k)) (by rw [ck, h3]) ?_⟩
      have go : ∀ hd' adj' c' aet' ale' afe' anx', fd_LI (fun g => fb_sm (fd_AT kind s t th fr tt rm g) k + g (fd_oo kind s t (fr k)) (tt k) (fd_rv kind (rm k))) (m + 1) hd' adj' c' aet' ale' afe' anx' →
          wX_lay_47 post (nI kind) (nI s) (nI t) x4 (d + 1) (nI (k + 1)) fpr (nI s) (nI t) (nI (2 * (m + 1))) ffl fqf fqs foc afo ato aro aet' ale' afe' anx' alv acu acb aex ahs aqu aqd apa ago ane atr aor := by
        intro hd' adj' c' aet' ale' afe' anx' I'
        refine ih _ _ _ _ _ _ _ _ _ (by omega) (by omega) (fd_LIz I' (fun g => ?_))
        rw [fb_s]
        simp only [fd_AT, if_pos z]
      have r0 : nI (rm k) ≤ 0 ↔ rm k = 0 := by rw [show (0 : Int32) = nI 0 from rfl, nI_leI (by omega) (by omega)]; omega
      refine br_c (fun q => ?_) (fun q => ?_)
      · exact fe_l82 (one := 0) hs ht hk4 (by omega) h1 h2 h4 h5 h6 (h7 z) (by rw [if_neg (by have := r0.mp q; omega)]) (by omega) I go
      · exact fe_l82 (one := 1) hs ht hk4 (by omega) h1 h2 h4 h5 h6 (h7 z) (by rw [if_pos (by have : ¬ rm k = 0 := fun y => q (r0.mpr y); omega)]) (by omega) I go
    · refine br_t rfl (nm_r (nI_1 k) (ih _ _ _ _ _ _ _ _ _ (by omega) (by omega) (fd_LIz I (fun g => ?_))))
      rw [fb_s]
      have zz : ¬ th k = true := by rw [z]; decide
      simp only [fd_AT, if_neg zz, Int.add_zero]
theorem fe_l23 {post : SX → Prop} {x1 x2 x3 x4 : Int32} (K : ∀ afe, (∀ j, j < 16 → afe j = -1) → ∃ n, wX_lay_47 post x1 x2 x3 x4 n 0 fpr fso fsi fed ffl fqf fqs foc afo ato aro aet ale afe anx alv acu acb aex ahs aqu aqd apa ago ane atr aor) :
    ∀ (d i : Nat) (afe : Nat → Int32), i + d = 16 → (∀ j, j < i → afe j = -1) → wX_lay_23 post x1 x2 x3 x4 fpr fso fsi fed ffl fqf fqs foc (d + 1) (nI i) afo ato aro aet ale afe anx alv acu acb aex ahs aqu aqd apa ago ane atr aor := by
  intro d
  induction d with
  | zero =>
    intro i afe hi h
    obtain rfl : i = 16 := by omega
    rw [wX_lay_23]
    exact br_t (fa_t16 (by omega) (by omega)) (K _ h)
  | succ d ih =>
    intro i afe hi h
    rw [wX_lay_23]
    refine br_f (fa_f16 (by omega)) ⟨fa_in (by omega) (by omega), nm_r (e' := upd afe i (-1)) (by rw [fa_cl (by omega), fa_bm1]) (nm_r (nI_1 i) (ih _ _ (by omega) (fun j hj => ?_)))⟩
    by_cases q : j = i
    · subst q; exact fa_us
    · rw [fa_un q]; exact h j (by omega)
def fd_TT (kind s t much : Nat) (th : Nat → Bool) (fr tt rm : Nat → Nat) (g : Nat → Nat → Int → Int) : Int :=
  fb_sm (fd_AT kind s t th fr tt rm g) 20 + fb_sm (fd_PT kind s t much g) 8
theorem fd_LI0 {hd : Nat → Nat} {c : Nat → Int} (h : ∀ j, j < 16 → afe j = -1) : fd_LI (fun _ => 0) 0 hd (fun _ => []) c aet ale afe anx :=
  ⟨⟨by omega, fun e he => by omega, fun e he => by omega, fun v hv => h v hv, fun v hv e => ⟨fun z => by simp at z, fun z => by omega⟩, fun v hv => List.nodup_nil⟩, ⟨by omega, fun j hj => by omega⟩, fun e he => by omega, fun g => rfl⟩
theorem fe_lay {post : SX → Prop} (D : fd_Dt fpr afo ato aro th fr tt rm) (hs : s < 8) (ht : t < 8) (hk4 : kind < 4) (hmu : much ≤ 99)
    (K : ∀ m hd adj c aet ale afe anx, fd_LI (fd_TT kind s t much th fr tt rm) m hd adj c aet ale afe anx → post (fpr, nI s, nI t, nI (2 * m), 0, fqf, fqs, foc, afo, ato, aro, aet, ale, afe, anx, alv, acu, acb, aex, ahs, aqu, aqd, apa, ago, ane, atr, aor)) :
    wpX_lay post (fpr, fso, fsi, fed, ffl, fqf, fqs, foc, afo, ato, aro, aet, ale, afe, anx, alv, acu, acb, aex, ahs, aqu, aqd, apa, ago, ane, atr, aor) (nI kind) (nI s) (nI t) (nI much) := by
  refine ⟨17, fe_l23 (fun afe h => ⟨21, fe_l47 D hs ht hk4 (fun m hd adj c aet ale afe anx hm I => ?_) 20 0 0 (fun _ => 0) (fun _ => []) (fun _ => 0) _ _ _ _ rfl (by omega) (fd_LIz (fd_LI0 h) (fun g => rfl))⟩) 16 0 _ rfl (fun j hj => by omega)⟩
  by_cases k2 : 2 ≤ kind
  · exact ⟨9, fe_l137 hs ht hk4 k2 hmu K 8 0 m hd adj c aet ale afe anx rfl (by omega) (fd_LIz I (fun g => (Int.add_zero _).symm))⟩
  · refine ⟨1, ?_⟩
    rw [wX_lay_137]
    refine br_f (fa_f8 (i := 0) (by omega)) (br_t ?_ (K _ _ _ _ _ _ _ _ (fd_LIz I (fun g => ?_))))
    · rw [show (2 : Int32) = nI 2 from rfl, nI_ltI (by omega) (by omega)]; omega
    · unfold fd_TT
      rw [fb_zero (f := fd_PT kind s t much g) (fun p hp => by simp only [fd_PT]; rw [if_neg (by omega)]), Int.add_zero]
end LAYW
end
section
/-! 06: the queue -/
def fq_n (aqd : Nat → Int32) : Int := fb_sm (fun k => if aqd k = 0 then 0 else 1) 16
def fq_L (fqf fqs : Int32) (aqu aqd : Nat → Int32) (l : List Nat) : Prop :=
  ∃ q : Nat, q < 64 ∧ fqf = nI q ∧ fqs = nI l.length ∧ l.Nodup ∧ (∀ i, i < l.length → aqu ((q + i) % 64) = nI (l.getD i 0)) ∧
    (∀ n, n < 16 → (aqd n = 1 ∧ n ∈ l) ∨ (aqd n = 0 ∧ n ∉ l)) ∧ (∀ n, n ∈ l → n < 16) ∧ (l.length : Int) = fq_n aqd
theorem fq_and : ∀ n, n < 128 → nI n &&& 63 = nI (n % 64) := by
  intro n hn
  have h : ∀ k : Fin 128, nI k.val &&& 63 = nI (k.val % 64) := by decide +kernel
  exact h ⟨n, hn⟩
theorem fq_le (aqd : Nat → Int32) : 0 ≤ fq_n aqd ∧ fq_n aqd ≤ 16 := by
  constructor
  · refine fb_nn (fun i hi => ?_)
    split <;> omega
  · have h : fq_n aqd ≤ fb_sm (fun _ => 1) 16 := fb_le (fun i hi => by split <;> omega)
    rw [fb_const] at h
    exact h
theorem fq_upd (aqd : Nat → Int32) {n : Nat} (hn : n < 16) (v : Int32) : fq_n (upd aqd n v) = fq_n aqd + ((if v = 0 then 0 else 1) - (if aqd n = 0 then 0 else 1)) := by
  have h : fq_n (upd aqd n v) = fb_sm (fa_up (fun k => if aqd k = 0 then 0 else 1) n (if v = 0 then 0 else 1)) 16 := by
    refine fb_congr (fun i hi => ?_)
    by_cases q : i = n
    · subst q; rw [fa_us, fa_ps]
    · rw [fa_un q, fa_pn q]
  rw [h, fb_up _ hn]; rfl
theorem fq_len {fqf fqs : Int32} {aqu aqd : Nat → Int32} {l : List Nat} (h : fq_L fqf fqs aqu aqd l) : l.length ≤ 16 ∧ fqs = nI l.length := by
  obtain ⟨q, _, _, h3, _, _, _, _, h8⟩ := h
  have := fq_le aqd
  exact ⟨by omega, h3⟩
theorem fq_01 {fqf fqs : Int32} {aqu aqd : Nat → Int32} {l : List Nat} (h : fq_L fqf fqs aqu aqd l) {n : Nat} (hn : n < 16) : (aqd n = 1 ∧ n ∈ l) ∨ (aqd n = 0 ∧ n ∉ l) := by
  obtain ⟨q, _, _, _, _, _, h6, _, _⟩ := h
  exact h6 n hn
theorem fq_z {fqf fqs : Int32} {aqu aqd : Nat → Int32} {l : List Nat} (h : fq_L fqf fqs aqu aqd l) (hz : fqs ≤ 0) : l = [] ∧ ∀ n, n < 16 → aqd n = 0 := by
  have k := fq_len h
  have e : l = [] := by
    rw [k.2, show (0 : Int32) = nI 0 from rfl, nI_leI (by omega) (by omega)] at hz
    exact List.length_eq_zero_iff.mp (by omega)
  refine ⟨e, fun n hn => ?_⟩
  rcases fq_01 h hn with w | w
  · rw [e] at w; exact absurd w.2 (List.not_mem_nil)
  · exact w.1
theorem fq_0 {aqu aqd : Nat → Int32} (h : ∀ j, j < 16 → aqd j = 0) : fq_L 0 0 aqu aqd [] :=
  ⟨0, by omega, rfl, rfl, List.nodup_nil, fun i hi => by simp at hi, fun n hn => Or.inr ⟨h n hn, List.not_mem_nil⟩, fun n hn => by simp at hn, by
    unfold fq_n
    rw [fb_zero (fun i hi => by rw [if_pos (h i hi)])]; rfl⟩
section QUEUE
variable {fpr fso fsi fed ffl fqf fqs foc : Int32} {afo ato aro aet ale afe anx alv acu acb aex ahs aqu aqd apa ago ane atr aor : Nat → Int32}
theorem fq_cl12 {post : SX → Prop} (K : ∀ aqd, (∀ j, j < 16 → aqd j = 0) → post (fpr, fso, fsi, fed, ffl, fqf, fqs, foc, afo, ato, aro, aet, ale, afe, anx, alv, acu, acb, aex, ahs, aqu, aqd, apa, ago, ane, atr, aor)) :
    ∀ (d i : Nat) (aqd : Nat → Int32), i + d = 16 → (∀ j, j < i → aqd j = 0) → wX_clearQueue_12 post fpr fso fsi fed ffl fqf fqs foc (d + 1) (nI i) afo ato aro aet ale afe anx alv acu acb aex ahs aqu aqd apa ago ane atr aor := by
  intro d
  induction d with
  | zero =>
    intro i aqd hi h
    obtain rfl : i = 16 := by omega
    rw [wX_clearQueue_12]
    exact br_t (fa_t16 (by omega) (by omega)) (K _ h)
  | succ d ih =>
    intro i aqd hi h
    rw [wX_clearQueue_12]
    refine br_f (fa_f16 (by omega)) ⟨fa_in (by omega) (by omega), nm_r (e' := upd aqd i 0) (by rw [fa_cl (by omega), fa_z0]) (nm_r (nI_1 i) (ih _ _ (by omega) (fun j hj => ?_)))⟩
    by_cases q : j = i
    · subst q; exact fa_us
    · rw [fa_un q]; exact h j (by omega)
theorem fq_clear {post : SX → Prop} (K : ∀ aqd, (∀ j, j < 16 → aqd j = 0) → fq_L 0 0 aqu aqd [] → post (fpr, fso, fsi, fed, ffl, 0, 0, foc, afo, ato, aro, aet, ale, afe, anx, alv, acu, acb, aex, ahs, aqu, aqd, apa, ago, ane, atr, aor)) : wpX_clearQueue post (fpr, fso, fsi, fed, ffl, fqf, fqs, foc, afo, ato, aro, aet, ale, afe, anx, alv, acu, acb, aex, ahs, aqu, aqd, apa, ago, ane, atr, aor) :=
  ⟨17, fq_cl12 (fun aqd h => K aqd h (fq_0 h)) 16 0 _ rfl (fun j hj => by omega)⟩
theorem fq_enq {post : SX → Prop} {n : Nat} {l : List Nat} (Q : fq_L fqf fqs aqu aqd l) (hn : n < 16)
    (K : ∀ fqs' aqu' aqd' l', fq_L fqf fqs' aqu' aqd' l' → (∀ k, k < 16 → aqd' k = if k = n then 1 else aqd k) → (∀ h r, l = h :: r → ∃ r', l' = h :: r') → fq_n aqd' = fq_n aqd + (if aqd n = 0 then 1 else 0) → post (fpr, fso, fsi, fed, ffl, fqf, fqs', foc, afo, ato, aro, aet, ale, afe, anx, alv, acu, acb, aex, ahs, aqu', aqd', apa, ago, ane, atr, aor)) :
    wpX_enqueue post (fpr, fso, fsi, fed, ffl, fqf, fqs, foc, afo, ato, aro, aet, ale, afe, anx, alv, acu, acb, aex, ahs, aqu, aqd, apa, ago, ane, atr, aor) (nI n) := by
  have cn : (nI n).toNatClampNeg = n := fa_cl (by omega)
  have wn : vp_in (nI n) 16 := fa_in hn (by omega)
  have hl := fq_len Q
  refine ⟨wn, br_c (fun z => ?_) (fun z => ?_)⟩
  · rw [cn] at z
    obtain ⟨q, h1, h2, h3, h4, h5, h6, h7, h8⟩ := Q
    have hnl : n ∉ l := by
      rcases h6 n hn with w | w
      · rw [z] at w; exact absurd w.1 (by decide)
      · exact w.2
    have hb := fq_le aqd
    have hu : fq_n (upd aqd n 1) = fq_n aqd + 1 := by
      rw [fq_upd aqd hn, z, if_pos rfl, if_neg (by decide)]; omega
    have hb2 := fq_le (upd aqd n 1)
    have hx : (fqf + fqs) &&& 63 = nI ((q + l.length) % 64) := by
      rw [h2, h3, nI_add, fq_and _ (by omega)]
    have wx : vp_in ((fqf + fqs) &&& 63) 64 := by
      rw [hx]; exact fa_in (by omega) (by omega)
    have cx : ((fqf + fqs) &&& 63).toNatClampNeg = (q + l.length) % 64 := by
      rw [hx]; exact fa_cl (by omega)
    refine ⟨wx, nm_r (e' := upd aqu ((q + l.length) % 64) (nI n)) (by rw [cx, (fa_byte n (by omega)).2]) (nm_r (e' := nI (l.length + 1)) (by rw [h3, nI_1]) ⟨wn, nm_r (e' := upd aqd n 1) (by rw [cn, fa_z1]) (K _ _ _ (l ++ [n]) ⟨q, h1, h2, ?_, ?_, ?_, ?_, ?_, ?_⟩ ?_ ?_ ?_)⟩)⟩
    · rw [List.length_append]; rfl
    · rw [List.nodup_append]
      refine ⟨h4, by simp, fun a ha b hb => ?_⟩
      rw [List.mem_singleton] at hb
      subst hb
      exact fun e => hnl (e ▸ ha)
    · intro i hi
      rw [List.length_append] at hi
      have hi' : i < l.length + 1 := hi
      by_cases e : i = l.length
      · subst e
        rw [fa_us]
        simp [List.getD]
      · rw [fa_un (by omega), h5 i (by omega)]
        simp [List.getD, List.getElem?_append_left (show i < l.length by omega)]
    · intro k hk
      by_cases e : k = n
      · subst e
        exact Or.inl ⟨fa_us, by simp⟩
      · rw [fa_un e]
        rcases h6 k hk with w | w
        · exact Or.inl ⟨w.1, by simp [w.2]⟩
        · exact Or.inr ⟨w.1, by simp [w.2, e]⟩
    · intro k hk
      rcases List.mem_append.mp hk with w | w
      · exact h7 k w
      · rw [List.mem_singleton] at w; omega
    · rw [List.length_append, hu, ← h8]; simp
    · intro k hk
      by_cases e : k = n
      · subst e; rw [fa_us, if_pos rfl]
      · rw [fa_un e, if_neg e]
    · intro h r e
      rw [e]
      exact ⟨r ++ [n], rfl⟩
    · rw [hu, z, if_pos rfl]
  · rw [cn] at z
    refine K _ _ _ l Q (fun k hk => ?_) (fun h r e => ⟨r, e⟩) (by rw [if_neg z]; omega)
    by_cases e : k = n
    · subst e
      rw [if_pos rfl]
      rcases fq_01 Q hk with w | w
      · exact w.1
      · exact absurd w.1 z
    · rw [if_neg e]
theorem fq_head {h : Nat} {r : List Nat} (Q : fq_L fqf fqs aqu aqd (h :: r)) : h < 16 ∧ vp_in fqf 64 ∧ aqu fqf.toNatClampNeg = nI h ∧ aqd h = 1 := by
  obtain ⟨q, h1, h2, h3, h4, h5, h6, h7, h8⟩ := Q
  have hh := h7 h (List.mem_cons_self ..)
  refine ⟨hh, by rw [h2]; exact fa_in h1 (by omega), ?_, ?_⟩
  · rw [h2, fa_cl (by omega)]
    have := h5 0 (by simp)
    rw [Nat.add_zero, Nat.mod_eq_of_lt h1] at this
    rw [this]; rfl
  · rcases h6 h hh with w | w
    · exact w.1
    · exact absurd (List.mem_cons_self ..) w.2
theorem fq_cons {l : List Nat} (Q : fq_L fqf fqs aqu aqd l) (hz : ¬ fqs ≤ 0) : ∃ h r, l = h :: r := by
  cases l with
  | nil =>
    obtain ⟨q, _, _, h3, _⟩ := Q
    exact absurd (by rw [h3]; decide) hz
  | cons h r => exact ⟨h, r, rfl⟩
theorem fq_deq {post : Int32 → SX → Prop} {n : Nat} {r : List Nat} (Q : fq_L fqf fqs aqu aqd (n :: r))
    (K : ∀ fqf' fqs' aqd', fq_L fqf' fqs' aqu aqd' r → (∀ k, k < 16 → aqd' k = if k = n then 0 else aqd k) → fq_n aqd' = fq_n aqd - 1 → post (nI n) (fpr, fso, fsi, fed, ffl, fqf', fqs', foc, afo, ato, aro, aet, ale, afe, anx, alv, acu, acb, aex, ahs, aqu, aqd', apa, ago, ane, atr, aor)) :
    wpX_dequeue post (fpr, fso, fsi, fed, ffl, fqf, fqs, foc, afo, ato, aro, aet, ale, afe, anx, alv, acu, acb, aex, ahs, aqu, aqd, apa, ago, ane, atr, aor) := by
  obtain ⟨hn, wf, hd, h1⟩ := fq_head Q
  have cn : (nI n).toNatClampNeg = n := fa_cl (by omega)
  have wn : vp_in (nI n) 16 := fa_in hn (by omega)
  have hu : fq_n (upd aqd n 0) = fq_n aqd - 1 := by
    rw [fq_upd aqd hn, h1, if_pos rfl, if_neg (by decide)]; omega
  refine ⟨wf, nm_r hd (fun fqf' e1 fqs' e2 => ⟨wn, nm_r (e' := upd aqd n 0) (by rw [cn, fa_z0]) (K _ _ _ ?_ ?_ hu)⟩)⟩
  · obtain ⟨q, g1, g2, g3, g4, g5, g6, g7, g8⟩ := Q
    have g4' := List.nodup_cons.mp g4
    refine ⟨(q + 1) % 64, by omega, ?_, ?_, g4'.2, ?_, ?_, ?_, ?_⟩
    · rw [e1, g2, nI_1, fq_and _ (by omega)]
    · rw [e2, g3, List.length_cons, nI_pred]
    · intro i hi
      have := g5 (i + 1) (by rw [List.length_cons]; omega)
      rw [show ((q + 1) % 64 + i) % 64 = (q + (i + 1)) % 64 by omega, this]
      simp [List.getD]
    · intro k hk
      by_cases e : k = n
      · subst e
        exact Or.inr ⟨fa_us, g4'.1⟩
      · rw [fa_un e]
        rcases g6 k hk with w | w
        · refine Or.inl ⟨w.1, ?_⟩
          rcases List.mem_cons.mp w.2 with y | y
          · exact absurd y e
          · exact y
        · exact Or.inr ⟨w.1, fun y => w.2 (List.mem_cons_of_mem _ y)⟩
    · exact fun k hk => g7 k (List.mem_cons_of_mem _ hk)
    · rw [hu, ← g8, List.length_cons]; omega
  · intro k hk
    by_cases e : k = n
    · subst e; rw [fa_us, if_pos rfl]
    · rw [fa_un e, if_neg e]
end QUEUE
end
section
/-! 07: findLevels -/
def fl_cnt (lv : Nat → Int) : Int := fb_sm (fun k => if 0 ≤ lv k then 1 else 0) 16
theorem fl_cnt_le (lv : Nat → Int) : 0 ≤ fl_cnt lv ∧ fl_cnt lv ≤ 16 := by
  constructor
  · refine fb_nn (fun i hi => ?_)
    split <;> omega
  · have h : fl_cnt lv ≤ fb_sm (fun _ => 1) 16 := fb_le (fun i hi => by split <;> omega)
    rw [fb_const] at h
    exact h
theorem fl_cnt_up (lv : Nat → Int) {n : Nat} (hn : n < 16) (v : Int) : fl_cnt (fa_up lv n v) = fl_cnt lv + ((if 0 ≤ v then 1 else 0) - (if 0 ≤ lv n then 1 else 0)) := by
  have h : fl_cnt (fa_up lv n v) = fb_sm (fa_up (fun k => if 0 ≤ lv k then 1 else 0) n (if 0 ≤ v then 1 else 0)) 16 := by
    refine fb_congr (fun i hi => ?_)
    by_cases q : i = n
    · subst q; rw [fa_ps, fa_ps]
    · rw [fa_pn q, fa_pn q]
  rw [h, fb_up _ hn]; rfl
/-- by which edge one came to a node -/
def fl_cb (m : Nat) (s : Nat) (hd : Nat → Nat) (d : Int) (L lv : Nat → Int) (cb : Nat → Int32) : Prop :=
  ∀ n, n < 16 → 0 ≤ lv n → n ≠ s → ∃ e, e < 2 * m ∧ cb n = nI e ∧ hd e = n ∧ d ≤ L e ∧ 0 ≤ lv (hd (fc_xr e)) ∧ lv n = lv (hd (fc_xr e)) + 1
def fl_I (m s : Nat) (hd : Nat → Nat) (d : Int) (L lv : Nat → Int) (cb qd : Nat → Int32) : Prop :=
  (∀ n, n < 16 → -1 ≤ lv n ∧ lv n + 1 ≤ fl_cnt lv) ∧ lv s = 0 ∧ fl_cb m s hd d L lv cb ∧ (∀ n, n < 16 → qd n ≠ 0 → 0 ≤ lv n)
def fl_C (m : Nat) (hd : Nat → Nat) (d : Int) (L lv : Nat → Int) (qd : Nat → Int32) (r : List Nat) : Prop :=
  ∀ e, e < 2 * m → 0 ≤ lv (hd (fc_xr e)) → qd (hd (fc_xr e)) = 0 → d ≤ L e → e ∉ r → 0 ≤ lv (hd e)
def fl_P (m s : Nat) (hd : Nat → Nat) (d : Int) (L lv : Nat → Int) (cb : Nat → Int32) : Prop :=
  (∀ n, n < 16 → -1 ≤ lv n ∧ lv n ≤ 15) ∧ lv s = 0 ∧ fl_cb m s hd d L lv cb ∧ (∀ e, e < 2 * m → 0 ≤ lv (hd (fc_xr e)) → d ≤ L e → 0 ≤ lv (hd e))
def fl_mu (lv : Nat → Int) (qd : Nat → Int32) : Int := 2 * (16 - fl_cnt lv) + fq_n qd
section BFSP
variable {m s : Nat} {hd : Nat → Nat} {d : Int} {L lv : Nat → Int} {cb qd : Nat → Int32}
theorem fl_visit {e : Nat} {r : List Nat} {qd' : Nat → Int32} (H : fc_HD m hd) (hs : s < 16) (I : fl_I m s hd d L lv cb qd) (C : fl_C m hd d L lv qd (e :: r)) (he : e < 2 * m) (hL : d ≤ L e)
    (hv : lv (hd e) < 0) (hu : 0 ≤ lv (hd (fc_xr e))) (hq : ∀ k, k < 16 → qd' k = if k = hd e then 1 else qd k) :
    fl_I m s hd d L (fa_up lv (hd e) (lv (hd (fc_xr e)) + 1)) (upd cb (hd e) (nI e)) qd' ∧ fl_C m hd d L (fa_up lv (hd e) (lv (hd (fc_xr e)) + 1)) qd' r ∧
      fl_cnt (fa_up lv (hd e) (lv (hd (fc_xr e)) + 1)) = fl_cnt lv + 1 := by
  obtain ⟨I1, I2, I3, I4⟩ := I
  have hv16 := (H e he).1
  have hu16 := (H _ (fc_xlt he)).1
  have hc : fl_cnt (fa_up lv (hd e) (lv (hd (fc_xr e)) + 1)) = fl_cnt lv + 1 := by
    rw [fl_cnt_up _ hv16, if_pos (by omega), if_neg (by omega)]; omega
  have keep : ∀ n, 0 ≤ lv n → fa_up lv (hd e) (lv (hd (fc_xr e)) + 1) n = lv n := fun n hn => fa_pn (fun z => by rw [z] at hn; omega)
  refine ⟨⟨fun n hn => ?_, ?_, fun n hn h0 hns => ?_, fun n hn h => ?_⟩, fun e' he' h1 h2 h3 h4 => ?_, hc⟩
  · rw [hc]
    have i1 := I1 n hn
    have i2 := I1 _ hu16
    by_cases q : n = hd e
    · rw [q, fa_ps]; omega
    · rw [fa_pn q]; omega
  · rw [keep s (by omega), I2]
  · by_cases q : n = hd e
    · subst q
      refine ⟨e, he, fa_us, rfl, hL, ?_, ?_⟩
      · rw [keep _ hu]; exact hu
      · rw [fa_ps, keep _ hu]
    · rw [fa_pn q] at h0 ⊢
      obtain ⟨e', g1, g2, g3, g4, g5, g6⟩ := I3 n hn h0 hns
      refine ⟨e', g1, ?_, g3, g4, ?_, ?_⟩
      · rw [fa_un q, g2]
      · rw [keep _ g5]; exact g5
      · rw [keep _ g5]; exact g6
  · by_cases q : n = hd e
    · rw [q, fa_ps]; omega
    · rw [fa_pn q]
      rw [hq n hn, if_neg q] at h
      exact I4 n hn h
  · have t16 := (H _ (fc_xlt he')).1
    rw [hq _ t16] at h2
    by_cases q : hd (fc_xr e') = hd e
    · rw [if_pos q] at h2; exact absurd h2 (by decide)
    · rw [if_neg q] at h2
      rw [fa_pn q] at h1
      by_cases w : e' = e
      · rw [w, fa_ps]; omega
      · have := C e' he' h1 h2 h3 (by simp [w, h4])
        rw [keep _ this]; exact this
theorem fl_skip {e : Nat} {r : List Nat} (C : fl_C m hd d L lv qd (e :: r)) (h : d ≤ L e → 0 ≤ lv (hd e)) : fl_C m hd d L lv qd r := by
  intro e' he' h1 h2 h3 h4
  by_cases w : e' = e
  · rw [w]; exact h (by rw [← w]; exact h3)
  · exact C e' he' h1 h2 h3 (by simp [w, h4])
end BFSP
section BFSW
variable {fpr ffl fqf fqs foc : Int32} {afo ato aro aet ale afe anx alv acu acb aex ahs aqu aqd apa ago ane atr aor : Nat → Int32}
variable {m s t : Nat} {hd : Nat → Nat} {adj : Nat → List Nat} {d : Int}
theorem fl_62 {post : Int32 → SX → Prop} {J : _} {x1 : Int32} {u : Nat} {M : Int} (N : fd_Nt m hd adj aet afe anx) (hs : s < 16) (hu : u < 16) (hd1 : x1.toInt = d)
    (K : ∀ fqs alv acb aqu aqd l, fq_L fqf fqs aqu aqd l → fl_I m s hd d (fa_tI ale) (fa_tI alv) acb aqd → fl_C m hd d (fa_tI ale) (fa_tI alv) aqd [] → fl_mu (fa_tI alv) aqd ≤ M → J fpr (nI s) (nI t) (nI (2 * m)) ffl fqf fqs foc afo ato aro aet ale afe anx alv acu acb aex ahs aqu aqd apa ago ane atr aor) :
    ∀ (r : List Nat) (n : Nat) (x3 : Int32) (fqs : Int32) (alv acb aqu aqd : Nat → Int32) (l : List Nat), r.length < n → fd_Ch anx r x3 → (∀ e, e ∈ r → e ∈ adj u) →
      fq_L fqf fqs aqu aqd l → fl_I m s hd d (fa_tI ale) (fa_tI alv) acb aqd → fl_C m hd d (fa_tI ale) (fa_tI alv) aqd r → 0 ≤ fa_tI alv u → fl_mu (fa_tI alv) aqd ≤ M →
      wX_findLevels_62 post J x1 (nI u) n x3 fpr (nI s) (nI t) (nI (2 * m)) ffl fqf fqs foc afo ato aro aet ale afe anx alv acu acb aex ahs aqu aqd apa ago ane atr aor := by
  intro r
  induction r with
  | nil =>
    intro n x3 fqs alv acb aqu aqd l hn hc hr Q I C h0 hM
    obtain ⟨n, rfl⟩ : ∃ k, n = k + 1 := ⟨n - 1, by omega⟩
    rw [wX_findLevels_62]
    exact br_t (by rw [show x3 = -1 from hc]; decide) (K _ _ _ _ _ _ Q I C hM)
  | cons e r ih =>
    intro n x3 fqs alv acb aqu aqd l hn hc hr Q I C h0 hM
    obtain ⟨n, rfl⟩ : ∃ k, n = k + 1 := ⟨n - 1, by rw [List.length_cons] at hn; omega⟩
    rw [List.length_cons] at hn
    obtain ⟨rfl, e56, hc'⟩ := hc
    obtain ⟨N1, N2, N3, N4, N5, N6⟩ := N
    obtain ⟨he, heu⟩ := (N5 u hu e).mp (hr e (List.mem_cons_self ..))
    have hv := (N3 e he).1
    have ce : (nI e).toNatClampNeg = e := fa_cl (by omega)
    have cv : (nI (hd e)).toNatClampNeg = hd e := fa_cl (by omega)
    have cu : (nI u).toNatClampNeg = u := fa_cl (by omega)
    have w : vp_in (nI e) 56 := fa_in e56 (by omega)
    have wv : vp_in (nI (hd e)) 16 := fa_in hv (by omega)
    have wu : vp_in (nI u) 16 := fa_in hu (by omega)
    have hr' : ∀ e', e' ∈ r → e' ∈ adj u := fun e' h => hr e' (List.mem_cons_of_mem _ h)
    rw [wX_findLevels_62]
    refine br_f (fa_lt0 (by omega)) ⟨w, nm_r (e' := nI (hd e)) (by rw [ce, N2 e he]) ⟨w, br_c (fun z => ⟨w, nm_r (e' := anx e) (by rw [ce]) (ih n _ _ _ _ _ _ l (by omega) hc' hr' Q I (fl_skip C (fun y => ?_)) h0 hM)⟩) (fun z => ⟨wv, br_c (fun z2 => ⟨w, nm_r (e' := anx e) (by rw [ce]) (ih n _ _ _ _ _ _ l (by omega) hc' hr' Q I (fl_skip C (fun y => ?_)) h0 hM)⟩) (fun z2 => ⟨wu, wv, fun alv' elv => ⟨wv, fun acb' ecb => fq_enq Q hv (fun fqs' aqu' aqd' l' Q' e1 _ e2 => ⟨w, nm_r (e' := anx e) (by rw [ce]) ?_⟩)⟩⟩)⟩)⟩⟩
    · rw [ce, fa_lt, hd1] at z
      exact absurd y (by simp only [fa_tI]; omega)
    · rw [cv, fa_le, fa_0] at z2
      exact z2
    · rw [ce, fa_lt, hd1] at z
      rw [cv, fa_le, fa_0] at z2
      have i1 := I.1 u hu
      have i2 := I.1 _ hv
      have i3 := fl_cnt_le (fa_tI alv)
      have hlv : fa_tI alv' = fa_up (fa_tI alv) (hd e) (fa_tI alv (hd (fc_xr e)) + 1) := by
        rw [elv, fa_tu, cv, cu, heu]
        congr 1
        rw [fa_add (by rw [fa_1]; simp only [fa_tI] at *; omega) (by rw [fa_1]; simp only [fa_tI] at *; omega), fa_1]
        rfl
      have hcb : acb' = upd acb (hd e) (nI e) := by rw [ecb, cv, (fa_byte e (by omega)).2]
      have hz : aqd (hd e) = 0 := by
        rcases fq_01 Q hv with y | y
        · have := I.2.2.2 (hd e) hv (by rw [y.1]; decide)
          exact absurd this z2
        · exact y.1
      obtain ⟨g1, g2, g3⟩ := fl_visit N3 hs I C he (by simp only [fa_tI]; omega) (by simp only [fa_tI] at *; omega) (by rw [heu]; exact h0) e1
      rw [hz, if_pos rfl] at e2
      refine ih n _ _ _ _ _ _ l' (by omega) hc' hr' Q' (by rw [hlv, hcb]; exact g1) (by rw [hlv]; exact g2) ?_ ?_
      · rw [hlv, fa_pn (fun y => by rw [y] at h0; exact z2 h0)]; exact h0
      · unfold fl_mu at hM ⊢
        rw [hlv, g3, e2]; omega
theorem fl_43 {post : Int32 → SX → Prop} {x1 : Int32} (N : fd_Nt m hd adj aet afe anx) (hs : s < 16) (ht : t < 16) (hd1 : x1.toInt = d)
    (K : ∀ r fqf fqs alv acb aqu aqd, fl_P m s hd d (fa_tI ale) (fa_tI alv) acb → (r = 0 ∧ fa_tI alv t < 0 ∨ r = 1 ∧ 0 ≤ fa_tI alv t) → post r (fpr, nI s, nI t, nI (2 * m), ffl, fqf, fqs, foc, afo, ato, aro, aet, ale, afe, anx, alv, acu, acb, aex, ahs, aqu, aqd, apa, ago, ane, atr, aor)) :
    ∀ (n : Nat) (fqf fqs : Int32) (alv acb aqu aqd : Nat → Int32) (l : List Nat), fl_mu (fa_tI alv) aqd < n →
      fq_L fqf fqs aqu aqd l → fl_I m s hd d (fa_tI ale) (fa_tI alv) acb aqd → fl_C m hd d (fa_tI ale) (fa_tI alv) aqd [] →
      wX_findLevels_43 post x1 n fpr (nI s) (nI t) (nI (2 * m)) ffl fqf fqs foc afo ato aro aet ale afe anx alv acu acb aex ahs aqu aqd apa ago ane atr aor := by
  intro n
  induction n with
  | zero =>
    intro fqf fqs alv acb aqu aqd l h Q I C
    have := fl_cnt_le (fa_tI alv)
    have := fq_le aqd
    unfold fl_mu at h
    omega
  | succ n ih =>
    intro fqf fqs alv acb aqu aqd l h Q I C
    rw [wX_findLevels_43]
    have ct : (nI t).toNatClampNeg = t := fa_cl (by omega)
    refine br_c (fun z => ?_) (fun z => ?_)
    · obtain ⟨rfl, hq⟩ := fq_z Q z
      have P : fl_P m s hd d (fa_tI ale) (fa_tI alv) acb := by
        have i3 := fl_cnt_le (fa_tI alv)
        exact ⟨fun n hn => by have := I.1 n hn; omega, I.2.1, I.2.2.1, fun e he h1 h2 => C e he h1 (hq _ (N.2.2.1 _ (fc_xlt he)).1) h2 (List.not_mem_nil)⟩
      refine ⟨fa_in ht (by omega), br_c (fun y => K _ _ _ _ _ _ _ P (Or.inl ⟨rfl, ?_⟩)) (fun y => K _ _ _ _ _ _ _ P (Or.inr ⟨rfl, ?_⟩))⟩
      · rw [ct, fa_lt, fa_0] at y; exact y
      · rw [ct, fa_lt, fa_0] at y; simp only [fa_tI]; omega
    · obtain ⟨u, r, rfl⟩ := fq_cons Q z
      obtain ⟨hu, _, _, hu1⟩ := fq_head Q
      have cu : (nI u).toNatClampNeg = u := fa_cl (by omega)
      refine fq_deq Q (fun fqf' fqs' aqd' Q' e1 e2 => ⟨fa_in hu (by omega), nm_r (e' := afe u) (by rw [cu]) ⟨(adj u).length + 1, ?_⟩⟩)
      refine fl_62 (M := fl_mu (fa_tI alv) aqd - 1) N hs hu hd1 (fun fqs alv acb aqu aqd l Q I C hM => ih _ _ _ _ _ _ l (by omega) Q I C) (adj u) _ _ _ _ _ _ _ r (by omega) (N.2.2.2.1 u hu) (fun e he => he) Q' ?_ ?_ ?_ ?_
      · refine ⟨I.1, I.2.1, I.2.2.1, fun n hn y => I.2.2.2 n hn (fun w => y ?_)⟩
        rw [e1 n hn, w]
        split <;> rfl
      · intro e he h1 h2 h3 h4
        have h16 := (N.2.2.1 _ (fc_xlt he)).1
        rw [e1 _ h16] at h2
        by_cases q : hd (fc_xr e) = u
        · exact absurd ((N.2.2.2.2.1 u hu e).mpr ⟨he, q⟩) h4
        · rw [if_neg q] at h2
          exact C e he h1 h2 h3 (List.not_mem_nil)
      · exact I.2.2.2 u hu (by rw [hu1]; decide)
      · unfold fl_mu
        rw [e2]; omega
theorem fl_2 {post : Int32 → SX → Prop} {x1 : Int32} (N : fd_Nt m hd adj aet afe anx) (hs : s < 16) (ht : t < 16) (hd1 : x1.toInt = d)
    (K : ∀ r fqf fqs alv acb aqu aqd, fl_P m s hd d (fa_tI ale) (fa_tI alv) acb → (r = 0 ∧ fa_tI alv t < 0 ∨ r = 1 ∧ 0 ≤ fa_tI alv t) → post r (fpr, nI s, nI t, nI (2 * m), ffl, fqf, fqs, foc, afo, ato, aro, aet, ale, afe, anx, alv, acu, acb, aex, ahs, aqu, aqd, apa, ago, ane, atr, aor)) :
    ∀ (k i : Nat) (alv : Nat → Int32), i + k = 16 → (∀ j, j < i → alv j = -1) → wX_findLevels_2 post x1 fpr (nI s) (nI t) (nI (2 * m)) ffl fqf fqs foc (k + 1) (nI i) afo ato aro aet ale afe anx alv acu acb aex ahs aqu aqd apa ago ane atr aor := by
  intro k
  induction k with
  | zero =>
    intro i alv hi h
    obtain rfl : i = 16 := by omega
    rw [wX_findLevels_2]
    have cs : (nI s).toNatClampNeg = s := fa_cl (by omega)
    refine br_t (fa_t16 (by omega) (by omega)) (fq_clear (fun aqd hq Q => ⟨fa_in hs (by omega), fun alv' elv => fq_enq Q hs (fun fqs' aqu' aqd' l' Q' e1 _ e2 => ?_)⟩))
    have hlv : ∀ j, j < 16 → fa_tI alv' j = if j = s then 0 else -1 := by
      intro j hj
      rw [elv, cs, fa_tu]
      by_cases q : j = s
      · rw [q, fa_ps, if_pos rfl, fa_0]
      · rw [fa_pn q, if_neg q]
        simp only [fa_tI]
        rw [h j hj, fa_m1]
    have hc : fl_cnt (fa_tI alv') = 1 := by
      have : fl_cnt (fa_tI alv') = fb_sm (fun i => if i = s then 1 else 0) 16 := by
        refine fb_congr (fun i hi => ?_)
        rw [hlv i hi]
        by_cases q : i = s
        · rw [if_pos q, if_pos q, if_pos (by omega)]
        · rw [if_neg q, if_neg q, if_neg (by omega)]
      rw [this, fb_one _ hs]
    have hn := fq_le aqd'
    have hm := fl_mu (fa_tI alv') aqd'
    refine ⟨47, fl_43 N hs ht hd1 K 47 _ _ _ _ _ _ l' ?_ Q' ⟨fun n hn => ?_, ?_, fun n hn h0 hns => ?_, fun n hn hq' => ?_⟩ (fun e he h1 h2 h3 h4 => ?_)⟩
    · unfold fl_mu
      rw [hc]; omega
    · rw [hc, hlv n hn]
      split <;> omega
    · rw [hlv s hs, if_pos rfl]
    · rw [hlv n hn, if_neg hns] at h0; omega
    · rw [e1 n hn] at hq'
      by_cases q : n = s
      · rw [hlv n hn, if_pos q]; omega
      · rw [if_neg q, hq n hn] at hq'; exact absurd rfl hq'
    · have h16 := (N.2.2.1 _ (fc_xlt he)).1
      rw [hlv _ h16] at h1
      rw [e1 _ h16] at h2
      by_cases q : hd (fc_xr e) = s
      · rw [if_pos q] at h2; exact absurd h2 (by decide)
      · rw [if_neg q] at h1; omega
  | succ k ih =>
    intro i alv hi h
    rw [wX_findLevels_2]
    refine br_f (fa_f16 (by omega)) ⟨fa_in (by omega) (by omega), nm_r (e' := upd alv i (-1)) (by rw [fa_cl (by omega)]) (nm_r (nI_1 i) (ih _ _ (by omega) (fun j hj => ?_)))⟩
    by_cases q : j = i
    · subst q; exact fa_us
    · rw [fa_un q]; exact h j (by omega)
theorem fl_find {post : Int32 → SX → Prop} {x1 : Int32} (N : fd_Nt m hd adj aet afe anx) (hs : s < 16) (ht : t < 16) (hd1 : x1.toInt = d)
    (K : ∀ r fqf fqs alv acb aqu aqd, fl_P m s hd d (fa_tI ale) (fa_tI alv) acb → (r = 0 ∧ fa_tI alv t < 0 ∨ r = 1 ∧ 0 ≤ fa_tI alv t) → post r (fpr, nI s, nI t, nI (2 * m), ffl, fqf, fqs, foc, afo, ato, aro, aet, ale, afe, anx, alv, acu, acb, aex, ahs, aqu, aqd, apa, ago, ane, atr, aor)) :
    wpX_findLevels post (fpr, nI s, nI t, nI (2 * m), ffl, fqf, fqs, foc, afo, ato, aro, aet, ale, afe, anx, alv, acu, acb, aex, ahs, aqu, aqd, apa, ago, ane, atr, aor) x1 := ⟨17, fl_2 N hs ht hd1 K 16 0 _ rfl (fun j hj => by omega)⟩
end BFSW
end
section
/-! 08: move, fillWay, engines 0 and 4 -/
/-- from a node back to the source every edge has so much room -/
def fw_ok (hd : Nat → Nat) (cb : Nat → Int32) (L : Nat → Int) (s : Nat) (amt : Int) : Nat → Nat → Prop
  | 0, n => n = s
  | k + 1, n => n ≠ s ∧ amt ≤ L (cb n).toNatClampNeg ∧ fw_ok hd cb L s amt k (hd (fc_xr (cb n).toNatClampNeg))
def fw_J (m : Nat) (hd : Nat → Nat) (c L L' lv : Nat → Int) (t : Nat) (amt : Int) (n : Nat) : Prop :=
  fc_RV m c L' ∧ (∀ q, fc_ex m hd c L' q = fc_ex m hd c L q + (if t = q then amt else 0) - (if n = q then amt else 0)) ∧
  (∀ e, e < 2 * m → lv (hd e) ≤ lv n → lv (hd e) = lv (hd (fc_xr e)) + 1 → L' e = L e)
theorem fw_step {m t e n : Nat} {hd : Nat → Nat} {c L L' lv : Nat → Int} {amt : Int} (J : fw_J m hd c L L' lv t amt n) (he : e < 2 * m) (hn : hd e = n) (h0 : 0 ≤ amt) (hL : amt ≤ L e)
    (hl : lv n = lv (hd (fc_xr e)) + 1) : fw_J m hd c L (fc_mv L' e amt) lv t amt (hd (fc_xr e)) := by
  obtain ⟨J1, J2, J3⟩ := J
  have e1 : L' e = L e := J3 e he (by rw [hn]; exact Int.le_refl _) (by rw [hn]; exact hl)
  refine ⟨fc_RV_mv J1 he h0 (by rw [e1]; exact hL), fun q => ?_, fun e' he' h1 h2 => ?_⟩
  · rw [fc_ex_mv he, J2 q, hn]; omega
  · rw [fc_mv_n, J3 e' he' (by omega) h2]
    · intro z
      rw [z, hn] at h1; omega
    · intro z
      rw [z, fc_xx] at h2
      rw [hn] at h2; omega
section WAYS
variable {fpr ffl fqf fqs foc : Int32} {afo ato aro aet ale afe anx alv acu acb aex ahs aqu aqd apa ago ane atr aor : Nat → Int32}
variable {m s t : Nat} {hd : Nat → Nat} {adj : Nat → List Nat} {c : Nat → Int} {d : Int}
theorem fw_move {post : SX → Prop} {e : Nat} {x0 x : Int32} (hx0 : x0 = nI e) (he : e < 56) (h1 : -2000000000 ≤ fa_tI ale e - x.toInt) (h2 : fa_tI ale e - x.toInt ≤ 2000000000)
    (h3 : -2000000000 ≤ fa_tI ale (fc_xr e) + x.toInt) (h4 : fa_tI ale (fc_xr e) + x.toInt ≤ 2000000000) {fso fsi fed : Int32}
    (K : ∀ ale', fa_tI ale' = fc_mv (fa_tI ale) e x.toInt → post (fpr, fso, fsi, fed, ffl, fqf, fqs, foc, afo, ato, aro, aet, ale', afe, anx, alv, acu, acb, aex, ahs, aqu, aqd, apa, ago, ane, atr, aor)) : wpX_move post (fpr, fso, fsi, fed, ffl, fqf, fqs, foc, afo, ato, aro, aet, ale, afe, anx, alv, acu, acb, aex, ahs, aqu, aqd, apa, ago, ane, atr, aor) x0 x := by
  subst hx0
  have ce : (nI e).toNatClampNeg = e := fa_cl (by omega)
  have w : vp_in (nI e) 56 := fa_in he (by omega)
  have ex : (nI e ^^^ 1) = nI (fc_xr e) := fa_xor e he
  have hx := fc_x56 he
  have cx : (nI e ^^^ 1).toNatClampNeg = fc_xr e := by rw [ex]; exact fa_cl (by omega)
  have wx : vp_in (nI e ^^^ 1) 56 := by rw [ex]; exact fa_in hx (by omega)
  refine ⟨w, w, nm_r (e' := upd ale e (ale e - x)) (by rw [ce]) ⟨wx, wx, nm_r (e' := upd (upd ale e (ale e - x)) (fc_xr e) (ale (fc_xr e) + x)) (by rw [cx, fa_un (fc_xne e)]) (K _ ?_)⟩⟩
  funext i
  rw [fa_tu, fa_tu]
  by_cases q1 : i = e
  · subst q1
    rw [fa_pn (fun z => fc_xne i z.symm), fa_ps, fc_mv_e, fa_sub h1 h2]; rfl
  · by_cases q2 : i = fc_xr e
    · subst q2
      rw [fa_ps, fc_mv_x, fa_add h3 h4]; rfl
    · rw [fa_pn q2, fa_pn q1, fc_mv_n q1 q2]
theorem fw_69 {post : SX → Prop} {x1 : Int32} {L lv : Nat → Int} {amt : Int} (N : fd_Nt m hd adj aet afe anx) (C : fc_CP m c) (hs : s < 16) (ha : x1.toInt = amt) (h0 : 0 ≤ amt) (h9 : amt ≤ 99)
    (P : fl_cb m s hd d L lv acb) (f0 : 0 ≤ ffl.toInt) (f9 : ffl.toInt ≤ 2772)
    (K : ∀ ffl' ale', fw_J m hd c L (fa_tI ale') lv t amt s → ffl'.toInt = ffl.toInt + amt → post (fpr, nI s, nI t, nI (2 * m), ffl', fqf, fqs, foc, afo, ato, aro, aet, ale', afe, anx, alv, acu, acb, aex, ahs, aqu, aqd, apa, ago, ane, atr, aor)) :
    ∀ (k n : Nat) (ale : Nat → Int32), n < 16 → 0 ≤ lv n → fw_ok hd acb L s amt k n → fw_J m hd c L (fa_tI ale) lv t amt n → wX_fillWay_69 post x1 (k + 1) (nI n) fpr (nI s) (nI t) (nI (2 * m)) ffl fqf fqs foc afo ato aro aet ale afe anx alv acu acb aex ahs aqu aqd apa ago ane atr aor := by
  intro k
  induction k with
  | zero =>
    intro n ale hn hl hk J
    rw [wX_fillWay_69]
    obtain rfl : n = s := hk
    refine br_t rfl (fun ffl' e1 => K _ _ J ?_)
    rw [e1, fa_add (by omega) (by omega), ha]
  | succ k ih =>
    intro n ale hn hl hk J
    obtain ⟨k1, k2, k3⟩ := hk
    rw [wX_fillWay_69]
    have cn : (nI n).toNatClampNeg = n := fa_cl (by omega)
    have wn : vp_in (nI n) 16 := fa_in hn (by omega)
    obtain ⟨e, g1, g2, g3, g4, g5, g6⟩ := P n hn hl k1
    have N1 := N.1
    have ce : (acb n).toNatClampNeg = e := by rw [g2]; exact fa_cl (by omega)
    rw [ce] at k2 k3
    have ex : (nI e ^^^ 1) = nI (fc_xr e) := fa_xor e (by omega)
    have hx := fc_x56 (n := e) (by omega)
    have cx : (nI (fc_xr e)).toNatClampNeg = fc_xr e := fa_cl (by omega)
    have l99 := fc_L99 C J.1 g1
    have l98 := fc_L99 C J.1 (fc_xlt g1)
    refine br_f (fun z => k1 (fa_inj z (by omega) (by omega))) ⟨wn, fw_move (by rw [cn]; exact g2) (by omega) (by omega) (by omega) (by omega) (by omega) (fun ale' e1 => ⟨wn, ?_, ?_⟩)⟩
    · rw [cn, g2, ex]; exact fa_in hx (by omega)
    · refine nm_r (e' := nI (hd (fc_xr e))) (by rw [cn, g2, ex, cx, N.2.1 _ (fc_xlt g1)]) (ih _ _ (N.2.2.1 _ (fc_xlt g1)).1 g5 k3 ?_)
      rw [e1, ha]
      exact fw_step J g1 g3 h0 k2 g6
theorem fw_8 {post : SX → Prop} {lv : Nat → Int} (N : fd_Nt m hd adj aet afe anx) (hs : s < 16) (P : fl_cb m s hd d (fa_tI ale) lv acb) (hls : ∀ n, n < 16 → lv n = 0 → n = s) (hs0 : lv s = 0) (hd1 : 1 ≤ d)
    {Q : Int → Prop}
    (K : ∀ x1 : Int32, 1 ≤ x1.toInt → Q x1.toInt → ∃ n, wX_fillWay_69 post x1 n (nI t) fpr (nI s) (nI t) (nI (2 * m)) ffl fqf fqs foc afo ato aro aet ale afe anx alv acu acb aex ahs aqu aqd apa ago ane atr aor) :
    ∀ (k n : Nat) (x1 : Int32), n < 16 → lv n = k → 1 ≤ x1.toInt → (∀ a, 1 ≤ a → a ≤ x1.toInt → fw_ok hd acb (fa_tI ale) s a k n → Q a) → wX_fillWay_8 post fpr (nI s) (nI t) (nI (2 * m)) ffl fqf fqs foc afo ato aro aet ale afe anx alv acu acb aex ahs aqu aqd apa ago ane atr aor (k + 1) x1 (nI n) := by
  intro k
  induction k with
  | zero =>
    intro n x1 hn hl h1 hQ
    rw [wX_fillWay_8]
    have e := hls n hn hl
    exact br_t (by rw [e]) (K x1 h1 (hQ _ h1 (Int.le_refl _) e))
  | succ k ih =>
    intro n x1 hn hl h1 hQ
    by_cases hns : n = s
    · rw [hns, hs0] at hl; omega
    · obtain ⟨e, g1, g2, g3, g4, g5, g6⟩ := P n hn (by omega) hns
      have N1 := N.1
      have cn : (nI n).toNatClampNeg = n := fa_cl (by omega)
      have wn : vp_in (nI n) 16 := fa_in hn (by omega)
      have ce : (nI e).toNatClampNeg = e := fa_cl (by omega)
      have ex : (nI e ^^^ 1) = nI (fc_xr e) := fa_xor e (by omega)
      have hx := fc_x56 (n := e) (by omega)
      have cx : (nI (fc_xr e)).toNatClampNeg = fc_xr e := fa_cl (by omega)
      have we : vp_in (nI e) 56 := fa_in (by omega) (by omega)
      have wx : vp_in (nI (fc_xr e)) 56 := fa_in (by omega) (by omega)
      have eX : aet (fc_xr e) = nI (hd (fc_xr e)) := N.2.1 _ (fc_xlt g1)
      have step : ∀ y : Int32, 1 ≤ y.toInt → y.toInt ≤ x1.toInt → y.toInt ≤ fa_tI ale e → wX_fillWay_46 post (wX_fillWay_8 post fpr (nI s) (nI t) (nI (2 * m)) ffl fqf fqs foc afo ato aro aet ale afe anx alv acu acb aex ahs aqu aqd apa ago ane atr aor (k + 1)) (nI n) y fpr (nI s) (nI t) (nI (2 * m)) ffl fqf fqs foc afo ato aro aet ale afe anx alv acu acb aex ahs aqu aqd apa ago ane atr aor := by
        intro y y1 y2 y3
        unfold wX_fillWay_46
        rw [cn, g2, ex, cx]
        refine ⟨wn, wx, nm_r eX (ih _ _ (N.2.2.1 _ (fc_xlt g1)).1 (by omega) y1 (fun a a1 a2 a3 => hQ a a1 (by omega) ⟨hns, ?_, ?_⟩))⟩
        · rw [g2, ce]; omega
        · rw [g2, ce]; exact a3
      rw [wX_fillWay_8]
      dsimp only
      rw [cn, g2, ce]
      refine br_f (fun z => hns (fa_inj z (by omega) (by omega))) ⟨wn, we, br_c (fun z => step x1 h1 (Int.le_refl _) ?_) (fun z => ⟨wn, we, step _ ?_ ?_ (Int.le_refl _)⟩)⟩
      · rw [fa_le] at z; exact z
      · simp only [fa_tI] at g4; omega
      · rw [fa_le] at z; omega
theorem fw_fill {post : SX → Prop} {lv : Nat → Int} (N : fd_Nt m hd adj aet afe anx) (C : fc_CP m c) (hs : s < 16) (ht : t < 16) (hst : s ≠ t) (FS : fc_FS m hd c s t (fa_tI ale) ffl.toInt)
    (P : fl_P m s hd d (fa_tI ale) lv acb) (hd1 : 1 ≤ d) (hl : 0 ≤ lv t) (f0 : 0 ≤ ffl.toInt)
    (K : ∀ ffl' ale', fc_FS m hd c s t (fa_tI ale') ffl'.toInt → ffl.toInt + 1 ≤ ffl'.toInt → post (fpr, nI s, nI t, nI (2 * m), ffl', fqf, fqs, foc, afo, ato, aro, aet, ale', afe, anx, alv, acu, acb, aex, ahs, aqu, aqd, apa, ago, ane, atr, aor)) : wpX_fillWay post (fpr, nI s, nI t, nI (2 * m), ffl, fqf, fqs, foc, afo, ato, aro, aet, ale, afe, anx, alv, acu, acb, aex, ahs, aqu, aqd, apa, ago, ane, atr, aor) := by
  obtain ⟨P1, P2, P3, P4⟩ := P
  have f9 := fc_F99 (fun e he => (N.2.2.1 e he).1) C FS ht hst
  have hls : ∀ n, n < 16 → lv n = 0 → n = s := by
    intro n hn h
    by_cases q : n = s
    · exact q
    · obtain ⟨e, _, _, _, _, g5, g6⟩ := P3 n hn (by omega) q
      omega
  obtain ⟨k, hk⟩ : ∃ k : Nat, lv t = k := ⟨(lv t).toNat, by omega⟩
  refine ⟨k + 1, fw_8 (Q := fun a => 1 ≤ a ∧ fw_ok hd acb (fa_tI ale) s a k t) N hs P3 hls P2 hd1 (fun x1 h1 hQ => ⟨k + 1, ?_⟩) k t _ ht hk (by rw [fa_far]; omega) (fun a a1 a2 a3 => ⟨a1, a3⟩)⟩
  have a9 : x1.toInt ≤ 99 := by
    obtain ⟨e, g1, g2, _, _, g5, g6⟩ := P3 t ht hl (fun z => hst z.symm)
    obtain ⟨k', rfl⟩ : ∃ k', k = k' + 1 := ⟨k - 1, by omega⟩
    have := hQ.2.2.1
    have N1 := N.1
    rw [g2, fa_cl (by omega)] at this
    have := (fc_L99 C FS.1 g1).2.1
    omega
  refine fw_69 (L := fa_tI ale) (lv := lv) N C hs rfl (by omega) a9 P3 f0 f9 (fun ffl' ale' J e1 => K _ _ ⟨J.1, fun n hn h1 h2 => ?_, ?_⟩ (by omega)) k t ale ht hl hQ.2 ⟨FS.1, fun q => by omega, fun e _ _ _ => rfl⟩
  · rw [J.2.1, FS.2.1 n hn h1 h2, if_neg (fun z => h2 z.symm), if_neg (fun z => h1 z.symm)]; rfl
  · rw [J.2.1, FS.2.2, if_pos rfl, if_neg hst, e1]; omega
theorem fw_MF {lv : Nat → Int} {L : Nat → Int} {F : Int} {cb : Nat → Int32} (FS : fc_FS m hd c s t L F) (P : fl_P m s hd 1 L lv cb) (hl : lv t < 0) : fc_MF m hd c s t L F := by
  refine ⟨FS, fun n => decide (0 ≤ lv n), ?_, ?_, fun e he h1 h2 => ?_⟩
  · simp only [decide_eq_true_eq]; rw [P.2.1]; omega
  · simp only [decide_eq_false_iff_not]; omega
  · simp only [decide_eq_true_eq] at h1
    simp only [decide_eq_false_iff_not] at h2
    have r := (FS.1 e he).1
    by_cases q : 1 ≤ L e
    · exact absurd (P.2.2.2 e he h1 q) h2
    · omega
theorem fw_e0 {post : SX → Prop} (N : fd_Nt m hd adj aet afe anx) (C : fc_CP m c) (hs : s < 16) (ht : t < 16) (hst : s ≠ t)
    (K : ∀ (ffl fqf fqs foc : Int32) (ale alv acu acb aex ahs aqu aqd apa ago ane atr aor : Nat → Int32), fc_MF m hd c s t (fa_tI ale) ffl.toInt → post (fpr, nI s, nI t, nI (2 * m), ffl, fqf, fqs, foc, afo, ato, aro, aet, ale, afe, anx, alv, acu, acb, aex, ahs, aqu, aqd, apa, ago, ane, atr, aor)) :
    ∀ (n : Nat) (ffl fqf fqs foc : Int32) (ale alv acu acb aex ahs aqu aqd apa ago ane atr aor : Nat → Int32), 2772 - ffl.toInt < n → 0 ≤ ffl.toInt → fc_FS m hd c s t (fa_tI ale) ffl.toInt → wX_solveByShortestWays_0 post n fpr (nI s) (nI t) (nI (2 * m)) ffl fqf fqs foc afo ato aro aet ale afe anx alv acu acb aex ahs aqu aqd apa ago ane atr aor := by
  intro n
  induction n with
  | zero =>
    intro ffl fqf fqs foc ale alv acu acb aex ahs aqu aqd apa ago ane atr aor h f0 FS
    have f9 := fc_F99 (fun e he => (N.2.2.1 e he).1) C FS ht hst
    omega
  | succ n ih =>
    intro ffl fqf fqs foc ale alv acu acb aex ahs aqu aqd apa ago ane atr aor h f0 FS
    rw [wX_solveByShortestWays_0]
    refine fl_find N hs ht (d := 1) fa_1 (fun r fqf fqs alv acb aqu aqd P hr => br_c (fun z => ?_) (fun z => ?_))
    · rcases hr with ⟨_, hl⟩ | ⟨h1, _⟩
      · exact K _ _ _ _ _ _ _ _ _ _ _ _ _ _ _ _ _ (fw_MF FS P hl)
      · rw [h1] at z; exact absurd z (by decide)
    · rcases hr with ⟨h1, _⟩ | ⟨_, hl⟩
      · exact absurd h1 z
      · exact fw_fill N C hs ht hst FS P (by omega) hl f0 (fun ffl' ale' FS' hf => ih _ _ _ _ _ _ _ _ _ _ _ _ _ _ _ _ _ (by omega) (by omega) FS')
theorem fw_half : ∀ v, v < 128 → nI v / 2 = nI (v / 2) := by
  intro v hv
  have h : ∀ k : Fin 128, nI k.val / 2 = nI (k.val / 2) := by decide +kernel
  exact h ⟨v, hv⟩
theorem fw_h7 {post : SX → Prop} {J : _} {v : Nat} (N : fd_Nt m hd adj aet afe anx) (C : fc_CP m c) (hs : s < 16) (ht : t < 16) (hst : s ≠ t) (hv : 1 ≤ v) (hv2 : v < 128)
    (K : ∀ (ffl fqf fqs foc : Int32) (ale alv acu acb aex ahs aqu aqd apa ago ane atr aor : Nat → Int32), 0 ≤ ffl.toInt → fc_FS m hd c s t (fa_tI ale) ffl.toInt → (v = 1 → fc_MF m hd c s t (fa_tI ale) ffl.toInt) → J (nI (v / 2)) fpr (nI s) (nI t) (nI (2 * m)) ffl fqf fqs foc afo ato aro aet ale afe anx alv acu acb aex ahs aqu aqd apa ago ane atr aor) :
    ∀ (n : Nat) (ffl fqf fqs foc : Int32) (ale alv acu acb aex ahs aqu aqd apa ago ane atr aor : Nat → Int32), 2772 - ffl.toInt < n → 0 ≤ ffl.toInt → fc_FS m hd c s t (fa_tI ale) ffl.toInt → wX_solveByHalves_7 post J (nI v) n fpr (nI s) (nI t) (nI (2 * m)) ffl fqf fqs foc afo ato aro aet ale afe anx alv acu acb aex ahs aqu aqd apa ago ane atr aor := by
  intro n
  induction n with
  | zero =>
    intro ffl fqf fqs foc ale alv acu acb aex ahs aqu aqd apa ago ane atr aor h f0 FS
    have f9 := fc_F99 (fun e he => (N.2.2.1 e he).1) C FS ht hst
    omega
  | succ n ih =>
    intro ffl fqf fqs foc ale alv acu acb aex ahs aqu aqd apa ago ane atr aor h f0 FS
    rw [wX_solveByHalves_7]
    refine fl_find N hs ht (d := v) (fa_ti (by omega)) (fun r fqf fqs alv acb aqu aqd P hr => br_c (fun z => ?_) (fun z => ?_))
    · rcases hr with ⟨_, hl⟩ | ⟨h1, _⟩
      · refine ⟨by decide, nm_r (fw_half v hv2) (K _ _ _ _ _ _ _ _ _ _ _ _ _ _ _ _ _ f0 FS (fun e => ?_))⟩
        subst e
        exact fw_MF FS P hl
      · rw [h1] at z; exact absurd z (by decide)
    · rcases hr with ⟨h1, _⟩ | ⟨_, hl⟩
      · exact absurd h1 z
      · exact fw_fill N C hs ht hst FS P (by omega) hl f0 (fun ffl' ale' FS' hf => ih _ _ _ _ _ _ _ _ _ _ _ _ _ _ _ _ _ (by omega) (by omega) FS')
theorem fw_h3 {post : SX → Prop} (N : fd_Nt m hd adj aet afe anx) (C : fc_CP m c) (hs : s < 16) (ht : t < 16) (hst : s ≠ t)
    (K : ∀ (ffl fqf fqs foc : Int32) (ale alv acu acb aex ahs aqu aqd apa ago ane atr aor : Nat → Int32), fc_MF m hd c s t (fa_tI ale) ffl.toInt → post (fpr, nI s, nI t, nI (2 * m), ffl, fqf, fqs, foc, afo, ato, aro, aet, ale, afe, anx, alv, acu, acb, aex, ahs, aqu, aqd, apa, ago, ane, atr, aor)) :
    ∀ (n v : Nat) (ffl fqf fqs foc : Int32) (ale alv acu acb aex ahs aqu aqd apa ago ane atr aor : Nat → Int32), v < n → v < 128 → 0 ≤ ffl.toInt → fc_FS m hd c s t (fa_tI ale) ffl.toInt → (v = 0 → fc_MF m hd c s t (fa_tI ale) ffl.toInt) → wX_solveByHalves_3 post n (nI v) fpr (nI s) (nI t) (nI (2 * m)) ffl fqf fqs foc afo ato aro aet ale afe anx alv acu acb aex ahs aqu aqd apa ago ane atr aor := by
  intro n
  induction n with
  | zero =>
    intro v ffl fqf fqs foc ale alv acu acb aex ahs aqu aqd apa ago ane atr aor h hv f0 FS M
    omega
  | succ n ih =>
    intro v ffl fqf fqs foc ale alv acu acb aex ahs aqu aqd apa ago ane atr aor h hv f0 FS M
    rw [wX_solveByHalves_3]
    have v0 : nI v ≤ 0 ↔ v = 0 := by rw [show (0 : Int32) = nI 0 from rfl, nI_leI (by omega) (by omega)]; omega
    refine br_c (fun z => K _ _ _ _ _ _ _ _ _ _ _ _ _ _ _ _ _ (M (v0.mp z))) (fun z => ?_)
    have v1 : ¬ v = 0 := fun y => z (v0.mpr y)
    refine ⟨2773, fw_h7 N C hs ht hst (by omega) hv (fun ffl fqf fqs foc ale alv acu acb aex ahs aqu aqd apa ago ane atr aor f0 FS M => ih _ _ _ _ _ _ _ _ _ _ _ _ _ _ _ _ _ _ (by omega) (by omega) f0 FS (fun e => M (by omega))) _ _ _ _ _ _ _ _ _ _ _ _ _ _ _ _ _ _ (by omega) f0 FS⟩
theorem fw_solve0 {post : SX → Prop} (N : fd_Nt m hd adj aet afe anx) (C : fc_CP m c) (hs : s < 16) (ht : t < 16) (hst : s ≠ t) (f0 : 0 ≤ ffl.toInt) (FS : fc_FS m hd c s t (fa_tI ale) ffl.toInt)
    (K : ∀ (ffl fqf fqs foc : Int32) (ale alv acu acb aex ahs aqu aqd apa ago ane atr aor : Nat → Int32), fc_MF m hd c s t (fa_tI ale) ffl.toInt → post (fpr, nI s, nI t, nI (2 * m), ffl, fqf, fqs, foc, afo, ato, aro, aet, ale, afe, anx, alv, acu, acb, aex, ahs, aqu, aqd, apa, ago, ane, atr, aor)) : wpX_solveByShortestWays post (fpr, nI s, nI t, nI (2 * m), ffl, fqf, fqs, foc, afo, ato, aro, aet, ale, afe, anx, alv, acu, acb, aex, ahs, aqu, aqd, apa, ago, ane, atr, aor) :=
  ⟨2773, fw_e0 N C hs ht hst K _ _ _ _ _ _ _ _ _ _ _ _ _ _ _ _ _ _ (by omega) f0 FS⟩
theorem fw_solve4 {post : SX → Prop} (N : fd_Nt m hd adj aet afe anx) (C : fc_CP m c) (hs : s < 16) (ht : t < 16) (hst : s ≠ t) (f0 : 0 ≤ ffl.toInt) (FS : fc_FS m hd c s t (fa_tI ale) ffl.toInt)
    (K : ∀ (ffl fqf fqs foc : Int32) (ale alv acu acb aex ahs aqu aqd apa ago ane atr aor : Nat → Int32), fc_MF m hd c s t (fa_tI ale) ffl.toInt → post (fpr, nI s, nI t, nI (2 * m), ffl, fqf, fqs, foc, afo, ato, aro, aet, ale, afe, anx, alv, acu, acb, aex, ahs, aqu, aqd, apa, ago, ane, atr, aor)) : wpX_solveByHalves post (fpr, nI s, nI t, nI (2 * m), ffl, fqf, fqs, foc, afo, ato, aro, aet, ale, afe, anx, alv, acu, acb, aex, ahs, aqu, aqd, apa, ago, ane, atr, aor) :=
  ⟨65, fw_h3 N C hs ht hst K 65 64 _ _ _ _ _ _ _ _ _ _ _ _ _ _ _ _ _ (by omega) (by omega) f0 FS (fun z => by omega)⟩
end WAYS
end
section
/-! 09: engine 1 -/
def fi_Pt (m : Nat) (hd : Nat → Nat) (lv : Nat → Int) (dp : Nat) (p V : Nat → Nat) : Prop :=
  (∀ i, i ≤ dp → lv (V i) = i) ∧ ∀ i, i < dp → p i < 2 * m ∧ hd (fc_xr (p i)) = V i ∧ hd (p i) = V (i + 1)
theorem fi_ne {m dp i j : Nat} {hd : Nat → Nat} {lv : Nat → Int} {p V : Nat → Nat} (P : fi_Pt m hd lv dp p V) (hi : i < dp) (hj : j < dp) (h : i ≠ j) : p j ≠ p i ∧ p j ≠ fc_xr (p i) := by
  obtain ⟨P1, P2⟩ := P
  obtain ⟨a1, a2, a3⟩ := P2 i hi
  obtain ⟨b1, b2, b3⟩ := P2 j hj
  have c1 := P1 (i + 1) (by omega)
  have c2 := P1 (j + 1) (by omega)
  have c3 := P1 i (by omega)
  have c4 := P1 j (by omega)
  constructor
  · intro z
    rw [z, a3] at b3
    rw [b3] at c1
    omega
  · intro z
    rw [z, fc_xx, a3] at b2
    rw [z, a2] at b3
    rw [b2] at c1
    rw [b3] at c3
    omega
def fi_x (k : Nat) : Int32 := if k = 0 then -1 else nI (k - 1)
theorem fi_xs {k : Nat} : fi_x (k + 1) = nI k := by
  unfold fi_x
  rw [if_neg (by omega)]; rfl
theorem fi_x1 {k : Nat} : nI k + (-1) = fi_x k := by
  unfold fi_x
  by_cases h : k = 0
  · rw [if_pos h, h]; rfl
  · rw [if_neg h]; exact fa_m1p (by omega)
def fi_F (m : Nat) (hd : Nat → Nat) (c L L' : Nat → Int) (amt : Int) (dp : Nat) (p V : Nat → Nat) (k f : Nat) : Prop :=
  fc_RV m c L' ∧ (∀ q, fc_ex m hd c L' q = fc_ex m hd c L q + (if V dp = q then amt else 0) - (if V k = q then amt else 0)) ∧
  (∀ j, j < dp → L' (p j) = if j < k then L (p j) else L (p j) - amt) ∧ k ≤ f ∧ f ≤ dp ∧ (f < dp → L (p f) = amt) ∧ (∀ j, k ≤ j → j < f → L (p j) ≠ amt)
theorem fi_Fs {m dp k f : Nat} {hd : Nat → Nat} {c L L' lv : Nat → Int} {amt : Int} {p V : Nat → Nat} (P : fi_Pt m hd lv dp p V) (I : fi_F m hd c L L' amt dp p V (k + 1) f) (hk : k < dp) (h0 : 0 ≤ amt) (hL : amt ≤ L (p k)) :
    fi_F m hd c L (fc_mv L' (p k) amt) amt dp p V k (if L (p k) = amt then k else f) ∧ fc_mv L' (p k) amt (p k) = L (p k) - amt := by
  obtain ⟨I1, I2, I3, I4, I5, I6, I7⟩ := I
  obtain ⟨a1, a2, a3⟩ := P.2 k hk
  have e1 := I3 k hk
  rw [if_pos (by omega)] at e1
  have e2 : fc_mv L' (p k) amt (p k) = L (p k) - amt := by rw [fc_mv_e, e1]
  refine ⟨⟨fc_RV_mv I1 a1 h0 (by omega), fun q => ?_, fun j hj => ?_, ?_, ?_, ?_, ?_⟩, e2⟩
  · rw [fc_ex_mv a1, I2 q, a2, a3]; omega
  · by_cases q : j = k
    · rw [q, if_neg (by omega), e2]
    · have n := fi_ne P hk hj (fun z => q z.symm)
      rw [fc_mv_n n.1 n.2, I3 j hj]
      by_cases w : j < k
      · rw [if_pos (by omega), if_pos w]
      · rw [if_neg (by omega), if_neg w]
  · split <;> omega
  · split <;> omega
  · intro h
    split
    · next z => exact z
    · next z => exact I6 (by rw [if_neg z] at h; exact h)
  · intro j j1 j2
    by_cases z : L (p k) = amt
    · rw [if_pos z] at j2; omega
    · rw [if_neg z] at j2
      by_cases q : j = k
      · rw [q]; exact z
      · exact I7 j (by omega) j2
section LEV
variable {fpr ffl fqf fqs foc : Int32} {afo ato aro aet ale afe anx alv acu acb aex ahs aqu aqd apa ago ane atr aor : Nat → Int32}
variable {m s t : Nat} {hd : Nat → Nat} {adj : Nat → List Nat} {c : Nat → Int}
theorem fi_54 {post : Int32 → SX → Prop} {x2 : Int32} {L lv : Nat → Int} {amt : Int} {dp : Nat} {p V : Nat → Nat} (hm : m ≤ 28) (C : fc_CP m c) (P : fi_Pt m hd lv dp p V) (hdp : dp ≤ 15)
    (hp : ∀ i, i < dp → apa i = nI (p i)) (ha : x2.toInt = amt) (h0 : 0 ≤ amt) (h9 : amt ≤ 99) (hL : ∀ i, i < dp → amt ≤ L (p i)) (f0 : 0 ≤ ffl.toInt) (f9 : ffl.toInt ≤ 2772)
    (K : ∀ f ffl' ale', fi_F m hd c L (fa_tI ale') amt dp p V 0 f → ffl'.toInt = ffl.toInt + amt → post (nI f) (fpr, nI s, nI t, nI (2 * m), ffl', fqf, fqs, foc, afo, ato, aro, aet, ale', afe, anx, alv, acu, acb, aex, ahs, aqu, aqd, apa, ago, ane, atr, aor)) :
    ∀ (k f : Nat) (ale : Nat → Int32), k ≤ dp → fi_F m hd c L (fa_tI ale) amt dp p V k f → wX_fillPath_54 post x2 (k + 1) (nI f) (fi_x k) fpr (nI s) (nI t) (nI (2 * m)) ffl fqf fqs foc afo ato aro aet ale afe anx alv acu acb aex ahs aqu aqd apa ago ane atr aor := by
  intro k
  induction k with
  | zero =>
    intro f ale hk I
    rw [wX_fillPath_54]
    refine br_t (by decide) (fun ffl' e1 => K _ _ _ I ?_)
    rw [e1, fa_add (by omega) (by omega), ha]
  | succ k ih =>
    intro f ale hk I
    rw [wX_fillPath_54, fi_xs]
    have ck : (nI k).toNatClampNeg = k := fa_cl (by omega)
    have wk : vp_in (nI k) 16 := fa_in (by omega) (by omega)
    have a1 := (P.2 k (by omega)).1
    have l99 := fc_L99 C I.1 a1
    have l98 := fc_L99 C I.1 (fc_xlt a1)
    have cp : (nI (p k)).toNatClampNeg = p k := fa_cl (by omega)
    obtain ⟨S1, S2⟩ := fi_Fs P I (by omega) h0 (hL k (by omega))
    refine br_f (fa_lt0 (by omega)) ⟨wk, fw_move (by rw [ck]; exact hp k (by omega)) (by omega) (by omega) (by omega) (by omega) (by omega) (fun ale' e1 => ?_)⟩
    rw [ha] at e1
    have e2 : fa_tI ale' (p k) = L (p k) - amt := by rw [e1]; exact S2
    rw [← e1] at S1
    refine ⟨wk, ?_, ?_⟩
    · rw [ck, hp k (by omega)]; exact fa_in (by omega) (by omega)
    · rw [ck, hp k (by omega), cp]
      refine br_c (fun z => nm_r fi_x1 (ih _ _ (by omega) ?_)) (fun z => nm_r fi_x1 (ih _ _ (by omega) ?_))
      · rw [fa_eq, fa_0] at z
        rw [if_pos (by simp only [fa_tI] at e2; omega)] at S1
        exact S1
      · rw [fa_eq, fa_0] at z
        rw [if_neg (by simp only [fa_tI] at e2; omega)] at S1
        exact S1
theorem fi_5 {post : Int32 → SX → Prop} {dp : Nat} {p : Nat → Nat} (hm : m ≤ 28) (hdp : dp ≤ 15) (hp : ∀ i, i < dp → apa i = nI (p i) ∧ p i < 2 * m ∧ 1 ≤ fa_tI ale (p i))
    (K : ∀ x2 : Int32, 1 ≤ x2.toInt → (∀ j, j < dp → x2.toInt ≤ fa_tI ale (p j)) → (x2.toInt = 1048576 ∨ ∃ j, j < dp ∧ x2.toInt = fa_tI ale (p j)) → ∃ n, wX_fillPath_54 post x2 n (nI dp) (nI dp - 1) fpr (nI s) (nI t) (nI (2 * m)) ffl fqf fqs foc afo ato aro aet ale afe anx alv acu acb aex ahs aqu aqd apa ago ane atr aor) :
    ∀ (k i : Nat) (x2 : Int32), i + k = dp → 1 ≤ x2.toInt → (∀ j, j < i → x2.toInt ≤ fa_tI ale (p j)) → (x2.toInt = 1048576 ∨ ∃ j, j < i ∧ x2.toInt = fa_tI ale (p j)) →
      wX_fillPath_5 post (nI dp) fpr (nI s) (nI t) (nI (2 * m)) ffl fqf fqs foc afo ato aro aet ale afe anx alv acu acb aex ahs aqu aqd apa ago ane atr aor (k + 1) x2 (nI i) := by
  intro k
  induction k with
  | zero =>
    intro i x2 hi h1 h2 h3
    obtain rfl : i = dp := by omega
    rw [wX_fillPath_5]
    exact br_t (nI_le (by omega) (by omega)) (nm_e (K x2 h1 h2 h3))
  | succ k ih =>
    intro i x2 hi h1 h2 h3
    obtain ⟨q1, q2, q3⟩ := hp i (by omega)
    have ci : (nI i).toNatClampNeg = i := fa_cl (by omega)
    have wi : vp_in (nI i) 16 := fa_in (by omega) (by omega)
    have cp : (nI (p i)).toNatClampNeg = p i := fa_cl (by omega)
    have wp : vp_in (nI (p i)) 56 := fa_in (by omega) (by omega)
    rw [wX_fillPath_5]
    dsimp only
    rw [ci, q1, cp]
    refine br_f (nI_ge (by omega) (by omega)) ⟨wi, wp, br_c (fun z => nm_r (nI_1 i) (ih _ _ (by omega) h1 (fun j hj => ?_) ?_)) (fun z => ⟨wi, wp, nm_e (nm_r (nI_1 i) (ih _ _ (by omega) q3 (fun j hj => ?_) (Or.inr ⟨i, by omega, rfl⟩)))⟩)⟩
    · rw [fa_le] at z
      by_cases e : j = i
      · rw [e]; exact z
      · exact h2 j (by omega)
    · rcases h3 with h3 | ⟨j, j1, j2⟩
      · exact Or.inl h3
      · exact Or.inr ⟨j, by omega, j2⟩
    · rw [fa_le] at z
      by_cases e : j = i
      · rw [e]; exact Int.le_refl _
      · have := h2 j (by omega)
        simp only [fa_tI] at *; omega
/-- the path is filled -/
theorem fi_fill {post : Int32 → SX → Prop} {lv : Nat → Int} {dp : Nat} {p V : Nat → Nat} (hm : m ≤ 28) (C : fc_CP m c) (P : fi_Pt m hd lv dp p V) (hdp : dp ≤ 15) (h0 : 0 < dp)
    (hp : ∀ i, i < dp → apa i = nI (p i) ∧ 0 < fa_tI ale (p i)) (hst : s ≠ t) (hV0 : V 0 = s) (hVt : V dp = t) (FS : fc_FS m hd c s t (fa_tI ale) ffl.toInt) (f0 : 0 ≤ ffl.toInt) (f9 : ffl.toInt ≤ 2772)
    (K : ∀ f ffl' ale', f < dp → fc_FS m hd c s t (fa_tI ale') ffl'.toInt → ffl.toInt + 1 ≤ ffl'.toInt → (∀ i, i < f → 0 < fa_tI ale' (p i)) → post (nI f) (fpr, nI s, nI t, nI (2 * m), ffl', fqf, fqs, foc, afo, ato, aro, aet, ale', afe, anx, alv, acu, acb, aex, ahs, aqu, aqd, apa, ago, ane, atr, aor)) :
    wpX_fillPath post (fpr, nI s, nI t, nI (2 * m), ffl, fqf, fqs, foc, afo, ato, aro, aet, ale, afe, anx, alv, acu, acb, aex, ahs, aqu, aqd, apa, ago, ane, atr, aor) (nI dp) := by
  refine ⟨dp + 1, fi_5 (p := p) hm hdp (fun i hi => ⟨(hp i hi).1, (P.2 i hi).1, (hp i hi).2⟩) (fun x2 h1 h2 h3 => ⟨dp + 1, ?_⟩) dp 0 _ (by omega) (by rw [fa_far]; omega) (fun j hj => by omega) (Or.inl fa_far)⟩
  have l0 := fc_L99 C FS.1 (P.2 0 h0).1
  have x0 := h2 0 h0
  obtain ⟨j0, j1, j2⟩ : ∃ j, j < dp ∧ x2.toInt = fa_tI ale (p j) := by
    rcases h3 with z | z
    · omega
    · exact z
  have ed : nI dp - 1 = fi_x dp := by
    obtain ⟨k, rfl⟩ : ∃ k, dp = k + 1 := ⟨dp - 1, by omega⟩
    rw [nI_pred, fi_xs]
  rw [ed]
  refine fi_54 (L := fa_tI ale) hm C P hdp (fun i hi => (hp i hi).1) rfl (by omega) (by omega) h2 f0 f9 (fun f ffl' ale' I e1 => ?_) dp dp ale (Nat.le_refl _) ⟨FS.1, fun q => by omega, fun j hj => by rw [if_pos hj], Nat.le_refl _, Nat.le_refl _, fun z => by omega, fun j q1 q2 => by omega⟩
  obtain ⟨I1, I2, I3, I4, I5, I6, I7⟩ := I
  have hf : f < dp := by
    by_cases z : f < dp
    · exact z
    · exact absurd j2.symm (I7 j0 (by omega) (by omega))
  refine K f ffl' ale' hf ⟨I1, fun n hn n1 n2 => ?_, ?_⟩ (by omega) (fun i hi => ?_)
  · rw [I2, FS.2.1 n hn n1 n2, hVt, hV0, if_neg (fun z => n2 z.symm), if_neg (fun z => n1 z.symm)]; rfl
  · rw [I2, FS.2.2, hVt, hV0, if_pos rfl, if_neg hst, e1]; omega
  · rw [I3 i (by omega), if_neg (by omega)]
    have := h2 i (by omega)
    have := I7 i (by omega) hi
    omega
end LEV
end
section
/-! 10: engine 1, the walk down the levels -/
def fi_I (m s t : Nat) (hd : Nat → Nat) (adj : Nat → List Nat) (c L0 lv0 : Nat → Int) (F0 : Int) (anx : Nat → Int32) (L lv : Nat → Int) (F : Int) (cu pa : Nat → Int32) (dp u : Nat) (p V : Nat → Nat) (rs : Nat → List Nat) : Prop :=
  fc_FS m hd c s t L F ∧ F0 ≤ F ∧ u < 16 ∧ fi_Pt m hd lv dp p V ∧ V 0 = s ∧ V dp = u ∧ (∀ i, i < dp → pa i = nI (p i) ∧ 0 < L (p i)) ∧
  (∀ n, n < 16 → (lv n = lv0 n ∨ lv n = -1) ∧ lv n ≤ 15 ∧ -1 ≤ lv n) ∧ lv t = lv0 t ∧
  (∀ n, n < 16 → fd_Ch anx (rs n) (cu n) ∧ ∀ e, e ∈ rs n → e ∈ adj n) ∧
  (F0 < F ∨ ((∀ e, e < 2 * m → L e = L0 e) ∧ (∀ n, n < 16 → 0 ≤ lv0 n → ∀ e, e ∈ adj n → e ∉ rs n → 0 < L0 e → lv0 (hd e) = lv0 n + 1 → lv (hd e) = -1) ∧
    (∀ n, n < 16 → lv n = -1 → 0 ≤ lv0 n → rs n = [])))
def fi_mu (F : Int) (lv : Nat → Int) (dp : Nat) : Int := (2772 - F) * 1000 + 32 * fl_cnt lv + (16 - dp)
def fi_ul (rs : Nat → List Nat) (u : Nat) (r : List Nat) : Nat → List Nat := fun n => if n = u then r else rs n
def fi_un (p : Nat → Nat) (u : Nat) (r : Nat) : Nat → Nat := fun n => if n = u then r else p n
section LEVP
variable {m s t : Nat} {hd : Nat → Nat} {adj : Nat → List Nat} {c L0 lv0 : Nat → Int} {F0 : Int} {anx : Nat → Int32} {L lv : Nat → Int} {F : Int} {cu pa : Nat → Int32} {dp u : Nat} {p V : Nat → Nat} {rs : Nat → List Nat}
theorem fi_skip {e : Nat} {r : List Nat} (hadj : ∀ v, v < 16 → ∀ e, e ∈ adj v ↔ (e < 2 * m ∧ hd (fc_xr e) = v)) (H : fc_HD m hd) (I : fi_I m s t hd adj c L0 lv0 F0 anx L lv F cu pa dp u p V rs) (hr : rs u = e :: r) (h : ¬ (0 < L e ∧ lv (hd e) = lv u + 1)) :
    fi_I m s t hd adj c L0 lv0 F0 anx L lv F (upd cu u (anx e)) pa dp u p V (fi_ul rs u r) := by
  obtain ⟨I1, I2, I3, I4, I5, I6, I7, I8, I9, I10, I11⟩ := I
  refine ⟨I1, I2, I3, I4, I5, I6, I7, I8, I9, fun n hn => ?_, ?_⟩
  · by_cases q : n = u
    · subst q
      have k := I10 n hn
      rw [hr] at k
      unfold fi_ul
      rw [if_pos rfl, fa_us]
      exact ⟨k.1.2.2, fun e' he' => k.2 e' (List.mem_cons_of_mem _ he')⟩
    · unfold fi_ul
      rw [if_neg q, fa_un q]
      exact I10 n hn
  · rcases I11 with z | ⟨z1, z2, z3⟩
    · exact Or.inl z
    · refine Or.inr ⟨z1, fun n hn h0 e' he' hn' hL hl => ?_, fun n hn h1 h2 => ?_⟩
      · by_cases q : n = u
        · subst q
          unfold fi_ul at hn'
          rw [if_pos rfl] at hn'
          by_cases w : e' = e
          · subst w
            have e2 := (hadj n hn e').mp he'
            have lu : lv n = dp := by rw [← I6]; exact I4.1 dp (Nat.le_refl _)
            have lu0 : lv n = lv0 n := by
              rcases (I8 n hn).1 with y | y
              · exact y
              · omega
            rcases (I8 _ (H e' e2.1).1).1 with y | y
            · exact absurd ⟨by rw [z1 e' e2.1]; exact hL, by rw [y, hl, lu0]⟩ h
            · exact y
          · exact z2 n hn h0 e' he' (by rw [hr]; simp [w, hn']) hL hl
        · unfold fi_ul at hn'
          rw [if_neg q] at hn'
          exact z2 n hn h0 e' he' hn' hL hl
      · by_cases q : n = u
        · have lu : lv u = dp := by rw [← I6]; exact I4.1 dp (Nat.le_refl _)
          rw [q] at h1; omega
        · unfold fi_ul
          rw [if_neg q]; exact z3 n hn h1 h2
theorem fi_dead {k : Nat} (H : fc_HD m hd) (hs : s < 16) (I : fi_I m s t hd adj c L0 lv0 F0 anx L lv F cu pa (k + 1) u p V rs) (ht : u ≠ t) (hr : rs u = []) :
    fi_I m s t hd adj c L0 lv0 F0 anx L (fa_up lv u (-1)) F cu pa k (V k) p V rs ∧ fl_cnt (fa_up lv u (-1)) = fl_cnt lv - 1 := by
  obtain ⟨I1, I2, I3, I4, I5, I6, I7, I8, I9, I10, I11⟩ := I
  have lu : lv u = ((k + 1 : Nat) : Int) := by rw [← I6]; exact I4.1 (k + 1) (Nat.le_refl _)
  have keep : ∀ n, lv n ≠ lv u → fa_up lv u (-1) n = lv n := fun n hn => fa_pn (fun z => hn (by rw [z]))
  have hV : ∀ i, i ≤ k → fa_up lv u (-1) (V i) = i := by
    intro i hi
    have := I4.1 i (by omega)
    rw [keep _ (by omega), this]
  refine ⟨⟨I1, I2, ?_, ⟨hV, fun i hi => I4.2 i (by omega)⟩, I5, rfl, fun i hi => I7 i (by omega), fun n hn => ?_, ?_, I10, ?_⟩, ?_⟩
  · have := I4.2 k (by omega)
    rw [← this.2.1]
    exact (H _ (fc_xlt this.1)).1
  · by_cases q : n = u
    · rw [q, fa_ps]; exact ⟨Or.inr rfl, by omega, by omega⟩
    · rw [fa_pn q]; exact I8 n hn
  · rw [fa_pn (fun z => ht z.symm)]; exact I9
  · rcases I11 with z | ⟨z1, z2, z3⟩
    · exact Or.inl z
    · refine Or.inr ⟨z1, fun n hn h0 e' he' hn' hL hl => ?_, fun n hn h1 h2 => ?_⟩
      · have := z2 n hn h0 e' he' hn' hL hl
        by_cases q : hd e' = u
        · rw [q, fa_ps]
        · rw [fa_pn q]; exact this
      · by_cases q : n = u
        · rw [q]; exact hr
        · rw [fa_pn q] at h1; exact z3 n hn h1 h2
  · rw [fl_cnt_up _ I3, if_neg (by omega), if_pos (by omega)]; omega
theorem fi_adv {e : Nat} {r : List Nat} (hadj : ∀ v, v < 16 → ∀ e, e ∈ adj v ↔ (e < 2 * m ∧ hd (fc_xr e) = v)) (H : fc_HD m hd) (I : fi_I m s t hd adj c L0 lv0 F0 anx L lv F cu pa dp u p V rs) (hr : rs u = e :: r) (h1 : 0 < L e) (h2 : lv (hd e) = lv u + 1) :
    fi_I m s t hd adj c L0 lv0 F0 anx L lv F cu (upd pa dp (nI e)) (dp + 1) (hd e) (fi_un p dp e) (fi_un V (dp + 1) (hd e)) rs := by
  obtain ⟨I1, I2, I3, I4, I5, I6, I7, I8, I9, I10, I11⟩ := I
  have he := (hadj u I3 e).mp ((I10 u I3).2 e (by rw [hr]; exact List.mem_cons_self ..))
  have lu : lv u = dp := by rw [← I6]; exact I4.1 dp (Nat.le_refl _)
  have hVo : ∀ i, i ≤ dp → fi_un V (dp + 1) (hd e) i = V i := fun i hi => by unfold fi_un; rw [if_neg (by omega)]
  have hVn : fi_un V (dp + 1) (hd e) (dp + 1) = hd e := by unfold fi_un; rw [if_pos rfl]
  have hpo : ∀ i, i < dp → fi_un p dp e i = p i := fun i hi => by unfold fi_un; rw [if_neg (by omega)]
  have hpn : fi_un p dp e dp = e := by unfold fi_un; rw [if_pos rfl]
  refine ⟨I1, I2, (H e he.1).1, ⟨fun i hi => ?_, fun i hi => ?_⟩, by rw [hVo 0 (by omega)]; exact I5, hVn, fun i hi => ?_, I8, I9, I10, I11⟩
  · by_cases q : i = dp + 1
    · rw [q, hVn, h2, lu]; omega
    · rw [hVo i (by omega)]; exact I4.1 i (by omega)
  · by_cases q : i = dp
    · rw [q, hpn, hVn, hVo dp (by omega), I6]; exact ⟨he.1, he.2, rfl⟩
    · rw [hpo i (by omega), hVo i (by omega), hVo (i + 1) (by omega)]; exact I4.2 i (by omega)
  · by_cases q : i = dp
    · rw [q, hpn, fa_us]; exact ⟨rfl, h1⟩
    · rw [hpo i (by omega), fa_un q]; exact I7 i (by omega)
theorem fi_full {f : Nat} {L' : Nat → Int} {F' : Int} (H : fc_HD m hd) (hs : s < 16) (I : fi_I m s t hd adj c L0 lv0 F0 anx L lv F cu pa dp u p V rs) (hf : f < dp) (FS : fc_FS m hd c s t L' F') (hF : F + 1 ≤ F') (hL : ∀ i, i < f → 0 < L' (p i)) :
    fi_I m s t hd adj c L0 lv0 F0 anx L' lv F' cu pa f (V f) p V rs := by
  obtain ⟨I1, I2, I3, I4, I5, I6, I7, I8, I9, I10, I11⟩ := I
  refine ⟨FS, by omega, ?_, ⟨fun i hi => I4.1 i (by omega), fun i hi => I4.2 i (by omega)⟩, I5, rfl, fun i hi => ⟨(I7 i (by omega)).1, hL i hi⟩, I8, I9, I10, Or.inl (by omega)⟩
  have := I4.2 f (by omega)
  rw [← this.2.1]
  exact (H _ (fc_xlt this.1)).1
theorem fi_end {cb : Nat → Int32} (hadj : ∀ v, v < 16 → ∀ e, e ∈ adj v ↔ (e < 2 * m ∧ hd (fc_xr e) = v)) (H : fc_HD m hd) (hs : s < 16) (ht : t < 16) (hst : s ≠ t) (I : fi_I m s t hd adj c L0 lv0 F0 anx L lv F cu pa 0 u p V rs) (hr : rs u = []) (P : fl_P m s hd 1 L0 lv0 cb) (hl : 0 ≤ lv0 t) : F0 < F := by
  obtain ⟨I1, I2, I3, I4, I5, I6, I7, I8, I9, I10, I11⟩ := I
  rcases I11 with z | ⟨z1, z2, z3⟩
  · exact z
  · have us : u = s := by rw [← I6, I5]
    have key : ∀ (k : Nat) (n : Nat), n < 16 → lv0 n = k → n = s ∨ lv n = -1 := by
      intro k
      induction k with
      | zero =>
        intro n hn hk
        by_cases q : n = s
        · exact Or.inl q
        · obtain ⟨e, _, _, _, _, g5, g6⟩ := P.2.2.1 n hn (by omega) q
          omega
      | succ k ih =>
        intro n hn hk
        by_cases q : n = s
        · exact Or.inl q
        · obtain ⟨e, g1, g2, g3, g4, g5, g6⟩ := P.2.2.1 n hn (by omega) q
          have h16 := (H _ (fc_xlt g1)).1
          have emp : rs (hd (fc_xr e)) = [] := by
            rcases ih _ h16 (by omega) with w | w
            · rw [w, ← us]; exact hr
            · exact z3 _ h16 w g5
          have := z2 _ h16 g5 e ((hadj _ h16 e).mpr ⟨g1, rfl⟩) (by rw [emp]; exact List.not_mem_nil) (by omega) (by rw [g3]; exact g6)
          rw [g3] at this
          exact Or.inr this
    rcases key (lv0 t).toNat t ht (by omega) with w | w
    · exact absurd w.symm hst
    · omega
end LEVP
section LEVW
variable {fpr ffl fqf fqs foc : Int32} {afo ato aro aet ale afe anx alv acu acb aex ahs aqu aqd apa ago ane atr aor : Nat → Int32}
variable {m s t : Nat} {hd : Nat → Nat} {adj : Nat → List Nat} {c L0 lv0 : Nat → Int} {F0 : Int}
theorem fi_leads {post : Int32 → Prop} {u e : Nat} {fso fsi fed : Int32} (N : fd_Nt m hd adj aet afe anx) (hu : u < 16) (he : e < 2 * m) (b1 : -1000 ≤ fa_tI alv u) (b2 : fa_tI alv u ≤ 1000)
    (h1 : 0 < fa_tI ale e → fa_tI alv (hd e) = fa_tI alv u + 1 → post 1) (h0 : ¬ (0 < fa_tI ale e ∧ fa_tI alv (hd e) = fa_tI alv u + 1) → post 0) : wpX_leadsOn post (fpr, fso, fsi, fed, ffl, fqf, fqs, foc, afo, ato, aro, aet, ale, afe, anx, alv, acu, acb, aex, ahs, aqu, aqd, apa, ago, ane, atr, aor) (nI u) (nI e) := by
  have N1 := N.1
  have hv := (N.2.2.1 e he).1
  have ce : (nI e).toNatClampNeg = e := fa_cl (by omega)
  have cu : (nI u).toNatClampNeg = u := fa_cl (by omega)
  have cv : (nI (hd e)).toNatClampNeg = hd e := fa_cl (by omega)
  have we : vp_in (nI e) 56 := fa_in (by omega) (by omega)
  have wu : vp_in (nI u) 16 := fa_in hu (by omega)
  have wv : vp_in (nI (hd e)) 16 := fa_in hv (by omega)
  have ad : (alv u + 1).toInt = (alv u).toInt + 1 := by
    rw [fa_add (by rw [fa_1]; simp only [fa_tI] at *; omega) (by rw [fa_1]; simp only [fa_tI] at *; omega), fa_1]
  unfold wpX_leadsOn
  dsimp only
  rw [ce, cu, N.2.1 e he, cv]
  refine ⟨we, br_c (fun z => h0 (fun y => ?_)) (fun z => ⟨we, wv, wu, br_c (fun z2 => h1 ?_ ?_) (fun z2 => h0 (fun y => z2 ?_))⟩)⟩
  · rw [fa_le, fa_0] at z
    have := y.1
    simp only [fa_tI] at this; omega
  · rw [fa_le, fa_0] at z
    simp only [fa_tI]; omega
  · rw [fa_eq, ad] at z2; exact z2
  · rw [fa_eq, ad]; exact y.2
theorem fi_64 {post : SX → Prop} {J : _} {cb : Nat → Int32} {dp u : Nat} {p V : Nat → Nat} {rs : Nat → List Nat} (N : fd_Nt m hd adj aet afe anx) (C : fc_CP m c) (hs : s < 16) (ht : t < 16) (hst : s ≠ t)
    (P : fl_P m s hd 1 L0 lv0 cb) (hl : 0 ≤ lv0 t) (f0 : 0 ≤ F0)
    (I : fi_I m s t hd adj c L0 lv0 F0 anx (fa_tI ale) (fa_tI alv) ffl.toInt acu apa dp u p V rs)
    (cond : u = t ∨ rs u = [] ∨ ∃ e r, rs u = e :: r ∧ 0 < fa_tI ale e ∧ fa_tI alv (hd e) = fa_tI alv u + 1)
    (K0 : F0 < ffl.toInt → fc_FS m hd c s t (fa_tI ale) ffl.toInt → J 0 (nI u) 0 fpr (nI s) (nI t) (nI (2 * m)) ffl fqf fqs foc afo ato aro aet ale afe anx alv acu acb aex ahs aqu aqd apa ago ane atr aor)
    (K1 : ∀ ffl' ale' alv' apa' dp' u' p' V', fi_I m s t hd adj c L0 lv0 F0 anx (fa_tI ale') (fa_tI alv') ffl'.toInt acu apa' dp' u' p' V' rs → fi_mu ffl'.toInt (fa_tI alv') dp' < fi_mu ffl.toInt (fa_tI alv) dp →
      J (nI dp') (nI u') 1 fpr (nI s) (nI t) (nI (2 * m)) ffl' fqf fqs foc afo ato aro aet ale' afe anx alv' acu acb aex ahs aqu aqd apa' ago ane atr aor) :
    wX_fillLevels_64 post J (nI dp) (nI u) 1 fpr (nI s) (nI t) (nI (2 * m)) ffl fqf fqs foc afo ato aro aet ale afe anx alv acu acb aex ahs aqu aqd apa ago ane atr aor := by
  have N1 := N.1
  have f9 := fc_F99 (fun e he => (N.2.2.1 e he).1) C I.1 ht hst
  have hadj := N.2.2.2.2.1
  have H := N.2.2.1
  have hI := I
  obtain ⟨I1, I2, I3, I4, I5, I6, I7, I8, I9, I10, I11⟩ := I
  have lu : fa_tI alv u = dp := by rw [← I6]; exact I4.1 dp (Nat.le_refl _)
  have dp15 : dp ≤ 15 := by have := (I8 u I3).2.1; omega
  have cu : (nI u).toNatClampNeg = u := fa_cl (by omega)
  have wu : vp_in (nI u) 16 := fa_in I3 (by omega)
  have cnt := fl_cnt_le (fa_tI alv)
  unfold wX_fillLevels_64
  refine br_c (fun z => ?_) (fun z => ⟨wu, ?_⟩)
  · have ut : u = t := fa_inj z (by omega) (by omega)
    have dp0 : 0 < dp := by
      rcases Nat.eq_zero_or_pos dp with q | q
      · exfalso
        rw [q, I5] at I6
        exact hst (I6.trans ut)
      · exact q
    refine fi_fill (s := s) (t := t) N1 C I4 dp15 dp0 I7 hst I5 (I6.trans ut) I1 (by omega) f9 (fun f ffl' ale' hf FS' hF hL => ?_)
    have a1 := (I4.2 f hf)
    have ex : (nI (p f) ^^^ 1) = nI (fc_xr (p f)) := fa_xor _ (by omega)
    have hx := fc_x56 (n := p f) (by omega)
    have cf : (nI f).toNatClampNeg = f := fa_cl (by omega)
    refine ⟨fa_in (by omega) (by omega), ?_, ?_⟩
    · rw [cf, (I7 f hf).1, ex]; exact fa_in hx (by omega)
    · refine nm_r (e' := nI (V f)) (by rw [cf, (I7 f hf).1, ex, fa_cl (by omega), N.2.1 _ (fc_xlt a1.1), a1.2.1]) (K1 ffl' ale' alv apa f (V f) p V (fi_full H hs hI hf FS' hF hL) ?_)
      unfold fi_mu
      omega
  · rw [cu]
    have ut : ¬ u = t := fun y => z (by rw [y])
    refine br_c (fun z2 => ?_) (fun z2 => ?_)
    · have rn : rs u = [] := by
        cases hr : rs u with
        | nil => rfl
        | cons e r =>
          have := (I10 u I3).1
          rw [hr] at this
          rw [this.1] at z2
          exact absurd z2 (fa_lt0 (by have := this.2.1; omega))
      refine br_c (fun z3 => ?_) (fun z3 => ?_)
      · have d0 : dp = 0 := fa_inj (b := 0) z3 (by omega) (by omega)
        subst d0
        exact K0 (fi_end hadj H hs ht hst hI rn P hl) I1
      · obtain ⟨k, rfl⟩ : ∃ k, dp = k + 1 := ⟨dp - 1, by
          have : dp ≠ 0 := fun y => z3 (by rw [y]; rfl)
          omega⟩
        have a1 := (I4.2 k (by omega))
        obtain ⟨D1, D2⟩ := fi_dead H hs hI ut rn
        have ex : (nI (p k) ^^^ 1) = nI (fc_xr (p k)) := fa_xor _ (by omega)
        have hx := fc_x56 (n := p k) (by omega)
        have ck : (nI k).toNatClampNeg = k := fa_cl (by omega)
        refine nm_r (fa_m1p (by omega)) ⟨wu, fun alv' elv => ⟨fa_in (by omega) (by omega), ?_, ?_⟩⟩
        · show vp_in (apa (nI k).toNatClampNeg ^^^ 1) 56
          rw [ck, (I7 k (by omega)).1, ex]; exact fa_in hx (by omega)
        · have hlv : fa_tI alv' = fa_up (fa_tI alv) u (-1) := by rw [elv, fa_tu, fa_m1]
          refine nm_r (e' := nI (V k)) ?_ (K1 ffl ale alv' apa k (V k) p V (by rw [hlv]; exact D1) ?_)
          · show aet (apa (nI k).toNatClampNeg ^^^ 1).toNatClampNeg = _
            rw [ck, (I7 k (by omega)).1, ex, fa_cl (by omega), N.2.1 _ (fc_xlt a1.1), a1.2.1]
          · rw [hlv]
            unfold fi_mu
            rw [D2]
            omega
    · obtain ⟨e, r, hr, hL, hlv⟩ : ∃ e r, rs u = e :: r ∧ 0 < fa_tI ale e ∧ fa_tI alv (hd e) = fa_tI alv u + 1 := by
        rcases cond with y | y | y
        · exact absurd y ut
        · have := (I10 u I3).1
          rw [y] at this
          rw [show acu u = -1 from this] at z2
          exact absurd (by decide) z2
        · exact y
      have k10 := (I10 u I3)
      rw [hr] at k10
      have he := (hadj u I3 e).mp (k10.2 e (List.mem_cons_self ..))
      have v15 := (I8 _ (H e he.1).1).2.1
      have ce : (nI e).toNatClampNeg = e := fa_cl (by omega)
      have ed : (nI dp).toNatClampNeg = dp := fa_cl (by omega)
      rw [k10.1.1, ce, ed]
      refine ⟨wu, fa_in (by omega) (by omega), nm_r (e' := upd apa dp (nI e)) (by rw [(fa_byte e (by omega)).1]) ⟨wu, fa_in (by omega) (by omega), nm_r (N.2.1 e he.1) (nm_r (nI_1 dp) (K1 ffl ale alv _ (dp + 1) (hd e) _ _ (fi_adv hadj H hI hr hL hlv) ?_))⟩⟩
      unfold fi_mu
      omega
theorem fi_13 {post : SX → Prop} {J : _} {cb : Nat → Int32} {dp u : Nat} {p V : Nat → Nat} (N : fd_Nt m hd adj aet afe anx) (C : fc_CP m c) (hs : s < 16) (ht : t < 16) (hst : s ≠ t)
    (P : fl_P m s hd 1 L0 lv0 cb) (hl : 0 ≤ lv0 t) (f0 : 0 ≤ F0)
    (K0 : ∀ acu, F0 < ffl.toInt → fc_FS m hd c s t (fa_tI ale) ffl.toInt → J 0 (nI u) 0 fpr (nI s) (nI t) (nI (2 * m)) ffl fqf fqs foc afo ato aro aet ale afe anx alv acu acb aex ahs aqu aqd apa ago ane atr aor)
    (K1 : ∀ acu rs ffl' ale' alv' apa' dp' u' p' V', fi_I m s t hd adj c L0 lv0 F0 anx (fa_tI ale') (fa_tI alv') ffl'.toInt acu apa' dp' u' p' V' rs → fi_mu ffl'.toInt (fa_tI alv') dp' < fi_mu ffl.toInt (fa_tI alv) dp →
      J (nI dp') (nI u') 1 fpr (nI s) (nI t) (nI (2 * m)) ffl' fqf fqs foc afo ato aro aet ale' afe anx alv' acu acb aex ahs aqu aqd apa' ago ane atr aor) :
    ∀ (r : List Nat) (rs : Nat → List Nat) (acu : Nat → Int32), rs u = r → fi_I m s t hd adj c L0 lv0 F0 anx (fa_tI ale) (fa_tI alv) ffl.toInt acu apa dp u p V rs →
      wX_fillLevels_13 post J (nI dp) (nI u) 1 fpr (nI s) (nI t) (nI (2 * m)) ffl fqf fqs foc (r.length + 1) afo ato aro aet ale afe anx alv acu acb aex ahs aqu aqd apa ago ane atr aor := by
  intro r
  induction r with
  | nil =>
    intro rs acu hr I
    have u16 := I.2.2.1
    have := (I.2.2.2.2.2.2.2.2.2.1 u u16).1
    rw [hr] at this
    have fin := fi_64 (post := post) (J := J) N C hs ht hst P hl f0 I (Or.inr (Or.inl hr)) (K0 acu) (K1 acu rs)
    rw [wX_fillLevels_13]
    dsimp only
    rw [fa_cl (by omega)]
    exact br_c (fun z => fin) (fun z => ⟨fa_in u16 (by omega), br_t (by rw [show acu u = -1 from this]; decide) fin⟩)
  | cons e r ih =>
    intro rs acu hr I
    have u16 := I.2.2.1
    have k10 := (I.2.2.2.2.2.2.2.2.2.1 u u16)
    rw [hr] at k10
    have he := (N.2.2.2.2.1 u u16 e).mp (k10.2 e (List.mem_cons_self ..))
    have N1 := N.1
    have cu : (nI u).toNatClampNeg = u := fa_cl (by omega)
    have ce : (nI e).toNatClampNeg = e := fa_cl (by omega)
    have wu : vp_in (nI u) 16 := fa_in u16 (by omega)
    have b := I.2.2.2.2.2.2.2.1 u u16
    rw [List.length_cons, wX_fillLevels_13]
    dsimp only
    rw [cu, k10.1.1, ce]
    refine br_c (fun z => fi_64 N C hs ht hst P hl f0 I (Or.inl (fa_inj z (by omega) (by omega))) (K0 acu) (K1 acu rs)) (fun z => ⟨wu, br_f (fa_lt0 (by omega)) ⟨wu, fi_leads N u16 he.1 (by omega) (by omega) (fun h1 h2 => ?_) (fun h => ?_)⟩⟩)
    · exact br_f (by decide) (fi_64 N C hs ht hst P hl f0 I (Or.inr (Or.inr ⟨e, r, hr, h1, h2⟩)) (K0 acu) (K1 acu rs))
    · refine br_t rfl ⟨wu, fa_in (by omega) (by omega), wu, nm_r (e' := upd acu u (anx e)) (by rw [fd_Chb k10.1.2.2]) (ih (fi_ul rs u r) _ (if_pos rfl) (fi_skip N.2.2.2.2.1 N.2.2.1 I hr h))⟩
theorem fi_9 {post : SX → Prop} {cb : Nat → Int32} (N : fd_Nt m hd adj aet afe anx) (C : fc_CP m c) (hs : s < 16) (ht : t < 16) (hst : s ≠ t)
    (P : fl_P m s hd 1 L0 lv0 cb) (hl : 0 ≤ lv0 t) (f0 : 0 ≤ F0)
    (K : ∀ ffl ale alv acu apa, F0 < ffl.toInt → fc_FS m hd c s t (fa_tI ale) ffl.toInt → post (fpr, nI s, nI t, nI (2 * m), ffl, fqf, fqs, foc, afo, ato, aro, aet, ale, afe, anx, alv, acu, acb, aex, ahs, aqu, aqd, apa, ago, ane, atr, aor)) :
    ∀ (n : Nat) (dp u : Nat) (p V : Nat → Nat) (rs : Nat → List Nat) (ffl : Int32) (ale alv acu apa : Nat → Int32), fi_mu ffl.toInt (fa_tI alv) dp < n →
      fi_I m s t hd adj c L0 lv0 F0 anx (fa_tI ale) (fa_tI alv) ffl.toInt acu apa dp u p V rs → wX_fillLevels_9 post (n + 1) (nI dp) (nI u) 1 fpr (nI s) (nI t) (nI (2 * m)) ffl fqf fqs foc afo ato aro aet ale afe anx alv acu acb aex ahs aqu aqd apa ago ane atr aor := by
  intro n
  induction n with
  | zero =>
    intro dp u p V rs ffl ale alv acu apa h I
    exfalso
    have f9 := fc_F99 (fun e he => (N.2.2.1 e he).1) C I.1 ht hst
    have cnt := fl_cnt_le (fa_tI alv)
    obtain ⟨I1, I2, I3, I4, I5, I6, I7, I8, I9, I10, I11⟩ := I
    have lu : fa_tI alv u = dp := by rw [← I6]; exact I4.1 dp (Nat.le_refl _)
    have := (I8 u I3).2.1
    unfold fi_mu at h
    omega
  | succ n ih =>
    intro dp u p V rs ffl ale alv acu apa h I
    rw [wX_fillLevels_9]
    refine br_f (by decide) ⟨(rs u).length + 1, fi_13 N C hs ht hst P hl f0 (fun acu hF FS => ?_) (fun acu rs ffl' ale' alv' apa' dp' u' p' V' I' hmu => ih _ _ _ _ _ _ _ _ _ _ (by omega) I') (rs u) rs acu rfl I⟩
    rw [wX_fillLevels_9]
    exact br_t rfl (K _ _ _ _ _ hF FS)
theorem fi_levels {post : SX → Prop} {cb : Nat → Int32} (N : fd_Nt m hd adj aet afe anx) (C : fc_CP m c) (hs : s < 16) (ht : t < 16) (hst : s ≠ t) (FS : fc_FS m hd c s t (fa_tI ale) ffl.toInt)
    (P : fl_P m s hd 1 (fa_tI ale) (fa_tI alv) cb) (hl : 0 ≤ fa_tI alv t) (f0 : 0 ≤ ffl.toInt) (hcu : ∀ n, n < 16 → acu n = afe n)
    (K : ∀ ffl' ale alv acu apa, ffl.toInt < ffl'.toInt → fc_FS m hd c s t (fa_tI ale) ffl'.toInt → post (fpr, nI s, nI t, nI (2 * m), ffl', fqf, fqs, foc, afo, ato, aro, aet, ale, afe, anx, alv, acu, acb, aex, ahs, aqu, aqd, apa, ago, ane, atr, aor)) : wpX_fillLevels post (fpr, nI s, nI t, nI (2 * m), ffl, fqf, fqs, foc, afo, ato, aro, aet, ale, afe, anx, alv, acu, acb, aex, ahs, aqu, aqd, apa, ago, ane, atr, aor) := by
  refine ⟨(fi_mu ffl.toInt (fa_tI alv) 0).toNat + 1 + 1, fi_9 (L0 := fa_tI ale) (lv0 := fa_tI alv) (F0 := ffl.toInt) N C hs ht hst P hl f0 (fun ffl' ale alv acu apa h1 h2 => K _ _ _ _ _ h1 h2) _ 0 s (fun _ => 0) (fun _ => s) adj _ _ _ _ _ (by omega) ⟨FS, Int.le_refl _, hs, ⟨fun i hi => ?_, fun i hi => by omega⟩, rfl, rfl, fun i hi => by omega, fun n hn => ⟨Or.inl rfl, (P.1 n hn).2, (P.1 n hn).1⟩, rfl, fun n hn => ⟨by rw [hcu n hn]; exact N.2.2.2.1 n hn, fun e he => he⟩, Or.inr ⟨fun e he => rfl, fun n hn h0 e he hne => absurd he hne, fun n hn h1 h2 => by omega⟩⟩⟩
  rw [P.2.1]; omega
theorem fi_10 {post : SX → Prop} {J : _} {cb : Nat → Int32} (N : fd_Nt m hd adj aet afe anx) (C : fc_CP m c) (hs : s < 16) (ht : t < 16) (hst : s ≠ t) (FS : fc_FS m hd c s t (fa_tI ale) ffl.toInt)
    (P : fl_P m s hd 1 (fa_tI ale) (fa_tI alv) cb) (hl : 0 ≤ fa_tI alv t) (f0 : 0 ≤ ffl.toInt)
    (K : ∀ ffl' ale alv acu apa, ffl.toInt < ffl'.toInt → fc_FS m hd c s t (fa_tI ale) ffl'.toInt → J fpr (nI s) (nI t) (nI (2 * m)) ffl' fqf fqs foc afo ato aro aet ale afe anx alv acu acb aex ahs aqu aqd apa ago ane atr aor) :
    ∀ (k i : Nat) (acu : Nat → Int32), i + k = 16 → (∀ j, j < i → acu j = afe j) → wX_solveByLevels_10 post J fpr (nI s) (nI t) (nI (2 * m)) ffl fqf fqs foc (k + 1) (nI i) afo ato aro aet ale afe anx alv acu acb aex ahs aqu aqd apa ago ane atr aor := by
  intro k
  induction k with
  | zero =>
    intro i acu hi h
    obtain rfl : i = 16 := by omega
    rw [wX_solveByLevels_10]
    exact br_t (fa_t16 (by omega) (by omega)) (fi_levels N C hs ht hst FS P hl f0 h K)
  | succ k ih =>
    intro i acu hi h
    rw [wX_solveByLevels_10]
    refine br_f (fa_f16 (by omega)) ⟨fa_in (by omega) (by omega), fa_in (by omega) (by omega), nm_r (e' := upd acu i (afe i)) (by rw [fa_cl (by omega), fd_Chb (N.2.2.2.1 i (by omega))]) (nm_r (nI_1 i) (ih _ _ (by omega) (fun j hj => ?_)))⟩
    by_cases q : j = i
    · subst q; exact fa_us
    · rw [fa_un q]; exact h j (by omega)
theorem fi_e1 {post : SX → Prop} (N : fd_Nt m hd adj aet afe anx) (C : fc_CP m c) (hs : s < 16) (ht : t < 16) (hst : s ≠ t)
    (K : ∀ (ffl fqf fqs foc : Int32) (ale alv acu acb aex ahs aqu aqd apa ago ane atr aor : Nat → Int32), fc_MF m hd c s t (fa_tI ale) ffl.toInt → post (fpr, nI s, nI t, nI (2 * m), ffl, fqf, fqs, foc, afo, ato, aro, aet, ale, afe, anx, alv, acu, acb, aex, ahs, aqu, aqd, apa, ago, ane, atr, aor)) :
    ∀ (n : Nat) (ffl fqf fqs foc : Int32) (ale alv acu acb aex ahs aqu aqd apa ago ane atr aor : Nat → Int32), 2772 - ffl.toInt < n → 0 ≤ ffl.toInt → fc_FS m hd c s t (fa_tI ale) ffl.toInt → wX_solveByLevels_0 post n fpr (nI s) (nI t) (nI (2 * m)) ffl fqf fqs foc afo ato aro aet ale afe anx alv acu acb aex ahs aqu aqd apa ago ane atr aor := by
  intro n
  induction n with
  | zero =>
    intro ffl fqf fqs foc ale alv acu acb aex ahs aqu aqd apa ago ane atr aor h f0 FS
    have f9 := fc_F99 (fun e he => (N.2.2.1 e he).1) C FS ht hst
    omega
  | succ n ih =>
    intro ffl fqf fqs foc ale alv acu acb aex ahs aqu aqd apa ago ane atr aor h f0 FS
    rw [wX_solveByLevels_0]
    refine fl_find N hs ht (d := 1) fa_1 (fun r fqf fqs alv acb aqu aqd P hr => br_c (fun z => ?_) (fun z => ?_))
    · rcases hr with ⟨_, hl⟩ | ⟨h1, _⟩
      · exact K _ _ _ _ _ _ _ _ _ _ _ _ _ _ _ _ _ (fw_MF FS P hl)
      · rw [h1] at z; exact absurd z (by decide)
    · rcases hr with ⟨h1, _⟩ | ⟨_, hl⟩
      · exact absurd h1 z
      · exact ⟨17, fi_10 N C hs ht hst FS P hl f0 (fun ffl' ale alv acu apa hF FS' => ih _ _ _ _ _ _ _ _ _ _ _ _ _ _ _ _ _ (by omega) (by omega) FS') 16 0 _ rfl (fun j hj => by omega)⟩
theorem fi_solve1 {post : SX → Prop} (N : fd_Nt m hd adj aet afe anx) (C : fc_CP m c) (hs : s < 16) (ht : t < 16) (hst : s ≠ t) (f0 : 0 ≤ ffl.toInt) (FS : fc_FS m hd c s t (fa_tI ale) ffl.toInt)
    (K : ∀ (ffl fqf fqs foc : Int32) (ale alv acu acb aex ahs aqu aqd apa ago ane atr aor : Nat → Int32), fc_MF m hd c s t (fa_tI ale) ffl.toInt → post (fpr, nI s, nI t, nI (2 * m), ffl, fqf, fqs, foc, afo, ato, aro, aet, ale, afe, anx, alv, acu, acb, aex, ahs, aqu, aqd, apa, ago, ane, atr, aor)) : wpX_solveByLevels post (fpr, nI s, nI t, nI (2 * m), ffl, fqf, fqs, foc, afo, ato, aro, aet, ale, afe, anx, alv, acu, acb, aex, ahs, aqu, aqd, apa, ago, ane, atr, aor) :=
  ⟨2773, fi_e1 N C hs ht hst K _ _ _ _ _ _ _ _ _ _ _ _ _ _ _ _ _ _ (by omega) f0 FS⟩
end LEVW
end
section
/-! 11: engines 2 and 3: preflows, heights, the potential -/
def fp_PF (m s : Nat) (hd : Nat → Nat) (c L E : Nat → Int) : Prop := fc_RV m c L ∧ (∀ n, n < 16 → E n = fc_ex m hd c L n) ∧ (∀ n, n < 16 → n ≠ s → 0 ≤ E n)
def fp_LB (m s t : Nat) (hd : Nat → Nat) (L lv : Nat → Int) : Prop :=
  (∀ n, n < 16 → 0 ≤ lv n ∧ lv n ≤ 33) ∧ lv s = 16 ∧ lv t = 0 ∧ ∀ e, e < 2 * m → 0 < L e → lv (hd (fc_xr e)) ≤ lv (hd e) + 1
def fp_pE (E : Nat → Int) (u v : Nat) (a : Int) : Nat → Int := fun n => if n = v then E v + a else if n = u then E u - a else E n
def fp_nt (s t : Nat) (E lv : Nat → Int) : Nat → Int := fun n => (if n ≠ s ∧ n ≠ t ∧ 0 < E n then lv n else 0) + 2 * (33 - lv n)
def fp_et (hd : Nat → Nat) (L lv : Nat → Int) : Nat → Int := fun e => (if 0 < L e ∧ lv (hd e) ≤ lv (hd (fc_xr e)) then 1 else 0) + (33 - lv (hd (fc_xr e)))
def fp_Psi (m s t : Nat) (hd : Nat → Nat) (L E lv : Nat → Int) : Int := fb_sm (fp_nt s t E lv) 16 + 34 * fb_sm (fp_et hd L lv) (2 * m)
section PUSHP
variable {m s t : Nat} {hd : Nat → Nat} {c L E lv : Nat → Int}
theorem fp_pEs {u v : Nat} {a : Int} : fp_pE E u v a v = E v + a := if_pos rfl
theorem fp_pEu {u v : Nat} {a : Int} (h : u ≠ v) : fp_pE E u v a u = E u - a := by
  unfold fp_pE
  rw [if_neg h, if_pos rfl]
theorem fp_pEo {u v n : Nat} {a : Int} (h1 : n ≠ v) (h2 : n ≠ u) : fp_pE E u v a n = E n := by
  unfold fp_pE
  rw [if_neg h1, if_neg h2]
theorem fp_exb (C : fc_CP m c) (R : fc_RV m c L) (n : Nat) : -5544 ≤ fc_ex m hd c L n ∧ fc_ex m hd c L n ≤ 5544 := by
  have hm := C.1
  constructor
  · have h : fb_sm (fun _ => -99) (2 * m) ≤ fc_ex m hd c L n := fb_le (fun e he => by
      have h1 := fc_L99 C R he
      have h2 := (fc_CPe C he).1
      split <;> omega)
    rw [fb_const] at h
    omega
  · have h : fc_ex m hd c L n ≤ fb_sm (fun _ => 99) (2 * m) := fb_le (fun e he => by
      have h1 := fc_L99 C R he
      have h2 := fc_CPe C he
      have h3 := (fc_CPe C (fc_xlt he)).1
      split <;> omega)
    rw [fb_const] at h
    omega
theorem fp_Eb (C : fc_CP m c) (P : fp_PF m s hd c L E) {n : Nat} (hn : n < 16) : -5544 ≤ E n ∧ E n ≤ 5544 := by
  rw [P.2.1 n hn]; exact fp_exb C P.1 n
theorem fp_PFp {e : Nat} {a : Int} (H : fc_HD m hd) (P : fp_PF m s hd c L E) (he : e < 2 * m) (h0 : 0 ≤ a) (hL : a ≤ L e) (hE : hd (fc_xr e) = s ∨ a ≤ E (hd (fc_xr e))) :
    fp_PF m s hd c (fc_mv L e a) (fp_pE E (hd (fc_xr e)) (hd e) a) := by
  obtain ⟨P1, P2, P3⟩ := P
  have hne := (H e he).2
  refine ⟨fc_RV_mv P1 he h0 hL, fun n hn => ?_, fun n hn hs => ?_⟩
  · rw [fc_ex_mv he, ← P2 n hn]
    by_cases q1 : n = hd e
    · subst q1
      rw [fp_pEs, if_pos rfl, if_neg hne]; omega
    · by_cases q2 : n = hd (fc_xr e)
      · subst q2
        rw [fp_pEu hne, if_neg (fun z => hne z.symm), if_pos rfl]; omega
      · rw [fp_pEo q1 q2, if_neg (fun z => q1 z.symm), if_neg (fun z => q2 z.symm)]; omega
  · have := P3 n hn hs
    by_cases q1 : n = hd e
    · subst q1
      rw [fp_pEs]; omega
    · by_cases q2 : n = hd (fc_xr e)
      · subst q2
        rw [fp_pEu hne]
        rcases hE with z | z
        · exact absurd z hs
        · omega
      · rw [fp_pEo q1 q2]; exact this
theorem fp_LBp {e : Nat} {a : Int} (B : fp_LB m s t hd L lv) (he : e < 2 * m) (h0 : 0 ≤ a) (hl : lv (hd (fc_xr e)) = lv (hd e) + 1) :
    fp_LB m s t hd (fc_mv L e a) lv := by
  obtain ⟨B1, B2, B3, B4⟩ := B
  refine ⟨B1, B2, B3, fun i hi h => ?_⟩
  by_cases q1 : i = e
  · subst q1
    omega
  · by_cases q2 : i = fc_xr e
    · subst q2
      rw [fc_xx]; omega
    · rw [fc_mv_n q1 q2] at h
      exact B4 i hi h
theorem fp_PsiP {e : Nat} {a : Int} (H : fc_HD m hd) (P : fp_PF m s hd c L E) (B : fp_LB m s t hd L lv) (he : e < 2 * m) (h0 : 0 < a) (hL : a ≤ L e) (hE : a ≤ E (hd (fc_xr e))) (hor : a = L e ∨ a = E (hd (fc_xr e)))
    (us : hd (fc_xr e) ≠ s) (ut : hd (fc_xr e) ≠ t) (hl : lv (hd (fc_xr e)) = lv (hd e) + 1) :
    fp_Psi m s t hd (fc_mv L e a) (fp_pE E (hd (fc_xr e)) (hd e) a) lv < fp_Psi m s t hd L E lv := by
  have hne := (H e he).2
  have v16 := (H e he).1
  have u16 := (H _ (fc_xlt he)).1
  have bu := B.1 _ u16
  have bv := B.1 _ v16
  have n1 : fb_sm (fp_nt s t (fp_pE E (hd (fc_xr e)) (hd e) a) lv) 16 ≤ fb_sm (fp_nt s t E lv) 16 + (lv (hd e) - (if a = E (hd (fc_xr e)) then lv (hd (fc_xr e)) else 0)) := by
    have k : fb_sm (fp_nt s t (fp_pE E (hd (fc_xr e)) (hd e) a) lv) 16 ≤ fb_sm (fun n => fp_nt s t E lv n + ((if n = hd e then lv (hd e) else 0) - (if n = hd (fc_xr e) then (if a = E (hd (fc_xr e)) then lv (hd (fc_xr e)) else 0) else 0))) 16 := by
      refine fb_le (fun n hn => ?_)
      have bn := B.1 n hn
      by_cases q1 : n = hd e
      · subst q1
        rw [if_pos rfl, if_neg (fun z => hne z.symm)]
        unfold fp_nt
        split <;> split <;> omega
      · by_cases q2 : n = hd (fc_xr e)
        · subst q2
          rw [if_neg hne, if_pos rfl]
          unfold fp_nt
          rw [fp_pEu hne, if_pos (show hd (fc_xr e) ≠ s ∧ hd (fc_xr e) ≠ t ∧ 0 < E (hd (fc_xr e)) from ⟨us, ut, by omega⟩)]
          by_cases w : a = E (hd (fc_xr e))
          · rw [if_neg (by omega), if_pos w]; omega
          · rw [if_pos ⟨us, ut, by omega⟩, if_neg w]; omega
        · rw [if_neg q1, if_neg q2]
          unfold fp_nt
          rw [fp_pEo q1 q2]; omega
    rw [fb_add, fb_sub, fb_one _ v16, fb_one _ u16] at k
    exact k
  have n2 : fb_sm (fp_et hd (fc_mv L e a) lv) (2 * m) ≤ fb_sm (fp_et hd L lv) (2 * m) - (if a = L e then 1 else 0) := by
    have k : fb_sm (fp_et hd (fc_mv L e a) lv) (2 * m) ≤ fb_sm (fun i => fp_et hd L lv i - (if i = e then (if a = L e then 1 else 0) else 0)) (2 * m) := by
      refine fb_le (fun i hi => ?_)
      by_cases q1 : i = e
      · subst q1
        rw [if_pos rfl]
        unfold fp_et
        rw [fc_mv_e, if_pos (show 0 < L i ∧ lv (hd i) ≤ lv (hd (fc_xr i)) from ⟨by omega, by omega⟩)]
        by_cases w : a = L i
        · rw [if_neg (by omega), if_pos w]; omega
        · rw [if_pos (by omega), if_neg w]; omega
      · rw [if_neg q1]
        by_cases q2 : i = fc_xr e
        · subst q2
          unfold fp_et
          rw [fc_xx, if_neg (by omega), if_neg (by omega)]; omega
        · unfold fp_et
          rw [fc_mv_n q1 q2]; omega
    rw [fb_sub, fb_one _ he] at k
    exact k
  unfold fp_Psi
  by_cases w : a = L e
  · rw [if_pos w] at n2
    by_cases w2 : a = E (hd (fc_xr e))
    · rw [if_pos w2] at n1; omega
    · rw [if_neg w2] at n1; omega
  · rw [if_neg w] at n2
    rcases hor with z | z
    · exact absurd z w
    · rw [if_pos z] at n1; omega
theorem fp_etR {lv' : Nat → Int} (H : fc_HD m hd) (h : ∀ n, n < 16 → lv n ≤ lv' n) {e : Nat} (he : e < 2 * m) : fp_et hd L lv' e ≤ fp_et hd L lv e := by
  have h1 := h _ (H e he).1
  have h2 := h _ (H _ (fc_xlt he)).1
  unfold fp_et
  split <;> split <;> omega
theorem fp_PsiR {lv' : Nat → Int} (H : fc_HD m hd) (h : ∀ n, n < 16 → lv n ≤ lv' n) : fp_Psi m s t hd L E lv' ≤ fp_Psi m s t hd L E lv := by
  have k1 : fb_sm (fp_nt s t E lv') 16 ≤ fb_sm (fp_nt s t E lv) 16 := fb_le (fun n hn => by
    have := h n hn
    unfold fp_nt
    split <;> omega)
  have k2 : fb_sm (fp_et hd L lv') (2 * m) ≤ fb_sm (fp_et hd L lv) (2 * m) := fb_le (fun e he => fp_etR H h he)
  unfold fp_Psi
  omega
theorem fp_PsiU {u : Nat} {x : Int} (H : fc_HD m hd) (hu : u < 16) (h : lv u < x) : fp_Psi m s t hd L E (fa_up lv u x) < fp_Psi m s t hd L E lv := by
  have hle : ∀ n, n < 16 → lv n ≤ fa_up lv u x n := by
    intro n hn
    by_cases q : n = u
    · rw [q, fa_ps]; omega
    · rw [fa_pn q]; exact Int.le_refl _
  have k1 : fb_sm (fp_nt s t E (fa_up lv u x)) 16 < fb_sm (fp_nt s t E lv) 16 := by
    refine fb_lt (k := u) (fun n hn => ?_) hu ?_
    · have := hle n hn
      unfold fp_nt
      split <;> omega
    · unfold fp_nt
      rw [fa_ps]
      split <;> omega
  have k2 : fb_sm (fp_et hd L (fa_up lv u x)) (2 * m) ≤ fb_sm (fp_et hd L lv) (2 * m) := fb_le (fun e he => fp_etR H hle he)
  unfold fp_Psi
  omega
theorem fp_Psib (hm : m ≤ 28) (H : fc_HD m hd) (B : fp_LB m s t hd L lv) : 0 ≤ fp_Psi m s t hd L E lv ∧ fp_Psi m s t hd L E lv ≤ 66320 := by
  have a1 : 0 ≤ fb_sm (fp_nt s t E lv) 16 := fb_nn (fun n hn => by
    have := B.1 n hn
    unfold fp_nt
    split <;> omega)
  have a2 : 0 ≤ fb_sm (fp_et hd L lv) (2 * m) := fb_nn (fun e he => by
    have := B.1 _ (H _ (fc_xlt he)).1
    unfold fp_et
    split <;> omega)
  have a3 : fb_sm (fp_nt s t E lv) 16 ≤ fb_sm (fun _ => 99) 16 := fb_le (fun n hn => by
    have := B.1 n hn
    unfold fp_nt
    split <;> omega)
  have a4 : fb_sm (fp_et hd L lv) (2 * m) ≤ fb_sm (fun _ => 34) (2 * m) := fb_le (fun e he => by
    have := B.1 _ (H _ (fc_xlt he)).1
    unfold fp_et
    split <;> omega)
  rw [fb_const] at a3 a4
  unfold fp_Psi
  constructor
  · omega
  · omega
/-- the nodes but one, but two -/
theorem fp_list1 (s : Nat) (hs : s < 16) : ∃ l : List Nat, l.length < 16 ∧ ∀ n, n < 16 → n ≠ s → n ∈ l :=
  ⟨(List.range 16).erase s, by rw [List.length_erase_of_mem (List.mem_range.mpr hs), List.length_range]; omega, fun n hn h => (List.mem_erase_of_ne h).mpr (List.mem_range.mpr hn)⟩
theorem fp_list2 (s t : Nat) (hs : s < 16) (ht : t < 16) (hst : s ≠ t) : ∃ l : List Nat, l.length < 15 ∧ ∀ n, n < 16 → n ≠ s → n ≠ t → n ∈ l := by
  have hm : t ∈ (List.range 16).erase s := (List.mem_erase_of_ne (fun z => hst z.symm)).mpr (List.mem_range.mpr ht)
  refine ⟨((List.range 16).erase s).erase t, ?_, fun n hn h1 h2 => (List.mem_erase_of_ne h2).mpr ((List.mem_erase_of_ne h1).mpr (List.mem_range.mpr hn))⟩
  rw [List.length_erase_of_mem hm, List.length_erase_of_mem (List.mem_range.mpr hs), List.length_range]; omega
/-- a node with too much is no higher than 31: above an empty height nothing could flow back -/
theorem fp_gap {u : Nat} (C : fc_CP m c) (H : fc_HD m hd) (hs : s < 16) (P : fp_PF m s hd c L E) (B : fp_LB m s t hd L lv) (hu : u < 16) (us : u ≠ s) (hE : 0 < E u) : lv u ≤ 31 := by
  obtain ⟨P1, P2, P3⟩ := P
  obtain ⟨B1, B2, B3, B4⟩ := B
  obtain ⟨l, l1, l2⟩ := fp_list1 s hs
  obtain ⟨h, h1, h2, h3⟩ := fc_pig lv 16 l 17 l1
  by_cases w : lv u ≤ 31
  · exact w
  · exfalso
    have k := fc_cut (fun e he => (H e he).1) P1 (fun n => decide (h < lv n))
    have hu2 : h < lv u := by
      have := h3 u (l2 u hu us)
      omega
    have k1 : 0 < fb_sm (fun n => if decide (h < lv n) = true then fc_ex m hd c L n else 0) 16 := by
      have := fb_ge (f := fun n => if decide (h < lv n) = true then fc_ex m hd c L n else 0) (n := 16) (k := u) (fun n hn => ?_) hu
      · rw [if_pos (by simp; exact hu2), ← P2 u hu] at this
        omega
      · by_cases q : h < lv n
        · rw [if_pos (by simp; exact q), ← P2 n hn]
          exact P3 n hn (fun z => by rw [z, B2] at q; omega)
        · rw [if_neg (by simp; omega)]; omega
    have k2 : fb_sm (fun e => if decide (h < lv (hd e)) = true ∧ decide (h < lv (hd (fc_xr e))) = false then c e - L e else 0) (2 * m) ≤ fb_sm (fun _ => 0) (2 * m) := by
      refine fb_le (fun e he => ?_)
      split
      · next z =>
        obtain ⟨z1, z2⟩ := z
        simp only [decide_eq_true_eq] at z1
        simp only [decide_eq_false_iff_not] at z2
        have r1 := P1 e he
        have r2 := P1 _ (fc_xlt he)
        have c1 := (fc_CPe C (fc_xlt he)).1
        by_cases q : 0 < L (fc_xr e)
        · have b4 := B4 _ (fc_xlt he) q
          rw [fc_xx] at b4
          have t16 := (H _ (fc_xlt he)).1
          by_cases y : hd (fc_xr e) = s
          · rw [y, B2] at b4; omega
          · have := h3 _ (l2 _ t16 y)
            omega
        · omega
      · omega
    rw [fb_const] at k2
    omega
/-- nobody has too much: the flow is greatest -/
theorem fp_MF (H : fc_HD m hd) (hs : s < 16) (ht : t < 16) (hst : s ≠ t) (P : fp_PF m s hd c L E) (B : fp_LB m s t hd L lv) (hE : ∀ n, n < 16 → n ≠ s → n ≠ t → E n ≤ 0) : fc_MF m hd c s t L (E t) := by
  obtain ⟨P1, P2, P3⟩ := P
  obtain ⟨B1, B2, B3, B4⟩ := B
  obtain ⟨l, l1, l2⟩ := fp_list2 s t hs ht hst
  obtain ⟨h, h1, h2, h3⟩ := fc_pig lv 15 l 1 l1
  refine ⟨⟨P1, fun n hn n1 n2 => ?_, (P2 t ht).symm⟩, fun n => decide (h < lv n), ?_, ?_, fun e he z1 z2 => ?_⟩
  · have a := P3 n hn n1
    have b := hE n hn n1 n2
    rw [← P2 n hn]; omega
  · simp only [decide_eq_true_eq]; omega
  · simp only [decide_eq_false_iff_not]; omega
  · simp only [decide_eq_true_eq] at z1
    simp only [decide_eq_false_iff_not] at z2
    have r := (P1 e he).1
    by_cases q : 0 < L e
    · have b4 := B4 e he q
      have t16 := (H e he).1
      by_cases y1 : hd e = s
      · rw [y1, B2] at z2; omega
      · by_cases y2 : hd e = t
        · rw [y2, B3] at b4; omega
        · have := h3 _ (l2 _ t16 y1 y2)
          omega
    · omega
end PUSHP
/-! how many nodes there are at a height -/
def fp_cn (lv : Nat → Int) (h : Int) (k : Nat) : Int := fb_sm (fun i => if lv i = h then 1 else 0) k
theorem fp_cn_b (lv : Nat → Int) (h : Int) : 0 ≤ fp_cn lv h 16 ∧ fp_cn lv h 16 ≤ 16 := by
  constructor
  · refine fb_nn (fun i hi => ?_)
    split <;> omega
  · have z : fp_cn lv h 16 ≤ fb_sm (fun _ => 1) 16 := fb_le (fun i hi => by split <;> omega)
    rw [fb_const] at z
    exact z
theorem fp_cn_up (lv : Nat → Int) {u : Nat} (hu : u < 16) (x h : Int) : fp_cn (fa_up lv u x) h 16 = fp_cn lv h 16 + ((if x = h then 1 else 0) - (if lv u = h then 1 else 0)) := by
  have z : fp_cn (fa_up lv u x) h 16 = fb_sm (fa_up (fun i => if lv i = h then 1 else 0) u (if x = h then 1 else 0)) 16 := by
    refine fb_congr (fun i hi => ?_)
    by_cases q : i = u
    · subst q; rw [fa_ps, fa_ps]
    · rw [fa_pn q, fa_pn q]
  rw [z, fb_up _ hu]; rfl
theorem fp_cn_0 {lv : Nat → Int} {h : Int} (z : fp_cn lv h 16 = 0) : ∀ n, n < 16 → lv n ≠ h := by
  intro n hn y
  have := fb_eq0 (f := fun i => if lv i = h then (1 : Int) else 0) (n := 16) (fun i hi => by split <;> omega) (by unfold fp_cn at z; omega) n hn
  rw [if_pos y] at this
  omega
def fp_HS (lv hs : Nat → Int) : Prop := ∀ h : Nat, h < 64 → hs h = fp_cn lv h 16
/-- one node goes from one height to another -/
theorem fp_HSu {lv hs : Nat → Int} {u o : Nat} {x : Nat} (S : fp_HS lv hs) (hu : u < 16) (ho : lv u = o) (hx : (o : Int) ≠ x) :
    fp_HS (fa_up lv u x) (fa_up (fa_up hs o (hs o - 1)) x (fa_up hs o (hs o - 1) x + 1)) := by
  intro h hh
  rw [fp_cn_up _ hu, ← S h hh, ho]
  by_cases q1 : h = x
  · subst q1
    rw [fa_ps, fa_pn (by omega), if_pos rfl, if_neg (by omega)]; omega
  · rw [fa_pn q1, if_neg (by omega)]
    by_cases q2 : h = o
    · subst q2
      rw [fa_ps, if_pos rfl]; omega
    · rw [fa_pn q2, if_neg (by omega)]; omega
end
section
/-! 12: engines 2 and 3: the walks of push, discharge, raise -/
theorem fa_nI {x : Int32} {n : Nat} (h : x.toInt = n) (hn : n < 1000000) : x = nI n := by rw [fa_eq, fa_ti hn]; exact h
def fp_AQ (s t u : Nat) (E : Nat → Int) (qd : Nat → Int32) : Prop := qd u = 0 ∧ ∀ k, k < 16 → k ≠ u → (qd k ≠ 0 ↔ (k ≠ s ∧ k ≠ t ∧ 0 < E k))
def fp_D (m s t : Nat) (hd : Nat → Nat) (adj : Nat → List Nat) (c L E lv : Nat → Int) (u : Nat) (r : List Nat) (Z : Int) : Prop :=
  fp_PF m s hd c L E ∧ fp_LB m s t hd L lv ∧ (0 < E u → ∀ e, e ∈ adj u → e ∉ r → L e = 0 ∨ lv u ≠ lv (hd e) + 1) ∧ fp_Psi m s t hd L E lv ≤ Z ∧ (E u ≤ 0 → fp_Psi m s t hd L E lv < Z)
section PUSHD
variable {m s t : Nat} {hd : Nat → Nat} {adj : Nat → List Nat} {c L E lv : Nat → Int}
theorem fp_Ds {u e : Nat} {r : List Nat} {Z a : Int} (hadj : ∀ v, v < 16 → ∀ e, e ∈ adj v ↔ (e < 2 * m ∧ hd (fc_xr e) = v)) (H : fc_HD m hd) (D : fp_D m s t hd adj c L E lv u (e :: r) Z) (hu : u < 16) (us : u ≠ s) (ut : u ≠ t)
    (he : e < 2 * m) (hue : hd (fc_xr e) = u) (h0 : 0 < a) (hL : a ≤ L e) (hE : a ≤ E u) (hor : a = L e ∨ a = E u) (hl : lv u = lv (hd e) + 1) :
    fp_D m s t hd adj c (fc_mv L e a) (fp_pE E u (hd e) a) lv u r Z := by
  obtain ⟨P, B, D3, D4, D5⟩ := D
  subst hue
  have hne := (H e he).2
  have k := fp_PsiP H P B he h0 hL hE hor us ut hl
  refine ⟨fp_PFp H P he (by omega) hL (Or.inr hE), fp_LBp B he (by omega) hl, fun hpos e' he' hr => ?_, by omega, fun _ => by omega⟩
  rw [fp_pEu hne] at hpos
  by_cases q : e' = e
  · subst q
    left
    rw [fc_mv_e]
    rcases hor with z | z <;> omega
  · have q2 : e' ≠ fc_xr e := by
      intro z
      have := ((hadj _ hu e').mp he').2
      rw [z, fc_xx] at this
      exact hne this.symm
    rw [fc_mv_n q q2]
    exact D3 (by omega) e' he' (by simp [q, hr])
theorem fp_Dk {u e : Nat} {r : List Nat} {Z : Int} (D : fp_D m s t hd adj c L E lv u (e :: r) Z) (h : L e = 0 ∨ lv u ≠ lv (hd e) + 1) : fp_D m s t hd adj c L E lv u r Z := by
  obtain ⟨P, B, D3, D4, D5⟩ := D
  refine ⟨P, B, fun hpos e' he' hr => ?_, D4, D5⟩
  by_cases q : e' = e
  · rw [q]; exact h
  · exact D3 hpos e' he' (by simp [q, hr])
theorem fp_De {u : Nat} {r : List Nat} {Z : Int} (D : fp_D m s t hd adj c L E lv u r Z) (h : E u ≤ 0) : fp_D m s t hd adj c L E lv u [] Z :=
  ⟨D.1, D.2.1, fun z => by omega, D.2.2.2.1, D.2.2.2.2⟩
theorem fp_LBr {u : Nat} {y : Int} (hadj : ∀ v, v < 16 → ∀ e, e ∈ adj v ↔ (e < 2 * m ∧ hd (fc_xr e) = v)) (H : fc_HD m hd) (B : fp_LB m s t hd L lv) (hu : u < 16) (us : u ≠ s) (ut : u ≠ t) (h1 : lv u ≤ y) (h2 : y ≤ 32)
    (h3 : ∀ e, e ∈ adj u → 0 < L e → y ≤ lv (hd e)) : fp_LB m s t hd L (fa_up lv u (y + 1)) := by
  obtain ⟨B1, B2, B3, B4⟩ := B
  refine ⟨fun n hn => ?_, by rw [fa_pn (fun z => us z.symm)]; exact B2, by rw [fa_pn (fun z => ut z.symm)]; exact B3, fun e he h => ?_⟩
  · by_cases q : n = u
    · rw [q, fa_ps]
      have := B1 u hu
      omega
    · rw [fa_pn q]; exact B1 n hn
  · have b4 := B4 e he h
    by_cases q : hd (fc_xr e) = u
    · have hne := (H e he).2
      rw [q, fa_ps, fa_pn (fun z => hne (q.trans z.symm))]
      have := h3 e ((hadj u hu e).mpr ⟨he, q⟩) h
      omega
    · rw [fa_pn q]
      by_cases w : hd e = u
      · rw [w, fa_ps]
        rw [w] at b4
        omega
      · rw [fa_pn w]; exact b4
def fp_gl (s : Nat) (o : Int) (lv : Nat → Int) (i : Nat) : Nat → Int := fun n => if n < i ∧ n ≠ s ∧ o < lv n ∧ lv n ≤ 16 then 17 else lv n
theorem fp_gl_ge {o : Int} {i n : Nat} : lv n ≤ fp_gl s o lv i n := by
  unfold fp_gl
  split <;> omega
/-- a height below 16 is empty: what is above it, up to 16, goes to 17 -/
theorem fp_LBg {o : Int} (H : fc_HD m hd) (B : fp_LB m s t hd L lv) (h0 : 0 ≤ o) (hg : ∀ n, n < 16 → lv n ≠ o) : fp_LB m s t hd L (fp_gl s o lv 16) := by
  obtain ⟨B1, B2, B3, B4⟩ := B
  refine ⟨fun n hn => ?_, ?_, ?_, fun e he h => ?_⟩
  · have := B1 n hn
    unfold fp_gl
    split <;> omega
  · unfold fp_gl
    rw [if_neg (by omega)]; exact B2
  · unfold fp_gl
    rw [if_neg (by omega)]; exact B3
  · have b4 := B4 e he h
    have a16 := (H _ (fc_xlt he)).1
    have b16 := (H e he).1
    have g1 := hg _ b16
    unfold fp_gl
    by_cases q : hd e = s
    · rw [q, if_neg (by omega : ¬ (s < 16 ∧ s ≠ s ∧ o < lv s ∧ lv s ≤ 16))]
      rw [q] at b4
      split <;> omega
    · split
      · next z =>
        split
        · omega
        · omega
      · split <;> omega
theorem fp_hs3 {alv ahs ahs7 ahs13 : Nat → Int32} {u o x : Nat} (S : fp_HS (fa_tI alv) (fa_tI ahs)) (hu : u < 16) (ho : alv u = nI o) (o64 : o < 64) (x64 : x < 64) (hox : o ≠ x) (e7 : ahs7 = upd ahs o (ahs o - 1))
    (e13 : ahs13 = upd ahs7 x (ahs7 x + 1)) : fp_HS (fa_up (fa_tI alv) u x) (fa_tI ahs13) := by
  have tx : fa_tI ahs x = fp_cn (fa_tI alv) x 16 := S x x64
  have to : fa_tI ahs o = fp_cn (fa_tI alv) o 16 := S o o64
  have bx := fp_cn_b (fa_tI alv) x
  have bo := fp_cn_b (fa_tI alv) o
  have t7 : fa_tI ahs7 = fa_up (fa_tI ahs) o (fa_tI ahs o - 1) := by
    rw [e7, fa_tu]
    congr 1
    simp only [fa_tI] at *
    rw [fa_sub (by rw [fa_1]; omega) (by rw [fa_1]; omega), fa_1]
  have t13 : fa_tI ahs13 = fa_up (fa_up (fa_tI ahs) o (fa_tI ahs o - 1)) x (fa_up (fa_tI ahs) o (fa_tI ahs o - 1) x + 1) := by
    have h7 : (ahs7 x).toInt = fa_tI ahs x := by
      have : fa_tI ahs7 x = fa_tI ahs x := by rw [t7, fa_pn (fun z => hox z.symm)]
      exact this
    rw [e13, fa_tu, t7, fa_add (by rw [fa_1]; omega) (by rw [fa_1]; omega), fa_1, h7, fa_pn (fun z => hox z.symm)]
  rw [t13]
  exact fp_HSu S hu (by simp only [fa_tI]; rw [ho]; exact fa_ti (by omega)) (by omega)
end PUSHD
section PUSHW
variable {fpr ffl fqf fqs foc : Int32} {afo ato aro aet ale afe anx alv acu acb aex ahs aqu aqd apa ago ane atr aor : Nat → Int32}
variable {m s t : Nat} {hd : Nat → Nat} {adj : Nat → List Nat} {c : Nat → Int}
theorem fp_push {post : SX → Prop} {e u : Nat} {x : Int32} {l : List Nat} (N : fd_Nt m hd adj aet afe anx) (C : fc_CP m c) (hs : s < 16) (ht : t < 16) (P : fp_PF m s hd c (fa_tI ale) (fa_tI aex)) (he : e < 2 * m) (hu : hd (fc_xr e) = u)
    (h0 : 0 ≤ x.toInt) (hL : x.toInt ≤ fa_tI ale e) (Q : fq_L fqf fqs aqu aqd l)
    (K : ∀ fqs ale' aex' aqu aqd' l', fa_tI ale' = fc_mv (fa_tI ale) e x.toInt → fa_tI aex' = fp_pE (fa_tI aex) u (hd e) x.toInt → fq_L fqf fqs aqu aqd' l' →
      (∀ k, k < 16 → aqd' k = if 0 < x.toInt ∧ k = hd e ∧ k ≠ s ∧ k ≠ t then 1 else aqd k) → post (fpr, nI s, nI t, nI (2 * m), ffl, fqf, fqs, foc, afo, ato, aro, aet, ale', afe, anx, alv, acu, acb, aex', ahs, aqu, aqd', apa, ago, ane, atr, aor)) :
    wpX_pushAlong post (fpr, nI s, nI t, nI (2 * m), ffl, fqf, fqs, foc, afo, ato, aro, aet, ale, afe, anx, alv, acu, acb, aex, ahs, aqu, aqd, apa, ago, ane, atr, aor) (nI u) (nI e) x := by
  have N1 := N.1
  have hv := (N.2.2.1 e he).1
  have hne := (N.2.2.1 e he).2
  have u16 : u < 16 := by rw [← hu]; exact (N.2.2.1 _ (fc_xlt he)).1
  have l1 := fc_L99 C P.1 he
  have l2 := fc_L99 C P.1 (fc_xlt he)
  have b1 := fp_Eb C P u16
  have b2 := fp_Eb C P hv
  have ce : (nI e).toNatClampNeg = e := fa_cl (by omega)
  have cu : (nI u).toNatClampNeg = u := fa_cl (by omega)
  have cv : (nI (hd e)).toNatClampNeg = hd e := fa_cl (by omega)
  have we : vp_in (nI e) 56 := fa_in (by omega) (by omega)
  have wu : vp_in (nI u) 16 := fa_in u16 (by omega)
  have wv : vp_in (nI (hd e)) 16 := fa_in hv (by omega)
  have uv : u ≠ hd e := by rw [← hu]; exact hne
  refine ⟨we, nm_r (e' := nI (hd e)) (by rw [ce, N.2.1 e he]) (fw_move rfl (by omega) (by omega) (by omega) (by omega) (by omega) (fun ale' e1 => ⟨wu, wu, fun aex1 ee1 => ⟨wv, wv, fun aex2 ee2 => ?_⟩⟩))⟩
  have t1 : fa_tI aex1 = fa_up (fa_tI aex) u (fa_tI aex u - x.toInt) := by
    rw [ee1, fa_tu, cu]
    congr 1
    simp only [fa_tI] at *
    rw [fa_sub (by omega) (by omega)]
  have t2 : fa_tI aex2 = fp_pE (fa_tI aex) u (hd e) x.toInt := by
    have h7 : (aex1 (hd e)).toInt = fa_tI aex (hd e) := by
      have : fa_tI aex1 (hd e) = fa_tI aex (hd e) := by rw [t1, fa_pn (fun z => uv z.symm)]
      exact this
    rw [ee2, fa_tu, cv, t1, fa_add (by omega) (by omega), h7]
    funext n
    by_cases q1 : n = hd e
    · rw [q1, fa_ps, fp_pEs]
    · by_cases q2 : n = u
      · rw [q2, fa_pn uv, fa_ps, fp_pEu uv]
      · rw [fa_pn q1, fa_pn q2, fp_pEo q1 q2]
  refine br_c (fun z => K _ _ _ _ _ l e1 t2 Q (fun k hk => ?_)) (fun z => br_c (fun z1 => K _ _ _ _ _ l e1 t2 Q (fun k hk => ?_)) (fun z1 => br_c (fun z2 => K _ _ _ _ _ l e1 t2 Q (fun k hk => ?_)) (fun z2 => fq_enq Q hv (fun fqs' aqu' aqd' l' Q' q1 _ _ => K _ _ _ _ _ l' e1 t2 Q' (fun k hk => ?_)))))
  · rw [fa_le, fa_0] at z
    rw [if_neg (by omega)]
  · have := fa_inj z1 (by omega) (by omega)
    rw [if_neg (by omega)]
  · have := fa_inj z2 (by omega) (by omega)
    rw [if_neg (by omega)]
  · rw [fa_le, fa_0] at z
    have y1 : hd e ≠ s := fun y => z1 (by rw [y])
    have y2 : hd e ≠ t := fun y => z2 (by rw [y])
    rw [q1 k hk]
    by_cases w : k = hd e
    · rw [if_pos w, if_pos (by omega)]
    · rw [if_neg w, if_neg (by omega)]
theorem fp_AQp {u e : Nat} {E : Nat → Int} {a : Int} {qd qd' : Nat → Int32} (A : fp_AQ s t u E qd) (h0 : 0 < a) (hne : hd e ≠ u) (hE : ∀ n, n < 16 → n ≠ s → 0 ≤ E n) (hu : u < 16)
    (hq : ∀ k, k < 16 → qd' k = if 0 < a ∧ k = hd e ∧ k ≠ s ∧ k ≠ t then 1 else qd k) : fp_AQ s t u (fp_pE E u (hd e) a) qd' := by
  refine ⟨?_, fun k hk hku => ?_⟩
  · rw [hq u hu, if_neg (fun z => hne z.2.1.symm)]; exact A.1
  · rw [hq k hk]
    by_cases w : k = hd e
    · subst w
      rw [fp_pEs]
      by_cases y : hd e ≠ s ∧ hd e ≠ t
      · rw [if_pos ⟨h0, rfl, y.1, y.2⟩]
        have := hE _ hk y.1
        exact ⟨fun _ => ⟨y.1, y.2, by omega⟩, fun _ => by decide⟩
      · rw [if_neg (fun z => y ⟨z.2.2.1, z.2.2.2⟩)]
        have := A.2 _ hk hku
        exact ⟨fun z => absurd (this.mp z) (fun z => y ⟨z.1, z.2.1⟩), fun z => absurd ⟨z.1, z.2.1⟩ y⟩
    · rw [if_neg (fun z => w z.2.1), fp_pEo w hku]
      exact A.2 k hk hku
theorem fp_dis7 {post : SX → Prop} {u : Nat} {Z : Int} {b : Prop} (N : fd_Nt m hd adj aet afe anx) (C : fc_CP m c) (hs : s < 16) (ht : t < 16) (hu : u < 16) (us : u ≠ s) (ut : u ≠ t)
    (K : ∀ fqs ale aex aqu aqd l, fp_D m s t hd adj c (fa_tI ale) (fa_tI aex) (fa_tI alv) u [] Z → fq_L fqf fqs aqu aqd l → (b → fp_AQ s t u (fa_tI aex) aqd) → post (fpr, nI s, nI t, nI (2 * m), ffl, fqf, fqs, foc, afo, ato, aro, aet, ale, afe, anx, alv, acu, acb, aex, ahs, aqu, aqd, apa, ago, ane, atr, aor)) :
    ∀ (r : List Nat) (n : Nat) (x2 fqs : Int32) (ale aex aqu aqd : Nat → Int32) (l : List Nat), r.length < n → fd_Ch anx r x2 → (∀ e, e ∈ r → e ∈ adj u) →
      fp_D m s t hd adj c (fa_tI ale) (fa_tI aex) (fa_tI alv) u r Z → fq_L fqf fqs aqu aqd l → (b → fp_AQ s t u (fa_tI aex) aqd) → wX_discharge_7 post (nI u) n x2 fpr (nI s) (nI t) (nI (2 * m)) ffl fqf fqs foc afo ato aro aet ale afe anx alv acu acb aex ahs aqu aqd apa ago ane atr aor := by
  intro r
  induction r with
  | nil =>
    intro n x2 fqs ale aex aqu aqd l hn hc hr D Q A
    obtain ⟨n, rfl⟩ : ∃ k, n = k + 1 := ⟨n - 1, by omega⟩
    rw [wX_discharge_7]
    exact br_t (by rw [show x2 = -1 from hc]; decide) (K _ _ _ _ _ l D Q A)
  | cons e r ih =>
    intro n x2 fqs ale aex aqu aqd l hn hc hr D Q A
    obtain ⟨n, rfl⟩ : ∃ k, n = k + 1 := ⟨n - 1, by rw [List.length_cons] at hn; omega⟩
    rw [List.length_cons] at hn
    obtain ⟨rfl, e56, hc'⟩ := hc
    obtain ⟨he, heu⟩ := (N.2.2.2.2.1 u hu e).mp (hr e (List.mem_cons_self ..))
    have N1 := N.1
    have hv := (N.2.2.1 e he).1
    have hne := (N.2.2.1 e he).2
    have ce : (nI e).toNatClampNeg = e := fa_cl (by omega)
    have cv : (nI (hd e)).toNatClampNeg = hd e := fa_cl (by omega)
    have cu : (nI u).toNatClampNeg = u := fa_cl (by omega)
    have w : vp_in (nI e) 56 := fa_in e56 (by omega)
    have wv : vp_in (nI (hd e)) 16 := fa_in hv (by omega)
    have wu : vp_in (nI u) 16 := fa_in hu (by omega)
    have hr' : ∀ e', e' ∈ r → e' ∈ adj u := fun e' h => hr e' (List.mem_cons_of_mem _ h)
    have bl := D.2.1.1 _ hv
    have ad : (alv (hd e) + 1).toInt = (alv (hd e)).toInt + 1 := by
      rw [fa_add (by rw [fa_1]; simp only [fa_tI] at *; omega) (by rw [fa_1]; simp only [fa_tI] at *; omega), fa_1]
    have push : ∀ x : Int32, 0 < x.toInt → x.toInt ≤ fa_tI ale e → x.toInt ≤ fa_tI aex u → (x.toInt = fa_tI ale e ∨ x.toInt = fa_tI aex u) → fa_tI alv u = fa_tI alv (hd e) + 1 →
        wX_discharge_83 post (wX_discharge_7 post (nI u) n) (nI u) (nI e) x fpr (nI s) (nI t) (nI (2 * m)) ffl fqf fqs foc afo ato aro aet ale afe anx alv acu acb aex ahs aqu aqd apa ago ane atr aor := by
      intro x x0 x1 x2 x3 hl
      refine fp_push N C hs ht D.1 he heu (by omega) x1 Q (fun fqs' ale' aex' aqu' aqd' l' e1 e2 Q' eq => ⟨w, nm_r (e' := anx e) (by rw [ce]) (ih n _ _ _ _ _ _ l' (by omega) hc' hr' ?_ Q' (fun hb => ?_))⟩)
      · rw [e1, e2]
        exact fp_Ds N.2.2.2.2.1 N.2.2.1 D hu us ut he heu x0 x1 x2 x3 hl
      · rw [e2]
        exact fp_AQp (A hb) x0 (fun z => hne (heu.trans z.symm)) D.1.2.2 hu eq
    rw [wX_discharge_7]
    refine br_f (fa_lt0 (by omega)) ⟨wu, br_c (fun z => K _ _ _ _ _ l (fp_De D ?_) Q A) (fun z => ⟨w, nm_r (e' := nI (hd e)) (by rw [ce, N.2.1 e he]) ⟨w, br_c (fun z2 => ⟨w, nm_r (e' := anx e) (by rw [ce]) (ih n _ _ _ _ _ _ l (by omega) hc' hr' (fp_Dk D (Or.inl ?_)) Q A)⟩) (fun z2 => ⟨wu, wv, br_c (fun z3 => ⟨w, wu, br_c (fun z4 => ⟨wu, push _ ?_ ?_ ?_ (Or.inr ?_) ?_⟩) (fun z4 => ⟨w, push _ ?_ ?_ ?_ (Or.inl ?_) ?_⟩)⟩) (fun z3 => ⟨w, nm_r (e' := anx e) (by rw [ce]) (ih n _ _ _ _ _ _ l (by omega) hc' hr' (fp_Dk D (Or.inr ?_)) Q A)⟩)⟩)⟩⟩)⟩
    · rw [cu, fa_le, fa_0] at z; exact z
    · rw [ce, fa_le, fa_0] at z2
      have := (D.1.1 e he).1
      simp only [fa_tI] at *
      omega
    · rw [cu, fa_le, fa_0] at z; rw [cu]; omega
    · rw [cu, ce, fa_le] at z4; rw [cu]; exact z4
    · rw [cu]; exact Int.le_refl _
    · rw [cu]; rfl
    · rw [cu, cv, fa_eq, ad] at z3; exact z3
    · rw [ce, fa_le, fa_0] at z2; rw [ce]; omega
    · rw [ce]; exact Int.le_refl _
    · rw [cu, ce, fa_le] at z4
      rw [ce]
      simp only [fa_tI]
      omega
    · rw [ce]; rfl
    · rw [cu, cv, fa_eq, ad] at z3; exact z3
    · rw [cu, cv, fa_eq, ad] at z3; exact z3
theorem fp_dis {post : SX → Prop} {u : Nat} {Z : Int} {b : Prop} {l : List Nat} (N : fd_Nt m hd adj aet afe anx) (C : fc_CP m c) (hs : s < 16) (ht : t < 16) (hu : u < 16) (us : u ≠ s) (ut : u ≠ t)
    (K : ∀ fqs ale aex aqu aqd l, fp_D m s t hd adj c (fa_tI ale) (fa_tI aex) (fa_tI alv) u [] Z → fq_L fqf fqs aqu aqd l → (b → fp_AQ s t u (fa_tI aex) aqd) → post (fpr, nI s, nI t, nI (2 * m), ffl, fqf, fqs, foc, afo, ato, aro, aet, ale, afe, anx, alv, acu, acb, aex, ahs, aqu, aqd, apa, ago, ane, atr, aor))
    (P : fp_PF m s hd c (fa_tI ale) (fa_tI aex)) (B : fp_LB m s t hd (fa_tI ale) (fa_tI alv)) (hE : 0 < fa_tI aex u) (hZ : Z = fp_Psi m s t hd (fa_tI ale) (fa_tI aex) (fa_tI alv)) (Q : fq_L fqf fqs aqu aqd l) (A : b → fp_AQ s t u (fa_tI aex) aqd) :
    wpX_discharge post (fpr, nI s, nI t, nI (2 * m), ffl, fqf, fqs, foc, afo, ato, aro, aet, ale, afe, anx, alv, acu, acb, aex, ahs, aqu, aqd, apa, ago, ane, atr, aor) (nI u) :=
  ⟨fa_in hu (by omega), nm_r (e' := afe u) (by rw [fa_cl (by omega)]) ⟨(adj u).length + 1, fp_dis7 N C hs ht hu us ut K (adj u) _ _ _ _ _ _ _ l (by omega) (N.2.2.2.1 u hu) (fun e he => he) ⟨P, B, fun _ e he hn => absurd he hn, by omega, fun z => by omega⟩ Q A⟩⟩
theorem fp_ra10 {post : SX → Prop} {u : Nat} (N : fd_Nt m hd adj aet afe anx) (hu : u < 16) (hb : ∀ n, n < 16 → 0 ≤ fa_tI alv n ∧ fa_tI alv n ≤ 33) (hl : ∀ e, e ∈ adj u → 0 < fa_tI ale e → fa_tI alv u ≤ fa_tI alv (hd e)) (S : fp_HS (fa_tI alv) (fa_tI ahs))
    (K : ∀ (y : Int) alv' ahs', fa_tI alv' = fa_up (fa_tI alv) u (y + 1) → fa_tI alv u ≤ y → y ≤ 32 → (∀ e, e ∈ adj u → 0 < fa_tI ale e → y ≤ fa_tI alv (hd e)) → fp_HS (fa_tI alv') (fa_tI ahs') → post (fpr, nI s, nI t, nI (2 * m), ffl, fqf, fqs, foc, afo, ato, aro, aet, ale, afe, anx, alv', acu, acb, aex, ahs', aqu, aqd, apa, ago, ane, atr, aor)) :
    ∀ (r : List Nat) (n : Nat) (x2 x3 : Int32), r.length < n → fd_Ch anx r x3 → (∀ e, e ∈ r → e ∈ adj u) → fa_tI alv u ≤ x2.toInt → x2.toInt ≤ 32 → (∀ e, e ∈ adj u → e ∉ r → 0 < fa_tI ale e → x2.toInt ≤ fa_tI alv (hd e)) →
      wX_raise_10 post (nI u) fpr (nI s) (nI t) (nI (2 * m)) ffl fqf fqs foc afo ato aro aet ale afe anx alv acu acb aex ahs aqu aqd apa ago ane atr aor n x2 x3 := by
  intro r
  induction r with
  | nil =>
    intro n x2 x3 hn hc hr h1 h2 h3
    obtain ⟨n, rfl⟩ : ∃ k, n = k + 1 := ⟨n - 1, by omega⟩
    rw [wX_raise_10]
    have bu := hb u hu
    have cu : (nI u).toNatClampNeg = u := fa_cl (by omega)
    have wu : vp_in (nI u) 16 := fa_in hu (by omega)
    obtain ⟨o, ho⟩ : ∃ o : Nat, (alv u).toInt = o := ⟨(alv u).toInt.toNat, by simp only [fa_tI] at bu; omega⟩
    obtain ⟨y, hy⟩ : ∃ y : Nat, x2.toInt = y := ⟨x2.toInt.toNat, by omega⟩
    simp only [fa_tI] at bu h1
    have eo : alv u = nI o := fa_nI ho (by omega)
    have ey : x2 + 1 = nI (y + 1) := by rw [fa_nI hy (by omega), nI_1]
    have co : (alv (nI u).toNatClampNeg).toNatClampNeg = o := by rw [cu, eo]; exact fa_cl (by omega)
    have wo : vp_in (alv (nI u).toNatClampNeg) 64 := by rw [cu, eo]; exact fa_in (by omega) (by omega)
    refine br_t (by rw [show x3 = -1 from hc]; decide) ⟨wu, wo, wo, fun ahs7 e7 => ⟨wu, fun alv9 e9 => ?_⟩⟩
    have a9 : alv9 (nI u).toNatClampNeg = nI (y + 1) := by rw [e9, cu, fa_us, ey]
    have w9 : vp_in (alv9 (nI u).toNatClampNeg) 64 := by rw [a9]; exact fa_in (by omega) (by omega)
    refine ⟨wu, w9, w9, fun ahs13 e13 => K y _ _ ?_ ?_ (by omega) (fun e he hL => ?_) ?_⟩
    · rw [e9, fa_tu, cu, ey, fa_ti (by omega)]; rfl
    · simp only [fa_tI]; omega
    · have := h3 e he (List.not_mem_nil) hL
      omega
    · rw [co] at e7
      rw [a9, fa_cl (by omega)] at e13
      have := fp_hs3 S hu eo (by omega) (by omega) (by omega) e7 e13
      rw [e9, fa_tu, cu, ey, fa_ti (by omega)]; exact this
  | cons e r ih =>
    intro n x2 x3 hn hc hr h1 h2 h3
    obtain ⟨n, rfl⟩ : ∃ k, n = k + 1 := ⟨n - 1, by rw [List.length_cons] at hn; omega⟩
    rw [List.length_cons] at hn
    obtain ⟨rfl, e56, hc'⟩ := hc
    have hin := hr e (List.mem_cons_self ..)
    obtain ⟨he, heu⟩ := (N.2.2.2.2.1 u hu e).mp hin
    have hv := (N.2.2.1 e he).1
    have ce : (nI e).toNatClampNeg = e := fa_cl (by omega)
    have cv : (nI (hd e)).toNatClampNeg = hd e := fa_cl (by omega)
    have w : vp_in (nI e) 56 := fa_in e56 (by omega)
    have wv : vp_in (nI (hd e)) 16 := fa_in hv (by omega)
    have hr' : ∀ e', e' ∈ r → e' ∈ adj u := fun e' h => hr e' (List.mem_cons_of_mem _ h)
    have go : ∀ x : Int32, fa_tI alv u ≤ x.toInt → x.toInt ≤ 32 → x.toInt ≤ x2.toInt → (0 < fa_tI ale e → x.toInt ≤ fa_tI alv (hd e)) → wX_raise_10 post (nI u) fpr (nI s) (nI t) (nI (2 * m)) ffl fqf fqs foc afo ato aro aet ale afe anx alv acu acb aex ahs aqu aqd apa ago ane atr aor n x (anx e) := by
      intro x g1 g2 g3 g4
      refine ih n _ _ (by omega) hc' hr' g1 g2 (fun e' he' hn' hL => ?_)
      by_cases q : e' = e
      · subst q; exact g4 hL
      · have := h3 e' he' (by simp [q, hn']) hL
        omega
    rw [wX_raise_10]
    refine br_f (fa_lt0 (by omega)) ⟨w, nm_r (e' := nI (hd e)) (by rw [ce, N.2.1 e he]) ⟨w, br_c (fun z => ⟨w, nm_r (e' := anx e) (by rw [ce]) (go x2 h1 h2 (Int.le_refl _) (fun y => ?_))⟩) (fun z => ⟨wv, br_c (fun z2 => ⟨w, nm_r (e' := anx e) (by rw [ce]) (go x2 h1 h2 (Int.le_refl _) (fun y => ?_))⟩) (fun z2 => ⟨wv, nm_r (e' := alv (hd e)) (by rw [cv]) ⟨w, nm_r (e' := anx e) (by rw [ce]) (go _ ?_ ?_ ?_ (fun y => Int.le_refl _))⟩⟩)⟩)⟩⟩
    · rw [ce, fa_le, fa_0] at z
      simp only [fa_tI] at y
      omega
    · rw [cv, fa_le] at z2; exact z2
    · rw [ce, fa_le, fa_0] at z
      exact hl e hin (by simp only [fa_tI]; omega)
    · rw [cv, fa_le] at z2; omega
    · rw [cv, fa_le] at z2; omega
theorem fp_raise {post : SX → Prop} {u : Nat} (N : fd_Nt m hd adj aet afe anx) (hu : u < 16) (hb : ∀ n, n < 16 → 0 ≤ fa_tI alv n ∧ fa_tI alv n ≤ 33) (h31 : fa_tI alv u ≤ 31) (hl : ∀ e, e ∈ adj u → 0 < fa_tI ale e → fa_tI alv u ≤ fa_tI alv (hd e)) (S : fp_HS (fa_tI alv) (fa_tI ahs))
    (K : ∀ (y : Int) alv' ahs', fa_tI alv' = fa_up (fa_tI alv) u (y + 1) → fa_tI alv u ≤ y → y ≤ 32 → (∀ e, e ∈ adj u → 0 < fa_tI ale e → y ≤ fa_tI alv (hd e)) → fp_HS (fa_tI alv') (fa_tI ahs') → post (fpr, nI s, nI t, nI (2 * m), ffl, fqf, fqs, foc, afo, ato, aro, aet, ale, afe, anx, alv', acu, acb, aex, ahs', aqu, aqd, apa, ago, ane, atr, aor)) :
    wpX_raise post (fpr, nI s, nI t, nI (2 * m), ffl, fqf, fqs, foc, afo, ato, aro, aet, ale, afe, anx, alv, acu, acb, aex, ahs, aqu, aqd, apa, ago, ane, atr, aor) (nI u) :=
  ⟨fa_in hu (by omega), nm_r (e' := afe u) (by rw [fa_cl (by omega)]) ⟨(adj u).length + 1, fp_ra10 N hu hb hl S K (adj u) _ _ _ (by omega) (N.2.2.2.1 u hu) (fun e he => he) (by rw [fa_32]; omega) (by rw [fa_32]; omega) (fun e he hn => absurd he hn)⟩⟩
end PUSHW
end
section
/-! 13: engines 2 and 3 -/
section PUSHE
variable {fpr ffl fqf fqs foc : Int32} {afo ato aro aet ale afe anx alv acu acb aex ahs aqu aqd apa ago ane atr aor : Nat → Int32}
variable {m s t : Nat} {hd : Nat → Nat} {adj : Nat → List Nat} {c : Nat → Int}
def fp_AA (s t : Nat) (E : Nat → Int) (qd : Nat → Int32) : Prop := ∀ k, k < 16 → (qd k ≠ 0 ↔ (k ≠ s ∧ k ≠ t ∧ 0 < E k))
def fp_lv0 (s : Nat) : Nat → Int := fun n => if n = s then 16 else 0
/-- the source's edges are filled -/
theorem fp_st91 {post : SX → Prop} (N : fd_Nt m hd adj aet afe anx) (C : fc_CP m c) (hs : s < 16) (ht : t < 16)
    (K : ∀ fqs ale aex aqu aqd l, fp_PF m s hd c (fa_tI ale) (fa_tI aex) → (∀ e, e ∈ adj s → fa_tI ale e = 0) → fq_L fqf fqs aqu aqd l → fp_AA s t (fa_tI aex) aqd → post (fpr, nI s, nI t, nI (2 * m), ffl, fqf, fqs, foc, afo, ato, aro, aet, ale, afe, anx, alv, acu, acb, aex, ahs, aqu, aqd, apa, ago, ane, atr, aor)) :
    ∀ (r : List Nat) (n : Nat) (x1 fqs : Int32) (ale aex aqu aqd : Nat → Int32) (l : List Nat), r.length < n → fd_Ch anx r x1 → (∀ e, e ∈ r → e ∈ adj s) →
      fp_PF m s hd c (fa_tI ale) (fa_tI aex) → (∀ e, e ∈ adj s → e ∉ r → fa_tI ale e = 0) → fq_L fqf fqs aqu aqd l → fp_AA s t (fa_tI aex) aqd → wX_startPushing_91 post n x1 fpr (nI s) (nI t) (nI (2 * m)) ffl fqf fqs foc afo ato aro aet ale afe anx alv acu acb aex ahs aqu aqd apa ago ane atr aor := by
  intro r
  induction r with
  | nil =>
    intro n x1 fqs ale aex aqu aqd l hn hc hr P hz Q A
    obtain ⟨n, rfl⟩ : ∃ k, n = k + 1 := ⟨n - 1, by omega⟩
    rw [wX_startPushing_91]
    exact br_t (by rw [show x1 = -1 from hc]; decide) (K _ _ _ _ _ l P (fun e he => hz e he (List.not_mem_nil)) Q A)
  | cons e r ih =>
    intro n x1 fqs ale aex aqu aqd l hn hc hr P hz Q A
    obtain ⟨n, rfl⟩ : ∃ k, n = k + 1 := ⟨n - 1, by rw [List.length_cons] at hn; omega⟩
    rw [List.length_cons] at hn
    obtain ⟨rfl, e56, hc'⟩ := hc
    obtain ⟨he, heu⟩ := (N.2.2.2.2.1 s hs e).mp (hr e (List.mem_cons_self ..))
    have hv := (N.2.2.1 e he).1
    have hne := (N.2.2.1 e he).2
    have ce : (nI e).toNatClampNeg = e := fa_cl (by omega)
    have w : vp_in (nI e) 56 := fa_in e56 (by omega)
    have hr' : ∀ e', e' ∈ r → e' ∈ adj s := fun e' h => hr e' (List.mem_cons_of_mem _ h)
    have l0 := (P.1 e he).1
    rw [wX_startPushing_91]
    refine br_f (fa_lt0 (by omega)) ⟨w, ?_⟩
    rw [show ale (nI e).toNatClampNeg = ale e by rw [ce]]
    refine fp_push (x := ale e) N C hs ht P he heu l0 (Int.le_refl _) Q (fun fqs' ale' aex' aqu' aqd' l' e1 e2 Q' eq => ⟨w, nm_r (e' := anx e) (by rw [ce]) (ih n _ _ _ _ _ _ l' (by omega) hc' hr' ?_ (fun e' he' hn' => ?_) Q' (fun k hk => ?_))⟩)
    · rw [e1, e2]
      have := fp_PFp (a := (ale e).toInt) N.2.2.1 P he l0 (Int.le_refl _) (Or.inl heu)
      rw [heu] at this
      exact this
    · rw [e1]
      by_cases q : e' = e
      · subst q
        rw [fc_mv_e]; simp only [fa_tI]; omega
      · have q2 : e' ≠ fc_xr e := by
          intro z
          have := ((N.2.2.2.2.1 s hs e').mp he').2
          rw [z, fc_xx] at this
          exact hne (heu.trans this.symm)
        rw [fc_mv_n q q2]
        exact hz e' he' (by simp [q, hn'])
    · rw [e2, eq k hk]
      have ak := A k hk
      have e0 : k ≠ s → 0 ≤ fa_tI aex k := P.2.2 k hk
      by_cases q : k = hd e
      · subst q
        have hks : hd e ≠ s := fun z => hne (heu.trans z.symm)
        rw [fp_pEs]
        by_cases y : 0 < (ale e).toInt ∧ hd e ≠ t
        · rw [if_pos ⟨y.1, rfl, hks, y.2⟩]
          have := e0 hks
          exact ⟨fun _ => ⟨hks, y.2, by omega⟩, fun _ => by decide⟩
        · rw [if_neg (fun z => y ⟨z.1, z.2.2.2⟩)]
          rw [ak]
          simp only [fa_tI] at *
          constructor
          · intro z
            exact ⟨z.1, z.2.1, by omega⟩
          · intro z
            refine ⟨z.1, z.2.1, ?_⟩
            have : ¬ 0 < (ale e).toInt := fun w => y ⟨w, z.2.1⟩
            omega
      · rw [if_neg (fun z => q z.2.1)]
        by_cases q2 : k = s
        · subst q2
          rw [ak]
          exact ⟨fun z => absurd rfl z.1, fun z => absurd rfl z.1⟩
        · rw [fp_pEo q q2]; exact ak
theorem fp_st27 {post : SX → Prop} (N : fd_Nt m hd adj aet afe anx) (hs : s < 16)
    (K : ∀ alv aex ahs, (∀ n, n < 16 → fa_tI alv n = fp_lv0 s n) → (∀ n, n < 16 → fa_tI aex n = 0) → fp_HS (fa_tI alv) (fa_tI ahs) → ∃ n, wX_startPushing_91 post n (afe s) fpr (nI s) (nI t) (nI (2 * m)) ffl fqf fqs foc afo ato aro aet ale afe anx alv acu acb aex ahs aqu aqd apa ago ane atr aor) :
    ∀ (k i : Nat) (alv aex ahs : Nat → Int32), i + k = 16 → (∀ n, n < i → fa_tI alv n = fp_lv0 s n) → (∀ n, n < i → fa_tI aex n = 0) → (∀ h : Nat, h < 64 → fa_tI ahs h = fp_cn (fp_lv0 s) h i) →
      wX_startPushing_27 post fpr (nI s) (nI t) (nI (2 * m)) ffl fqf fqs foc (k + 1) (nI i) afo ato aro aet ale afe anx alv acu acb aex ahs aqu aqd apa ago ane atr aor := by
  intro k
  induction k with
  | zero =>
    intro i alv aex ahs hi h1 h2 h3
    obtain rfl : i = 16 := by omega
    rw [wX_startPushing_27]
    refine br_t (fa_t16 (by omega) (by omega)) ⟨fa_in hs (by omega), nm_r (e' := afe s) (by rw [fa_cl (by omega)]) (K _ _ _ h1 h2 (fun h hh => ?_))⟩
    rw [h3 h hh]
    exact fb_congr (fun i hi => by rw [h1 i hi])
  | succ k ih =>
    intro i alv aex ahs hi h1 h2 h3
    have ci : (nI i).toNatClampNeg = i := fa_cl (by omega)
    have wi : vp_in (nI i) 16 := fa_in (by omega) (by omega)
    have step : ∀ (z0 : Int32) (aex' : Nat → Int32), (z0.toInt = fp_lv0 s i) → (∀ n, n < i + 1 → fa_tI aex' n = 0) →
        wX_startPushing_59 post (wX_startPushing_27 post fpr (nI s) (nI t) (nI (2 * m)) ffl fqf fqs foc (k + 1)) (nI i) z0 (nI i) fpr (nI s) (nI t) (nI (2 * m)) ffl fqf fqs foc afo ato aro aet ale afe anx alv acu acb aex' ahs aqu aqd apa ago ane atr aor := by
      intro z0 aex' hz he
      obtain ⟨z, hz2, hz3⟩ : ∃ z : Nat, z0.toInt = z ∧ z ≤ 16 := by
        rw [hz]
        unfold fp_lv0
        split
        · exact ⟨16, rfl, by omega⟩
        · exact ⟨0, rfl, by omega⟩
      have ez : z0 = nI z := fa_nI hz2 (by omega)
      refine ⟨wi, fun alv' elv => ?_⟩
      have a9 : alv' (nI i).toNatClampNeg = nI z := by rw [elv, ci, fa_us, ez]
      have w9 : vp_in (alv' (nI i).toNatClampNeg) 64 := by rw [a9]; exact fa_in (by omega) (by omega)
      refine ⟨wi, w9, w9, fun ahs' ehs => nm_r (nI_1 i) (ih _ _ _ _ (by omega) (fun n hn => ?_) he (fun h hh => ?_))⟩
      · rw [elv, fa_tu, ci]
        by_cases q : n = i
        · rw [q, fa_ps]; exact hz
        · rw [fa_pn q]; exact h1 n (by omega)
      · have hb : 0 ≤ fp_cn (fp_lv0 s) z i ∧ fp_cn (fp_lv0 s) z i ≤ 16 := by
          constructor
          · exact fb_nn (fun i hi => by split <;> omega)
          · have y : fp_cn (fp_lv0 s) z i ≤ fb_sm (fun _ => 1) i := fb_le (fun i hi => by split <;> omega)
            rw [fb_const] at y
            omega
        have h3z := h3 z (by omega)
        rw [ehs, fa_tu, a9, fa_cl (by omega)]
        have s1 : fp_cn (fp_lv0 s) h (i + 1) = fp_cn (fp_lv0 s) h i + (if fp_lv0 s i = h then 1 else 0) := rfl
        rw [s1, ← hz, hz2]
        by_cases q : h = z
        · subst q
          simp only [fa_tI] at h3z
          rw [fa_ps, if_pos rfl, fa_add (by rw [fa_1]; omega) (by rw [fa_1]; omega), fa_1, h3z]
        · rw [fa_pn q, if_neg (by omega), h3 h hh]; omega
    rw [wX_startPushing_27]
    refine br_f (fa_f16 (by omega)) ⟨wi, fun aex' eex => ?_⟩
    have he : ∀ n, n < i + 1 → fa_tI aex' n = 0 := by
      intro n hn
      rw [eex, fa_tu, ci]
      by_cases q : n = i
      · rw [q, fa_ps, fa_0]
      · rw [fa_pn q]; exact h2 n (by omega)
    refine br_c (fun z => step _ _ ?_ he) (fun z => step _ _ ?_ he)
    · have := fa_inj z (by omega) (by omega)
      unfold fp_lv0
      rw [if_pos this, fa_16]
    · have : ¬ i = s := fun y => z (by rw [y])
      unfold fp_lv0
      rw [if_neg this, fa_0]
theorem fp_st6 {post : SX → Prop} (K : ∀ ahs, (∀ h : Nat, h < 64 → fa_tI ahs h = 0) → ∃ n, wX_startPushing_27 post fpr (nI s) (nI t) (nI (2 * m)) ffl fqf fqs foc n 0 afo ato aro aet ale afe anx alv acu acb aex ahs aqu aqd apa ago ane atr aor) :
    ∀ (k i : Nat) (ahs : Nat → Int32), i + k = 64 → (∀ h : Nat, h < i → fa_tI ahs h = 0) → wX_startPushing_6 post fpr (nI s) (nI t) (nI (2 * m)) ffl fqf fqs foc (k + 1) (nI i) afo ato aro aet ale afe anx alv acu acb aex ahs aqu aqd apa ago ane atr aor := by
  intro k
  induction k with
  | zero =>
    intro i ahs hi h
    obtain rfl : i = 64 := by omega
    rw [wX_startPushing_6]
    exact br_t (fa_t64 (by omega) (by omega)) (K _ h)
  | succ k ih =>
    intro i ahs hi h
    rw [wX_startPushing_6]
    refine br_f (fa_f64 (by omega)) ⟨fa_in (by omega) (by omega), fun ahs' e => nm_r (nI_1 i) (ih _ _ (by omega) (fun j hj => ?_))⟩
    rw [e, fa_tu, fa_cl (by omega)]
    by_cases q : j = i
    · rw [q, fa_ps, fa_0]
    · rw [fa_pn q]; exact h j (by omega)
/-- what engines 2 and 3 keep -/
def fp_G (m s t : Nat) (hd : Nat → Nat) (c L E lv hs : Nat → Int) : Prop := fp_PF m s hd c L E ∧ fp_LB m s t hd L lv ∧ fp_HS lv hs
theorem fp_start {post : SX → Prop} (N : fd_Nt m hd adj aet afe anx) (C : fc_CP m c) (hs : s < 16) (ht : t < 16) (hst : s ≠ t) (h0 : ∀ e, e < 2 * m → fa_tI ale e = c e)
    (K : ∀ fqf fqs ale alv aex ahs aqu aqd l, fp_G m s t hd c (fa_tI ale) (fa_tI aex) (fa_tI alv) (fa_tI ahs) → fq_L fqf fqs aqu aqd l → fp_AA s t (fa_tI aex) aqd → post (fpr, nI s, nI t, nI (2 * m), ffl, fqf, fqs, foc, afo, ato, aro, aet, ale, afe, anx, alv, acu, acb, aex, ahs, aqu, aqd, apa, ago, ane, atr, aor)) : wpX_startPushing post (fpr, nI s, nI t, nI (2 * m), ffl, fqf, fqs, foc, afo, ato, aro, aet, ale, afe, anx, alv, acu, acb, aex, ahs, aqu, aqd, apa, ago, ane, atr, aor) := by
  refine fq_clear (fqf := fqf) (fqs := fqs) (fun aqd hq Q => ⟨65, fp_st6 (fun ahs hh => ⟨17, fp_st27 N hs (fun alv aex ahs h1 h2 h3 => ⟨(adj s).length + 1, fp_st91 N C hs ht (fun fqs ale aex aqu aqd l P hz Q A => K _ _ _ _ _ _ _ _ l ⟨P, ⟨fun n hn => ?_, ?_, ?_, fun e he hL => ?_⟩, h3⟩ Q A) (adj s) _ _ _ _ _ _ _ [] (by omega) (N.2.2.2.1 s hs) (fun e he => he) ⟨?_, fun n hn => ?_, fun n hn _ => ?_⟩ (fun e he hn => absurd he hn) Q (fun k hk => ?_)⟩) 16 0 _ _ _ rfl (fun n hn => by omega) (fun n hn => by omega) (fun h hh' => ?_)⟩) 64 0 _ rfl (fun h hh => by omega)⟩)
  · rw [h1 n hn]
    unfold fp_lv0
    split <;> omega
  · rw [h1 s hs]
    unfold fp_lv0
    rw [if_pos rfl]
  · rw [h1 t ht]
    unfold fp_lv0
    rw [if_neg (fun z => hst z.symm)]
  · have a16 := (N.2.2.1 _ (fc_xlt he)).1
    have b16 := (N.2.2.1 e he).1
    rw [h1 _ a16, h1 _ b16]
    by_cases q : hd (fc_xr e) = s
    · have := hz e ((N.2.2.2.2.1 s hs e).mpr ⟨he, q⟩)
      omega
    · unfold fp_lv0
      rw [if_neg q]
      split <;> omega
  · intro e he
    rw [h0 e he, h0 _ (fc_xlt he)]
    exact ⟨(fc_CPe C he).1, rfl⟩
  · rw [h2 n hn]
    unfold fc_ex
    symm
    refine fb_zero (fun e he => ?_)
    rw [h0 e he]
    split <;> omega
  · rw [h2 n hn]; omega
  · rw [hq k hk, h2 k hk]
    exact ⟨fun z => absurd rfl z, fun z => by omega⟩
  · rw [hh h hh']; rfl
/-- after a round's discharge and raise: one step of the potential -/
theorem fp_up {u : Nat} {y : Int} {L E lv lv' hs' : Nat → Int} (hadj : ∀ v, v < 16 → ∀ e, e ∈ adj v ↔ (e < 2 * m ∧ hd (fc_xr e) = v)) (H : fc_HD m hd) (P : fp_PF m s hd c L E) (B : fp_LB m s t hd L lv) (hu : u < 16) (us : u ≠ s) (ut : u ≠ t)
    (e1 : lv' = fa_up lv u (y + 1)) (h1 : lv u ≤ y) (h2 : y ≤ 32) (h3 : ∀ e, e ∈ adj u → 0 < L e → y ≤ lv (hd e)) (S : fp_HS lv' hs') : fp_G m s t hd c L E lv' hs' ∧ fp_Psi m s t hd L E lv' < fp_Psi m s t hd L E lv := by
  subst e1
  exact ⟨⟨P, fp_LBr hadj H B hu us ut h1 h2 h3, S⟩, fp_PsiU H hu (by omega)⟩
theorem fp_Dl {u : Nat} {L E lv : Nat → Int} {Z : Int} (hadj : ∀ v, v < 16 → ∀ e, e ∈ adj v ↔ (e < 2 * m ∧ hd (fc_xr e) = v)) (hu : u < 16) (D : fp_D m s t hd adj c L E lv u [] Z) (hE : 0 < E u) : ∀ e, e ∈ adj u → 0 < L e → lv u ≤ lv (hd e) := by
  intro e he hL
  have k := (hadj u hu e).mp he
  have b4 := D.2.1.2.2.2 e k.1 hL
  rw [k.2] at b4
  rcases D.2.2.1 hE e he (List.not_mem_nil) with z | z <;> omega
theorem fp_e2 {post : SX → Prop} (N : fd_Nt m hd adj aet afe anx) (C : fc_CP m c) (hs : s < 16) (ht : t < 16) (hst : s ≠ t)
    (K : ∀ (ffl fqf fqs foc : Int32) (ale alv acu acb aex ahs aqu aqd apa ago ane atr aor : Nat → Int32), fc_MF m hd c s t (fa_tI ale) ffl.toInt → post (fpr, nI s, nI t, nI (2 * m), ffl, fqf, fqs, foc, afo, ato, aro, aet, ale, afe, anx, alv, acu, acb, aex, ahs, aqu, aqd, apa, ago, ane, atr, aor)) :
    ∀ (n k : Nat) (fqf fqs : Int32) (ale alv aex ahs aqu aqd : Nat → Int32) (l : List Nat), fp_Psi m s t hd (fa_tI ale) (fa_tI aex) (fa_tI alv) < n → k + fp_Psi m s t hd (fa_tI ale) (fa_tI aex) (fa_tI alv) ≤ 66320 →
      fp_G m s t hd c (fa_tI ale) (fa_tI aex) (fa_tI alv) (fa_tI ahs) → fq_L fqf fqs aqu aqd l → fp_AA s t (fa_tI aex) aqd → wX_solveByPushingInTurn_6 post n (nI k) fpr (nI s) (nI t) (nI (2 * m)) ffl fqf fqs foc afo ato aro aet ale afe anx alv acu acb aex ahs aqu aqd apa ago ane atr aor := by
  intro n
  induction n with
  | zero =>
    intro k fqf fqs ale alv aex ahs aqu aqd l h1 h2 G Q A
    have := (fp_Psib (E := fa_tI aex) N.1 N.2.2.1 G.2.1).1
    omega
  | succ n ih =>
    intro k fqf fqs ale alv aex ahs aqu aqd l h1 h2 G Q A
    have p0 := (fp_Psib (E := fa_tI aex) N.1 N.2.2.1 G.2.1).1
    have H := N.2.2.1
    have hadj := N.2.2.2.2.1
    rw [wX_solveByPushingInTurn_6]
    refine br_f ?_ (br_c (fun z => ?_) (fun z => ?_))
    · rw [fa_le, fa_100k, fa_ti (by omega)]; omega
    · obtain ⟨rfl, hq⟩ := fq_z Q z
      refine ⟨fa_in ht (by omega), fun ffl' ef => K _ _ _ _ _ _ _ _ _ _ _ _ _ _ _ _ _ ?_⟩
      have := fp_MF N.2.2.1 hs ht hst G.1 G.2.1 (fun n hn n1 n2 => by
        have a := A n hn
        rw [hq n hn] at a
        by_cases q : 0 < fa_tI aex n
        · exact absurd rfl (a.mpr ⟨n1, n2, q⟩)
        · omega)
      rw [ef, fa_cl (by omega)]
      exact this
    · obtain ⟨u, r, rfl⟩ := fq_cons Q z
      obtain ⟨hu, _, _, hu1⟩ := fq_head Q
      obtain ⟨us, ut, hE⟩ := (A u hu).mp (by rw [hu1]; decide)
      have cu : (nI u).toNatClampNeg = u := fa_cl (by omega)
      have wu : vp_in (nI u) 16 := fa_in hu (by omega)
      have kk : nI k + 1 = nI (k + 1) := nI_1 k
      refine fq_deq Q (fun fqf' fqs' aqd' Q' e1 e2 => fp_dis (b := True) N C hs ht hu us ut (fun fqs ale' aex' aqu aqd2 l D Q2 A2 => ⟨wu, br_c (fun z2 => nm_r kk (ih _ _ _ _ _ _ _ _ _ l ?_ ?_ ⟨D.1, D.2.1, G.2.2⟩ Q2 (fun k' hk' => ?_))) (fun z2 => ?_)⟩) G.1 G.2.1 hE rfl Q' (fun _ => ⟨?_, fun k' hk' hne => ?_⟩))
      · rw [cu, fa_le, fa_0] at z2
        have := D.2.2.2.2 z2
        omega
      · rw [cu, fa_le, fa_0] at z2
        have := D.2.2.2.2 z2
        omega
      · rw [cu, fa_le, fa_0] at z2
        have a2 := A2 trivial
        by_cases q : k' = u
        · subst q
          rw [a2.1]
          exact ⟨fun y => absurd rfl y, fun y => by have := y.2.2; simp only [fa_tI] at this; omega⟩
        · exact a2.2 k' hk' q
      · rw [cu, fa_le, fa_0] at z2
        have hE2 : 0 < fa_tI aex' u := by simp only [fa_tI]; omega
        have g31 := fp_gap C H hs D.1 D.2.1 hu us hE2
        refine fp_raise N hu D.2.1.1 g31 (fp_Dl hadj hu D hE2) G.2.2 (fun y alv' ahs' f1 f2 f3 f4 f5 => ?_)
        obtain ⟨G', hP⟩ := fp_up hadj H D.1 D.2.1 hu us ut f1 f2 f3 f4 f5
        have d4 := D.2.2.2.1
        refine fq_enq Q2 hu (fun fqs3 aqu3 aqd3 l3 Q3 e3 _ _ => nm_r kk (ih _ _ _ _ _ _ _ _ _ l3 (by omega) (by omega) G' Q3 (fun k' hk' => ?_)))
        have a2 := A2 trivial
        rw [e3 k' hk']
        by_cases q : k' = u
        · subst q
          rw [if_pos rfl]
          exact ⟨fun _ => ⟨us, ut, hE2⟩, fun _ => by decide⟩
        · rw [if_neg q]; exact a2.2 k' hk' q
      · rw [e1 u hu, if_pos rfl]
      · rw [e1 k' hk', if_neg hne]; exact A k' hk'
theorem fp_hi4 {post : Int32 → Prop} (hs : s < 16) (ht : t < 16) (hb : ∀ n, n < 16 → 0 ≤ fa_tI alv n)
    (K : ∀ r : Int32, (r = -1 ∧ ∀ n, n < 16 → n ≠ s → n ≠ t → fa_tI aex n ≤ 0) ∨ (∃ n, n < 16 ∧ r = nI n ∧ n ≠ s ∧ n ≠ t ∧ 0 < fa_tI aex n) → post r) :
    ∀ (k i : Nat) (x1 : Int32), i + k = 16 → ((x1 = -1 ∧ ∀ n, n < i → n ≠ s → n ≠ t → fa_tI aex n ≤ 0) ∨ (∃ n, n < 16 ∧ x1 = nI n ∧ n ≠ s ∧ n ≠ t ∧ 0 < fa_tI aex n)) →
      wX_highest_4 post fpr (nI s) (nI t) (nI (2 * m)) ffl fqf fqs foc afo ato aro aet ale afe anx alv acu acb aex ahs aqu aqd apa ago ane atr aor (k + 1) x1 (nI i) := by
  intro k
  induction k with
  | zero =>
    intro i x1 hi h
    obtain rfl : i = 16 := by omega
    rw [wX_highest_4]
    exact br_t (fa_t16 (by omega) (by omega)) (K _ h)
  | succ k ih =>
    intro i x1 hi h
    have ci : (nI i).toNatClampNeg = i := fa_cl (by omega)
    have wi : vp_in (nI i) 16 := fa_in (by omega) (by omega)
    have skip : (i ≠ s → i ≠ t → fa_tI aex i ≤ 0) → wX_highest_40 post (wX_highest_4 post fpr (nI s) (nI t) (nI (2 * m)) ffl fqf fqs foc afo ato aro aet ale afe anx alv acu acb aex ahs aqu aqd apa ago ane atr aor (k + 1)) x1 (nI i) 0 fpr (nI s) (nI t) (nI (2 * m)) ffl fqf fqs foc afo ato aro aet ale afe anx alv acu acb aex ahs aqu aqd apa ago ane atr aor := by
      intro hz
      refine br_t rfl (nm_r (nI_1 i) (ih _ _ (by omega) ?_))
      rcases h with h | h
      · refine Or.inl ⟨h.1, fun n hn n1 n2 => ?_⟩
        by_cases q : n = i
        · subst q; exact hz n1 n2
        · exact h.2 n (by omega) n1 n2
      · exact Or.inr h
    rw [wX_highest_4]
    refine br_f (fa_f16 (by omega)) (br_c (fun z => skip (fun n1 _ => absurd (fa_inj z (by omega) (by omega)) n1)) (fun z => br_c (fun z1 => skip (fun _ n2 => absurd (fa_inj z1 (by omega) (by omega)) n2)) (fun z1 => ⟨wi, br_c (fun z2 => skip (fun _ _ => ?_)) (fun z2 => ?_)⟩)))
    · rw [ci, fa_le, fa_0] at z2; exact z2
    · rw [ci, fa_le, fa_0] at z2
      have hs' : i ≠ s := fun y => z (by rw [y])
      have ht' : i ≠ t := fun y => z1 (by rw [y])
      have hE : 0 < fa_tI aex i := by simp only [fa_tI]; omega
      have new : wX_highest_4 post fpr (nI s) (nI t) (nI (2 * m)) ffl fqf fqs foc afo ato aro aet ale afe anx alv acu acb aex ahs aqu aqd apa ago ane atr aor (k + 1) (nI i) (nI (i + 1)) := ih _ _ (by omega) (Or.inr ⟨i, by omega, rfl, hs', ht', hE⟩)
      refine br_f (by decide) (br_c (fun z3 => nm_r (nI_1 i) new) (fun z3 => ?_))
      rcases h with h | h
      · rw [h.1] at z3
        exact absurd (by decide) z3
      · have hh := h
        obtain ⟨n, g1, g2, g3, g4, g5⟩ := h
        exact ⟨wi, by rw [g2]; exact fa_in g1 (by omega), br_c (fun _ => nm_r (nI_1 i) (ih _ _ (by omega) (Or.inr hh))) (fun _ => nm_r (nI_1 i) new)⟩
theorem fp_high {post : Int32 → Prop} (hs : s < 16) (ht : t < 16) (hb : ∀ n, n < 16 → 0 ≤ fa_tI alv n)
    (K : ∀ r : Int32, (r = -1 ∧ ∀ n, n < 16 → n ≠ s → n ≠ t → fa_tI aex n ≤ 0) ∨ (∃ n, n < 16 ∧ r = nI n ∧ n ≠ s ∧ n ≠ t ∧ 0 < fa_tI aex n) → post r) : wpX_highest post (fpr, nI s, nI t, nI (2 * m), ffl, fqf, fqs, foc, afo, ato, aro, aet, ale, afe, anx, alv, acu, acb, aex, ahs, aqu, aqd, apa, ago, ane, atr, aor) :=
  ⟨17, fp_hi4 hs ht hb K 16 0 _ rfl (Or.inl ⟨rfl, fun n hn => by omega⟩)⟩
theorem fp_gap2 {post : SX → Prop} {x1 : Int32} {lv : Nat → Int} {o : Nat} (hs : s < 16) (hx : x1.toInt = o) (ho : o < 16) (hb : ∀ n, n < 16 → 0 ≤ lv n ∧ lv n ≤ 33)
    (K : ∀ alv ahs, (∀ n, n < 16 → fa_tI alv n = fp_gl s o lv 16 n) → fp_HS (fa_tI alv) (fa_tI ahs) → post (fpr, nI s, nI t, nI (2 * m), ffl, fqf, fqs, foc, afo, ato, aro, aet, ale, afe, anx, alv, acu, acb, aex, ahs, aqu, aqd, apa, ago, ane, atr, aor)) :
    ∀ (k i : Nat) (alv ahs : Nat → Int32), i + k = 16 → (∀ n, n < 16 → fa_tI alv n = fp_gl s o lv i n) → fp_HS (fa_tI alv) (fa_tI ahs) → wX_closeGap_2 post x1 fpr (nI s) (nI t) (nI (2 * m)) ffl fqf fqs foc (k + 1) (nI i) afo ato aro aet ale afe anx alv acu acb aex ahs aqu aqd apa ago ane atr aor := by
  intro k
  induction k with
  | zero =>
    intro i alv ahs hi h S
    obtain rfl : i = 16 := by omega
    rw [wX_closeGap_2]
    exact br_t (fa_t16 (by omega) (by omega)) (K _ _ h S)
  | succ k ih =>
    intro i alv ahs hi h S
    have ci : (nI i).toNatClampNeg = i := fa_cl (by omega)
    have wi : vp_in (nI i) 16 := fa_in (by omega) (by omega)
    have li : fa_tI alv i = lv i := by
      rw [h i (by omega)]
      unfold fp_gl
      rw [if_neg (by omega)]
    have bi := hb i (by omega)
    have skip : ¬ (i ≠ s ∧ (o : Int) < lv i ∧ lv i ≤ 16) → wX_closeGap_2 post x1 fpr (nI s) (nI t) (nI (2 * m)) ffl fqf fqs foc (k + 1) (nI (i + 1)) afo ato aro aet ale afe anx alv acu acb aex ahs aqu aqd apa ago ane atr aor := by
      intro hz
      refine ih _ _ _ (by omega) (fun n hn => ?_) S
      rw [h n hn]
      unfold fp_gl
      by_cases q : n = i
      · rw [q, if_neg (by omega), if_neg (fun y => hz ⟨y.2.1, y.2.2.1, y.2.2.2⟩)]
      · by_cases w : n < i
        · by_cases v : n ≠ s ∧ (o : Int) < lv n ∧ lv n ≤ 16
          · rw [if_pos ⟨w, v⟩, if_pos ⟨by omega, v⟩]
          · rw [if_neg (fun y => v y.2), if_neg (fun y => v y.2)]
        · rw [if_neg (by omega), if_neg (by omega)]
    rw [wX_closeGap_2]
    simp only [fa_tI] at li
    refine br_f (fa_f16 (by omega)) (br_c (fun z => nm_r (nI_1 i) (skip ?_)) (fun z => ⟨wi, br_c (fun z1 => nm_r (nI_1 i) (skip ?_)) (fun z1 => ⟨wi, br_c (fun z2 => nm_r (nI_1 i) (skip ?_)) (fun z2 => ?_)⟩)⟩))
    · have := fa_inj z (by omega) (by omega)
      exact fun y => y.1 this
    · rw [ci, fa_le, hx, li] at z1
      exact fun y => by omega
    · rw [ci, fa_lt, fa_16, li] at z2
      exact fun y => by omega
    · rw [ci, fa_le, hx, li] at z1
      rw [ci, fa_lt, fa_16, li] at z2
      obtain ⟨q, hq⟩ : ∃ q : Nat, lv i = q := ⟨(lv i).toNat, by omega⟩
      have eq : alv i = nI q := fa_nI (li.trans hq) (by omega)
      have cq : (alv (nI i).toNatClampNeg).toNatClampNeg = q := by rw [ci, eq]; exact fa_cl (by omega)
      have wq : vp_in (alv (nI i).toNatClampNeg) 64 := by rw [ci, eq]; exact fa_in (by omega) (by omega)
      refine ⟨wi, wq, wq, fun ahs7 e7 => ⟨wi, fun alv9 e9 => ?_⟩⟩
      have a9 : alv9 (nI i).toNatClampNeg = nI 17 := by rw [e9, ci, fa_us]; rfl
      have w9 : vp_in (alv9 (nI i).toNatClampNeg) 64 := by rw [a9]; exact fa_in (by omega) (by omega)
      have t9 : fa_tI alv9 = fa_up (fa_tI alv) i 17 := by rw [e9, fa_tu, ci, fa_17]
      refine ⟨wi, w9, w9, fun ahs13 e13 => nm_r (nI_1 i) (ih _ _ _ (by omega) (fun n hn => ?_) ?_)⟩
      · have his : i ≠ s := fun y => z (by rw [y])
        rw [t9]
        by_cases y : n = i
        · rw [y, fa_ps]
          unfold fp_gl
          rw [if_pos ⟨by omega, his, by omega, by omega⟩]
        · rw [fa_pn y, h n hn]
          unfold fp_gl
          by_cases w : n < i
          · by_cases v : n ≠ s ∧ (o : Int) < lv n ∧ lv n ≤ 16
            · rw [if_pos ⟨w, v⟩, if_pos ⟨by omega, v⟩]
            · rw [if_neg (fun y => v y.2), if_neg (fun y => v y.2)]
          · rw [if_neg (by omega), if_neg (by omega)]
      · rw [cq] at e7
        rw [a9, fa_cl (by omega)] at e13
        have := fp_hs3 S (by omega) eq (by omega) (by omega) (by omega) e7 e13
        rw [t9]; exact this
theorem fp_e3 {post : SX → Prop} (N : fd_Nt m hd adj aet afe anx) (C : fc_CP m c) (hs : s < 16) (ht : t < 16) (hst : s ≠ t)
    (K : ∀ (ffl fqf fqs foc : Int32) (ale alv acu acb aex ahs aqu aqd apa ago ane atr aor : Nat → Int32), fc_MF m hd c s t (fa_tI ale) ffl.toInt → post (fpr, nI s, nI t, nI (2 * m), ffl, fqf, fqs, foc, afo, ato, aro, aet, ale, afe, anx, alv, acu, acb, aex, ahs, aqu, aqd, apa, ago, ane, atr, aor)) :
    ∀ (n k : Nat) (x1 fqf fqs : Int32) (ale alv aex ahs aqu aqd : Nat → Int32) (l : List Nat), fp_Psi m s t hd (fa_tI ale) (fa_tI aex) (fa_tI alv) < n → k + fp_Psi m s t hd (fa_tI ale) (fa_tI aex) (fa_tI alv) ≤ 66320 →
      fp_G m s t hd c (fa_tI ale) (fa_tI aex) (fa_tI alv) (fa_tI ahs) → fq_L fqf fqs aqu aqd l →
      ((x1 = -1 ∧ ∀ n, n < 16 → n ≠ s → n ≠ t → fa_tI aex n ≤ 0) ∨ (∃ n, n < 16 ∧ x1 = nI n ∧ n ≠ s ∧ n ≠ t ∧ 0 < fa_tI aex n)) → wX_solveByPushingHighest_11 post n x1 (nI k) fpr (nI s) (nI t) (nI (2 * m)) ffl fqf fqs foc afo ato aro aet ale afe anx alv acu acb aex ahs aqu aqd apa ago ane atr aor := by
  intro n
  induction n with
  | zero =>
    intro k x1 fqf fqs ale alv aex ahs aqu aqd l h1 h2 G Q A
    have := (fp_Psib (E := fa_tI aex) N.1 N.2.2.1 G.2.1).1
    omega
  | succ n ih =>
    intro k x1 fqf fqs ale alv aex ahs aqu aqd l h1 h2 G Q A
    have p0 := (fp_Psib (E := fa_tI aex) N.1 N.2.2.1 G.2.1).1
    have H := N.2.2.1
    have hadj := N.2.2.2.2.1
    rw [wX_solveByPushingHighest_11]
    refine br_f ?_ (br_c (fun z => ?_) (fun z => ?_))
    · rw [fa_le, fa_100k, fa_ti (by omega)]; omega
    · rcases A with A | ⟨u, g1, g2, _⟩
      · refine ⟨fa_in ht (by omega), fun ffl' ef => K _ _ _ _ _ _ _ _ _ _ _ _ _ _ _ _ _ ?_⟩
        rw [ef, fa_cl (by omega)]
        exact fp_MF N.2.2.1 hs ht hst G.1 G.2.1 A.2
      · rw [g2] at z
        exact absurd z (fa_lt0 (by omega))
    · rcases A with A | ⟨u, hu, rfl, us, ut, hE⟩
      · rw [A.1] at z
        exact absurd (by decide) z
      · have cu : (nI u).toNatClampNeg = u := fa_cl (by omega)
        have wu : vp_in (nI u) 16 := fa_in hu (by omega)
        have kk : nI k + 1 = nI (k + 1) := nI_1 k
        have fin : ∀ (fqf fqs : Int32) (ale alv' aex ahs' aqu aqd : Nat → Int32) (l : List Nat), fp_Psi m s t hd (fa_tI ale) (fa_tI aex) (fa_tI alv') < n → k + 1 + fp_Psi m s t hd (fa_tI ale) (fa_tI aex) (fa_tI alv') ≤ 66320 →
            fp_G m s t hd c (fa_tI ale) (fa_tI aex) (fa_tI alv') (fa_tI ahs') → fq_L fqf fqs aqu aqd l → wX_solveByPushingHighest_67 post (wX_solveByPushingHighest_11 post n) (nI k) fpr (nI s) (nI t) (nI (2 * m)) ffl fqf fqs foc afo ato aro aet ale afe anx alv' acu acb aex ahs' aqu aqd apa ago ane atr aor := by
          intro fqf fqs ale alv' aex ahs' aqu aqd l h1 h2 G Q
          exact fp_high hs ht (fun n hn => (G.2.1.1 n hn).1) (fun r hr => nm_r kk (ih _ _ _ _ _ _ _ _ _ _ l h1 (by omega) G Q hr))
        refine fp_dis (b := False) N C hs ht hu us ut (fun fqs ale' aex' aqu aqd2 l D Q2 A2 => ⟨wu, br_c (fun z2 => fin _ _ _ _ _ _ _ _ l ?_ ?_ ⟨D.1, D.2.1, G.2.2⟩ Q2) (fun z2 => ⟨wu, fun x3 ex3 => ?_⟩)⟩) G.1 G.2.1 hE rfl Q (fun z => z.elim)
        · rw [cu, fa_le, fa_0] at z2
          have := D.2.2.2.2 z2
          omega
        · rw [cu, fa_le, fa_0] at z2
          have := D.2.2.2.2 z2
          omega
        · rw [cu, fa_le, fa_0] at z2
          rw [cu] at ex3
          have hE2 : 0 < fa_tI aex' u := by simp only [fa_tI]; omega
          have g31 := fp_gap C H hs D.1 D.2.1 hu us hE2
          have bu := D.2.1.1 u hu
          obtain ⟨o, ho⟩ : ∃ o : Nat, (alv u).toInt = o := ⟨(alv u).toInt.toNat, by simp only [fa_tI] at bu; omega⟩
          have eo : x3 = nI o := by rw [ex3]; exact fa_nI ho (by simp only [fa_tI] at bu; omega)
          simp only [fa_tI] at bu g31
          have co : x3.toNatClampNeg = o := by rw [eo]; exact fa_cl (by omega)
          have wo : vp_in x3 64 := by rw [eo]; exact fa_in (by omega) (by omega)
          refine fp_raise N hu D.2.1.1 g31 (fp_Dl hadj hu D hE2) G.2.2 (fun y alv' ahs' f1 f2 f3 f4 f5 => ?_)
          obtain ⟨G', hP⟩ := fp_up hadj H D.1 D.2.1 hu us ut f1 f2 f3 f4 f5
          have d4 := D.2.2.2.1
          refine ⟨wo, br_c (fun z3 => br_c (fun z4 => fin _ _ _ _ _ _ _ _ l (by omega) (by omega) G' Q2) (fun z4 => ?_)) (fun z3 => fin _ _ _ _ _ _ _ _ l (by omega) (by omega) G' Q2)⟩
          have o16 : o < 16 := by
            rw [eo, fa_le, fa_16, fa_ti (by omega)] at z4; omega
          rw [co, fa_eq, fa_0] at z3
          have hg : ∀ n, n < 16 → fa_tI alv' n ≠ (o : Int) := fp_cn_0 ((f5 o (by omega)).symm.trans z3)
          refine ⟨17, fp_gap2 (lv := fa_tI alv') hs (by rw [eo]; exact fa_ti (by omega)) o16 G'.2.1.1 (fun alv2 ahs2 q1 q2 => ?_) 16 0 _ _ rfl (fun n hn => by unfold fp_gl; rw [if_neg (by omega)]) f5⟩
          have hge : ∀ n, n < 16 → fa_tI alv' n ≤ fa_tI alv2 n := fun n hn => by rw [q1 n hn]; exact fp_gl_ge
          have hp2 := fp_PsiR (s := s) (t := t) (L := fa_tI ale') (E := fa_tI aex') H hge
          have B2 := fp_LBg H G'.2.1 (by omega) hg
          refine fin _ _ _ _ _ _ _ _ l (by omega) (by omega) ⟨D.1, ⟨fun n hn => ?_, ?_, ?_, fun e he hL => ?_⟩, q2⟩ Q2
          · rw [q1 n hn]; exact B2.1 n hn
          · rw [q1 s hs]; exact B2.2.1
          · rw [q1 t ht]; exact B2.2.2.1
          · rw [q1 _ (H e he).1, q1 _ (H _ (fc_xlt he)).1]; exact B2.2.2.2 e he hL
theorem fp_solve2 {post : SX → Prop} (N : fd_Nt m hd adj aet afe anx) (C : fc_CP m c) (hs : s < 16) (ht : t < 16) (hst : s ≠ t) (h0 : ∀ e, e < 2 * m → fa_tI ale e = c e)
    (K : ∀ (ffl fqf fqs foc : Int32) (ale alv acu acb aex ahs aqu aqd apa ago ane atr aor : Nat → Int32), fc_MF m hd c s t (fa_tI ale) ffl.toInt → post (fpr, nI s, nI t, nI (2 * m), ffl, fqf, fqs, foc, afo, ato, aro, aet, ale, afe, anx, alv, acu, acb, aex, ahs, aqu, aqd, apa, ago, ane, atr, aor)) : wpX_solveByPushingInTurn post (fpr, nI s, nI t, nI (2 * m), ffl, fqf, fqs, foc, afo, ato, aro, aet, ale, afe, anx, alv, acu, acb, aex, ahs, aqu, aqd, apa, ago, ane, atr, aor) :=
  fp_start (fqf := fqf) (fqs := fqs) N C hs ht hst h0 (fun fqf fqs ale alv aex ahs aqu aqd l G Q A => ⟨66321, fp_e2 N C hs ht hst K 66321 0 _ _ _ _ _ _ _ _ l (by have := (fp_Psib (E := fa_tI aex) N.1 N.2.2.1 G.2.1).2; omega) (by have := (fp_Psib (E := fa_tI aex) N.1 N.2.2.1 G.2.1).2; omega) G Q A⟩)
theorem fp_solve3 {post : SX → Prop} (N : fd_Nt m hd adj aet afe anx) (C : fc_CP m c) (hs : s < 16) (ht : t < 16) (hst : s ≠ t) (h0 : ∀ e, e < 2 * m → fa_tI ale e = c e)
    (K : ∀ (ffl fqf fqs foc : Int32) (ale alv acu acb aex ahs aqu aqd apa ago ane atr aor : Nat → Int32), fc_MF m hd c s t (fa_tI ale) ffl.toInt → post (fpr, nI s, nI t, nI (2 * m), ffl, fqf, fqs, foc, afo, ato, aro, aet, ale, afe, anx, alv, acu, acb, aex, ahs, aqu, aqd, apa, ago, ane, atr, aor)) : wpX_solveByPushingHighest post (fpr, nI s, nI t, nI (2 * m), ffl, fqf, fqs, foc, afo, ato, aro, aet, ale, afe, anx, alv, acu, acb, aex, ahs, aqu, aqd, apa, ago, ane, atr, aor) :=
  fp_start (fqf := fqf) (fqs := fqs) N C hs ht hst h0 (fun fqf fqs ale alv aex ahs aqu aqd l G Q A => fp_high hs ht (fun n hn => (G.2.1.1 n hn).1) (fun r hr => ⟨66321, fp_e3 N C hs ht hst K 66321 0 _ _ _ _ _ _ _ _ _ l (by have := (fp_Psib (E := fa_tI aex) N.1 N.2.2.1 G.2.1).2; omega) (by have := (fp_Psib (E := fa_tI aex) N.1 N.2.2.1 G.2.1).2; omega) G Q hr⟩))
end PUSHE
end
section
/-! 14: engine 5: amounts spread along the levels, forwards or backwards -/
def fr_al (b : Bool) (e : Nat) : Nat := if b = true then fc_xr e else e
def fr_k (b : Bool) (lv : Nat → Int) (n : Nat) : Int := if b = true then - lv n else lv n
def fr_sg (b : Bool) : Int := if b = true then -1 else 1
def fr_bI (b : Bool) : Int32 := if b = true then 1 else 0
def fr_cd (b : Bool) (hd : Nat → Nat) (L lv : Nat → Int) (go : Nat → Int32) (e : Nat) : Prop := 0 < L (fr_al b e) ∧ fr_k b lv (hd e) = fr_k b lv (hd (fc_xr e)) + 1 ∧ go (hd e) = 0
noncomputable def fr_tm (b : Bool) (hd : Nat → Nat) (L lv : Nat → Int) (go : Nat → Int32) (e : Nat) : Int := if 0 < L (fr_al b e) ∧ fr_k b lv (hd e) = fr_k b lv (hd (fc_xr e)) + 1 ∧ go (hd e) = 0 then L (fr_al b e) else 0
def fr_ls (f : Nat → Int) : List Nat → Int
  | [] => 0
  | e :: r => f e + fr_ls f r
noncomputable def fr_th (b : Bool) (hd : Nat → Nat) (adj : Nat → List Nat) (L lv : Nat → Int) (go : Nat → Int32) (n : Nat) : Int := fr_ls (fr_tm b hd L lv go) (adj n)
theorem fr_alx (b : Bool) (e : Nat) : fc_xr (fr_al b e) = fr_al b (fc_xr e) := by
  unfold fr_al
  cases b <;> simp
theorem fr_ali {b : Bool} {e e' : Nat} (h : fr_al b e = fr_al b e') : e = e' := by
  unfold fr_al at h
  cases b
  · simpa using h
  · exact fc_xinj (by simpa using h)
theorem fr_alt {b : Bool} {e m : Nat} (h : e < 2 * m) : fr_al b e < 2 * m := by
  unfold fr_al
  cases b
  · simpa using h
  · simpa using fc_xlt h
theorem fr_len : ∀ (n : Nat) (l : List Nat), l.Nodup → (∀ x, x ∈ l → x < n) → l.length ≤ n := by
  intro n
  induction n with
  | zero =>
    intro l _ h
    cases l with
    | nil => exact Nat.le_refl _
    | cons x r => exact absurd (h x (List.mem_cons_self ..)) (Nat.not_lt_zero _)
  | succ n ih =>
    intro l hn h
    by_cases q : n ∈ l
    · have h1 := List.length_erase_of_mem q
      have h2 := ih (l.erase n) (hn.erase n) (fun x hx => by
        have m1 := List.mem_of_mem_erase hx
        have m2 := h x m1
        have m3 : x ≠ n := fun z => by
          rw [z] at hx
          exact (List.Nodup.not_mem_erase hn) hx
        omega)
      omega
    · have := ih l hn (fun x hx => by
        have m2 := h x hx
        have m3 : x ≠ n := fun z => q (z ▸ hx)
        omega)
      omega
theorem fr_lsc {f g : Nat → Int} : ∀ {l : List Nat}, (∀ e, e ∈ l → f e = g e) → fr_ls f l = fr_ls g l := by
  intro l
  induction l with
  | nil => intro _; rfl
  | cons e r ih =>
    intro h
    unfold fr_ls
    rw [h e (List.mem_cons_self ..), ih (fun a ha => h a (List.mem_cons_of_mem _ ha))]
theorem fr_lsn {f : Nat → Int} : ∀ {l : List Nat}, (∀ e, e ∈ l → 0 ≤ f e) → 0 ≤ fr_ls f l := by
  intro l
  induction l with
  | nil => intro _; exact Int.le_refl _
  | cons e r ih =>
    intro h
    unfold fr_ls
    have h1 := h e (List.mem_cons_self ..)
    have h2 := ih (fun a ha => h a (List.mem_cons_of_mem _ ha))
    omega
theorem fr_lsg {f : Nat → Int} : ∀ {l : List Nat}, (∀ e, e ∈ l → 0 ≤ f e) → ∀ {k : Nat}, k ∈ l → f k ≤ fr_ls f l := by
  intro l
  induction l with
  | nil => intro _ k hk; exact absurd hk (List.not_mem_nil)
  | cons e r ih =>
    intro h k hk
    unfold fr_ls
    have h1 := h e (List.mem_cons_self ..)
    have h2 := fr_lsn (f := f) (l := r) (fun a ha => h a (List.mem_cons_of_mem _ ha))
    rcases List.mem_cons.mp hk with z | z
    · subst z; omega
    · have := ih (fun a ha => h a (List.mem_cons_of_mem _ ha)) z
      omega
theorem fr_lsb {f : Nat → Int} : ∀ {l : List Nat}, (∀ e, e ∈ l → f e ≤ 99) → fr_ls f l ≤ 99 * l.length := by
  intro l
  induction l with
  | nil => intro _; exact Int.le_refl _
  | cons e r ih =>
    intro h
    unfold fr_ls
    have h1 := h e (List.mem_cons_self ..)
    have h2 := ih (fun a ha => h a (List.mem_cons_of_mem _ ha))
    rw [List.length_cons]
    omega
def fr_F (m : Nat) (hd : Nat → Nat) (c : Nat → Int) (b : Bool) (lv : Nat → Int) (go : Nat → Int32) (n : Nat) (L0 nd0 : Nat → Int) (r : List Nat) (L nd : Nat → Int) : Prop :=
  fc_RV m c L ∧ (∀ q, q < 16 → fc_ex m hd c L q = fc_ex m hd c L0 q + fr_sg b * (nd q - nd0 q)) ∧ (∀ q, q < 16 → 0 ≤ nd q) ∧ fb_sm nd 16 = fb_sm nd0 16 ∧
  (∀ q, q < 16 → 0 < nd q → 0 < nd0 q ∨ (go q = 0 ∧ fr_k b lv q = fr_k b lv n + 1)) ∧
  (∀ e, e < 2 * m → fr_k b lv (hd e) = fr_k b lv (hd (fc_xr e)) + 1 → (hd (fc_xr e) ≠ n ∨ e ∈ r) → L (fr_al b e) = L0 (fr_al b e)) ∧ nd n ≤ fr_ls (fr_tm b hd L0 lv go) r
section WEAKP
variable {m s t : Nat} {hd : Nat → Nat} {adj : Nat → List Nat} {c : Nat → Int} {b : Bool} {lv : Nat → Int} {go : Nat → Int32} {n : Nat} {L0 nd0 L nd : Nat → Int} {r : List Nat}
theorem fr_RVa (R : fc_RV m c L) {e : Nat} (he : e < 2 * m) : 0 ≤ L (fr_al b e) := (R _ (fr_alt he)).1
theorem fr_tmn (R : fc_RV m c L) {e : Nat} (he : e < 2 * m) : 0 ≤ fr_tm b hd L lv go e := by
  unfold fr_tm
  have := fr_RVa (b := b) R he
  split <;> omega
theorem fr_tmb (C : fc_CP m c) (R : fc_RV m c L) {e : Nat} (he : e < 2 * m) : fr_tm b hd L lv go e ≤ 99 := by
  unfold fr_tm
  have := fc_L99 C R (fr_alt (b := b) he)
  split <;> omega
theorem fr_pEsum {u v : Nat} {a : Int} (hu : u < 16) (hv : v < 16) (h : u ≠ v) : fb_sm (fp_pE nd u v a) 16 = fb_sm nd 16 := by
  have e : fp_pE nd u v a = fa_up (fa_up nd u (nd u - a)) v (nd v + a) := by
    funext k
    by_cases q1 : k = v
    · rw [q1, fp_pEs, fa_ps]
    · by_cases q2 : k = u
      · rw [q2, fp_pEu h, fa_pn h, fa_ps]
      · rw [fp_pEo q1 q2, fa_pn q1, fa_pn q2]
  rw [e, fb_up _ hv, fb_up _ hu, fa_pn (fun z => h z.symm)]
  omega
/-- an edge takes some of what a node has to pass on -/
theorem fr_Fs {e : Nat} {a : Int} (H : fc_HD m hd) (F : fr_F m hd c b lv go n L0 nd0 (e :: r) L nd) (hn : n < 16) (he : e < 2 * m) (hen : hd (fc_xr e) = n) (hr : e ∉ r) (R0 : fc_RV m c L0)
    (hrl : ∀ e', e' ∈ r → e' < 2 * m)
    (hcd : fr_cd b hd L lv go e) (h0 : 0 ≤ a) (hL : a ≤ L (fr_al b e)) (hN : a ≤ nd n) (hor : a = L (fr_al b e) ∨ a = nd n) :
    fr_F m hd c b lv go n L0 nd0 r (fc_mv L (fr_al b e) a) (fp_pE nd n (hd e) a) := by
  obtain ⟨F1, F2, F3, F4, F5, F6, F7⟩ := F
  obtain ⟨d1, d2, d3⟩ := hcd
  have hne := (H e he).2
  have v16 := (H e he).1
  rw [hen] at hne d2
  have hal := fr_alt (b := b) he
  have le : L (fr_al b e) = L0 (fr_al b e) := F6 e he (by rw [hen]; exact d2) (Or.inr (List.mem_cons_self ..))
  refine ⟨fc_RV_mv F1 hal h0 hL, fun q hq => ?_, fun q hq => ?_, ?_, fun q hq h => ?_, fun e' he' hk hor' => ?_, ?_⟩
  · rw [fc_ex_mv hal, F2 q hq]
    have hd1 : fp_pE nd n (hd e) a q - nd q = (if hd e = q then a else 0) - (if n = q then a else 0) := by
      by_cases q1 : q = hd e
      · subst q1
        rw [fp_pEs, if_pos rfl, if_neg hne]; omega
      · by_cases q2 : q = n
        · subst q2
          rw [fp_pEu hne, if_neg (fun z => q1 z.symm), if_pos rfl]; omega
        · rw [fp_pEo q1 q2, if_neg (fun z => q1 z.symm), if_neg (fun z => q2 z.symm)]; omega
    cases b
    · have a1 : fr_al false e = e := rfl
      have a2 : fr_sg false = 1 := rfl
      rw [a1, hen, a2]
      omega
    · have a1 : fr_al true e = fc_xr e := rfl
      have a2 : fr_sg true = -1 := rfl
      rw [a1, fc_xx, hen, a2]
      omega
  · have := F3 q hq
    by_cases q1 : q = hd e
    · subst q1; rw [fp_pEs]; omega
    · by_cases q2 : q = n
      · subst q2; rw [fp_pEu hne]; omega
      · rw [fp_pEo q1 q2]; exact this
  · rw [fr_pEsum hn v16 hne]; exact F4
  · by_cases q1 : q = hd e
    · subst q1; exact Or.inr ⟨d3, d2⟩
    · by_cases q2 : q = n
      · subst q2
        rw [fp_pEu hne] at h
        exact F5 q hq (by omega)
      · rw [fp_pEo q1 q2] at h
        exact F5 q hq h
  · have x1 : e' ≠ e := by
      rcases hor' with z | z
      · intro y; rw [y] at z; exact z hen
      · intro y; rw [y] at z; exact hr z
    have x2 : e' ≠ fc_xr e := by
      intro y
      rw [y, fc_xx, hen] at hk
      omega
    rw [fc_mv_n (fun y => x1 (fr_ali y)) (fun y => x2 (fr_ali (y.trans (fr_alx b e))))]
    exact F6 e' he' hk (by
      rcases hor' with z | z
      · exact Or.inl z
      · exact Or.inr (List.mem_cons_of_mem _ z))
  · rw [fp_pEu hne]
    have t1 : fr_tm b hd L0 lv go e = L0 (fr_al b e) := by
      unfold fr_tm
      rw [if_pos ⟨by omega, by rw [hen]; exact d2, d3⟩]
    unfold fr_ls at F7
    rw [t1] at F7
    have nn := fr_lsn (f := fr_tm b hd L0 lv go) (l := r) (fun e' he' => fr_tmn R0 (hrl e' he'))
    rcases hor with z | z <;> omega
theorem fr_Fk {e : Nat} (F : fr_F m hd c b lv go n L0 nd0 (e :: r) L nd) (he : e < 2 * m) (hcd : ¬ fr_cd b hd L lv go e) : fr_F m hd c b lv go n L0 nd0 r L nd := by
  obtain ⟨F1, F2, F3, F4, F5, F6, F7⟩ := F
  refine ⟨F1, F2, F3, F4, F5, fun e' he' hk hor' => F6 e' he' hk ?_, ?_⟩
  · rcases hor' with z | z
    · exact Or.inl z
    · exact Or.inr (List.mem_cons_of_mem _ z)
  · have t0 : fr_tm b hd L0 lv go e = 0 := by
      unfold fr_tm
      rw [if_neg]
      rintro ⟨y1, y2, y3⟩
      refine hcd ⟨?_, y2, y3⟩
      rw [F6 e he y2 (Or.inr (List.mem_cons_self ..))]
      exact y1
    unfold fr_ls at F7
    rw [t0] at F7
    omega
/-- while levels are gone through -/
def fr_S (m : Nat) (hd : Nat → Nat) (c : Nat → Int) (b : Bool) (lv : Nat → Int) (go : Nat → Int32) (start : Nat) (A : Int) (L0 : Nat → Int) (l : Int) (i : Nat) (L nd : Nat → Int) : Prop :=
  fc_RV m c L ∧ (∀ q, q < 16 → fc_ex m hd c L q = fc_ex m hd c L0 q + fr_sg b * (nd q - (if q = start then A else 0))) ∧ (∀ q, q < 16 → 0 ≤ nd q) ∧ fb_sm nd 16 = A ∧
  (∀ q, q < 16 → 0 < nd q → go q = 0 ∧ (fr_k b lv q = l ∧ i ≤ q ∨ fr_k b lv q = l + 1)) ∧
  (∀ e, e < 2 * m → fr_k b lv (hd e) = fr_k b lv (hd (fc_xr e)) + 1 → (l < fr_k b lv (hd (fc_xr e)) ∨ (fr_k b lv (hd (fc_xr e)) = l ∧ i ≤ hd (fc_xr e)) ∨ fr_k b lv (hd (fc_xr e)) < fr_k b lv start) → L (fr_al b e) = L0 (fr_al b e))
theorem fr_ndb {A : Int} (h1 : ∀ q, q < 16 → 0 ≤ nd q) (h2 : fb_sm nd 16 = A) {q : Nat} (hq : q < 16) : 0 ≤ nd q ∧ nd q ≤ A := ⟨h1 q hq, by rw [← h2]; exact fb_ge h1 hq⟩
/-- a node of the level can pass on all that it has -/
theorem fr_S0 {start i : Nat} {A l : Int} (hadj : ∀ v, v < 16 → ∀ e, e ∈ adj v ↔ (e < 2 * m ∧ hd (fc_xr e) = v)) (S : fr_S m hd c b lv go start A L0 l i L nd) (hn : n < 16) (hi : i ≤ n) (hk : fr_k b lv n = l) (hth : A ≤ fr_th b hd adj L0 lv go n) :
    fr_F m hd c b lv go n L nd (adj n) L nd := by
  obtain ⟨S1, S2, S3, S4, S5, S6⟩ := S
  refine ⟨S1, fun q hq => by omega, S3, rfl, fun q hq h => Or.inl h, fun e he h1 h2 => rfl, ?_⟩
  have e1 : fr_ls (fr_tm b hd L lv go) (adj n) = fr_th b hd adj L0 lv go n := by
    unfold fr_th
    refine fr_lsc (fun e he => ?_)
    obtain ⟨g1, g2⟩ := (hadj n hn e).mp he
    unfold fr_tm
    by_cases q : fr_k b lv (hd e) = fr_k b lv (hd (fc_xr e)) + 1
    · rw [S6 e g1 q (Or.inr (Or.inl ⟨by rw [g2]; exact hk, by rw [g2]; exact hi⟩))]
    · rw [if_neg (fun z => q z.2.1), if_neg (fun z => q z.2.1)]
  rw [e1]
  have := (fr_ndb S3 S4 hn).2
  omega
theorem fr_S1 {start i : Nat} {A l : Int} {L' nd' : Nat → Int} (S : fr_S m hd c b lv go start A L0 l i L nd) (hn : n = i) (hk : fr_k b lv n = l) (hb : fr_k b lv start ≤ l) (F : fr_F m hd c b lv go n L nd [] L' nd') (hz : nd' n ≤ 0) :
    fr_S m hd c b lv go start A L0 l (i + 1) L' nd' := by
  obtain ⟨S1, S2, S3, S4, S5, S6⟩ := S
  obtain ⟨F1, F2, F3, F4, F5, F6, F7⟩ := F
  subst hn
  refine ⟨F1, fun q hq => ?_, F3, by rw [F4, S4], fun q hq h => ?_, fun e he h1 h2 => ?_⟩
  · rw [F2 q hq, S2 q hq]
    cases b
    · have a2 : fr_sg false = 1 := rfl
      rw [a2]; omega
    · have a2 : fr_sg true = -1 := rfl
      rw [a2]; omega
  · rcases F5 q hq h with z | z
    · obtain ⟨g1, g2⟩ := S5 q hq z
      refine ⟨g1, ?_⟩
      rcases g2 with g2 | g2
      · left
        refine ⟨g2.1, ?_⟩
        by_cases w : q = n
        · rw [w] at h; omega
        · omega
      · exact Or.inr g2
    · exact ⟨z.1, Or.inr (by omega)⟩
  · have ne : hd (fc_xr e) ≠ n := by
      intro z
      rw [z] at h2
      omega
    rw [F6 e he h1 (Or.inl ne)]
    exact S6 e he h1 (by omega)
theorem fr_S2 {start i : Nat} {A l : Int} (S : fr_S m hd c b lv go start A L0 l i L nd) (h : ¬ (go i = 0 ∧ fr_k b lv i = l ∧ 0 < nd i)) : fr_S m hd c b lv go start A L0 l (i + 1) L nd := by
  obtain ⟨S1, S2, S3, S4, S5, S6⟩ := S
  refine ⟨S1, S2, S3, S4, fun q hq hp => ?_, fun e he h1 h2 => S6 e he h1 (by omega)⟩
  obtain ⟨g1, g2⟩ := S5 q hq hp
  refine ⟨g1, ?_⟩
  rcases g2 with g2 | g2
  · left
    refine ⟨g2.1, ?_⟩
    by_cases w : q = i
    · rw [w] at g1 g2 hp
      exact absurd ⟨g1, g2.1, hp⟩ h
    · omega
  · exact Or.inr g2
theorem fr_S3 {start : Nat} {A l : Int} (S : fr_S m hd c b lv go start A L0 l 16 L nd) : fr_S m hd c b lv go start A L0 (l + 1) 0 L nd := by
  obtain ⟨S1, S2, S3, S4, S5, S6⟩ := S
  refine ⟨S1, S2, S3, S4, fun q hq hp => ?_, fun e he h1 h2 => S6 e he h1 (by omega)⟩
  obtain ⟨g1, g2⟩ := S5 q hq hp
  refine ⟨g1, Or.inl ⟨?_, Nat.zero_le _⟩⟩
  rcases g2 with g2 | g2 <;> omega
theorem fr_Sbeg {start : Nat} {A : Int} (R : fc_RV m c L0) (hs : start < 16) (h0 : 0 ≤ A) (hg : go start = 0) (hnd : ∀ q, q < 16 → nd q = if q = start then A else 0) : fr_S m hd c b lv go start A L0 (fr_k b lv start) 0 L0 nd := by
  refine ⟨R, fun q hq => ?_, fun q hq => ?_, ?_, fun q hq h => ?_, fun e he h1 h2 => rfl⟩
  · rw [hnd q hq, Int.sub_self, Int.mul_zero, Int.add_zero]
  · rw [hnd q hq]
    split <;> omega
  · rw [fb_congr hnd]; exact fb_one A hs
  · rw [hnd q hq] at h
    by_cases w : q = start
    · rw [w]; exact ⟨hg, Or.inl ⟨rfl, Nat.zero_le _⟩⟩
    · rw [if_neg w] at h; omega
/-- at the last level only its end has something: it has all -/
theorem fr_Send {start en : Nat} {A : Int} (S : fr_S m hd c b lv go start A L0 (fr_k b lv en) 0 L nd) (he : en < 16) (hu : ∀ q, q < 16 → go q = 0 → fr_k b lv en ≤ fr_k b lv q → q = en) :
    fc_RV m c L ∧ (∀ q, q < 16 → fc_ex m hd c L q = fc_ex m hd c L0 q + fr_sg b * ((if q = en then A else 0) - (if q = start then A else 0))) ∧
    (∀ e, e < 2 * m → fr_k b lv (hd e) = fr_k b lv (hd (fc_xr e)) + 1 → fr_k b lv (hd (fc_xr e)) < fr_k b lv start → L (fr_al b e) = L0 (fr_al b e)) := by
  obtain ⟨S1, S2, S3, S4, S5, S6⟩ := S
  have hz : ∀ q, q < 16 → q ≠ en → nd q = 0 := by
    intro q hq hne
    have := S3 q hq
    by_cases w : 0 < nd q
    · obtain ⟨g1, g2⟩ := S5 q hq w
      exact absurd (hu q hq g1 (by omega)) hne
    · omega
  have hA : nd en = A := by
    rw [← S4, fb_congr (g := fun q => if q = en then nd en else 0) (fun q hq => ?_), fb_one _ he]
    by_cases w : q = en
    · rw [if_pos w, w]
    · rw [if_neg w]; exact hz q hq w
  refine ⟨S1, fun q hq => ?_, fun e he h1 h2 => S6 e he h1 (Or.inr (Or.inr h2))⟩
  rw [S2 q hq]
  by_cases w : q = en
  · rw [w, hA, if_pos rfl]
  · rw [hz q hq w, if_neg w]
end WEAKP
end
section
/-! 15: engine 5: the walks of through, weakestNode, spreadFrom, spread -/
section WEAKW
variable {fpr ffl fqf fqs foc : Int32} {afo ato aro aet ale afe anx alv acu acb aex ahs aqu aqd apa ago ane atr aor : Nat → Int32}
variable {m s t : Nat} {hd : Nat → Nat} {adj : Nat → List Nat} {c : Nat → Int} {b : Bool}
theorem fr_lead {P : Int32 → Prop} {n e : Nat} {za zb : Int32} (b : Bool) (N : fd_Nt m hd adj aet afe anx) (he : e < 2 * m) (hen : hd (fc_xr e) = n) (hlv : ∀ n, n < 16 → -1 ≤ fa_tI alv n ∧ fa_tI alv n ≤ 15)
    (ha : b = false → za = nI e) (hb : b = true → zb = nI (fc_xr e))
    (h1 : 0 < fa_tI ale (fr_al b e) → fr_k b (fa_tI alv) (hd e) = fr_k b (fa_tI alv) (hd (fc_xr e)) + 1 → P 1) (h0 : ¬ (0 < fa_tI ale (fr_al b e) ∧ fr_k b (fa_tI alv) (hd e) = fr_k b (fa_tI alv) (hd (fc_xr e)) + 1) → P 0) :
    (fr_bI b = 0 → wpX_leadsOn P (fpr, nI s, nI t, nI (2 * m), ffl, fqf, fqs, foc, afo, ato, aro, aet, ale, afe, anx, alv, acu, acb, aex, ahs, aqu, aqd, apa, ago, ane, atr, aor) (nI n) za) ∧ (¬ fr_bI b = 0 → wpX_leadsOn P (fpr, nI s, nI t, nI (2 * m), ffl, fqf, fqs, foc, afo, ato, aro, aet, ale, afe, anx, alv, acu, acb, aex, ahs, aqu, aqd, apa, ago, ane, atr, aor) (nI (hd e)) zb) := by
  have hv := (N.2.2.1 e he).1
  have hn : n < 16 := by rw [← hen]; exact (N.2.2.1 _ (fc_xlt he)).1
  have l1 := hlv n hn
  have l2 := hlv _ hv
  cases b
  · rw [ha rfl]
    refine br_t rfl (fi_leads N hn he (by omega) (by omega) (fun y1 y2 => h1 y1 ?_) (fun y => h0 (fun w => y ⟨w.1, ?_⟩)))
    · rw [hen]; exact y2
    · have := w.2
      rw [hen] at this
      exact this
  · rw [hb rfl]
    refine br_f (by decide) (fi_leads N hv (fc_xlt he) (by omega) (by omega) (fun y1 y2 => h1 y1 ?_) (fun y => h0 (fun w => y ⟨w.1, ?_⟩)))
    · have g : - fa_tI alv (hd e) = - fa_tI alv (hd (fc_xr e)) + 1 := by omega
      exact g
    · have g : - fa_tI alv (hd e) = - fa_tI alv (hd (fc_xr e)) + 1 := w.2
      omega
theorem fr_88 {post : Int32 → Prop} {J : _} {x1 x2 v x3 : Int32} {e : Nat} (he : e < 56) (h : ∀ y : Int32, y = x3 + v → J y (anx e)) : wX_through_88 post J x1 x2 (nI e) v x3 fpr (nI s) (nI t) (nI (2 * m)) ffl fqf fqs foc afo ato aro aet ale afe anx alv acu acb aex ahs aqu aqd apa ago ane atr aor :=
  fun y ey => ⟨fa_in he (by omega), nm_r (e' := anx e) (by rw [fa_cl (by omega)]) (h y ey)⟩
theorem fr_t10 {post : Int32 → Prop} {n : Nat} (N : fd_Nt m hd adj aet afe anx) (C : fc_CP m c) (R : fc_RV m c (fa_tI ale)) (hn : n < 16) (hlv : ∀ n, n < 16 → -1 ≤ fa_tI alv n ∧ fa_tI alv n ≤ 15)
    (K : ∀ x : Int32, x.toInt = fr_th b hd adj (fa_tI ale) (fa_tI alv) ago n → post x) (hT : fr_th b hd adj (fa_tI ale) (fa_tI alv) ago n ≤ 5544) :
    ∀ (r : List Nat) (f : Nat) (x3 x4 : Int32), r.length < f → fd_Ch anx r x4 → (∀ e, e ∈ r → e ∈ adj n) → 0 ≤ x3.toInt →
      x3.toInt + fr_ls (fr_tm b hd (fa_tI ale) (fa_tI alv) ago) r = fr_th b hd adj (fa_tI ale) (fa_tI alv) ago n → wX_through_10 post (nI n) (fr_bI b) fpr (nI s) (nI t) (nI (2 * m)) ffl fqf fqs foc afo ato aro aet ale afe anx alv acu acb aex ahs aqu aqd apa ago ane atr aor f x3 x4 := by
  intro r
  induction r with
  | nil =>
    intro f x3 x4 hf hc hr h0 hs
    obtain ⟨f, rfl⟩ : ∃ k, f = k + 1 := ⟨f - 1, by omega⟩
    rw [wX_through_10]
    refine br_t (by rw [show x4 = -1 from hc]; decide) (K _ ?_)
    unfold fr_ls at hs
    omega
  | cons e r ih =>
    intro f x3 x4 hf hc hr h0 hs
    obtain ⟨f, rfl⟩ : ∃ k, f = k + 1 := ⟨f - 1, by rw [List.length_cons] at hf; omega⟩
    rw [List.length_cons] at hf
    obtain ⟨rfl, e56, hc'⟩ := hc
    obtain ⟨he, hen⟩ := (N.2.2.2.2.1 n hn e).mp (hr e (List.mem_cons_self ..))
    have hr' : ∀ e', e' ∈ r → e' ∈ adj n := fun e' h => hr e' (List.mem_cons_of_mem _ h)
    have hv := (N.2.2.1 e he).1
    have ce : (nI e).toNatClampNeg = e := fa_cl (by omega)
    have cv : (nI (hd e)).toNatClampNeg = hd e := fa_cl (by omega)
    have w : vp_in (nI e) 56 := fa_in e56 (by omega)
    have wv : vp_in (nI (hd e)) 16 := fa_in hv (by omega)
    have ex : (nI e ^^^ 1) = nI (fc_xr e) := fa_xor e e56
    have hx := fc_x56 e56
    have tn := fr_tmn (b := b) (hd := hd) (lv := fa_tI alv) (go := ago) R he
    have rn := fr_lsn (f := fr_tm b hd (fa_tI ale) (fa_tI alv) ago) (l := r) (fun e' he' => fr_tmn R ((N.2.2.2.2.1 n hn e').mp (hr' e' he')).1)
    unfold fr_ls at hs
    have step : ∀ v : Int32, v.toInt = fr_tm b hd (fa_tI ale) (fa_tI alv) ago e → wX_through_88 post (wX_through_10 post (nI n) (fr_bI b) fpr (nI s) (nI t) (nI (2 * m)) ffl fqf fqs foc afo ato aro aet ale afe anx alv acu acb aex ahs aqu aqd apa ago ane atr aor f) (nI n) (fr_bI b) (nI e) v x3 fpr (nI s) (nI t) (nI (2 * m)) ffl fqf fqs foc afo ato aro aet ale afe anx alv acu acb aex ahs aqu aqd apa ago ane atr aor := by
      intro v hv
      refine fr_88 e56 (fun y ey => ?_)
      have ty : y.toInt = x3.toInt + v.toInt := by rw [ey, fa_add (by omega) (by omega)]
      exact ih f _ _ (by omega) hc' hr' (by omega) (by omega)
    rw [wX_through_10]
    refine br_f (fa_lt0 (by omega)) ⟨w, nm_r (e' := nI (hd e)) (by rw [ce, N.2.1 e he]) (fr_lead b N he hen hlv (fun _ => rfl) (fun _ => ex) (fun h1 h2 => ?_) (fun h => ?_))⟩
    · refine br_f (by decide) ⟨wv, br_c (fun z => ?_) (fun z => step 0 ?_)⟩
      · rw [cv] at z
        have tm : fr_tm b hd (fa_tI ale) (fa_tI alv) ago e = fa_tI ale (fr_al b e) := by
          unfold fr_tm
          rw [if_pos ⟨h1, h2, z⟩]
        cases b
        · refine br_t rfl ⟨w, step _ ?_⟩
          rw [ce, tm]; rfl
        · refine br_f (by decide) ⟨by rw [ex]; exact fa_in hx (by omega), step _ ?_⟩
          rw [ex, fa_cl (by omega), tm]; rfl
      · rw [cv] at z
        unfold fr_tm
        rw [if_neg (fun y => z y.2.2), fa_0]
    · refine br_t rfl (step 0 ?_)
      unfold fr_tm
      rw [if_neg (fun y => h ⟨y.1, y.2.1⟩), fa_0]
theorem fr_thb {n : Nat} {L lv : Nat → Int} {go : Nat → Int32} (N : fd_Nt m hd adj aet afe anx) (C : fc_CP m c) (R : fc_RV m c L) (hn : n < 16) : 0 ≤ fr_th b hd adj L lv go n ∧ fr_th b hd adj L lv go n ≤ 5544 := by
  have hin : ∀ e, e ∈ adj n → e < 2 * m := fun e he => ((N.2.2.2.2.1 n hn e).mp he).1
  have hlen := fr_len 56 (adj n) (N.2.2.2.2.2 n hn) (fun e he => by have := hin e he; have := N.1; omega)
  have k1 := fr_lsn (f := fr_tm b hd L lv go) (l := adj n) (fun e he => fr_tmn R (hin e he))
  have k2 := fr_lsb (f := fr_tm b hd L lv go) (l := adj n) (fun e he => fr_tmb C R (hin e he))
  unfold fr_th
  omega
theorem fr_thr {post : Int32 → Prop} {n : Nat} (b : Bool) (N : fd_Nt m hd adj aet afe anx) (C : fc_CP m c) (R : fc_RV m c (fa_tI ale)) (hn : n < 16) (hlv : ∀ n, n < 16 → -1 ≤ fa_tI alv n ∧ fa_tI alv n ≤ 15)
    (K : ∀ x : Int32, x.toInt = fr_th b hd adj (fa_tI ale) (fa_tI alv) ago n → post x) : wpX_through post (fpr, nI s, nI t, nI (2 * m), ffl, fqf, fqs, foc, afo, ato, aro, aet, ale, afe, anx, alv, acu, acb, aex, ahs, aqu, aqd, apa, ago, ane, atr, aor) (nI n) (fr_bI b) :=
  ⟨fa_in hn (by omega), nm_r (e' := afe n) (by rw [fa_cl (by omega)]) ⟨(adj n).length + 1, fr_t10 N C R hn hlv K (fr_thb N C R hn).2 (adj n) _ _ _ (by omega) (N.2.2.2.1 n hn) (fun e he => he) (by rw [fa_0]; omega) (by rw [fa_0]; unfold fr_th; omega)⟩⟩
/-- the weakest node so far -/
def fr_W (s t : Nat) (hd : Nat → Nat) (adj : Nat → List Nat) (L lv : Nat → Int) (go : Nat → Int32) (q : Nat) (x : Int) : Prop :=
  q < 16 ∧ go q = 0 ∧ 0 ≤ x ∧ x < 1048576 ∧ ((q ≠ s ∧ x = fr_th true hd adj L lv go q) ∨ (q ≠ t ∧ x = fr_th false hd adj L lv go q))
theorem fr_w7 {post : Int32 → SX → Prop} (N : fd_Nt m hd adj aet afe anx) (C : fc_CP m c) (R : fc_RV m c (fa_tI ale)) (hs : s < 16) (ht : t < 16) (hst : s ≠ t) (hlv : ∀ n, n < 16 → -1 ≤ fa_tI alv n ∧ fa_tI alv n ≤ 15) (hgs : ago s = 0)
    (K : ∀ (q : Nat) (x : Int) (ane' : Nat → Int32), fr_W s t hd adj (fa_tI ale) (fa_tI alv) ago q x → x ≤ 5544 → (ane' 0).toInt = x →
      (∀ n, n < 16 → ago n = 0 → (n ≠ s → x ≤ fr_th true hd adj (fa_tI ale) (fa_tI alv) ago n) ∧ (n ≠ t → x ≤ fr_th false hd adj (fa_tI ale) (fa_tI alv) ago n)) → post (nI q) (fpr, nI s, nI t, nI (2 * m), ffl, fqf, fqs, foc, afo, ato, aro, aet, ale, afe, anx, alv, acu, acb, aex, ahs, aqu, aqd, apa, ago, ane', atr, aor)) :
    ∀ (k i : Nat) (x1 x2 : Int32), i + k = 16 → ((x1 = -1 ∧ x2.toInt = 1048576) ∨ (∃ q, x1 = nI q ∧ fr_W s t hd adj (fa_tI ale) (fa_tI alv) ago q x2.toInt)) →
      (∀ n, n < i → ago n = 0 → (n ≠ s → x2.toInt ≤ fr_th true hd adj (fa_tI ale) (fa_tI alv) ago n) ∧ (n ≠ t → x2.toInt ≤ fr_th false hd adj (fa_tI ale) (fa_tI alv) ago n)) →
      wX_weakestNode_7 post fpr (nI s) (nI t) (nI (2 * m)) ffl fqf fqs foc afo ato aro aet ale afe anx alv acu acb aex ahs aqu aqd apa ago ane atr aor (k + 1) x1 x2 (nI i) := by
  intro k
  induction k with
  | zero =>
    intro i x1 x2 hi h1 h2
    obtain rfl : i = 16 := by omega
    rw [wX_weakestNode_7]
    refine br_t (fa_t16 (by omega) (by omega)) (fun ane' e => ?_)
    have b1 := (h2 s hs hgs).2 hst
    have b2 := (fr_thb (b := false) (lv := fa_tI alv) (go := ago) N C R hs).2
    rcases h1 with h1 | ⟨q, g1, g2⟩
    · omega
    · rw [g1]
      exact K q x2.toInt ane' g2 (by omega) (by rw [e, fa_us]) h2
  | succ k ih =>
    intro i x1 x2 hi h1 h2
    have ci : (nI i).toNatClampNeg = i := fa_cl (by omega)
    have wi : vp_in (nI i) 16 := fa_in (by omega) (by omega)
    have x9 : x2.toInt ≤ 1048576 := by
      rcases h1 with h1 | ⟨q, _, g2⟩
      · omega
      · have := g2.2.2.2.1; omega
    rw [wX_weakestNode_7]
    refine br_f (fa_f16 (by omega)) ⟨wi, br_c (fun z => ?_) (fun z => nm_r (nI_1 i) (ih _ _ _ (by omega) h1 (fun n hn hg => ?_)))⟩
    · rw [ci] at z
      have h78 : ∀ own : Int32, (own.toInt = 1048576 ∨ (i ≠ s ∧ own.toInt = fr_th true hd adj (fa_tI ale) (fa_tI alv) ago i) ∨ (i ≠ t ∧ own.toInt = fr_th false hd adj (fa_tI ale) (fa_tI alv) ago i)) →
          (i ≠ s → own.toInt ≤ fr_th true hd adj (fa_tI ale) (fa_tI alv) ago i) → (i ≠ t → own.toInt ≤ fr_th false hd adj (fa_tI ale) (fa_tI alv) ago i) → 0 ≤ own.toInt →
          wX_weakestNode_78 post (wX_weakestNode_7 post fpr (nI s) (nI t) (nI (2 * m)) ffl fqf fqs foc afo ato aro aet ale afe anx alv acu acb aex ahs aqu aqd apa ago ane atr aor (k + 1)) x1 x2 (nI i) own fpr (nI s) (nI t) (nI (2 * m)) ffl fqf fqs foc afo ato aro aet ale afe anx alv acu acb aex ahs aqu aqd apa ago ane atr aor := by
        intro own o1 o2 o3 o4
        refine br_c (fun y => br_t y (nm_r (nI_1 i) (ih _ _ _ (by omega) h1 (fun n hn hg => ?_)))) (fun y => br_f y (nm_r (nI_1 i) (ih _ _ _ (by omega) (Or.inr ⟨i, rfl, by omega, z, o4, ?_, ?_⟩) (fun n hn hg => ?_))))
        · rw [fa_le] at y
          by_cases q : n = i
          · subst q
            exact ⟨fun a => Int.le_trans y (o2 a), fun a => Int.le_trans y (o3 a)⟩
          · exact h2 n (by omega) hg
        · rw [fa_le] at y; omega
        · rw [fa_le] at y
          rcases o1 with o1 | o1
          · omega
          · exact o1
        · rw [fa_le] at y
          by_cases q : n = i
          · subst q
            exact ⟨o2, o3⟩
          · have := h2 n (by omega) hg
            exact ⟨fun a => by have := this.1 a; omega, fun a => by have := this.2 a; omega⟩
      have bt := fr_thb (b := true) (lv := fa_tI alv) (go := ago) (n := i) N C R (by omega)
      have bf := fr_thb (b := false) (lv := fa_tI alv) (go := ago) (n := i) N C R (by omega)
      have h62 : ∀ vi vo : Int32, (vi.toInt = 1048576 ∧ i = s ∨ i ≠ s ∧ vi.toInt = fr_th true hd adj (fa_tI ale) (fa_tI alv) ago i) → (vo.toInt = 1048576 ∧ i = t ∨ i ≠ t ∧ vo.toInt = fr_th false hd adj (fa_tI ale) (fa_tI alv) ago i) →
          wX_weakestNode_62 post (wX_weakestNode_7 post fpr (nI s) (nI t) (nI (2 * m)) ffl fqf fqs foc afo ato aro aet ale afe anx alv acu acb aex ahs aqu aqd apa ago ane atr aor (k + 1)) x1 x2 (nI i) vi vo fpr (nI s) (nI t) (nI (2 * m)) ffl fqf fqs foc afo ato aro aet ale afe anx alv acu acb aex ahs aqu aqd apa ago ane atr aor := by
        intro vi vo a1 a2
        refine br_c (fun y => h78 vo ?_ (fun w => ?_) (fun w => ?_) ?_) (fun y => h78 vi ?_ (fun w => ?_) (fun w => ?_) ?_)
        · rcases a2 with a2 | a2
          · exact Or.inl a2.1
          · exact Or.inr (Or.inr a2)
        · rw [fa_le] at y
          rcases a1 with a1 | a1
          · exact absurd a1.2 w
          · omega
        · rcases a2 with a2 | a2
          · exact absurd a2.2 w
          · omega
        · rcases a2 with a2 | a2 <;> omega
        · rcases a1 with a1 | a1
          · exact Or.inl a1.1
          · exact Or.inr (Or.inl a1)
        · rcases a1 with a1 | a1
          · exact absurd a1.2 w
          · omega
        · rw [fa_le] at y
          rcases a2 with a2 | a2
          · exact absurd a2.2 w
          · omega
        · rcases a1 with a1 | a1 <;> omega
      have h41 : ∀ vi : Int32, (vi.toInt = 1048576 ∧ i = s ∨ i ≠ s ∧ vi.toInt = fr_th true hd adj (fa_tI ale) (fa_tI alv) ago i) → wX_weakestNode_41 post (wX_weakestNode_7 post fpr (nI s) (nI t) (nI (2 * m)) ffl fqf fqs foc afo ato aro aet ale afe anx alv acu acb aex ahs aqu aqd apa ago ane atr aor (k + 1)) x1 x2 (nI i) vi fpr (nI s) (nI t) (nI (2 * m)) ffl fqf fqs foc afo ato aro aet ale afe anx alv acu acb aex ahs aqu aqd apa ago ane atr aor := by
        intro vi a1
        refine br_c (fun y => h62 vi _ a1 (Or.inl ⟨fa_far, fa_inj y (by omega) (by omega)⟩)) (fun y => ?_)
        exact fr_thr false N C R (by omega) hlv (fun x hx => h62 vi x a1 (Or.inr ⟨fun w => y (by rw [w]), hx⟩))
      refine br_c (fun y => h41 _ (Or.inl ⟨fa_far, fa_inj y (by omega) (by omega)⟩)) (fun y => ?_)
      exact fr_thr true N C R (by omega) hlv (fun x hx => h41 x (Or.inr ⟨fun w => y (by rw [w]), hx⟩))
    · rw [ci] at z
      by_cases q : n = i
      · subst q; exact absurd hg z
      · exact h2 n (by omega) hg
theorem fr_weak {post : Int32 → SX → Prop} (N : fd_Nt m hd adj aet afe anx) (C : fc_CP m c) (R : fc_RV m c (fa_tI ale)) (hs : s < 16) (ht : t < 16) (hst : s ≠ t) (hlv : ∀ n, n < 16 → -1 ≤ fa_tI alv n ∧ fa_tI alv n ≤ 15) (hgs : ago s = 0)
    (K : ∀ (q : Nat) (x : Int) (ane' : Nat → Int32), fr_W s t hd adj (fa_tI ale) (fa_tI alv) ago q x → x ≤ 5544 → (ane' 0).toInt = x →
      (∀ n, n < 16 → ago n = 0 → (n ≠ s → x ≤ fr_th true hd adj (fa_tI ale) (fa_tI alv) ago n) ∧ (n ≠ t → x ≤ fr_th false hd adj (fa_tI ale) (fa_tI alv) ago n)) → post (nI q) (fpr, nI s, nI t, nI (2 * m), ffl, fqf, fqs, foc, afo, ato, aro, aet, ale, afe, anx, alv, acu, acb, aex, ahs, aqu, aqd, apa, ago, ane', atr, aor)) :
    wpX_weakestNode post (fpr, nI s, nI t, nI (2 * m), ffl, fqf, fqs, foc, afo, ato, aro, aet, ale, afe, anx, alv, acu, acb, aex, ahs, aqu, aqd, apa, ago, ane, atr, aor) := ⟨17, fr_w7 N C R hs ht hst hlv hgs K 16 0 _ _ rfl (Or.inl ⟨rfl, fa_far⟩) (fun n hn => by omega)⟩
theorem fr_112 {post : SX → Prop} {J : _} {x2 z0 x5 : Int32} {n e : Nat} (hn : n < 16) (hv : hd e < 16) (hne : n ≠ hd e) (e56 : e < 56) (a56 : fr_al b e < 56) (h5 : x5 = nI (fr_al b e)) (b1 : 0 ≤ z0.toInt) (b2 : z0.toInt ≤ 99)
    (b3 : -100000 ≤ fa_tI ale (fr_al b e) ∧ fa_tI ale (fr_al b e) ≤ 100000) (b4 : -100000 ≤ fa_tI ale (fc_xr (fr_al b e)) ∧ fa_tI ale (fc_xr (fr_al b e)) ≤ 100000) (b5 : -100000 ≤ fa_tI ane n ∧ fa_tI ane n ≤ 100000) (b6 : -100000 ≤ fa_tI ane (hd e) ∧ fa_tI ane (hd e) ≤ 100000)
    (K : ∀ ale' ane', fa_tI ale' = fc_mv (fa_tI ale) (fr_al b e) z0.toInt → fa_tI ane' = fp_pE (fa_tI ane) n (hd e) z0.toInt → J (anx e) fpr (nI s) (nI t) (nI (2 * m)) ffl fqf fqs foc afo ato aro aet ale' afe anx alv acu acb aex ahs aqu aqd apa ago ane' atr aor) :
    wX_spreadFrom_112 post J (nI n) x2 (nI e) (nI (hd e)) x5 z0 fpr (nI s) (nI t) (nI (2 * m)) ffl fqf fqs foc afo ato aro aet ale afe anx alv acu acb aex ahs aqu aqd apa ago ane atr aor := by
  have ce : (nI e).toNatClampNeg = e := fa_cl (by omega)
  have cn : (nI n).toNatClampNeg = n := fa_cl (by omega)
  have cv : (nI (hd e)).toNatClampNeg = hd e := fa_cl (by omega)
  have wn : vp_in (nI n) 16 := fa_in hn (by omega)
  have wv : vp_in (nI (hd e)) 16 := fa_in hv (by omega)
  refine fw_move h5 a56 (by omega) (by omega) (by omega) (by omega) (fun ale' e1 => ⟨wn, wn, fun ne1 q1 => ⟨wv, wv, fun ne2 q2 => ⟨fa_in e56 (by omega), nm_r (e' := anx e) (by rw [ce]) (K _ _ e1 ?_)⟩⟩⟩)
  have t1 : fa_tI ne1 = fa_up (fa_tI ane) n (fa_tI ane n - z0.toInt) := by
    rw [q1, fa_tu, cn]
    congr 1
    simp only [fa_tI] at *
    rw [fa_sub (by omega) (by omega)]
  have h7 : (ne1 (hd e)).toInt = fa_tI ane (hd e) := by
    have : fa_tI ne1 (hd e) = fa_tI ane (hd e) := by rw [t1, fa_pn (fun z => hne z.symm)]
    exact this
  rw [q2, fa_tu, cv, t1, fa_add (by omega) (by omega), h7]
  funext k
  by_cases y1 : k = hd e
  · rw [y1, fa_ps, fp_pEs]
  · by_cases y2 : k = n
    · rw [y2, fa_pn hne, fa_ps, fp_pEu hne]
    · rw [fa_pn y1, fa_pn y2, fp_pEo y1 y2]
theorem fr_sf7 {post : SX → Prop} {n : Nat} {L0 nd0 : Nat → Int} {A : Int} (N : fd_Nt m hd adj aet afe anx) (C : fc_CP m c) (hn : n < 16) (R0 : fc_RV m c L0) (hlv : ∀ n, n < 16 → -1 ≤ fa_tI alv n ∧ fa_tI alv n ≤ 15) (hA : fb_sm nd0 16 = A) (hA9 : A ≤ 5544)
    (K : ∀ ale ane, fr_F m hd c b (fa_tI alv) ago n L0 nd0 [] (fa_tI ale) (fa_tI ane) → fa_tI ane n ≤ 0 → post (fpr, nI s, nI t, nI (2 * m), ffl, fqf, fqs, foc, afo, ato, aro, aet, ale, afe, anx, alv, acu, acb, aex, ahs, aqu, aqd, apa, ago, ane, atr, aor)) :
    ∀ (r : List Nat) (f : Nat) (x3 : Int32) (ale ane : Nat → Int32), r.length < f → fd_Ch anx r x3 → (∀ e, e ∈ r → e ∈ adj n) → r.Nodup → fr_F m hd c b (fa_tI alv) ago n L0 nd0 r (fa_tI ale) (fa_tI ane) →
      wX_spreadFrom_7 post (nI n) (fr_bI b) f x3 fpr (nI s) (nI t) (nI (2 * m)) ffl fqf fqs foc afo ato aro aet ale afe anx alv acu acb aex ahs aqu aqd apa ago ane atr aor := by
  intro r
  induction r with
  | nil =>
    intro f x3 ale ane hf hc hr hnd F
    obtain ⟨f, rfl⟩ : ∃ k, f = k + 1 := ⟨f - 1, by omega⟩
    rw [wX_spreadFrom_7]
    refine br_t (by rw [show x3 = -1 from hc]; decide) (K _ _ F ?_)
    have := F.2.2.2.2.2.2
    unfold fr_ls at this
    exact this
  | cons e r ih =>
    intro f x3 ale ane hf hc hr hnd F
    obtain ⟨f, rfl⟩ : ∃ k, f = k + 1 := ⟨f - 1, by rw [List.length_cons] at hf; omega⟩
    rw [List.length_cons] at hf
    obtain ⟨rfl, e56, hc'⟩ := hc
    obtain ⟨he, hen⟩ := (N.2.2.2.2.1 n hn e).mp (hr e (List.mem_cons_self ..))
    have hr' : ∀ e', e' ∈ r → e' ∈ adj n := fun e' h => hr e' (List.mem_cons_of_mem _ h)
    have hnd' := List.nodup_cons.mp hnd
    have N1 := N.1
    have hv := (N.2.2.1 e he).1
    have hne := (N.2.2.1 e he).2
    rw [hen] at hne
    have ce : (nI e).toNatClampNeg = e := fa_cl (by omega)
    have cn : (nI n).toNatClampNeg = n := fa_cl (by omega)
    have cv : (nI (hd e)).toNatClampNeg = hd e := fa_cl (by omega)
    have w : vp_in (nI e) 56 := fa_in e56 (by omega)
    have wn : vp_in (nI n) 16 := fa_in hn (by omega)
    have wv : vp_in (nI (hd e)) 16 := fa_in hv (by omega)
    have ex : (nI e ^^^ 1) = nI (fc_xr e) := fa_xor e e56
    have hal := fr_alt (b := b) he
    have ca : (nI (fr_al b e)).toNatClampNeg = fr_al b e := fa_cl (by omega)
    have wa : vp_in (nI (fr_al b e)) 56 := fa_in (by omega) (by omega)
    have la := fc_L99 C F.1 hal
    have lx := fc_L99 C F.1 (fc_xlt hal)
    have sA : fb_sm (fa_tI ane) 16 = A := F.2.2.2.1.trans hA
    have n1 := fr_ndb F.2.2.1 sA hn
    have n2 := fr_ndb F.2.2.1 sA hv
    rw [wX_spreadFrom_7]
    refine br_f (fa_lt0 (by omega)) ⟨wn, br_c (fun z => K _ _ ⟨F.1, F.2.1, F.2.2.1, F.2.2.2.1, F.2.2.2.2.1, fun e' he' h1 h2 => F.2.2.2.2.2.1 e' he' h1 (Or.inl ?_), ?_⟩ ?_) (fun z => ⟨w, nm_r (e' := nI (hd e)) (by rw [ce, N.2.1 e he]) ?_⟩)⟩
    · rcases h2 with h2 | h2
      · exact h2
      · exact absurd h2 (List.not_mem_nil)
    · rw [cn, fa_le, fa_0] at z; exact z
    · rw [cn, fa_le, fa_0] at z; exact z
    · rw [cn, fa_le, fa_0] at z
      have skip : ¬ fr_cd b hd (fa_tI ale) (fa_tI alv) ago e → wX_spreadFrom_7 post (nI n) (fr_bI b) f (anx e) fpr (nI s) (nI t) (nI (2 * m)) ffl fqf fqs foc afo ato aro aet ale afe anx alv acu acb aex ahs aqu aqd apa ago ane atr aor := fun h => ih f _ _ _ (by omega) hc' hr' hnd'.2 (fr_Fk F he h)
      have take : ∀ z0 : Int32, fr_cd b hd (fa_tI ale) (fa_tI alv) ago e → 0 ≤ z0.toInt → z0.toInt ≤ fa_tI ale (fr_al b e) → z0.toInt ≤ fa_tI ane n → (z0.toInt = fa_tI ale (fr_al b e) ∨ z0.toInt = fa_tI ane n) →
          wX_spreadFrom_112 post (wX_spreadFrom_7 post (nI n) (fr_bI b) f) (nI n) (fr_bI b) (nI e) (nI (hd e)) (nI (fr_al b e)) z0 fpr (nI s) (nI t) (nI (2 * m)) ffl fqf fqs foc afo ato aro aet ale afe anx alv acu acb aex ahs aqu aqd apa ago ane atr aor := by
        intro z0 hcd y1 y2 y3 y4
        refine fr_112 hn hv hne e56 (by omega) rfl y1 (by omega) (by omega) (by omega) (by omega) (by omega) (fun ale' ane' e1 e2 => ih f _ _ _ (by omega) hc' hr' hnd'.2 ?_)
        rw [e1, e2]
        exact fr_Fs N.2.2.1 F hn he hen hnd'.1 R0 (fun e' he' => ((N.2.2.2.2.1 n hn e').mp (hr' e' he')).1) hcd y1 y2 y3 y4
      have main : wX_spreadFrom_39 post (wX_spreadFrom_7 post (nI n) (fr_bI b) f) (nI n) (fr_bI b) (nI e) (nI (hd e)) (nI (fr_al b e)) fpr (nI s) (nI t) (nI (2 * m)) ffl fqf fqs foc afo ato aro aet ale afe anx alv acu acb aex ahs aqu aqd apa ago ane atr aor := by
        refine fr_lead b N he hen hlv (fun y => by rw [y]; rfl) (fun y => by rw [y]; rfl) (fun h1 h2 => ?_) (fun h => ?_)
        · refine br_f (by decide) ⟨wv, br_c (fun g => ⟨wa, wn, br_c (fun y => ⟨wn, take _ ⟨h1, h2, ?_⟩ ?_ ?_ ?_ (Or.inr ?_)⟩) (fun y => ⟨wa, take _ ⟨h1, h2, ?_⟩ ?_ ?_ ?_ (Or.inl ?_)⟩)⟩) (fun g => ⟨w, nm_r (e' := anx e) (by rw [ce]) (skip (fun y => g ?_))⟩)⟩
          · rw [cv] at g; exact g
          · rw [cn]; exact n1.1
          · rw [cn, ca, fa_le] at y; rw [cn]; exact y
          · rw [cn]; exact Int.le_refl _
          · rw [cn]; rfl
          · rw [cv] at g; exact g
          · rw [ca]; exact la.1
          · rw [ca]; exact Int.le_refl _
          · rw [cn, ca, fa_le] at y
            rw [ca]
            simp only [fa_tI]
            omega
          · rw [ca]; rfl
          · rw [cv]; exact y.2.2
        · exact br_t rfl ⟨w, nm_r (e' := anx e) (by rw [ce]) (skip (fun y => h ⟨y.1, y.2.1⟩))⟩
      cases b
      · exact br_t rfl main
      · refine br_f (by decide) ?_
        rw [ex]
        exact main
theorem fr_sfr {post : SX → Prop} {n : Nat} {A : Int} (N : fd_Nt m hd adj aet afe anx) (C : fc_CP m c) (hn : n < 16) (hlv : ∀ n, n < 16 → -1 ≤ fa_tI alv n ∧ fa_tI alv n ≤ 15) (hA : fb_sm (fa_tI ane) 16 = A) (hA9 : A ≤ 5544)
    (F : fr_F m hd c b (fa_tI alv) ago n (fa_tI ale) (fa_tI ane) (adj n) (fa_tI ale) (fa_tI ane))
    (K : ∀ ale' ane', fr_F m hd c b (fa_tI alv) ago n (fa_tI ale) (fa_tI ane) [] (fa_tI ale') (fa_tI ane') → fa_tI ane' n ≤ 0 → post (fpr, nI s, nI t, nI (2 * m), ffl, fqf, fqs, foc, afo, ato, aro, aet, ale', afe, anx, alv, acu, acb, aex, ahs, aqu, aqd, apa, ago, ane', atr, aor)) : wpX_spreadFrom post (fpr, nI s, nI t, nI (2 * m), ffl, fqf, fqs, foc, afo, ato, aro, aet, ale, afe, anx, alv, acu, acb, aex, ahs, aqu, aqd, apa, ago, ane, atr, aor) (nI n) (fr_bI b) :=
  ⟨fa_in hn (by omega), nm_r (e' := afe n) (by rw [fa_cl (by omega)]) ⟨(adj n).length + 1, fr_sf7 N C hn F.1 hlv hA hA9 K (adj n) _ _ _ _ (by omega) (N.2.2.2.1 n hn) (fun e he => he) (N.2.2.2.2.2 n hn) F⟩⟩
end WEAKW
end
section
/-! 16: engine 5 -/
def fr_st (b : Bool) : Int32 := if b = true then -1 else 1
def fr_lx (b : Bool) (l : Int) : Int := if b = true then - l else l
section WEAK
variable {fpr ffl fqf fqs foc : Int32} {afo ato aro aet ale afe anx alv acu acb aex ahs aqu aqd apa ago ane atr aor : Nat → Int32}
variable {m s t : Nat} {hd : Nat → Nat} {adj : Nat → List Nat} {c : Nat → Int} {b : Bool}
theorem fr_lxk {lv : Nat → Int} {l : Int} {q : Nat} : lv q = fr_lx b l ↔ fr_k b lv q = l := by
  unfold fr_lx fr_k
  cases b
  · simp
  · simp
    omega
theorem fr_s85 {post : SX → Prop} {J : _} {x6 : Int32} {start en : Nat} {A l : Int} {L0 : Nat → Int} (N : fd_Nt m hd adj aet afe anx) (C : fc_CP m c) (hlv : ∀ n, n < 16 → -1 ≤ fa_tI alv n ∧ fa_tI alv n ≤ 15) (hA9 : A ≤ 5544)
    (hx6 : x6.toInt = fr_lx b l) (hl : fr_k b (fa_tI alv) start ≤ l) (hle : l ≠ fr_k b (fa_tI alv) en)
    (TH : ∀ n, n < 16 → ago n = 0 → n ≠ en → fr_k b (fa_tI alv) start ≤ fr_k b (fa_tI alv) n → A ≤ fr_th b hd adj L0 (fa_tI alv) ago n)
    (K : ∀ ale ane, fr_S m hd c b (fa_tI alv) ago start A L0 l 16 (fa_tI ale) (fa_tI ane) → J (x6 + fr_st b) fpr (nI s) (nI t) (nI (2 * m)) ffl fqf fqs foc afo ato aro aet ale afe anx alv acu acb aex ahs aqu aqd apa ago ane atr aor) :
    ∀ (k i : Nat) (ale ane : Nat → Int32), i + k = 16 → fr_S m hd c b (fa_tI alv) ago start A L0 l i (fa_tI ale) (fa_tI ane) → wX_spread_85 post J (fr_bI b) (nI en) (fr_st b) x6 (k + 1) (nI i) fpr (nI s) (nI t) (nI (2 * m)) ffl fqf fqs foc afo ato aro aet ale afe anx alv acu acb aex ahs aqu aqd apa ago ane atr aor := by
  intro k
  induction k with
  | zero =>
    intro i ale ane hi S
    obtain rfl : i = 16 := by omega
    rw [wX_spread_85]
    exact br_t (fa_t16 (by omega) (by omega)) (nm_e (K _ _ S))
  | succ k ih =>
    intro i ale ane hi S
    have ci : (nI i).toNatClampNeg = i := fa_cl (by omega)
    have wi : vp_in (nI i) 16 := fa_in (by omega) (by omega)
    have lk : (alv i = x6) ↔ fr_k b (fa_tI alv) i = l := by
      rw [fa_eq, hx6]
      exact fr_lxk (lv := fa_tI alv)
    have skip : ¬ (ago i = 0 ∧ fr_k b (fa_tI alv) i = l ∧ 0 < fa_tI ane i) → wX_spread_85 post J (fr_bI b) (nI en) (fr_st b) x6 (k + 1) (nI (i + 1)) fpr (nI s) (nI t) (nI (2 * m)) ffl fqf fqs foc afo ato aro aet ale afe anx alv acu acb aex ahs aqu aqd apa ago ane atr aor := fun h => ih _ _ _ (by omega) (fr_S2 S h)
    rw [wX_spread_85]
    refine br_f (fa_f16 (by omega)) ⟨wi, br_c (fun z => ⟨wi, br_c (fun z1 => ⟨wi, br_c (fun z2 => nm_r (nI_1 i) (skip (fun y => ?_))) (fun z2 => ?_)⟩) (fun z1 => nm_r (nI_1 i) (skip (fun y => z1 ?_)))⟩) (fun z => nm_r (nI_1 i) (skip (fun y => z ?_)))⟩
    · rw [ci, fa_le, fa_0] at z2
      have := y.2.2
      simp only [fa_tI] at this
      omega
    · rw [ci] at z z1
      have hk := lk.mp z1
      have hne : i ≠ en := fun y => hle (by rw [← hk, y])
      have F0 := fr_S0 N.2.2.2.2.1 S (by omega) (Nat.le_refl _) hk (TH i (by omega) z hne (by omega))
      exact fr_sfr N C (by omega) hlv S.2.2.2.1 hA9 F0 (fun ale' ane' F hz => nm_r (nI_1 i) (ih _ _ _ (by omega) (fr_S1 S rfl hk hl F hz)))
    · rw [ci]; exact lk.mpr y.2.1
    · rw [ci]; exact y.1
theorem fr_s70 {post : SX → Prop} {start en : Nat} {A : Int} {L0 : Nat → Int} (N : fd_Nt m hd adj aet afe anx) (C : fc_CP m c) (hlv : ∀ n, n < 16 → -1 ≤ fa_tI alv n ∧ fa_tI alv n ≤ 15) (hA9 : A ≤ 5544) (hen : en < 16)
    (TH : ∀ n, n < 16 → ago n = 0 → n ≠ en → fr_k b (fa_tI alv) start ≤ fr_k b (fa_tI alv) n → A ≤ fr_th b hd adj L0 (fa_tI alv) ago n) (hst : start < 16)
    (K : ∀ ale ane, fr_S m hd c b (fa_tI alv) ago start A L0 (fr_k b (fa_tI alv) en) 0 (fa_tI ale) (fa_tI ane) → post (fpr, nI s, nI t, nI (2 * m), ffl, fqf, fqs, foc, afo, ato, aro, aet, ale, afe, anx, alv, acu, acb, aex, ahs, aqu, aqd, apa, ago, ane, atr, aor)) :
    ∀ (f : Nat) (l : Int) (x6 : Int32) (ale ane : Nat → Int32), fr_k b (fa_tI alv) en - l < f → l ≤ fr_k b (fa_tI alv) en → fr_k b (fa_tI alv) start ≤ l → x6.toInt = fr_lx b l →
      fr_S m hd c b (fa_tI alv) ago start A L0 l 0 (fa_tI ale) (fa_tI ane) → wX_spread_70 post (fr_bI b) (nI en) (fr_st b) f x6 fpr (nI s) (nI t) (nI (2 * m)) ffl fqf fqs foc afo ato aro aet ale afe anx alv acu acb aex ahs aqu aqd apa ago ane atr aor := by
  intro f
  induction f with
  | zero => intro l x6 ale ane h1 h2 h3 h4 S; omega
  | succ f ih =>
    intro l x6 ale ane h1 h2 h3 h4 S
    have ce : (nI en).toNatClampNeg = en := fa_cl (by omega)
    have lk : (x6 = alv en) ↔ fr_k b (fa_tI alv) en = l := by
      rw [fa_eq, h4]
      have := fr_lxk (b := b) (lv := fa_tI alv) (l := l) (q := en)
      exact ⟨fun y => this.mp y.symm, fun y => (this.mpr y).symm⟩
    rw [wX_spread_70]
    refine ⟨fa_in hen (by omega), br_c (fun z => K _ _ ?_) (fun z => ?_)⟩
    · rw [ce] at z
      rw [lk.mp z]; exact S
    · rw [ce] at z
      have hne : l ≠ fr_k b (fa_tI alv) en := fun y => z (lk.mpr y.symm)
      refine ⟨17, fr_s85 N C hlv hA9 h4 h3 hne TH (fun ale ane S' => ih (l + 1) _ _ _ (by omega) (by omega) (by omega) ?_ (fr_S3 S')) 16 0 _ _ rfl S⟩
      have e15 := hlv en hen
      have s15 := hlv start hst
      unfold fr_lx at h4 ⊢
      unfold fr_k at h2 h3
      unfold fr_st
      cases b
      · simp only [Bool.false_eq_true, if_false] at *
        rw [fa_add (by rw [fa_1]; omega) (by rw [fa_1]; omega), fa_1, h4]
      · simp only [if_true] at *
        rw [fa_add (by rw [fa_m1]; omega) (by rw [fa_m1]; omega), fa_m1, h4]
        omega
theorem fr_s3 {post : SX → Prop} {x2 : Int32} {start : Nat} (K : ∀ ane, (∀ q, q < 16 → fa_tI ane q = if q = start then x2.toInt else 0) → wX_spread_49 post (nI start) (fr_bI b) (nI (if b = true then s else t)) fpr (nI s) (nI t) (nI (2 * m)) ffl fqf fqs foc afo ato aro aet ale afe anx alv acu acb aex ahs aqu aqd apa ago ane atr aor) (hst : start < 16) :
    ∀ (k i : Nat) (ane : Nat → Int32), i + k = 16 → (∀ q, q < i → fa_tI ane q = if q = start then x2.toInt else 0) → wX_spread_3 post (nI start) x2 (fr_bI b) fpr (nI s) (nI t) (nI (2 * m)) ffl fqf fqs foc (k + 1) (nI i) afo ato aro aet ale afe anx alv acu acb aex ahs aqu aqd apa ago ane atr aor := by
  intro k
  induction k with
  | zero =>
    intro i ane hi h
    obtain rfl : i = 16 := by omega
    rw [wX_spread_3]
    have := K ane h
    cases b
    · exact br_t (fa_t16 (by omega) (by omega)) (br_t rfl this)
    · exact br_t (fa_t16 (by omega) (by omega)) (br_f (by decide) this)
  | succ k ih =>
    intro i ane hi h
    have ci : (nI i).toNatClampNeg = i := fa_cl (by omega)
    have wi : vp_in (nI i) 16 := fa_in (by omega) (by omega)
    rw [wX_spread_3]
    refine br_f (fa_f16 (by omega)) (br_c (fun z => ⟨wi, fun ane' e => nm_r (nI_1 i) (ih _ _ (by omega) (fun q hq => ?_))⟩) (fun z => ⟨wi, fun ane' e => nm_r (nI_1 i) (ih _ _ (by omega) (fun q hq => ?_))⟩))
    · have := fa_inj z (by omega) (by omega)
      rw [e, fa_tu, ci]
      by_cases y : q = i
      · rw [y, fa_ps, if_pos this]
      · rw [fa_pn y]; exact h q (by omega)
    · have : ¬ i = start := fun y => z (by rw [y])
      rw [e, fa_tu, ci]
      by_cases y : q = i
      · rw [y, fa_ps, if_neg this, fa_0]
      · rw [fa_pn y]; exact h q (by omega)
theorem fr_spread {post : SX → Prop} {x2 : Int32} {start en : Nat} (b : Bool) (N : fd_Nt m hd adj aet afe anx) (C : fc_CP m c) (R : fc_RV m c (fa_tI ale)) (hlv : ∀ n, n < 16 → -1 ≤ fa_tI alv n ∧ fa_tI alv n ≤ 15) (h0 : 0 ≤ x2.toInt) (hA9 : x2.toInt ≤ 5544)
    (hen : en = if b = true then s else t) (en16 : en < 16) (hst : start < 16) (hg : ago start = 0) (hle : fr_k b (fa_tI alv) start ≤ fr_k b (fa_tI alv) en)
    (hu : ∀ q, q < 16 → ago q = 0 → fr_k b (fa_tI alv) en ≤ fr_k b (fa_tI alv) q → q = en)
    (TH : ∀ n, n < 16 → ago n = 0 → n ≠ en → fr_k b (fa_tI alv) start ≤ fr_k b (fa_tI alv) n → x2.toInt ≤ fr_th b hd adj (fa_tI ale) (fa_tI alv) ago n)
    (K : ∀ ale' ane, fc_RV m c (fa_tI ale') → (∀ q, q < 16 → fc_ex m hd c (fa_tI ale') q = fc_ex m hd c (fa_tI ale) q + fr_sg b * ((if q = en then x2.toInt else 0) - (if q = start then x2.toInt else 0))) →
      (∀ e, e < 2 * m → fr_k b (fa_tI alv) (hd e) = fr_k b (fa_tI alv) (hd (fc_xr e)) + 1 → fr_k b (fa_tI alv) (hd (fc_xr e)) < fr_k b (fa_tI alv) start → fa_tI ale' (fr_al b e) = fa_tI ale (fr_al b e)) → post (fpr, nI s, nI t, nI (2 * m), ffl, fqf, fqs, foc, afo, ato, aro, aet, ale', afe, anx, alv, acu, acb, aex, ahs, aqu, aqd, apa, ago, ane, atr, aor)) :
    wpX_spread post (fpr, nI s, nI t, nI (2 * m), ffl, fqf, fqs, foc, afo, ato, aro, aet, ale, afe, anx, alv, acu, acb, aex, ahs, aqu, aqd, apa, ago, ane, atr, aor) (nI start) x2 (fr_bI b) := by
  refine ⟨17, fr_s3 (fun ane hnd => ?_) hst 16 0 _ rfl (fun q hq => by omega)⟩
  rw [← hen]
  have cs : (nI start).toNatClampNeg = start := fa_cl (by omega)
  have main : ∃ f, wX_spread_70 post (fr_bI b) (nI en) (fr_st b) f (alv start) fpr (nI s) (nI t) (nI (2 * m)) ffl fqf fqs foc afo ato aro aet ale afe anx alv acu acb aex ahs aqu aqd apa ago ane atr aor := by
    refine ⟨(fr_k b (fa_tI alv) en - fr_k b (fa_tI alv) start).toNat + 1, fr_s70 (L0 := fa_tI ale) (start := start) N C hlv hA9 en16 TH hst (fun ale' ane' S => ?_) _ (fr_k b (fa_tI alv) start) _ _ _ (by omega) hle (Int.le_refl _) ?_ (fr_Sbeg R hst h0 hg hnd)⟩
    · obtain ⟨g1, g2, g3⟩ := fr_Send S en16 hu
      exact K _ _ g1 g2 g3
    · exact (fr_lxk (lv := fa_tI alv)).mpr rfl
  cases b
  · exact br_t rfl ⟨fa_in hst (by omega), nm_r (e' := alv start) (by rw [cs]) main⟩
  · exact br_f (by decide) ⟨fa_in hst (by omega), nm_r (e' := alv start) (by rw [cs]) main⟩
/-- which nodes are still there -/
def fr_ng (go : Nat → Int32) : Int := fb_sm (fun k => if go k = 0 then 1 else 0) 16
theorem fr_ngb (go : Nat → Int32) : 0 ≤ fr_ng go ∧ fr_ng go ≤ 16 := by
  constructor
  · exact fb_nn (fun i hi => by split <;> omega)
  · have h : fr_ng go ≤ fb_sm (fun _ => 1) 16 := fb_le (fun i hi => by split <;> omega)
    rw [fb_const] at h
    exact h
theorem fr_ngu {go : Nat → Int32} {q : Nat} (hq : q < 16) (hg : go q = 0) : fr_ng (upd go q 1) = fr_ng go - 1 := by
  have h : fr_ng (upd go q 1) = fb_sm (fa_up (fun k => if go k = 0 then 1 else 0) q 0) 16 := by
    refine fb_congr (fun i hi => ?_)
    by_cases y : i = q
    · subst y; rw [fa_us, fa_ps, if_neg (by decide)]
    · rw [fa_un y, fa_pn y]
  rw [h, fb_up _ hq, if_pos hg]
  unfold fr_ng
  omega
/-- a way of levels to a node -/
theorem fr_way {L lv : Nat → Int} {cb : Nat → Int32} (H : fc_HD m hd) (hs : s < 16) (P : fl_P m s hd 1 L lv cb) : ∀ (k n : Nat), n < 16 → lv n = k → ∃ p V : Nat → Nat, fi_Pt m hd lv k p V ∧ V 0 = s ∧ V k = n ∧ (∀ i, i < k → 1 ≤ L (p i)) ∧ ∀ i, i ≤ k → V i < 16 := by
  intro k
  induction k with
  | zero =>
    intro n hn hl
    have : n = s := by
      by_cases q : n = s
      · exact q
      · obtain ⟨e, _, _, _, _, g5, g6⟩ := P.2.2.1 n hn (by omega) q
        omega
    subst this
    exact ⟨fun _ => 0, fun _ => n, ⟨fun i hi => by rw [hl]; omega, fun i hi => by omega⟩, rfl, rfl, fun i hi => by omega, fun i hi => hn⟩
  | succ k ih =>
    intro n hn hl
    have ns : n ≠ s := fun z => by rw [z, P.2.1] at hl; omega
    obtain ⟨e, g1, g2, g3, g4, g5, g6⟩ := P.2.2.1 n hn (by omega) ns
    obtain ⟨p, V, q1, q2, q3, q4, q5⟩ := ih (hd (fc_xr e)) (H _ (fc_xlt g1)).1 (by omega)
    have hVo : ∀ i, i ≤ k → fi_un V (k + 1) n i = V i := fun i hi => by unfold fi_un; rw [if_neg (by omega)]
    have hVn : fi_un V (k + 1) n (k + 1) = n := by unfold fi_un; rw [if_pos rfl]
    have hpo : ∀ i, i < k → fi_un p k e i = p i := fun i hi => by unfold fi_un; rw [if_neg (by omega)]
    have hpn : fi_un p k e k = e := by unfold fi_un; rw [if_pos rfl]
    refine ⟨fi_un p k e, fi_un V (k + 1) n, ⟨fun i hi => ?_, fun i hi => ?_⟩, by rw [hVo 0 (by omega)]; exact q2, hVn, fun i hi => ?_, fun i hi => ?_⟩
    · by_cases w : i = k + 1
      · rw [w, hVn]; exact hl
      · rw [hVo i (by omega)]; exact q1.1 i (by omega)
    · by_cases w : i = k
      · rw [w, hpn, hVn, hVo k (by omega), q3]; exact ⟨g1, rfl, g3⟩
      · rw [hpo i (by omega), hVo i (by omega), hVo (i + 1) (by omega)]; exact q1.2 i (by omega)
    · by_cases w : i = k
      · rw [w, hpn]; exact g4
      · rw [hpo i (by omega)]; exact q4 i (by omega)
    · by_cases w : i = k + 1
      · rw [w, hVn]; exact hn
      · rw [hVo i (by omega)]; exact q5 i (by omega)
/-- a node of the way has something to pass on -/
theorem fr_wayp {L lv : Nat → Int} {go : Nat → Int32} {k i : Nat} {p V : Nat → Nat} (hadj : ∀ v, v < 16 → ∀ e, e ∈ adj v ↔ (e < 2 * m ∧ hd (fc_xr e) = v)) (R : fc_RV m c L) (P : fi_Pt m hd lv k p V) (h4 : ∀ i, i < k → 1 ≤ L (p i)) (h5 : ∀ i, i ≤ k → V i < 16)
    (hg : ∀ i, i ≤ k → go (V i) = 0) (hi : i < k) : 0 < fr_th false hd adj L lv go (V i) ∧ 0 < fr_th true hd adj L lv go (V (i + 1)) := by
  obtain ⟨g1, g2, g3⟩ := P.2 i hi
  have v1 := P.1 i (by omega)
  have v2 := P.1 (i + 1) (by omega)
  have l1 := h4 i hi
  constructor
  · have hin : p i ∈ adj (V i) := (hadj _ (h5 i (by omega)) (p i)).mpr ⟨g1, g2⟩
    have := fr_lsg (f := fr_tm false hd L lv go) (l := adj (V i)) (fun e he => fr_tmn R ((hadj _ (h5 i (by omega)) e).mp he).1) hin
    have tm : fr_tm false hd L lv go (p i) = L (p i) := by
      unfold fr_tm
      rw [if_pos]
      · rfl
      · refine ⟨by show 0 < L (p i); omega, ?_, by rw [g3]; exact hg _ (by omega)⟩
        show lv (hd (p i)) = lv (hd (fc_xr (p i))) + 1
        rw [g2, g3, v1, v2]; omega
    unfold fr_th
    omega
  · have hin : fc_xr (p i) ∈ adj (V (i + 1)) := (hadj _ (h5 (i + 1) (by omega)) _).mpr ⟨fc_xlt g1, by rw [fc_xx]; exact g3⟩
    have := fr_lsg (f := fr_tm true hd L lv go) (l := adj (V (i + 1))) (fun e he => fr_tmn R ((hadj _ (h5 (i + 1) (by omega)) e).mp he).1) hin
    have tm : fr_tm true hd L lv go (fc_xr (p i)) = L (p i) := by
      have a1 : fr_al true (fc_xr (p i)) = p i := fc_xx _
      unfold fr_tm
      rw [a1, if_pos]
      refine ⟨by omega, ?_, by rw [g2]; exact hg _ (by omega)⟩
      show - lv (hd (fc_xr (p i))) = - lv (hd (fc_xr (fc_xr (p i)))) + 1
      rw [fc_xx, g2, g3, v1, v2]; omega
    unfold fr_th
    omega
def fr_G (m s t : Nat) (hd : Nat → Nat) (c L0 : Nat → Int) (F0 : Int) (lv : Nat → Int) (k : Nat) (V : Nat → Nat) (L : Nat → Int) (F : Int) (go : Nat → Int32) : Prop :=
  fc_FS m hd c s t L F ∧ F0 ≤ F ∧ (∀ n, n < 16 → go n = 0 → 0 ≤ lv n ∧ (n = t ∨ lv n < lv t)) ∧ (F0 < F ∨ ((∀ e, e < 2 * m → L e = L0 e) ∧ ∀ i, i ≤ k → go (V i) = 0))
theorem fr_fw {post : SX → Prop} {L0 : Nat → Int} {F0 : Int} {k : Nat} {p V : Nat → Nat} (N : fd_Nt m hd adj aet afe anx) (C : fc_CP m c) (hs : s < 16) (ht : t < 16) (hst : s ≠ t) (hlv : ∀ n, n < 16 → -1 ≤ fa_tI alv n ∧ fa_tI alv n ≤ 15)
    (hls : ∀ n, n < 16 → fa_tI alv n = 0 → n = s) (hs0 : fa_tI alv s = 0) (P : fi_Pt m hd (fa_tI alv) k p V) (V0 : V 0 = s) (Vk : V k = t) (h4 : ∀ i, i < k → 1 ≤ L0 (p i)) (h5 : ∀ i, i ≤ k → V i < 16) (f0 : 0 ≤ F0)
    (K : ∀ ffl ale ago ane, F0 < ffl.toInt → fc_FS m hd c s t (fa_tI ale) ffl.toInt → post (fpr, nI s, nI t, nI (2 * m), ffl, fqf, fqs, foc, afo, ato, aro, aet, ale, afe, anx, alv, acu, acb, aex, ahs, aqu, aqd, apa, ago, ane, atr, aor)) :
    ∀ (f : Nat) (ffl : Int32) (ale ago ane : Nat → Int32), fr_ng ago < f → fr_G m s t hd c L0 F0 (fa_tI alv) k V (fa_tI ale) ffl.toInt ago → wX_fillByWeakest_0 post f fpr (nI s) (nI t) (nI (2 * m)) ffl fqf fqs foc afo ato aro aet ale afe anx alv acu acb aex ahs aqu aqd apa ago ane atr aor := by
  intro f
  induction f with
  | zero =>
    intro ffl ale ago ane h G
    have := (fr_ngb ago).1
    omega
  | succ f ih =>
    intro ffl ale ago ane h G
    have hG := G
    obtain ⟨G1, G2, G3, G4⟩ := G
    have f9 := fc_F99 (fun e he => (N.2.2.1 e he).1) C G1 ht hst
    have cs : (nI s).toNatClampNeg = s := fa_cl (by omega)
    have ct : (nI t).toNatClampNeg = t := fa_cl (by omega)
    rw [wX_fillByWeakest_0]
    refine ⟨fa_in hs (by omega), br_c (fun z => ⟨fa_in ht (by omega), br_c (fun z1 => ?_) (fun z1 => K _ _ _ _ ?_ G1)⟩) (fun z => K _ _ _ _ ?_ G1)⟩
    · rw [cs] at z
      rw [ct] at z1
      refine fr_weak N C G1.1 hs ht hst hlv z (fun q x ane' W x9 hx0 hall => fun x2 ex2 => ?_)
      obtain ⟨W1, W2, W3, W4, W5⟩ := W
      have cq : (nI q).toNatClampNeg = q := fa_cl (by omega)
      have wq : vp_in (nI q) 16 := fa_in W1 (by omega)
      have hx2 : x2.toInt = x := by rw [ex2]; exact hx0
      have G3' : ∀ n, n < 16 → upd ago q 1 n = 0 → 0 ≤ fa_tI alv n ∧ (n = t ∨ fa_tI alv n < fa_tI alv t) := by
        intro n hn hg
        by_cases y : n = q
        · rw [y, fa_us] at hg
          exact absurd hg (by decide)
        · rw [fa_un y] at hg
          exact G3 n hn hg
      have hng := fr_ngu W1 W2
      refine br_c (fun z2 => ⟨wq, nm_r (e' := upd ago q 1) (by rw [cq, fa_z1]) (ih _ _ _ _ (by omega) ⟨G1, G2, G3', ?_⟩)⟩) (fun z2 => ?_)
      · rw [fa_le, fa_0] at z2
        rcases G4 with y | ⟨y1, y2⟩
        · exact Or.inl y
        · refine Or.inr ⟨y1, fun i hi => ?_⟩
          have hL : ∀ i, i < k → 1 ≤ fa_tI ale (p i) := fun i hi => by rw [y1 _ (P.2 i hi).1]; exact h4 i hi
          have ne : V i ≠ q := by
            intro e
            have hout : q ≠ t → 0 < fr_th false hd adj (fa_tI ale) (fa_tI alv) ago q := by
              intro w
              have ik : i < k := by
                rcases Nat.lt_or_ge i k with v | v
                · exact v
                · exact absurd (by rw [← e, ← Vk]; congr 1; omega) w
              rw [← e]
              exact (fr_wayp N.2.2.2.2.1 G1.1 P hL h5 y2 ik).1
            have hin : q ≠ s → 0 < fr_th true hd adj (fa_tI ale) (fa_tI alv) ago q := by
              intro w
              obtain ⟨j, rfl⟩ : ∃ j, i = j + 1 := ⟨i - 1, by
                have : i ≠ 0 := fun v => w (by rw [← e, v, V0])
                omega⟩
              rw [← e]
              exact (fr_wayp N.2.2.2.2.1 G1.1 P hL h5 y2 (by omega)).2
            rcases W5 with ⟨w1, w2⟩ | ⟨w1, w2⟩
            · have := hin w1; omega
            · have := hout w1; omega
          rw [fa_un ne]
          exact y2 i hi
      · rw [fa_le, fa_0] at z2
        have tq := G3 q W1 W2
        have tt := G3 t ht z1
        refine fr_spread false (en := t) N C G1.1 hlv (by omega) (by omega) rfl ht W1 W2 ?_ ?_ ?_ (fun ale1 ane1 R1 e1 u1 => ?_)
        · show fa_tI alv q ≤ fa_tI alv t
          rcases tq.2 with y | y
          · rw [y]; exact Int.le_refl _
          · omega
        · intro n hn hg hle
          have hle' : fa_tI alv t ≤ fa_tI alv n := hle
          rcases (G3 n hn hg).2 with y | y
          · exact y
          · omega
        · intro n hn hg hne hle
          rw [hx2]
          exact (hall n hn hg).2 hne
        · have key : ∀ n, n < 16 → ago n = 0 → fa_tI alv n ≤ fa_tI alv q → fr_th true hd adj (fa_tI ale1) (fa_tI alv) ago n = fr_th true hd adj (fa_tI ale) (fa_tI alv) ago n := by
            intro n hn hg hle
            unfold fr_th
            refine fr_lsc (fun e he => ?_)
            obtain ⟨g1, g2⟩ := (N.2.2.2.2.1 n hn e).mp he
            unfold fr_tm
            by_cases y : fr_k true (fa_tI alv) (hd e) = fr_k true (fa_tI alv) (hd (fc_xr e)) + 1
            · have y' : - fa_tI alv (hd e) = - fa_tI alv (hd (fc_xr e)) + 1 := y
              rw [g2] at y'
              have := u1 (fc_xr e) (fc_xlt g1) (by
                show fa_tI alv (hd (fc_xr e)) = fa_tI alv (hd (fc_xr (fc_xr e))) + 1
                rw [fc_xx, g2]; omega) (by
                show fa_tI alv (hd (fc_xr (fc_xr e))) < fa_tI alv q
                rw [fc_xx]; omega)
              have a1 : fr_al false (fc_xr e) = fc_xr e := rfl
              have a2 : fr_al true e = fc_xr e := rfl
              rw [a1] at this
              rw [a2, this]
            · rw [if_neg (fun w => y w.2.1), if_neg (fun w => y w.2.1)]
          refine fr_spread true (en := s) N C R1 hlv (by omega) (by omega) rfl hs W1 W2 ?_ ?_ ?_ (fun ale2 ane2 R2 e2 u2 => fun ffl' ef => ⟨wq, nm_r (e' := upd ago q 1) (by rw [cq, fa_z1]) (ih _ _ _ _ (by omega) ⟨⟨R2, fun n hn n1 n2 => ?_, ?_⟩, ?_, G3', Or.inl ?_⟩)⟩)
          · show - fa_tI alv q ≤ - fa_tI alv s
            rw [hs0]; omega
          · intro n hn hg hle
            have hle' : - fa_tI alv s ≤ - fa_tI alv n := hle
            have := (G3 n hn hg).1
            exact hls n hn (by omega)
          · intro n hn hg hne hle
            have hle' : - fa_tI alv q ≤ - fa_tI alv n := hle
            rw [key n hn hg (by omega), hx2]
            exact (hall n hn hg).1 hne
          · have a1 : fr_sg false = 1 := rfl
            have a2 : fr_sg true = -1 := rfl
            rw [e2 n hn, e1 n hn, G1.2.1 n hn n1 n2, a1, a2, if_neg n1, if_neg n2]
            omega
          · have a1 : fr_sg false = 1 := rfl
            have a2 : fr_sg true = -1 := rfl
            have a3 : ffl'.toInt = ffl.toInt + x2.toInt := by rw [ef, fa_add (by omega) (by omega)]
            rw [e2 t ht, e1 t ht, G1.2.2, a1, a2, if_neg (show ¬ t = s from fun w => hst w.symm), if_pos (rfl : t = t), a3]
            omega
          · have a3 : ffl'.toInt = ffl.toInt + x2.toInt := by rw [ef, fa_add (by omega) (by omega)]
            omega
          · have a3 : ffl'.toInt = ffl.toInt + x2.toInt := by rw [ef, fa_add (by omega) (by omega)]
            omega
    · rw [ct] at z1
      rcases G4 with y | ⟨_, y2⟩
      · exact y
      · have := y2 k (Nat.le_refl _)
        rw [Vk] at this
        exact absurd this z1
    · rw [cs] at z
      rcases G4 with y | ⟨_, y2⟩
      · exact y
      · have := y2 0 (Nat.zero_le _)
        rw [V0] at this
        exact absurd this z
theorem fr_10 {post : SX → Prop} {J : _} {cb : Nat → Int32} (N : fd_Nt m hd adj aet afe anx) (C : fc_CP m c) (hs : s < 16) (ht : t < 16) (hst : s ≠ t) (FS : fc_FS m hd c s t (fa_tI ale) ffl.toInt)
    (P : fl_P m s hd 1 (fa_tI ale) (fa_tI alv) cb) (hl : 0 ≤ fa_tI alv t) (f0 : 0 ≤ ffl.toInt)
    (K : ∀ ffl' ale ago ane, ffl.toInt < ffl'.toInt → fc_FS m hd c s t (fa_tI ale) ffl'.toInt → J fpr (nI s) (nI t) (nI (2 * m)) ffl' fqf fqs foc afo ato aro aet ale afe anx alv acu acb aex ahs aqu aqd apa ago ane atr aor) :
    ∀ (k i : Nat) (ago : Nat → Int32), i + k = 16 → (∀ n, n < i → (ago n = 0 ↔ (0 ≤ fa_tI alv n ∧ (n = t ∨ fa_tI alv n < fa_tI alv t)))) → wX_solveByWeakestNodes_10 post J fpr (nI s) (nI t) (nI (2 * m)) ffl fqf fqs foc (k + 1) (nI i) afo ato aro aet ale afe anx alv acu acb aex ahs aqu aqd apa ago ane atr aor := by
  intro k
  induction k with
  | zero =>
    intro i ago hi h
    obtain rfl : i = 16 := by omega
    rw [wX_solveByWeakestNodes_10]
    refine br_t (fa_t16 (by omega) (by omega)) ?_
    have hls : ∀ n, n < 16 → fa_tI alv n = 0 → n = s := by
      intro n hn h
      by_cases q : n = s
      · exact q
      · obtain ⟨e, _, _, _, _, g5, g6⟩ := P.2.2.1 n hn (by omega) q
        omega
    obtain ⟨k, hk⟩ : ∃ k : Nat, fa_tI alv t = k := ⟨(fa_tI alv t).toNat, by omega⟩
    obtain ⟨p, V, q1, q2, q3, q4, q5⟩ := fr_way N.2.2.1 hs P k t ht hk
    refine ⟨17, fr_fw (L0 := fa_tI ale) (F0 := ffl.toInt) N C hs ht hst P.1 hls P.2.1 q1 q2 q3 q4 q5 f0 (fun ffl' ale ago ane h1 h2 => K _ _ _ _ h1 h2) 17 _ _ _ _ (by have := (fr_ngb ago).2; omega) ⟨FS, Int.le_refl _, fun n hn hg => (h n hn).mp hg, Or.inr ⟨fun e he => rfl, fun j hj => (h _ (q5 j hj)).mpr ?_⟩⟩⟩
    have := q1.1 j hj
    refine ⟨by omega, ?_⟩
    by_cases w : j = k
    · left; rw [w]; exact q3
    · right; omega
  | succ k ih =>
    intro i ago hi h
    have ci : (nI i).toNatClampNeg = i := fa_cl (by omega)
    have ct : (nI t).toNatClampNeg = t := fa_cl (by omega)
    have wi : vp_in (nI i) 16 := fa_in (by omega) (by omega)
    have put : ∀ v : Int32, (v = 0 ↔ (0 ≤ fa_tI alv i ∧ (i = t ∨ fa_tI alv i < fa_tI alv t))) → wX_solveByWeakestNodes_10 post J fpr (nI s) (nI t) (nI (2 * m)) ffl fqf fqs foc (k + 1) (nI (i + 1)) afo ato aro aet ale afe anx alv acu acb aex ahs aqu aqd apa (upd ago i v) ane atr aor := by
      intro v hv
      refine ih _ _ (by omega) (fun n hn => ?_)
      by_cases q : n = i
      · rw [q, fa_us]; exact hv
      · rw [fa_un q]; exact h n (by omega)
    have p1 : ¬ (0 ≤ fa_tI alv i ∧ (i = t ∨ fa_tI alv i < fa_tI alv t)) → wX_solveByWeakestNodes_10 post J fpr (nI s) (nI t) (nI (2 * m)) ffl fqf fqs foc (k + 1) (nI (i + 1)) afo ato aro aet ale afe anx alv acu acb aex ahs aqu aqd apa (upd ago i 1) ane atr aor := fun y => put 1 ⟨fun w => absurd w (by decide), fun w => absurd w y⟩
    have p0 : (0 ≤ fa_tI alv i ∧ (i = t ∨ fa_tI alv i < fa_tI alv t)) → wX_solveByWeakestNodes_10 post J fpr (nI s) (nI t) (nI (2 * m)) ffl fqf fqs foc (k + 1) (nI (i + 1)) afo ato aro aet ale afe anx alv acu acb aex ahs aqu aqd apa (upd ago i 0) ane atr aor := fun y => put 0 ⟨fun _ => y, fun _ => rfl⟩
    rw [wX_solveByWeakestNodes_10]
    refine br_f (fa_f16 (by omega)) ⟨wi, br_c (fun z => ⟨wi, nm_r (e' := upd ago i 1) (by rw [ci, fa_z1]) (nm_r (nI_1 i) (p1 (fun y => ?_)))⟩) (fun z => br_c (fun z1 => ⟨wi, nm_r (e' := upd ago i 0) (by rw [ci, fa_z0]) (nm_r (nI_1 i) (p0 ?_))⟩) (fun z1 => ⟨wi, fa_in ht (by omega), br_c (fun z2 => ⟨wi, nm_r (e' := upd ago i 0) (by rw [ci, fa_z0]) (nm_r (nI_1 i) (p0 ?_))⟩) (fun z2 => ⟨wi, nm_r (e' := upd ago i 1) (by rw [ci, fa_z1]) (nm_r (nI_1 i) (p1 (fun y => ?_)))⟩)⟩))⟩
    · rw [ci, fa_lt, fa_0] at z
      have := y.1
      simp only [fa_tI] at this
      omega
    · rw [ci, fa_lt, fa_0] at z
      exact ⟨by simp only [fa_tI]; omega, Or.inl (fa_inj z1 (by omega) (by omega))⟩
    · rw [ci, fa_lt, fa_0] at z
      rw [ci, ct, fa_lt] at z2
      exact ⟨by simp only [fa_tI]; omega, Or.inr z2⟩
    · rw [ci, ct, fa_lt] at z2
      rcases y.2 with w | w
      · exact z1 (by rw [w])
      · exact z2 w
theorem fr_e5 {post : SX → Prop} (N : fd_Nt m hd adj aet afe anx) (C : fc_CP m c) (hs : s < 16) (ht : t < 16) (hst : s ≠ t)
    (K : ∀ (ffl fqf fqs foc : Int32) (ale alv acu acb aex ahs aqu aqd apa ago ane atr aor : Nat → Int32), fc_MF m hd c s t (fa_tI ale) ffl.toInt → post (fpr, nI s, nI t, nI (2 * m), ffl, fqf, fqs, foc, afo, ato, aro, aet, ale, afe, anx, alv, acu, acb, aex, ahs, aqu, aqd, apa, ago, ane, atr, aor)) :
    ∀ (n : Nat) (ffl fqf fqs foc : Int32) (ale alv acu acb aex ahs aqu aqd apa ago ane atr aor : Nat → Int32), 2772 - ffl.toInt < n → 0 ≤ ffl.toInt → fc_FS m hd c s t (fa_tI ale) ffl.toInt → wX_solveByWeakestNodes_0 post n fpr (nI s) (nI t) (nI (2 * m)) ffl fqf fqs foc afo ato aro aet ale afe anx alv acu acb aex ahs aqu aqd apa ago ane atr aor := by
  intro n
  induction n with
  | zero =>
    intro ffl fqf fqs foc ale alv acu acb aex ahs aqu aqd apa ago ane atr aor h f0 FS
    have f9 := fc_F99 (fun e he => (N.2.2.1 e he).1) C FS ht hst
    omega
  | succ n ih =>
    intro ffl fqf fqs foc ale alv acu acb aex ahs aqu aqd apa ago ane atr aor h f0 FS
    rw [wX_solveByWeakestNodes_0]
    refine fl_find N hs ht (d := 1) fa_1 (fun r fqf fqs alv acb aqu aqd P hr => br_c (fun z => ?_) (fun z => ?_))
    · rcases hr with ⟨_, hl⟩ | ⟨h1, _⟩
      · exact K _ _ _ _ _ _ _ _ _ _ _ _ _ _ _ _ _ (fw_MF FS P hl)
      · rw [h1] at z; exact absurd z (by decide)
    · rcases hr with ⟨h1, _⟩ | ⟨_, hl⟩
      · exact absurd h1 z
      · exact ⟨17, fr_10 N C hs ht hst FS P hl f0 (fun ffl' ale ago ane hF FS' => ih _ _ _ _ _ _ _ _ _ _ _ _ _ _ _ _ _ (by omega) (by omega) FS') 16 0 _ rfl (fun j hj => by omega)⟩
theorem fr_solve5 {post : SX → Prop} (N : fd_Nt m hd adj aet afe anx) (C : fc_CP m c) (hs : s < 16) (ht : t < 16) (hst : s ≠ t) (f0 : 0 ≤ ffl.toInt) (FS : fc_FS m hd c s t (fa_tI ale) ffl.toInt)
    (K : ∀ (ffl fqf fqs foc : Int32) (ale alv acu acb aex ahs aqu aqd apa ago ane atr aor : Nat → Int32), fc_MF m hd c s t (fa_tI ale) ffl.toInt → post (fpr, nI s, nI t, nI (2 * m), ffl, fqf, fqs, foc, afo, ato, aro, aet, ale, afe, anx, alv, acu, acb, aex, ahs, aqu, aqd, apa, ago, ane, atr, aor)) : wpX_solveByWeakestNodes post (fpr, nI s, nI t, nI (2 * m), ffl, fqf, fqs, foc, afo, ato, aro, aet, ale, afe, anx, alv, acu, acb, aex, ahs, aqu, aqd, apa, ago, ane, atr, aor) :=
  ⟨2773, fr_e5 N C hs ht hst K _ _ _ _ _ _ _ _ _ _ _ _ _ _ _ _ _ _ (by omega) f0 FS⟩
end WEAK
end
section
/-! 17: engine 6: two trees: pure -/
def fz_par (hd : Nat → Nat) (tr cb : Nat → Int32) (n : Nat) : Nat := if tr n = 1 then hd (fc_xr (cb n).toNatClampNeg) else hd (cb n).toNatClampNeg
/-- from x, in k steps, the root r -/
def fz_Rt (hd : Nat → Nat) (tr cb : Nat → Int32) (r : Nat) : Nat → Nat → Prop
  | 0, x => x = r ∧ cb x = -1
  | k + 1, x => cb x ≠ -1 ∧ fz_Rt hd tr cb r k (fz_par hd tr cb x)
/-- .. over edges with so much room -/
def fz_C (hd : Nat → Nat) (tr cb : Nat → Int32) (L : Nat → Int) (amt : Int) (r : Nat) : Nat → Nat → Prop
  | 0, x => x = r ∧ cb x = -1
  | k + 1, x => cb x ≠ -1 ∧ amt ≤ L (cb x).toNatClampNeg ∧ fz_C hd tr cb L amt r k (fz_par hd tr cb x)
def fz_pe (m : Nat) (hd : Nat → Nat) (L : Nat → Int) (tr cb : Nat → Int32) (n e : Nat) : Prop :=
  e < 2 * m ∧ cb n = nI e ∧ 0 < L e ∧ ((tr n = 1 ∧ hd e = n ∧ tr (hd (fc_xr e)) = 1) ∨ (tr n = 2 ∧ hd (fc_xr e) = n ∧ tr (hd e) = 2))
def fz_T (m s t : Nat) (hd : Nat → Nat) (L : Nat → Int) (tr cb : Nat → Int32) : Prop :=
  (∀ n, n < 16 → tr n = 0 ∨ tr n = 1 ∨ tr n = 2) ∧ tr s = 1 ∧ tr t = 2 ∧ cb s = -1 ∧ cb t = -1 ∧ (∀ n, n < 16 → cb n = -1 ∨ ∃ e, fz_pe m hd L tr cb n e) ∧ (∀ n, n < 16 → ∃ r k, fz_Rt hd tr cb r k n)
def fz_A (m : Nat) (hd : Nat → Nat) (L : Nat → Int) (tr qd : Nat → Int32) : Prop :=
  ∀ e, e < 2 * m → qd (hd (fc_xr e)) = 0 → (tr (hd (fc_xr e)) = 1 → 0 < L e → tr (hd e) = 1) ∧ (tr (hd (fc_xr e)) = 2 → 0 < L (fc_xr e) → tr (hd e) = 2)
def fz_O (s t : Nat) (tr cb : Nat → Int32) (foc : Int32) (aor : Nat → Int32) (O : List Nat) (z : Nat) : Prop :=
  O.Nodup ∧ (∀ x, x ∈ O → x < 16) ∧ foc = nI O.length ∧ (∀ i, i < O.length → aor i = nI (O.getD i 0)) ∧ z ∉ O ∧ ∀ x, x < 16 → ((cb x = -1 ∧ tr x ≠ 0 ∧ x ≠ s ∧ x ≠ t) ↔ (x ∈ O ∨ x = z))
theorem fz_nm1 {e : Nat} (h : e < 1000000) : nI e ≠ -1 := by
  intro z
  rw [fa_eq, fa_ti h, fa_m1] at z
  omega
section TREEP
variable {m s t : Nat} {hd : Nat → Nat} {L : Nat → Int} {tr cb : Nat → Int32}
theorem fz_pare (hm : m ≤ 28) {n e : Nat} (h : fz_pe m hd L tr cb n e) : (cb n).toNatClampNeg = e ∧ cb n ≠ -1 ∧ ((tr n = 1 ∧ hd e = n ∧ fz_par hd tr cb n = hd (fc_xr e)) ∨ (tr n = 2 ∧ hd (fc_xr e) = n ∧ fz_par hd tr cb n = hd e)) ∧ tr (fz_par hd tr cb n) = tr n := by
  obtain ⟨h1, h2, h3, h4⟩ := h
  have ce : (cb n).toNatClampNeg = e := by rw [h2]; exact fa_cl (by omega)
  refine ⟨ce, by rw [h2]; exact fz_nm1 (by omega), ?_⟩
  unfold fz_par
  rw [ce]
  rcases h4 with ⟨a1, a2, a3⟩ | ⟨a1, a2, a3⟩
  · rw [if_pos a1]
    exact ⟨Or.inl ⟨a1, a2, rfl⟩, by rw [a1]; exact a3⟩
  · rw [if_neg (by rw [a1]; decide)]
    exact ⟨Or.inr ⟨a1, a2, rfl⟩, by rw [a1]; exact a3⟩
theorem fz_pe_of (T : fz_T m s t hd L tr cb) {n : Nat} (hn : n < 16) (h : cb n ≠ -1) : ∃ e, fz_pe m hd L tr cb n e := by
  rcases T.2.2.2.2.2.1 n hn with z | z
  · exact absurd z h
  · exact z
theorem fz_par16 (H : fc_HD m hd) (hm : m ≤ 28) {n e : Nat} (h : fz_pe m hd L tr cb n e) : fz_par hd tr cb n < 16 := by
  have k := fz_pare hm h
  rcases k.2.2.1 with a | a
  · rw [a.2.2]; exact (H _ (fc_xlt h.1)).1
  · rw [a.2.2]; exact (H _ h.1).1
/-- a parent's edge belongs to one node -/
theorem fz_uniq {n x e : Nat} (h1 : fz_pe m hd L tr cb n e) (h2 : fz_pe m hd L tr cb x e) : x = n := by
  obtain ⟨_, _, _, a⟩ := h1
  obtain ⟨_, _, _, b⟩ := h2
  rcases a with ⟨a1, a2, a3⟩ | ⟨a1, a2, a3⟩ <;> rcases b with ⟨b1, b2, b3⟩ | ⟨b1, b2, b3⟩
  · rw [← a2, ← b2]
  · rw [← b2, a3] at b1
    exact absurd b1 (by decide)
  · rw [← a2, b3] at a1
    exact absurd a1 (by decide)
  · rw [← a2, ← b2]
theorem fz_Rtu {r r' x : Nat} : ∀ {k k' : Nat} {x : Nat}, fz_Rt hd tr cb r k x → fz_Rt hd tr cb r' k' x → k = k' ∧ r = r' := by
  intro k
  induction k with
  | zero =>
    intro k' x h1 h2
    cases k' with
    | zero => exact ⟨rfl, h1.1.symm.trans h2.1⟩
    | succ k' => exact absurd h1.2 h2.1
  | succ k ih =>
    intro k' x h1 h2
    cases k' with
    | zero => exact absurd h2.2 h1.1
    | succ k' =>
      have := ih h1.2 h2.2
      exact ⟨by omega, this.2⟩
theorem fz_Rtr {r : Nat} : ∀ {k x : Nat}, fz_Rt hd tr cb r k x → cb r = -1 := by
  intro k
  induction k with
  | zero => intro x h; rw [← h.1]; exact h.2
  | succ k ih => intro x h; exact ih h.2
theorem fz_Rt16 (H : fc_HD m hd) (hm : m ≤ 28) (T : fz_T m s t hd L tr cb) {r : Nat} : ∀ {k x : Nat}, x < 16 → fz_Rt hd tr cb r k x → r < 16 ∧ tr r = tr x := by
  intro k
  induction k with
  | zero => intro x hx h; rw [← h.1]; exact ⟨hx, rfl⟩
  | succ k ih =>
    intro x hx h
    obtain ⟨e, he⟩ := fz_pe_of T hx h.1
    have g := ih (fz_par16 H hm he) h.2
    exact ⟨g.1, g.2.trans (fz_pare hm he).2.2.2⟩
theorem fz_CRt {amt : Int} {r : Nat} : ∀ {k x : Nat}, fz_C hd tr cb L amt r k x → fz_Rt hd tr cb r k x := by
  intro k
  induction k with
  | zero => intro x h; exact h
  | succ k ih => intro x h; exact ⟨h.1, ih h.2.2⟩
theorem fz_parc {tr' cb' : Nat → Int32} {x : Nat} (h1 : cb' x = cb x) (h2 : tr' x = tr x) : fz_par hd tr' cb' x = fz_par hd tr cb x := by
  unfold fz_par
  rw [h1, h2]
theorem fz_keep {tr' cb' : Nat → Int32} {n r : Nat} (hne : ∀ y, y ≠ n → cb' y = cb y ∧ tr' y = tr y) (hn : cb n = -1) (hr : r ≠ n) : ∀ {k x : Nat}, fz_Rt hd tr cb r k x → fz_Rt hd tr' cb' r k x := by
  intro k
  induction k with
  | zero =>
    intro x h
    have q : x ≠ n := fun z => hr (h.1.symm.trans z)
    exact ⟨h.1, by rw [(hne x q).1]; exact h.2⟩
  | succ k ih =>
    intro x h
    have q : x ≠ n := fun z => h.1 (by rw [z]; exact hn)
    refine ⟨by rw [(hne x q).1]; exact h.1, ?_⟩
    rw [fz_parc (hne x q).1 (hne x q).2]
    exact ih h.2
theorem fz_to {tr' cb' : Nat → Int32} {n r0 j : Nat} (hne : ∀ y, y ≠ n → cb' y = cb y ∧ tr' y = tr y) (hn : cb n = -1) (hj : fz_Rt hd tr' cb' r0 j n) : ∀ {k x : Nat}, fz_Rt hd tr cb n k x → ∃ j', fz_Rt hd tr' cb' r0 j' x := by
  intro k
  induction k with
  | zero => intro x h; rw [h.1]; exact ⟨j, hj⟩
  | succ k ih =>
    intro x h
    have q : x ≠ n := fun z => h.1 (by rw [z]; exact hn)
    obtain ⟨j', hj'⟩ := ih h.2
    refine ⟨j' + 1, by rw [(hne x q).1]; exact h.1, ?_⟩
    rw [fz_parc (hne x q).1 (hne x q).2]
    exact hj'
theorem fz_cut {n r : Nat} : ∀ {k x : Nat}, fz_Rt hd tr cb r k x → ∃ r' k', fz_Rt hd tr (upd cb n (-1)) r' k' x := by
  intro k
  induction k with
  | zero =>
    intro x h
    by_cases q : x = n
    · exact ⟨n, 0, q, by rw [q, fa_us]⟩
    · exact ⟨r, 0, h.1, by rw [fa_un q]; exact h.2⟩
  | succ k ih =>
    intro x h
    by_cases q : x = n
    · exact ⟨n, 0, q, by rw [q, fa_us]⟩
    · obtain ⟨r', k', g⟩ := ih h.2
      refine ⟨r', k' + 1, by rw [fa_un q]; exact h.1, ?_⟩
      rw [fz_parc (tr := tr) (cb := cb) (fa_un q) rfl]
      exact g
/-- a parent's edge is used; if it is full then its node is an orphan -/
theorem fz_Tmv {n e : Nat} {amt : Int} (T : fz_T m s t hd L tr cb) (hn : n < 16) (he : fz_pe m hd L tr cb n e) (h0 : 0 ≤ amt) (hlt : amt < L e) : fz_T m s t hd (fc_mv L e amt) tr cb := by
  obtain ⟨T1, T2, T3, T4, T5, T6, T7⟩ := T
  refine ⟨T1, T2, T3, T4, T5, fun x hx => ?_, T7⟩
  rcases T6 x hx with z | ⟨e', g1, g2, g3, g4⟩
  · exact Or.inl z
  · refine Or.inr ⟨e', g1, g2, ?_, g4⟩
    by_cases q1 : e' = e
    · rw [q1, fc_mv_e]; omega
    · by_cases q2 : e' = fc_xr e
      · subst q2
        rw [fc_mv_x]; omega
      · rw [fc_mv_n q1 q2]; exact g3
theorem fz_Tor {n e : Nat} {amt : Int} (T : fz_T m s t hd L tr cb) (hn : n < 16) (hs : n ≠ s) (ht : n ≠ t) (he : fz_pe m hd L tr cb n e) (h0 : 0 ≤ amt) (hm : m ≤ 28) : fz_T m s t hd (fc_mv L e amt) tr (upd cb n (-1)) := by
  obtain ⟨T1, T2, T3, T4, T5, T6, T7⟩ := T
  refine ⟨T1, T2, T3, by rw [fa_un (fun z => hs z.symm)]; exact T4, by rw [fa_un (fun z => ht z.symm)]; exact T5, fun x hx => ?_, fun x hx => ?_⟩
  · by_cases q : x = n
    · rw [q, fa_us]; exact Or.inl rfl
    · unfold fz_pe
      rw [fa_un q]
      rcases T6 x hx with z | ⟨e', g⟩
      · exact Or.inl z
      · have q1 : e' ≠ e := by
          intro y
          subst y
          exact q (fz_uniq he g)
        obtain ⟨g1, g2, g3, g4⟩ := g
        refine Or.inr ⟨e', g1, g2, ?_, g4⟩
        by_cases q2 : e' = fc_xr e
        · subst q2
          rw [fc_mv_x]; omega
        · rw [fc_mv_n q1 q2]; exact g3
  · obtain ⟨r, k, g⟩ := T7 x hx
    exact fz_cut g
/-- any edge that is no parent's -/
theorem fz_Tbr {e : Nat} {amt : Int} (T : fz_T m s t hd L tr cb) (h0 : 0 ≤ amt) (hno : ∀ x, x < 16 → ¬ fz_pe m hd L tr cb x e) : fz_T m s t hd (fc_mv L e amt) tr cb := by
  obtain ⟨T1, T2, T3, T4, T5, T6, T7⟩ := T
  refine ⟨T1, T2, T3, T4, T5, fun x hx => ?_, T7⟩
  rcases T6 x hx with z | ⟨e', g⟩
  · exact Or.inl z
  · have q1 : e' ≠ e := by
      intro y
      subst y
      exact hno x hx g
    obtain ⟨g1, g2, g3, g4⟩ := g
    refine Or.inr ⟨e', g1, g2, ?_, g4⟩
    by_cases q2 : e' = fc_xr e
    · subst q2
      rw [fc_mv_x]; omega
    · rw [fc_mv_n q1 q2]; exact g3
theorem fz_Amv {e : Nat} {amt : Int} {qd : Nat → Int32} (A : fz_A m hd L tr qd) (he : e < 2 * m) (h0 : 0 ≤ amt) (h1 : tr (hd e) = 1 → tr (hd (fc_xr e)) = 1) (h2 : tr (hd (fc_xr e)) = 2 → tr (hd e) = 2) : fz_A m hd (fc_mv L e amt) tr qd := by
  intro e' he' hq
  have a := A e' he' hq
  constructor
  · intro g1 g2
    by_cases q1 : e' = e
    · subst q1
      rw [fc_mv_e] at g2
      exact a.1 g1 (by omega)
    · by_cases q2 : e' = fc_xr e
      · subst q2
        rw [fc_xx] at g1
        exact h1 g1
      · rw [fc_mv_n q1 q2] at g2
        exact a.1 g1 g2
  · intro g1 g2
    by_cases q1 : e' = e
    · subst q1
      exact h2 g1
    · by_cases q2 : e' = fc_xr e
      · subst q2
        rw [fc_xx, fc_mv_e] at g2
        exact a.2 g1 (by rw [fc_xx]; omega)
      · have q3 : fc_xr e' ≠ e := fun z => q2 (by rw [← z, fc_xx])
        have q4 : fc_xr e' ≠ fc_xr e := fun z => q1 (fc_xinj z)
        rw [fc_mv_n q3 q4] at g2
        exact a.2 g1 g2
/-- a node without a parent gets one that leads to another root -/
theorem fz_Tat {n v r k e : Nat} {x : Int32} (hm : m ≤ 28) (T : fz_T m s t hd L tr cb) (hn : n < 16) (hs : n ≠ s) (ht : n ≠ t) (hcb : cb n = -1) (hv : v ≠ n) (hR : fz_Rt hd tr cb r k v) (hr : r ≠ n) (he : e < 2 * m) (hL : 0 < L e)
    (htr : tr n = x ∨ tr n = 0) (hx : (x = 1 ∧ hd e = n ∧ hd (fc_xr e) = v ∧ tr v = 1) ∨ (x = 2 ∧ hd (fc_xr e) = n ∧ hd e = v ∧ tr v = 2)) :
    fz_T m s t hd L (upd tr n x) (upd cb n (nI e)) := by
  obtain ⟨T1, T2, T3, T4, T5, T6, T7⟩ := T
  have hne : ∀ y, y ≠ n → upd cb n (nI e) y = cb y ∧ upd tr n x y = tr y := fun y hy => ⟨fa_un hy, fa_un hy⟩
  have hvt : upd tr n x v = tr v := fa_un hv
  have hpn : fz_pe m hd L (upd tr n x) (upd cb n (nI e)) n e := by
    refine ⟨he, fa_us, hL, ?_⟩
    rw [fa_us]
    rcases hx with ⟨a1, a2, a3, a4⟩ | ⟨a1, a2, a3, a4⟩
    · exact Or.inl ⟨a1, a2, by rw [a3, hvt]; exact a4⟩
    · exact Or.inr ⟨a1, a2, by rw [a3, hvt]; exact a4⟩
  have hpar : fz_par hd (upd tr n x) (upd cb n (nI e)) n = v := by
    rcases (fz_pare hm hpn).2.2.1 with g | g
    · rw [g.2.2]
      rcases hx with ⟨a1, a2, a3, a4⟩ | ⟨a1, a2, a3, a4⟩
      · exact a3
      · rw [fa_us] at g
        rw [a1] at g
        exact absurd g.1 (by decide)
    · rw [g.2.2]
      rcases hx with ⟨a1, a2, a3, a4⟩ | ⟨a1, a2, a3, a4⟩
      · rw [fa_us] at g
        rw [a1] at g
        exact absurd g.1 (by decide)
      · exact a3
  have hnew : fz_Rt hd (upd tr n x) (upd cb n (nI e)) r (k + 1) n := by
    refine ⟨by rw [fa_us]; exact fz_nm1 (by omega), ?_⟩
    rw [hpar]
    exact fz_keep hne hcb hr hR
  refine ⟨fun y hy => ?_, by rw [fa_un (fun z => hs z.symm)]; exact T2, by rw [fa_un (fun z => ht z.symm)]; exact T3, by rw [fa_un (fun z => hs z.symm)]; exact T4, by rw [fa_un (fun z => ht z.symm)]; exact T5, fun y hy => ?_, fun y hy => ?_⟩
  · by_cases q : y = n
    · rw [q, fa_us]
      rcases hx with a | a
      · exact Or.inr (Or.inl a.1)
      · exact Or.inr (Or.inr a.1)
    · rw [fa_un q]; exact T1 y hy
  · by_cases q : y = n
    · rw [q]; exact Or.inr ⟨e, hpn⟩
    · rcases T6 y hy with z | ⟨e', g1, g2, g3, g4⟩
      · rw [fa_un q]; exact Or.inl z
      · refine Or.inr ⟨e', g1, by rw [fa_un q]; exact g2, g3, ?_⟩
        rw [fa_un q]
        have same : ∀ p : Nat, ∀ y : Int32, y ≠ 0 → tr p = y → upd tr n x p = y := by
          intro p y hy hp
          by_cases w : p = n
          · rw [w, fa_us]
            rw [w] at hp
            rcases htr with u | u
            · rw [← u, hp]
            · exact absurd (hp.symm.trans u) hy
          · rw [fa_un w]; exact hp
        rcases g4 with ⟨b1, b2, b3⟩ | ⟨b1, b2, b3⟩
        · exact Or.inl ⟨b1, b2, same _ 1 (by decide) b3⟩
        · exact Or.inr ⟨b1, b2, same _ 2 (by decide) b3⟩
  · obtain ⟨r', k', g⟩ := T7 y hy
    by_cases w : r' = n
    · rw [w] at g
      obtain ⟨j', hj'⟩ := fz_to hne hcb hnew g
      exact ⟨r, j', hj'⟩
    · exact ⟨r', k', fz_keep hne hcb w g⟩
/-- a node without parent and children leaves its tree -/
theorem fz_Tfr {n : Nat} (hm : m ≤ 28) (T : fz_T m s t hd L tr cb) (hn : n < 16) (hs : n ≠ s) (ht : n ≠ t) (hcb : cb n = -1) (hch : ∀ y, y < 16 → cb y ≠ -1 → fz_par hd tr cb y ≠ n) : fz_T m s t hd L (upd tr n 0) cb := by
  have hT := T
  obtain ⟨T1, T2, T3, T4, T5, T6, T7⟩ := T
  have hne : ∀ y, y ≠ n → cb y = cb y ∧ upd tr n 0 y = tr y := fun y hy => ⟨rfl, fa_un hy⟩
  refine ⟨fun y hy => ?_, by rw [fa_un (fun z => hs z.symm)]; exact T2, by rw [fa_un (fun z => ht z.symm)]; exact T3, T4, T5, fun y hy => ?_, fun y hy => ?_⟩
  · by_cases q : y = n
    · rw [q, fa_us]; exact Or.inl rfl
    · rw [fa_un q]; exact T1 y hy
  · rcases T6 y hy with z | ⟨e', g⟩
    · exact Or.inl z
    · have k := fz_pare hm g
      have hp := hch y hy k.2.1
      have q : y ≠ n := fun w => k.2.1 (by rw [w]; exact hcb)
      obtain ⟨g1, g2, g3, g4⟩ := g
      refine Or.inr ⟨e', g1, g2, g3, ?_⟩
      rw [fa_un q]
      rcases g4 with ⟨b1, b2, b3⟩ | ⟨b1, b2, b3⟩
      · rcases k.2.2.1 with u | u
        · rw [u.2.2] at hp
          exact Or.inl ⟨b1, b2, by rw [fa_un hp]; exact b3⟩
        · rw [b1] at u
          exact absurd u.1 (by decide)
      · rcases k.2.2.1 with u | u
        · rw [b1] at u
          exact absurd u.1 (by decide)
        · rw [u.2.2] at hp
          exact Or.inr ⟨b1, b2, by rw [fa_un hp]; exact b3⟩
  · obtain ⟨r', k', g⟩ := T7 y hy
    by_cases w : r' = n
    · rw [w] at g
      obtain ⟨j', hj'⟩ := fz_to (r0 := n) (j := 0) hne hcb ⟨rfl, hcb⟩ g
      exact ⟨n, j', hj'⟩
    · exact ⟨r', k', fz_keep hne hcb w g⟩
/-- the rest of a branch, when a node below it has become an orphan and its edge is used -/
theorem fz_Cn {n e r K : Nat} {amt : Int} {cb' : Nat → Int32} (hm : m ≤ 28) (H : fc_HD m hd) (T : fz_T m s t hd L tr cb) (hn : fz_Rt hd tr cb r K n) (he : fz_pe m hd L tr cb n e) (h0 : 0 ≤ amt) (hcb : ∀ y, y ≠ n → cb' y = cb y) :
    ∀ {k x : Nat}, k < K → x < 16 → fz_C hd tr cb L amt r k x → fz_C hd tr cb' (fc_mv L e amt) amt r k x := by
  intro k
  induction k with
  | zero =>
    intro x hk hx h
    have q : x ≠ n := by
      intro z
      have := (fz_Rtu (x := x) (fz_CRt h) (by rw [z]; exact hn)).1
      omega
    exact ⟨h.1, by rw [hcb x q]; exact h.2⟩
  | succ k ih =>
    intro x hk hx h
    have q : x ≠ n := by
      intro z
      have := (fz_Rtu (x := x) (fz_CRt h) (by rw [z]; exact hn)).1
      omega
    obtain ⟨e', g⟩ := fz_pe_of T hx h.1
    have kp := fz_pare hm g
    refine ⟨by rw [hcb x q]; exact h.1, ?_, ?_⟩
    · rw [hcb x q]
      have h2 := h.2.1
      rw [kp.1] at h2 ⊢
      have q1 : e' ≠ e := by
        intro y
        subst y
        exact q (fz_uniq he g)
      by_cases q2 : e' = fc_xr e
      · subst q2
        rw [fc_mv_x]; omega
      · rw [fc_mv_n q1 q2]; exact h2
    · rw [fz_parc (tr := tr) (cb := cb) (hcb x q) rfl]
      exact ih (by omega) (fz_par16 H hm g) h.2.2
/-- a branch of the other tree isn't touched -/
theorem fz_Co {amt : Int} {r : Nat} {x0 : Int32} {cb' : Nat → Int32} {L' : Nat → Int} (hm : m ≤ 28) (H : fc_HD m hd) (T : fz_T m s t hd L tr cb) (hcb : ∀ y, y < 16 → tr y = x0 → cb' y = cb y ∧ (cb y ≠ -1 → L (cb y).toNatClampNeg ≤ L' (cb y).toNatClampNeg)) :
    ∀ {k x : Nat}, x < 16 → tr x = x0 → fz_C hd tr cb L amt r k x → fz_C hd tr cb' L' amt r k x := by
  intro k
  induction k with
  | zero =>
    intro x hx ht h
    exact ⟨h.1, by rw [(hcb x hx ht).1]; exact h.2⟩
  | succ k ih =>
    intro x hx ht h
    obtain ⟨e', g⟩ := fz_pe_of T hx h.1
    have kp := fz_pare hm g
    have c1 := hcb x hx ht
    refine ⟨by rw [c1.1]; exact h.1, ?_, ?_⟩
    · rw [c1.1]
      have := c1.2 h.1
      have := h.2.1
      omega
    · rw [fz_parc (tr := tr) (cb := cb) c1.1 rfl]
      exact ih (fz_par16 H hm g) (kp.2.2.2.trans ht) h.2.2
/-- how many nodes are in trees -/
def fz_tc (tr : Nat → Int32) : Int := fb_sm (fun k => if tr k = 0 then 0 else 1) 16
theorem fz_tcb (tr : Nat → Int32) : 0 ≤ fz_tc tr ∧ fz_tc tr ≤ 16 := by
  constructor
  · exact fb_nn (fun i hi => by split <;> omega)
  · have h : fz_tc tr ≤ fb_sm (fun _ => 1) 16 := fb_le (fun i hi => by split <;> omega)
    rw [fb_const] at h
    exact h
theorem fz_tcu {n : Nat} (hn : n < 16) (v : Int32) : fz_tc (upd tr n v) = fz_tc tr + ((if v = 0 then 0 else 1) - (if tr n = 0 then 0 else 1)) := by
  have h : fz_tc (upd tr n v) = fb_sm (fa_up (fun k => if tr k = 0 then 0 else 1) n (if v = 0 then 0 else 1)) 16 := by
    refine fb_congr (fun i hi => ?_)
    by_cases q : i = n
    · subst q; rw [fa_us, fa_ps]
    · rw [fa_un q, fa_pn q]
  rw [h, fb_up _ hn]; rfl
/-- one more orphan -/
theorem fz_Oad {foc : Int32} {aor : Nat → Int32} {O : List Nat} {z n : Nat} (h : fz_O s t tr cb foc aor O z) (hn : n < 16) (hs : n ≠ s) (ht : n ≠ t) (h1 : cb n ≠ -1) (h2 : tr n ≠ 0) :
    foc = nI O.length ∧ O.length < 64 ∧ fz_O s t tr (upd cb n (-1)) (nI (O.length + 1)) (upd aor O.length (nI n)) (O ++ [n]) z := by
  obtain ⟨a1, a2, a3, a4, a5, a6⟩ := h
  have hno : n ∉ O := fun y => h1 ((a6 n hn).mpr (Or.inl y)).1
  have hnz : n ≠ z := fun y => h1 ((a6 n hn).mpr (Or.inr y)).1
  have hl := fr_len 16 O a1 a2
  refine ⟨a3, by omega, ?_, ?_, ?_, ?_, ?_, ?_⟩
  · rw [List.nodup_append]
    refine ⟨a1, by simp, fun a ha b hb => ?_⟩
    rw [List.mem_singleton] at hb
    subst hb
    exact fun e => hno (e ▸ ha)
  · intro x hx
    rcases List.mem_append.mp hx with w | w
    · exact a2 x w
    · rw [List.mem_singleton] at w; omega
  · rw [List.length_append]; rfl
  · intro i hi
    rw [List.length_append] at hi
    have hi' : i < O.length + 1 := hi
    by_cases e : i = O.length
    · subst e
      rw [fa_us]
      simp [List.getD]
    · rw [fa_un e, a4 i (by omega)]
      simp [List.getD, List.getElem?_append_left (show i < O.length by omega)]
  · intro y
    rcases List.mem_append.mp y with w | w
    · exact a5 w
    · rw [List.mem_singleton] at w; exact hnz w.symm
  · intro x hx
    by_cases q : x = n
    · subst q
      rw [fa_us]
      exact ⟨fun _ => Or.inl (by simp), fun _ => ⟨rfl, h2, hs, ht⟩⟩
    · rw [fa_un q, a6 x hx]
      constructor
      · rintro (w | w)
        · exact Or.inl (by simp [w])
        · exact Or.inr w
      · rintro (w | w)
        · rcases List.mem_append.mp w with u | u
          · exact Or.inl u
          · rw [List.mem_singleton] at u; exact absurd u q
        · exact Or.inr w
end TREEP
end
section
/-! 18: engine 6: walks of parentOf, isRooted, grow, fillBranch, fillBridge -/
theorem fz_updid {f : Nat → Int32} {n : Nat} : upd f n (f n) = f := by
  funext j
  by_cases q : j = n
  · rw [q, fa_us]
  · rw [fa_un q]
theorem fz_ifc (q n : Nat) (a : Int) : (if q = n then a else 0) = (if n = q then a else 0) := by
  by_cases h : q = n
  · rw [if_pos h, if_pos h.symm]
  · rw [if_neg h, if_neg (fun z => h z.symm)]
theorem fz_neg {x : Int32} {e : Nat} (h : x = nI e) (he : e < 1000000) : ¬ x < 0 := by rw [h]; exact fa_lt0 he
section TREEW
variable {fpr ffl fqf fqs foc : Int32} {afo ato aro aet ale afe anx alv acu acb aex ahs aqu aqd apa ago ane atr aor : Nat → Int32}
variable {m s t : Nat} {hd : Nat → Nat} {adj : Nat → List Nat} {c : Nat → Int}
theorem fz_parW {post : Int32 → Prop} {n e : Nat} {L : Nat → Int} (N : fd_Nt m hd adj aet afe anx) (hn : n < 16) (h : fz_pe m hd L atr acb n e) (K : post (nI (fz_par hd atr acb n))) : wpX_parentOf post (fpr, nI s, nI t, nI (2 * m), ffl, fqf, fqs, foc, afo, ato, aro, aet, ale, afe, anx, alv, acu, acb, aex, ahs, aqu, aqd, apa, ago, ane, atr, aor) (nI n) := by
  have N1 := N.1
  have he := h.1
  have cn : (nI n).toNatClampNeg = n := fa_cl (by omega)
  have ce : (nI e).toNatClampNeg = e := fa_cl (by omega)
  have wn : vp_in (nI n) 16 := fa_in hn (by omega)
  have we : vp_in (nI e) 56 := fa_in (by omega) (by omega)
  have ex : (nI e ^^^ 1) = nI (fc_xr e) := fa_xor e (by omega)
  have hx := fc_x56 (n := e) (by omega)
  have cx : (nI (fc_xr e)).toNatClampNeg = fc_xr e := fa_cl (by omega)
  have wx : vp_in (nI (fc_xr e)) 56 := fa_in hx (by omega)
  have kp := fz_pare N1 h
  unfold fz_par at K
  rw [kp.1] at K
  unfold wpX_parentOf
  dsimp only
  rw [cn, h.2.1, ex, cx, ce, N.2.1 _ (fc_xlt he), N.2.1 _ he]
  refine ⟨wn, br_c (fun z => ⟨wn, wx, ?_⟩) (fun z => ⟨wn, we, ?_⟩)⟩
  · rw [if_pos z] at K; exact K
  · rw [if_neg z] at K; exact K
theorem fz_rt2 {post : Int32 → Prop} {r : Nat} {L : Nat → Int} (N : fd_Nt m hd adj aet afe anx) (hs : s < 16) (ht : t < 16) (T : fz_T m s t hd L atr acb) (K1 : r = s ∨ r = t → post 1) (K0 : ¬ (r = s ∨ r = t) → post 0) :
    ∀ k x, x < 16 → fz_Rt hd atr acb r k x → wX_isRooted_2 post fpr (nI s) (nI t) (nI (2 * m)) ffl fqf fqs foc afo ato aro aet ale afe anx alv acu acb aex ahs aqu aqd apa ago ane atr aor (k + 1) (nI x) := by
  intro k
  induction k with
  | zero =>
    intro x hx h
    obtain ⟨rfl, h2⟩ := h
    have cx : (nI x).toNatClampNeg = x := fa_cl (by omega)
    have fin : wX_isRooted_36 post (nI x) fpr (nI s) (nI t) (nI (2 * m)) ffl fqf fqs foc afo ato aro aet ale afe anx alv acu acb aex ahs aqu aqd apa ago ane atr aor :=
      br_c (fun z => K1 (Or.inl (fa_inj z (by omega) (by omega)))) (fun z => br_c (fun z1 => K1 (Or.inr (fa_inj z1 (by omega) (by omega)))) (fun z1 => K0 (fun y => by
        rcases y with y | y
        · exact z (by rw [y])
        · exact z1 (by rw [y]))))
    rw [wX_isRooted_2]
    exact br_c (fun _ => fin) (fun _ => br_c (fun _ => fin) (fun _ => ⟨fa_in hx (by omega), br_t (by rw [cx, h2]; decide) fin⟩))
  | succ k ih =>
    intro x hx h
    have cx : (nI x).toNatClampNeg = x := fa_cl (by omega)
    obtain ⟨e, he⟩ := fz_pe_of T hx h.1
    have N1 := N.1
    have he1 := he.1
    rw [wX_isRooted_2]
    refine br_f (fun z => h.1 ?_) (br_f (fun z => h.1 ?_) ⟨fa_in hx (by omega), br_f ?_ (fz_parW N hx he (ih _ (fz_par16 N.2.2.1 N1 he) h.2))⟩)
    · rw [fa_inj z (by omega) (by omega)]; exact T.2.2.2.1
    · rw [fa_inj z (by omega) (by omega)]; exact T.2.2.2.2.1
    · rw [cx]; exact fz_neg he.2.1 (by omega)
theorem fz_root {post : Int32 → Prop} {r k x : Nat} {L : Nat → Int} (N : fd_Nt m hd adj aet afe anx) (hs : s < 16) (ht : t < 16) (T : fz_T m s t hd L atr acb) (hx : x < 16) (h : fz_Rt hd atr acb r k x) (K1 : r = s ∨ r = t → post 1) (K0 : ¬ (r = s ∨ r = t) → post 0) :
    wpX_isRooted post (fpr, nI s, nI t, nI (2 * m), ffl, fqf, fqs, foc, afo, ato, aro, aet, ale, afe, anx, alv, acu, acb, aex, ahs, aqu, aqd, apa, ago, ane, atr, aor) (nI x) := ⟨k + 1, fz_rt2 N hs ht T K1 K0 k x hx h⟩
theorem fz_open {post : Int32 → Prop} {n e : Nat} (hn : n < 16) (e56 : e < 56) (h1 : (atr n = 1 → 0 < fa_tI ale e) → (atr n ≠ 1 → 0 < fa_tI ale (fc_xr e)) → post 1) (h0 : (atr n = 1 → fa_tI ale e ≤ 0) → (atr n ≠ 1 → fa_tI ale (fc_xr e) ≤ 0) → post 0) :
    wpX_isOpen post (fpr, nI s, nI t, nI (2 * m), ffl, fqf, fqs, foc, afo, ato, aro, aet, ale, afe, anx, alv, acu, acb, aex, ahs, aqu, aqd, apa, ago, ane, atr, aor) (nI n) (nI e) := by
  have cn : (nI n).toNatClampNeg = n := fa_cl (by omega)
  have ce : (nI e).toNatClampNeg = e := fa_cl (by omega)
  have ex : (nI e ^^^ 1) = nI (fc_xr e) := fa_xor e e56
  have hx := fc_x56 e56
  have cx : (nI (fc_xr e)).toNatClampNeg = fc_xr e := fa_cl (by omega)
  unfold wpX_isOpen
  dsimp only
  rw [cn, ex, cx, ce]
  refine ⟨fa_in hn (by omega), br_c (fun z => ⟨fa_in e56 (by omega), br_c (fun y => h0 (fun _ => ?_) (fun w => absurd z w)) (fun y => h1 (fun _ => ?_) (fun w => absurd z w))⟩) (fun z => ⟨fa_in hx (by omega), br_c (fun y => h0 (fun w => absurd w z) (fun _ => ?_)) (fun y => h1 (fun w => absurd w z) (fun _ => ?_))⟩)⟩
  · rw [fa_le, fa_0] at y; exact y
  · rw [fa_le, fa_0] at y; simp only [fa_tI]; omega
  · rw [fa_le, fa_0] at y; exact y
  · rw [fa_le, fa_0] at y; simp only [fa_tI]; omega
def fz_mu (tr qd : Nat → Int32) : Int := fq_n qd + (16 - fz_tc tr)
/-- what grow keeps; r: the edges still to be looked at -/
def fz_Gr (m s t : Nat) (hd : Nat → Nat) (adj : Nat → List Nat) (L : Nat → Int) (foc : Int32) (aor : Nat → Int32) (n : Nat) (r : List Nat) (M : Int) (tr cb qd : Nat → Int32) : Prop :=
  fz_T m s t hd L tr cb ∧ fz_A m hd L tr qd ∧ fz_O s t tr cb foc aor [] 16 ∧ fz_mu tr qd ≤ M ∧ (tr n = 1 ∨ tr n = 2) ∧
  (∀ e, e ∈ adj n → e ∉ r → (tr n = 1 → 0 < L e → tr (hd e) = 1) ∧ (tr n = 2 → 0 < L (fc_xr e) → tr (hd e) = 2))
theorem fz_Grk {L : Nat → Int} {foc : Int32} {aor tr cb qd : Nat → Int32} {n e : Nat} {r : List Nat} {M : Int} (G : fz_Gr m s t hd adj L foc aor n (e :: r) M tr cb qd) (h : (tr n = 1 → 0 < L e → tr (hd e) = 1) ∧ (tr n = 2 → 0 < L (fc_xr e) → tr (hd e) = 2)) :
    fz_Gr m s t hd adj L foc aor n r M tr cb qd := by
  obtain ⟨G1, G2, G3, G4, G5, G6⟩ := G
  refine ⟨G1, G2, G3, G4, G5, fun e' he' hn => ?_⟩
  by_cases q : e' = e
  · rw [q]; exact h
  · exact G6 e' he' (by simp [q, hn])
theorem fz_Gra {L : Nat → Int} {foc : Int32} {aor tr cb qd qd' : Nat → Int32} {n e : Nat} {r : List Nat} {M : Int} (hm : m ≤ 28) (H : fc_HD m hd) (G : fz_Gr m s t hd adj L foc aor n (e :: r) M tr cb qd) (hn : n < 16) (he : e < 2 * m) (hen : hd (fc_xr e) = n) (hv : tr (hd e) = 0)
    (ho1 : tr n = 1 → 0 < L e) (ho2 : tr n ≠ 1 → 0 < L (fc_xr e)) (hq : ∀ k, k < 16 → qd' k = if k = hd e then 1 else qd k) (hqn : fq_n qd' ≤ fq_n qd + 1) :
    fz_Gr m s t hd adj L foc aor n r M (upd tr (hd e) (tr n)) (upd cb (hd e) (nI (if tr n = 1 then e else fc_xr e))) qd' := by
  obtain ⟨G1, G2, G3, G4, G5, G6⟩ := G
  have v16 := (H e he).1
  have hne := (H e he).2
  rw [hen] at hne
  have tn0 : tr n ≠ 0 := by
    rcases G5 with z | z <;> rw [z] <;> decide
  have vs : hd e ≠ s := fun z => by rw [z, G1.2.1] at hv; exact absurd hv (by decide)
  have vt : hd e ≠ t := fun z => by rw [z, G1.2.2.1] at hv; exact absurd hv (by decide)
  have cv : cb (hd e) = -1 := by
    rcases G1.2.2.2.2.2.1 _ v16 with z | ⟨e', z⟩
    · exact z
    · rcases z.2.2.2 with y | y
      · rw [hv] at y; exact absurd y.1 (by decide)
      · rw [hv] at y; exact absurd y.1 (by decide)
  obtain ⟨rr, k, hR⟩ := G1.2.2.2.2.2.2 n hn
  have hrr := fz_Rt16 H hm G1 hn hR
  have hrv : rr ≠ hd e := fun z => tn0 (by rw [← hrr.2, z, hv])
  have tnn : upd tr (hd e) (tr n) n = tr n := fa_un hne
  have al : (if tr n = 1 then e else fc_xr e) < 2 * m := by
    split
    · exact he
    · exact fc_xlt he
  refine ⟨fz_Tat (v := n) hm G1 v16 vs vt cv hne hR hrv al ?_ (Or.inr hv) ?_, fun e' he' h => ?_, ?_, ?_, by rw [tnn]; exact G5, fun e' he' hr => ?_⟩
  · split
    · next z => exact ho1 z
    · next z => exact ho2 z
  · rcases G5 with z | z
    · rw [if_pos z]
      exact Or.inl ⟨z, rfl, hen, z⟩
    · have z1 : ¬ tr n = 1 := by rw [z]; decide
      rw [if_neg z1, fc_xx]
      exact Or.inr ⟨z, rfl, hen, z⟩
  · have u16 := (H _ (fc_xlt he')).1
    rw [hq _ u16] at h
    by_cases q : hd (fc_xr e') = hd e
    · rw [if_pos q] at h; exact absurd h (by decide)
    · rw [if_neg q] at h
      rw [fa_un q]
      have a := G2 e' he' h
      by_cases w : hd e' = hd e
      · rw [w] at a ⊢
        rw [hv] at a
        exact ⟨fun x1 x2 => absurd (a.1 x1 x2) (by decide), fun x1 x2 => absurd (a.2 x1 x2) (by decide)⟩
      · rw [fa_un w]; exact a
  · obtain ⟨a1, a2, a3, a4, a5, a6⟩ := G3
    refine ⟨a1, a2, a3, a4, a5, fun x hx => ?_⟩
    by_cases q : x = hd e
    · rw [q, fa_us]
      constructor
      · intro y
        exact absurd y.1 (fz_nm1 (by omega))
      · rintro (y | y)
        · exact absurd y (List.not_mem_nil)
        · omega
    · rw [fa_un q, fa_un q]; exact a6 x hx
  · unfold fz_mu at G4 ⊢
    rw [fz_tcu v16, if_neg tn0, if_pos hv]
    omega
  · rw [tnn]
    by_cases q : e' = e
    · rw [q, fa_us]
      exact ⟨fun y _ => y, fun y _ => y⟩
    · have a := G6 e' he' (by simp [q, hr])
      by_cases w : hd e' = hd e
      · rw [w, fa_us]
        exact ⟨fun y _ => y, fun y _ => y⟩
      · rw [fa_un w]; exact a
theorem fz_g7 {post : Int32 → SX → Prop} {n : Nat} {M : Int} {h0 : Nat} (N : fd_Nt m hd adj aet afe anx) (hn : n < 16)
    (K0 : ∀ fqs acb aqu aqd atr r', fq_L fqf fqs aqu aqd (h0 :: r') → fz_Gr m s t hd adj (fa_tI ale) foc aor n [] M atr acb aqd → post (-1) (fpr, nI s, nI t, nI (2 * m), ffl, fqf, fqs, foc, afo, ato, aro, aet, ale, afe, anx, alv, acu, acb, aex, ahs, aqu, aqd, apa, ago, ane, atr, aor))
    (K1 : ∀ fqs acb aqu aqd atr l e, fq_L fqf fqs aqu aqd l → fz_T m s t hd (fa_tI ale) atr acb → fz_A m hd (fa_tI ale) atr aqd → fz_O s t atr acb foc aor [] 16 → e < 2 * m → 0 < fa_tI ale e → atr (hd (fc_xr e)) = 1 → atr (hd e) = 2 → post (nI e) (fpr, nI s, nI t, nI (2 * m), ffl, fqf, fqs, foc, afo, ato, aro, aet, ale, afe, anx, alv, acu, acb, aex, ahs, aqu, aqd, apa, ago, ane, atr, aor)) :
    ∀ (r : List Nat) (f : Nat) (x2 fqs : Int32) (acb aqu aqd atr : Nat → Int32) (r' : List Nat), r.length < f → fd_Ch anx r x2 → (∀ e, e ∈ r → e ∈ adj n) → fq_L fqf fqs aqu aqd (h0 :: r') →
      fz_Gr m s t hd adj (fa_tI ale) foc aor n r M atr acb aqd → wX_grow_7 post (nI n) f x2 fpr (nI s) (nI t) (nI (2 * m)) ffl fqf fqs foc afo ato aro aet ale afe anx alv acu acb aex ahs aqu aqd apa ago ane atr aor := by
  intro r
  induction r with
  | nil =>
    intro f x2 fqs acb aqu aqd atr r' hf hc hr Q G
    obtain ⟨f, rfl⟩ : ∃ k, f = k + 1 := ⟨f - 1, by omega⟩
    rw [wX_grow_7]
    exact br_t (by rw [show x2 = -1 from hc]; decide) (K0 _ _ _ _ _ r' Q G)
  | cons e r ih =>
    intro f x2 fqs acb aqu aqd atr r' hf hc hr Q G
    obtain ⟨f, rfl⟩ : ∃ k, f = k + 1 := ⟨f - 1, by rw [List.length_cons] at hf; omega⟩
    rw [List.length_cons] at hf
    obtain ⟨rfl, e56, hc'⟩ := hc
    obtain ⟨he, hen⟩ := (N.2.2.2.2.1 n hn e).mp (hr e (List.mem_cons_self ..))
    have hr' : ∀ e', e' ∈ r → e' ∈ adj n := fun e' h => hr e' (List.mem_cons_of_mem _ h)
    have hv := (N.2.2.1 e he).1
    have hne := (N.2.2.1 e he).2
    rw [hen] at hne
    have ce : (nI e).toNatClampNeg = e := fa_cl (by omega)
    have cn : (nI n).toNatClampNeg = n := fa_cl (by omega)
    have cv : (nI (hd e)).toNatClampNeg = hd e := fa_cl (by omega)
    have w : vp_in (nI e) 56 := fa_in e56 (by omega)
    have wn : vp_in (nI n) 16 := fa_in hn (by omega)
    have wv : vp_in (nI (hd e)) 16 := fa_in hv (by omega)
    have ex : (nI e ^^^ 1) = nI (fc_xr e) := fa_xor e e56
    have hx := fc_x56 e56
    have G5 := G.2.2.2.2.1
    have bt : vp_nar .byte (atr n) = atr n := by
      rcases G5 with z | z
      · rw [z]; exact (fa_byte 1 (by omega)).1
      · rw [z]; exact (fa_byte 2 (by omega)).1
    have skip : ((atr n = 1 → 0 < fa_tI ale e → atr (hd e) = 1) ∧ (atr n = 2 → 0 < fa_tI ale (fc_xr e) → atr (hd e) = 2)) → wX_grow_7 post (nI n) f (anx e) fpr (nI s) (nI t) (nI (2 * m)) ffl fqf fqs foc afo ato aro aet ale afe anx alv acu acb aex ahs aqu aqd apa ago ane atr aor := fun h => ih f _ _ _ _ _ _ r' (by omega) hc' hr' Q (fz_Grk G h)
    rw [wX_grow_7]
    refine br_f (fa_lt0 (by omega)) ⟨w, nm_r (e' := nI (hd e)) (by rw [ce, N.2.1 e he]) (fz_open hn e56 (fun o1 o2 => ?_) (fun o1 o2 => ?_))⟩
    · refine br_f (by decide) ⟨wv, br_c (fun z => ⟨wn, wv, nm_r (e' := upd atr (hd e) (atr n)) (by rw [cv, cn, bt]) ⟨wn, ?_⟩⟩) (fun z => ⟨wv, wn, br_c (fun z1 => ⟨w, nm_r (e' := anx e) (by rw [ce]) (skip ?_)⟩) (fun z1 => ⟨wn, br_c (fun z2 => ?_) (fun z2 => ?_)⟩)⟩)⟩
      · rw [cv] at z
        have tnn : upd atr (hd e) (atr n) (nI n).toNatClampNeg = atr n := by rw [cn]; exact fa_un hne
        have join : ∀ z0 : Int32, z0 = nI (if atr n = 1 then e else fc_xr e) → wX_grow_70 post (wX_grow_7 post (nI n) f) (nI n) (nI e) (nI (hd e)) z0 (nI (hd e)) fpr (nI s) (nI t) (nI (2 * m)) ffl fqf fqs foc afo ato aro aet ale afe anx alv acu acb aex ahs aqu aqd apa ago ane (upd atr (hd e) (atr n)) aor := by
          intro z0 hz
          have al : (if atr n = 1 then e else fc_xr e) < 56 := by split <;> omega
          refine ⟨wv, nm_r (e' := upd acb (hd e) (nI (if atr n = 1 then e else fc_xr e))) (by rw [cv, hz, (fa_byte _ (by omega)).2]) (fq_enq Q hv (fun fqs' aqu' aqd' l' Q' q1 q2 q3 => ?_))⟩
          obtain ⟨r2, rfl⟩ := q2 h0 r' rfl
          refine ⟨w, nm_r (e' := anx e) (by rw [ce]) (ih f _ _ _ _ _ _ r2 (by omega) hc' hr' Q' (fz_Gra N.1 N.2.2.1 G hn he hen z o1 o2 q1 ?_))⟩
          rw [q3]
          split <;> omega
        rw [tnn]
        refine br_c (fun z2 => join _ (by rw [if_pos z2])) (fun z2 => join _ (by rw [if_neg z2]; exact ex))
      · rw [cv, cn] at z1
        exact ⟨fun y _ => by rw [z1]; exact y, fun y _ => by rw [z1]; exact y⟩
      · rw [cv] at z
        rw [cv, cn] at z1
        rw [cn] at z2
        refine K1 _ _ _ _ _ _ e Q G.1 G.2.1 G.2.2.1 he (o1 z2) (by rw [hen]; exact z2) ?_
        rcases G.1.1 _ hv with y | y | y
        · exact absurd y z
        · rw [y, z2] at z1; exact absurd rfl z1
        · exact y
      · rw [cv] at z
        rw [cv, cn] at z1
        rw [cn] at z2
        have t2 : atr n = 2 := by
          rcases G5 with y | y
          · exact absurd y z2
          · exact y
        rw [ex]
        refine K1 _ _ _ _ _ _ (fc_xr e) Q G.1 G.2.1 G.2.2.1 (fc_xlt he) (o2 z2) ?_ (by rw [hen]; exact t2)
        rw [fc_xx]
        rcases G.1.1 _ hv with y | y | y
        · exact absurd y z
        · exact y
        · rw [y, t2] at z1; exact absurd rfl z1
    · refine br_t rfl ⟨w, nm_r (e' := anx e) (by rw [ce]) (skip ⟨fun y1 y2 => ?_, fun y1 y2 => ?_⟩)⟩
      · have := o1 y1; omega
      · have := o2 (by rw [y1]; decide)
        omega
/-- while a branch is filled -/
def fz_B (m s t : Nat) (hd : Nat → Nat) (c : Nat → Int) (tr qd : Nat → Int32) (x0 : Int32) (X : Nat → Int) (sg amt : Int) (cb0 : Nat → Int32) (L0 : Nat → Int) (n : Nat) (L : Nat → Int) (cb : Nat → Int32) (foc : Int32) (aor : Nat → Int32) (O : List Nat) : Prop :=
  fc_RV m c L ∧ (∀ q, q < 16 → fc_ex m hd c L q = X q + sg * (if q = n then amt else 0)) ∧ fz_T m s t hd L tr cb ∧ fz_A m hd L tr qd ∧ fz_O s t tr cb foc aor O 16 ∧
  (∀ y, y < 16 → tr y ≠ x0 → cb y = cb0 y ∧ (cb y ≠ -1 → L0 (cb y).toNatClampNeg ≤ L (cb y).toNatClampNeg))
theorem fz_fb3 {post : SX → Prop} {ro : Nat} {x3 x0 : Int32} {X : Nat → Int} {sg amt : Int} {cb0 : Nat → Int32} {L0 : Nat → Int} (N : fd_Nt m hd adj aet afe anx) (C : fc_CP m c) (hs : s < 16) (ht : t < 16) (ha : x3.toInt = amt) (a0 : 0 ≤ amt) (a9 : amt ≤ 99)
    (hx : (x0 = 1 ∧ sg = -1) ∨ (x0 = 2 ∧ sg = 1)) (hro : ro = s ∨ ro = t)
    (K : ∀ foc ale acb aor O, fz_B m s t hd c atr aqd x0 X sg amt cb0 L0 ro (fa_tI ale) acb foc aor O → post (fpr, nI s, nI t, nI (2 * m), ffl, fqf, fqs, foc, afo, ato, aro, aet, ale, afe, anx, alv, acu, acb, aex, ahs, aqu, aqd, apa, ago, ane, atr, aor)) :
    ∀ (k n : Nat) (foc : Int32) (ale acb aor : Nat → Int32) (O : List Nat), n < 16 → atr n = x0 → fz_C hd atr acb (fa_tI ale) amt ro k n → fz_B m s t hd c atr aqd x0 X sg amt cb0 L0 n (fa_tI ale) acb foc aor O →
      wX_fillBranch_3 post (nI ro) x3 (k + 1) (nI n) fpr (nI s) (nI t) (nI (2 * m)) ffl fqf fqs foc afo ato aro aet ale afe anx alv acu acb aex ahs aqu aqd apa ago ane atr aor := by
  have ro16 : ro < 16 := by rcases hro with z | z <;> rw [z] <;> assumption
  intro k
  induction k with
  | zero =>
    intro n foc ale acb aor O hn htn hC B
    rw [wX_fillBranch_3]
    obtain ⟨rfl, _⟩ := hC
    exact br_t rfl (K _ _ _ _ _ B)
  | succ k ih =>
    intro n foc ale acb aor O hn htn hC B
    have N1 := N.1
    have H := N.2.2.1
    have hRn : fz_Rt hd atr acb ro (k + 1) n := fz_CRt hC
    obtain ⟨B1, B2, B3, B4, B5, B6⟩ := B
    obtain ⟨e, he⟩ := fz_pe_of B3 hn hC.1
    have he1 := he.1
    have kp := fz_pare N1 he
    have cn : (nI n).toNatClampNeg = n := fa_cl (by omega)
    have ce : (nI e).toNatClampNeg = e := fa_cl (by omega)
    have wn : vp_in (nI n) 16 := fa_in hn (by omega)
    have we : vp_in (nI e) 56 := fa_in (by omega) (by omega)
    have cro : acb ro = -1 := by rcases hro with z | z <;> rw [z]; exact B3.2.2.2.1; exact B3.2.2.2.2.1
    have hns : n ≠ s := fun z => hC.1 (by rw [z]; exact B3.2.2.2.1)
    have hnt : n ≠ t := fun z => hC.1 (by rw [z]; exact B3.2.2.2.2.1)
    have hnr : n ≠ ro := fun z => hC.1 (by rw [z]; exact cro)
    have aL : amt ≤ fa_tI ale e := by
      have := hC.2.1
      rw [kp.1] at this
      exact this
    have l1 := fc_L99 C B1 he1
    have l2 := fc_L99 C B1 (fc_xlt he1)
    have p16 := fz_par16 H N1 he
    have x00 : atr n ≠ 0 := by
      rw [htn]
      rcases hx with z | z <;> rw [z.1] <;> decide
    have RV1 := fc_RV_mv B1 he1 a0 aL
    have ex1 : ∀ q, q < 16 → fc_ex m hd c (fc_mv (fa_tI ale) e amt) q = X q + sg * (if q = fz_par hd atr acb n then amt else 0) := by
      intro q hq
      rw [fc_ex_mv he1, B2 q hq]
      have ne := (H e he1).2
      rcases kp.2.2.1 with ⟨g1, g2, g3⟩ | ⟨g1, g2, g3⟩
      · have sg1 : sg = -1 := by
          rcases hx with z | z
          · exact z.2
          · rw [htn, z.1] at g1; exact absurd g1 (by decide)
        rw [g3, sg1, g2, fz_ifc q n, fz_ifc q (hd (fc_xr e))]
        omega
      · have sg1 : sg = 1 := by
          rcases hx with z | z
          · rw [htn, z.1] at g1; exact absurd g1 (by decide)
          · exact z.2
        rw [g3, sg1, g2, fz_ifc q n, fz_ifc q (hd e)]
        omega
    have A1 : fz_A m hd (fc_mv (fa_tI ale) e amt) atr aqd := by
      have pt := kp.2.2.2
      refine fz_Amv B4 he1 a0 ?_ ?_
      · rcases kp.2.2.1 with ⟨g1, g2, g3⟩ | ⟨g1, g2, g3⟩
        · rw [g2, ← g3, pt]; exact fun z => z
        · rw [g2, ← g3, pt]; exact fun z => z
      · rcases kp.2.2.1 with ⟨g1, g2, g3⟩ | ⟨g1, g2, g3⟩
        · rw [g2, ← g3, pt]; exact fun z => z
        · rw [g2, ← g3, pt]; exact fun z => z
    have oth : ∀ (cb' : Nat → Int32), (∀ y, y ≠ n → cb' y = acb y) → ∀ y, y < 16 → atr y ≠ x0 → cb' y = cb0 y ∧ (cb' y ≠ -1 → L0 (cb' y).toNatClampNeg ≤ fc_mv (fa_tI ale) e amt (cb' y).toNatClampNeg) := by
      intro cb' hcb y hy hty
      have yn : y ≠ n := fun z => hty (by rw [z]; exact htn)
      rw [hcb y yn]
      have b6 := B6 y hy hty
      refine ⟨b6.1, fun hne => ?_⟩
      obtain ⟨e', g⟩ := fz_pe_of B3 hy hne
      have q1 : e' ≠ e := by
        intro w
        subst w
        exact yn (fz_uniq he g)
      have b62 := b6.2 hne
      rw [(fz_pare N1 g).1] at b62 ⊢
      by_cases q2 : e' = fc_xr e
      · subst q2
        rw [fc_mv_x]; omega
      · rw [fc_mv_n q1 q2]; exact b62
    rw [wX_fillBranch_3]
    refine br_f (fun z => hnr (fa_inj z (by omega) (by omega))) (fz_parW N hn he ⟨wn, fw_move (by rw [cn]; exact he.2.1) (by omega) (by omega) (by omega) (by omega) (by omega) (fun ale' e1 => ⟨wn, ?_, br_c (fun z => ?_) (fun z => ?_)⟩)⟩)
    · rw [cn, he.2.1]; exact we
    · rw [cn, he.2.1, ce, fa_eq, fa_0] at z
      rw [ha] at e1
      obtain ⟨o1, o2, o3⟩ := fz_Oad B5 hn hns hnt hC.1 x00
      have co : foc.toNatClampNeg = O.length := by rw [o1]; exact fa_cl (by omega)
      refine ⟨wn, nm_r (e' := upd acb n (-1)) (by rw [cn, fa_bm1]) ⟨by rw [o1]; exact fa_in o2 (by omega), nm_r (e' := upd aor O.length (nI n)) (by rw [co, (fa_byte n (by omega)).2]) (nm_r (e' := nI (O.length + 1)) (by rw [o1, nI_1]) (ih _ _ _ _ _ (O ++ [n]) p16 (kp.2.2.2.trans htn) ?_ ⟨?_, ?_, ?_, ?_, o3, ?_⟩))⟩⟩
      · rw [e1]; exact fz_Cn N1 H B3 hRn he a0 (fun y hy => fa_un hy) (by omega) p16 hC.2.2
      · rw [e1]; exact RV1
      · rw [e1]; exact ex1
      · rw [e1]; exact fz_Tor B3 hn hns hnt he a0 N1
      · rw [e1]; exact A1
      · rw [e1]; exact oth _ (fun y hy => fa_un hy)
    · rw [cn, he.2.1, ce, fa_eq, fa_0] at z
      rw [ha] at e1
      have ne0 : ¬ fa_tI ale' e = 0 := z
      rw [e1, fc_mv_e] at ne0
      refine ih _ _ _ _ _ O p16 (kp.2.2.2.trans htn) ?_ ⟨?_, ?_, ?_, ?_, B5, ?_⟩
      · rw [e1]; exact fz_Cn N1 H B3 hRn he a0 (fun y hy => rfl) (by omega) p16 hC.2.2
      · rw [e1]; exact RV1
      · rw [e1]; exact ex1
      · rw [e1]; exact fz_Tmv B3 hn he a0 (by omega)
      · rw [e1]; exact A1
      · rw [e1]; exact oth _ (fun y hy => rfl)
end TREEW
end
section
/-! 19: engine 6 -/
section TREEX
variable {m s t : Nat} {hd : Nat → Nat} {adj : Nat → List Nat} {L : Nat → Int} {tr cb : Nat → Int32}
theorem fz_Cm {a b : Int} {r : Nat} (h : b ≤ a) : ∀ {k x : Nat}, fz_C hd tr cb L a r k x → fz_C hd tr cb L b r k x := by
  intro k
  induction k with
  | zero => intro x g; exact g
  | succ k ih => intro x g; exact ⟨g.1, Int.le_trans h g.2.1, ih g.2.2⟩
theorem fz_Tcut {v : Nat} (T : fz_T m s t hd L tr cb) (hs : v ≠ s) (ht : v ≠ t) : fz_T m s t hd L tr (upd cb v (-1)) := by
  obtain ⟨T1, T2, T3, T4, T5, T6, T7⟩ := T
  refine ⟨T1, T2, T3, by rw [fa_un (fun z => hs z.symm)]; exact T4, by rw [fa_un (fun z => ht z.symm)]; exact T5, fun x hx => ?_, fun x hx => ?_⟩
  · by_cases q : x = v
    · rw [q, fa_us]; exact Or.inl rfl
    · unfold fz_pe
      rw [fa_un q]
      exact T6 x hx
  · obtain ⟨r, k, g⟩ := T7 x hx
    exact fz_cut g
/-- without orphans every chain ends at the source or the sink -/
theorem fz_root0 {n : Nat} {foc : Int32} {aor : Nat → Int32} (H : fc_HD m hd) (hm : m ≤ 28) (T : fz_T m s t hd L tr cb) (O : fz_O s t tr cb foc aor [] 16) (hn : n < 16) (h0 : tr n ≠ 0) : ∃ r k, fz_Rt hd tr cb r k n ∧ (r = s ∧ tr n = 1 ∨ r = t ∧ tr n = 2) := by
  obtain ⟨r, k, g⟩ := T.2.2.2.2.2.2 n hn
  have g2 := fz_Rt16 H hm T hn g
  have g3 := fz_Rtr g
  refine ⟨r, k, g, ?_⟩
  by_cases q1 : r = s
  · left
    refine ⟨q1, ?_⟩
    rw [← g2.2, q1]; exact T.2.1
  · by_cases q2 : r = t
    · right
      refine ⟨q2, ?_⟩
      rw [← g2.2, q2]; exact T.2.2.1
    · have := (O.2.2.2.2.2 r g2.1).mp ⟨g3, by rw [g2.2]; exact h0, q1, q2⟩
      rcases this with z | z
      · exact absurd z (List.not_mem_nil)
      · omega
def fz_al (tr : Nat → Int32) (n e : Nat) : Nat := if tr n = 1 then fc_xr e else e
def fz_SF (m s t : Nat) (hd : Nat → Nat) (adj : Nat → List Nat) (L : Nat → Int) (tr : Nat → Int32) (n : Nat) (r : List Nat) (cb qd : Nat → Int32) (foc : Int32) (aor : Nat → Int32) (O : List Nat) : Prop :=
  fz_T m s t hd L tr cb ∧ fz_A m hd L tr qd ∧ fz_O s t tr cb foc aor O n ∧ cb n = -1 ∧
  (∀ e, e ∈ adj n → e ∉ r → tr (hd e) = tr n → (cb (hd e) ≠ -1 → fz_par hd tr cb (hd e) ≠ n) ∧ (0 < L (fz_al tr n e) → qd (hd e) ≠ 0))
theorem fz_SFk {n e : Nat} {r : List Nat} {qd aor : Nat → Int32} {foc : Int32} {O : List Nat} (S : fz_SF m s t hd adj L tr n (e :: r) cb qd foc aor O)
    (h : tr (hd e) = tr n → (cb (hd e) ≠ -1 → fz_par hd tr cb (hd e) ≠ n) ∧ (0 < L (fz_al tr n e) → qd (hd e) ≠ 0)) : fz_SF m s t hd adj L tr n r cb qd foc aor O := by
  obtain ⟨S1, S2, S3, S4, S5⟩ := S
  refine ⟨S1, S2, S3, S4, fun e' he' hr => ?_⟩
  by_cases q : e' = e
  · rw [q]; exact h
  · exact S5 e' he' (by simp [q, hr])
theorem fz_SFq {n v : Nat} {r : List Nat} {qd qd' aor : Nat → Int32} {foc : Int32} {O : List Nat} (hadj : ∀ v, v < 16 → ∀ e, e ∈ adj v ↔ (e < 2 * m ∧ hd (fc_xr e) = v)) (H : fc_HD m hd) (hn : n < 16) (S : fz_SF m s t hd adj L tr n r cb qd foc aor O)
    (hq : ∀ k, k < 16 → qd' k = if k = v then 1 else qd k) : fz_SF m s t hd adj L tr n r cb qd' foc aor O := by
  obtain ⟨S1, S2, S3, S4, S5⟩ := S
  have up : ∀ k, k < 16 → qd' k = 0 → qd k = 0 := by
    intro k hk h
    rw [hq k hk] at h
    by_cases q : k = v
    · rw [if_pos q] at h; exact absurd h (by decide)
    · rw [if_neg q] at h; exact h
  refine ⟨S1, fun e he h => S2 e he (up _ (H _ (fc_xlt he)).1 h), S3, S4, fun e' he' hr ht => ?_⟩
  have k := S5 e' he' hr ht
  exact ⟨k.1, fun y z => k.2 y (up _ (H _ ((hadj n hn e').mp he').1).1 z)⟩
theorem fz_SFo {n v : Nat} {r : List Nat} {qd aor aor' : Nat → Int32} {foc foc' : Int32} {O : List Nat} (S : fz_SF m s t hd adj L tr n r cb qd foc aor O) (hs : v ≠ s) (ht : v ≠ t) (hvn : v ≠ n) (O' : fz_O s t tr (upd cb v (-1)) foc' aor' (O ++ [v]) n) :
    fz_SF m s t hd adj L tr n r (upd cb v (-1)) qd foc' aor' (O ++ [v]) := by
  obtain ⟨S1, S2, S3, S4, S5⟩ := S
  refine ⟨fz_Tcut S1 hs ht, S2, O', by rw [fa_un (fun z => hvn z.symm)]; exact S4, fun e' he' hr htr => ?_⟩
  have k := S5 e' he' hr htr
  refine ⟨fun y => ?_, k.2⟩
  by_cases q : hd e' = v
  · rw [q, fa_us] at y; exact absurd rfl y
  · rw [fz_parc (tr := tr) (cb := cb) (fa_un q) rfl]
    rw [fa_un q] at y
    exact k.1 y
/-- the node leaves its tree -/
theorem fz_SFe {n : Nat} {qd aor : Nat → Int32} {foc : Int32} {O : List Nat} (hm : m ≤ 28) (H : fc_HD m hd) (hadj : ∀ v, v < 16 → ∀ e, e ∈ adj v ↔ (e < 2 * m ∧ hd (fc_xr e) = v)) (hn : n < 16) (hs : n ≠ s) (ht : n ≠ t) (h12 : tr n = 1 ∨ tr n = 2)
    (S : fz_SF m s t hd adj L tr n [] cb qd foc aor O) : fz_T m s t hd L (upd tr n 0) cb ∧ fz_A m hd L (upd tr n 0) qd ∧ fz_O s t (upd tr n 0) cb foc aor O 16 := by
  obtain ⟨S1, S2, S3, S4, S5⟩ := S
  refine ⟨fz_Tfr hm S1 hn hs ht S4 (fun y hy hc hp => ?_), fun e he hq => ?_, ?_⟩
  · obtain ⟨e, g⟩ := fz_pe_of S1 hy hc
    have k := fz_pare hm g
    have ty : tr y = tr n := by rw [← k.2.2.2, hp]
    rcases k.2.2.1 with ⟨a1, a2, a3⟩ | ⟨a1, a2, a3⟩
    · have hin : e ∈ adj n := (hadj n hn e).mpr ⟨g.1, by rw [← a3]; exact hp⟩
      have := (S5 e hin (List.not_mem_nil) (by rw [a2]; exact ty)).1
      rw [a2] at this
      exact this hc hp
    · have hin : fc_xr e ∈ adj n := (hadj n hn _).mpr ⟨fc_xlt g.1, by rw [fc_xx, ← a3]; exact hp⟩
      have := (S5 _ hin (List.not_mem_nil) (by rw [a2]; exact ty)).1
      rw [a2] at this
      exact this hc hp
  · have a := S2 e he hq
    by_cases q : hd (fc_xr e) = n
    · rw [q, fa_us]
      exact ⟨fun y => absurd y (by decide), fun y => absurd y (by decide)⟩
    · rw [fa_un q]
      by_cases w : hd e = n
      · have hin : fc_xr e ∈ adj n := (hadj n hn _).mpr ⟨fc_xlt he, by rw [fc_xx]; exact w⟩
        constructor
        · intro y1 y2
          have y3 := a.1 y1 y2
          rw [w] at y3
          have := (S5 _ hin (List.not_mem_nil) (by rw [y1, y3])).2
          have al : fz_al tr n (fc_xr e) = e := by
            unfold fz_al
            rw [if_pos y3, fc_xx]
          rw [al] at this
          exact absurd hq (this y2)
        · intro y1 y2
          have y3 := a.2 y1 y2
          rw [w] at y3
          have := (S5 _ hin (List.not_mem_nil) (by rw [y1, y3])).2
          have al : fz_al tr n (fc_xr e) = fc_xr e := by
            unfold fz_al
            rw [if_neg (by rw [y3]; decide)]
          rw [al] at this
          exact absurd hq (this y2)
      · rw [fa_un w]; exact a
  · obtain ⟨a1, a2, a3, a4, a5, a6⟩ := S3
    refine ⟨a1, a2, a3, a4, fun y => by have := a2 _ y; omega, fun x hx => ?_⟩
    by_cases q : x = n
    · rw [q, fa_us]
      constructor
      · intro y; exact absurd rfl y.2.1
      · rintro (y | y)
        · exact absurd y a5
        · omega
    · rw [fa_un q, a6 x hx]
      constructor
      · rintro (y | y)
        · exact Or.inl y
        · exact absurd y q
      · rintro (y | y)
        · exact Or.inl y
        · omega
end TREEX
section TREE
variable {fpr ffl fqf fqs foc : Int32} {afo ato aro aet ale afe anx alv acu acb aex ahs aqu aqd apa ago ane atr aor : Nat → Int32}
variable {m s t : Nat} {hd : Nat → Nat} {adj : Nat → List Nat} {c : Nat → Int}
theorem fz_27 {post : SX → Prop} {x1 x3 x4 : Int32} {Q : Int → Prop} (N : fd_Nt m hd adj aet afe anx) (hs : s < 16) (T : fz_T m s t hd (fa_tI ale) atr acb)
    (K : ∀ x2 : Int32, 1 ≤ x2.toInt → Q x2.toInt → ∃ f, wX_fillBridge_84 post x1 x3 x4 fpr (nI s) (nI t) (nI (2 * m)) ffl fqf fqs foc afo ato aro aet ale afe anx alv acu acb aex ahs aqu aqd apa ago ane atr aor f x2 x4) :
    ∀ (k n : Nat) (x2 : Int32), n < 16 → fz_Rt hd atr acb s k n → 1 ≤ x2.toInt → (∀ a, 1 ≤ a → a ≤ x2.toInt → fz_C hd atr acb (fa_tI ale) a s k n → Q a) → wX_fillBridge_27 post x1 x3 x4 fpr (nI s) (nI t) (nI (2 * m)) ffl fqf fqs foc afo ato aro aet ale afe anx alv acu acb aex ahs aqu aqd apa ago ane atr aor (k + 1) x2 (nI n) := by
  intro k
  induction k with
  | zero =>
    intro n x2 hn hR h1 hQ
    rw [wX_fillBridge_27]
    exact br_t (by rw [hR.1]) (K x2 h1 (hQ _ h1 (Int.le_refl _) hR))
  | succ k ih =>
    intro n x2 hn hR h1 hQ
    have N1 := N.1
    obtain ⟨e, he⟩ := fz_pe_of T hn hR.1
    have he1 := he.1
    have kp := fz_pare N1 he
    have cn : (nI n).toNatClampNeg = n := fa_cl (by omega)
    have ce : (nI e).toNatClampNeg = e := fa_cl (by omega)
    have wn : vp_in (nI n) 16 := fa_in hn (by omega)
    have we : vp_in (acb (nI n).toNatClampNeg) 56 := by rw [cn, he.2.1]; exact fa_in (by omega) (by omega)
    have cc : (acb (nI n).toNatClampNeg).toNatClampNeg = e := by rw [cn, he.2.1, ce]
    have step : ∀ y : Int32, 1 ≤ y.toInt → y.toInt ≤ x2.toInt → y.toInt ≤ fa_tI ale e → wX_fillBridge_68 post (wX_fillBridge_27 post x1 x3 x4 fpr (nI s) (nI t) (nI (2 * m)) ffl fqf fqs foc afo ato aro aet ale afe anx alv acu acb aex ahs aqu aqd apa ago ane atr aor (k + 1)) x1 x3 x4 (nI n) y fpr (nI s) (nI t) (nI (2 * m)) ffl fqf fqs foc afo ato aro aet ale afe anx alv acu acb aex ahs aqu aqd apa ago ane atr aor := by
      intro y y1 y2 y3
      refine fz_parW N hn he (ih _ _ (fz_par16 N.2.2.1 N1 he) hR.2 y1 (fun a a1 a2 a3 => hQ a a1 (by omega) ⟨hR.1, ?_, a3⟩))
      rw [kp.1]; omega
    rw [wX_fillBridge_27]
    refine br_f (fun z => hR.1 ?_) ⟨wn, we, br_c (fun z => step x2 h1 (Int.le_refl _) ?_) (fun z => ⟨wn, we, step _ ?_ ?_ ?_⟩)⟩
    · rw [fa_inj z (by omega) (by omega)]; exact T.2.2.2.1
    · rw [cc, fa_le] at z; exact z
    · rw [cc]
      have := he.2.2.1
      simp only [fa_tI] at this
      omega
    · rw [cc, fa_le] at z; rw [cc]; omega
    · rw [cc]; exact Int.le_refl _
theorem fz_84 {post : SX → Prop} {x1 x3 x4 : Int32} {Q : Int → Prop} (N : fd_Nt m hd adj aet afe anx) (ht : t < 16) (T : fz_T m s t hd (fa_tI ale) atr acb)
    (K : ∀ x2 : Int32, 1 ≤ x2.toInt → Q x2.toInt → wX_fillBridge_84 post x1 x3 x4 fpr (nI s) (nI t) (nI (2 * m)) ffl fqf fqs foc afo ato aro aet ale afe anx alv acu acb aex ahs aqu aqd apa ago ane atr aor 1 x2 (nI t)) :
    ∀ (k n : Nat) (x2 : Int32), n < 16 → fz_Rt hd atr acb t k n → 1 ≤ x2.toInt → (∀ a, 1 ≤ a → a ≤ x2.toInt → fz_C hd atr acb (fa_tI ale) a t k n → Q a) → wX_fillBridge_84 post x1 x3 x4 fpr (nI s) (nI t) (nI (2 * m)) ffl fqf fqs foc afo ato aro aet ale afe anx alv acu acb aex ahs aqu aqd apa ago ane atr aor (k + 1) x2 (nI n) := by
  intro k
  induction k with
  | zero =>
    intro n x2 hn hR h1 hQ
    rw [hR.1]
    exact K x2 h1 (hQ _ h1 (Int.le_refl _) hR)
  | succ k ih =>
    intro n x2 hn hR h1 hQ
    have N1 := N.1
    obtain ⟨e, he⟩ := fz_pe_of T hn hR.1
    have he1 := he.1
    have kp := fz_pare N1 he
    have cn : (nI n).toNatClampNeg = n := fa_cl (by omega)
    have ce : (nI e).toNatClampNeg = e := fa_cl (by omega)
    have wn : vp_in (nI n) 16 := fa_in hn (by omega)
    have we : vp_in (acb (nI n).toNatClampNeg) 56 := by rw [cn, he.2.1]; exact fa_in (by omega) (by omega)
    have cc : (acb (nI n).toNatClampNeg).toNatClampNeg = e := by rw [cn, he.2.1, ce]
    have step : ∀ y : Int32, 1 ≤ y.toInt → y.toInt ≤ x2.toInt → y.toInt ≤ fa_tI ale e → wX_fillBridge_125 post (wX_fillBridge_84 post x1 x3 x4 fpr (nI s) (nI t) (nI (2 * m)) ffl fqf fqs foc afo ato aro aet ale afe anx alv acu acb aex ahs aqu aqd apa ago ane atr aor (k + 1)) x1 x3 x4 (nI n) y fpr (nI s) (nI t) (nI (2 * m)) ffl fqf fqs foc afo ato aro aet ale afe anx alv acu acb aex ahs aqu aqd apa ago ane atr aor := by
      intro y y1 y2 y3
      refine fz_parW N hn he (ih _ _ (fz_par16 N.2.2.1 N1 he) hR.2 y1 (fun a a1 a2 a3 => hQ a a1 (by omega) ⟨hR.1, ?_, a3⟩))
      rw [kp.1]; omega
    rw [wX_fillBridge_84]
    refine br_f (fun z => hR.1 ?_) ⟨wn, we, br_c (fun z => step x2 h1 (Int.le_refl _) ?_) (fun z => ⟨wn, we, step _ ?_ ?_ ?_⟩)⟩
    · rw [fa_inj z (by omega) (by omega)]; exact T.2.2.2.2.1
    · rw [cc, fa_le] at z; exact z
    · rw [cc]
      have := he.2.2.1
      simp only [fa_tI] at this
      omega
    · rw [cc, fa_le] at z; rw [cc]; omega
    · rw [cc]; exact Int.le_refl _
theorem fz_bridge {post : SX → Prop} {e : Nat} (N : fd_Nt m hd adj aet afe anx) (C : fc_CP m c) (hs : s < 16) (ht : t < 16) (hst : s ≠ t) (FS : fc_FS m hd c s t (fa_tI ale) ffl.toInt) (f0 : 0 ≤ ffl.toInt)
    (T : fz_T m s t hd (fa_tI ale) atr acb) (A : fz_A m hd (fa_tI ale) atr aqd) (O : fz_O s t atr acb foc aor [] 16) (he : e < 2 * m) (hL : 0 < fa_tI ale e) (h1 : atr (hd (fc_xr e)) = 1) (h2 : atr (hd e) = 2)
    (K : ∀ ffl' foc ale acb aor O, fc_FS m hd c s t (fa_tI ale) ffl'.toInt → ffl.toInt + 1 ≤ ffl'.toInt → fz_T m s t hd (fa_tI ale) atr acb → fz_A m hd (fa_tI ale) atr aqd → fz_O s t atr acb foc aor O 16 → post (fpr, nI s, nI t, nI (2 * m), ffl', fqf, fqs, foc, afo, ato, aro, aet, ale, afe, anx, alv, acu, acb, aex, ahs, aqu, aqd, apa, ago, ane, atr, aor)) :
    wpX_fillBridge post (fpr, nI s, nI t, nI (2 * m), ffl, fqf, fqs, foc, afo, ato, aro, aet, ale, afe, anx, alv, acu, acb, aex, ahs, aqu, aqd, apa, ago, ane, atr, aor) (nI e) := by
  have N1 := N.1
  have H := N.2.2.1
  have f9 := fc_F99 (fun e he => (N.2.2.1 e he).1) C FS ht hst
  have a16 := (H _ (fc_xlt he)).1
  have b16 := (H e he).1
  have ce : (nI e).toNatClampNeg = e := fa_cl (by omega)
  have we : vp_in (nI e) 56 := fa_in (by omega) (by omega)
  have ex : (nI e ^^^ 1) = nI (fc_xr e) := fa_xor e (by omega)
  have hx := fc_x56 (n := e) (by omega)
  have cx : (nI (fc_xr e)).toNatClampNeg = fc_xr e := fa_cl (by omega)
  obtain ⟨ra, ka, Ra, oa⟩ := fz_root0 H N1 T O a16 (by rw [h1]; decide)
  obtain ⟨rb, kb, Rb, ob⟩ := fz_root0 H N1 T O b16 (by rw [h2]; decide)
  have ra_s : ra = s := by
    rcases oa with z | z
    · exact z.1
    · rw [h1] at z; exact absurd z.2 (by decide)
  have rb_t : rb = t := by
    rcases ob with z | z
    · rw [h2] at z; exact absurd z.2 (by decide)
    · exact z.1
  rw [ra_s] at Ra
  rw [rb_t] at Rb
  have l1 := fc_L99 C FS.1 he
  have l2 := fc_L99 C FS.1 (fc_xlt he)
  have hno : ∀ x, x < 16 → ¬ fz_pe m hd (fa_tI ale) atr acb x e := by
    intro x hx g
    rcases g.2.2.2 with ⟨g1, g2, g3⟩ | ⟨g1, g2, g3⟩
    · rw [← g2, h2] at g1; exact absurd g1 (by decide)
    · rw [← g2, h1] at g1; exact absurd g1 (by decide)
  refine ⟨we, nm_r (e' := ale e) (by rw [ce]) ⟨by rw [ex]; exact fa_in hx (by omega), nm_r (e' := nI (hd (fc_xr e))) (by rw [ex, cx, N.2.1 _ (fc_xlt he)]) ⟨we, nm_r (e' := nI (hd e)) (by rw [ce, N.2.1 e he]) ⟨ka + 1, ?_⟩⟩⟩⟩
  refine fz_27 (Q := fun x => x ≤ fa_tI ale e ∧ fz_C hd atr acb (fa_tI ale) x s ka (hd (fc_xr e))) N hs T (fun x2 g1 gQ => ⟨kb + 1, ?_⟩) ka _ _ a16 Ra hL (fun a a1 a2 a3 => ⟨a2, a3⟩)
  refine fz_84 (Q := fun x => x ≤ fa_tI ale e ∧ fz_C hd atr acb (fa_tI ale) x s ka (hd (fc_xr e)) ∧ fz_C hd atr acb (fa_tI ale) x t kb (hd e)) N ht T (fun x2 q1 qQ => ?_) kb _ _ b16 Rb g1 (fun a a1 a2 a3 => ⟨Int.le_trans a2 gQ.1, fz_Cm a2 gQ.2, a3⟩)
  obtain ⟨Q1, Q2, Q3⟩ := qQ
  rw [wX_fillBridge_84]
  refine br_t rfl (fw_move rfl (by omega) (by omega) (by omega) (by omega) (by omega) (fun ale1 e1 => ⟨ka + 1, ?_⟩))
  have touch : ∀ y, y < 16 → acb y ≠ -1 → fa_tI ale (acb y).toNatClampNeg ≤ fa_tI ale1 (acb y).toNatClampNeg := by
    intro y hy hc
    obtain ⟨e', g⟩ := fz_pe_of T hy hc
    rw [(fz_pare N1 g).1, e1]
    have q1 : e' ≠ e := by
      intro z
      subst z
      exact hno y hy g
    by_cases q2 : e' = fc_xr e
    · subst q2
      rw [fc_mv_x]; omega
    · rw [fc_mv_n q1 q2]; exact Int.le_refl _
  have T1 : fz_T m s t hd (fa_tI ale1) atr acb := by rw [e1]; exact fz_Tbr T (by omega) hno
  have A1 : fz_A m hd (fa_tI ale1) atr aqd := by
    rw [e1]
    exact fz_Amv A he (by omega) (fun z => by rw [h2] at z; exact absurd z (by decide)) (fun z => by rw [h1] at z; exact absurd z (by decide))
  have R1 : fc_RV m c (fa_tI ale1) := by rw [e1]; exact fc_RV_mv FS.1 he (by omega) Q1
  have X1 : ∀ q, fc_ex m hd c (fa_tI ale1) q = fc_ex m hd c (fa_tI ale) q + (if q = hd e then x2.toInt else 0) - (if q = hd (fc_xr e) then x2.toInt else 0) := by
    intro q
    rw [e1, fc_ex_mv he, fz_ifc q (hd e), fz_ifc q (hd (fc_xr e))]
  refine fz_fb3 (x0 := 1) (sg := -1) (X := fun q => fc_ex m hd c (fa_tI ale) q + (if q = hd e then x2.toInt else 0)) (cb0 := acb) (L0 := fa_tI ale1) N C hs ht rfl (by omega) (by omega) (Or.inl ⟨rfl, rfl⟩) (Or.inl rfl) (fun foc2 ale2 acb2 aor2 O2 B2 => ⟨kb + 1, ?_⟩) ka _ _ _ _ _ [] a16 h1 ?_ ⟨R1, fun q hq => ?_, T1, A1, O, fun y hy hty => ⟨rfl, fun _ => Int.le_refl _⟩⟩
  · exact fz_Co N1 H T (x0 := 1) (fun y hy hty => ⟨rfl, touch y hy⟩) a16 h1 Q2
  · show _ = (fc_ex m hd c (fa_tI ale) q + (if q = hd e then x2.toInt else 0)) + -1 * (if q = hd (fc_xr e) then x2.toInt else 0)
    rw [X1 q]; omega
  · obtain ⟨b1, b2, b3, b4, b5, b6⟩ := B2
    refine fz_fb3 (x0 := 2) (sg := 1) (X := fun q => fc_ex m hd c (fa_tI ale) q - (if q = s then x2.toInt else 0)) (cb0 := acb2) (L0 := fa_tI ale2) N C hs ht rfl (by omega) (by omega) (Or.inr ⟨rfl, rfl⟩) (Or.inr rfl) (fun foc3 ale3 acb3 aor3 O3 B3 => fun ffl' ef => K ffl' foc3 ale3 acb3 aor3 O3 ⟨B3.1, fun n hn n1 n2 => ?_, ?_⟩ ?_ B3.2.2.1 B3.2.2.2.1 B3.2.2.2.2.1) kb _ _ _ _ _ O2 b16 h2 ?_ ⟨b1, fun q hq => ?_, b3, b4, b5, fun y hy hty => ⟨rfl, fun _ => Int.le_refl _⟩⟩
    · have b := B3.2.1 n hn
      rw [b]
      show (fc_ex m hd c (fa_tI ale) n - (if n = s then x2.toInt else 0)) + 1 * (if n = t then x2.toInt else 0) = 0
      rw [if_neg n2, if_neg n1, FS.2.1 n hn n1 n2]; rfl
    · have b := B3.2.1 t ht
      rw [b]
      show (fc_ex m hd c (fa_tI ale) t - (if t = s then x2.toInt else 0)) + 1 * (if t = t then x2.toInt else 0) = _
      rw [if_pos (rfl : t = t), if_neg (show ¬ t = s from fun z => hst z.symm), FS.2.2, ef, fa_add (by omega) (by omega)]; omega
    · rw [ef, fa_add (by omega) (by omega)]; omega
    · refine fz_Co N1 H T1 (x0 := 2) (fun y hy hty => ?_) b16 h2 (fz_Co N1 H T (x0 := 2) (fun y hy hty => ⟨rfl, touch y hy⟩) b16 h2 Q3)
      have := b6 y hy (by rw [hty]; decide)
      refine ⟨this.1, fun hc => ?_⟩
      have k := this.2 (by rw [this.1]; exact hc)
      rw [this.1] at k
      exact k
    · have b := b2 q hq
      rw [b]
      show (fc_ex m hd c (fa_tI ale) q + (if q = hd e then x2.toInt else 0)) + -1 * (if q = s then x2.toInt else 0) = (fc_ex m hd c (fa_tI ale) q - (if q = s then x2.toInt else 0)) + 1 * (if q = hd e then x2.toInt else 0)
      omega
theorem fz_fp7 {post : Int32 → SX → Prop} {n : Nat} (N : fd_Nt m hd adj aet afe anx) (hs : s < 16) (ht : t < 16) (T : fz_T m s t hd (fa_tI ale) atr acb) (hn : n < 16) (ns : n ≠ s) (nt : n ≠ t) (hcb : acb n = -1) (h12 : atr n = 1 ∨ atr n = 2)
    (K1 : ∀ e, e < 2 * m → fz_T m s t hd (fa_tI ale) atr (upd acb n (nI e)) → post 1 (fpr, nI s, nI t, nI (2 * m), ffl, fqf, fqs, foc, afo, ato, aro, aet, ale, afe, anx, alv, acu, upd acb n (nI e), aex, ahs, aqu, aqd, apa, ago, ane, atr, aor)) (K0 : post 0 (fpr, nI s, nI t, nI (2 * m), ffl, fqf, fqs, foc, afo, ato, aro, aet, ale, afe, anx, alv, acu, acb, aex, ahs, aqu, aqd, apa, ago, ane, atr, aor)) :
    ∀ (r : List Nat) (f : Nat) (x2 : Int32), r.length < f → fd_Ch anx r x2 → (∀ e, e ∈ r → e ∈ adj n) → wX_findParent_7 post (nI n) fpr (nI s) (nI t) (nI (2 * m)) ffl fqf fqs foc afo ato aro aet ale afe anx alv acu acb aex ahs aqu aqd apa ago ane atr aor f x2 := by
  intro r
  induction r with
  | nil =>
    intro f x2 hf hc hr
    obtain ⟨f, rfl⟩ : ∃ k, f = k + 1 := ⟨f - 1, by omega⟩
    rw [wX_findParent_7]
    exact br_t (by rw [show x2 = -1 from hc]; decide) K0
  | cons e r ih =>
    intro f x2 hf hc hr
    obtain ⟨f, rfl⟩ : ∃ k, f = k + 1 := ⟨f - 1, by rw [List.length_cons] at hf; omega⟩
    rw [List.length_cons] at hf
    obtain ⟨rfl, e56, hc'⟩ := hc
    obtain ⟨he, hen⟩ := (N.2.2.2.2.1 n hn e).mp (hr e (List.mem_cons_self ..))
    have hr' : ∀ e', e' ∈ r → e' ∈ adj n := fun e' h => hr e' (List.mem_cons_of_mem _ h)
    have N1 := N.1
    have hv := (N.2.2.1 e he).1
    have hne := (N.2.2.1 e he).2
    rw [hen] at hne
    have ce : (nI e).toNatClampNeg = e := fa_cl (by omega)
    have cn : (nI n).toNatClampNeg = n := fa_cl (by omega)
    have cv : (nI (hd e)).toNatClampNeg = hd e := fa_cl (by omega)
    have w : vp_in (nI e) 56 := fa_in e56 (by omega)
    have wn : vp_in (nI n) 16 := fa_in hn (by omega)
    have wv : vp_in (nI (hd e)) 16 := fa_in hv (by omega)
    have ex : (nI e ^^^ 1) = nI (fc_xr e) := fa_xor e e56
    have hx := fc_x56 e56
    have go : wX_findParent_7 post (nI n) fpr (nI s) (nI t) (nI (2 * m)) ffl fqf fqs foc afo ato aro aet ale afe anx alv acu acb aex ahs aqu aqd apa ago ane atr aor f (anx e) := ih f _ (by omega) hc' hr'
    have al2 : fz_al atr n e < 2 * m := by
      unfold fz_al
      split
      · exact fc_xlt he
      · exact he
    have ca : (nI (fz_al atr n e)).toNatClampNeg = fz_al atr n e := fa_cl (by omega)
    have join : wX_findParent_35 post (wX_findParent_7 post (nI n) fpr (nI s) (nI t) (nI (2 * m)) ffl fqf fqs foc afo ato aro aet ale afe anx alv acu acb aex ahs aqu aqd apa ago ane atr aor f) (nI n) (nI e) (nI (hd e)) (nI (fz_al atr n e)) fpr (nI s) (nI t) (nI (2 * m)) ffl fqf fqs foc afo ato aro aet ale afe anx alv acu acb aex ahs aqu aqd apa ago ane atr aor := by
      refine ⟨wv, wn, br_c (fun z => ⟨fa_in (by omega) (by omega), br_c (fun z1 => ⟨w, nm_r (e' := anx e) (by rw [ce]) go⟩) (fun z1 => ?_)⟩) (fun z => ⟨w, nm_r (e' := anx e) (by rw [ce]) go⟩)⟩
      rw [cv, cn] at z
      rw [ca, fa_le, fa_0] at z1
      obtain ⟨rr, k, g⟩ := T.2.2.2.2.2.2 _ hv
      refine fz_root N hs ht T hv g (fun y => ?_) (fun y => br_t rfl ⟨w, nm_r (e' := anx e) (by rw [ce]) go⟩)
      have rn : rr ≠ n := by
        rcases y with y | y
        · rw [y]; exact fun q => ns q.symm
        · rw [y]; exact fun q => nt q.symm
      refine br_f (by decide) ⟨wn, nm_r (e' := upd acb n (nI (fz_al atr n e))) (by rw [cn, (fa_byte _ (by omega)).2]) (K1 _ al2 ?_)⟩
      have := fz_Tat (x := atr n) (v := hd e) (e := fz_al atr n e) N1 T hn ns nt hcb (fun q => hne q.symm) g rn al2 (by simp only [fa_tI]; omega) (Or.inl rfl) ?_
      · rw [fz_updid] at this
        exact this
      · unfold fz_al
        rcases h12 with q | q
        · rw [if_pos q, fc_xx]
          exact Or.inl ⟨q, hen, rfl, by rw [z]; exact q⟩
        · rw [if_neg (by rw [q]; decide)]
          exact Or.inr ⟨q, hen, rfl, by rw [z]; exact q⟩
    rw [wX_findParent_7]
    refine br_f (fa_lt0 (by omega)) ⟨w, nm_r (e' := nI (hd e)) (by rw [ce, N.2.1 e he]) ⟨wn, br_c (fun z => ?_) (fun z => ?_)⟩⟩
    · rw [cn] at z
      have : fz_al atr n e = fc_xr e := by
        unfold fz_al
        rw [if_pos z]
      rw [ex, ← this]
      exact join
    · rw [cn] at z
      have : fz_al atr n e = e := by
        unfold fz_al
        rw [if_neg z]
      rw [this] at join
      exact join
theorem fz_mo {post : SX → Prop} {v z : Nat} {O : List Nat} (h : fz_O s t atr acb foc aor O z) (hv : v < 16) (hs : v ≠ s) (ht : v ≠ t) (h1 : acb v ≠ -1) (h2 : atr v ≠ 0)
    (K : ∀ foc' aor', fz_O s t atr (upd acb v (-1)) foc' aor' (O ++ [v]) z → post (fpr, nI s, nI t, nI (2 * m), ffl, fqf, fqs, foc', afo, ato, aro, aet, ale, afe, anx, alv, acu, upd acb v (-1), aex, ahs, aqu, aqd, apa, ago, ane, atr, aor')) : wpX_makeOrphan post (fpr, nI s, nI t, nI (2 * m), ffl, fqf, fqs, foc, afo, ato, aro, aet, ale, afe, anx, alv, acu, acb, aex, ahs, aqu, aqd, apa, ago, ane, atr, aor) (nI v) := by
  obtain ⟨o1, o2, o3⟩ := fz_Oad h hv hs ht h1 h2
  have co : foc.toNatClampNeg = O.length := by rw [o1]; exact fa_cl (by omega)
  have cv : (nI v).toNatClampNeg = v := fa_cl (by omega)
  exact ⟨fa_in hv (by omega), nm_r (e' := upd acb v (-1)) (by rw [cv, fa_bm1]) ⟨by rw [o1]; exact fa_in o2 (by omega), nm_r (e' := upd aor O.length (nI v)) (by rw [co, (fa_byte v (by omega)).2]) (nm_r (e' := nI (O.length + 1)) (by rw [o1, nI_1]) (K _ _ o3))⟩⟩
theorem fz_sf7 {post : SX → Prop} {n : Nat} (N : fd_Nt m hd adj aet afe anx) (hn : n < 16) (ns : n ≠ s) (nt : n ≠ t) (h12 : atr n = 1 ∨ atr n = 2)
    (K : ∀ fqs foc acb aqu aqd atr' aor O l, fz_T m s t hd (fa_tI ale) atr' acb → fz_A m hd (fa_tI ale) atr' aqd → fz_O s t atr' acb foc aor O 16 → fq_L fqf fqs aqu aqd l → fz_tc atr' = fz_tc atr - 1 → post (fpr, nI s, nI t, nI (2 * m), ffl, fqf, fqs, foc, afo, ato, aro, aet, ale, afe, anx, alv, acu, acb, aex, ahs, aqu, aqd, apa, ago, ane, atr', aor)) :
    ∀ (r : List Nat) (f : Nat) (x2 fqs foc : Int32) (acb aqu aqd aor : Nat → Int32) (O l : List Nat), r.length < f → fd_Ch anx r x2 → (∀ e, e ∈ r → e ∈ adj n) → fq_L fqf fqs aqu aqd l → fz_SF m s t hd adj (fa_tI ale) atr n r acb aqd foc aor O →
      wX_setFree_7 post (nI n) f x2 fpr (nI s) (nI t) (nI (2 * m)) ffl fqf fqs foc afo ato aro aet ale afe anx alv acu acb aex ahs aqu aqd apa ago ane atr aor := by
  intro r
  induction r with
  | nil =>
    intro f x2 fqs foc acb aqu aqd aor O l hf hc hr Q S
    obtain ⟨f, rfl⟩ : ∃ k, f = k + 1 := ⟨f - 1, by omega⟩
    rw [wX_setFree_7]
    obtain ⟨g1, g2, g3⟩ := fz_SFe N.1 N.2.2.1 N.2.2.2.2.1 hn ns nt h12 S
    have tn0 : ¬ atr n = 0 := by rcases h12 with z | z <;> rw [z] <;> decide
    refine br_t (by rw [show x2 = -1 from hc]; decide) ⟨fa_in hn (by omega), nm_r (e' := upd atr n 0) (by rw [fa_cl (by omega), fa_b0]) (K _ _ _ _ _ _ _ O l g1 g2 g3 Q ?_)⟩
    rw [fz_tcu hn, if_pos rfl, if_neg tn0]; omega
  | cons e r ih =>
    intro f x2 fqs foc acb aqu aqd aor O l hf hc hr Q S
    obtain ⟨f, rfl⟩ : ∃ k, f = k + 1 := ⟨f - 1, by rw [List.length_cons] at hf; omega⟩
    rw [List.length_cons] at hf
    obtain ⟨rfl, e56, hc'⟩ := hc
    obtain ⟨he, hen⟩ := (N.2.2.2.2.1 n hn e).mp (hr e (List.mem_cons_self ..))
    have hr' : ∀ e', e' ∈ r → e' ∈ adj n := fun e' h => hr e' (List.mem_cons_of_mem _ h)
    have N1 := N.1
    have hv := (N.2.2.1 e he).1
    have hne := (N.2.2.1 e he).2
    rw [hen] at hne
    have ce : (nI e).toNatClampNeg = e := fa_cl (by omega)
    have cn : (nI n).toNatClampNeg = n := fa_cl (by omega)
    have cv : (nI (hd e)).toNatClampNeg = hd e := fa_cl (by omega)
    have w : vp_in (nI e) 56 := fa_in e56 (by omega)
    have wn : vp_in (nI n) 16 := fa_in hn (by omega)
    have wv : vp_in (nI (hd e)) 16 := fa_in hv (by omega)
    have ex : (nI e ^^^ 1) = nI (fc_xr e) := fa_xor e e56
    have hx := fc_x56 e56
    have tn0 : ¬ atr n = 0 := by rcases h12 with z | z <;> rw [z] <;> decide
    have al2 : fz_al atr n e < 2 * m := by
      unfold fz_al
      split
      · exact fc_xlt he
      · exact he
    have ca : (nI (fz_al atr n e)).toNatClampNeg = fz_al atr n e := fa_cl (by omega)
    have j67 : ∀ (fqs : Int32) (aqu aqd : Nat → Int32) (l : List Nat), atr (hd e) = atr n → fq_L fqf fqs aqu aqd l → fz_SF m s t hd adj (fa_tI ale) atr n (e :: r) acb aqd foc aor O → (0 < fa_tI ale (fz_al atr n e) → aqd (hd e) ≠ 0) →
        wX_setFree_67 post (wX_setFree_7 post (nI n) f) (nI n) (nI e) (nI (hd e)) fpr (nI s) (nI t) (nI (2 * m)) ffl fqf fqs foc afo ato aro aet ale afe anx alv acu acb aex ahs aqu aqd apa ago ane atr aor := by
      intro fqs aqu aqd l htr Q S hq
      refine ⟨wv, br_c (fun z => ⟨w, nm_r (e' := anx e) (by rw [ce]) (ih f _ _ _ _ _ _ _ O l (by omega) hc' hr' Q (fz_SFk S (fun _ => ⟨fun y => ?_, hq⟩)))⟩) (fun z => ?_)⟩
      · rw [cv] at z
        obtain ⟨e', g⟩ := fz_pe_of S.1 hv y
        have := g.1
        exact absurd z (fz_neg g.2.1 (by omega))
      · rw [cv] at z
        have hc1 : acb (hd e) ≠ -1 := fun y => z (by rw [y]; decide)
        obtain ⟨e', g⟩ := fz_pe_of S.1 hv hc1
        have p16 := fz_par16 N.2.2.1 N1 g
        refine fz_parW N hv g (br_c (fun y => ?_) (fun y => ⟨w, nm_r (e' := anx e) (by rw [ce]) (ih f _ _ _ _ _ _ _ O l (by omega) hc' hr' Q (fz_SFk S (fun _ => ⟨fun _ q => y (by rw [q]), hq⟩)))⟩))
        have vs : hd e ≠ s := fun q => hc1 (by rw [q]; exact S.1.2.2.2.1)
        have vt : hd e ≠ t := fun q => hc1 (by rw [q]; exact S.1.2.2.2.2.1)
        refine fz_mo S.2.2.1 hv vs vt hc1 (by rw [htr]; exact tn0) (fun foc' aor' O' => ⟨w, nm_r (e' := anx e) (by rw [ce]) (ih f _ _ _ _ _ _ _ (O ++ [hd e]) l (by omega) hc' hr' Q (fz_SFk (fz_SFo S vs vt (fun q => hne q.symm) O') (fun _ => ⟨fun q => ?_, hq⟩)))⟩)
        rw [fa_us] at q
        exact absurd rfl q
    have j50 : atr (hd e) = atr n → wX_setFree_50 post (wX_setFree_7 post (nI n) f) (nI n) (nI e) (nI (hd e)) (nI (fz_al atr n e)) fpr (nI s) (nI t) (nI (2 * m)) ffl fqf fqs foc afo ato aro aet ale afe anx alv acu acb aex ahs aqu aqd apa ago ane atr aor := by
      intro htr
      refine ⟨fa_in (by omega) (by omega), br_c (fun z => j67 _ _ _ l htr Q S (fun y => ?_)) (fun z => fq_enq Q hv (fun fqs' aqu' aqd' l' Q' q1 _ _ => j67 _ _ _ l' htr Q' (fz_SFq N.2.2.2.2.1 N.2.2.1 hn S q1) (fun _ => ?_)))⟩
      · rw [ca, fa_le, fa_0] at z
        simp only [fa_tI] at y
        omega
      · rw [q1 _ hv, if_pos rfl]; decide
    rw [wX_setFree_7]
    refine br_f (fa_lt0 (by omega)) ⟨w, nm_r (e' := nI (hd e)) (by rw [ce, N.2.1 e he]) ⟨wv, wn, br_c (fun z => ⟨wn, br_c (fun z1 => ?_) (fun z1 => ?_)⟩) (fun z => ⟨w, nm_r (e' := anx e) (by rw [ce]) (ih f _ _ _ _ _ _ _ O l (by omega) hc' hr' Q (fz_SFk S (fun y => absurd y ?_)))⟩)⟩⟩
    · rw [cv, cn] at z
      rw [cn] at z1
      have : fz_al atr n e = fc_xr e := by
        unfold fz_al
        rw [if_pos z1]
      rw [ex, ← this]
      exact j50 z
    · rw [cv, cn] at z
      rw [cn] at z1
      have : fz_al atr n e = e := by
        unfold fz_al
        rw [if_neg z1]
      rw [this] at j50
      exact j50 z
    · rw [cv, cn] at z
      exact z
theorem fz_ad0 {post : SX → Prop} (N : fd_Nt m hd adj aet afe anx) (hs : s < 16) (ht : t < 16)
    (K : ∀ fqs foc acb aqu aqd atr aor l, fz_T m s t hd (fa_tI ale) atr acb → fz_A m hd (fa_tI ale) atr aqd → fz_O s t atr acb foc aor [] 16 → fq_L fqf fqs aqu aqd l → post (fpr, nI s, nI t, nI (2 * m), ffl, fqf, fqs, foc, afo, ato, aro, aet, ale, afe, anx, alv, acu, acb, aex, ahs, aqu, aqd, apa, ago, ane, atr, aor)) :
    ∀ (f : Nat) (fqs foc : Int32) (acb aqu aqd atr aor : Nat → Int32) (O l : List Nat), 17 * fz_tc atr + O.length < f → fz_T m s t hd (fa_tI ale) atr acb → fz_A m hd (fa_tI ale) atr aqd → fz_O s t atr acb foc aor O 16 → fq_L fqf fqs aqu aqd l →
      wX_adopt_0 post f fpr (nI s) (nI t) (nI (2 * m)) ffl fqf fqs foc afo ato aro aet ale afe anx alv acu acb aex ahs aqu aqd apa ago ane atr aor := by
  intro f
  induction f with
  | zero =>
    intro fqs foc acb aqu aqd atr aor O l h
    have := (fz_tcb atr).1
    omega
  | succ f ih =>
    intro fqs foc acb aqu aqd atr aor O l h T A hO Q
    have hO' := hO
    obtain ⟨a1, a2, a3, a4, a5, a6⟩ := hO'
    have hl := fr_len 16 O a1 a2
    rw [wX_adopt_0]
    rcases List.eq_nil_or_concat O with rfl | ⟨O1, n, e⟩
    · exact br_t (by rw [a3]; decide) (K _ _ _ _ _ _ _ l T A hO Q)
    · have hle : O.length = O1.length + 1 := by rw [e]; simp
      have hnO : n ∈ O := by rw [e]; simp
      have n16 := a2 n hnO
      obtain ⟨c1, c2, c3, c4⟩ := (a6 n n16).mpr (Or.inl hnO)
      have h12 : atr n = 1 ∨ atr n = 2 := by
        rcases T.1 n n16 with z | z
        · exact absurd z c2
        · exact z
      have nd : O1.Nodup ∧ n ∉ O1 := by
        have q := a1
        rw [e, List.concat_eq_append, List.nodup_append] at q
        exact ⟨q.1, fun y => q.2.2 n y n (by simp) rfl⟩
      have hlast : aor O1.length = nI n := by
        have := a4 O1.length (by omega)
        rw [this, e]
        simp [List.getD]
      have mem : ∀ x, x ∈ O ↔ (x ∈ O1 ∨ x = n) := by
        intro x
        rw [e]; simp
      have ofc : foc - 1 = nI O1.length := by rw [a3, hle, nI_pred]
      have hO1 : fz_O s t atr acb (nI O1.length) aor O1 n := by
        refine ⟨nd.1, fun x hx => a2 x ((mem x).mpr (Or.inl hx)), rfl, fun i hi => ?_, nd.2, fun x hx => ?_⟩
        · rw [a4 i (by omega), e]
          simp [List.getD, List.getElem?_append_left hi]
        · rw [a6 x hx, mem x]
          constructor
          · rintro (y | y)
            · exact y
            · omega
          · exact fun y => Or.inl y
      have tn := fz_tcb atr
      refine br_f ?_ (nm_r ofc ⟨fa_in (by omega) (by omega), nm_r (e' := nI n) (by rw [fa_cl (by omega)]; exact hlast) ?_⟩)
      · rw [a3, hle]; exact nI_nle (by omega) (by omega)
      · refine ⟨fa_in n16 (by omega), nm_r (e' := afe n) (by rw [fa_cl (by omega)]) ⟨(adj n).length + 1, fz_fp7 N hs ht T n16 c3 c4 c1 h12 (fun e' he' T' => ?_) ?_ (adj n) _ _ (by omega) (N.2.2.2.1 n n16) (fun e he => he)⟩⟩
        · refine br_f (by decide) (ih _ _ _ _ _ _ _ O1 l (by omega) T' A ⟨nd.1, hO1.2.1, rfl, hO1.2.2.2.1, fun y => by have := hO1.2.1 _ y; omega, fun x hx => ?_⟩ Q)
          have N1 := N.1
          by_cases q : x = n
          · rw [q, fa_us]
            constructor
            · intro y; exact absurd y.1 (fz_nm1 (by omega))
            · rintro (y | y)
              · exact absurd y nd.2
              · omega
          · rw [fa_un q, hO1.2.2.2.2.2 x hx]
            constructor
            · rintro (y | y)
              · exact Or.inl y
              · exact absurd y q
            · rintro (y | y)
              · exact Or.inl y
              · omega
        · refine br_t rfl ⟨fa_in n16 (by omega), nm_r (e' := afe n) (by rw [fa_cl (by omega)]) ⟨(adj n).length + 1, fz_sf7 N n16 c3 c4 h12 (fun fqs foc acb aqu aqd atr' aor O2 l2 T2 A2 hO2 Q2 htc => ih _ _ _ _ _ _ _ O2 l2 ?_ T2 A2 hO2 Q2) (adj n) _ _ _ _ _ _ _ _ O1 l (by omega) (N.2.2.2.1 n n16) (fun e he => he) Q ⟨T, A, hO1, c1, fun e he hn => absurd he hn⟩⟩⟩
          have := fr_len 16 O2 hO2.1 hO2.2.1
          omega
end TREE
end
section
/-! 20: engine 6's rounds; solve, best -/
section SOLVE
variable {fpr ffl fqf fqs foc : Int32} {afo ato aro aet ale afe anx alv acu acb aex ahs aqu aqd apa ago ane atr aor : Nat → Int32}
variable {m s t : Nat} {hd : Nat → Nat} {adj : Nat → List Nat} {c : Nat → Int}
theorem fz_mub (tr qd : Nat → Int32) : 0 ≤ fz_mu tr qd ∧ fz_mu tr qd ≤ 32 := by
  have h1 := fq_le qd
  have h2 := fz_tcb tr
  unfold fz_mu
  omega
theorem fz_e6 {post : SX → Prop} (N : fd_Nt m hd adj aet afe anx) (C : fc_CP m c) (hs : s < 16) (ht : t < 16) (hst : s ≠ t)
    (K : ∀ (ffl fqf fqs foc : Int32) (ale alv acu acb aex ahs aqu aqd apa ago ane atr aor : Nat → Int32), fc_MF m hd c s t (fa_tI ale) ffl.toInt → post (fpr, nI s, nI t, nI (2 * m), ffl, fqf, fqs, foc, afo, ato, aro, aet, ale, afe, anx, alv, acu, acb, aex, ahs, aqu, aqd, apa, ago, ane, atr, aor)) :
    ∀ (f k : Nat) (ffl fqf fqs foc : Int32) (ale acb aqu aqd atr aor : Nat → Int32) (l : List Nat), (2772 - ffl.toInt) * 33 + fz_mu atr aqd < f → k + ((2772 - ffl.toInt) * 33 + fz_mu atr aqd) ≤ 91508 →
      fc_FS m hd c s t (fa_tI ale) ffl.toInt → 0 ≤ ffl.toInt → fz_T m s t hd (fa_tI ale) atr acb → fz_A m hd (fa_tI ale) atr aqd → fz_O s t atr acb foc aor [] 16 → fq_L fqf fqs aqu aqd l →
      wX_solveByTwoTrees_80 post f (nI k) fpr (nI s) (nI t) (nI (2 * m)) ffl fqf fqs foc afo ato aro aet ale afe anx alv acu acb aex ahs aqu aqd apa ago ane atr aor := by
  intro f
  induction f with
  | zero =>
    intro k ffl fqf fqs foc ale acb aqu aqd atr aor l h1 h2 FS f0 T A O Q
    have f9 := fc_F99 (fun e he => (N.2.2.1 e he).1) C FS ht hst
    have := fz_mub atr aqd
    omega
  | succ f ih =>
    intro k ffl fqf fqs foc ale acb aqu aqd atr aor l h1 h2 FS f0 T A O Q
    have f9 := fc_F99 (fun e he => (N.2.2.1 e he).1) C FS ht hst
    have mb := fz_mub atr aqd
    have H := N.2.2.1
    have kk : nI k + 1 = nI (k + 1) := nI_1 k
    rw [wX_solveByTwoTrees_80]
    refine br_f ?_ (br_c (fun z => K _ _ _ _ _ _ _ _ _ _ _ _ _ _ _ _ _ ⟨FS, fun n => decide (atr n = 1), ?_, ?_, fun e he g1 g2 => ?_⟩) (fun z => ?_))
    · rw [fa_le, fa_100k, fa_ti (by omega)]; omega
    · simp only [decide_eq_true_eq]; exact T.2.1
    · simp only [decide_eq_false_iff_not]; rw [T.2.2.1]; decide
    · simp only [decide_eq_true_eq] at g1
      simp only [decide_eq_false_iff_not] at g2
      have hq := (fq_z Q z).2 _ (H _ (fc_xlt he)).1
      have r := (FS.1 e he).1
      by_cases q : 0 < fa_tI ale e
      · exact absurd ((A e he hq).1 g1 q) g2
      · omega
    · obtain ⟨n, r, rfl⟩ := fq_cons Q z
      obtain ⟨hn, wf, hq, hn1⟩ := fq_head Q
      have cn : (nI n).toNatClampNeg = n := fa_cl (by omega)
      refine ⟨wf, nm_r hq ⟨fa_in hn (by omega), br_c (fun z1 => br_t (by decide) ?_) (fun z1 => ?_)⟩⟩
      · rw [cn] at z1
        refine fq_deq Q (fun fqf' fqs' aqd' Q' e1 e2 => nm_r kk (ih _ _ _ _ _ _ _ _ _ _ _ r ?_ ?_ FS f0 T (fun e he hq' => ?_) O Q'))
        · unfold fz_mu at *; omega
        · unfold fz_mu at *; omega
        · rw [e1 _ (H _ (fc_xlt he)).1] at hq'
          by_cases q : hd (fc_xr e) = n
          · rw [q, z1]
            exact ⟨fun y => absurd y (by decide), fun y => absurd y (by decide)⟩
          · rw [if_neg q] at hq'
            exact A e he hq'
      · rw [cn] at z1
        have h12 : atr n = 1 ∨ atr n = 2 := by
          rcases T.1 n hn with y | y
          · exact absurd y z1
          · exact y
        refine ⟨fa_in hn (by omega), nm_r (e' := afe n) (by rw [cn]) ⟨(adj n).length + 1, fz_g7 (M := fz_mu atr aqd) (h0 := n) N hn (fun fqs acb aqu aqd1 atr1 r' Q1 G => br_t (by decide) ?_) (fun fqs acb aqu aqd1 atr1 l1 e Q1 T1 A1 O1 he hL g1 g2 => br_f ?_ ?_) (adj n) _ _ _ _ _ _ _ r (by omega) (N.2.2.2.1 n hn) (fun e he => he) Q ⟨T, A, O, Int.le_refl _, h12, fun e he hn' => absurd he hn'⟩⟩⟩
        · obtain ⟨G1, G2, G3, G4, G5, G6⟩ := G
          refine fq_deq Q1 (fun fqf' fqs' aqd' Q' e1 e2 => nm_r kk (ih _ _ _ _ _ _ _ _ _ _ _ r' ?_ ?_ FS f0 G1 (fun e he hq' => ?_) G3 Q'))
          · unfold fz_mu at *; omega
          · unfold fz_mu at *; omega
          · rw [e1 _ (H _ (fc_xlt he)).1] at hq'
            by_cases q : hd (fc_xr e) = n
            · have := G6 e ((N.2.2.2.2.1 n hn e).mpr ⟨he, q⟩) (List.not_mem_nil)
              rw [q]; exact this
            · rw [if_neg q] at hq'
              exact G2 e he hq'
        · have := N.1
          exact fa_lt0 (by omega)
        · refine fz_bridge N C hs ht hst FS f0 T1 A1 O1 he hL g1 g2 (fun ffl' foc ale acb aor O2 FS2 hF T2 A2 hO2 => ⟨(17 * fz_tc atr1 + O2.length).toNat + 1, fz_ad0 N hs ht (fun fqs foc acb aqu aqd atr aor l T3 A3 O3 Q3 => nm_r kk (ih _ _ _ _ _ _ _ _ _ _ _ l ?_ ?_ FS2 (by omega) T3 A3 O3 Q3)) _ _ _ _ _ _ _ _ O2 l1 (by omega) T2 A2 hO2 Q1⟩)
          · have m2 := fz_mub atr aqd
            omega
          · have m2 := fz_mub atr aqd
            omega
theorem fz_i6 {post : SX → Prop} (hs : s < 16) (ht : t < 16) (hst : s ≠ t)
    (K : ∀ acb atr, (∀ n, n < 16 → atr n = if n = s then 1 else if n = t then 2 else 0) → (∀ n, n < 16 → acb n = -1) → ∀ k, wX_solveByTwoTrees_6 post fpr (nI s) (nI t) (nI (2 * m)) ffl fqf fqs foc (k + 1) (nI 16) afo ato aro aet ale afe anx alv acu acb aex ahs aqu aqd apa ago ane atr aor) :
    ∀ (k i : Nat) (acb atr : Nat → Int32), i + k = 16 → (∀ n, n < i → atr n = if n = s then 1 else if n = t then 2 else 0) → (∀ n, n < i → acb n = -1) → wX_solveByTwoTrees_6 post fpr (nI s) (nI t) (nI (2 * m)) ffl fqf fqs foc (k + 1) (nI i) afo ato aro aet ale afe anx alv acu acb aex ahs aqu aqd apa ago ane atr aor := by
  intro k
  induction k with
  | zero =>
    intro i acb atr hi h1 h2
    obtain rfl : i = 16 := by omega
    exact K _ _ h1 h2 _
  | succ k ih =>
    intro i acb atr hi h1 h2
    have ci : (nI i).toNatClampNeg = i := fa_cl (by omega)
    have wi : vp_in (nI i) 16 := fa_in (by omega) (by omega)
    have put : ∀ z0 : Int32, vp_nar .byte z0.toInt8.toInt32 = z0 → z0 = (if i = s then 1 else if i = t then 2 else 0) → wX_solveByTwoTrees_42 post (wX_solveByTwoTrees_6 post fpr (nI s) (nI t) (nI (2 * m)) ffl fqf fqs foc (k + 1)) (nI i) z0 (nI i) fpr (nI s) (nI t) (nI (2 * m)) ffl fqf fqs foc afo ato aro aet ale afe anx alv acu acb aex ahs aqu aqd apa ago ane atr aor := by
      intro z0 hb hz
      refine ⟨wi, nm_r (e' := upd atr i z0) (by rw [ci, hb]) ⟨wi, nm_r (e' := upd acb i (-1)) (by rw [ci, fa_bm1]) (nm_r (nI_1 i) (ih _ _ _ (by omega) (fun n hn => ?_) (fun n hn => ?_)))⟩⟩
      · by_cases q : n = i
        · rw [q, fa_us]; exact hz
        · rw [fa_un q]; exact h1 n (by omega)
      · by_cases q : n = i
        · rw [q, fa_us]
        · rw [fa_un q]; exact h2 n (by omega)
    rw [wX_solveByTwoTrees_6]
    refine br_f (fa_f16 (by omega)) (br_c (fun z => put 1 (by decide +kernel) ?_) (fun z => br_c (fun z1 => put 2 (by decide +kernel) ?_) (fun z1 => put 0 (by decide +kernel) ?_)))
    · rw [if_pos (fa_inj z (by omega) (by omega))]
    · rw [if_neg (fun y => z (by rw [y])), if_pos (fa_inj z1 (by omega) (by omega))]
    · rw [if_neg (fun y => z (by rw [y])), if_neg (fun y => z1 (by rw [y]))]
theorem fz_solve6 {post : SX → Prop} (N : fd_Nt m hd adj aet afe anx) (C : fc_CP m c) (hs : s < 16) (ht : t < 16) (hst : s ≠ t) (f0 : 0 ≤ ffl.toInt) (FS : fc_FS m hd c s t (fa_tI ale) ffl.toInt)
    (K : ∀ (ffl fqf fqs foc : Int32) (ale alv acu acb aex ahs aqu aqd apa ago ane atr aor : Nat → Int32), fc_MF m hd c s t (fa_tI ale) ffl.toInt → post (fpr, nI s, nI t, nI (2 * m), ffl, fqf, fqs, foc, afo, ato, aro, aet, ale, afe, anx, alv, acu, acb, aex, ahs, aqu, aqd, apa, ago, ane, atr, aor)) : wpX_solveByTwoTrees post (fpr, nI s, nI t, nI (2 * m), ffl, fqf, fqs, foc, afo, ato, aro, aet, ale, afe, anx, alv, acu, acb, aex, ahs, aqu, aqd, apa, ago, ane, atr, aor) := by
  refine fq_clear (fqf := fqf) (fqs := fqs) (fun aqd hq Q => ⟨17, fz_i6 hs ht hst (fun acb atr h1 h2 k => ?_) 16 0 _ _ rfl (fun n hn => by omega) (fun n hn => by omega)⟩)
  rw [wX_solveByTwoTrees_6]
  refine br_t (fa_t16 (by omega) (by omega)) (fq_enq Q hs (fun fqs1 aqu1 aqd1 l1 Q1 e1 _ _ => fq_enq Q1 ht (fun fqs2 aqu2 aqd2 l2 Q2 e2 _ _ => ⟨91509, ?_⟩)))
  have mb := fz_mub atr aqd2
  have tr12 : ∀ n, n < 16 → atr n ≠ 0 → n = s ∨ n = t := by
    intro n hn h
    rw [h1 n hn] at h
    by_cases q1 : n = s
    · exact Or.inl q1
    · by_cases q2 : n = t
      · exact Or.inr q2
      · rw [if_neg q1, if_neg q2] at h; exact absurd rfl h
  refine fz_e6 N C hs ht hst K 91509 0 _ _ _ _ _ _ _ _ _ _ l2 (by omega) (by omega) FS f0 ⟨fun n hn => ?_, ?_, ?_, h2 s hs, h2 t ht, fun n hn => Or.inl (h2 n hn), fun n hn => ⟨n, 0, rfl, h2 n hn⟩⟩ (fun e he hq' => ?_) ⟨List.nodup_nil, fun x hx => absurd hx (List.not_mem_nil), rfl, fun i hi => absurd hi (Nat.not_lt_zero _), List.not_mem_nil, fun x hx => ?_⟩ Q2
  · rw [h1 n hn]
    split
    · exact Or.inr (Or.inl rfl)
    · split
      · exact Or.inr (Or.inr rfl)
      · exact Or.inl rfl
  · rw [h1 s hs, if_pos rfl]
  · rw [h1 t ht, if_neg (fun z => hst z.symm), if_pos rfl]
  · have u16 := (N.2.2.1 _ (fc_xlt he)).1
    have : atr (hd (fc_xr e)) = 0 := by
      by_cases q : atr (hd (fc_xr e)) = 0
      · exact q
      · exfalso
        rw [e2 _ u16] at hq'
        rcases tr12 _ u16 q with y | y
        · by_cases w : hd (fc_xr e) = t
          · rw [if_pos w] at hq'; exact absurd hq' (by decide)
          · rw [if_neg w, e1 _ u16, if_pos y] at hq'; exact absurd hq' (by decide)
        · rw [if_pos y] at hq'; exact absurd hq' (by decide)
    rw [this]
    exact ⟨fun y => absurd y (by decide), fun y => absurd y (by decide)⟩
  · constructor
    · rintro ⟨_, y1, y2, y3⟩
      rcases tr12 x hx y1 with y | y
      · exact absurd y y2
      · exact absurd y y3
    · rintro (y | y)
      · exact absurd y (List.not_mem_nil)
      · omega
theorem fs_FS0 (C : fc_CP m c) (h0 : ∀ e, e < 2 * m → fa_tI ale e = c e) : fc_FS m hd c s t (fa_tI ale) 0 := by
  have z : ∀ n, fc_ex m hd c (fa_tI ale) n = 0 := by
    intro n
    unfold fc_ex
    refine fb_zero (fun e he => ?_)
    rw [h0 e he]
    split <;> omega
  refine ⟨fun e he => ?_, fun n _ _ _ => z n, z t⟩
  rw [h0 e he, h0 _ (fc_xlt he)]
  exact ⟨(fc_CPe C he).1, rfl⟩
theorem fs_solve {post : SX → Prop} {g : Nat} (N : fd_Nt m hd adj aet afe anx) (C : fc_CP m c) (hs : s < 16) (ht : t < 16) (hst : s ≠ t) (h0 : ∀ e, e < 2 * m → fa_tI ale e = c e) (hg : g ≤ 6)
    (K : ∀ (ffl fqf fqs foc : Int32) (ale alv acu acb aex ahs aqu aqd apa ago ane atr aor : Nat → Int32), fc_MF m hd c s t (fa_tI ale) ffl.toInt → post (fpr, nI s, nI t, nI (2 * m), ffl, fqf, fqs, foc, afo, ato, aro, aet, ale, afe, anx, alv, acu, acb, aex, ahs, aqu, aqd, apa, ago, ane, atr, aor)) : wpX_solve post (fpr, nI s, nI t, nI (2 * m), 0, fqf, fqs, foc, afo, ato, aro, aet, ale, afe, anx, alv, acu, acb, aex, ahs, aqu, aqd, apa, ago, ane, atr, aor) (nI g) := by
  have FS : fc_FS m hd c s t (fa_tI ale) (0 : Int32).toInt := by rw [fa_0]; exact fs_FS0 C h0
  have f0 : 0 ≤ (0 : Int32).toInt := by rw [fa_0]; omega
  have cs : g = 0 ∨ g = 1 ∨ g = 2 ∨ g = 3 ∨ g = 4 ∨ g = 5 ∨ g = 6 := by omega
  unfold wpX_solve
  rcases cs with rfl | rfl | rfl | rfl | rfl | rfl | rfl
  · exact br_f (by decide) (br_f (by decide) (br_t (by decide) (fw_solve0 N C hs ht hst f0 FS K)))
  · exact br_f (by decide) (br_f (by decide) (br_f (by decide) (br_t (by decide) (fi_solve1 N C hs ht hst f0 FS K))))
  · exact br_f (by decide) (br_f (by decide) (br_f (by decide) (br_f (by decide) (br_t (by decide) (fp_solve2 N C hs ht hst h0 K)))))
  · exact br_f (by decide) (br_f (by decide) (br_f (by decide) (br_f (by decide) (br_f (by decide) (br_t (by decide) (fp_solve3 N C hs ht hst h0 K))))))
  · exact br_f (by decide) (br_f (by decide) (br_f (by decide) (br_f (by decide) (br_f (by decide) (br_f (by decide) (br_t (by decide) (fw_solve4 N C hs ht hst f0 FS K)))))))
  · exact br_f (by decide) (br_f (by decide) (br_f (by decide) (br_f (by decide) (br_f (by decide) (br_f (by decide) (br_f (by decide) (br_t (by decide) (fr_solve5 N C hs ht hst f0 FS K))))))))
  · exact br_f (by decide) (br_t (by decide) (fz_solve6 N C hs ht hst f0 FS K))
end SOLVE
section BEST
variable {fpr fso fsi fed ffl fqf fqs foc : Int32} {afo ato aro aet ale afe anx alv acu acb aex ahs aqu aqd apa ago ane atr aor : Nat → Int32}
variable {th : Nat → Bool} {fr tt rm : Nat → Nat} {kind s t much : Nat}
/-- a greatest flow of a network that was laid -/
def fs_N (kind s t much : Nat) (th : Nat → Bool) (fr tt rm : Nat → Nat) (m : Nat) (hd : Nat → Nat) (c : Nat → Int) (aet ale : Nat → Int32) (F : Int) : Prop :=
  m ≤ 28 ∧ (∀ e, e < 2 * m → aet e = nI (hd e)) ∧ fc_HD m hd ∧ fc_CP m c ∧ (∀ g : Nat → Nat → Int → Int, fb_sm (fun j => g (hd (2 * j + 1)) (hd (2 * j)) (c (2 * j))) m = fd_TT kind s t much th fr tt rm g) ∧ fc_MF m hd c s t (fa_tI ale) F
theorem fs_ls {post : SX → Prop} {g : Nat} (D : fd_Dt fpr afo ato aro th fr tt rm) (hs : s < 8) (ht : t < 8) (hst : s ≠ t) (hk4 : kind < 4) (hmu : much ≤ 99) (hg : g ≤ 6)
    (K : ∀ (m : Nat) (hd : Nat → Nat) (c : Nat → Int) (aet afe anx : Nat → Int32) (ffl fqf fqs foc : Int32) (ale alv acu acb aex ahs aqu aqd apa ago ane atr aor : Nat → Int32), fs_N kind s t much th fr tt rm m hd c aet ale ffl.toInt → post (fpr, nI s, nI t, nI (2 * m), ffl, fqf, fqs, foc, afo, ato, aro, aet, ale, afe, anx, alv, acu, acb, aex, ahs, aqu, aqd, apa, ago, ane, atr, aor)) :
    wpX_lay (fun u => wpX_solve post u (nI g)) (fpr, fso, fsi, fed, ffl, fqf, fqs, foc, afo, ato, aro, aet, ale, afe, anx, alv, acu, acb, aex, ahs, aqu, aqd, apa, ago, ane, atr, aor) (nI kind) (nI s) (nI t) (nI much) := by
  refine fe_lay D hs ht hk4 hmu (fun m hd adj c aet ale afe anx I => fs_solve (hd := hd) (adj := adj) (c := c) I.1 I.2.1 (by omega) (by omega) hst I.2.2.1 hg (fun ffl fqf fqs foc ale alv acu acb aex ahs aqu aqd apa ago ane atr aor M => K _ _ _ _ _ _ _ _ _ _ _ _ _ _ _ _ _ _ _ _ _ _ _ ⟨I.1.1, I.1.2.1, I.1.2.2.1, I.2.1, I.2.2.2, M⟩))
theorem fs_best {post : Int32 → SX → Prop} {g : Nat} (D : fd_Dt fpr afo ato aro th fr tt rm) (hs : s < 8) (ht : t < 8) (hst : s ≠ t) (hk4 : kind < 4) (hg : g ≤ 6)
    (K : ∀ (m : Nat) (hd : Nat → Nat) (c : Nat → Int) (aet afe anx : Nat → Int32) (ffl fqf fqs foc : Int32) (ale alv acu acb aex ahs aqu aqd apa ago ane atr aor : Nat → Int32), fs_N kind s t 1 th fr tt rm m hd c aet ale ffl.toInt → post ffl (fpr, nI s, nI t, nI (2 * m), ffl, fqf, fqs, foc, afo, ato, aro, aet, ale, afe, anx, alv, acu, acb, aex, ahs, aqu, aqd, apa, ago, ane, atr, aor)) :
    wpX_best post (fpr, fso, fsi, fed, ffl, fqf, fqs, foc, afo, ato, aro, aet, ale, afe, anx, alv, acu, acb, aex, ahs, aqu, aqd, apa, ago, ane, atr, aor) (nI g) (nI kind) (nI s) (nI t) := by
  unfold wpX_best
  refine fe_lay (much := 1) D hs ht hk4 (by omega) (fun m hd adj c aet ale afe anx I => fs_solve (hd := hd) (adj := adj) (c := c) I.1 I.2.1 (by omega) (by omega) hst I.2.2.1 hg (fun ffl fqf fqs foc ale alv acu acb aex ahs aqu aqd apa ago ane atr aor M => K _ _ _ _ _ _ _ _ _ _ _ _ _ _ _ _ _ _ _ _ _ _ _ ⟨I.1.1, I.1.2.1, I.1.2.2.1, I.2.1, I.2.2.2, M⟩))
end BEST
end
section
/-! 21: spreadSet, comingSet -/
def fy_cl (m : Nat) (A B : Nat → Nat) (L : Nat → Int) (Z : Nat → Bool) : Prop := ∀ e, e < 2 * m → Z (A e) = true → 0 < L e → Z (B e) = true
def fy_R (m : Nat) (A B : Nat → Nat) (L : Nat → Int) (st x : Int32) : Prop :=
  (∀ i, i < 32 → bt st i = true → bt x i = true) ∧ ∀ Z : Nat → Bool, fy_cl m A B L Z → (∀ i, i < 32 → bt st i = true → Z i = true) → ∀ i, i < 32 → bt x i = true → Z i = true
def fy_n (x : Int32) : Int := fb_sm (fun k => if bt x k = true then 1 else 0) 16
section SETS
variable {m : Nat} {A B : Nat → Nat} {L : Nat → Int} {st x x' : Int32}
theorem fy_nb (x : Int32) : 0 ≤ fy_n x ∧ fy_n x ≤ 16 := by
  constructor
  · exact fb_nn (fun i hi => by split <;> omega)
  · have h : fy_n x ≤ fb_sm (fun _ => 1) 16 := fb_le (fun i hi => by split <;> omega)
    rw [fb_const] at h
    exact h
theorem fy_Rs {e : Nat} (R : fy_R m A B L st x) (he : e < 2 * m) (hA : A e < 16) (hB : B e < 16) (h1 : bt x (A e) = true) (h2 : 0 < L e) : fy_R m A B L st (x ||| ((1 : Int32) <<< (nI (B e) &&& 31))) := by
  refine ⟨fun i hi h => ?_, fun Z hZ hs i hi h => ?_⟩
  · rw [fb1_oh (by omega) hi, R.1 i hi h, Bool.true_or]
  · rw [fb1_oh (by omega) hi] at h
    rcases (Bool.or_eq_true _ _).mp h with y | y
    · exact R.2 Z hZ hs i hi y
    · rw [decide_eq_true_eq] at y
      rw [y]
      exact hZ e he (R.2 Z hZ hs _ (by omega) h1) h2
/-- a round: either something is new or the set is closed -/
theorem fy_round {k : Nat} (hA : ∀ e, e < 2 * m → A e < 16) (hB : ∀ e, e < 2 * m → B e < 16) (R : fy_R m A B L st x) (R' : fy_R m A B L st x') (hsub : ∀ i, i < 32 → bt x i = true → bt x' i = true)
    (hst : ∀ e, e < 2 * m → bt x (A e) = true → 0 < L e → bt x' (B e) = true) (h : fy_cl m A B L (bt x) ∨ (k : Int) + 1 ≤ fy_n x) : fy_cl m A B L (bt x') ∨ ((k + 1 : Nat) : Int) + 1 ≤ fy_n x' := by
  have same : fy_cl m A B L (bt x) → x' = x := by
    intro hc
    refine b_ext (fun i hi => ?_)
    by_cases q : bt x i = true
    · rw [q, hsub i hi q]
    · have : ¬ bt x' i = true := fun y => q (R'.2 (bt x) hc R.1 i hi y)
      rw [Bool.eq_false_iff.mpr q, Bool.eq_false_iff.mpr this]
  rcases h with h | h
  · left
    rw [same h]; exact h
  · by_cases q : ∀ n, n < 16 → bt x' n = true → bt x n = true
    · left
      have hc : fy_cl m A B L (bt x) := fun e he h1 h2 => q _ (hB e he) (hst e he h1 h2)
      rw [same hc]; exact hc
    · right
      have : ∃ n, n < 16 ∧ bt x' n = true ∧ ¬ bt x n = true := by
        apply Classical.byContradiction
        intro hno
        exact q (fun n hn h1 => Classical.byContradiction (fun h2 => hno ⟨n, hn, h1, h2⟩))
      obtain ⟨n, hn, h1, h2⟩ := this
      have hlt : fy_n x < fy_n x' := by
        refine fb_lt (k := n) (fun i hi => ?_) hn ?_
        · by_cases y : bt x i = true
          · rw [if_pos y, if_pos (hsub i (by omega) y)]; omega
          · rw [if_neg y]
            split <;> omega
        · rw [if_neg h2, if_pos h1]; omega
      omega
theorem fy_start {n : Nat} (hn : n < 16) (h : bt st n = true) : (0 : Int) + 1 ≤ fy_n st := by
  have := fb_ge (f := fun k => if bt st k = true then (1 : Int) else 0) (n := 16) (k := n) (fun i hi => by split <;> omega) hn
  rw [if_pos h] at this
  unfold fy_n
  omega
end SETS
section SETW
variable {fpr fso fsi fed ffl fqf fqs foc : Int32} {afo ato aro aet ale afe anx alv acu acb aex ahs aqu aqd apa ago ane atr aor : Nat → Int32}
variable {m : Nat} {hd : Nat → Nat}
theorem fy_s13 {post : Int32 → Prop} {J : _} {x3 st x0 : Int32} (hm : m ≤ 28) (hE : ∀ e, e < 2 * m → aet e = nI (hd e)) (H : fc_HD m hd)
    (K : ∀ x, fy_R m (fun e => hd (fc_xr e)) hd (fa_tI ale) st x → (∀ i, i < 32 → bt x0 i = true → bt x i = true) → (∀ e, e < 2 * m → bt x0 (hd (fc_xr e)) = true → 0 < fa_tI ale e → bt x (hd e) = true) → J x (x3 + 1)) :
    ∀ (k i : Nat) (x : Int32), i + k = 2 * m → fy_R m (fun e => hd (fc_xr e)) hd (fa_tI ale) st x → (∀ i, i < 32 → bt x0 i = true → bt x i = true) → (∀ e, e < i → bt x0 (hd (fc_xr e)) = true → 0 < fa_tI ale e → bt x (hd e) = true) →
      wX_spreadSet_13 post J x3 fpr fso fsi (nI (2 * m)) ffl fqf fqs foc afo ato aro aet ale afe anx alv acu acb aex ahs aqu aqd apa ago ane atr aor (k + 1) x (nI i) := by
  intro k
  induction k with
  | zero =>
    intro i x hi R hs h
    rw [wX_spreadSet_13]
    obtain rfl : i = 2 * m := by omega
    exact br_t (nI_le (Nat.le_refl _) (by omega)) (nm_e (K x R hs h))
  | succ k ih =>
    intro i x hi R hs h
    have hi2 : i < 2 * m := by omega
    have ci : (nI i).toNatClampNeg = i := fa_cl (by omega)
    have wi : vp_in (nI i) 56 := fa_in (by omega) (by omega)
    have ex : (nI i ^^^ 1) = nI (fc_xr i) := fa_xor i (by omega)
    have hx := fc_x56 (n := i) (by omega)
    have a16 := (H _ (fc_xlt hi2)).1
    have b16 := (H i hi2).1
    have e0 : x ||| 0 = x := fb1_or0 x
    have skip : (bt x (hd (fc_xr i)) = true → 0 < fa_tI ale i → False) → wX_spreadSet_13 post J x3 fpr fso fsi (nI (2 * m)) ffl fqf fqs foc afo ato aro aet ale afe anx alv acu acb aex ahs aqu aqd apa ago ane atr aor (k + 1) x (nI (i + 1)) := by
      intro hno
      refine ih _ _ (by omega) R hs (fun e he g1 g2 => ?_)
      by_cases q : e = i
      · rw [q] at g1 g2
        exact absurd g2 (hno (hs _ (by omega) g1))
      · exact h e (by omega) g1 g2
    rw [wX_spreadSet_13]
    refine br_f (nI_ge (by omega) (by omega)) ⟨by rw [ex]; exact fa_in hx (by omega), nm_r (e' := nI (hd (fc_xr i))) (by rw [ex, fa_cl (by omega), hE _ (fc_xlt hi2)]) ⟨wi, br_c (fun z => nm_r e0 (nm_r (nI_1 i) (skip (fun _ y => ?_)))) (fun z => br_c (fun z1 => nm_r e0 (nm_r (nI_1 i) (skip (fun y _ => ?_)))) (fun z1 => ⟨wi, nm_r (e' := x ||| ((1 : Int32) <<< (nI (hd i) &&& 31))) (by rw [ci, hE i hi2]) (nm_r (nI_1 i) (ih _ _ (by omega) ?_ (fun j hj g => ?_) (fun e he g1 g2 => ?_)))⟩))⟩⟩
    · rw [ci, fa_le, fa_0] at z
      simp only [fa_tI] at y
      omega
    · rw [fb1_z (by omega)] at z1
      rw [z1] at y
      exact absurd y (by decide)
    · rw [ci, fa_le, fa_0] at z
      rw [fb1_z (by omega)] at z1
      exact fy_Rs (A := fun e => hd (fc_xr e)) (B := hd) R hi2 a16 b16 (by simpa using z1) (by simp only [fa_tI]; omega)
    · rw [fb1_oh (by omega) hj, hs j hj g, Bool.true_or]
    · by_cases q : e = i
      · rw [q, fb1_oh (by omega) (by omega)]; simp
      · have he2 : e < 2 * m := by omega
        rw [fb1_oh (by omega) (by have := (H e he2).1; omega), h e (by omega) g1 g2, Bool.true_or]
theorem fy_s4 {post : Int32 → Prop} {st : Int32} (hm : m ≤ 28) (hE : ∀ e, e < 2 * m → aet e = nI (hd e)) (H : fc_HD m hd)
    (K : ∀ x, fy_R m (fun e => hd (fc_xr e)) hd (fa_tI ale) st x → fy_cl m (fun e => hd (fc_xr e)) hd (fa_tI ale) (bt x) → post x) :
    ∀ (k i : Nat) (x : Int32), i + k = 16 → fy_R m (fun e => hd (fc_xr e)) hd (fa_tI ale) st x → (fy_cl m (fun e => hd (fc_xr e)) hd (fa_tI ale) (bt x) ∨ (i : Int) + 1 ≤ fy_n x) →
      wX_spreadSet_4 post fpr fso fsi (nI (2 * m)) ffl fqf fqs foc afo ato aro aet ale afe anx alv acu acb aex ahs aqu aqd apa ago ane atr aor (k + 1) x (nI i) := by
  intro k
  induction k with
  | zero =>
    intro i x hi R h
    rw [wX_spreadSet_4]
    refine br_t (fa_t16 (by omega) (by omega)) (K x R ?_)
    rcases h with h | h
    · exact h
    · have := (fy_nb x).2
      omega
  | succ k ih =>
    intro i x hi R h
    rw [wX_spreadSet_4]
    refine br_f (fa_f16 (by omega)) ⟨2 * m + 1, fy_s13 (x0 := x) hm hE H (fun x' R' hs hst => ?_) (2 * m) 0 x (by omega) R (fun _ _ g => g) (fun e he => by omega)⟩
    rw [nI_1]
    exact ih _ _ (by omega) R' (fy_round (fun e he => (H _ (fc_xlt he)).1) (fun e he => (H e he).1) R R' hs hst h)
theorem fy_spread {post : Int32 → Prop} {st : Int32} {n : Nat} (hm : m ≤ 28) (hE : ∀ e, e < 2 * m → aet e = nI (hd e)) (H : fc_HD m hd) (hn : n < 16) (hb : bt st n = true)
    (K : ∀ x, fy_R m (fun e => hd (fc_xr e)) hd (fa_tI ale) st x → fy_cl m (fun e => hd (fc_xr e)) hd (fa_tI ale) (bt x) → post x) : wpX_spreadSet post (fpr, fso, fsi, nI (2 * m), ffl, fqf, fqs, foc, afo, ato, aro, aet, ale, afe, anx, alv, acu, acb, aex, ahs, aqu, aqd, apa, ago, ane, atr, aor) st :=
  ⟨17, fy_s4 hm hE H K 16 0 st rfl ⟨fun _ _ g => g, fun _ _ h => h⟩ (Or.inr (fy_start hn hb))⟩
theorem fy_c17 {post : Int32 → Prop} {J : _} {x2 st x0 : Int32} (hm : m ≤ 28) (hE : ∀ e, e < 2 * m → aet e = nI (hd e)) (H : fc_HD m hd)
    (K : ∀ x, fy_R m hd (fun e => hd (fc_xr e)) (fa_tI ale) st x → (∀ i, i < 32 → bt x0 i = true → bt x i = true) → (∀ e, e < 2 * m → bt x0 (hd e) = true → 0 < fa_tI ale e → bt x (hd (fc_xr e)) = true) → J x (x2 + 1)) :
    ∀ (k i : Nat) (x : Int32), i + k = 2 * m → fy_R m hd (fun e => hd (fc_xr e)) (fa_tI ale) st x → (∀ i, i < 32 → bt x0 i = true → bt x i = true) → (∀ e, e < i → bt x0 (hd e) = true → 0 < fa_tI ale e → bt x (hd (fc_xr e)) = true) →
      wX_comingSet_17 post J x2 fpr fso fsi (nI (2 * m)) ffl fqf fqs foc afo ato aro aet ale afe anx alv acu acb aex ahs aqu aqd apa ago ane atr aor (k + 1) x (nI i) := by
  intro k
  induction k with
  | zero =>
    intro i x hi R hs h
    rw [wX_comingSet_17]
    obtain rfl : i = 2 * m := by omega
    exact br_t (nI_le (Nat.le_refl _) (by omega)) (nm_e (K x R hs h))
  | succ k ih =>
    intro i x hi R hs h
    have hi2 : i < 2 * m := by omega
    have ci : (nI i).toNatClampNeg = i := fa_cl (by omega)
    have wi : vp_in (nI i) 56 := fa_in (by omega) (by omega)
    have ex : (nI i ^^^ 1) = nI (fc_xr i) := fa_xor i (by omega)
    have hx := fc_x56 (n := i) (by omega)
    have a16 := (H _ (fc_xlt hi2)).1
    have b16 := (H i hi2).1
    have e0 : x ||| 0 = x := fb1_or0 x
    have ei : aet (nI i).toNatClampNeg = nI (hd i) := by rw [ci, hE i hi2]
    have skip : (bt x (hd i) = true → 0 < fa_tI ale i → False) → wX_comingSet_17 post J x2 fpr fso fsi (nI (2 * m)) ffl fqf fqs foc afo ato aro aet ale afe anx alv acu acb aex ahs aqu aqd apa ago ane atr aor (k + 1) x (nI (i + 1)) := by
      intro hno
      refine ih _ _ (by omega) R hs (fun e he g1 g2 => ?_)
      by_cases q : e = i
      · rw [q] at g1 g2
        exact absurd g2 (hno (hs _ (by omega) g1))
      · exact h e (by omega) g1 g2
    rw [wX_comingSet_17]
    refine br_f (nI_ge (by omega) (by omega)) ⟨by rw [ex]; exact fa_in hx (by omega), nm_r (e' := nI (hd (fc_xr i))) (by rw [ex, fa_cl (by omega), hE _ (fc_xlt hi2)]) ⟨wi, br_c (fun z => nm_r e0 (nm_r (nI_1 i) (skip (fun _ y => ?_)))) (fun z => ⟨wi, br_c (fun z1 => nm_r e0 (nm_r (nI_1 i) (skip (fun y _ => ?_)))) (fun z1 => nm_e (nm_r (nI_1 i) (ih _ _ (by omega) ?_ (fun j hj g => ?_) (fun e he g1 g2 => ?_))))⟩)⟩⟩
    · rw [ci, fa_le, fa_0] at z
      simp only [fa_tI] at y
      omega
    · rw [ei, fb1_z (by omega)] at z1
      rw [z1] at y
      exact absurd y (by decide)
    · rw [ci, fa_le, fa_0] at z
      rw [ei, fb1_z (by omega)] at z1
      exact fy_Rs (A := hd) (B := fun e => hd (fc_xr e)) R hi2 b16 a16 (by simpa using z1) (by simp only [fa_tI]; omega)
    · rw [fb1_oh (by omega) hj, hs j hj g, Bool.true_or]
    · by_cases q : e = i
      · rw [q, fb1_oh (by omega) (by omega)]; simp
      · have he2 : e < 2 * m := by omega
        rw [fb1_oh (by omega) (by have := (H _ (fc_xlt he2)).1; omega), h e (by omega) g1 g2, Bool.true_or]
theorem fy_c9 {post : Int32 → Prop} {st : Int32} (hm : m ≤ 28) (hE : ∀ e, e < 2 * m → aet e = nI (hd e)) (H : fc_HD m hd)
    (K : ∀ x, fy_R m hd (fun e => hd (fc_xr e)) (fa_tI ale) st x → fy_cl m hd (fun e => hd (fc_xr e)) (fa_tI ale) (bt x) → post x) :
    ∀ (k i : Nat) (x : Int32), i + k = 16 → fy_R m hd (fun e => hd (fc_xr e)) (fa_tI ale) st x → (fy_cl m hd (fun e => hd (fc_xr e)) (fa_tI ale) (bt x) ∨ (i : Int) + 1 ≤ fy_n x) →
      wX_comingSet_9 post fpr fso fsi (nI (2 * m)) ffl fqf fqs foc afo ato aro aet ale afe anx alv acu acb aex ahs aqu aqd apa ago ane atr aor (k + 1) x (nI i) := by
  intro k
  induction k with
  | zero =>
    intro i x hi R h
    rw [wX_comingSet_9]
    refine br_t (fa_t16 (by omega) (by omega)) (K x R ?_)
    rcases h with h | h
    · exact h
    · have := (fy_nb x).2
      omega
  | succ k ih =>
    intro i x hi R h
    rw [wX_comingSet_9]
    refine br_f (fa_f16 (by omega)) ⟨2 * m + 1, fy_c17 (x0 := x) hm hE H (fun x' R' hs hst => ?_) (2 * m) 0 x (by omega) R (fun _ _ g => g) (fun e he => by omega)⟩
    rw [nI_1]
    exact ih _ _ (by omega) R' (fy_round (fun e he => (H e he).1) (fun e he => (H _ (fc_xlt he)).1) R R' hs hst h)
theorem fy_coming {post : Int32 → Prop} {t : Nat} (hm : m ≤ 28) (hE : ∀ e, e < 2 * m → aet e = nI (hd e)) (H : fc_HD m hd) (ht : t < 16)
    (K : ∀ x, fy_R m hd (fun e => hd (fc_xr e)) (fa_tI ale) ((1 : Int32) <<< (nI t &&& 31)) x → fy_cl m hd (fun e => hd (fc_xr e)) (fa_tI ale) (bt x) → post x) : wpX_comingSet post (fpr, fso, nI t, nI (2 * m), ffl, fqf, fqs, foc, afo, ato, aro, aet, ale, afe, anx, alv, acu, acb, aex, ahs, aqu, aqd, apa, ago, ane, atr, aor) :=
  nm_e ⟨17, fy_c9 hm hE H K 16 0 _ rfl ⟨fun _ _ g => g, fun _ _ h => h⟩ (Or.inr (fy_start ht (by rw [fb1_h (by omega) (by omega)]; simp)))⟩
end SETW
end
section
/-! 22: the reference: sizeOf, gather, search -/
def fy_D (yth yfr yto yro : Nat → Int32) (th : Nat → Bool) (fr tt rm : Nat → Nat) : Prop :=
  ∀ k, k < 20 → yth k = (if th k = true then 1 else 0) ∧ yfr k = nI (fr k) ∧ yto k = nI (tt k) ∧ yro k = nI (rm k) ∧ fr k < 8 ∧ tt k < 8 ∧ rm k ≤ 99
def fy_on (kind : Nat) : Int32 := if kind = 1 ∨ kind = 2 then 1 else 0
def fy_sz (kind : Nat) (th : Nat → Bool) (fr tt rm : Nat → Nat) (o i : Nat → Bool) (n : Nat) : Int :=
  fb_sm (fun k => if th k = true ∧ o (fr k) = true ∧ i (tt k) = false then (fd_rv kind (rm k) : Int) else 0) n
theorem fy_szb {kind : Nat} {th : Nat → Bool} {fr tt rm : Nat → Nat} {o i : Nat → Bool} (hr : ∀ k, k < 20 → rm k ≤ 99) {n : Nat} (hn : n ≤ 20) : 0 ≤ fy_sz kind th fr tt rm o i n ∧ fy_sz kind th fr tt rm o i n ≤ 1980 := by
  constructor
  · exact fb_nn (fun k hk => by split <;> omega)
  · have h : fy_sz kind th fr tt rm o i n ≤ fb_sm (fun _ => 99) n := fb_le (fun k hk => by
      have := fd_rv_le (kind := kind) (hr k (by omega))
      split <;> omega)
    rw [fb_const] at h
    omega
theorem fy_szc {kind : Nat} {th : Nat → Bool} {fr tt rm : Nat → Nat} {o i o' i' : Nat → Bool} (h8 : ∀ k, k < 20 → fr k < 8 ∧ tt k < 8) (ho : ∀ p, p < 8 → o p = o' p) (hi : ∀ p, p < 8 → i p = i' p) : fy_sz kind th fr tt rm o i 20 = fy_sz kind th fr tt rm o' i' 20 := by
  refine fb_congr (fun k hk => ?_)
  rw [ho _ (h8 k hk).1, hi _ (h8 k hk).2]
theorem fy_btn {d i : Nat} (hi : i < 32) : bt (nI d) i = d.testBit i := by
  unfold bt
  show (BitVec.ofNat 32 d).getLsbD i = _
  rw [BitVec.getLsbD_ofNat]
  simp [hi]
section REFS
variable {ysz yco yjo ycs yca : Int32} {yth yfr yto yro : Nat → Int32}
variable {th : Nat → Bool} {fr tt rm : Nat → Nat} {kind s t : Nat}
theorem fy_cuts {post : Int32 → Prop} {k : Nat} {o i : Int32} (D : fy_D yth yfr yto yro th fr tt rm) (hk : k < 20) (h1 : (th k = true ∧ bt o (fr k) = true ∧ bt i (tt k) = false) → post 1) (h0 : ¬ (th k = true ∧ bt o (fr k) = true ∧ bt i (tt k) = false) → post 0) :
    wpY_cuts post (ysz, yco, yjo, ycs, yca, yth, yfr, yto, yro) o i (nI k) := by
  obtain ⟨d1, d2, d3, d4, d5, d6, d7⟩ := D k hk
  have ck : (nI k).toNatClampNeg = k := fa_cl (by omega)
  have wk : vp_in (nI k) 20 := fa_in hk (by omega)
  unfold wpY_cuts
  dsimp only
  rw [ck, d2, d3]
  refine ⟨wk, br_c (fun z => h0 (fun y => ?_)) (fun z => ⟨wk, br_c (fun z1 => ⟨wk, br_c (fun z2 => h1 ⟨?_, ?_, ?_⟩) (fun z2 => h0 (fun y => z2 ?_))⟩) (fun z1 => h0 (fun y => z1 ?_))⟩)⟩
  · rw [d1, if_pos y.1] at z; exact absurd z (by decide)
  · cases q : th k with
    | true => rfl
    | false =>
      rw [d1, q] at z
      exact absurd rfl z
  · exact (fb1_o (by omega)).mp z1
  · exact (fb1_z (by omega)).mp z2
  · exact (fb1_z (by omega)).mpr y.2.2
  · exact (fb1_o (by omega)).mpr y.2.1
theorem fy_sz6 {post : Int32 → Prop} {o i : Int32} (D : fy_D yth yfr yto yro th fr tt rm) (hk4 : kind < 4) (K : ∀ x : Int32, x.toInt = fy_sz kind th fr tt rm (bt o) (bt i) 20 → post x) :
    ∀ (d k : Nat) (x4 : Int32), k + d = 20 → x4.toInt = fy_sz kind th fr tt rm (bt o) (bt i) k → wY_sizeOf_6 post o i (fy_on kind) ysz yco yjo ycs yca yth yfr yto yro (d + 1) x4 (nI k) := by
  intro d
  induction d with
  | zero =>
    intro k x4 hk h
    obtain rfl : k = 20 := by omega
    rw [wY_sizeOf_6]
    exact br_t (fa_t20 (by omega) (by omega)) (K _ h)
  | succ d ih =>
    intro k x4 hk h
    obtain ⟨d1, d2, d3, d4, d5, d6, d7⟩ := D k (by omega)
    have ck : (nI k).toNatClampNeg = k := fa_cl (by omega)
    have wk : vp_in (nI k) 20 := fa_in (by omega) (by omega)
    have sb := fy_szb (kind := kind) (th := th) (fr := fr) (tt := tt) (o := bt o) (i := bt i) (n := k) (fun k hk => (D k hk).2.2.2.2.2.2) (by omega)
    have rb := fd_rv_le (kind := kind) d7
    have j42 : ∀ v : Int32, v.toInt = fd_rv kind (rm k) → wY_sizeOf_42 post (wY_sizeOf_6 post o i (fy_on kind) ysz yco yjo ycs yca yth yfr yto yro (d + 1)) o i (fy_on kind) x4 (nI k) v ysz yco yjo ycs yca yth yfr yto yro := by
      intro v hv
      refine fy_cuts D (by omega) (fun c => br_f (by decide) (fun y ey => nm_r (nI_1 k) (ih _ _ (by omega) ?_))) (fun c => br_t rfl (nm_r (nI_1 k) (ih _ _ (by omega) ?_)))
      · rw [ey, fa_add (by omega) (by omega), h, hv]
        unfold fy_sz
        rw [fb_s, if_pos c]
      · rw [h]
        unfold fy_sz
        rw [fb_s, if_neg c]; omega
    rw [wY_sizeOf_6]
    by_cases on : kind = 1 ∨ kind = 2
    · have e1 : fy_on kind = 1 := if_pos on
      have r1 : fd_rv kind (rm k) = if 0 < rm k then 1 else 0 := if_pos on
      refine br_f (fa_f20 (by omega)) (br_f (by rw [e1]; decide) ⟨wk, ?_⟩)
      have r0 : yro (nI k).toNatClampNeg ≤ 0 ↔ rm k = 0 := by
        rw [ck, d4, show (0 : Int32) = nI 0 from rfl, nI_leI (by omega) (by omega)]; omega
      refine br_c (fun z => j42 _ ?_) (fun z => j42 _ ?_)
      · rw [r1, if_neg (by have := r0.mp z; omega), fa_0]; rfl
      · have : ¬ rm k = 0 := fun y => z (r0.mpr y)
        rw [r1, if_pos (by omega), fa_1]; rfl
    · have e1 : fy_on kind = 0 := if_neg on
      have r1 : fd_rv kind (rm k) = rm k := if_neg on
      refine br_f (fa_f20 (by omega)) (br_t e1 ⟨wk, j42 _ ?_⟩)
      rw [ck, d4, r1]
      exact fa_ti (by omega)
theorem fy_size {post : Int32 → Prop} {o i : Int32} (D : fy_D yth yfr yto yro th fr tt rm) (hk4 : kind < 4) (K : ∀ x : Int32, x.toInt = fy_sz kind th fr tt rm (bt o) (bt i) 20 → post x) : wpY_sizeOf post (ysz, yco, yjo, ycs, yca, yth, yfr, yto, yro) o i (fy_on kind) :=
  ⟨21, fy_sz6 D hk4 K 20 0 0 rfl rfl⟩
theorem fy_g4 {post : SY → Prop} {x1 : Int32} (D : fy_D yth yfr yto yro th fr tt rm)
    (K : ∀ x : Int32, (∀ k, k < 32 → (bt x k = true ↔ (k < 20 ∧ th k = true ∧ bt x1 (fr k) = true ∧ bt x1 (tt k) = false))) → post (ysz, yco &&& x1, yjo ||| x1, ycs ||| x, yca &&& x, yth, yfr, yto, yro)) :
    ∀ (d k : Nat) (x2 : Int32), k + d = 20 → (∀ j, j < 32 → (bt x2 j = true ↔ (j < k ∧ th j = true ∧ bt x1 (fr j) = true ∧ bt x1 (tt j) = false))) → wY_gather_4 post x1 ysz yco yjo ycs yca yth yfr yto yro (d + 1) x2 (nI k) := by
  intro d
  induction d with
  | zero =>
    intro k x2 hk h
    obtain rfl : k = 20 := by omega
    rw [wY_gather_4]
    exact br_t (fa_t20 (by omega) (by omega)) (nm_e (nm_e (nm_e (nm_e (K x2 h)))))
  | succ d ih =>
    intro k x2 hk h
    rw [wY_gather_4]
    refine br_f (fa_f20 (by omega)) (fy_cuts D (by omega) (fun c => br_f (by decide) (nm_e (nm_r (nI_1 k) (ih _ _ (by omega) (fun j hj => ?_))))) (fun c => br_t rfl (nm_r (nI_1 k) (ih _ _ (by omega) (fun j hj => ?_)))))
    · rw [fb1_oh (by omega) hj, Bool.or_eq_true, h j hj, decide_eq_true_eq]
      constructor
      · rintro (y | y)
        · exact ⟨by omega, y.2⟩
        · rw [y]; exact ⟨by omega, c⟩
      · rintro ⟨y1, y2⟩
        by_cases q : j = k
        · exact Or.inr q
        · exact Or.inl ⟨by omega, y2⟩
    · rw [h j hj]
      constructor
      · exact fun y => ⟨by omega, y.2⟩
      · rintro ⟨y1, y2⟩
        by_cases q : j = k
        · rw [q] at y2; exact absurd y2 c
        · exact ⟨by omega, y2⟩
theorem fy_gather {post : SY → Prop} {x1 : Int32} (D : fy_D yth yfr yto yro th fr tt rm)
    (K : ∀ x : Int32, (∀ k, k < 32 → (bt x k = true ↔ (k < 20 ∧ th k = true ∧ bt x1 (fr k) = true ∧ bt x1 (tt k) = false))) → post (ysz, yco &&& x1, yjo ||| x1, ycs ||| x, yca &&& x, yth, yfr, yto, yro)) : wpY_gather post (ysz, yco, yjo, ycs, yca, yth, yfr, yto, yro) x1 :=
  ⟨21, fy_g4 D K 20 0 0 rfl (fun j hj => ⟨fun y => by rw [b_0] at y; exact absurd y (by decide), fun y => absurd y.1 (by omega)⟩)⟩
def fy_V (s t d : Nat) : Prop := d.testBit s = true ∧ d.testBit t = false
def fy_Z (kind : Nat) (th : Nat → Bool) (fr tt rm : Nat → Nat) (d : Nat) : Int := fy_sz kind th fr tt rm d.testBit d.testBit 20
def fy_cd (th : Nat → Bool) (fr tt : Nat → Nat) (d k : Nat) : Prop := k < 20 ∧ th k = true ∧ d.testBit (fr k) = true ∧ d.testBit (tt k) = false
/-- what is gathered over the sides below j of the size z -/
def fy_G (kind s t : Nat) (th : Nat → Bool) (fr tt rm : Nat → Nat) (j : Nat) (z : Int) (yco yjo ycs yca : Int32) : Prop :=
  (∀ d, d < j → fy_V s t d → z ≤ fy_Z kind th fr tt rm d) ∧
  (∀ i, i < 32 → (bt yco i = true ↔ (i < 8 ∧ ∀ d, d < j → fy_V s t d → fy_Z kind th fr tt rm d = z → d.testBit i = true))) ∧
  (∀ i, i < 32 → (bt yjo i = true ↔ ∃ d, d < j ∧ fy_V s t d ∧ fy_Z kind th fr tt rm d = z ∧ d.testBit i = true)) ∧
  (∀ i, i < 32 → (bt ycs i = true ↔ ∃ d, d < j ∧ fy_V s t d ∧ fy_Z kind th fr tt rm d = z ∧ fy_cd th fr tt d i)) ∧
  (∀ i, i < 32 → (bt yca i = true ↔ ∀ d, d < j → fy_V s t d → fy_Z kind th fr tt rm d = z → fy_cd th fr tt d i))
def fy_S (kind s t : Nat) (th : Nat → Bool) (fr tt rm : Nat → Nat) (j : Nat) (ysz yco yjo ycs yca : Int32) : Prop :=
  (∃ d, d < j ∧ fy_V s t d ∧ fy_Z kind th fr tt rm d = ysz.toInt) ∧ fy_G kind s t th fr tt rm j ysz.toInt yco yjo ycs yca
/-- a side that doesn't count -/
theorem fy_Gs {j : Nat} {z : Int} (G : fy_G kind s t th fr tt rm j z yco yjo ycs yca) (h : fy_V s t j → z < fy_Z kind th fr tt rm j) : fy_G kind s t th fr tt rm (j + 1) z yco yjo ycs yca := by
  obtain ⟨G1, G2, G3, G4, G5⟩ := G
  have lt : ∀ d, d < j + 1 → fy_V s t d → fy_Z kind th fr tt rm d = z → d < j := by
    intro d hd hv hz
    by_cases q : d = j
    · subst q
      have := h hv
      omega
    · omega
  refine ⟨fun d hd hv => ?_, fun i hi => ?_, fun i hi => ?_, fun i hi => ?_, fun i hi => ?_⟩
  · by_cases q : d = j
    · subst q
      have := h hv
      omega
    · exact G1 d (by omega) hv
  · rw [G2 i hi]
    exact ⟨fun y => ⟨y.1, fun d hd hv hz => y.2 d (lt d hd hv hz) hv hz⟩, fun y => ⟨y.1, fun d hd hv hz => y.2 d (by omega) hv hz⟩⟩
  · rw [G3 i hi]
    constructor
    · rintro ⟨d, a, b⟩
      exact ⟨d, by omega, b⟩
    · rintro ⟨d, a, b⟩
      exact ⟨d, lt d a b.1 b.2.1, b⟩
  · rw [G4 i hi]
    constructor
    · rintro ⟨d, a, b⟩
      exact ⟨d, by omega, b⟩
    · rintro ⟨d, a, b⟩
      exact ⟨d, lt d a b.1 b.2.1, b⟩
  · rw [G5 i hi]
    exact ⟨fun y d hd hv hz => y d (lt d hd hv hz) hv hz, fun y d hd hv hz => y d (by omega) hv hz⟩
theorem fy_G0 {j : Nat} {z : Int} (h : ∀ d, d < j → fy_V s t d → z < fy_Z kind th fr tt rm d) : fy_G kind s t th fr tt rm j z 255 0 0 (-1) := by
  have no : ∀ d, d < j → fy_V s t d → fy_Z kind th fr tt rm d = z → False := fun d hd hv hz => by have := h d hd hv; omega
  refine ⟨fun d hd hv => by have := h d hd hv; omega, fun i hi => ?_, fun i hi => ?_, fun i hi => ?_, fun i hi => ?_⟩
  · rw [b_255, decide_eq_true_eq]
    exact ⟨fun y => ⟨y, fun d hd hv hz => (no d hd hv hz).elim⟩, fun y => y.1⟩
  · rw [b_0]
    exact ⟨fun y => absurd y (by decide), fun ⟨d, a, b, c, _⟩ => (no d a b c).elim⟩
  · rw [b_0]
    exact ⟨fun y => absurd y (by decide), fun ⟨d, a, b, c, _⟩ => (no d a b c).elim⟩
  · rw [b_m1 i hi]
    exact ⟨fun _ d hd hv hz => (no d hd hv hz).elim, fun _ => rfl⟩
theorem fy_Gg {j : Nat} {z : Int} {x : Int32} (hj : j < 256) (hs : s < 8) (ht : t < 8) (G : fy_G kind s t th fr tt rm j z yco yjo ycs yca) (hv : fy_V s t j) (hz : fy_Z kind th fr tt rm j = z) (h8 : ∀ k, k < 20 → fr k < 8 ∧ tt k < 8)
    (hx : ∀ k, k < 32 → (bt x k = true ↔ (k < 20 ∧ th k = true ∧ bt (nI j) (fr k) = true ∧ bt (nI j) (tt k) = false))) :
    fy_G kind s t th fr tt rm (j + 1) z (yco &&& nI j) (yjo ||| nI j) (ycs ||| x) (yca &&& x) := by
  obtain ⟨G1, G2, G3, G4, G5⟩ := G
  have hx' : ∀ k, k < 32 → (bt x k = true ↔ fy_cd th fr tt j k) := by
    intro k hk
    rw [hx k hk]
    unfold fy_cd
    constructor
    · rintro ⟨a, b⟩
      have := h8 k a
      rw [fy_btn (by omega), fy_btn (by omega)] at b
      exact ⟨a, b⟩
    · rintro ⟨a, b⟩
      have := h8 k a
      rw [fy_btn (by omega), fy_btn (by omega)]
      exact ⟨a, b⟩
  refine ⟨fun d hd hv' => ?_, fun i hi => ?_, fun i hi => ?_, fun i hi => ?_, fun i hi => ?_⟩
  · by_cases q : d = j
    · rw [q, hz]; exact Int.le_refl _
    · exact G1 d (by omega) hv'
  · rw [b_and, Bool.and_eq_true, G2 i hi, fy_btn hi]
    constructor
    · rintro ⟨⟨a, b⟩, c⟩
      refine ⟨a, fun d hd hv' hz' => ?_⟩
      by_cases q : d = j
      · rw [q]; exact c
      · exact b d (by omega) hv' hz'
    · rintro ⟨a, b⟩
      exact ⟨⟨a, fun d hd hv' hz' => b d (by omega) hv' hz'⟩, b j (by omega) hv hz⟩
  · rw [b_or, Bool.or_eq_true, G3 i hi, fy_btn hi]
    constructor
    · rintro (⟨d, a, b⟩ | c)
      · exact ⟨d, by omega, b⟩
      · exact ⟨j, by omega, hv, hz, c⟩
    · rintro ⟨d, a, b⟩
      by_cases q : d = j
      · rw [q] at b; exact Or.inr b.2.2
      · exact Or.inl ⟨d, by omega, b⟩
  · rw [b_or, Bool.or_eq_true, G4 i hi, hx' i hi]
    constructor
    · rintro (⟨d, a, b⟩ | c)
      · exact ⟨d, by omega, b⟩
      · exact ⟨j, by omega, hv, hz, c⟩
    · rintro ⟨d, a, b⟩
      by_cases q : d = j
      · rw [q] at b; exact Or.inr b.2.2
      · exact Or.inl ⟨d, by omega, b⟩
  · rw [b_and, Bool.and_eq_true, G5 i hi, hx' i hi]
    constructor
    · rintro ⟨b, c⟩ d hd hv' hz'
      by_cases q : d = j
      · rw [q]; exact c
      · exact b d (by omega) hv' hz'
    · intro b
      exact ⟨fun d hd hv' hz' => b d (by omega) hv' hz', b j (by omega) hv hz⟩
theorem fy_s10 {post : SY → Prop} (D : fy_D yth yfr yto yro th fr tt rm) (hk4 : kind < 4) (hs : s < 8) (ht : t < 8)
    (K : ∀ ysz yco yjo ycs yca, ((ysz.toInt = 10000 ∧ ∀ d, d < 256 → ¬ fy_V s t d) ∨ fy_S kind s t th fr tt rm 256 ysz yco yjo ycs yca) → post (ysz, yco, yjo, ycs, yca, yth, yfr, yto, yro)) :
    ∀ (k j : Nat) (ysz yco yjo ycs yca : Int32), j + k = 256 → ((ysz.toInt = 10000 ∧ ∀ d, d < j → ¬ fy_V s t d) ∨ fy_S kind s t th fr tt rm j ysz yco yjo ycs yca) → wY_search_10 post (nI s) (nI t) (fy_on kind) (k + 1) (nI j) ysz yco yjo ycs yca yth yfr yto yro := by
  have h8 : ∀ k, k < 20 → fr k < 8 ∧ tt k < 8 := fun k hk => ⟨(D k hk).2.2.2.2.1, (D k hk).2.2.2.2.2.1⟩
  intro k
  induction k with
  | zero =>
    intro j ysz yco yjo ycs yca hj h
    obtain rfl : j = 256 := by omega
    rw [wY_search_10]
    exact br_t (by decide) (K _ _ _ _ _ h)
  | succ k ih =>
    intro j ysz yco yjo ycs yca hj h
    have skip : (fy_V s t j → ysz.toInt < fy_Z kind th fr tt rm j) → ¬ (fy_V s t j ∧ ysz.toInt = 10000 ∧ ∀ d, d < j → ¬ fy_V s t d) → wY_search_10 post (nI s) (nI t) (fy_on kind) (k + 1) (nI (j + 1)) ysz yco yjo ycs yca yth yfr yto yro := by
      intro hlt hno
      refine ih _ _ _ _ _ _ (by omega) ?_
      rcases h with h | h
      · left
        refine ⟨h.1, fun d hd hv => ?_⟩
        by_cases q : d = j
        · rw [q] at hv; exact hno ⟨hv, h⟩
        · exact h.2 d (by omega) hv
      · right
        obtain ⟨⟨d, a, b⟩, G⟩ := h
        exact ⟨⟨d, by omega, b⟩, fy_Gs G hlt⟩
    rw [wY_search_10]
    refine br_f (fun z => ?_) (br_c (fun z1 => br_c (fun z2 => ?_) (fun z2 => nm_r (nI_1 j) (skip (fun y => ?_) (fun y => ?_)))) (fun z1 => nm_r (nI_1 j) (skip (fun y => ?_) (fun y => ?_))))
    · have := (fa_ge (x := 256) (N := 256) rfl (by omega) (by omega)).mp z
      omega
    · rw [fb1_o (by omega), fy_btn (by omega)] at z1
      rw [fb1_z (by omega), fy_btn (by omega)] at z2
      have hv : fy_V s t j := ⟨z1, z2⟩
      refine fy_size D hk4 (fun x hx => ?_)
      have eZ : x.toInt = fy_Z kind th fr tt rm j := by
        rw [hx]
        exact fy_szc h8 (fun p hp => fy_btn (by omega)) (fun p hp => fy_btn (by omega))
      have zb := fy_szb (kind := kind) (th := th) (fr := fr) (tt := tt) (o := j.testBit) (i := j.testBit) (n := 20) (fun k hk => (D k hk).2.2.2.2.2.2) (by omega)
      refine br_c (fun z3 => br_c (fun z4 => ?_) (fun z4 => nm_r (nI_1 j) (skip (fun _ => ?_) (fun y => ?_)))) (fun z3 => br_t rfl ?_)
      · rw [fa_le] at z3
        have G : fy_G kind s t th fr tt rm j ysz.toInt yco yjo ycs yca := by
          rcases h with h | h
          · rw [z4, h.1] at eZ
            unfold fy_Z at eZ
            omega
          · exact h.2
        refine fy_gather D (fun m hm => nm_r (nI_1 j) (ih _ _ _ _ _ _ (by omega) (Or.inr ⟨⟨j, by omega, hv, by rw [← eZ, z4]⟩, fy_Gg (by omega) hs ht G hv (by rw [← eZ, z4]) h8 hm⟩)))
      · rw [fa_le] at z3
        rw [fa_eq] at z4
        omega
      · rw [fa_le] at z3
        unfold fy_Z at eZ
        omega
      · rw [fa_le] at z3
        have G : fy_G kind s t th fr tt rm j x.toInt 255 0 0 (-1) := by
          refine fy_G0 (fun d hd hv' => ?_)
          rcases h with h | h
          · exact absurd hv' (h.2 d hd)
          · have := h.2.1 d hd hv'
            omega
        refine fy_gather D (fun m hm => nm_r (nI_1 j) (ih _ _ _ _ _ _ (by omega) (Or.inr ⟨⟨j, by omega, hv, eZ.symm⟩, fy_Gg (by omega) hs ht G hv eZ.symm h8 hm⟩)))
    · rw [fb1_z (by omega), fy_btn (by omega)] at z2
      exact absurd y.2 z2
    · rw [fb1_z (by omega), fy_btn (by omega)] at z2
      exact z2 y.1.2
    · rw [fb1_o (by omega), fy_btn (by omega)] at z1
      exact absurd y.1 z1
    · rw [fb1_o (by omega), fy_btn (by omega)] at z1
      exact z1 y.1.1
/-- a mask for any set of points -/
theorem fy_mask : ∀ (n : Nat) (f : Nat → Bool), ∃ d, d < 2 ^ n ∧ ∀ p, p < n → d.testBit p = f p := by
  intro n
  induction n with
  | zero => intro f; exact ⟨0, by simp, fun p hp => by omega⟩
  | succ n ih =>
    intro f
    obtain ⟨d, h1, h2⟩ := ih (fun p => f (p + 1))
    refine ⟨2 * d + (if f 0 = true then 1 else 0), ?_, fun p hp => ?_⟩
    · rw [Nat.pow_succ]
      split <;> omega
    · cases p with
      | zero =>
        rw [Nat.testBit_zero]
        cases f 0 <;> simp <;> omega
      | succ p =>
        rw [Nat.testBit_succ]
        have : (2 * d + (if f 0 = true then 1 else 0)) / 2 = d := by split <;> omega
        rw [this]
        exact h2 p (by omega)
theorem fy_search {post : SY → Prop} (D : fy_D yth yfr yto yro th fr tt rm) (hk4 : kind < 4) (hs : s < 8) (ht : t < 8) (hst : s ≠ t)
    (K : ∀ ysz yco yjo ycs yca, fy_S kind s t th fr tt rm 256 ysz yco yjo ycs yca → post (ysz, yco, yjo, ycs, yca, yth, yfr, yto, yro)) : wpY_search post (ysz, yco, yjo, ycs, yca, yth, yfr, yto, yro) (nI s) (nI t) (fy_on kind) := by
  refine ⟨257, fy_s10 D hk4 hs ht (fun ysz yco yjo ycs yca h => ?_) 256 0 _ _ _ _ _ rfl (Or.inl ⟨by decide, fun d hd => by omega⟩)⟩
  rcases h with h | h
  · obtain ⟨d, h1, h2⟩ := fy_mask 8 (fun p => decide (p = s))
    refine absurd ⟨?_, ?_⟩ (h.2 d h1)
    · rw [h2 s hs]; simp
    · rw [h2 t ht]; simp; exact fun z => hst z.symm
  · exact K _ _ _ _ _ h
end REFS
end
section
/-! 23: the reference: parted (pk_sub, pk_mul, pk_div, pk_rem: rows of the kit's PURE-ROWS, pasted) -/
theorem pk_sub {a b : Nat} (h : b ≤ a) : nI a - nI b = nI (a - b) := by
  obtain ⟨c, rfl⟩ : ∃ c, a = c + b := ⟨a - b, by omega⟩
  rw [← nI_add, Int32.add_sub_cancel, Nat.add_sub_cancel]
theorem pk_mul (a b : Nat) : nI a * nI b = nI (a * b) := (Int32.ofNat_mul a b).symm
theorem pk_div {a d : Nat} (ha : a < 2 ^ 31) (h0 : 0 < d) (hd : d < 2 ^ 31) : nI a / nI d = nI (a / d) := by
  apply Int32.toInt_inj.mp
  rw [lg_idiv_nonneg (by rw [nI_toInt ha]; omega) (by rw [nI_toInt hd]; omega), nI_toInt ha, nI_toInt hd, nI_toInt (Nat.lt_of_le_of_lt (Nat.div_le_self a d) ha)]
  first | rfl | exact (Int.natCast_ediv _ _).symm
theorem pk_rem {a d : Nat} (ha : a < 2 ^ 31) (h0 : 0 < d) (hd : d < 2 ^ 31) : nI a - nI a / nI d * nI d = nI (a % d) := by
  rw [pk_div ha h0 hd, pk_mul, pk_sub (Nat.div_mul_le_self a d)]
  exact congrArg nI (by have := Nat.div_add_mod' a d; omega)
def fy_dv (c : Nat) : Nat → Nat
  | 0 => c
  | p + 1 => fy_dv c p / 3
def fy_dg (c p : Nat) : Nat := fy_dv c p % 3
def fy_ok (s t c p : Nat) : Prop := ∀ q, q < p → (q = s → fy_dg c q = 2) ∧ (q = t → fy_dg c q = 0)
def fy_pn (much c p : Nat) : Int := fb_sm (fun q => if fy_dg c q = 1 then (much : Int) else 0) p
def fy_co (kind much : Nat) (th : Nat → Bool) (fr tt rm : Nat → Nat) (c : Nat) : Int :=
  fy_pn much c 8 + fy_sz kind th fr tt rm (fun q => decide (fy_dg c q = 2)) (fun q => decide (fy_dg c q ≠ 0)) 20
theorem fy_dvb (c p : Nat) : fy_dv c p ≤ c := by
  induction p with
  | zero => exact Nat.le_refl _
  | succ p ih =>
    have : fy_dv c (p + 1) = fy_dv c p / 3 := rfl
    omega
theorem fy_dvs (c p : Nat) : fy_dv c (p + 1) = fy_dv (c / 3) p := by
  induction p with
  | zero => rfl
  | succ p ih =>
    show fy_dv c (p + 1) / 3 = fy_dv (c / 3) p / 3
    rw [ih]
theorem fy_code : ∀ (n : Nat) (f : Nat → Nat), (∀ p, f p < 3) → ∃ c, c < 3 ^ n ∧ ∀ p, p < n → fy_dg c p = f p := by
  intro n
  induction n with
  | zero => intro f _; exact ⟨0, by simp, fun p hp => by omega⟩
  | succ n ih =>
    intro f hf
    obtain ⟨c, h1, h2⟩ := ih (fun p => f (p + 1)) (fun p => hf _)
    have f0 := hf 0
    refine ⟨3 * c + f 0, ?_, fun p hp => ?_⟩
    · rw [Nat.pow_succ]
      omega
    · cases p with
      | zero =>
        show (3 * c + f 0) % 3 = f 0
        omega
      | succ p =>
        unfold fy_dg
        rw [fy_dvs]
        have : (3 * c + f 0) / 3 = c := by omega
        rw [this]
        exact h2 p (by omega)
theorem fy_pnb {much c p : Nat} (hm : much ≤ 99) (hp : p ≤ 8) : 0 ≤ fy_pn much c p ∧ fy_pn much c p ≤ 99 * p := by
  constructor
  · exact fb_nn (fun q hq => by split <;> omega)
  · have h : fy_pn much c p ≤ fb_sm (fun _ => 99) p := fb_le (fun q hq => by split <;> omega)
    rw [fb_const] at h
    omega
section PARTED
variable {ysz yco yjo ycs yca : Int32} {yth yfr yto yro : Nat → Int32}
variable {th : Nat → Bool} {fr tt rm : Nat → Nat} {kind s t much : Nat}
/-- what the inner loop holds at point p of code c -/
def fy_P (s t much c p : Nat) (x7 x8 x9 : Int32) : Prop :=
  (∀ i, i < 32 → (bt x7 i = true ↔ (i < p ∧ fy_dg c i ≠ 0))) ∧ (∀ i, i < 32 → (bt x8 i = true ↔ (i < p ∧ fy_dg c i = 2))) ∧
  ((fy_ok s t c p ∧ x9.toInt = fy_pn much c p) ∨ (¬ fy_ok s t c p ∧ 10000 ≤ x9.toInt ∧ x9.toInt ≤ 20000 + 99 * p))
theorem fy_Ps {c p : Nat} {x7 x8 x9 y7 y8 y9 : Int32} (hp : p < 8) (hm : much ≤ 99) (P : fy_P s t much c p x7 x8 x9)
    (h7 : y7 = if fy_dg c p = 0 then x7 else x7 ||| ((1 : Int32) <<< (nI p &&& 31))) (h8 : y8 = if fy_dg c p = 2 then x8 ||| ((1 : Int32) <<< (nI p &&& 31)) else x8)
    (h9 : ((p = s → fy_dg c p = 2) ∧ (p = t → fy_dg c p = 0)) ∧ y9 = (if fy_dg c p = 1 then x9 + nI much else x9) ∨ ¬ ((p = s → fy_dg c p = 2) ∧ (p = t → fy_dg c p = 0)) ∧ y9 = 20000) :
    fy_P s t much c (p + 1) y7 y8 y9 := by
  obtain ⟨P1, P2, P3⟩ := P
  have tm : (nI much).toInt = (much : Int) := fa_ti (by omega)
  have t2 : (20000 : Int32).toInt = 20000 := by decide
  have pb := fy_pnb (c := c) (p := p) hm (by omega)
  have oks : fy_ok s t c (p + 1) ↔ fy_ok s t c p ∧ ((p = s → fy_dg c p = 2) ∧ (p = t → fy_dg c p = 0)) := by
    constructor
    · intro h
      exact ⟨fun q hq => h q (by omega), h p (by omega)⟩
    · rintro ⟨h1, h2⟩ q hq
      by_cases e : q = p
      · rw [e]; exact h2
      · exact h1 q (by omega)
  refine ⟨fun i hi => ?_, fun i hi => ?_, ?_⟩
  · rw [h7]
    by_cases z : fy_dg c p = 0
    · rw [if_pos z, P1 i hi]
      constructor
      · exact fun y => ⟨by omega, y.2⟩
      · rintro ⟨y1, y2⟩
        by_cases q : i = p
        · rw [q] at y2; exact absurd z y2
        · exact ⟨by omega, y2⟩
    · rw [if_neg z, fb1_oh (by omega) hi, Bool.or_eq_true, P1 i hi, decide_eq_true_eq]
      constructor
      · rintro (y | y)
        · exact ⟨by omega, y.2⟩
        · rw [y]; exact ⟨by omega, z⟩
      · rintro ⟨y1, y2⟩
        by_cases q : i = p
        · exact Or.inr q
        · exact Or.inl ⟨by omega, y2⟩
  · rw [h8]
    by_cases z : fy_dg c p = 2
    · rw [if_pos z, fb1_oh (by omega) hi, Bool.or_eq_true, P2 i hi, decide_eq_true_eq]
      constructor
      · rintro (y | y)
        · exact ⟨by omega, y.2⟩
        · rw [y]; exact ⟨by omega, z⟩
      · rintro ⟨y1, y2⟩
        by_cases q : i = p
        · exact Or.inr q
        · exact Or.inl ⟨by omega, y2⟩
    · rw [if_neg z, P2 i hi]
      constructor
      · exact fun y => ⟨by omega, y.2⟩
      · rintro ⟨y1, y2⟩
        by_cases q : i = p
        · rw [q] at y2; exact absurd y2 z
        · exact ⟨by omega, y2⟩
  · have s1 : fy_pn much c (p + 1) = fy_pn much c p + (if fy_dg c p = 1 then (much : Int) else 0) := rfl
    rcases h9 with ⟨g1, g2⟩ | ⟨g1, g2⟩
    · rcases P3 with ⟨a1, a2⟩ | ⟨a1, a2, a3⟩
      · left
        refine ⟨oks.mpr ⟨a1, g1⟩, ?_⟩
        rw [g2, s1]
        by_cases z : fy_dg c p = 1
        · rw [if_pos z, if_pos z, fa_add (by omega) (by omega), tm, a2]
        · rw [if_neg z, if_neg z, a2]; omega
      · right
        refine ⟨fun y => a1 (oks.mp y).1, ?_⟩
        rw [g2]
        by_cases z : fy_dg c p = 1
        · rw [if_pos z, fa_add (by omega) (by omega), tm]; omega
        · rw [if_neg z]; omega
    · right
      refine ⟨fun y => g1 (oks.mp y).2, ?_⟩
      rw [g2, t2]; omega
theorem fy_p32 {post : Int32 → Prop} {J : _} {x5 : Int32} {c : Nat} (D : fy_D yth yfr yto yro th fr tt rm) (hk4 : kind < 4) (hs : s < 8) (ht : t < 8) (hmu : much ≤ 99) (hc : c < 6561)
    (K : ∀ x : Int32, (fy_ok s t c 8 ∧ x.toInt = fy_co kind much th fr tt rm c ∨ ¬ fy_ok s t c 8 ∧ 10000 ≤ x.toInt) → wY_parted_172 post J (nI s) (nI t) (nI much) (fy_on kind) x5 (nI c) x ysz yco yjo ycs yca yth yfr yto yro) :
    ∀ (d p : Nat) (x7 x8 x9 : Int32), p + d = 8 → fy_P s t much c p x7 x8 x9 → wY_parted_32 post J (nI s) (nI t) (nI much) (fy_on kind) x5 (nI c) ysz yco yjo ycs yca yth yfr yto yro (d + 1) x7 x8 x9 (nI (fy_dv c p)) (nI p) := by
  intro d
  induction d with
  | zero =>
    intro p x7 x8 x9 hp P
    obtain rfl : p = 8 := by omega
    rw [wY_parted_32]
    obtain ⟨P1, P2, P3⟩ := P
    have pb := fy_pnb (c := c) (p := 8) hmu (by omega)
    have t1 : (10000 : Int32).toInt = 10000 := by decide
    refine br_t (fa_t8 (by omega) (by omega)) (br_c (fun z => ?_) (fun z => K _ ?_))
    · rw [fa_lt, t1] at z
      rcases P3 with ⟨a1, a2⟩ | ⟨a1, a2, a3⟩
      · refine fy_size D hk4 (fun x hx => K _ (Or.inl ⟨a1, ?_⟩))
        have sb := fy_szb (kind := kind) (th := th) (fr := fr) (tt := tt) (o := bt x8) (i := bt x7) (n := 20) (fun k hk => (D k hk).2.2.2.2.2.2) (by omega)
        rw [fa_add (by omega) (by omega), a2, hx]
        unfold fy_co
        congr 1
        refine fy_szc (fun k hk => ⟨(D k hk).2.2.2.2.1, (D k hk).2.2.2.2.2.1⟩) (fun q hq => ?_) (fun q hq => ?_)
        · by_cases w : fy_dg c q = 2
          · rw [(P2 q (by omega)).mpr ⟨hq, w⟩, decide_eq_true w]
          · rw [decide_eq_false w]
            exact Bool.eq_false_iff.mpr (fun y => w ((P2 q (by omega)).mp y).2)
        · by_cases w : fy_dg c q = 0
          · rw [decide_eq_false (fun y => y w)]
            exact Bool.eq_false_iff.mpr (fun y => ((P1 q (by omega)).mp y).2 w)
          · rw [(P1 q (by omega)).mpr ⟨hq, w⟩, decide_eq_true w]
      · omega
    · rw [fa_lt, t1] at z
      rcases P3 with ⟨a1, a2⟩ | ⟨a1, a2, a3⟩
      · omega
      · exact Or.inr ⟨a1, a2⟩
  | succ d ih =>
    intro p x7 x8 x9 hp P
    have db := fy_dvb c p
    have dg3 : fy_dg c p < 3 := Nat.mod_lt _ (by omega)
    have e12 : nI (fy_dv c p) - nI (fy_dv c p) / 3 * 3 = nI (fy_dg c p) := pk_rem (d := 3) (by omega) (by omega) (by omega)
    have e10 : nI (fy_dv c p) / 3 = nI (fy_dv c (p + 1)) := pk_div (d := 3) (by omega) (by omega) (by omega)
    have d0 : nI (fy_dg c p) ≤ 0 ↔ fy_dg c p = 0 := by rw [show (0 : Int32) = nI 0 from rfl, nI_leI (by omega) (by omega)]; omega
    have d0' : nI (fy_dg c p) = 0 ↔ fy_dg c p = 0 := by rw [show (0 : Int32) = nI 0 from rfl, fa_eqI (by omega) (by omega)]
    have d1 : nI (fy_dg c p) = 1 ↔ fy_dg c p = 1 := by rw [show (1 : Int32) = nI 1 from rfl, fa_eqI (by omega) (by omega)]
    have d2 : nI (fy_dg c p) = 2 ↔ fy_dg c p = 2 := by rw [show (2 : Int32) = nI 2 from rfl, fa_eqI (by omega) (by omega)]
    have ps : nI p = nI s ↔ p = s := fa_eqI (by omega) (by omega)
    have pt : nI p = nI t ↔ p = t := fa_eqI (by omega) (by omega)
    have fin : ∀ y7 y8 y9 : Int32, fy_P s t much c (p + 1) y7 y8 y9 → wY_parted_32 post J (nI s) (nI t) (nI much) (fy_on kind) x5 (nI c) ysz yco yjo ycs yca yth yfr yto yro (d + 1) y7 y8 y9 (nI (fy_dv c (p + 1))) (nI (p + 1)) := fun y7 y8 y9 Q => ih _ _ _ _ (by omega) Q
    have j119 : ∀ y7 y8 y9 : Int32, (p = s → fy_dg c p = 2) → y7 = (if fy_dg c p = 0 then x7 else x7 ||| ((1 : Int32) <<< (nI p &&& 31))) → y8 = (if fy_dg c p = 2 then x8 ||| ((1 : Int32) <<< (nI p &&& 31)) else x8) → y9 = (if fy_dg c p = 1 then x9 + nI much else x9) →
        wY_parted_119 post J (wY_parted_32 post J (nI s) (nI t) (nI much) (fy_on kind) x5 (nI c) ysz yco yjo ycs yca yth yfr yto yro (d + 1)) (nI s) (nI t) (nI much) (fy_on kind) x5 (nI c) y7 y8 y9 (nI (fy_dv c (p + 1))) (nI p) (nI (fy_dg c p)) ysz yco yjo ycs yca yth yfr yto yro := by
      intro y7 y8 y9 hsd h7 h8 h9
      refine br_c (fun z => br_c (fun z1 => nm_r (nI_1 p) (fin _ _ _ (fy_Ps (by omega) hmu P h7 h8 (Or.inl ⟨⟨hsd, fun _ => d0'.mp z1⟩, h9⟩)))) (fun z1 => nm_r (nI_1 p) (fin _ _ _ (fy_Ps (by omega) hmu P h7 h8 (Or.inr ⟨fun w => z1 (d0'.mpr (w.2 (pt.mp z))), rfl⟩))))) (fun z => nm_r (nI_1 p) (fin _ _ _ (fy_Ps (by omega) hmu P h7 h8 (Or.inl ⟨⟨hsd, fun w => absurd (pt.mpr w) z⟩, h9⟩))))
    have j105 : ∀ y7 y8 y9 : Int32, y7 = (if fy_dg c p = 0 then x7 else x7 ||| ((1 : Int32) <<< (nI p &&& 31))) → y8 = (if fy_dg c p = 2 then x8 ||| ((1 : Int32) <<< (nI p &&& 31)) else x8) → y9 = (if fy_dg c p = 1 then x9 + nI much else x9) →
        wY_parted_105 post J (wY_parted_32 post J (nI s) (nI t) (nI much) (fy_on kind) x5 (nI c) ysz yco yjo ycs yca yth yfr yto yro (d + 1)) (nI s) (nI t) (nI much) (fy_on kind) x5 (nI c) y7 y8 (nI (fy_dv c (p + 1))) (nI p) (nI (fy_dg c p)) y9 ysz yco yjo ycs yca yth yfr yto yro := by
      intro y7 y8 y9 h7 h8 h9
      refine br_c (fun z => br_c (fun z1 => j119 _ _ _ (fun _ => d2.mp z1) h7 h8 h9) (fun z1 => nm_r (nI_1 p) (fin _ _ _ (fy_Ps (by omega) hmu P h7 h8 (Or.inr ⟨fun w => z1 (d2.mpr (w.1 (ps.mp z))), rfl⟩))))) (fun z => j119 _ _ _ (fun w => absurd (ps.mpr w) z) h7 h8 h9)
    have j88 : ∀ y7 y8 : Int32, y7 = (if fy_dg c p = 0 then x7 else x7 ||| ((1 : Int32) <<< (nI p &&& 31))) → y8 = (if fy_dg c p = 2 then x8 ||| ((1 : Int32) <<< (nI p &&& 31)) else x8) →
        wY_parted_88 post J (wY_parted_32 post J (nI s) (nI t) (nI much) (fy_on kind) x5 (nI c) ysz yco yjo ycs yca yth yfr yto yro (d + 1)) (nI s) (nI t) (nI much) (fy_on kind) x5 (nI c) y7 x9 (nI (fy_dv c (p + 1))) (nI p) (nI (fy_dg c p)) y8 ysz yco yjo ycs yca yth yfr yto yro := by
      intro y7 y8 h7 h8
      exact br_c (fun z => j105 _ _ _ h7 h8 (by rw [if_pos (d1.mp z)])) (fun z => j105 _ _ _ h7 h8 (by rw [if_neg (fun w => z (d1.mpr w))]))
    have j68 : ∀ y7 : Int32, y7 = (if fy_dg c p = 0 then x7 else x7 ||| ((1 : Int32) <<< (nI p &&& 31))) →
        wY_parted_68 post J (wY_parted_32 post J (nI s) (nI t) (nI much) (fy_on kind) x5 (nI c) ysz yco yjo ycs yca yth yfr yto yro (d + 1)) (nI s) (nI t) (nI much) (fy_on kind) x5 (nI c) x8 x9 (nI (fy_dv c (p + 1))) (nI p) (nI (fy_dg c p)) y7 ysz yco yjo ycs yca yth yfr yto yro := by
      intro y7 h7
      exact br_c (fun z => j88 _ _ h7 (by rw [if_pos (d2.mp z)])) (fun z => j88 _ _ h7 (by rw [if_neg (fun w => z (d2.mpr w))]))
    rw [wY_parted_32]
    refine br_f (fa_f8 (by omega)) ⟨by decide, nm_r e12 ⟨by decide, nm_r e10 (br_c (fun z => j68 _ (by rw [if_pos (d0.mp z)])) (fun z => j68 _ (by rw [if_neg (fun w => z (d0.mpr w))])))⟩⟩
theorem fy_p8 {post : Int32 → Prop} (D : fy_D yth yfr yto yro th fr tt rm) (hk4 : kind < 4) (hs : s < 8) (ht : t < 8) (hmu : much ≤ 99)
    (K : ∀ x : Int32, (∀ c, c < 6561 → fy_ok s t c 8 → x.toInt ≤ fy_co kind much th fr tt rm c) → (x.toInt = 10000 ∨ ∃ c, c < 6561 ∧ fy_ok s t c 8 ∧ fy_co kind much th fr tt rm c = x.toInt) → post x) :
    ∀ (d j : Nat) (x5 : Int32), j + d = 6561 → (∀ c, c < j → fy_ok s t c 8 → x5.toInt ≤ fy_co kind much th fr tt rm c) → (x5.toInt = 10000 ∨ ∃ c, c < j ∧ fy_ok s t c 8 ∧ fy_co kind much th fr tt rm c = x5.toInt) → x5.toInt ≤ 10000 →
      wY_parted_8 post (nI s) (nI t) (nI much) (fy_on kind) ysz yco yjo ycs yca yth yfr yto yro (d + 1) x5 (nI j) := by
  intro d
  induction d with
  | zero =>
    intro j x5 hj h1 h2 h3
    obtain rfl : j = 6561 := by omega
    rw [wY_parted_8]
    exact br_t (by decide) (K _ h1 h2)
  | succ d ih =>
    intro j x5 hj h1 h2 h3
    rw [wY_parted_8]
    refine br_f (fun z => ?_) ⟨9, fy_p32 D hk4 hs ht hmu (by omega) (fun x hx => br_c (fun z => nm_r (nI_1 j) (ih _ _ (by omega) (fun c hc ho => ?_) ?_ h3)) (fun z => nm_r (nI_1 j) (ih _ _ (by omega) (fun c hc ho => ?_) ?_ ?_))) 8 0 0 0 0 rfl ⟨fun i hi => ?_, fun i hi => ?_, Or.inl ⟨fun q hq => by omega, rfl⟩⟩⟩
    · have := (fa_ge (x := 6561) (N := 6561) rfl (by omega) (by omega)).mp z
      omega
    · rw [fa_le] at z
      by_cases q : c = j
      · subst q
        rcases hx with hx | hx
        · omega
        · exact absurd ho hx.1
      · exact h1 c (by omega) ho
    · rcases h2 with h2 | ⟨c, a, b⟩
      · exact Or.inl h2
      · exact Or.inr ⟨c, by omega, b⟩
    · rw [fa_le] at z
      by_cases q : c = j
      · subst q
        rcases hx with hx | hx
        · omega
        · exact absurd ho hx.1
      · have := h1 c (by omega) ho
        omega
    · rw [fa_le] at z
      rcases hx with hx | hx
      · exact Or.inr ⟨j, by omega, hx.1, hx.2.symm⟩
      · omega
    · rw [fa_le] at z; omega
    · rw [b_0]
      exact ⟨fun y => absurd y (by decide), fun y => absurd y.1 (by omega)⟩
    · rw [b_0]
      exact ⟨fun y => absurd y (by decide), fun y => absurd y.1 (by omega)⟩
theorem fy_parted {post : Int32 → Prop} (D : fy_D yth yfr yto yro th fr tt rm) (hk4 : kind < 4) (hs : s < 8) (ht : t < 8) (hmu : much ≤ 99)
    (K : ∀ x : Int32, (∀ c, c < 6561 → fy_ok s t c 8 → x.toInt ≤ fy_co kind much th fr tt rm c) → (x.toInt = 10000 ∨ ∃ c, c < 6561 ∧ fy_ok s t c 8 ∧ fy_co kind much th fr tt rm c = x.toInt) → post x) :
    wpY_parted post (ysz, yco, yjo, ycs, yca, yth, yfr, yto, yro) (nI s) (nI t) (nI much) (fy_on kind) :=
  ⟨6562, fy_p8 D hk4 hs ht hmu K 6561 0 _ rfl (fun c hc => by omega) (Or.inl (by decide)) (by decide)⟩
end PARTED
end
section
/-! 24: least cuts: the network and the reference -/
section LINK
variable {th : Nat → Bool} {fr tt rm : Nat → Nat} {kind s t much : Nat} {m : Nat} {hd : Nat → Nat} {c : Nat → Int} {aet ale : Nat → Int32} {F : Int}
def fk_g (S : Nat → Bool) (a b : Nat) (x : Int) : Int := if S a = true ∧ S b = false then x else 0
theorem fk_cap (N : fs_N kind s t much th fr tt rm m hd c aet ale F) (S : Nat → Bool) : fc_cap m hd c S = fd_TT kind s t much th fr tt rm (fk_g S) := by
  obtain ⟨N1, N2, N3, N4, N5, N6⟩ := N
  rw [← N5]
  unfold fc_cap
  rw [fb_pair]
  refine fb_congr (fun j hj => ?_)
  have := (N4.2 j hj).2.2
  rw [fc_x0, fc_x1, this]
  unfold fk_g
  split <;> split <;> omega
theorem fk_TT01 (hk : kind < 2) (S : Nat → Bool) : fd_TT kind s t much th fr tt rm (fk_g S) = fy_sz kind th fr tt rm S S 20 := by
  unfold fd_TT
  rw [fb_zero (f := fd_PT kind s t much (fk_g S)) (fun p hp => by unfold fd_PT; rw [if_neg (by omega)]), Int.add_zero]
  refine fb_congr (fun k hk' => ?_)
  have oo : fd_oo kind s t (fr k) = fr k := by
    unfold fd_oo
    rw [if_neg (by omega)]
  unfold fd_AT fk_g
  rw [oo]
  by_cases h1 : th k = true
  · rw [if_pos h1]
    by_cases h2 : S (fr k) = true ∧ S (tt k) = false
    · rw [if_pos h2, if_pos ⟨h1, h2⟩]
    · rw [if_neg h2, if_neg (fun y => h2 y.2)]
  · rw [if_neg h1, if_neg (fun y => h1 y.1)]
theorem fk_cap01 (N : fs_N kind s t much th fr tt rm m hd c aet ale F) (hk : kind < 2) (S : Nat → Bool) : fc_cap m hd c S = fy_sz kind th fr tt rm S S 20 := (fk_cap N S).trans (fk_TT01 hk S)
theorem fk_8 (N : fs_N kind s t much th fr tt rm m hd c aet ale F) (hk : kind < 2) (h8 : ∀ k, k < 20 → fr k < 8 ∧ tt k < 8) : ∀ e, e < 2 * m → hd e < 8 := by
  obtain ⟨N1, N2, N3, N4, N5, N6⟩ := N
  have z : fb_sm (fun j => if hd (2 * j + 1) < 8 ∧ hd (2 * j) < 8 then (0 : Int) else 1) m = 0 := by
    rw [N5 (fun a b _ => if a < 8 ∧ b < 8 then 0 else 1)]
    unfold fd_TT
    rw [fb_zero (f := fd_PT kind s t much _) (fun p hp => by unfold fd_PT; rw [if_neg (by omega)]), Int.add_zero]
    refine fb_zero (fun k hk' => ?_)
    have := h8 k hk'
    have oo : fd_oo kind s t (fr k) = fr k := by
      unfold fd_oo
      rw [if_neg (by omega)]
    unfold fd_AT
    rw [oo]
    dsimp only
    rw [if_pos this]
    split <;> rfl
  have zz := fb_eq0 (f := fun j => if hd (2 * j + 1) < 8 ∧ hd (2 * j) < 8 then (0 : Int) else 1) (n := m) (fun i hi => by split <;> omega) (by omega)
  intro e he
  obtain ⟨j, hj | hj⟩ := fc_par e
  · have := zz j (by omega)
    by_cases q : hd (2 * j + 1) < 8 ∧ hd (2 * j) < 8
    · rw [hj]; exact q.2
    · rw [if_neg q] at this; omega
  · have := zz j (by omega)
    by_cases q : hd (2 * j + 1) < 8 ∧ hd (2 * j) < 8
    · rw [hj]; exact q.1
    · rw [if_neg q] at this; omega
theorem fk_H (N : fs_N kind s t much th fr tt rm m hd c aet ale F) : ∀ e, e < 2 * m → hd e < 16 := fun e he => (N.2.2.1 e he).1
/-- a side by its mask: its size is the flow if and only if no room leads out of it -/
theorem fk_min (N : fs_N kind s t much th fr tt rm m hd c aet ale F) (hk : kind < 2) (ht : t < 8) {d : Nat} (hv : fy_V s t d) : fy_Z kind th fr tt rm d = F ↔ fy_cl m (fun e => hd (fc_xr e)) hd (fa_tI ale) d.testBit := by
  have FS := N.2.2.2.2.2.1
  have e1 : fc_cap m hd c d.testBit = fy_Z kind th fr tt rm d := fk_cap01 N hk d.testBit
  constructor
  · intro h e he h1 h2
    have cl := fc_clF (fk_H N) FS (by omega) hv.1 hv.2 (by rw [e1, h]) e he h1
    cases q : d.testBit (hd e) with
    | true => rfl
    | false =>
      have := cl q
      omega
  · intro h
    have := fc_Fcl (fk_H N) FS (S := d.testBit) (by omega) hv.1 hv.2 (fun e he h1 h2 => by
      have r := (FS.1 e he).1
      by_cases q : 0 < fa_tI ale e
      · have := h e he h1 q
        rw [h2] at this
        exact absurd this (by decide)
      · omega)
    rw [← e1]; exact this.symm
/-- any closed set of points as a mask -/
theorem fk_mask (N : fs_N kind s t much th fr tt rm m hd c aet ale F) (hk : kind < 2) (h8 : ∀ k, k < 20 → fr k < 8 ∧ tt k < 8) (hs : s < 8) (ht : t < 8) (S : Nat → Bool) (h1 : S s = true) (h2 : S t = false) (hc : fy_cl m (fun e => hd (fc_xr e)) hd (fa_tI ale) S) :
    ∃ d, d < 256 ∧ fy_V s t d ∧ fy_Z kind th fr tt rm d = F ∧ ∀ p, p < 8 → d.testBit p = S p := by
  obtain ⟨d, g1, g2⟩ := fy_mask 8 S
  have hv : fy_V s t d := ⟨by rw [g2 s hs]; exact h1, by rw [g2 t ht]; exact h2⟩
  refine ⟨d, g1, hv, (fk_min N hk ht hv).mpr (fun e he q1 q2 => ?_), g2⟩
  have e8 := fk_8 N hk h8
  rw [g2 _ (e8 e he)]
  have q1' : d.testBit (hd (fc_xr e)) = true := q1
  rw [g2 _ (e8 _ (fc_xlt he))] at q1'
  exact hc e he q1' q2
theorem fk_S (N : fs_N kind s t much th fr tt rm m hd c aet ale F) : ∃ S : Nat → Bool, S s = true ∧ S t = false ∧ fy_cl m (fun e => hd (fc_xr e)) hd (fa_tI ale) S := by
  obtain ⟨S, h1, h2, h3⟩ := N.2.2.2.2.2.2
  refine ⟨S, h1, h2, fun e he q1 q2 => ?_⟩
  cases q : S (hd e) with
  | true => rfl
  | false =>
    have := h3 e he q1 q
    omega
theorem fk_F (N : fs_N kind s t much th fr tt rm m hd c aet ale F) (hk : kind < 2) (h8 : ∀ k, k < 20 → fr k < 8 ∧ tt k < 8) (hs : s < 8) (ht : t < 8) : (∀ d, d < 256 → fy_V s t d → F ≤ fy_Z kind th fr tt rm d) ∧ ∃ d, d < 256 ∧ fy_V s t d ∧ fy_Z kind th fr tt rm d = F := by
  have FS := N.2.2.2.2.2.1
  constructor
  · intro d hd' hv
    have := fc_Fle (fk_H N) FS (S := d.testBit) (by omega) hv.1 hv.2
    rw [fk_cap01 N hk] at this
    exact this
  · obtain ⟨S, h1, h2, h3⟩ := fk_S N
    obtain ⟨d, g1, g2, g3, _⟩ := fk_mask N hk h8 hs ht S h1 h2 h3
    exact ⟨d, g1, g2, g3⟩
variable {ysz yco yjo ycs yca : Int32}
theorem fk_val (N : fs_N kind s t much th fr tt rm m hd c aet ale F) (hk : kind < 2) (h8 : ∀ k, k < 20 → fr k < 8 ∧ tt k < 8) (hs : s < 8) (ht : t < 8) (Y : fy_S kind s t th fr tt rm 256 ysz yco yjo ycs yca) : ysz.toInt = F := by
  obtain ⟨f1, d, f2, f3, f4⟩ := fk_F N hk h8 hs ht
  obtain ⟨⟨d', a, b, e⟩, G⟩ := Y
  have h1 := f1 d' a b
  have h2 := G.1 d f2 f3
  omega
/-- the points that can be reached -/
theorem fk_near (N : fs_N kind s t much th fr tt rm m hd c aet ale F) (hk : kind < 2) (h8 : ∀ k, k < 20 → fr k < 8 ∧ tt k < 8) {st x : Int32} (hst : ∀ i, i < 32 → bt st i = true → i < 8) (R : fy_R m (fun e => hd (fc_xr e)) hd (fa_tI ale) st x) :
    ∀ i, i < 32 → bt x i = true → i < 8 := by
  intro i hi h
  have := R.2 (fun p => decide (p < 8)) (fun e he _ _ => by rw [decide_eq_true_eq]; exact fk_8 N hk h8 e he) (fun i hi h => by rw [decide_eq_true_eq]; exact hst i hi h) i hi h
  rwa [decide_eq_true_eq] at this
theorem fk_one {p i : Nat} (hp : p < 32) (hi : i < 32) (h : bt ((1 : Int32) <<< (nI p &&& 31)) i = true) : i = p := by
  rw [fb1_h hp hi, decide_eq_true_eq] at h
  exact h
theorem fk_oneS {p : Nat} (hp : p < 32) : bt ((1 : Int32) <<< (nI p &&& 31)) p = true := by
  rw [fb1_h hp hp]; simp
theorem fk_least (N : fs_N kind s t much th fr tt rm m hd c aet ale F) (hk : kind < 2) (h8 : ∀ k, k < 20 → fr k < 8 ∧ tt k < 8) (hs : s < 8) (ht : t < 8) (Y : fy_S kind s t th fr tt rm 256 ysz yco yjo ycs yca) {x : Int32}
    (R : fy_R m (fun e => hd (fc_xr e)) hd (fa_tI ale) ((1 : Int32) <<< (nI s &&& 31)) x) (hc : fy_cl m (fun e => hd (fc_xr e)) hd (fa_tI ale) (bt x)) : yco = x := by
  have eF := fk_val N hk h8 hs ht Y
  obtain ⟨_, G1, G2, _⟩ := Y
  refine b_ext (fun i hi => ?_)
  rw [Bool.eq_iff_iff, G2 i hi]
  constructor
  · rintro ⟨i8, h⟩
    obtain ⟨S, s1, s2, s3⟩ := fk_S N
    obtain ⟨d, g1, g2, g3, g4⟩ := fk_mask N hk h8 hs ht (bt x) (R.1 s (by omega) (fk_oneS (by omega))) (Bool.eq_false_iff.mpr (fun y => by
      have := R.2 S s3 (fun j hj hb => by rw [fk_one (by omega) hj hb]; exact s1) t (by omega) y
      rw [s2] at this
      exact absurd this (by decide))) hc
    have := h d g1 g2 (by rw [eF]; exact g3)
    rw [g4 i i8] at this
    exact this
  · intro h
    refine ⟨fk_near N hk h8 (fun j hj hb => by rw [fk_one (by omega) hj hb]; exact hs) R i hi h, fun d hd' hv hz => ?_⟩
    exact R.2 d.testBit ((fk_min N hk ht hv).mp (by rw [hz]; exact eF)) (fun j hj hb => by rw [fk_one (by omega) hj hb]; exact hv.1) i hi h
/-- the points that can't come to the sink -/
theorem fk_far (N : fs_N kind s t much th fr tt rm m hd c aet ale F) (hk : kind < 2) (h8 : ∀ k, k < 20 → fr k < 8 ∧ tt k < 8) (hs : s < 8) (ht : t < 8) {x : Int32}
    (R : fy_R m hd (fun e => hd (fc_xr e)) (fa_tI ale) ((1 : Int32) <<< (nI t &&& 31)) x) (hc : fy_cl m hd (fun e => hd (fc_xr e)) (fa_tI ale) (bt x)) :
    (∃ d, d < 256 ∧ fy_V s t d ∧ fy_Z kind th fr tt rm d = F ∧ ∀ p, p < 8 → d.testBit p = !bt x p) ∧ (∀ d, fy_V s t d → fy_Z kind th fr tt rm d = F → ∀ i, i < 32 → bt x i = true → d.testBit i = false) := by
  have back : ∀ S : Nat → Bool, S t = false → fy_cl m (fun e => hd (fc_xr e)) hd (fa_tI ale) S → ∀ i, i < 32 → bt x i = true → S i = false := by
    intro S h1 h2 i hi h
    have := R.2 (fun p => !S p) (fun e he q1 q2 => by
      have q1' : S (hd e) = false := by simpa using q1
      show (!S (hd (fc_xr e))) = true
      cases q : S (hd (fc_xr e)) with
      | false => rfl
      | true =>
        have := h2 e he q q2
        rw [q1'] at this
        exact absurd this (by decide)) (fun j hj hb => by rw [fk_one (by omega) hj hb, h1]; rfl) i hi h
    simpa using this
  constructor
  · obtain ⟨S, s1, s2, s3⟩ := fk_S N
    refine fk_mask N hk h8 hs ht (fun p => !bt x p) ?_ ?_ (fun e he q1 q2 => ?_)
    · show (!bt x s) = true
      cases q : bt x s with
      | false => rfl
      | true =>
        have := back S s2 s3 s (by omega) q
        rw [s1] at this
        exact absurd this (by decide)
    · rw [R.1 t (by omega) (fk_oneS (by omega))]; rfl
    · have q1' : bt x (hd (fc_xr e)) = false := by simpa using q1
      show (!bt x (hd e)) = true
      cases q : bt x (hd e) with
      | false => rfl
      | true =>
        have := hc e he q q2
        rw [q1'] at this
        exact absurd this (by decide)
  · intro d hv hz i hi h
    exact back d.testBit hv.2 ((fk_min N hk ht hv).mp hz) i hi h
theorem fk_most (N : fs_N kind s t much th fr tt rm m hd c aet ale F) (hk : kind < 2) (h8 : ∀ k, k < 20 → fr k < 8 ∧ tt k < 8) (hs : s < 8) (ht : t < 8) (Y : fy_S kind s t th fr tt rm 256 ysz yco yjo ycs yca) {x : Int32}
    (R : fy_R m hd (fun e => hd (fc_xr e)) (fa_tI ale) ((1 : Int32) <<< (nI t &&& 31)) x) (hc : fy_cl m hd (fun e => hd (fc_xr e)) (fa_tI ale) (bt x)) : yjo = 255 &&& (x ^^^ (-1)) := by
  have eF := fk_val N hk h8 hs ht Y
  obtain ⟨⟨d, g1, g2, g3, g4⟩, far⟩ := fk_far N hk h8 hs ht R hc
  obtain ⟨_, G1, G2, G3, _⟩ := Y
  refine b_ext (fun i hi => ?_)
  rw [Bool.eq_iff_iff, G3 i hi, b_and, b_255, b_xor, b_m1 i hi, Bool.xor_true, Bool.and_eq_true, decide_eq_true_eq]
  constructor
  · rintro ⟨d', a, b, e, f⟩
    have i8 : i < 8 := by
      rcases Nat.lt_or_ge i 8 with q | q
      · exact q
      · have : d' < 2 ^ i := Nat.lt_of_lt_of_le a (Nat.pow_le_pow_right (by omega : 2 > 0) q)
        rw [Nat.testBit_lt_two_pow this] at f
        exact absurd f (by decide)
    refine ⟨i8, ?_⟩
    cases q : bt x i with
    | false => rfl
    | true =>
      have := far d' b (by rw [e]; exact eF) i hi q
      rw [f] at this
      exact absurd this (by decide)
  · rintro ⟨i8, h⟩
    exact ⟨d, g1, g2, by rw [eF]; exact g3, by rw [g4 i i8]; exact h⟩
/-- an arc is cut by some least side -/
theorem fk_tight (N : fs_N kind s t much th fr tt rm m hd c aet ale F) (hk : kind < 2) (h8 : ∀ k, k < 20 → fr k < 8 ∧ tt k < 8) (hs : s < 8) (ht : t < 8) {x : Int32} {k : Nat} (hk20 : k < 20)
    (R : fy_R m (fun e => hd (fc_xr e)) hd (fa_tI ale) (((1 : Int32) <<< (nI s &&& 31)) ||| ((1 : Int32) <<< (nI (fr k) &&& 31))) x) (hc : fy_cl m (fun e => hd (fc_xr e)) hd (fa_tI ale) (bt x)) (hth : th k = true) :
    (∃ d, d < 256 ∧ fy_V s t d ∧ fy_Z kind th fr tt rm d = F ∧ fy_cd th fr tt d k) ↔ (bt x (tt k) = false ∧ bt x t = false) := by
  have f8 := h8 k hk20
  have sb : ∀ i, i < 32 → bt (((1 : Int32) <<< (nI s &&& 31)) ||| ((1 : Int32) <<< (nI (fr k) &&& 31))) i = true → i = s ∨ i = fr k := by
    intro i hi h
    rw [fb1_oh (by omega) hi, Bool.or_eq_true, decide_eq_true_eq] at h
    rcases h with h | h
    · exact Or.inl (fk_one (by omega) hi h)
    · exact Or.inr h
  have xs : bt x s = true := R.1 s (by omega) (by rw [fb1_oh (by omega) (by omega), fk_oneS (by omega)]; rfl)
  have xf : bt x (fr k) = true := R.1 (fr k) (by omega) (by rw [fb1_oh (by omega) (by omega)]; simp)
  constructor
  · rintro ⟨d, a, b, e, f1, f2, f3, f4⟩
    have sub : ∀ i, i < 32 → bt x i = true → d.testBit i = true := R.2 d.testBit ((fk_min N hk ht b).mp e) (fun i hi h => by
      rcases sb i hi h with q | q
      · rw [q]; exact b.1
      · rw [q]; exact f3)
    constructor
    · exact Bool.eq_false_iff.mpr (fun y => by
        have := sub _ (by omega) y
        rw [f4] at this
        exact absurd this (by decide))
    · exact Bool.eq_false_iff.mpr (fun y => by
        have := sub _ (by omega) y
        rw [b.2] at this
        exact absurd this (by decide))
  · rintro ⟨h1, h2⟩
    obtain ⟨d, g1, g2, g3, g4⟩ := fk_mask N hk h8 hs ht (bt x) xs h2 hc
    exact ⟨d, g1, g2, g3, hk20, hth, by rw [g4 _ f8.1]; exact xf, by rw [g4 _ f8.2]; exact h1⟩
/-- an arc is cut by all least sides -/
theorem fk_wide (N : fs_N kind s t much th fr tt rm m hd c aet ale F) (hk : kind < 2) (h8 : ∀ k, k < 20 → fr k < 8 ∧ tt k < 8) (hs : s < 8) (ht : t < 8) (Y : fy_S kind s t th fr tt rm 256 ysz yco yjo ycs yca) {x y : Int32}
    (R : fy_R m (fun e => hd (fc_xr e)) hd (fa_tI ale) ((1 : Int32) <<< (nI s &&& 31)) x) (hc : fy_cl m (fun e => hd (fc_xr e)) hd (fa_tI ale) (bt x))
    (R' : fy_R m hd (fun e => hd (fc_xr e)) (fa_tI ale) ((1 : Int32) <<< (nI t &&& 31)) y) (hc' : fy_cl m hd (fun e => hd (fc_xr e)) (fa_tI ale) (bt y)) {k : Nat} (hk32 : k < 32) :
    bt yca k = true ↔ (k < 20 ∧ th k = true ∧ bt x (fr k) = true ∧ bt y (tt k) = true) := by
  have eF := fk_val N hk h8 hs ht Y
  have Y' := Y
  obtain ⟨⟨d0, a0, b0, e0⟩, G1, G2, G3, G4, G5⟩ := Y
  obtain ⟨⟨d, g1, g2, g3, g4⟩, far⟩ := fk_far N hk h8 hs ht R' hc'
  have lea := fk_least N hk h8 hs ht Y' R hc
  rw [G5 k hk32]
  constructor
  · intro h
    have c0 := h d0 a0 b0 e0
    have f8 := h8 k c0.1
    refine ⟨c0.1, c0.2.1, ?_, ?_⟩
    · rw [← lea, G2 (fr k) (by omega)]
      exact ⟨f8.1, fun d hd' hv hz => (h d hd' hv hz).2.2.1⟩
    · have := (h d g1 g2 (by rw [eF]; exact g3)).2.2.2
      rw [g4 _ f8.2] at this
      simpa using this
  · rintro ⟨h1, h2, h3, h4⟩ d' hd' hv hz
    have f8 := h8 k h1
    refine ⟨h1, h2, ?_, ?_⟩
    · rw [← lea, G2 (fr k) (by omega)] at h3
      exact h3.2 d' hd' hv hz
    · exact far d' hv (by rw [hz]; exact eF) _ (by omega) h4
/-- the arcs that the side leaves -/
theorem fk_few (N : fs_N kind s t much th fr tt rm m hd c aet ale F) (hk : kind < 2) (hs : s < 8) (ht : t < 8) {x : Int32}
    (R : fy_R m (fun e => hd (fc_xr e)) hd (fa_tI ale) ((1 : Int32) <<< (nI s &&& 31)) x) (hc : fy_cl m (fun e => hd (fc_xr e)) hd (fa_tI ale) (bt x)) : fy_sz kind th fr tt rm (bt x) (bt x) 20 = F := by
  obtain ⟨S, s1, s2, s3⟩ := fk_S N
  have FS := N.2.2.2.2.2.1
  rw [← fk_cap01 N hk]
  symm
  refine fc_Fcl (fk_H N) FS (by omega) (R.1 s (by omega) (fk_oneS (by omega))) (Bool.eq_false_iff.mpr (fun y => ?_)) (fun e he h1 h2 => ?_)
  · have := R.2 S s3 (fun j hj hb => by rw [fk_one (by omega) hj hb]; exact s1) t (by omega) y
    rw [s2] at this
    exact absurd this (by decide)
  · have r := (FS.1 e he).1
    by_cases q : 0 < fa_tI ale e
    · have := hc e he h1 q
      rw [h2] at this
      exact absurd this (by decide)
    · omega
/-- the cut that a code stands for -/
def fk_cs (cc : Nat) : Nat → Bool := fun n => if n < 8 then decide (fy_dg cc n ≠ 0) else decide (fy_dg cc (n - 8) = 2)
theorem fk_lo {cc p : Nat} (h : p < 8) : fk_cs cc p = decide (fy_dg cc p ≠ 0) := if_pos h
theorem fk_hi {cc p : Nat} : fk_cs cc (p + 8) = decide (fy_dg cc p = 2) := by
  unfold fk_cs
  rw [if_neg (by omega)]; rfl
theorem fk_TT23 (hk : 2 ≤ kind) (h8 : ∀ k, k < 20 → fr k < 8 ∧ tt k < 8) (hs : s < 8) (ht : t < 8) {cc : Nat} (ok : fy_ok s t cc 8) : fd_TT kind s t much th fr tt rm (fk_g (fk_cs cc)) = fy_co kind much th fr tt rm cc := by
  have os := (ok s hs).1 rfl
  have ot := (ok t ht).2 rfl
  unfold fd_TT fy_co
  rw [Int.add_comm]
  congr 1
  · refine fb_congr (fun p hp => ?_)
    unfold fd_PT fk_g
    rw [fk_lo hp, fk_hi]
    have d3 : fy_dg cc p < 3 := Nat.mod_lt _ (by omega)
    by_cases h1 : p = s
    · rw [if_neg (fun y => y.1 h1), if_neg (by rw [h1, os]; omega)]
    · by_cases h2 : p = t
      · rw [if_neg (fun y => y.2.1 h2), if_neg (by rw [h2, ot]; omega)]
      · rw [if_pos ⟨h1, h2, hk⟩]
        by_cases h3 : fy_dg cc p = 1
        · rw [if_pos h3, if_pos ⟨decide_eq_true (by omega), decide_eq_false (by omega)⟩]
        · rw [if_neg h3, if_neg]
          rintro ⟨y1, y2⟩
          rw [decide_eq_true_eq] at y1
          rw [decide_eq_false_iff_not] at y2
          omega
  · refine fb_congr (fun k hk' => ?_)
    have f8 := h8 k hk'
    unfold fd_AT fk_g
    have e1 : fk_cs cc (fd_oo kind s t (fr k)) = decide (fy_dg cc (fr k) = 2) := by
      unfold fd_oo
      by_cases h1 : fr k = s
      · rw [if_neg (by omega), fk_lo f8.1, h1, os]; decide
      · by_cases h2 : fr k = t
        · rw [if_neg (by omega), fk_lo f8.1, h2, ot]; decide
        · rw [if_pos ⟨hk, h1, h2⟩, fk_hi]
    rw [e1, fk_lo f8.2]
    by_cases h1 : th k = true
    · rw [if_pos h1]
      by_cases h2 : decide (fy_dg cc (fr k) = 2) = true ∧ decide (fy_dg cc (tt k) ≠ 0) = false
      · rw [if_pos h2, if_pos ⟨h1, h2⟩]
      · rw [if_neg h2, if_neg (fun y => h2 y.2)]
    · rw [if_neg h1, if_neg (fun y => h1 y.1)]
theorem fk_mono (h8 : ∀ k, k < 20 → fr k < 8 ∧ tt k < 8) {S S' : Nat → Bool} (h1 : ∀ p, p < 8 → S' p = S p) (h2 : ∀ p, p < 8 → p ≠ s → p ≠ t → S' (p + 8) = (S p && S (p + 8))) :
    fd_TT kind s t much th fr tt rm (fk_g S') ≤ fd_TT kind s t much th fr tt rm (fk_g S) := by
  have k1 : fb_sm (fd_AT kind s t th fr tt rm (fk_g S')) 20 ≤ fb_sm (fd_AT kind s t th fr tt rm (fk_g S)) 20 := by
    refine fb_le (fun k hk => ?_)
    have f8 := h8 k hk
    unfold fd_AT fk_g
    rw [h1 _ f8.2]
    by_cases hth : th k = true
    · rw [if_pos hth, if_pos hth]
      have sub : S' (fd_oo kind s t (fr k)) = true → S (fd_oo kind s t (fr k)) = true := by
        unfold fd_oo
        by_cases q : 2 ≤ kind ∧ fr k ≠ s ∧ fr k ≠ t
        · rw [if_pos q, h2 _ f8.1 q.2.1 q.2.2]
          intro y
          exact ((Bool.and_eq_true _ _).mp y).2
        · rw [if_neg q, h1 _ f8.1]
          exact fun y => y
      by_cases q : S' (fd_oo kind s t (fr k)) = true ∧ S (tt k) = false
      · rw [if_pos q, if_pos ⟨sub q.1, q.2⟩]; exact Int.le_refl _
      · rw [if_neg q]
        split <;> omega
    · rw [if_neg hth, if_neg hth]; exact Int.le_refl _
  have k2 : fb_sm (fd_PT kind s t much (fk_g S')) 8 ≤ fb_sm (fd_PT kind s t much (fk_g S)) 8 := by
    refine fb_le (fun p hp => ?_)
    unfold fd_PT
    by_cases q : p ≠ s ∧ p ≠ t ∧ 2 ≤ kind
    · rw [if_pos q, if_pos q]
      unfold fk_g
      rw [h1 p hp, h2 p hp q.1 q.2.1]
      cases S p <;> cases S (p + 8) <;> simp
    · rw [if_neg q, if_neg q]; exact Int.le_refl _
  unfold fd_TT
  omega
theorem fk_parted (N : fs_N kind s t much th fr tt rm m hd c aet ale F) (hk : 2 ≤ kind) (h8 : ∀ k, k < 20 → fr k < 8 ∧ tt k < 8) (hs : s < 8) (ht : t < 8) (hst : s ≠ t) {x : Int32}
    (h1 : ∀ c, c < 6561 → fy_ok s t c 8 → x.toInt ≤ fy_co kind much th fr tt rm c) (h2 : x.toInt = 10000 ∨ ∃ c, c < 6561 ∧ fy_ok s t c 8 ∧ fy_co kind much th fr tt rm c = x.toInt) : x.toInt = F := by
  have FS := N.2.2.2.2.2.1
  have F9 := fc_F99 (fk_H N) N.2.2.2.1 FS (by omega) hst
  have up : ∀ cc, fy_ok s t cc 8 → F ≤ fy_co kind much th fr tt rm cc := by
    intro cc ok
    have := fc_Fle (fk_H N) FS (S := fk_cs cc) (by omega) (by rw [fk_lo hs, (ok s hs).1 rfl]; decide) (by rw [fk_lo ht, (ok t ht).2 rfl]; decide)
    rw [fk_cap N, fk_TT23 hk h8 hs ht ok] at this
    exact this
  obtain ⟨S, s1, s2, s3⟩ := N.2.2.2.2.2.2
  have FC := fc_Fcl (fk_H N) FS (by omega) s1 s2 s3
  obtain ⟨cc, c1, c2⟩ := fy_code 8 (fun p => if p = s then 2 else if p = t then 0 else if S p = true then (if S (p + 8) = true then 2 else 1) else 0) (fun p => by
    split
    · omega
    · split
      · omega
      · split
        · split <;> omega
        · omega)
  have ok : fy_ok s t cc 8 := by
    intro q hq
    rw [c2 q hq]
    constructor
    · intro e; rw [if_pos e]
    · intro e
      have : ¬ q = s := fun y => hst (y.symm.trans e)
      rw [if_neg this, if_pos e]
  have low : fy_co kind much th fr tt rm cc ≤ F := by
    rw [← fk_TT23 hk h8 hs ht ok, FC, fk_cap N]
    refine fk_mono h8 (fun p hp => ?_) (fun p hp p1 p2 => ?_)
    · rw [fk_lo hp, c2 p hp]
      by_cases q1 : p = s
      · rw [if_pos q1, q1, s1]; decide
      · by_cases q2 : p = t
        · rw [if_neg q1, if_pos q2, q2, s2]; decide
        · rw [if_neg q1, if_neg q2]
          cases S p <;> cases S (p + 8) <;> simp
    · rw [fk_hi, c2 p hp, if_neg p1, if_neg p2]
      cases S p <;> cases S (p + 8) <;> simp
  have a1 := h1 cc c1 ok
  rcases h2 with z | ⟨c', z1, z2, z3⟩
  · omega
  · have := up c' z2
    omega
end LINK
end
section
/-! 25: the calls' shared parts -/
def fo_PR (p q : Int32) : Prop := ∃ a b : Nat, a < 8 ∧ b < 8 ∧ a ≠ b ∧ p = nI a ∧ q = nI b
def fo_EN (x : Int32) : Prop := ∃ g : Nat, g ≤ 6 ∧ x = nI g
def fo_AM (x : Int32) : Prop := ∃ r : Nat, r ≤ 99 ∧ x = nI r
theorem fo_ix {p : Int32} {N : Nat} (hN : N < 1000000) : (∃ a : Nat, a < N ∧ p = nI a) ↔ (0 ≤ p.toInt ∧ p.toInt < N) := by
  constructor
  · rintro ⟨a, h1, rfl⟩
    rw [fa_ti (by omega)]; omega
  · rintro ⟨h1, h2⟩
    exact ⟨p.toInt.toNat, by omega, fa_nI (by omega) (by omega)⟩
theorem fo_8 : (8 : Int32).toInt = 8 := by decide
theorem fo_7 : (7 : Int32).toInt = 7 := by decide
theorem fo_6 : (6 : Int32).toInt = 6 := by decide
theorem fo_20 : (20 : Int32).toInt = 20 := by decide
theorem fo_99 : (99 : Int32).toInt = 99 := by decide
theorem fo_point {post : Int32 → Prop} {p : Int32} (h1 : (∃ a : Nat, a < 8 ∧ p = nI a) → post 1) (h0 : ¬ (∃ a : Nat, a < 8 ∧ p = nI a) → post 0) : wpX_isPoint post p := by
  rw [fo_ix (by omega)] at h1 h0
  refine br_c (fun z => h0 ?_) (fun z => br_c (fun z1 => h0 ?_) (fun z1 => h1 ?_))
  · rw [fa_lt, fa_0] at z; omega
  · rw [fa_le, fo_8] at z1; omega
  · rw [fa_lt, fa_0] at z
    rw [fa_le, fo_8] at z1
    omega
theorem fo_pairX {post : Int32 → Prop} {p q : Int32} (h1 : fo_PR p q → post 1) (h0 : ¬ fo_PR p q → post 0) : wpX_isPair post p q := by
  refine fo_point (fun ⟨a, ha, ea⟩ => br_f (by decide) (fo_point (fun ⟨b, hb, eb⟩ => br_f (by decide) (br_c (fun z => h0 ?_) (fun z => h1 ?_))) (fun y => br_t rfl (h0 ?_)))) (fun y => br_t rfl (h0 ?_))
  · rintro ⟨a', b', g1, g2, g3, g4, g5⟩
    rw [g4, g5] at z
    exact g3 (fa_inj z (by omega) (by omega))
  · exact ⟨a, b, ha, hb, fun e => z (by rw [ea, eb, e]), ea, eb⟩
  · rintro ⟨a', b', g1, g2, g3, g4, g5⟩
    exact y ⟨b', g2, g5⟩
  · rintro ⟨a', b', g1, g2, g3, g4, g5⟩
    exact y ⟨a', g1, g4⟩
theorem fo_engX {post : Int32 → Prop} {p : Int32} (h1 : fo_EN p → post 1) (h0 : ¬ fo_EN p → post 0) : wpX_isEngine post p := by
  have e : fo_EN p ↔ (0 ≤ p.toInt ∧ p.toInt < (7 : Nat)) := by
    rw [← fo_ix (by omega)]
    exact ⟨fun ⟨g, a, b⟩ => ⟨g, by omega, b⟩, fun ⟨g, a, b⟩ => ⟨g, by omega, b⟩⟩
  rw [e] at h1 h0
  refine br_c (fun z => h0 ?_) (fun z => br_c (fun z1 => h0 ?_) (fun z1 => h1 ?_))
  · rw [fa_lt, fa_0] at z; omega
  · rw [fa_le, fo_7] at z1; omega
  · rw [fa_lt, fa_0] at z
    rw [fa_le, fo_7] at z1
    omega
theorem fo_AMi {p : Int32} : fo_AM p ↔ (0 ≤ p.toInt ∧ p.toInt ≤ 99) := by
  have : fo_AM p ↔ (0 ≤ p.toInt ∧ p.toInt < (100 : Nat)) := by
    rw [← fo_ix (by omega)]
    exact ⟨fun ⟨g, a, b⟩ => ⟨g, by omega, b⟩, fun ⟨g, a, b⟩ => ⟨g, by omega, b⟩⟩
  rw [this]
  omega
section CALLY
variable {ysz yco yjo ycs yca : Int32} {yth yfr yto yro : Nat → Int32}
variable {th : Nat → Bool} {fr tt rm : Nat → Nat}
theorem fo_pointY {post : Int32 → Prop} {p : Int32} (h1 : (∃ a : Nat, a < 8 ∧ p = nI a) → post 1) (h0 : ¬ (∃ a : Nat, a < 8 ∧ p = nI a) → post 0) : wpY_point post (ysz, yco, yjo, ycs, yca, yth, yfr, yto, yro) p := by
  rw [fo_ix (by omega)] at h1 h0
  refine br_c (fun z => h0 ?_) (fun z => br_c (fun z1 => h0 ?_) (fun z1 => h1 ?_))
  · rw [fa_lt, fa_0] at z; omega
  · rw [fa_lt, fo_7] at z1; omega
  · rw [fa_lt, fa_0] at z
    rw [fa_lt, fo_7] at z1
    omega
theorem fo_pairY {post : Int32 → Prop} {p q : Int32} (h1 : fo_PR p q → post 1) (h0 : ¬ fo_PR p q → post 0) : wpY_two post (ysz, yco, yjo, ycs, yca, yth, yfr, yto, yro) p q := by
  unfold wpY_two
  refine fo_pointY (fun ⟨a, ha, ea⟩ => br_f (by decide) (fo_pointY (fun ⟨b, hb, eb⟩ => br_f (by decide) (br_c (fun z => h0 ?_) (fun z => h1 ?_))) (fun y => br_t rfl (h0 ?_)))) (fun y => br_t rfl (h0 ?_))
  · rintro ⟨a', b', g1, g2, g3, g4, g5⟩
    rw [g4, g5] at z
    exact g3 (fa_inj z (by omega) (by omega))
  · exact ⟨a, b, ha, hb, fun e => z (by rw [ea, eb, e]), ea, eb⟩
  · rintro ⟨a', b', g1, g2, g3, g4, g5⟩
    exact y ⟨b', g2, g5⟩
  · rintro ⟨a', b', g1, g2, g3, g4, g5⟩
    exact y ⟨a', g1, g4⟩
theorem fo_engY {post : Int32 → Prop} {p : Int32} (h1 : fo_EN p → post 1) (h0 : ¬ fo_EN p → post 0) : wpY_engine post (ysz, yco, yjo, ycs, yca, yth, yfr, yto, yro) p := by
  have e : fo_EN p ↔ (0 ≤ p.toInt ∧ p.toInt < (7 : Nat)) := by
    rw [← fo_ix (by omega)]
    exact ⟨fun ⟨g, a, b⟩ => ⟨g, by omega, b⟩, fun ⟨g, a, b⟩ => ⟨g, by omega, b⟩⟩
  rw [e] at h1 h0
  refine br_c (fun z => h0 ?_) (fun z => br_c (fun z1 => h0 ?_) (fun z1 => h1 ?_))
  · rw [fa_lt, fa_0] at z; omega
  · rw [fa_lt, fo_6] at z1; omega
  · rw [fa_lt, fa_0] at z
    rw [fa_lt, fo_6] at z1
    omega
theorem fo_amY {post : Int32 → Prop} {p : Int32} (h1 : fo_AM p → post 1) (h0 : ¬ fo_AM p → post 0) : wpY_amount post (ysz, yco, yjo, ycs, yca, yth, yfr, yto, yro) p := by
  rw [fo_AMi] at h1 h0
  refine br_c (fun z => h0 ?_) (fun z => br_c (fun z1 => h0 ?_) (fun z1 => h1 ?_))
  · rw [fa_lt, fa_0] at z; omega
  · rw [fa_lt, fo_99] at z1; omega
  · rw [fa_lt, fa_0] at z
    rw [fa_lt, fo_99] at z1
    omega
theorem fo_isY {post : Int32 → Prop} {p : Int32} (D : fy_D yth yfr yto yro th fr tt rm) (h1 : ∀ k : Nat, k < 20 → p = nI k → th k = true → post 1) (h0 : (∀ k : Nat, k < 20 → p = nI k → th k = false) → post 0) : wpY_is post (ysz, yco, yjo, ycs, yca, yth, yfr, yto, yro) p := by
  refine br_c (fun z => h0 (fun k hk e => ?_)) (fun z => br_c (fun z1 => h0 (fun k hk e => ?_)) (fun z1 => ?_))
  · rw [e] at z; exact absurd z (fa_lt0 (by omega))
  · rw [e] at z1; exact absurd z1 (fa_f20 hk)
  · rw [fa_lt, fa_0] at z
    rw [fa_le, fo_20] at z1
    obtain ⟨k, hk, rfl⟩ := (fo_ix (p := p) (N := 20) (by omega)).mpr ⟨by omega, by omega⟩
    have ck : (nI k).toNatClampNeg = k := fa_cl (by omega)
    have d1 := (D k hk).1
    refine ⟨fa_in hk (by omega), br_c (fun y => h0 (fun k' hk' e => ?_)) (fun y => h1 k hk rfl ?_)⟩
    · have : k' = k := fa_inj e.symm (by omega) (by omega)
      subst this
      rw [ck, d1] at y
      cases q : th k' with
      | false => rfl
      | true => rw [if_pos q] at y; exact absurd y (by decide)
    · rw [ck, d1] at y
      cases q : th k with
      | true => rfl
      | false => rw [q] at y; exact absurd rfl y
theorem fo_valY {post : Int32 → SY → Prop} {p0 p1 p2 : Int32} (D : fy_D yth yfr yto yro th fr tt rm)
    (h1 : ∀ (s t : Nat) (ysz yco yjo ycs yca : Int32), s < 8 → t < 8 → s ≠ t → p1 = nI s → p2 = nI t → fo_EN p0 → fy_S 0 s t th fr tt rm 256 ysz yco yjo ycs yca → post ysz (ysz, yco, yjo, ycs, yca, yth, yfr, yto, yro)) (h0 : ¬ (fo_EN p0 ∧ fo_PR p1 p2) → post (-1) (ysz, yco, yjo, ycs, yca, yth, yfr, yto, yro)) : wpY_value post (ysz, yco, yjo, ycs, yca, yth, yfr, yto, yro) p0 p1 p2 := by
  unfold wpY_value
  refine fo_engY (fun he => br_f (by decide) (fo_pairY (fun hp => br_f (by decide) ?_) (fun hp => br_t rfl (h0 (fun y => hp y.2))))) (fun he => br_t rfl (h0 (fun y => he y.1)))
  obtain ⟨s, t, g1, g2, g3, rfl, rfl⟩ := hp
  exact fy_search (kind := 0) D (by omega) g1 g2 g3 (fun a b c d e S => h1 s t a b c d e g1 g2 g3 rfl rfl he S)
theorem fo_fewY {post : Int32 → SY → Prop} {p1 p2 : Int32} (D : fy_D yth yfr yto yro th fr tt rm)
    (h1 : ∀ (s t : Nat) (ysz yco yjo ycs yca : Int32), s < 8 → t < 8 → s ≠ t → p1 = nI s → p2 = nI t → fy_S 1 s t th fr tt rm 256 ysz yco yjo ycs yca → post ysz (ysz, yco, yjo, ycs, yca, yth, yfr, yto, yro)) (h0 : ¬ fo_PR p1 p2 → post (-1) (ysz, yco, yjo, ycs, yca, yth, yfr, yto, yro)) : wpY_fewest post (ysz, yco, yjo, ycs, yca, yth, yfr, yto, yro) p1 p2 := by
  unfold wpY_fewest
  refine fo_pairY (fun hp => br_f (by decide) ?_) (fun hp => br_t rfl (h0 hp))
  obtain ⟨s, t, g1, g2, g3, rfl, rfl⟩ := hp
  exact fy_search (kind := 1) D (by omega) g1 g2 g3 (fun a b c d e S => h1 s t a b c d e g1 g2 g3 rfl rfl S)
theorem fo_nn {s t kind : Nat} (D : fy_D yth yfr yto yro th fr tt rm) {zsz zco zjo zcs zca : Int32} (S : fy_S kind s t th fr tt rm 256 zsz zco zjo zcs zca) : 0 ≤ zsz.toInt ∧ zsz.toInt ≤ 1980 := by
  obtain ⟨⟨d, a, b, e⟩, _⟩ := S
  rw [← e]
  exact fy_szb (fun k hk => (D k hk).2.2.2.2.2.2) (by omega)
/-- a set of arcs -/
theorem fo_arcs4 {post : Int32 → Prop} (D : fy_D yth yfr yto yro th fr tt rm) (K : ∀ x : Int32, (∀ i, i < 32 → bt x i = (decide (i < 20) && th i)) → post x) :
    ∀ (d k : Nat) (x1 : Int32), k + d = 20 → (∀ i, i < 32 → bt x1 i = (decide (i < k) && th i)) → wY_arcs_4 post ysz yco yjo ycs yca yth yfr yto yro (d + 1) x1 (nI k) := by
  intro d
  induction d with
  | zero =>
    intro k x1 hk h
    obtain rfl : k = 20 := by omega
    rw [wY_arcs_4]
    exact br_t (fa_t20 (by omega) (by omega)) (K _ h)
  | succ d ih =>
    intro k x1 hk h
    have ck : (nI k).toNatClampNeg = k := fa_cl (by omega)
    have d1 := (D k (by omega)).1
    rw [wY_arcs_4]
    refine br_f (fa_f20 (by omega)) ⟨fa_in (by omega) (by omega), br_c (fun z => nm_r (nI_1 k) (ih _ _ (by omega) (fun i hi => ?_))) (fun z => nm_e (nm_r (nI_1 k) (ih _ _ (by omega) (fun i hi => ?_))))⟩
    · rw [ck, d1] at z
      have tk : th k = false := by
        cases q : th k with
        | false => rfl
        | true => rw [if_pos q] at z; exact absurd z (by decide)
      rw [h i hi]
      by_cases q : i = k
      · rw [q, tk, Bool.and_false, Bool.and_false]
      · by_cases w : i < k
        · rw [decide_eq_true w, decide_eq_true (by omega : i < k + 1)]
        · rw [decide_eq_false w, decide_eq_false (by omega : ¬ i < k + 1)]
    · rw [ck, d1] at z
      have tk : th k = true := by
        cases q : th k with
        | true => rfl
        | false => rw [q] at z; exact absurd rfl z
      rw [fb1_oh (by omega) hi, h i hi]
      by_cases q : i = k
      · rw [q, tk]; simp
      · rw [decide_eq_false q, Bool.or_false]
        by_cases w : i < k
        · rw [decide_eq_true w, decide_eq_true (by omega : i < k + 1)]
        · rw [decide_eq_false w, decide_eq_false (by omega : ¬ i < k + 1)]
theorem fo_add22 {post : Int32 → SY → Prop} {x1 x2 x3 : Int32} (D : fy_D yth yfr yto yro th fr tt rm)
    (h1 : ∀ k, k < 20 → (∀ j, j < k → th j = true) → th k = false → post (nI k) (ysz, yco, yjo, ycs, yca, upd yth k 1, upd yfr k x1, upd yto k x2, upd yro k x3)) (h2 : (∀ j, j < 20 → th j = true) → post (-2) (ysz, yco, yjo, ycs, yca, yth, yfr, yto, yro)) :
    ∀ (d k : Nat), k + d = 20 → (∀ j, j < k → th j = true) → wY_add_22 post x1 x2 x3 ysz yco yjo ycs yca yth yfr yto yro (d + 1) (nI k) := by
  intro d
  induction d with
  | zero =>
    intro k hk h
    obtain rfl : k = 20 := by omega
    rw [wY_add_22]
    exact br_t (fa_t20 (by omega) (by omega)) (h2 h)
  | succ d ih =>
    intro k hk h
    have ck : (nI k).toNatClampNeg = k := fa_cl (by omega)
    have wk : vp_in (nI k) 20 := fa_in (by omega) (by omega)
    have d1 := (D k (by omega)).1
    rw [wY_add_22]
    refine br_f (fa_f20 (by omega)) ⟨wk, br_c (fun z => ⟨wk, nm_r (e' := upd yth k 1) (by rw [ck, fa_z1]) ⟨wk, nm_r (e' := upd yfr k x1) (by rw [ck]) ⟨wk, nm_r (e' := upd yto k x2) (by rw [ck]) ⟨wk, nm_r (e' := upd yro k x3) (by rw [ck]) (h1 k (by omega) h ?_)⟩⟩⟩⟩) (fun z => nm_r (nI_1 k) (ih _ (by omega) (fun j hj => ?_)))⟩
    · rw [ck, d1] at z
      cases q : th k with
      | false => rfl
      | true => rw [if_pos q] at z; exact absurd z (by decide)
    · rw [ck, d1] at z
      by_cases q : j = k
      · rw [q]
        cases w : th k with
        | true => rfl
        | false => rw [w] at z; exact absurd rfl z
      · exact h j (by omega)
end CALLY
section CALLX
variable {fpr fso fsi fed ffl fqf fqs foc : Int32} {afo ato aro aet ale afe anx alv acu acb aex ahs aqu aqd apa ago ane atr aor : Nat → Int32}
variable {th : Nat → Bool} {fr tt rm : Nat → Nat}
theorem fo_hasX {post : Int32 → Prop} {p : Int32} (D : ∀ i, i < 32 → bt fpr i = (decide (i < 20) && th i)) (h1 : ∀ k : Nat, k < 20 → p = nI k → th k = true → post 1) (h0 : (∀ k : Nat, k < 20 → p = nI k → th k = false) → post 0) : wpX_has post (fpr, fso, fsi, fed, ffl, fqf, fqs, foc, afo, ato, aro, aet, ale, afe, anx, alv, acu, acb, aex, ahs, aqu, aqd, apa, ago, ane, atr, aor) p := by
  by_cases q : ∃ k : Nat, k < 20 ∧ p = nI k
  · obtain ⟨k, hk, rfl⟩ := q
    refine fe_has D hk (fun y => h1 k hk rfl y) (fun y => h0 (fun k' hk' e => ?_))
    have : k' = k := fa_inj e.symm (by omega) (by omega)
    rw [this]; exact y
  · have no : ∀ k : Nat, k < 20 → p = nI k → th k = false := fun k hk e => absurd ⟨k, hk, e⟩ q
    rw [fo_ix (by omega)] at q
    refine br_c (fun z => h0 no) (fun z => br_t ?_ (h0 no))
    rw [fa_lt, fa_0] at z
    rw [fa_le, fo_20]
    omega
theorem fo_add23 {post : Int32 → SX → Prop} {x1 x2 x3 : Int32} (D : ∀ i, i < 32 → bt fpr i = (decide (i < 20) && th i))
    (h1 : ∀ k, k < 20 → (∀ j, j < k → th j = true) → th k = false → post (nI k) (fpr ||| ((1 : Int32) <<< (nI k &&& 31)), fso, fsi, fed, ffl, fqf, fqs, foc, upd afo k (vp_nar .byte x1.toInt8.toInt32), upd ato k (vp_nar .byte x2.toInt8.toInt32), upd aro k (vp_nar .byte x3.toInt8.toInt32), aet, ale, afe, anx, alv, acu, acb, aex, ahs, aqu, aqd, apa, ago, ane, atr, aor))
    (h2 : (∀ j, j < 20 → th j = true) → post (-2) (fpr, fso, fsi, fed, ffl, fqf, fqs, foc, afo, ato, aro, aet, ale, afe, anx, alv, acu, acb, aex, ahs, aqu, aqd, apa, ago, ane, atr, aor)) :
    ∀ (d k : Nat), k + d = 20 → (∀ j, j < k → th j = true) → wX_add_23 post x1 x2 x3 fpr fso fsi fed ffl fqf fqs foc afo ato aro aet ale afe anx alv acu acb aex ahs aqu aqd apa ago ane atr aor (d + 1) (nI k) := by
  intro d
  induction d with
  | zero =>
    intro k hk h
    obtain rfl : k = 20 := by omega
    rw [wX_add_23]
    exact br_t (fa_t20 (by omega) (by omega)) (h2 h)
  | succ d ih =>
    intro k hk h
    have ck : (nI k).toNatClampNeg = k := fa_cl (by omega)
    have wk : vp_in (nI k) 20 := fa_in (by omega) (by omega)
    rw [wX_add_23]
    refine br_f (fa_f20 (by omega)) (fe_has D (by omega) (fun z => br_f (by decide) (nm_r (nI_1 k) (ih _ (by omega) (fun j hj => ?_)))) (fun z => br_t rfl (nm_e ⟨wk, nm_r (e' := upd afo k (vp_nar .byte x1.toInt8.toInt32)) (by rw [ck]) ⟨wk, nm_r (e' := upd ato k (vp_nar .byte x2.toInt8.toInt32)) (by rw [ck]) ⟨wk, nm_r (e' := upd aro k (vp_nar .byte x3.toInt8.toInt32)) (by rw [ck]) (h1 k (by omega) h z)⟩⟩⟩)))
    by_cases q : j = k
    · rw [q]; exact z
    · exact h j (by omega)
end CALLX
end
section
/-! 26: the calls' loops over arcs and pairs -/
section LOOPS
variable {fpr fso fsi fed ffl fqf fqs foc : Int32} {afo ato aro aet ale afe anx alv acu acb aex ahs aqu aqd apa ago ane atr aor : Nat → Int32}
variable {th : Nat → Bool} {fr tt rm : Nat → Nat} {s t : Nat}
theorem fo_bitS {x : Int32} {k i : Nat} {P : Nat → Prop} (hk : k < 20) (hi : i < 32) (h : ∀ i, i < 32 → (bt x i = true ↔ (i < k ∧ P i))) (hP : P k) : bt (x ||| ((1 : Int32) <<< (nI k &&& 31))) i = true ↔ (i < k + 1 ∧ P i) := by
  rw [fb1_oh (by omega) hi, Bool.or_eq_true, h i hi, decide_eq_true_eq]
  constructor
  · rintro (y | y)
    · exact ⟨by omega, y.2⟩
    · rw [y]; exact ⟨by omega, hP⟩
  · rintro ⟨y1, y2⟩
    by_cases q : i = k
    · exact Or.inr q
    · exact Or.inl ⟨by omega, y2⟩
theorem fo_bitN {x : Int32} {k i : Nat} {P : Nat → Prop} (hi : i < 32) (h : ∀ i, i < 32 → (bt x i = true ↔ (i < k ∧ P i))) (hP : ¬ P k) : bt x i = true ↔ (i < k + 1 ∧ P i) := by
  rw [h i hi]
  constructor
  · exact fun y => ⟨by omega, y.2⟩
  · rintro ⟨y1, y2⟩
    by_cases q : i = k
    · rw [q] at y2; exact absurd y2 hP
    · exact ⟨by omega, y2⟩
theorem fo_t25 {post : Int32 → SX → Prop} {m : Nat} {hd : Nat → Nat} {c : Nat → Int} {F : Int} (D : fd_Dt fpr afo ato aro th fr tt rm) (hs : s < 8) (ht : t < 8) (N : fs_N 0 s t 1 th fr tt rm m hd c aet ale F)
    (K : ∀ x : Int32, (∀ i, i < 32 → (bt x i = true ↔ (i < 20 ∧ ∃ d, d < 256 ∧ fy_V s t d ∧ fy_Z 0 th fr tt rm d = F ∧ fy_cd th fr tt d i))) → post x (fpr, fso, fsi, nI (2 * m), ffl, fqf, fqs, foc, afo, ato, aro, aet, ale, afe, anx, alv, acu, acb, aex, ahs, aqu, aqd, apa, ago, ane, atr, aor)) :
    ∀ (d k : Nat) (x3 : Int32), k + d = 20 → (∀ i, i < 32 → (bt x3 i = true ↔ (i < k ∧ ∃ d, d < 256 ∧ fy_V s t d ∧ fy_Z 0 th fr tt rm d = F ∧ fy_cd th fr tt d i))) →
      wX_tight_25 post (nI s) (nI t) fpr fso fsi (nI (2 * m)) ffl fqf fqs foc afo ato aro aet ale afe anx alv acu acb aex ahs aqu aqd apa ago ane atr aor (d + 1) x3 (nI k) := by
  have h8 : ∀ k, k < 20 → fr k < 8 ∧ tt k < 8 := fun k hk => ⟨(D.2 k hk).2.2.2.1, (D.2 k hk).2.2.2.2.1⟩
  intro d
  induction d with
  | zero =>
    intro k x3 hk h
    obtain rfl : k = 20 := by omega
    rw [wX_tight_25]
    exact br_t (fa_t20 (by omega) (by omega)) (K _ h)
  | succ d ih =>
    intro k x3 hk h
    have ck : (nI k).toNatClampNeg = k := fa_cl (by omega)
    have wk : vp_in (nI k) 20 := fa_in (by omega) (by omega)
    have e0 : x3 ||| 0 = x3 := fb1_or0 x3
    have f8 := h8 k (by omega)
    have eF : afo (nI k).toNatClampNeg = nI (fr k) := by rw [ck]; exact (D.2 k (by omega)).1
    have eT : ato (nI k).toNatClampNeg = nI (tt k) := by rw [ck]; exact (D.2 k (by omega)).2.1
    have yes : (∃ d, d < 256 ∧ fy_V s t d ∧ fy_Z 0 th fr tt rm d = F ∧ fy_cd th fr tt d k) → wX_tight_89 post (wX_tight_25 post (nI s) (nI t) fpr fso fsi (nI (2 * m)) ffl fqf fqs foc afo ato aro aet ale afe anx alv acu acb aex ahs aqu aqd apa ago ane atr aor (d + 1)) (nI s) (nI t) x3 (nI k) 1 fpr fso fsi (nI (2 * m)) ffl fqf fqs foc afo ato aro aet ale afe anx alv acu acb aex ahs aqu aqd apa ago ane atr aor :=
      fun y => br_f (by decide) (nm_e (nm_r (nI_1 k) (ih _ _ (by omega) (fun i hi => fo_bitS (by omega) hi h y))))
    have no : ¬ (∃ d, d < 256 ∧ fy_V s t d ∧ fy_Z 0 th fr tt rm d = F ∧ fy_cd th fr tt d k) → wX_tight_89 post (wX_tight_25 post (nI s) (nI t) fpr fso fsi (nI (2 * m)) ffl fqf fqs foc afo ato aro aet ale afe anx alv acu acb aex ahs aqu aqd apa ago ane atr aor (d + 1)) (nI s) (nI t) x3 (nI k) 0 fpr fso fsi (nI (2 * m)) ffl fqf fqs foc afo ato aro aet ale afe anx alv acu acb aex ahs aqu aqd apa ago ane atr aor :=
      fun y => br_t rfl (nm_r e0 (nm_r (nI_1 k) (ih _ _ (by omega) (fun i hi => fo_bitN hi h y))))
    rw [wX_tight_25]
    refine br_f (fa_f20 (by omega)) (fe_has D.1 (by omega) (fun z => br_f (by decide) ⟨wk, ?_⟩) (fun z => br_t rfl (nm_r (nI_1 k) (ih _ _ (by omega) (fun i hi => fo_bitN hi h (fun y => ?_))))))
    · rw [eF]
      refine fy_spread (n := s) N.1 N.2.1 N.2.2.1 (by omega) (by rw [fb1_oh (by omega) (by omega), fk_oneS (by omega)]; rfl) (fun x R hc => ⟨wk, ?_⟩)
      have key := fk_tight N (by omega) h8 hs ht (by omega) R hc z
      show (((x >>> ((ato (nI k).toNatClampNeg) &&& 31)) &&& 1) = 0 → _) ∧ (¬ ((x >>> ((ato (nI k).toNatClampNeg) &&& 31)) &&& 1) = 0 → _)
      rw [eT]
      refine br_c (fun z1 => br_c (fun z2 => yes (key.mpr ⟨(fb1_z (by omega)).mp z1, (fb1_z (by omega)).mp z2⟩)) (fun z2 => no (fun y => z2 ((fb1_z (by omega)).mpr (key.mp y).2)))) (fun z1 => no (fun y => z1 ((fb1_z (by omega)).mpr (key.mp y).1)))
    · obtain ⟨_, _, _, _, g⟩ := y
      rw [g.2.1] at z
      exact absurd z (by decide)
theorem fo_w39 {post : Int32 → SX → Prop} {x3 x4 : Int32} (D : fd_Dt fpr afo ato aro th fr tt rm)
    (K : ∀ x : Int32, (∀ i, i < 32 → (bt x i = true ↔ (i < 20 ∧ (th i = true ∧ bt x3 (fr i) = true ∧ bt x4 (tt i) = true)))) → post x (fpr, fso, fsi, fed, ffl, fqf, fqs, foc, afo, ato, aro, aet, ale, afe, anx, alv, acu, acb, aex, ahs, aqu, aqd, apa, ago, ane, atr, aor)) :
    ∀ (d k : Nat) (x5 : Int32), k + d = 20 → (∀ i, i < 32 → (bt x5 i = true ↔ (i < k ∧ (th i = true ∧ bt x3 (fr i) = true ∧ bt x4 (tt i) = true)))) → wX_widening_39 post x3 x4 fpr fso fsi fed ffl fqf fqs foc afo ato aro aet ale afe anx alv acu acb aex ahs aqu aqd apa ago ane atr aor (d + 1) x5 (nI k) := by
  intro d
  induction d with
  | zero =>
    intro k x5 hk h
    obtain rfl : k = 20 := by omega
    rw [wX_widening_39]
    exact br_t (fa_t20 (by omega) (by omega)) (K _ h)
  | succ d ih =>
    intro k x5 hk h
    have ck : (nI k).toNatClampNeg = k := fa_cl (by omega)
    have wk : vp_in (nI k) 20 := fa_in (by omega) (by omega)
    have e0 : x5 ||| 0 = x5 := fb1_or0 x5
    obtain ⟨D1, D2, _, f8, t8, _⟩ := D.2 k (by omega)
    have eF : afo (nI k).toNatClampNeg = nI (fr k) := by rw [ck]; exact D1
    have eT : ato (nI k).toNatClampNeg = nI (tt k) := by rw [ck]; exact D2
    have yes : (th k = true ∧ bt x3 (fr k) = true ∧ bt x4 (tt k) = true) → wX_widening_89 post (wX_widening_39 post x3 x4 fpr fso fsi fed ffl fqf fqs foc afo ato aro aet ale afe anx alv acu acb aex ahs aqu aqd apa ago ane atr aor (d + 1)) x3 x4 x5 (nI k) 1 fpr fso fsi fed ffl fqf fqs foc afo ato aro aet ale afe anx alv acu acb aex ahs aqu aqd apa ago ane atr aor :=
      fun y => br_f (by decide) (nm_e (nm_r (nI_1 k) (ih _ _ (by omega) (fun i hi => fo_bitS (P := fun i => th i = true ∧ bt x3 (fr i) = true ∧ bt x4 (tt i) = true) (by omega) hi h y))))
    have no : ¬ (th k = true ∧ bt x3 (fr k) = true ∧ bt x4 (tt k) = true) → wX_widening_89 post (wX_widening_39 post x3 x4 fpr fso fsi fed ffl fqf fqs foc afo ato aro aet ale afe anx alv acu acb aex ahs aqu aqd apa ago ane atr aor (d + 1)) x3 x4 x5 (nI k) 0 fpr fso fsi fed ffl fqf fqs foc afo ato aro aet ale afe anx alv acu acb aex ahs aqu aqd apa ago ane atr aor :=
      fun y => br_t rfl (nm_r e0 (nm_r (nI_1 k) (ih _ _ (by omega) (fun i hi => fo_bitN (P := fun i => th i = true ∧ bt x3 (fr i) = true ∧ bt x4 (tt i) = true) hi h y))))
    have nf : ∀ {x : Int32} {p : Nat}, p < 32 → ¬ ((x >>> (nI p &&& 31)) &&& 1) = 0 → bt x p = true := fun hp z => Bool.not_eq_false _ ▸ (fun y => z ((fb1_z hp).mpr y))
    rw [wX_widening_39]
    dsimp only
    rw [eF, eT]
    refine br_f (fa_f20 (by omega)) (fe_has D.1 (by omega) (fun z => br_f (by decide) ⟨wk, br_c (fun z1 => no (fun y => ?_)) (fun z1 => ⟨wk, br_c (fun z2 => no (fun y => ?_)) (fun z2 => yes ⟨z, nf (by omega) z1, nf (by omega) z2⟩)⟩)⟩) (fun z => br_t rfl (no (fun y => ?_))))
    · have := (fb1_z (by omega)).mp z1
      rw [y.2.1] at this
      exact absurd this (by decide)
    · have := (fb1_z (by omega)).mp z2
      rw [y.2.2] at this
      exact absurd this (by decide)
    · rw [y.1] at z
      exact absurd z (by decide)
theorem fo_f33 {post : Int32 → SX → Prop} {x3 : Int32} (D : fd_Dt fpr afo ato aro th fr tt rm)
    (K : ∀ x : Int32, x.toInt = fy_sz 1 th fr tt rm (bt x3) (bt x3) 20 → post x (fpr, fso, fsi, fed, ffl, fqf, fqs, foc, afo, ato, aro, aet, ale, afe, anx, alv, acu, acb, aex, ahs, aqu, aqd, apa, ago, ane, atr, aor)) :
    ∀ (d k : Nat) (x4 : Int32), k + d = 20 → x4.toInt = fy_sz 1 th fr tt rm (bt x3) (bt x3) k → wX_fewest_33 post x3 fpr fso fsi fed ffl fqf fqs foc afo ato aro aet ale afe anx alv acu acb aex ahs aqu aqd apa ago ane atr aor (d + 1) x4 (nI k) := by
  intro d
  induction d with
  | zero =>
    intro k x4 hk h
    obtain rfl : k = 20 := by omega
    rw [wX_fewest_33]
    exact br_t (fa_t20 (by omega) (by omega)) (K _ h)
  | succ d ih =>
    intro k x4 hk h
    have ck : (nI k).toNatClampNeg = k := fa_cl (by omega)
    have wk : vp_in (nI k) 20 := fa_in (by omega) (by omega)
    obtain ⟨D1, D2, D3, f8, t8, r9, _⟩ := D.2 k (by omega)
    have eF : afo (nI k).toNatClampNeg = nI (fr k) := by rw [ck]; exact D1
    have eT : ato (nI k).toNatClampNeg = nI (tt k) := by rw [ck]; exact D2
    have sb := fy_szb (kind := 1) (th := th) (fr := fr) (tt := tt) (o := bt x3) (i := bt x3) (n := k) (fun k hk => (D.2 k hk).2.2.2.2.2.1) (by omega)
    have rv : fd_rv 1 (rm k) = if 0 < rm k then 1 else 0 := if_pos (Or.inl rfl)
    have s1 : fy_sz 1 th fr tt rm (bt x3) (bt x3) (k + 1) = fy_sz 1 th fr tt rm (bt x3) (bt x3) k + (if th k = true ∧ bt x3 (fr k) = true ∧ bt x3 (tt k) = false then (fd_rv 1 (rm k) : Int) else 0) := rfl
    have yes : (th k = true ∧ bt x3 (fr k) = true ∧ bt x3 (tt k) = false) → 0 < rm k → wX_fewest_92 post (wX_fewest_33 post x3 fpr fso fsi fed ffl fqf fqs foc afo ato aro aet ale afe anx alv acu acb aex ahs aqu aqd apa ago ane atr aor (d + 1)) x3 x4 (nI k) 1 fpr fso fsi fed ffl fqf fqs foc afo ato aro aet ale afe anx alv acu acb aex ahs aqu aqd apa ago ane atr aor := by
      intro y1 y2
      refine br_f (by decide) (fun x ex => nm_r (nI_1 k) (ih _ _ (by omega) ?_))
      rw [ex, fa_add (by rw [fa_1]; omega) (by rw [fa_1]; omega), fa_1, h, s1, if_pos y1, rv, if_pos y2]; rfl
    have no : (¬ (th k = true ∧ bt x3 (fr k) = true ∧ bt x3 (tt k) = false) ∨ rm k = 0) → wX_fewest_92 post (wX_fewest_33 post x3 fpr fso fsi fed ffl fqf fqs foc afo ato aro aet ale afe anx alv acu acb aex ahs aqu aqd apa ago ane atr aor (d + 1)) x3 x4 (nI k) 0 fpr fso fsi fed ffl fqf fqs foc afo ato aro aet ale afe anx alv acu acb aex ahs aqu aqd apa ago ane atr aor := by
      intro y
      refine br_t rfl (nm_r (e' := x4) (Int32.add_zero _) (nm_r (nI_1 k) (ih _ _ (by omega) ?_)))
      rw [h, s1]
      rcases y with y | y
      · rw [if_neg y]; omega
      · have rv0 : fd_rv 1 (rm k) = 0 := by rw [rv, y]; rfl
        rw [rv0]
        split <;> omega
    have nf : ∀ {x : Int32} {p : Nat}, p < 32 → ¬ ((x >>> (nI p &&& 31)) &&& 1) = 0 → bt x p = true := fun hp z => Bool.not_eq_false _ ▸ (fun y => z ((fb1_z hp).mpr y))
    have r0 : aro (nI k).toNatClampNeg ≤ 0 ↔ rm k = 0 := by
      rw [ck, D3, show (0 : Int32) = nI 0 from rfl, nI_leI (by omega) (by omega)]; omega
    rw [wX_fewest_33]
    dsimp only
    rw [eF, eT]
    refine br_f (fa_f20 (by omega)) (fe_has D.1 (by omega) (fun z => br_f (by decide) ⟨wk, br_c (fun z0 => no (Or.inr (r0.mp z0))) (fun z0 => ⟨wk, br_c (fun z1 => no (Or.inl (fun y => ?_))) (fun z1 => ⟨wk, br_c (fun z2 => yes ⟨z, nf (by omega) z1, (fb1_z (by omega)).mp z2⟩ ?_) (fun z2 => no (Or.inl (fun y => z2 ((fb1_z (by omega)).mpr y.2.2))))⟩)⟩)⟩) (fun z => br_t rfl (no (Or.inl (fun y => ?_)))))
    · have := (fb1_z (by omega)).mp z1
      rw [y.2.1] at this
      exact absurd this (by decide)
    · have : ¬ rm k = 0 := fun y => z0 (r0.mpr y)
      omega
    · rw [y.1] at z
      exact absurd z (by decide)
/-! the least of all pairs -/
def fo_mn (s t : Nat) (th : Nat → Bool) (fr tt rm : Nat → Nat) : Nat → Int
  | 0 => 10000
  | j + 1 => if (j.testBit s = true ∧ j.testBit t = false) ∧ fy_Z 0 th fr tt rm j < fo_mn s t th fr tt rm j then fy_Z 0 th fr tt rm j else fo_mn s t th fr tt rm j
theorem fo_mnp (j : Nat) : (∀ d, d < j → fy_V s t d → fo_mn s t th fr tt rm j ≤ fy_Z 0 th fr tt rm d) ∧ (fo_mn s t th fr tt rm j = 10000 ∨ ∃ d, d < j ∧ fy_V s t d ∧ fy_Z 0 th fr tt rm d = fo_mn s t th fr tt rm j) := by
  induction j with
  | zero => exact ⟨fun d hd => by omega, Or.inl rfl⟩
  | succ j ih =>
    obtain ⟨i1, i2⟩ := ih
    unfold fo_mn
    by_cases q : (j.testBit s = true ∧ j.testBit t = false) ∧ fy_Z 0 th fr tt rm j < fo_mn s t th fr tt rm j
    · rw [if_pos q]
      refine ⟨fun d hd hv => ?_, Or.inr ⟨j, by omega, q.1, rfl⟩⟩
      by_cases w : d = j
      · rw [w]; exact Int.le_refl _
      · have := i1 d (by omega) hv
        omega
    · rw [if_neg q]
      refine ⟨fun d hd hv => ?_, ?_⟩
      · by_cases w : d = j
        · rw [w] at hv ⊢
          have : ¬ fy_Z 0 th fr tt rm j < fo_mn s t th fr tt rm j := fun y => q ⟨hv, y⟩
          omega
        · exact i1 d (by omega) hv
      · rcases i2 with y | ⟨d, a, b⟩
        · exact Or.inl y
        · exact Or.inr ⟨d, by omega, b⟩
theorem fo_mnu {z : Int} (h1 : ∀ d, d < 256 → fy_V s t d → z ≤ fy_Z 0 th fr tt rm d) (h2 : ∃ d, d < 256 ∧ fy_V s t d ∧ fy_Z 0 th fr tt rm d = z) (h3 : z < 10000) : fo_mn s t th fr tt rm 256 = z := by
  obtain ⟨m1, m2⟩ := fo_mnp (s := s) (t := t) (th := th) (fr := fr) (tt := tt) (rm := rm) 256
  obtain ⟨d, a, b, e⟩ := h2
  have k1 := m1 d a b
  rcases m2 with y | ⟨d', a', b', e'⟩
  · omega
  · have := h1 d' a' b'
    omega
def fo_wk (f : Nat → Nat → Int) (A : Int) : Nat → Int
  | 0 => A
  | j + 1 => if j / 8 ≠ j % 8 ∧ f (j / 8) (j % 8) < fo_wk f A j then f (j / 8) (j % 8) else fo_wk f A j
theorem fo_wkle (f : Nat → Nat → Int) (A : Int) (j : Nat) : fo_wk f A j ≤ A := by
  induction j with
  | zero => exact Int.le_refl _
  | succ j ih =>
    unfold fo_wk
    split <;> omega
theorem fo_wkeq {f : Nat → Nat → Int} {A B : Int} (hA : f 0 1 < A) (hB : f 0 1 < B) (j : Nat) : fo_wk f A (j + 2) = fo_wk f B (j + 2) := by
  induction j with
  | zero =>
    have e : ∀ C : Int, f 0 1 < C → fo_wk f C 2 = f 0 1 := by
      intro C hC
      have w1 : fo_wk f C 1 = C := by
        unfold fo_wk
        rw [if_neg (fun y => y.1 rfl)]
        rfl
      have w2 : fo_wk f C 2 = if 1 / 8 ≠ 1 % 8 ∧ f (1 / 8) (1 % 8) < fo_wk f C 1 then f (1 / 8) (1 % 8) else fo_wk f C 1 := rfl
      rw [w2, w1, if_pos ⟨by decide, hC⟩]
    rw [e A hA, e B hB]
  | succ j ih =>
    have sA : fo_wk f A (j + 1 + 2) = if (j + 2) / 8 ≠ (j + 2) % 8 ∧ f ((j + 2) / 8) ((j + 2) % 8) < fo_wk f A (j + 2) then f ((j + 2) / 8) ((j + 2) % 8) else fo_wk f A (j + 2) := rfl
    have sB : fo_wk f B (j + 1 + 2) = if (j + 2) / 8 ≠ (j + 2) % 8 ∧ f ((j + 2) / 8) ((j + 2) % 8) < fo_wk f B (j + 2) then f ((j + 2) / 8) ((j + 2) % 8) else fo_wk f B (j + 2) := rfl
    rw [sA, sB, ih]
theorem fo_mnF {m : Nat} {hd : Nat → Nat} {c : Nat → Int} {F : Int} (D : fd_Dt fpr afo ato aro th fr tt rm) (hs : s < 8) (ht : t < 8) (hst : s ≠ t) (N : fs_N 0 s t 1 th fr tt rm m hd c aet ale F) : F = fo_mn s t th fr tt rm 256 := by
  have h8 : ∀ k, k < 20 → fr k < 8 ∧ tt k < 8 := fun k hk => ⟨(D.2 k hk).2.2.2.1, (D.2 k hk).2.2.2.2.1⟩
  obtain ⟨f1, f2⟩ := fk_F N (by omega) h8 hs ht
  have F9 := fc_F99 (fk_H N) N.2.2.2.1 N.2.2.2.2.2.1 (by omega) hst
  exact (fo_mnu f1 f2 (by omega)).symm
theorem fo_k13 {post : Int32 → SX → Prop} {J : _} {a : Nat} (D : fd_Dt fpr afo ato aro th fr tt rm) (ha : a < 8)
    (K : ∀ (x : Int32) (fso fsi fed ffl fqf fqs foc : Int32) (aet ale afe anx alv acu acb aex ahs aqu aqd apa ago ane atr aor : Nat → Int32), x.toInt = fo_wk (fun s t => fo_mn s t th fr tt rm 256) 1048576 (8 * a + 8) → J x (nI (a + 1)) fpr fso fsi fed ffl fqf fqs foc afo ato aro aet ale afe anx alv acu acb aex ahs aqu aqd apa ago ane atr aor) :
    ∀ (d b : Nat) (x1 : Int32) (fso fsi fed ffl fqf fqs foc : Int32) (aet ale afe anx alv acu acb aex ahs aqu aqd apa ago ane atr aor : Nat → Int32), b + d = 8 → x1.toInt = fo_wk (fun s t => fo_mn s t th fr tt rm 256) 1048576 (8 * a + b) → wX_weakest_13 post J (nI a) (d + 1) x1 (nI b) fpr fso fsi fed ffl fqf fqs foc afo ato aro aet ale afe anx alv acu acb aex ahs aqu aqd apa ago ane atr aor := by
  intro d
  induction d with
  | zero =>
    intro b x1 fso fsi fed ffl fqf fqs foc aet ale afe anx alv acu acb aex ahs aqu aqd apa ago ane atr aor hb h
    obtain rfl : b = 8 := by omega
    rw [wX_weakest_13]
    exact br_t (fa_t8 (by omega) (by omega)) (nm_r (nI_1 a) (K _ _ _ _ _ _ _ _ _ _ _ _ _ _ _ _ _ _ _ _ _ _ _ _ h))
  | succ d ih =>
    intro b x1 fso fsi fed ffl fqf fqs foc aet ale afe anx alv acu acb aex ahs aqu aqd apa ago ane atr aor hb h
    have q1 : (8 * a + b) / 8 = a := by omega
    have q2 : (8 * a + b) % 8 = b := by omega
    have st : fo_wk (fun s t => fo_mn s t th fr tt rm 256) 1048576 (8 * a + (b + 1)) = if a ≠ b ∧ fo_mn a b th fr tt rm 256 < fo_wk (fun s t => fo_mn s t th fr tt rm 256) 1048576 (8 * a + b) then fo_mn a b th fr tt rm 256 else fo_wk (fun s t => fo_mn s t th fr tt rm 256) 1048576 (8 * a + b) := by
      show (if (8 * a + b) / 8 ≠ (8 * a + b) % 8 ∧ fo_mn ((8 * a + b) / 8) ((8 * a + b) % 8) th fr tt rm 256 < fo_wk (fun s t => fo_mn s t th fr tt rm 256) 1048576 (8 * a + b) then fo_mn ((8 * a + b) / 8) ((8 * a + b) % 8) th fr tt rm 256 else fo_wk (fun s t => fo_mn s t th fr tt rm 256) 1048576 (8 * a + b)) = _
      rw [q1, q2]
    have le := fo_wkle (fun s t => fo_mn s t th fr tt rm 256) 1048576 (8 * a + b)
    rw [wX_weakest_13]
    refine br_f (fa_f8 (by omega)) (br_c (fun z => br_t ?_ (nm_r (nI_1 b) (ih _ _ _ _ _ _ _ _ _ _ _ _ _ _ _ _ _ _ _ _ _ _ _ _ _ (by omega) ?_))) (fun z => ⟨by decide, ?_⟩))
    · rw [fa_le, fa_far]; omega
    · have := fa_inj z (by omega) (by omega)
      rw [h, st, if_neg (fun y => y.1 this)]
    · have ab : a ≠ b := fun y => z (by rw [y])
      have eg : (nI a + nI b) - (nI a + nI b) / 7 * 7 = nI ((a + b) % 7) := by
        rw [nI_add]
        exact pk_rem (d := 7) (by omega) (by omega) (by omega)
      rw [eg]
      refine fs_best (kind := 0) D ha (by omega) ab (by omega) (by omega) (fun m hd c aet afe anx ffl fqf fqs foc ale alv acu acb aex ahs aqu aqd apa ago ane atr aor N => ?_)
      have eF := fo_mnF D ha (by omega) ab N
      refine br_c (fun z1 => nm_r (nI_1 b) (ih _ _ _ _ _ _ _ _ _ _ _ _ _ _ _ _ _ _ _ _ _ _ _ _ _ (by omega) ?_)) (fun z1 => nm_r (nI_1 b) (ih _ _ _ _ _ _ _ _ _ _ _ _ _ _ _ _ _ _ _ _ _ _ _ _ _ (by omega) ?_))
      · rw [fa_le] at z1
        rw [h, st, if_neg (fun y => by have := y.2; omega)]
      · rw [fa_le] at z1
        rw [st, if_pos ⟨ab, by omega⟩, eF]
theorem fo_k5 {post : Int32 → SX → Prop} (D : fd_Dt fpr afo ato aro th fr tt rm) (K : ∀ (x : Int32) (fso fsi fed ffl fqf fqs foc : Int32) (aet ale afe anx alv acu acb aex ahs aqu aqd apa ago ane atr aor : Nat → Int32), x.toInt = fo_wk (fun s t => fo_mn s t th fr tt rm 256) 1048576 64 → post x (fpr, fso, fsi, fed, ffl, fqf, fqs, foc, afo, ato, aro, aet, ale, afe, anx, alv, acu, acb, aex, ahs, aqu, aqd, apa, ago, ane, atr, aor)) :
    ∀ (d a : Nat) (x1 : Int32) (fso fsi fed ffl fqf fqs foc : Int32) (aet ale afe anx alv acu acb aex ahs aqu aqd apa ago ane atr aor : Nat → Int32), a + d = 8 → x1.toInt = fo_wk (fun s t => fo_mn s t th fr tt rm 256) 1048576 (8 * a) → wX_weakest_5 post (d + 1) x1 (nI a) fpr fso fsi fed ffl fqf fqs foc afo ato aro aet ale afe anx alv acu acb aex ahs aqu aqd apa ago ane atr aor := by
  intro d
  induction d with
  | zero =>
    intro a x1 fso fsi fed ffl fqf fqs foc aet ale afe anx alv acu acb aex ahs aqu aqd apa ago ane atr aor ha h
    obtain rfl : a = 8 := by omega
    rw [wX_weakest_5]
    exact br_t (fa_t8 (by omega) (by omega)) (K _ _ _ _ _ _ _ _ _ _ _ _ _ _ _ _ _ _ _ _ _ _ _ _ h)
  | succ d ih =>
    intro a x1 fso fsi fed ffl fqf fqs foc aet ale afe anx alv acu acb aex ahs aqu aqd apa ago ane atr aor ha h
    rw [wX_weakest_5]
    refine br_f (fa_f8 (by omega)) ⟨9, fo_k13 D (by omega) (fun x fso fsi fed ffl fqf fqs foc aet ale afe anx alv acu acb aex ahs aqu aqd apa ago ane atr aor hx => ih _ _ _ _ _ _ _ _ _ _ _ _ _ _ _ _ _ _ _ _ _ _ _ _ _ (by omega) ?_) 8 0 _ _ _ _ _ _ _ _ _ _ _ _ _ _ _ _ _ _ _ _ _ _ _ _ rfl h⟩
    rw [hx]; rfl
end LOOPS
section LOOPY
variable {ysz yco yjo ycs yca : Int32} {yth yfr yto yro : Nat → Int32}
variable {th : Nat → Bool} {fr tt rm : Nat → Nat}
theorem fo_y6 {post : Int32 → SY → Prop} (D : fy_D yth yfr yto yro th fr tt rm) (K : ∀ (x ysz yco yjo ycs yca : Int32), x.toInt = fo_wk (fun s t => fo_mn s t th fr tt rm 256) 10000 64 → post x (ysz, yco, yjo, ycs, yca, yth, yfr, yto, yro)) :
    ∀ (d j : Nat) (x1 ysz yco yjo ycs yca : Int32), j + d = 64 → x1.toInt = fo_wk (fun s t => fo_mn s t th fr tt rm 256) 10000 j → wY_weakest_6 post (d + 1) x1 (nI j) ysz yco yjo ycs yca yth yfr yto yro := by
  intro d
  induction d with
  | zero =>
    intro j x1 ysz yco yjo ycs yca hj h
    obtain rfl : j = 64 := by omega
    rw [wY_weakest_6]
    exact br_t (by decide) (K _ _ _ _ _ _ h)
  | succ d ih =>
    intro j x1 ysz yco yjo ycs yca hj h
    have eD : nI j / 8 = nI (j / 8) := pk_div (d := 8) (by omega) (by omega) (by omega)
    have eR : nI j - nI j / 8 * 8 = nI (j % 8) := pk_rem (d := 8) (by omega) (by omega) (by omega)
    have st : fo_wk (fun s t => fo_mn s t th fr tt rm 256) 10000 (j + 1) = if j / 8 ≠ j % 8 ∧ fo_mn (j / 8) (j % 8) th fr tt rm 256 < fo_wk (fun s t => fo_mn s t th fr tt rm 256) 10000 j then fo_mn (j / 8) (j % 8) th fr tt rm 256 else fo_wk (fun s t => fo_mn s t th fr tt rm 256) 10000 j := rfl
    rw [wY_weakest_6]
    refine br_f (fa_f64 (by omega)) ⟨by decide, by decide, ?_⟩
    rw [eR, eD]
    refine fo_valY D (fun s t zsz zco zjo zcs zca hs ht hst es et _ S => ?_) (fun y => br_t (by decide) (nm_r (nI_1 j) (ih _ _ _ _ _ _ _ (by omega) ?_)))
    · have s1 : j / 8 = s := fa_inj es (by omega) (by omega)
      have t1 : j % 8 = t := fa_inj et (by omega) (by omega)
      have nn := fo_nn D S
      obtain ⟨S1, S2⟩ := S
      have eF : fo_mn (j / 8) (j % 8) th fr tt rm 256 = zsz.toInt := by
        rw [s1, t1]
        exact fo_mnu S2.1 S1 (by omega)
      refine br_f ?_ (br_c (fun z => nm_r (nI_1 j) (ih _ _ _ _ _ _ _ (by omega) ?_)) (fun z => nm_r (nI_1 j) (ih _ _ _ _ _ _ _ (by omega) ?_)))
      · rw [fa_lt, fa_0]; omega
      · rw [fa_le] at z
        rw [h, st, if_neg (fun y => by have := y.2; omega)]
      · rw [fa_le] at z
        rw [st, if_pos ⟨by omega, by omega⟩, eF]
    · rw [h, st, if_neg]
      rintro ⟨g1, _⟩
      exact y ⟨⟨0, by omega, rfl⟩, j / 8, j % 8, by omega, by omega, g1, rfl, rfl⟩
end LOOPY
end
section
/-! 27: what is owed -/
def fo_ub (f : Nat → Bool) (q : Nat) (b : Bool) : Nat → Bool := fun j => if j = q then b else f j
theorem fo_ubs {f : Nat → Bool} {q : Nat} {b : Bool} : fo_ub f q b q = b := if_pos rfl
theorem fo_ubn {f : Nat → Bool} {q j : Nat} {b : Bool} (h : j ≠ q) : fo_ub f q b j = f j := if_neg h
theorem fo_uns {f : Nat → Nat} {q b : Nat} : fi_un f q b q = b := if_pos rfl
theorem fo_unn {f : Nat → Nat} {q j b : Nat} (h : j ≠ q) : fi_un f q b j = f j := if_neg h
/-- both keep the same arcs: present's bits and there, from, to, room; all else of the component is laid anew at each call -/
def i_Rel (k : Nat) (u : SX) (v : SY) : Prop := match u, v with
  | (fpr, fso, fsi, fed, ffl, fqf, fqs, foc, afo, ato, aro, aet, ale, afe, anx, alv, acu, acb, aex, ahs, aqu, aqd, apa, ago, ane, atr, aor), (ysz, yco, yjo, ycs, yca, yth, yfr, yto, yro) => ∃ (th : Nat → Bool) (fr tt rm : Nat → Nat), fd_Dt fpr afo ato aro th fr tt rm ∧ fy_D yth yfr yto yro th fr tt rm
theorem fo_rel {k : Nat} {fpr fso fsi fed ffl fqf fqs foc : Int32} {afo ato aro aet ale afe anx alv acu acb aex ahs aqu aqd apa ago ane atr aor : Nat → Int32} {ysz yco yjo ycs yca : Int32} {yth yfr yto yro : Nat → Int32} {th : Nat → Bool} {fr tt rm : Nat → Nat} (D : fd_Dt fpr afo ato aro th fr tt rm) (E : fy_D yth yfr yto yro th fr tt rm) : i_Rel k (fpr, fso, fsi, fed, ffl, fqf, fqs, foc, afo, ato, aro, aet, ale, afe, anx, alv, acu, acb, aex, ahs, aqu, aqd, apa, ago, ane, atr, aor) (ysz, yco, yjo, ycs, yca, yth, yfr, yto, yro) := ⟨th, fr, tt, rm, D, E⟩
theorem i_up {k : Nat} {u : SX} {v : SY} (h : i_Rel k u v) : i_Rel (k + 5) u v := h
theorem i_vc0 : wpX_init (fun u => wpY_init (fun v => i_Rel 0 u v)) := by
  refine Exists.intro (fun _ => false) (Exists.intro (fun _ => 0) (Exists.intro (fun _ => 0) (Exists.intro (fun _ => 0) ⟨⟨fun i hi => ?_, fun k hk => ⟨rfl, rfl, rfl, show 0 < 8 by omega, show 0 < 8 by omega, show 0 ≤ 99 by omega, fun z => absurd (show false = true from z) (by decide)⟩⟩, fun k hk => ⟨rfl, rfl, rfl, rfl, show 0 < 8 by omega, show 0 < 8 by omega, show 0 ≤ 99 by omega⟩⟩)))
  rw [b_0, Bool.and_false]
theorem fo_h8 {fpr : Int32} {afo ato aro : Nat → Int32} {th : Nat → Bool} {fr tt rm : Nat → Nat} (D : fd_Dt fpr afo ato aro th fr tt rm) : ∀ k, k < 20 → fr k < 8 ∧ tt k < 8 := fun k hk => ⟨(D.2 k hk).2.2.2.1, (D.2 k hk).2.2.2.2.1⟩
theorem i_vc_add {k : Nat} {u : SX} {v : SY} (I : i_Rel k u v) (hk : k + 5 ≤ 2560) (v1 : Int32) (v2 : Int32) (v3 : Int32) : wpX_add (fun r u' => wpY_add (fun r' v' => r' = r ∧ i_Rel (k + 5) u' v') v v1 v2 v3) u v1 v2 v3 := by
  obtain ⟨fpr, fso, fsi, fed, ffl, fqf, fqs, foc, afo, ato, aro, aet, ale, afe, anx, alv, acu, acb, aex, ahs, aqu, aqd, apa, ago, ane, atr, aor⟩ := u
  obtain ⟨ysz, yco, yjo, ycs, yca, yth, yfr, yto, yro⟩ := v
  obtain ⟨th, fr, tt, rm, D, E⟩ := I
  have bad : ¬ (fo_PR v1 v2 ∧ fo_AM v3) → wpY_add (fun r' v' => r' = (-1 : Int32) ∧ i_Rel (k + 5) (fpr, fso, fsi, fed, ffl, fqf, fqs, foc, afo, ato, aro, aet, ale, afe, anx, alv, acu, acb, aex, ahs, aqu, aqd, apa, ago, ane, atr, aor) v') (ysz, yco, yjo, ycs, yca, yth, yfr, yto, yro) v1 v2 v3 := by
    intro h
    unfold wpY_add
    exact fo_pairY (fun hp => br_f (by decide) (fo_amY (fun ha => absurd ⟨hp, ha⟩ h) (fun ha => br_t rfl ⟨rfl, fo_rel D E⟩))) (fun hp => br_t rfl ⟨rfl, fo_rel D E⟩)
  unfold wpX_add
  refine fo_pairX (fun hp => br_f (by decide) (br_c (fun z => bad (fun y => ?_)) (fun z => br_c (fun z1 => ⟨21, ?_⟩) (fun z1 => bad (fun y => ?_))))) (fun hp => br_t rfl (bad (fun y => hp y.1)))
  · have := fo_AMi.mp y.2
    rw [fa_lt, fa_0] at z; omega
  · rw [fa_lt, fa_0] at z
    rw [fa_le, fo_99] at z1
    have ha : fo_AM v3 := fo_AMi.mpr ⟨by omega, z1⟩
    have hp' := hp
    obtain ⟨a, b, a8, b8, ab, rfl, rfl⟩ := hp'
    obtain ⟨c, c9, rfl⟩ := ha
    refine fo_add23 D.1 (fun q hq hlt hf => ?_) (fun hall => ?_) 20 0 rfl (fun j hj => by omega)
    · unfold wpY_add
      refine fo_pairY (fun _ => br_f (by decide) (fo_amY (fun _ => br_f (by decide) ⟨21, fo_add22 E (fun q' hq' hlt' hf' => ?_) (fun hall => ?_) 20 0 rfl (fun j hj => by omega)⟩) (fun y => absurd ⟨c, c9, rfl⟩ y))) (fun y => absurd hp y)
      · have qq : q' = q := by
          rcases Nat.lt_trichotomy q q' with w | w | w
          · have := hlt' q w
            rw [hf] at this
            exact absurd this (by decide)
          · exact w.symm
          · have := hlt q' w
            rw [hf'] at this
            exact absurd this (by decide)
        subst qq
        rw [(fa_byte a (by omega)).2, (fa_byte b (by omega)).2, (fa_byte c (by omega)).2]
        refine ⟨rfl, fo_rel (th := fo_ub th q' true) (fr := fi_un fr q' a) (tt := fi_un tt q' b) (rm := fi_un rm q' c) ⟨fun i hi => ?_, fun j hj => ?_⟩ (fun j hj => ?_)⟩
        · rw [fb1_oh (by omega) hi, D.1 i hi]
          by_cases w : i = q'
          · rw [w, fo_ubs]; simp [hq']
          · rw [fo_ubn w]; simp [w]
        · by_cases w : j = q'
          · rw [w, fa_us, fa_us, fa_us, fo_uns, fo_uns, fo_uns]
            exact ⟨rfl, rfl, rfl, a8, b8, c9, fun _ => ab⟩
          · rw [fa_un w, fa_un w, fa_un w, fo_unn w, fo_unn w, fo_unn w, fo_ubn w]
            exact D.2 j hj
        · by_cases w : j = q'
          · rw [w, fa_us, fa_us, fa_us, fa_us, fo_uns, fo_uns, fo_uns, fo_ubs]
            exact ⟨rfl, rfl, rfl, rfl, a8, b8, c9⟩
          · rw [fa_un w, fa_un w, fa_un w, fa_un w, fo_unn w, fo_unn w, fo_unn w, fo_ubn w]
            exact E j hj
      · have := hall q hq
        rw [hf] at this
        exact absurd this (by decide)
    · unfold wpY_add
      refine fo_pairY (fun _ => br_f (by decide) (fo_amY (fun _ => br_f (by decide) ⟨21, fo_add22 E (fun q' hq' hlt' hf' => ?_) (fun _ => ⟨rfl, fo_rel D E⟩) 20 0 rfl (fun j hj => by omega)⟩) (fun y => absurd ⟨c, c9, rfl⟩ y))) (fun y => absurd hp y)
      have := hall q' hq'
      rw [hf'] at this
      exact absurd this (by decide)
  · have := fo_AMi.mp y.2
    rw [fa_le, fo_99] at z1; omega
theorem i_vc_remove {k : Nat} {u : SX} {v : SY} (I : i_Rel k u v) (hk : k + 5 ≤ 2560) (v1 : Int32) : wpX_remove (fun r u' => wpY_remove (fun r' v' => r' = r ∧ i_Rel (k + 5) u' v') v v1) u v1 := by
  obtain ⟨fpr, fso, fsi, fed, ffl, fqf, fqs, foc, afo, ato, aro, aet, ale, afe, anx, alv, acu, acb, aex, ahs, aqu, aqd, apa, ago, ane, atr, aor⟩ := u
  obtain ⟨ysz, yco, yjo, ycs, yca, yth, yfr, yto, yro⟩ := v
  obtain ⟨th, fr, tt, rm, D, E⟩ := I
  unfold wpX_remove
  refine fo_hasX D.1 (fun q hq eq hth => br_f (by decide) (nm_e ?_)) (fun hno => br_t rfl ?_)
  · subst eq
    have cq : (nI q).toNatClampNeg = q := fa_cl (by omega)
    have wq : vp_in (nI q) 20 := fa_in hq (by omega)
    refine ⟨wq, ?_⟩
    unfold wpY_remove
    refine fo_isY E (fun q' hq' eq' _ => br_f (by decide) ⟨wq, nm_r (e' := upd yth q 0) (by rw [cq, fa_z0]) ⟨wq, ?_, ?_⟩⟩) (fun y => ?_)
    · rw [cq, (E q hq).2.2.2.1, (D.2 q hq).2.2.1]
    · refine fo_rel (th := fo_ub th q false) (fr := fr) (tt := tt) (rm := rm) ⟨fun i hi => ?_, fun j hj => ?_⟩ (fun j hj => ?_)
      · rw [fb1_ah (by omega) hi, D.1 i hi]
        by_cases w : i = q
        · rw [w, fo_ubs]; simp
        · rw [fo_ubn w]; simp [w]
      · obtain ⟨a1, a2, a3, a4, a5, a6, a7⟩ := D.2 j hj
        refine ⟨a1, a2, a3, a4, a5, a6, fun y => a7 ?_⟩
        by_cases w : j = q
        · rw [w, fo_ubs] at y; exact absurd y (by decide)
        · rw [fo_ubn w] at y; exact y
      · obtain ⟨a1, a2⟩ := E j hj
        refine ⟨?_, a2⟩
        by_cases w : j = q
        · rw [w, fa_us, fo_ubs]; rfl
        · rw [fa_un w, fo_ubn w]; exact a1
    · have := y q hq rfl
      rw [hth] at this
      exact absurd this (by decide)
  · unfold wpY_remove
    refine fo_isY E (fun q' hq' eq' ht => ?_) (fun y => br_t rfl ⟨rfl, fo_rel D E⟩)
    have := hno q' hq' eq'
    rw [ht] at this
    exact absurd this (by decide)
theorem i_vc_change {k : Nat} {u : SX} {v : SY} (I : i_Rel k u v) (hk : k + 5 ≤ 2560) (v1 : Int32) (v2 : Int32) : wpX_change (fun r u' => wpY_change (fun r' v' => r' = r ∧ i_Rel (k + 5) u' v') v v1 v2) u v1 v2 := by
  obtain ⟨fpr, fso, fsi, fed, ffl, fqf, fqs, foc, afo, ato, aro, aet, ale, afe, anx, alv, acu, acb, aex, ahs, aqu, aqd, apa, ago, ane, atr, aor⟩ := u
  obtain ⟨ysz, yco, yjo, ycs, yca, yth, yfr, yto, yro⟩ := v
  obtain ⟨th, fr, tt, rm, D, E⟩ := I
  have bad : ¬ ((∃ q : Nat, q < 20 ∧ v1 = nI q ∧ th q = true) ∧ fo_AM v2) → wpY_change (fun r' v' => r' = (-1 : Int32) ∧ i_Rel (k + 5) (fpr, fso, fsi, fed, ffl, fqf, fqs, foc, afo, ato, aro, aet, ale, afe, anx, alv, acu, acb, aex, ahs, aqu, aqd, apa, ago, ane, atr, aor) v') (ysz, yco, yjo, ycs, yca, yth, yfr, yto, yro) v1 v2 := by
    intro h
    unfold wpY_change
    exact fo_isY E (fun q hq eq ht => br_f (by decide) (fo_amY (fun ha => absurd ⟨⟨q, hq, eq, ht⟩, ha⟩ h) (fun ha => br_t rfl ⟨rfl, fo_rel D E⟩))) (fun y => br_t rfl ⟨rfl, fo_rel D E⟩)
  unfold wpX_change
  refine fo_hasX D.1 (fun q hq eq hth => br_f (by decide) (br_c (fun z => bad (fun y => ?_)) (fun z => br_c (fun z1 => ?_) (fun z1 => bad (fun y => ?_))))) (fun hno => br_t rfl (bad (fun y => ?_)))
  · have := fo_AMi.mp y.2
    rw [fa_lt, fa_0] at z; omega
  · rw [fa_lt, fa_0] at z
    rw [fa_le, fo_99] at z1
    obtain ⟨c, c9, rfl⟩ : fo_AM v2 := fo_AMi.mpr ⟨by omega, z1⟩
    subst eq
    have cq : (nI q).toNatClampNeg = q := fa_cl (by omega)
    have wq : vp_in (nI q) 20 := fa_in hq (by omega)
    refine ⟨wq, nm_r (e' := aro q) (by rw [cq]) ⟨wq, nm_r (e' := upd aro q (nI c)) (by rw [cq, (fa_byte c (by omega)).2]) ?_⟩⟩
    unfold wpY_change
    refine fo_isY E (fun q' hq' eq' _ => br_f (by decide) (fo_amY (fun _ => br_f (by decide) ⟨wq, nm_r (e' := yro q) (by rw [cq]) ⟨wq, nm_r (e' := upd yro q (nI c)) (by rw [cq]) ⟨?_, ?_⟩⟩⟩) (fun y => absurd ⟨c, c9, rfl⟩ y))) (fun y => ?_)
    · rw [(E q hq).2.2.2.1, (D.2 q hq).2.2.1]
    · refine fo_rel (th := th) (fr := fr) (tt := tt) (rm := fi_un rm q c) ⟨D.1, fun j hj => ?_⟩ (fun j hj => ?_)
      · obtain ⟨a1, a2, a3, a4, a5, a6, a7⟩ := D.2 j hj
        by_cases w : j = q
        · rw [w, fo_uns, fa_us]
          rw [w] at a1 a2 a4 a5 a7
          exact ⟨a1, a2, rfl, a4, a5, c9, a7⟩
        · rw [fo_unn w, fa_un w]
          exact ⟨a1, a2, a3, a4, a5, a6, a7⟩
      · obtain ⟨a1, a2, a3, a4, a5, a6, a7⟩ := E j hj
        by_cases w : j = q
        · rw [w, fo_uns, fa_us]
          rw [w] at a1 a2 a3 a5 a6
          exact ⟨a1, a2, a3, rfl, a5, a6, c9⟩
        · rw [fo_unn w, fa_un w]
          exact ⟨a1, a2, a3, a4, a5, a6, a7⟩
    · have := y q hq rfl
      rw [hth] at this
      exact absurd this (by decide)
  · have := fo_AMi.mp y.2
    rw [fa_le, fo_99] at z1; omega
  · obtain ⟨⟨q, hq, eq, ht⟩, _⟩ := y
    have := hno q hq eq
    rw [ht] at this
    exact absurd this (by decide)
theorem i_vc_arcs {k : Nat} {u : SX} {v : SY} (I : i_Rel k u v) (hk : k + 5 ≤ 2560) : wpX_arcs (fun r => wpY_arcs (fun r' => r' = r ∧ i_Rel (k + 5) u v) v) u := by
  obtain ⟨fpr, fso, fsi, fed, ffl, fqf, fqs, foc, afo, ato, aro, aet, ale, afe, anx, alv, acu, acb, aex, ahs, aqu, aqd, apa, ago, ane, atr, aor⟩ := u
  obtain ⟨ysz, yco, yjo, ycs, yca, yth, yfr, yto, yro⟩ := v
  have I0 := I
  obtain ⟨th, fr, tt, rm, D, E⟩ := I
  show wpY_arcs _ (ysz, yco, yjo, ycs, yca, yth, yfr, yto, yro)
  refine ⟨21, fo_arcs4 E (fun x hx => ⟨b_ext (fun i hi => ?_), I0⟩) 20 0 0 rfl (fun i hi => ?_)⟩
  · rw [b_0, decide_eq_false (by omega), Bool.false_and]
  · rw [hx i hi, D.1 i hi]
theorem i_vc_value {k : Nat} {u : SX} {v : SY} (I : i_Rel k u v) (hk : k + 5 ≤ 2560) (v1 : Int32) (v2 : Int32) (v3 : Int32) : wpX_value (fun r u' => wpY_value (fun r' v' => r' = r ∧ i_Rel (k + 5) u' v') v v1 v2 v3) u v1 v2 v3 := by
  obtain ⟨fpr, fso, fsi, fed, ffl, fqf, fqs, foc, afo, ato, aro, aet, ale, afe, anx, alv, acu, acb, aex, ahs, aqu, aqd, apa, ago, ane, atr, aor⟩ := u
  obtain ⟨ysz, yco, yjo, ycs, yca, yth, yfr, yto, yro⟩ := v
  obtain ⟨th, fr, tt, rm, D, E⟩ := I
  have bad : ¬ (fo_EN v1 ∧ fo_PR v2 v3) → wpY_value (fun r' v' => r' = (-1 : Int32) ∧ i_Rel (k + 5) (fpr, fso, fsi, fed, ffl, fqf, fqs, foc, afo, ato, aro, aet, ale, afe, anx, alv, acu, acb, aex, ahs, aqu, aqd, apa, ago, ane, atr, aor) v') (ysz, yco, yjo, ycs, yca, yth, yfr, yto, yro) v1 v2 v3 := by
    intro h
    exact fo_valY E (fun s t _ _ _ _ _ a b c d e f _ => absurd ⟨f, s, t, a, b, c, d, e⟩ h) (fun _ => ⟨rfl, fo_rel D E⟩)
  unfold wpX_value
  refine fo_pairX (fun hp => br_f (by decide) (fo_engX (fun he => br_f (by decide) ?_) (fun he => br_t rfl (bad (fun y => he y.1))))) (fun hp => br_t rfl (bad (fun y => hp y.2)))
  have hp' := hp
  have he' := he
  obtain ⟨s, t, s8, t8, st, rfl, rfl⟩ := hp'
  obtain ⟨g, g6, rfl⟩ := he'
  refine fs_best (kind := 0) D s8 t8 st (by omega) g6 (fun m hd c aet afe anx ffl fqf fqs foc ale alv acu acb aex ahs aqu aqd apa ago ane atr aor N => ?_)
  refine fo_valY E (fun s' t' zsz zco zjo zcs zca a b cc d e _ S => ⟨?_, fo_rel D E⟩) (fun y => absurd ⟨he, hp⟩ y)
  obtain rfl : s = s' := fa_inj d (by omega) (by omega)
  obtain rfl : t = t' := fa_inj e (by omega) (by omega)
  rw [fa_eq]
  exact fk_val N (by omega) (fo_h8 D) s8 t8 S
theorem i_vc_agree {k : Nat} {u : SX} {v : SY} (I : i_Rel k u v) (hk : k + 5 ≤ 2560) (v1 : Int32) (v2 : Int32) (v3 : Int32) (v4 : Int32) : wpX_agree (fun r u' => wpY_agree (fun r' => r' = r ∧ i_Rel (k + 5) u' v) v v1 v2 v3 v4) u v1 v2 v3 v4 := by
  obtain ⟨fpr, fso, fsi, fed, ffl, fqf, fqs, foc, afo, ato, aro, aet, ale, afe, anx, alv, acu, acb, aex, ahs, aqu, aqd, apa, ago, ane, atr, aor⟩ := u
  obtain ⟨ysz, yco, yjo, ycs, yca, yth, yfr, yto, yro⟩ := v
  obtain ⟨th, fr, tt, rm, D, E⟩ := I
  have bad : ¬ (fo_EN v1 ∧ fo_EN v2 ∧ fo_PR v3 v4) → wpY_agree (fun r' => r' = (0 : Int32) ∧ i_Rel (k + 5) (fpr, fso, fsi, fed, ffl, fqf, fqs, foc, afo, ato, aro, aet, ale, afe, anx, alv, acu, acb, aex, ahs, aqu, aqd, apa, ago, ane, atr, aor) (ysz, yco, yjo, ycs, yca, yth, yfr, yto, yro)) (ysz, yco, yjo, ycs, yca, yth, yfr, yto, yro) v1 v2 v3 v4 := by
    intro h
    unfold wpY_agree
    exact fo_engY (fun h1 => br_f (by decide) (fo_engY (fun h2 => br_f (by decide) (fo_pairY (fun h3 => absurd ⟨h1, h2, h3⟩ h) (fun _ => br_t rfl ⟨rfl, fo_rel D E⟩))) (fun _ => br_t rfl ⟨rfl, fo_rel D E⟩))) (fun _ => br_t rfl ⟨rfl, fo_rel D E⟩)
  unfold wpX_agree
  refine fo_pairX (fun hp => br_f (by decide) (fo_engX (fun he => br_f (by decide) (fo_engX (fun he2 => br_f (by decide) ?_) (fun he2 => br_t rfl (bad (fun y => he2 y.2.1))))) (fun he => br_t rfl (bad (fun y => he y.1))))) (fun hp => br_t rfl (bad (fun y => hp y.2.2)))
  have hp' := hp
  have he' := he
  have he2' := he2
  obtain ⟨s, t, s8, t8, st, rfl, rfl⟩ := hp'
  obtain ⟨g, g6, rfl⟩ := he'
  obtain ⟨g', g6', rfl⟩ := he2'
  refine fs_best (kind := 0) D s8 t8 st (by omega) g6 (fun m hd c aet afe anx ffl fqf fqs foc ale alv acu acb aex ahs aqu aqd apa ago ane atr aor N => ?_)
  refine fs_best (kind := 0) D s8 t8 st (by omega) g6' (fun m2 hd2 c2 aet2 afe2 anx2 ffl2 fqf2 fqs2 foc2 ale2 alv2 acu2 acb2 aex2 ahs2 aqu2 aqd2 apa2 ago2 ane2 atr2 aor2 N2 => ?_)
  refine br_t ?_ ?_
  · rw [fa_eq]
    exact (fo_mnF D s8 t8 st N).trans (fo_mnF D s8 t8 st N2).symm
  · unfold wpY_agree
    exact fo_engY (fun h1 => br_f (by decide) (fo_engY (fun h2 => br_f (by decide) (fo_pairY (fun h3 => br_f (by decide) ⟨rfl, fo_rel D E⟩) (fun y => absurd hp y))) (fun y => absurd he2 y))) (fun y => absurd he y)
theorem i_vc_least {k : Nat} {u : SX} {v : SY} (I : i_Rel k u v) (hk : k + 5 ≤ 2560) (v1 : Int32) (v2 : Int32) : wpX_least (fun r u' => wpY_least (fun r' v' => r' = r ∧ i_Rel (k + 5) u' v') v v1 v2) u v1 v2 := by
  obtain ⟨fpr, fso, fsi, fed, ffl, fqf, fqs, foc, afo, ato, aro, aet, ale, afe, anx, alv, acu, acb, aex, ahs, aqu, aqd, apa, ago, ane, atr, aor⟩ := u
  obtain ⟨ysz, yco, yjo, ycs, yca, yth, yfr, yto, yro⟩ := v
  obtain ⟨th, fr, tt, rm, D, E⟩ := I
  unfold wpX_least
  refine fo_pairX (fun hp => br_f (by decide) ?_) (fun hp => br_t rfl ?_)
  · have hp' := hp
    obtain ⟨s, t, s8, t8, st, rfl, rfl⟩ := hp'
    refine fs_best (kind := 0) (g := 1) D s8 t8 st (by omega) (by omega) (fun m hd c aet afe anx ffl fqf fqs foc ale alv acu acb aex ahs aqu aqd apa ago ane atr aor N => ?_)
    refine fy_spread (n := s) N.1 N.2.1 N.2.2.1 (by omega) (fk_oneS (by omega)) (fun x R hc => ?_)
    unfold wpY_least
    refine fo_valY E (fun s' t' zsz zco zjo zcs zca a b cc d e _ S => ?_) (fun y => absurd ⟨⟨0, by omega, rfl⟩, hp⟩ y)
    obtain rfl : s = s' := fa_inj d (by omega) (by omega)
    obtain rfl : t = t' := fa_inj e (by omega) (by omega)
    refine br_t ?_ ⟨fk_least N (by omega) (fo_h8 D) s8 t8 S R hc, fo_rel D E⟩
    rw [fa_le, fa_0]; exact (fo_nn E S).1
  · unfold wpY_least
    exact fo_valY E (fun s t _ _ _ _ _ a b c d e _ _ => absurd ⟨s, t, a, b, c, d, e⟩ hp) (fun _ => br_f (by decide) ⟨rfl, fo_rel D E⟩)
theorem i_vc_most {k : Nat} {u : SX} {v : SY} (I : i_Rel k u v) (hk : k + 5 ≤ 2560) (v1 : Int32) (v2 : Int32) : wpX_most (fun r u' => wpY_most (fun r' v' => r' = r ∧ i_Rel (k + 5) u' v') v v1 v2) u v1 v2 := by
  obtain ⟨fpr, fso, fsi, fed, ffl, fqf, fqs, foc, afo, ato, aro, aet, ale, afe, anx, alv, acu, acb, aex, ahs, aqu, aqd, apa, ago, ane, atr, aor⟩ := u
  obtain ⟨ysz, yco, yjo, ycs, yca, yth, yfr, yto, yro⟩ := v
  obtain ⟨th, fr, tt, rm, D, E⟩ := I
  unfold wpX_most
  refine fo_pairX (fun hp => br_f (by decide) ?_) (fun hp => br_t rfl ?_)
  · have hp' := hp
    obtain ⟨s, t, s8, t8, st, rfl, rfl⟩ := hp'
    refine fs_best (kind := 0) (g := 3) D s8 t8 st (by omega) (by omega) (fun m hd c aet afe anx ffl fqf fqs foc ale alv acu acb aex ahs aqu aqd apa ago ane atr aor N => ?_)
    refine fy_coming N.1 N.2.1 N.2.2.1 (by omega) (fun x R hc => ?_)
    unfold wpY_most
    refine fo_valY E (fun s' t' zsz zco zjo zcs zca a b cc d e _ S => ?_) (fun y => absurd ⟨⟨0, by omega, rfl⟩, hp⟩ y)
    obtain rfl : s = s' := fa_inj d (by omega) (by omega)
    obtain rfl : t = t' := fa_inj e (by omega) (by omega)
    refine br_t ?_ ⟨fk_most N (by omega) (fo_h8 D) s8 t8 S R hc, fo_rel D E⟩
    rw [fa_le, fa_0]; exact (fo_nn E S).1
  · unfold wpY_most
    exact fo_valY E (fun s t _ _ _ _ _ a b c d e _ _ => absurd ⟨s, t, a, b, c, d, e⟩ hp) (fun _ => br_f (by decide) ⟨rfl, fo_rel D E⟩)
theorem i_vc_tight {k : Nat} {u : SX} {v : SY} (I : i_Rel k u v) (hk : k + 5 ≤ 2560) (v1 : Int32) (v2 : Int32) : wpX_tight (fun r u' => wpY_tight (fun r' v' => r' = r ∧ i_Rel (k + 5) u' v') v v1 v2) u v1 v2 := by
  obtain ⟨fpr, fso, fsi, fed, ffl, fqf, fqs, foc, afo, ato, aro, aet, ale, afe, anx, alv, acu, acb, aex, ahs, aqu, aqd, apa, ago, ane, atr, aor⟩ := u
  obtain ⟨ysz, yco, yjo, ycs, yca, yth, yfr, yto, yro⟩ := v
  obtain ⟨th, fr, tt, rm, D, E⟩ := I
  unfold wpX_tight
  refine fo_pairX (fun hp => br_f (by decide) ?_) (fun hp => br_t rfl ?_)
  · have hp' := hp
    obtain ⟨s, t, s8, t8, st, rfl, rfl⟩ := hp'
    refine fs_best (kind := 0) (g := 6) D s8 t8 st (by omega) (by omega) (fun m hd c aet afe anx ffl fqf fqs foc ale alv acu acb aex ahs aqu aqd apa ago ane atr aor N => ⟨21, ?_⟩)
    refine fo_t25 D s8 t8 N (fun x hx => ?_) 20 0 0 rfl (fun i hi => ⟨fun y => by rw [b_0] at y; exact absurd y (by decide), fun y => absurd y.1 (by omega)⟩)
    unfold wpY_tight
    refine fo_valY E (fun s' t' zsz zco zjo zcs zca a b cc d e _ S => ?_) (fun y => absurd ⟨⟨0, by omega, rfl⟩, hp⟩ y)
    obtain rfl : s = s' := fa_inj d (by omega) (by omega)
    obtain rfl : t = t' := fa_inj e (by omega) (by omega)
    have eF := fk_val N (by omega) (fo_h8 D) s8 t8 S
    refine br_t ?_ ⟨b_ext (fun i hi => ?_), fo_rel D E⟩
    · rw [fa_le, fa_0]; exact (fo_nn E S).1
    · rw [Bool.eq_iff_iff, hx i hi, S.2.2.2.2.1 i hi, eF]
      constructor
      · rintro ⟨d, y⟩
        exact ⟨y.2.2.2.1, d, y⟩
      · exact fun y => y.2
  · unfold wpY_tight
    exact fo_valY E (fun s t _ _ _ _ _ a b c d e _ _ => absurd ⟨s, t, a, b, c, d, e⟩ hp) (fun _ => br_f (by decide) ⟨rfl, fo_rel D E⟩)
theorem i_vc_widening {k : Nat} {u : SX} {v : SY} (I : i_Rel k u v) (hk : k + 5 ≤ 2560) (v1 : Int32) (v2 : Int32) : wpX_widening (fun r u' => wpY_widening (fun r' v' => r' = r ∧ i_Rel (k + 5) u' v') v v1 v2) u v1 v2 := by
  obtain ⟨fpr, fso, fsi, fed, ffl, fqf, fqs, foc, afo, ato, aro, aet, ale, afe, anx, alv, acu, acb, aex, ahs, aqu, aqd, apa, ago, ane, atr, aor⟩ := u
  obtain ⟨ysz, yco, yjo, ycs, yca, yth, yfr, yto, yro⟩ := v
  obtain ⟨th, fr, tt, rm, D, E⟩ := I
  unfold wpX_widening
  refine fo_pairX (fun hp => br_f (by decide) ?_) (fun hp => br_t rfl ?_)
  · have hp' := hp
    obtain ⟨s, t, s8, t8, st, rfl, rfl⟩ := hp'
    refine fs_best (kind := 0) (g := 5) D s8 t8 st (by omega) (by omega) (fun m hd c aet afe anx ffl fqf fqs foc ale alv acu acb aex ahs aqu aqd apa ago ane atr aor N => ?_)
    refine fy_spread (n := s) N.1 N.2.1 N.2.2.1 (by omega) (fk_oneS (by omega)) (fun x R hc => ?_)
    refine fy_coming N.1 N.2.1 N.2.2.1 (by omega) (fun y R' hc' => ⟨21, ?_⟩)
    refine fo_w39 D (fun z hz => ?_) 20 0 0 rfl (fun i hi => ⟨fun y => by rw [b_0] at y; exact absurd y (by decide), fun y => absurd y.1 (by omega)⟩)
    unfold wpY_widening
    refine fo_valY E (fun s' t' zsz zco zjo zcs zca a b cc d e _ S => ?_) (fun y => absurd ⟨⟨0, by omega, rfl⟩, hp⟩ y)
    obtain rfl : s = s' := fa_inj d (by omega) (by omega)
    obtain rfl : t = t' := fa_inj e (by omega) (by omega)
    refine br_t ?_ ⟨b_ext (fun i hi => ?_), fo_rel D E⟩
    · rw [fa_le, fa_0]; exact (fo_nn E S).1
    · rw [Bool.eq_iff_iff, hz i hi]
      exact fk_wide N (by omega) (fo_h8 D) s8 t8 S R hc R' hc' hi
  · unfold wpY_widening
    exact fo_valY E (fun s t _ _ _ _ _ a b c d e _ _ => absurd ⟨s, t, a, b, c, d, e⟩ hp) (fun _ => br_f (by decide) ⟨rfl, fo_rel D E⟩)
theorem i_vc_apart {k : Nat} {u : SX} {v : SY} (I : i_Rel k u v) (hk : k + 5 ≤ 2560) (v1 : Int32) (v2 : Int32) : wpX_apart (fun r u' => wpY_apart (fun r' v' => r' = r ∧ i_Rel (k + 5) u' v') v v1 v2) u v1 v2 := by
  obtain ⟨fpr, fso, fsi, fed, ffl, fqf, fqs, foc, afo, ato, aro, aet, ale, afe, anx, alv, acu, acb, aex, ahs, aqu, aqd, apa, ago, ane, atr, aor⟩ := u
  obtain ⟨ysz, yco, yjo, ycs, yca, yth, yfr, yto, yro⟩ := v
  obtain ⟨th, fr, tt, rm, D, E⟩ := I
  unfold wpX_apart
  refine fo_pairX (fun hp => br_f (by decide) ?_) (fun hp => br_t rfl ?_)
  · have hp' := hp
    obtain ⟨s, t, s8, t8, st, rfl, rfl⟩ := hp'
    refine fs_best (kind := 1) (g := 1) D s8 t8 st (by omega) (by omega) (fun m hd c aet afe anx ffl fqf fqs foc ale alv acu acb aex ahs aqu aqd apa ago ane atr aor N => ?_)
    unfold wpY_apart
    refine fo_fewY E (fun s' t' zsz zco zjo zcs zca a b cc d e S => ?_) (fun y => absurd hp y)
    obtain rfl : s = s' := fa_inj d (by omega) (by omega)
    obtain rfl : t = t' := fa_inj e (by omega) (by omega)
    refine ⟨?_, fo_rel D E⟩
    rw [fa_eq]
    exact fk_val N (by omega) (fo_h8 D) s8 t8 S
  · unfold wpY_apart
    exact fo_fewY E (fun s t _ _ _ _ _ a b c d e _ => absurd ⟨s, t, a, b, c, d, e⟩ hp) (fun _ => ⟨rfl, fo_rel D E⟩)
theorem i_vc_separate {k : Nat} {u : SX} {v : SY} (I : i_Rel k u v) (hk : k + 5 ≤ 2560) (v1 : Int32) (v2 : Int32) : wpX_separate (fun r u' => wpY_separate (fun r' => r' = r ∧ i_Rel (k + 5) u' v) v v1 v2) u v1 v2 := by
  obtain ⟨fpr, fso, fsi, fed, ffl, fqf, fqs, foc, afo, ato, aro, aet, ale, afe, anx, alv, acu, acb, aex, ahs, aqu, aqd, apa, ago, ane, atr, aor⟩ := u
  obtain ⟨ysz, yco, yjo, ycs, yca, yth, yfr, yto, yro⟩ := v
  obtain ⟨th, fr, tt, rm, D, E⟩ := I
  unfold wpX_separate
  refine fo_pairX (fun hp => br_f (by decide) ?_) (fun hp => br_t rfl ?_)
  · have hp' := hp
    obtain ⟨s, t, s8, t8, st, rfl, rfl⟩ := hp'
    refine fs_best (kind := 2) (g := 6) D s8 t8 st (by omega) (by omega) (fun m hd c aet afe anx ffl fqf fqs foc ale alv acu acb aex ahs aqu aqd apa ago ane atr aor N => ?_)
    unfold wpY_separate
    refine fo_pairY (fun _ => br_f (by decide) ?_) (fun y => absurd hp y)
    refine fy_parted (kind := 2) (much := 1) E (by omega) s8 t8 (by omega) (fun x h1 h2 => ⟨?_, fo_rel D E⟩)
    rw [fa_eq]
    exact fk_parted N (by omega) (fo_h8 D) s8 t8 st h1 h2
  · unfold wpY_separate
    exact fo_pairY (fun y => absurd y hp) (fun _ => br_t rfl ⟨rfl, fo_rel D E⟩)
theorem i_vc_weakest {k : Nat} {u : SX} {v : SY} (I : i_Rel k u v) (hk : k + 5 ≤ 2560) : wpX_weakest (fun r u' => wpY_weakest (fun r' v' => r' = r ∧ i_Rel (k + 5) u' v') v) u := by
  obtain ⟨fpr, fso, fsi, fed, ffl, fqf, fqs, foc, afo, ato, aro, aet, ale, afe, anx, alv, acu, acb, aex, ahs, aqu, aqd, apa, ago, ane, atr, aor⟩ := u
  obtain ⟨ysz, yco, yjo, ycs, yca, yth, yfr, yto, yro⟩ := v
  obtain ⟨th, fr, tt, rm, D, E⟩ := I
  refine ⟨9, fo_k5 D (fun x fso fsi fed ffl fqf fqs foc aet ale afe anx alv acu acb aex ahs aqu aqd apa ago ane atr aor hx => ⟨65, fo_y6 E (fun y ysz yco yjo ycs yca hy => ⟨?_, fo_rel D E⟩) 64 0 _ _ _ _ _ _ rfl (show (10000 : Int32).toInt = 10000 by decide)⟩) 8 0 _ _ _ _ _ _ _ _ _ _ _ _ _ _ _ _ _ _ _ _ _ _ _ _ rfl fa_far⟩
  have b01 : fo_mn 0 1 th fr tt rm 256 < 10000 := by
    obtain ⟨m1, _⟩ := fo_mnp (s := 0) (t := 1) (th := th) (fr := fr) (tt := tt) (rm := rm) 256
    have := m1 1 (by omega) ⟨by decide, by decide⟩
    have zb := fy_szb (kind := 0) (th := th) (fr := fr) (tt := tt) (o := (1 : Nat).testBit) (i := (1 : Nat).testBit) (n := 20) (fun k hk => (D.2 k hk).2.2.2.2.2.1) (by omega)
    unfold fy_Z at this
    omega
  rw [fa_eq, hx, hy]
  exact fo_wkeq (f := fun s t => fo_mn s t th fr tt rm 256) b01 (by show fo_mn 0 1 th fr tt rm 256 < 1048576; omega) 62
theorem i_vc_throttled {k : Nat} {u : SX} {v : SY} (I : i_Rel k u v) (hk : k + 5 ≤ 2560) (v1 : Int32) (v2 : Int32) (v3 : Int32) : wpX_throttled (fun r u' => wpY_throttled (fun r' => r' = r ∧ i_Rel (k + 5) u' v) v v1 v2 v3) u v1 v2 v3 := by
  obtain ⟨fpr, fso, fsi, fed, ffl, fqf, fqs, foc, afo, ato, aro, aet, ale, afe, anx, alv, acu, acb, aex, ahs, aqu, aqd, apa, ago, ane, atr, aor⟩ := u
  obtain ⟨ysz, yco, yjo, ycs, yca, yth, yfr, yto, yro⟩ := v
  obtain ⟨th, fr, tt, rm, D, E⟩ := I
  have bad : ¬ (fo_PR v1 v2 ∧ fo_AM v3) → wpY_throttled (fun r' => r' = (-1 : Int32) ∧ i_Rel (k + 5) (fpr, fso, fsi, fed, ffl, fqf, fqs, foc, afo, ato, aro, aet, ale, afe, anx, alv, acu, acb, aex, ahs, aqu, aqd, apa, ago, ane, atr, aor) (ysz, yco, yjo, ycs, yca, yth, yfr, yto, yro)) (ysz, yco, yjo, ycs, yca, yth, yfr, yto, yro) v1 v2 v3 := by
    intro h
    unfold wpY_throttled
    exact fo_pairY (fun hp => br_f (by decide) (fo_amY (fun ha => absurd ⟨hp, ha⟩ h) (fun ha => br_t rfl ⟨rfl, fo_rel D E⟩))) (fun hp => br_t rfl ⟨rfl, fo_rel D E⟩)
  unfold wpX_throttled
  refine fo_pairX (fun hp => br_f (by decide) (br_c (fun z => bad (fun y => ?_)) (fun z => br_c (fun z1 => ?_) (fun z1 => bad (fun y => ?_))))) (fun hp => br_t rfl (bad (fun y => hp y.1)))
  · have := fo_AMi.mp y.2
    rw [fa_lt, fa_0] at z; omega
  · rw [fa_lt, fa_0] at z
    rw [fa_le, fo_99] at z1
    obtain ⟨c, c9, rfl⟩ : fo_AM v3 := fo_AMi.mpr ⟨by omega, z1⟩
    have hp' := hp
    obtain ⟨s, t, s8, t8, st, rfl, rfl⟩ := hp'
    refine fe_lay (kind := 3) (much := c) D s8 t8 (by omega) c9 (fun m hd adj cc aet ale afe anx I => fs_solve (hd := hd) (adj := adj) (c := cc) (g := 3) I.1 I.2.1 (by omega) (by omega) st I.2.2.1 (by omega) (fun ffl fqf fqs foc ale alv acu acb aex ahs aqu aqd apa ago ane atr aor M => ?_))
    have N : fs_N 3 s t c th fr tt rm m hd cc aet ale ffl.toInt := ⟨I.1.1, I.1.2.1, I.1.2.2.1, I.2.1, I.2.2.2, M⟩
    show wpY_throttled _ (ysz, yco, yjo, ycs, yca, yth, yfr, yto, yro) _ _ _
    unfold wpY_throttled
    refine fo_pairY (fun _ => br_f (by decide) (fo_amY (fun _ => br_f (by decide) ?_) (fun y => absurd ⟨c, c9, rfl⟩ y))) (fun y => absurd hp y)
    refine fy_parted (kind := 3) (much := c) E (by omega) s8 t8 c9 (fun x h1 h2 => ⟨?_, fo_rel D E⟩)
    rw [fa_eq]
    exact fk_parted N (by omega) (fo_h8 D) s8 t8 st h1 h2
  · have := fo_AMi.mp y.2
    rw [fa_le, fo_99] at z1; omega
theorem i_vc_fewest {k : Nat} {u : SX} {v : SY} (I : i_Rel k u v) (hk : k + 5 ≤ 2560) (v1 : Int32) (v2 : Int32) : wpX_fewest (fun r u' => wpY_fewest (fun r' v' => r' = r ∧ i_Rel (k + 5) u' v') v v1 v2) u v1 v2 := by
  obtain ⟨fpr, fso, fsi, fed, ffl, fqf, fqs, foc, afo, ato, aro, aet, ale, afe, anx, alv, acu, acb, aex, ahs, aqu, aqd, apa, ago, ane, atr, aor⟩ := u
  obtain ⟨ysz, yco, yjo, ycs, yca, yth, yfr, yto, yro⟩ := v
  obtain ⟨th, fr, tt, rm, D, E⟩ := I
  unfold wpX_fewest
  refine fo_pairX (fun hp => br_f (by decide) ?_) (fun hp => br_t rfl (fo_fewY E (fun s t _ _ _ _ _ a b c d e _ => absurd ⟨s, t, a, b, c, d, e⟩ hp) (fun _ => ⟨rfl, fo_rel D E⟩)))
  have hp' := hp
  obtain ⟨s, t, s8, t8, st, rfl, rfl⟩ := hp'
  refine fs_best (kind := 1) (g := 2) D s8 t8 st (by omega) (by omega) (fun m hd c aet afe anx ffl fqf fqs foc ale alv acu acb aex ahs aqu aqd apa ago ane atr aor N => ?_)
  refine fy_spread (n := s) N.1 N.2.1 N.2.2.1 (by omega) (fk_oneS (by omega)) (fun x R hc => ⟨21, ?_⟩)
  refine fo_f33 D (fun y hy => ?_) 20 0 0 rfl rfl
  refine fo_fewY E (fun s' t' zsz zco zjo zcs zca a b cc d e S => ?_) (fun y => absurd hp y)
  obtain rfl : s = s' := fa_inj d (by omega) (by omega)
  obtain rfl : t = t' := fa_inj e (by omega) (by omega)
  refine ⟨?_, fo_rel D E⟩
  rw [fa_eq, hy, fk_few N (by omega) s8 t8 R hc]
  exact fk_val N (by omega) (fo_h8 D) s8 t8 S
end
