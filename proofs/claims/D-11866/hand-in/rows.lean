section
/-! ===== the pure picture: rows of five digits in base 7, held as one number ===== -/
def ms_dg (v j : Nat) : Nat := v / 7 ^ j % 7
def ms_en (f : Nat → Nat) : Nat := f 0 + 7 * f 1 + 49 * f 2 + 343 * f 3 + 2401 * f 4
theorem ms_dg_lt (v j : Nat) : ms_dg v j < 7 := Nat.mod_lt _ (by decide)
theorem ms_dg_en {f : Nat → Nat} (hf : ∀ j, j < 5 → f j < 7) : ∀ j, j < 5 → ms_dg (ms_en f) j = f j := by
  have h0 := hf 0 (by omega)
  have h1 := hf 1 (by omega)
  have h2 := hf 2 (by omega)
  have h3 := hf 3 (by omega)
  have h4 := hf 4 (by omega)
  intro j hj
  have hc : j = 0 ∨ j = 1 ∨ j = 2 ∨ j = 3 ∨ j = 4 := by omega
  rcases hc with rfl | rfl | rfl | rfl | rfl
  · show (f 0 + 7 * f 1 + 49 * f 2 + 343 * f 3 + 2401 * f 4) / 1 % 7 = f 0
    omega
  · show (f 0 + 7 * f 1 + 49 * f 2 + 343 * f 3 + 2401 * f 4) / 7 % 7 = f 1
    omega
  · show (f 0 + 7 * f 1 + 49 * f 2 + 343 * f 3 + 2401 * f 4) / 49 % 7 = f 2
    omega
  · show (f 0 + 7 * f 1 + 49 * f 2 + 343 * f 3 + 2401 * f 4) / 343 % 7 = f 3
    omega
  · show (f 0 + 7 * f 1 + 49 * f 2 + 343 * f 3 + 2401 * f 4) / 2401 % 7 = f 4
    omega
/-- w less f times r, mod 7, digit by digit -/
def ms_cb (w f r : Nat) : Nat := ms_en (fun j => (ms_dg w j + 6 * (f * ms_dg r j)) % 7)
/-- w times y, mod 7, digit by digit -/
def ms_sc (w y : Nat) : Nat := ms_en (fun j => ms_dg w j * y % 7)
theorem ms_dg_cb (w f r : Nat) : ∀ j, j < 5 → ms_dg (ms_cb w f r) j = (ms_dg w j + 6 * (f * ms_dg r j)) % 7 :=
  ms_dg_en (f := fun j => (ms_dg w j + 6 * (f * ms_dg r j)) % 7) (fun j _ => Nat.mod_lt _ (by decide))
theorem ms_dg_sc (w y : Nat) : ∀ j, j < 5 → ms_dg (ms_sc w y) j = ms_dg w j * y % 7 :=
  ms_dg_en (f := fun j => ms_dg w j * y % 7) (fun j _ => Nat.mod_lt _ (by decide))
theorem ms_dg_cb0 (w r : Nat) : ∀ j, j < 5 → ms_dg (ms_cb w 0 r) j = ms_dg w j := by
  intro j hj
  rw [ms_dg_cb w 0 r j hj, Nat.zero_mul, Nat.mul_zero, Nat.add_zero]
  exact Nat.mod_eq_of_lt (ms_dg_lt w j)
def ms_ivl (x : Nat) : Nat → Nat → Nat
  | 0, _ => 0
  | k + 1, y => if x * y % 7 = 1 then y else ms_ivl x k (y + 1)
def ms_iv (x : Nat) : Nat := if x = 1 then 1 else if x = 2 then 4 else if x = 3 then 5 else if x = 4 then 2 else if x = 5 then 3 else if x = 6 then 6 else 0
theorem ms_iv_e : ∀ x, x < 7 → ms_ivl x 6 1 = ms_iv x := by decide +kernel
theorem ms_iv_lt : ∀ x, x < 7 → ms_iv x < 7 := by decide +kernel
/-! the four rows: 0 for a free unknown, the row's number and 1 for a determined one -/
abbrev ms_T : Type := Nat × Nat × Nat × Nat
def ms_at (R : ms_T) (u : Nat) : Nat := match u with
  | 0 => R.1
  | 1 => R.2.1
  | 2 => R.2.2.1
  | _ => R.2.2.2
def ms_mk (f : Nat → Nat) : ms_T := (f 0, f 1, f 2, f 3)
theorem ms_at_mk (f : Nat → Nat) : ∀ u, u < 4 → ms_at (ms_mk f) u = f u := by
  intro u hu
  have hc : u = 0 ∨ u = 1 ∨ u = 2 ∨ u = 3 := by omega
  rcases hc with rfl | rfl | rfl | rfl <;> rfl
/-- one unknown of reduce: s.1 the last unknown that stays and 1 (0: none), s.2 the equation -/
def ms_rs (R : Nat → Nat) (s : Nat × Nat) (u : Nat) : Nat × Nat :=
  if ms_dg s.2 u = 0 then s else if R u = 0 then (if s.1 = 0 then (u + 1, s.2) else s) else (s.1, ms_cb s.2 (ms_dg s.2 u) (R u - 1))
def ms_rd (R : Nat → Nat) (w : Nat) : Nat × Nat := ms_rs R (ms_rs R (ms_rs R (ms_rs R (0, w) 3) 2) 1) 0
def ms_k1 (R : Nat → Nat) (u v x : Nat) : Nat := if R x = 0 then 0 else ms_cb (R x - 1) (ms_dg (R x - 1) u) v + 1
/-- keep at unknown u with the scaled row v, the rows from u + 1 below x done -/
def ms_kx (R : Nat → Nat) (u v x y : Nat) : Nat := if y = u then v + 1 else if u < y ∧ y < x then ms_k1 R u v y else R y
def ms_kp (R : Nat → Nat) (u w : Nat) : Nat → Nat := ms_kx R u (ms_sc w (ms_iv (ms_dg w u))) 4
abbrev ms_S : Type := Nat × ms_T
def ms_st (s : ms_S) (v : Nat) : ms_S :=
  if (ms_rd (ms_at s.2) v).1 = 0 then (if ms_dg (ms_rd (ms_at s.2) v).2 4 = 0 then s else (1, s.2))
  else (s.1, ms_mk (ms_kp (ms_at s.2) ((ms_rd (ms_at s.2) v).1 - 1) (ms_rd (ms_at s.2) v).2))
def ms_sol (C : Nat → Nat) (s : Nat) : Nat → ms_S
  | 0 => (0, (0, 0, 0, 0))
  | e + 1 => if s / 2 ^ e % 2 = 1 then ms_st (ms_sol C s e) (C e) else ms_sol C s e
/-! questions over a solved picture -/
def ms_wa (R : Nat → Nat) : Nat → Nat → Nat → Nat
  | 0, _, acc => acc
  | k + 1, u, acc => ms_wa R k (u + 1) (if R u = 0 then acc * 7 else acc)
def ms_wy (R : Nat → Nat) (u : Nat) : Nat := ms_wa R (4 - u) u 1
def ms_nl (R : Nat → Nat) : Nat → Nat → Nat → Nat
  | 0, _, acc => acc
  | k + 1, u, acc => ms_nl R k (u + 1) (if R u = 0 then acc else acc + 1)
def ms_rl (v : Nat) : Nat → Nat → Nat → Nat → Nat
  | 0, _, B, _ => B
  | k + 1, w, B, left => ms_rl v k (w + 1) (B + ms_dg v w * (left % 7)) (left / 7)
def ms_ro (v u before : Nat) : Nat := (ms_dg v 4 + 6 * ms_rl v u 0 0 before) % 7
def ms_sl (R : Nat → Nat) : Nat → Nat → Nat → Nat → Nat → Nat
  | 0, _, digits, _, _ => digits
  | k + 1, left, digits, place, u =>
    if R u = 0 then ms_sl R k (left % ms_wy R (u + 1)) (digits + left / ms_wy R (u + 1) * place) (place * 7) (u + 1)
    else ms_sl R k left (digits + ms_ro (R u - 1) u digits * place) (place * 7) (u + 1)
def ms_rk (R : Nat → Nat) : Nat → Nat → Nat → Nat → Nat → Nat
  | 0, _, _, sum, _ => sum
  | k + 1, left, before, sum, u =>
    if R u = 0 then ms_rk R k (left / 7) (before + left % 7 * 7 ^ u) (sum + left % 7 * ms_wy R (u + 1)) (u + 1)
    else if ms_ro (R u - 1) u before < left % 7 then sum + ms_wy R (u + 1)
    else if left % 7 < ms_ro (R u - 1) u before then sum
    else ms_rk R k (left / 7) (before + left % 7 * 7 ^ u) sum (u + 1)
def ms_vl (v : Nat) : Nat → Nat → Nat
  | 0, _ => 0
  | k + 1, w => if ms_dg v w = 0 then ms_vl v k (w + 1) else 1
def ms_vr (R : Nat → Nat) (u : Nat) : Nat := if R u = 0 then 1 else ms_vl (R u - 1) u 0
def ms_qs (s : ms_S) : Nat := if s.1 = 0 then ms_wy (ms_at s.2) 0 else 0
def ms_qf (s : ms_S) (v : Nat) : Nat :=
  if s.1 = 0 then (if (ms_rd (ms_at s.2) v).1 = 0 then (if ms_dg (ms_rd (ms_at s.2) v).2 4 = 0 then 1 else 0) else 0) else 1
/-! bounds -/
theorem ms_wa_b (R : Nat → Nat) : ∀ k u acc, 0 < acc → 0 < ms_wa R k u acc ∧ ms_wa R k u acc ≤ acc * 7 ^ k := by
  intro k
  induction k with
  | zero =>
    intro u acc h
    exact ⟨h, by show acc ≤ acc * 1; omega⟩
  | succ k ih =>
    intro u acc h
    by_cases hr : R u = 0
    · have e : ms_wa R (k + 1) u acc = ms_wa R k (u + 1) (acc * 7) := by
        show ms_wa R k (u + 1) (if R u = 0 then acc * 7 else acc) = _
        rw [if_pos hr]
      have t := ih (u + 1) (acc * 7) (by omega)
      rw [e, Nat.pow_succ, Nat.mul_comm (7 ^ k) 7, ← Nat.mul_assoc]
      exact t
    · have e : ms_wa R (k + 1) u acc = ms_wa R k (u + 1) acc := by
        show ms_wa R k (u + 1) (if R u = 0 then acc * 7 else acc) = _
        rw [if_neg hr]
      have t := ih (u + 1) acc h
      rw [e]
      exact ⟨t.1, Nat.le_trans t.2 (Nat.mul_le_mul_left acc (Nat.pow_le_pow_right (by decide) (by omega)))⟩
theorem ms_wy_b (R : Nat → Nat) (u : Nat) : 0 < ms_wy R u ∧ ms_wy R u ≤ 2401 := by
  have t := ms_wa_b R (4 - u) u 1 (by decide)
  have h : 7 ^ (4 - u) ≤ 7 ^ 4 := Nat.pow_le_pow_right (by decide) (by omega)
  have h4 : (7 : Nat) ^ 4 = 2401 := rfl
  rw [Nat.one_mul] at t
  exact ⟨t.1, by rw [← h4]; exact Nat.le_trans t.2 h⟩
theorem ms_ro_lt (v u b : Nat) : ms_ro v u b < 7 := Nat.mod_lt _ (by decide)
theorem ms_mul36 {f g : Nat} (hf : f < 7) (hg : g < 7) : f * g < 37 := by
  have t : f * g ≤ 6 * 6 := Nat.mul_le_mul (by omega) (by omega)
  omega
theorem ms_rs_le (R : Nat → Nat) (s : Nat × Nat) (u : Nat) (hu : u < 4) (hs : s.1 ≤ 4) : (ms_rs R s u).1 ≤ 4 := by
  unfold ms_rs
  by_cases h : ms_dg s.2 u = 0
  · rw [if_pos h]; exact hs
  · rw [if_neg h]
    by_cases hr : R u = 0
    · rw [if_pos hr]
      by_cases ht : s.1 = 0
      · rw [if_pos ht]; show u + 1 ≤ 4; omega
      · rw [if_neg ht]; exact hs
    · rw [if_neg hr]; exact hs
theorem ms_rd_le (R : Nat → Nat) (w : Nat) : (ms_rd R w).1 ≤ 4 :=
  ms_rs_le R _ 0 (by decide) (ms_rs_le R _ 1 (by decide) (ms_rs_le R _ 2 (by decide) (ms_rs_le R _ 3 (by decide) (Nat.zero_le 4))))
/-! ===== matching: arrays and the picture ===== -/
def ms_w (a : Nat → Int32) (v : Nat) : Prop := ∀ j, j < 5 → a j = nI (ms_dg v j)
def ms_is (a : Nat → Int32) (e v : Nat) : Prop := ∀ j, j < 5 → a (e * 5 + j) = nI (ms_dg v j)
def ms_mt (R : Nat → Nat) (a3 a4 : Nat → Int32) : Prop := ∀ y, y < 4 → a3 y = (if R y = 0 then 0 else 1) ∧ (R y ≠ 0 → ms_is a4 y (R y - 1))
def ms_pic (E : Nat) (C : Nat → Nat) (O : Nat) (a1 a2 : Nat → Int32) : Prop := (∀ e, e < E → ms_is a1 e (C e)) ∧ (∀ e, e < E → a2 e = nI (O / 2 ^ e % 2))
def ms_ci (c : Nat) : Int32 := if c = 0 then 0 else 1
def ms_tp (t : Nat) : Int32 := match t with
  | 0 => -1
  | t + 1 => nI t
theorem ms_ci0 {c : Nat} (h : c = 0) : ms_ci c = 0 := if_pos h
theorem ms_ci1 {c : Nat} (h : c ≠ 0) : ¬ ms_ci c = 0 := by
  unfold ms_ci
  rw [if_neg h]
  decide
theorem ms_tp0 {t : Nat} (h : t = 0) : ms_tp t < 0 ∧ ¬ 0 ≤ ms_tp t := by
  subst h
  decide
theorem ms_tp1 {t : Nat} (h : t ≠ 0) (h4 : t ≤ 4) : ¬ ms_tp t < 0 ∧ 0 ≤ ms_tp t ∧ ms_tp t = nI (t - 1) := by
  cases t with
  | zero => exact absurd rfl h
  | succ t => exact ⟨nI_pos (by omega), nI_pos' (by omega), rfl⟩
theorem ms_fill {f s : Nat → Int32} {i k : Nat} {x : Int32} (hk : k = i) (h : ∀ j, j < i → s j = f j) (hx : x = f i) : ∀ j, j < i + 1 → upd s k x j = f j := by
  intro j hj
  rw [hk]
  by_cases e : j = i
  · rw [e, pk_us, hx]
  · rw [pk_un e]
    exact h j (by omega)
theorem ms_ix (u i : Nat) : nI u * 5 + nI i = nI (u * 5 + i) := by
  rw [show (5 : Int32) = nI 5 from rfl, pk_mul, nI_add]
theorem ms_m7 (a : Nat) : nI a * 7 = nI (a * 7) := by
  rw [show (7 : Int32) = nI 7 from rfl, pk_mul]
theorem ms_r7 {a : Nat} (h : a < 2 ^ 31) : nI a - nI a / 7 * 7 = nI (a % 7) := pk_rem (d := 7) h (by decide) (by decide)
theorem ms_d7 {a : Nat} (h : a < 2 ^ 31) : nI a / 7 = nI (a / 7) := pk_div (d := 7) h (by decide) (by decide)
theorem ms_ss (A B D : Nat) : nI A - nI B - nI D = nI A - nI (B + D) := by
  rw [← nI_add]
  grind
theorem ms_s0 (A : Nat) : nI A = nI A - nI 0 := (pk_sub (Nat.zero_le A)).symm
theorem ms_modT : ∀ A, A < 8 → ∀ B, B < 109 → (0 ≤ (nI A - nI B) - (nI A - nI B) / 7 * 7 → (nI A - nI B) - (nI A - nI B) / 7 * 7 = nI ((A + 6 * B) % 7)) ∧ (¬ 0 ≤ (nI A - nI B) - (nI A - nI B) / 7 * 7 → (nI A - nI B) - (nI A - nI B) / 7 * 7 + 7 = nI ((A + 6 * B) % 7)) := by decide +kernel
theorem ms_bit : ∀ s, s < 64 → ∀ e, e < 6 → ((nI s >>> (nI e &&& 31)) &&& 1) = nI (s / 2 ^ e % 2) := by decide +kernel
theorem ms_bor : ∀ s, s < 64 → ∀ e, e < 6 → s / 2 ^ e % 2 = 1 → (nI (s % 2 ^ e) ||| ((1 : Int32) <<< (nI e &&& 31))) = nI (s % 2 ^ (e + 1)) := by decide +kernel
theorem ms_bor0 : ∀ s, s < 64 → ∀ e, e < 6 → s / 2 ^ e % 2 = 0 → s % 2 ^ e = s % 2 ^ (e + 1) := by decide +kernel
end
section
/-! ===== walks: mod, inverse, load, reduce, keep, solveSet, onSet, solve ===== -/
theorem ms_mod {post : Int32 → Prop} {x : Int32} (A B : Nat) (hA : A < 8) (hB : B < 109) (hx : x = nI A - nI B) (h : post (nI ((A + 6 * B) % 7))) : wpX_mod post () x := by
  subst hx
  have t := ms_modT A hA B hB
  unfold wpX_mod
  refine ⟨by decide, nm_e ⟨fun z => ?_, fun z => ?_⟩⟩
  · rw [t.1 z]
    exact h
  · rw [t.2 z]
    exact h
theorem ms_inv2 {post : Int32 → Prop} {x : Nat} (hx : x < 7) : ∀ (k y : Nat), y + k = 7 → post (nI (ms_ivl x k y)) → wX_inverse_2 post (nI x) (k + 1) (nI y) := by
  intro k
  induction k with
  | zero =>
    intro y hy h
    exact pk_le 7 y (fun _ => h) (fun z => absurd z (by omega))
  | succ k ih =>
    intro y hy h
    have hb : x * y < 2 ^ 31 := by
      have t : x * y ≤ 6 * 7 := Nat.mul_le_mul (by omega) (by omega)
      omega
    refine pk_le 7 y (fun z => absurd z (by omega)) (fun _ => ⟨by decide, pk_eq (x * y % 7) 1 (fun z => ?_) (fun z => nm_r (nI_1 y) (ih (y + 1) (by omega) ?_)) ?_ rfl (by omega) (by omega)⟩)
    · have e : ms_ivl x (k + 1) y = y := if_pos z
      rw [e] at h
      exact h
    · have e : ms_ivl x (k + 1) y = ms_ivl x k (y + 1) := if_neg z
      rw [e] at h
      exact h
    · rw [pk_mul]
      exact ms_r7 hb
theorem ms_inverse {post : Int32 → Prop} {x : Int32} (v : Nat) (hv : v < 7) (hx : x = nI v) (h : post (nI (ms_iv v))) : wpX_inverse post () x := by
  subst hx
  have t : wX_inverse_2 post (nI v) (6 + 1) (nI 1) := ms_inv2 hv 6 1 rfl (by rw [ms_iv_e v hv]; exact h)
  exact ⟨7, t⟩
theorem ms_load {post : St2 → Prop} {E c : Int32} {e v : Nat} {a1 a2 a3 a4 a5 : Nat → Int32} (he : e < 6) (h1 : ms_is a1 e v) (H : ∀ b5, ms_w b5 v → post (E, c, a1, a2, a3, a4, b5)) : wpX_load post (E, c, a1, a2, a3, a4, a5) (nI e) :=
  pk_loop (fun n i s => wX_load_2 post (nI e) E c n (nI i) a1 a2 a3 a4 s) (fun i s => ∀ j, j < i → s j = nI (ms_dg v j)) 5 0 a5 (by omega) (fun j hj => absurd hj (by omega))
    (fun n s h => pk_le 5 5 (fun _ => H s h) (fun z => absurd z (by omega)))
    (fun n i s hi h hw => pk_le 5 i (fun z => absurd z (by omega)) (fun _ => ⟨pk_in (e * 5 + i) 30 (by omega) (ms_ix e i), pk_in i 5 hi, nm_e (nm_r (nI_1 i) (hw _ (ms_fill (nI_clamp (by omega)) h (by rw [pk_cl (e * 5 + i) (ms_ix e i) (by omega)]; exact h1 i hi))))⟩))
theorem ms_red31 {post : Int32 → St2 → Prop} {J4 : Int32 → Int32 → (Nat → Int32) → (Nat → Int32) → (Nat → Int32) → (Nat → Int32) → (Nat → Int32) → Prop} {E c x1 : Int32} {a1 a2 a3 a4 a5 : Nat → Int32} {w f r u : Nat} (hu : u < 4) (hf : f < 7) (h5 : ms_w a5 w) (h4 : ms_is a4 u r)
    (H : ∀ b5, ms_w b5 (ms_cb w f r) → J4 x1 (nI u + (-1)) a1 a2 a3 a4 b5) : ∃ n, wX_reduce_31 post J4 x1 (nI u) (nI f) E c n 0 a1 a2 a3 a4 a5 := by
  refine pk_loop (fun n i s => wX_reduce_31 post J4 x1 (nI u) (nI f) E c n (nI i) a1 a2 a3 a4 s)
    (fun i s => (∀ j, j < i → s j = nI (ms_dg (ms_cb w f r) j)) ∧ (∀ j, i ≤ j → j < 5 → s j = nI (ms_dg w j))) 5 0 a5 (by omega) ⟨fun j hj => absurd hj (by omega), fun j _ hj => h5 j hj⟩
    (fun n s h => pk_le 5 5 (fun _ => nm_e (H s h.1)) (fun z => absurd z (by omega)))
    (fun n i s hi h hw => pk_le 5 i (fun z => absurd z (by omega)) (fun _ => ⟨pk_in i 5 hi, pk_in (u * 5 + i) 20 (by omega) (ms_ix u i), ?_⟩))
  refine ms_mod (ms_dg w i) (f * ms_dg r i) ?_ ?_ ?_ ⟨pk_in i 5 hi, nm_e (nm_r (nI_1 i) (hw _ ⟨ms_fill (nI_clamp (by omega)) h.1 ?_, ?_⟩))⟩
  · have t := ms_dg_lt w i
    omega
  · have t := ms_mul36 hf (ms_dg_lt r i)
    omega
  · rw [nI_clamp (show i < 2 ^ 31 by omega), pk_cl (u * 5 + i) (ms_ix u i) (by omega), h.2 i (Nat.le_refl i) hi, h4 i hi, pk_mul]
  · rw [ms_dg_cb w f r i hi]
  · intro j hj hj5
    rw [nI_clamp (show i < 2 ^ 31 by omega), pk_un (show j ≠ i by omega)]
    exact h.2 j (by omega) hj5
theorem ms_red1 {post : Int32 → St2 → Prop} {E c : Int32} {n : Nat} {a1 a2 a3 a4 a5 : Nat → Int32} {R : Nat → Nat} {s : Nat × Nat} {u : Nat} {x' : Int32} (hu : u < 4) (hx' : nI u + (-1) = x') (hs : s.1 ≤ 4) (hR : ms_mt R a3 a4) (h5 : ms_w a5 s.2)
    (H : ∀ b5, ms_w b5 (ms_rs R s u).2 → wX_reduce_4 post E c n (ms_tp (ms_rs R s u).1) x' a1 a2 a3 a4 b5) :
    wX_reduce_4 post E c (n + 1) (ms_tp s.1) (nI u) a1 a2 a3 a4 a5 := by
  subst hx'
  have hd := ms_dg_lt s.2 u
  have e5 : a5 (nI u).toNatClampNeg = nI (ms_dg s.2 u) := by
    rw [nI_clamp (show u < 2 ^ 31 by omega)]
    exact h5 u (by omega)
  have e3 : a3 (nI u).toNatClampNeg = (if R u = 0 then 0 else 1) := by
    rw [nI_clamp (show u < 2 ^ 31 by omega)]
    exact (hR u hu).1
  have e77 : (ms_dg s.2 u = 0 ∨ R u = 0) → wX_reduce_77 post (wX_reduce_4 post E c n) (ms_tp s.1) (nI u) (nI (ms_dg s.2 u)) E c a1 a2 a3 a4 a5 := by
    intro hc
    unfold wX_reduce_77
    refine pk_eq (ms_dg s.2 u) 0 (fun z => nm_e ?_) (fun z => ?_)
    · have e : ms_rs R s u = s := if_pos z
      rw [e] at H
      exact H a5 h5
    · have hr : R u = 0 := by omega
      by_cases ht : s.1 = 0
      · have e : ms_rs R s u = (u + 1, s.2) := by
          unfold ms_rs
          rw [if_neg z, if_pos hr, if_pos ht]
        rw [e] at H
        exact br_f (ms_tp0 ht).2 (nm_e (H a5 h5))
      · have e : ms_rs R s u = s := by
          unfold ms_rs
          rw [if_neg z, if_pos hr, if_neg ht]
        rw [e] at H
        exact br_t (ms_tp1 ht hs).2.1 (nm_e (H a5 h5))
  refine br_f (nI_pos (by omega)) ⟨pk_in u 5 (by omega), nm_r e5 (pk_eq (ms_dg s.2 u) 0 (fun z => e77 (.inl z)) (fun z => ⟨pk_in u 4 hu, ?_⟩))⟩
  by_cases hr : R u = 0
  · exact br_t (by rw [e3, if_pos hr]) (e77 (.inr hr))
  · refine br_f (by rw [e3, if_neg hr]; decide) (ms_red31 hu hd h5 ((hR u hu).2 hr) (fun b5 hb => ?_))
    have e : ms_rs R s u = (s.1, ms_cb s.2 (ms_dg s.2 u) (R u - 1)) := by
      unfold ms_rs
      rw [if_neg z, if_neg hr]
    rw [e] at H
    exact H b5 hb
theorem ms_reduce {post : Int32 → St2 → Prop} {E c : Int32} {a1 a2 a3 a4 a5 : Nat → Int32} {R : Nat → Nat} {w : Nat} (hR : ms_mt R a3 a4) (h5 : ms_w a5 w)
    (H : ∀ b5, ms_w b5 (ms_rd R w).2 → post (ms_tp (ms_rd R w).1) (E, c, a1, a2, a3, a4, b5)) : wpX_reduce post (E, c, a1, a2, a3, a4, a5) := by
  have l3 := ms_rs_le R (0, w) 3 (by decide) (Nat.zero_le 4)
  have l2 := ms_rs_le R _ 2 (by decide) l3
  have l1 := ms_rs_le R _ 1 (by decide) l2
  have t : wX_reduce_4 post E c (4 + 1) (ms_tp (0, w).1) (nI 3) a1 a2 a3 a4 a5 :=
    ms_red1 (s := (0, w)) (by decide) (pk_m1 2) (Nat.zero_le 4) hR h5 (fun b hb => ms_red1 (by decide) (pk_m1 1) l3 hR hb (fun b hb => ms_red1 (by decide) (pk_m1 0) l2 hR hb (fun b hb => ms_red1 (x' := -1) (by decide) (by decide) l1 hR hb (fun b hb => br_t (by decide) (H b hb)))))
  exact ⟨5, t⟩
theorem ms_row {x y j : Nat} (hj : j < 5) (h : y ≠ x) : ¬ (x * 5 ≤ y * 5 + j ∧ y * 5 + j < x * 5 + 5) := by omega
theorem ms_keep75 {post : St2 → Prop} {J55 : Int32 → (Nat → Int32) → (Nat → Int32) → (Nat → Int32) → (Nat → Int32) → (Nat → Int32) → Prop} {E c : Int32} {u x f r v : Nat} {a1 a2 a3 a4 a5 : Nat → Int32} (hu : u < x) (hx : x < 4) (hf : f < 7) (hf0 : f ≠ 0) (h3 : ¬ a3 x = 0) (hr : ms_is a4 x r) (hv : ms_is a4 u v)
    (H : ∀ b4, (∀ k, ¬ (x * 5 ≤ k ∧ k < x * 5 + 5) → b4 k = a4 k) → ms_is b4 x (ms_cb r f v) → J55 (nI (x + 1)) a1 a2 a3 b4 a5) : ∃ n, wX_keep_75 post J55 (nI u) (nI x) (nI f) E c n 0 a1 a2 a3 a4 a5 := by
  refine pk_loop (fun n i s => wX_keep_75 post J55 (nI u) (nI x) (nI f) E c n (nI i) a1 a2 a3 s a5)
    (fun i s => (∀ j, j < i → s (x * 5 + j) = nI (ms_dg (ms_cb r f v) j)) ∧ (∀ j, i ≤ j → j < 5 → s (x * 5 + j) = nI (ms_dg r j)) ∧ (∀ k, ¬ (x * 5 ≤ k ∧ k < x * 5 + 5) → s k = a4 k)) 5 0 a4 (by omega) ⟨fun j hj => absurd hj (by omega), fun j _ hj => hr j hj, fun k _ => rfl⟩
    (fun n s h => pk_le 5 5 (fun _ => nm_r (nI_1 x) (H s h.2.2 h.1)) (fun z => absurd z (by omega)))
    (fun n i s hi h hw => pk_le 5 i (fun z => absurd z (by omega)) (fun _ => ⟨pk_in x 4 hx, br_f (by rw [nI_clamp (show x < 2 ^ 31 by omega)]; exact h3) (br_f (nI_ne0 (by omega) (by omega)) ⟨pk_in (x * 5 + i) 20 (by omega) (ms_ix x i), pk_in (u * 5 + i) 20 (by omega) (ms_ix u i), ?_⟩)⟩))
  refine ms_mod (ms_dg r i) (f * ms_dg v i) ?_ ?_ ?_ ⟨pk_in (x * 5 + i) 20 (by omega) (ms_ix x i), nm_e (nm_r (nI_1 i) (hw _ ⟨?_, ?_, ?_⟩))⟩
  · have t := ms_dg_lt r i
    omega
  · have t := ms_mul36 hf (ms_dg_lt v i)
    omega
  · rw [pk_cl (x * 5 + i) (ms_ix x i) (by omega), pk_cl (u * 5 + i) (ms_ix u i) (by omega), h.2.1 i (Nat.le_refl i) hi, h.2.2 (u * 5 + i) (ms_row hi (by omega)), hv i hi, pk_mul]
  · intro j hj
    rw [pk_cl (x * 5 + i) (ms_ix x i) (by omega)]
    by_cases e : j = i
    · rw [e, pk_us, ms_dg_cb r f v i hi]
    · rw [pk_un (show x * 5 + j ≠ x * 5 + i by omega)]
      exact h.1 j (by omega)
  · intro j hj hj5
    rw [pk_cl (x * 5 + i) (ms_ix x i) (by omega), pk_un (show x * 5 + j ≠ x * 5 + i by omega)]
    exact h.2.1 j (by omega) hj5
  · intro k hk
    rw [pk_cl (x * 5 + i) (ms_ix x i) (by omega), pk_un (show k ≠ x * 5 + i by omega)]
    exact h.2.2 k hk
theorem ms_keep55 {post : St2 → Prop} {E c : Int32} {u v : Nat} {R : Nat → Nat} {a1 a2 a3 a5 : Nat → Int32} (hu : u < 4)
    (H : ∀ b4, ms_mt (ms_kx R u v 4) a3 b4 → post (E, c, a1, a2, a3, b4, a5)) : ∀ (k x : Nat) (a4 : Nat → Int32), u < x → x + k = 4 → ms_mt (ms_kx R u v x) a3 a4 → wX_keep_55 post (nI u) E c (k + 1) (nI x) a1 a2 a3 a4 a5 := by
  intro k
  induction k with
  | zero =>
    intro x a4 hux hx hm
    have e : x = 4 := by omega
    subst e
    exact pk_le 4 4 (fun _ => H a4 hm) (fun z => absurd z (by omega))
  | succ k ih =>
    intro x a4 hux hx hm
    have e3 : a3 (nI x).toNatClampNeg = (if ms_kx R u v x x = 0 then 0 else 1) := by
      rw [nI_clamp (show x < 2 ^ 31 by omega)]
      exact (hm x (by omega)).1
    have ex : ms_kx R u v x x = R x := by
      unfold ms_kx
      rw [if_neg (by omega), if_neg (by omega)]
    have eu : ms_kx R u v x u = v + 1 := if_pos rfl
    have ex1 : ms_kx R u v (x + 1) x = ms_k1 R u v x := by
      unfold ms_kx
      have h3 : u < x ∧ x < x + 1 := ⟨hux, by omega⟩
      rw [if_neg (by omega), if_pos h3]
    have eo : ∀ y, y ≠ x → ms_kx R u v (x + 1) y = ms_kx R u v x y := by
      intro y hy
      unfold ms_kx
      by_cases h1 : y = u
      · rw [if_pos h1, if_pos h1]
      · rw [if_neg h1, if_neg h1]
        by_cases h2 : u < y ∧ y < x
        · have h3 : u < y ∧ y < x + 1 := ⟨h2.1, by omega⟩
          rw [if_pos h2, if_pos h3]
        · have h3 : ¬ (u < y ∧ y < x + 1) := by omega
          rw [if_neg h2, if_neg h3]
    refine pk_le 4 x (fun z => absurd z (by omega)) (fun _ => ⟨pk_in (x * 5 + u) 20 (by omega) (ms_ix x u), ?_⟩)
    by_cases hr : R x = 0
    · have kx0 : ms_kx R u v x x = 0 := by
        rw [ex]
        exact hr
      refine nm_e ⟨1, pk_le 5 0 (fun z => absurd z (by omega)) (fun _ => ⟨pk_in x 4 (by omega), br_t (by rw [e3, if_pos kx0]) (nm_r (nI_1 x) (ih (x + 1) a4 (by omega) (by omega) ?_))⟩)⟩
      intro y hy
      by_cases hyx : y = x
      · rw [hyx, ex1]
        have t := hm x (by omega)
        rw [ex] at t
        have e1 : ms_k1 R u v x = R x := by
          unfold ms_k1
          rw [if_pos hr, hr]
        rw [e1]
        exact t
      · rw [eo y hyx]
        exact hm y hy
    · have hrx : ms_is a4 x (R x - 1) := by
        have t := (hm x (by omega)).2
        rw [ex] at t
        exact t hr
      have hvu : ms_is a4 u v := by
        have t := (hm u hu).2
        rw [eu] at t
        exact t (by omega)
      have h3x : ¬ a3 x = 0 := by
        have t := (hm x (by omega)).1
        rw [ex, if_neg hr] at t
        rw [t]
        decide
      have e1 : ms_k1 R u v x = ms_cb (R x - 1) (ms_dg (R x - 1) u) v + 1 := if_neg hr
      have e4 : a4 (nI x * 5 + nI u).toNatClampNeg = nI (ms_dg (R x - 1) u) := by
        rw [pk_cl (x * 5 + u) (ms_ix x u) (by omega)]
        exact hrx u (by omega)
      have nx : ∀ b4 : Nat → Int32, (∀ k, ¬ (x * 5 ≤ k ∧ k < x * 5 + 5) → b4 k = a4 k) → ms_is b4 x (ms_cb (R x - 1) (ms_dg (R x - 1) u) v) → ms_mt (ms_kx R u v (x + 1)) a3 b4 := by
        intro b4 ho hn y hy
        by_cases hyx : y = x
        · rw [hyx, ex1, e1]
          refine ⟨?_, fun _ => hn⟩
          have t := (hm x (by omega)).1
          rw [ex, if_neg hr] at t
          rw [t, if_neg (by omega)]
        · rw [eo y hyx]
          refine ⟨(hm y hy).1, fun h j hj => ?_⟩
          rw [ho (y * 5 + j) (ms_row hj hyx)]
          exact (hm y hy).2 h j hj
      by_cases hf : ms_dg (R x - 1) u = 0
      · have kx1 : ¬ ms_kx R u v x x = 0 := by
          rw [ex]
          exact hr
        refine nm_r e4 ⟨1, pk_le 5 0 (fun z => absurd z (by omega)) (fun _ => ⟨pk_in x 4 (by omega), br_f (by rw [e3, if_neg kx1]; decide) (br_t (by rw [hf]; rfl) (nm_r (nI_1 x) (ih (x + 1) a4 (by omega) (by omega) (nx a4 (fun _ _ => rfl) ?_))))⟩)⟩
        intro j hj
        rw [hf, ms_dg_cb0 _ _ j hj]
        exact hrx j hj
      · exact nm_r e4 (ms_keep75 hux (by omega) (ms_dg_lt _ _) hf h3x hrx hvu (fun b4 ho hn => ih (x + 1) b4 (by omega) (by omega) (nx b4 ho hn)))
theorem ms_keep19 {post : St2 → Prop} {E c : Int32} {u w y : Nat} {a1 a2 a3 a4 a5 : Nat → Int32} (hu : u < 4) (hy : y < 7) (h5 : ms_w a5 w)
    (H : ∀ b4, (∀ k, ¬ (u * 5 ≤ k ∧ k < u * 5 + 5) → b4 k = a4 k) → ms_is b4 u (ms_sc w y) → ∃ n, wX_keep_55 post (nI u) E c n (nI (u + 1)) a1 a2 a3 b4 a5) : ∃ n, wX_keep_19 post (nI u) (nI y) E c n 0 a1 a2 a3 a4 a5 := by
  refine pk_loop (fun n i s => wX_keep_19 post (nI u) (nI y) E c n (nI i) a1 a2 a3 s a5)
    (fun i s => (∀ j, j < i → s (u * 5 + j) = nI (ms_dg (ms_sc w y) j)) ∧ (∀ k, ¬ (u * 5 ≤ k ∧ k < u * 5 + 5) → s k = a4 k)) 5 0 a4 (by omega) ⟨fun j hj => absurd hj (by omega), fun k _ => rfl⟩
    (fun n s h => pk_le 5 5 (fun _ => nm_r (nI_1 u) (H s h.2 h.1)) (fun z => absurd z (by omega)))
    (fun n i s hi h hw => pk_le 5 i (fun z => absurd z (by omega)) (fun _ => ⟨pk_in i 5 hi, by decide, pk_in (u * 5 + i) 20 (by omega) (ms_ix u i), nm_e (nm_r (nI_1 i) (hw _ ⟨?_, ?_⟩))⟩))
  · intro j hj
    rw [pk_cl (u * 5 + i) (ms_ix u i) (by omega)]
    by_cases e : j = i
    · have hm : ms_dg w i * y < 2 ^ 31 := by
        have t := ms_mul36 (ms_dg_lt w i) hy
        omega
      rw [e, pk_us, ms_dg_sc w y i hi, nI_clamp (show i < 2 ^ 31 by omega), h5 i hi, pk_mul]
      exact ms_r7 hm
    · rw [pk_un (show u * 5 + j ≠ u * 5 + i by omega)]
      exact h.1 j (by omega)
  · intro k hk
    rw [pk_cl (u * 5 + i) (ms_ix u i) (by omega), pk_un (show k ≠ u * 5 + i by omega)]
    exact h.2 k hk
theorem ms_keep {post : St2 → Prop} {E c p : Int32} {u w : Nat} {R : Nat → Nat} {a1 a2 a3 a4 a5 : Nat → Int32} (hu : u < 4) (hp : p = nI u) (hR : ms_mt R a3 a4) (h5 : ms_w a5 w)
    (H : ∀ b3 b4, ms_mt (ms_kp R u w) b3 b4 → post (E, c, a1, a2, b3, b4, a5)) : wpX_keep post (E, c, a1, a2, a3, a4, a5) p := by
  subst hp
  unfold wpX_keep
  have e5 : a5 (nI u).toNatClampNeg = nI (ms_dg w u) := by
    rw [nI_clamp (show u < 2 ^ 31 by omega)]
    exact h5 u (by omega)
  refine ⟨pk_in u 5 (by omega), ms_inverse (ms_dg w u) (ms_dg_lt w u) e5 ⟨pk_in u 4 hu, nm_r (e' := upd a3 u 1) (by rw [nI_clamp (show u < 2 ^ 31 by omega)]) (ms_keep19 hu (ms_iv_lt _ (ms_dg_lt w u)) h5 (fun b4 ho hn => ⟨4 - (u + 1) + 1, ms_keep55 (R := R) (v := ms_sc w (ms_iv (ms_dg w u))) hu (fun c4 hc => H _ c4 hc) (4 - (u + 1)) (u + 1) b4 (by omega) (by omega) ?_⟩))⟩⟩
  intro y hy
  unfold ms_kx
  by_cases e : y = u
  · rw [if_pos e, e, pk_us]
    exact ⟨by rw [if_neg (by omega)], fun _ => hn⟩
  · have h3 : ¬ (u < y ∧ y < u + 1) := by omega
    rw [if_neg e, if_neg h3, pk_un e]
    refine ⟨(hR y hy).1, fun h j hj => ?_⟩
    rw [ho (y * 5 + j) (ms_row hj e)]
    exact (hR y hy).2 h j hj
theorem ms_mt_mk {R : Nat → Nat} {a3 a4 : Nat → Int32} (h : ms_mt R a3 a4) : ms_mt (ms_at (ms_mk R)) a3 a4 := by
  intro y hy
  rw [ms_at_mk R y hy]
  exact h y hy
theorem ms_solve27 {post : St2 → Prop} {E s : Nat} {C : Nat → Nat} {a1 a2 : Nat → Int32} (hE : E ≤ 6) (hs : s < 64) (h1 : ∀ e, e < E → ms_is a1 e (C e))
    (H : ∀ b3 b4 b5, ms_mt (ms_at (ms_sol C s E).2) b3 b4 → post (nI E, ms_ci (ms_sol C s E).1, a1, a2, b3, b4, b5)) :
    ∀ (k e : Nat) (a3 a4 a5 : Nat → Int32), e + k = E → ms_mt (ms_at (ms_sol C s e).2) a3 a4 → wX_solveSet_27 post (nI s) (k + 1) (nI e) (nI E) (ms_ci (ms_sol C s e).1) a1 a2 a3 a4 a5 := by
  intro k
  induction k with
  | zero =>
    intro e a3 a4 a5 he hm
    have t : e = E := by omega
    subst t
    exact pk_le e e (fun _ => H a3 a4 a5 hm) (fun z => absurd z (by omega))
  | succ k ih =>
    intro e a3 a4 a5 he hm
    refine pk_le E e (fun z => absurd z (by omega)) (fun _ => ?_)
    refine pk_eq (s / 2 ^ e % 2) 1 (fun z => ?_) (fun z => nm_r (nI_1 e) ?_) (ms_bit s hs e (by omega)) rfl (by omega) (by omega)
    · have es : ms_sol C s (e + 1) = ms_st (ms_sol C s e) (C e) := if_pos z
      refine ms_load (show e < 6 by omega) (h1 e (by omega)) (fun b5 hb5 => ?_)
      refine ms_reduce hm hb5 (fun c5 hc5 => ?_)
      have l := ms_rd_le (ms_at (ms_sol C s e).2) (C e)
      by_cases ht : (ms_rd (ms_at (ms_sol C s e).2) (C e)).1 = 0
      · refine br_t (ms_tp0 ht).1 (pk_eq (ms_dg (ms_rd (ms_at (ms_sol C s e).2) (C e)).2 4) 0 (fun zz => nm_r (nI_1 e) ?_) (fun zz => nm_r (nI_1 e) ?_) (hc5 4 (by omega)) rfl (by have t := ms_dg_lt (ms_rd (ms_at (ms_sol C s e).2) (C e)).2 4; omega) (by omega))
        · have et : ms_sol C s (e + 1) = ms_sol C s e := by
            rw [es]
            unfold ms_st
            rw [if_pos ht, if_pos zz]
          have t := ih (e + 1) a3 a4 c5 (by omega)
          rw [et] at t
          exact t hm
        · have et : ms_sol C s (e + 1) = (1, (ms_sol C s e).2) := by
            rw [es]
            unfold ms_st
            rw [if_pos ht, if_neg zz]
          have t := ih (e + 1) a3 a4 c5 (by omega)
          rw [et] at t
          exact t hm
      · refine br_f (ms_tp1 ht l).1 (ms_keep (u := (ms_rd (ms_at (ms_sol C s e).2) (C e)).1 - 1) (by omega) (ms_tp1 ht l).2.2 hm hc5 (fun b3 b4 hk => nm_r (nI_1 e) ?_))
        have et : ms_sol C s (e + 1) = ((ms_sol C s e).1, ms_mk (ms_kp (ms_at (ms_sol C s e).2) ((ms_rd (ms_at (ms_sol C s e).2) (C e)).1 - 1) (ms_rd (ms_at (ms_sol C s e).2) (C e)).2)) := by
          rw [es]
          unfold ms_st
          rw [if_neg ht]
        have t := ih (e + 1) b3 b4 c5 (by omega)
        rw [et] at t
        exact t (ms_mt_mk hk)
    · have es : ms_sol C s (e + 1) = ms_sol C s e := if_neg z
      have t := ih (e + 1) a3 a4 a5 (by omega)
      rw [es] at t
      exact t hm
theorem ms_solveSet {post : St2 → Prop} {c p : Int32} {E s : Nat} {C : Nat → Nat} {a1 a2 a3 a4 a5 : Nat → Int32} (hE : E ≤ 6) (hs : s < 64) (hp : p = nI s) (h1 : ∀ e, e < E → ms_is a1 e (C e))
    (H : ∀ b3 b4 b5, ms_mt (ms_at (ms_sol C s E).2) b3 b4 → post (nI E, ms_ci (ms_sol C s E).1, a1, a2, b3, b4, b5)) : wpX_solveSet post (nI E, c, a1, a2, a3, a4, a5) p := by
  subst hp
  refine pk_loop (fun n i z => wX_solveSet_7 post (nI s) (nI E) 0 n (nI i) a1 a2 z a4 a5) (fun i z => ∀ j, j < i → z j = 0) 4 0 a3 (by omega) (fun j hj => absurd hj (by omega))
    (fun n z h => pk_le 4 4 (fun _ => ?_) (fun z => absurd z (by omega)))
    (fun n i z hi h hw => pk_le 4 i (fun z => absurd z (by omega)) (fun _ => ⟨pk_in i 4 hi, nm_e (nm_r (nI_1 i) (hw _ (ms_fill (f := fun _ => 0) (nI_clamp (by omega)) h rfl)))⟩))
  have t : wX_solveSet_27 post (nI s) (E + 1) (nI 0) (nI E) (ms_ci (ms_sol C s 0).1) a1 a2 z a4 a5 :=
    ms_solve27 hE hs h1 H E 0 z a4 a5 (by omega) (fun y hy => by
      have hc : y = 0 ∨ y = 1 ∨ y = 2 ∨ y = 3 := by omega
      have e : ms_at (ms_sol C s 0).2 y = 0 := by
        rcases hc with rfl | rfl | rfl | rfl <;> rfl
      rw [e]
      exact ⟨by rw [if_pos rfl]; exact h y hy, fun g => absurd rfl g⟩)
  exact ⟨E + 1, t⟩
theorem ms_onSet4 {post : Int32 → Prop} {c : Int32} {E O : Nat} {a1 a2 a3 a4 a5 : Nat → Int32} (hE : E ≤ 6) (hO : O < 64) (h2 : ∀ e, e < E → a2 e = nI (O / 2 ^ e % 2)) (h : post (nI (O % 2 ^ E))) :
    ∀ (k e : Nat), e + k = E → wX_onSet_4 post (nI E) c a1 a2 a3 a4 a5 (k + 1) (nI (O % 2 ^ e)) (nI e) := by
  intro k
  induction k with
  | zero =>
    intro e he
    have t : e = E := by omega
    subst t
    exact pk_le e e (fun _ => h) (fun z => absurd z (by omega))
  | succ k ih =>
    intro e he
    have e2 : a2 (nI e).toNatClampNeg = nI (O / 2 ^ e % 2) := by
      rw [nI_clamp (show e < 2 ^ 31 by omega)]
      exact h2 e (by omega)
    refine pk_le E e (fun z => absurd z (by omega)) (fun _ => ⟨pk_in e 6 (by omega), pk_eq (O / 2 ^ e % 2) 0 (fun z => nm_r (nI_1 e) ?_) (fun z => nm_r (ms_bor O hO e (by omega) (by omega)) (nm_r (nI_1 e) (ih (e + 1) (by omega)))) e2 rfl (by omega) (by omega)⟩)
    rw [ms_bor0 O hO e (by omega) z]
    exact ih (e + 1) (by omega)
theorem ms_onSet {post : Int32 → Prop} {c : Int32} {E O : Nat} {a1 a2 a3 a4 a5 : Nat → Int32} (hE : E ≤ 6) (hO : O < 64) (hO2 : O < 2 ^ E) (h2 : ∀ e, e < E → a2 e = nI (O / 2 ^ e % 2)) (h : post (nI O)) : wpX_onSet post (nI E, c, a1, a2, a3, a4, a5) := by
  have t : wX_onSet_4 post (nI E) c a1 a2 a3 a4 a5 (E + 1) (nI (O % 2 ^ 0)) (nI 0) := ms_onSet4 hE hO h2 (by rw [Nat.mod_eq_of_lt hO2]; exact h) E 0 (by omega)
  rw [show O % 2 ^ 0 = 0 from Nat.mod_one O] at t
  exact ⟨E + 1, t⟩
theorem ms_solve {post : St2 → Prop} {c : Int32} {E O : Nat} {C : Nat → Nat} {a1 a2 a3 a4 a5 : Nat → Int32} (hp : ms_pic E C O a1 a2) (hE : E ≤ 6) (hO : O < 64) (hO2 : O < 2 ^ E)
    (H : ∀ b3 b4 b5, ms_mt (ms_at (ms_sol C O E).2) b3 b4 → post (nI E, ms_ci (ms_sol C O E).1, a1, a2, b3, b4, b5)) : wpX_solve post (nI E, c, a1, a2, a3, a4, a5) := by
  unfold wpX_solve
  refine ms_onSet hE hO hO2 hp.2 ?_
  exact ms_solveSet hE hO rfl hp.1 (fun b3 b4 b5 hm => H b3 b4 b5 hm)
end
section
/-! ===== walks: the questions ===== -/
theorem ms_d3 {R : Nat → Nat} {a3 a4 : Nat → Int32} {u : Nat} (hR : ms_mt R a3 a4) (hu : u < 4) : a3 (nI u).toNatClampNeg = (if R u = 0 then 0 else 1) := by
  rw [nI_clamp (show u < 2 ^ 31 by omega)]
  exact (hR u hu).1
theorem ms_d3t {R : Nat → Nat} {a3 a4 : Nat → Int32} {u : Nat} (hR : ms_mt R a3 a4) (hu : u < 4) (h : R u = 0) : a3 (nI u).toNatClampNeg = 0 := by
  rw [ms_d3 hR hu, if_pos h]
theorem ms_d3f {R : Nat → Nat} {a3 a4 : Nat → Int32} {u : Nat} (hR : ms_mt R a3 a4) (hu : u < 4) (h : ¬ R u = 0) : ¬ a3 (nI u).toNatClampNeg = 0 := by
  rw [ms_d3 hR hu, if_neg h]
  decide
theorem ms_ways4 {post : Int32 → Prop} {E c : Int32} {R : Nat → Nat} {a1 a2 a3 a4 a5 : Nat → Int32} (hR : ms_mt R a3 a4) :
    ∀ (k u acc : Nat), u + k = 4 → post (nI (ms_wa R k u acc)) → wX_waysFrom_4 post E c a1 a2 a3 a4 a5 (k + 1) (nI acc) (nI u) := by
  intro k
  induction k with
  | zero =>
    intro u acc hu h
    exact pk_le 4 u (fun _ => h) (fun z => absurd z (by omega))
  | succ k ih =>
    intro u acc hu h
    refine pk_le 4 u (fun z => absurd z (by omega)) (fun _ => ⟨pk_in u 4 (by omega), ?_⟩)
    by_cases hr : R u = 0
    · refine br_t (ms_d3t hR (by omega) hr) (nm_r (ms_m7 acc) (nm_r (nI_1 u) (ih (u + 1) (acc * 7) (by omega) ?_)))
      have e : ms_wa R (k + 1) u acc = ms_wa R k (u + 1) (acc * 7) := by
        show ms_wa R k (u + 1) (if R u = 0 then acc * 7 else acc) = _
        rw [if_pos hr]
      rw [← e]
      exact h
    · refine br_f (ms_d3f hR (by omega) hr) (nm_r (nI_1 u) (ih (u + 1) acc (by omega) ?_))
      have e : ms_wa R (k + 1) u acc = ms_wa R k (u + 1) acc := by
        show ms_wa R k (u + 1) (if R u = 0 then acc * 7 else acc) = _
        rw [if_neg hr]
      rw [← e]
      exact h
theorem ms_waysFrom {post : Int32 → Prop} {E c p : Int32} {R : Nat → Nat} {u : Nat} {a1 a2 a3 a4 a5 : Nat → Int32} (hR : ms_mt R a3 a4) (hu : u ≤ 4) (hp : p = nI u) (h : post (nI (ms_wy R u))) : wpX_waysFrom post (E, c, a1, a2, a3, a4, a5) p := by
  subst hp
  have t : wX_waysFrom_4 post E c a1 a2 a3 a4 a5 (4 - u + 1) (nI 1) (nI u) := ms_ways4 hR (4 - u) u 1 (by omega) h
  exact ⟨4 - u + 1, t⟩
theorem ms_solutions {post : Int32 → St2 → Prop} {c : Int32} {E O : Nat} {C : Nat → Nat} {a1 a2 a3 a4 a5 : Nat → Int32} (hp : ms_pic E C O a1 a2) (hE : E ≤ 6) (hO : O < 64) (hO2 : O < 2 ^ E) (r : Nat) (hr : ms_qs (ms_sol C O E) = r)
    (H : ∀ c' b3 b4 b5, post (nI r) (nI E, c', a1, a2, b3, b4, b5)) : wpX_solutions post (nI E, c, a1, a2, a3, a4, a5) := by
  subst hr
  unfold wpX_solutions
  refine ms_solve hp hE hO hO2 (fun b3 b4 b5 hm => ?_)
  by_cases hc : (ms_sol C O E).1 = 0
  · have e : ms_qs (ms_sol C O E) = ms_wy (ms_at (ms_sol C O E).2) 0 := if_pos hc
    rw [e] at H
    exact br_t (ms_ci0 hc) (ms_waysFrom hm (Nat.zero_le 4) rfl (H _ b3 b4 b5))
  · have e : ms_qs (ms_sol C O E) = 0 := if_neg hc
    rw [e] at H
    exact br_f (ms_ci1 hc) (H _ b3 b4 b5)
theorem ms_need15 {post : Int32 → St2 → Prop} {E c : Int32} {R : Nat → Nat} {a1 a2 a3 a4 a5 : Nat → Int32} (hR : ms_mt R a3 a4) :
    ∀ (k u acc : Nat), u + k = 4 → post (nI (ms_nl R k u acc)) (E, c, a1, a2, a3, a4, a5) → wX_needed_15 post E c a1 a2 a3 a4 a5 (k + 1) (nI acc) (nI u) := by
  intro k
  induction k with
  | zero =>
    intro u acc hu h
    exact pk_le 4 u (fun _ => h) (fun z => absurd z (by omega))
  | succ k ih =>
    intro u acc hu h
    refine pk_le 4 u (fun z => absurd z (by omega)) (fun _ => ⟨pk_in u 4 (by omega), ?_⟩)
    by_cases hr : R u = 0
    · refine br_t (ms_d3t hR (by omega) hr) (nm_r (nI_1 u) (ih (u + 1) acc (by omega) ?_))
      have e : ms_nl R (k + 1) u acc = ms_nl R k (u + 1) acc := by
        show ms_nl R k (u + 1) (if R u = 0 then acc else acc + 1) = _
        rw [if_pos hr]
      rw [← e]
      exact h
    · refine br_f (ms_d3f hR (by omega) hr) (nm_r (nI_1 acc) (nm_r (nI_1 u) (ih (u + 1) (acc + 1) (by omega) ?_)))
      have e : ms_nl R (k + 1) u acc = ms_nl R k (u + 1) (acc + 1) := by
        show ms_nl R k (u + 1) (if R u = 0 then acc else acc + 1) = _
        rw [if_neg hr]
      rw [← e]
      exact h
/-- needed without a contradiction -/
theorem ms_needed0 {post : Int32 → St2 → Prop} {c : Int32} {E O : Nat} {C : Nat → Nat} {a1 a2 a3 a4 a5 : Nat → Int32} (hp : ms_pic E C O a1 a2) (hE : E ≤ 6) (hO : O < 64) (hO2 : O < 2 ^ E) (hc : (ms_sol C O E).1 = 0) (r : Nat) (hr : ms_nl (ms_at (ms_sol C O E).2) 4 0 0 = r)
    (H : ∀ c' b3 b4 b5, post (nI r) (nI E, c', a1, a2, b3, b4, b5)) : wpX_needed post (nI E, c, a1, a2, a3, a4, a5) := by
  subst hr
  unfold wpX_needed
  refine ms_solve hp hE hO hO2 (fun b3 b4 b5 hm => ?_)
  have t : wX_needed_15 post (nI E) (ms_ci (ms_sol C O E).1) a1 a2 b3 b4 b5 (4 + 1) (nI 0) (nI 0) := ms_need15 hm 4 0 0 rfl (H _ b3 b4 b5)
  exact br_t (ms_ci0 hc) ⟨5, t⟩
/-! ones -/
def ms_ol (s : Nat) : Nat → Nat → Nat → Nat
  | 0, _, acc => acc
  | k + 1, e, acc => ms_ol s k (e + 1) (acc + s / 2 ^ e % 2)
theorem ms_ones4 {post : Int32 → Prop} {s : Nat} (hs : s < 64) : ∀ (k e acc : Nat), e + k = 6 → post (nI (ms_ol s k e acc)) → wX_ones_4 post (nI s) (k + 1) (nI acc) (nI e) := by
  intro k
  induction k with
  | zero =>
    intro e acc he h
    exact pk_le 6 e (fun _ => h) (fun z => absurd z (by omega))
  | succ k ih =>
    intro e acc he h
    exact pk_le 6 e (fun z => absurd z (by omega)) (fun _ => nm_r (by rw [ms_bit s hs e (by omega), nI_add]) (nm_r (nI_1 e) (ih (e + 1) _ (by omega) h)))
theorem ms_ones {post : Int32 → Prop} {s : Nat} (hs : s < 64) (h : post (nI (ms_ol s 6 0 0))) : wpX_ones post () (nI s) := by
  have t : wX_ones_4 post (nI s) (6 + 1) (nI 0) (nI 0) := ms_ones4 hs 6 0 0 rfl h
  exact ⟨7, t⟩
theorem ms_ones_t : ∀ s, s < 8 → ms_ol s 6 0 0 < 6 := by decide +kernel
theorem ms_ones_7 : ms_ol 7 6 0 0 = 3 := by decide +kernel
theorem ms_all7 : ∀ s, s < 64 → ((nI s &&& ((nI 7) ^^^ (-1))) = 0 ↔ s < 8) := by decide +kernel
theorem ms_need50 {post : Int32 → St2 → Prop} {C : Nat → Nat} {a1 a2 : Nat → Int32} (h1 : ∀ e, e < 3 → ms_is a1 e (C e)) (hs : ∀ s, s < 7 → (ms_sol C s 3).1 = 0) (h7 : (ms_sol C 7 3).1 ≠ 0)
    (H : ∀ c' b3 b4 b5, post (nI 3) (nI 3, c', a1, a2, b3, b4, b5)) :
    ∀ (k s : Nat) (c : Int32) (a3 a4 a5 : Nat → Int32), s + k = 64 → wX_needed_50 post (nI 7) (k + 1) (nI (if s ≤ 7 then 6 else 3)) (nI s) (nI 3) c a1 a2 a3 a4 a5 := by
  intro k
  induction k with
  | zero =>
    intro s c a3 a4 a5 hk
    rw [if_neg (by omega)]
    exact pk_le 64 s (fun _ => H c a3 a4 a5) (fun z => absurd z (by omega))
  | succ k ih =>
    intro s c a3 a4 a5 hk
    refine pk_le 64 s (fun z => absurd z (by omega)) (fun _ => ms_ones (show s < 64 by omega) ?_)
    by_cases h8 : s < 8
    · rw [if_pos (by omega)]
      have o6 := ms_ones_t s h8
      refine br_t ((ms_all7 s (by omega)).mpr h8) (pk_le 6 (ms_ol s 6 0 0) (fun z => absurd z (by omega)) (fun _ => ms_solveSet (by decide) (show s < 64 by omega) rfl h1 (fun b3 b4 b5 hm => ?_)))
      by_cases h77 : s = 7
      · have t := ih (s + 1) (ms_ci (ms_sol C s 3).1) b3 b4 b5 (by omega)
        rw [if_neg (by omega)] at t
        refine br_f (by rw [h77]; exact ms_ci1 h7) (nm_r (nI_1 s) ?_)
        have e3 : ms_ol s 6 0 0 = 3 := by rw [h77]; exact ms_ones_7
        rw [e3]
        exact t
      · have t := ih (s + 1) (ms_ci (ms_sol C s 3).1) b3 b4 b5 (by omega)
        rw [if_pos (by omega)] at t
        exact br_t (ms_ci0 (hs s (by omega))) (nm_r (nI_1 s) t)
    · rw [if_neg (by omega)]
      have t := ih (s + 1) c a3 a4 a5 (by omega)
      rw [if_neg (by omega)] at t
      exact br_f (fun z => h8 ((ms_all7 s (by omega)).mp z)) (nm_r (nI_1 s) t)
/-- needed of three equations of which just all three together contradict one another -/
theorem ms_needed3 {post : Int32 → St2 → Prop} {c : Int32} {C : Nat → Nat} {a1 a2 a3 a4 a5 : Nat → Int32} (hp : ms_pic 3 C 7 a1 a2) (hs : ∀ s, s < 7 → (ms_sol C s 3).1 = 0) (h7 : (ms_sol C 7 3).1 ≠ 0)
    (H : ∀ c' b3 b4 b5, post (nI 3) (nI 3, c', a1, a2, b3, b4, b5)) : wpX_needed post (nI 3, c, a1, a2, a3, a4, a5) := by
  unfold wpX_needed
  refine ms_solve hp (by decide) (by decide) (by decide) (fun b3 b4 b5 hm => br_f (ms_ci1 h7) ?_)
  refine ms_onSet (by decide) (by decide) (by decide) hp.2 ?_
  have t : wX_needed_50 post (nI 7) (64 + 1) (nI (if 0 ≤ 7 then 6 else 3)) (nI 0) (nI 3) (ms_ci (ms_sol C 7 3).1) a1 a2 b3 b4 b5 := ms_need50 hp.1 hs h7 H 64 0 _ b3 b4 b5 rfl
  exact ⟨65, t⟩
/-! resultOf, solutionAt, value -/
theorem ms_res17 {post : Int32 → Prop} {E c : Int32} {u v : Nat} {a1 a2 a3 a4 a5 : Nat → Int32} (hu : u < 4) (hv : ms_is a4 u v) :
    ∀ (k w B left : Nat), w + k = u → B ≤ 36 * w → left < 2 ^ 31 → post (nI ((ms_dg v 4 + 6 * ms_rl v k w B left) % 7)) → wX_resultOf_17 post (nI u) E c a1 a2 a3 a4 a5 (k + 1) (nI (ms_dg v 4) - nI B) (nI left) (nI w) := by
  intro k
  induction k with
  | zero =>
    intro w B left hw hB hl h
    have t := ms_dg_lt v 4
    exact pk_le u w (fun _ => ms_mod (ms_dg v 4) B (by omega) (by omega) rfl h) (fun z => absurd z (by omega))
  | succ k ih =>
    intro w B left hw hB hl h
    have t := ms_mul36 (ms_dg_lt v w) (show left % 7 < 7 from Nat.mod_lt _ (by decide))
    refine pk_le u w (fun z => absurd z (by omega)) (fun _ => ⟨pk_in (u * 5 + w) 20 (by omega) (ms_ix u w), by decide, nm_r ?_ ⟨by decide, nm_r (ms_d7 hl) (nm_r (nI_1 w) (ih (w + 1) (B + ms_dg v w * (left % 7)) (left / 7) (by omega) (by omega) (by omega) h))⟩⟩)
    rw [pk_cl (u * 5 + w) (ms_ix u w) (by omega), hv w (by omega), ms_r7 hl, pk_mul, ms_ss]
theorem ms_ix4 (u : Nat) : nI u * 5 + 4 = nI (u * 5 + 4) := ms_ix u 4
theorem ms_resultOf {post : Int32 → Prop} {E c p0 p1 : Int32} {u v b : Nat} {a1 a2 a3 a4 a5 : Nat → Int32} (hu : u < 4) (hv : ms_is a4 u v) (hp0 : p0 = nI u) (hp1 : p1 = nI b) (hb : b < 2 ^ 31) (h : post (nI (ms_ro v u b))) : wpX_resultOf post (E, c, a1, a2, a3, a4, a5) p0 p1 := by
  subst hp0 hp1
  have e4 : a4 (nI u * 5 + 4).toNatClampNeg = nI (ms_dg v 4) - nI 0 := by
    rw [pk_cl (u * 5 + 4) (ms_ix4 u) (by omega), hv 4 (by omega)]
    exact ms_s0 _
  have t : wX_resultOf_17 post (nI u) E c a1 a2 a3 a4 a5 (u + 1) (nI (ms_dg v 4) - nI 0) (nI b) (nI 0) := ms_res17 hu hv u 0 0 b (by omega) (by omega) hb h
  exact ⟨pk_in (u * 5 + 4) 20 (by omega) (ms_ix u 4), nm_r e4 ⟨u + 1, t⟩⟩
theorem ms_pw4 {u : Nat} (h : u ≤ 4) : 7 ^ u ≤ 2401 := Nat.pow_le_pow_right (n := 7) (by decide) h
theorem ms_sol10 {post : Int32 → Prop} {E c : Int32} {R : Nat → Nat} {a1 a2 a3 a4 a5 : Nat → Int32} (hR : ms_mt R a3 a4) :
    ∀ (k left digits place u : Nat), u + k = 4 → left < 2401 → place ≤ 7 ^ u → digits ≤ 400 * place → post (nI (ms_sl R k left digits place u)) → wX_solutionAt_10 post E c a1 a2 a3 a4 a5 (k + 1) (nI left) (nI digits) (nI place) (nI u) := by
  intro k
  induction k with
  | zero =>
    intro left digits place u hu hl hp hd h
    exact pk_le 4 u (fun _ => h) (fun z => absurd z (by omega))
  | succ k ih =>
    intro left digits place u hu hl hp hd h
    have p4 := ms_pw4 (show u ≤ 4 by omega)
    have hp' : place * 7 ≤ 7 ^ (u + 1) := by
      rw [Nat.pow_succ]
      exact Nat.mul_le_mul_right 7 hp
    refine pk_le 4 u (fun z => absurd z (by omega)) (fun _ => ⟨pk_in u 4 (by omega), ?_⟩)
    have fin : ∀ (l' val : Nat), l' < 2401 → val ≤ 2400 → post (nI (ms_sl R k l' (digits + val * place) (place * 7) (u + 1))) → wX_solutionAt_67 post (wX_solutionAt_10 post E c a1 a2 a3 a4 a5 (k + 1)) (nI l') (nI digits) (nI place) (nI u) (nI val) E c a1 a2 a3 a4 a5 := by
      intro l' val hl' hval hh
      have hvp : val * place ≤ 2400 * place := Nat.mul_le_mul_right place hval
      have t := ih l' (digits + val * place) (place * 7) (u + 1) (by omega) hl' hp' (by omega) hh
      unfold wX_solutionAt_67
      exact nm_r (by rw [pk_mul, nI_add]) (nm_r (ms_m7 place) (nm_r (nI_1 u) t))
    by_cases hr : R u = 0
    · have wb := ms_wy_b R (u + 1)
      refine br_t (ms_d3t hR (by omega) hr) (ms_waysFrom hR (show u + 1 ≤ 4 by omega) (nI_1 u) (br_f (nI_nle wb.1 (by omega)) ⟨nI_ne0 wb.1 (by omega), nm_r (pk_div (by omega) wb.1 (by omega)) ⟨nI_ne0 wb.1 (by omega), nm_r (pk_rem (by omega) wb.1 (by omega)) (fin _ _ ?_ ?_ ?_)⟩⟩))
      · exact Nat.lt_of_le_of_lt (Nat.mod_le _ _) hl
      · have t := Nat.div_le_self left (ms_wy R (u + 1))
        omega
      · have e : ms_sl R (k + 1) left digits place u = ms_sl R k (left % ms_wy R (u + 1)) (digits + left / ms_wy R (u + 1) * place) (place * 7) (u + 1) := if_pos hr
        rw [← e]
        exact h
    · refine br_f (ms_d3f hR (by omega) hr) (ms_resultOf (show u < 4 by omega) ((hR u (by omega)).2 hr) rfl rfl (by omega) (fin _ _ hl ?_ ?_))
      · have t := ms_ro_lt (R u - 1) u digits
        omega
      · have e : ms_sl R (k + 1) left digits place u = ms_sl R k left (digits + ms_ro (R u - 1) u digits * place) (place * 7) (u + 1) := if_neg hr
        rw [← e]
        exact h
end
section
/-! ===== walks: value, rank, varies, fixed, possible, follows; add, turn, set, drop ===== -/
theorem ms_and31 {v : Nat} (h : v < 2 ^ 31) : nI v &&& 2147483647 = nI v := by
  rw [pk_andN (by omega) 31 (by decide), Nat.mod_eq_of_lt h]
theorem ms_solutionAt {post : Int32 → Prop} {E c p : Int32} {R : Nat → Nat} {n : Nat} {a1 a2 a3 a4 a5 : Nat → Int32} (hR : ms_mt R a3 a4) (hn : n < 2401) (hp : p = nI n) (h : post (nI (ms_sl R 4 n 0 1 0))) : wpX_solutionAt post (E, c, a1, a2, a3, a4, a5) p := by
  subst hp
  have t : wX_solutionAt_10 post E c a1 a2 a3 a4 a5 (4 + 1) (nI n) (nI 0) (nI 1) (nI 0) := ms_sol10 hR 4 n 0 1 0 rfl hn (by decide) (by decide) h
  exact ⟨5, t⟩
theorem ms_val48 {post : Int32 → St2 → Prop} {E c : Int32} {m : Nat} {a1 a2 a3 a4 a5 : Nat → Int32} (hm : m < 2 ^ 31) :
    ∀ (k i x : Nat), i + k = m → x < 2 ^ 31 → post (nI (x / 7 ^ k % 7)) (E, c, a1, a2, a3, a4, a5) → wX_value_48 post (nI m) E c a1 a2 a3 a4 a5 (k + 1) (nI x) (nI i) := by
  intro k
  induction k with
  | zero =>
    intro i x hi hx h
    refine pk_le m i (fun _ => ⟨by decide, ?_⟩) (fun z => absurd z (by omega))
    rw [ms_r7 hx]
    rw [Nat.pow_zero, Nat.div_one] at h
    exact h
  | succ k ih =>
    intro i x hi hx h
    refine pk_le m i (fun z => absurd z (by omega)) (fun _ => ⟨by decide, nm_r (ms_d7 hx) (nm_r (nI_1 i) (ih (i + 1) (x / 7) (by omega) (by omega) ?_))⟩)
    rw [Nat.div_div_eq_div_mul, ← Nat.pow_succ']
    exact h
theorem ms_value {post : Int32 → St2 → Prop} {c p0 p1 : Int32} {E O n k S r : Nat} {C : Nat → Nat} {a1 a2 a3 a4 a5 : Nat → Int32} (hp : ms_pic E C O a1 a2) (hE : E ≤ 6) (hO : O < 64) (hO2 : O < 2 ^ E) (hc : (ms_sol C O E).1 = 0) (hn : n < ms_wy (ms_at (ms_sol C O E).2) 0) (hk : k < 4) (hS : ms_sl (ms_at (ms_sol C O E).2) 4 n 0 1 0 = S) (hb : S < 2401) (hr : S / 7 ^ k % 7 = r) (hp0 : p0 = nI n) (hp1 : p1 = nI k)
    (H : ∀ c' b3 b4 b5, post (nI r) (nI E, c', a1, a2, b3, b4, b5)) : wpX_value post (nI E, c, a1, a2, a3, a4, a5) p0 p1 := by
  subst hp0 hp1 hr hS
  have wb := ms_wy_b (ms_at (ms_sol C O E).2) 0
  unfold wpX_value
  refine br_f (nI_pos (by omega)) (br_t (nI_lt (b := 4) hk (by decide)) (ms_solve hp hE hO hO2 (fun b3 b4 b5 hm => ?_)))
  refine br_t (ms_ci0 hc) (br_f (nI_pos (by omega)) (ms_waysFrom hm (Nat.zero_le 4) rfl (br_t (nI_lt hn (by omega)) (ms_solutionAt hm (by omega) rfl ?_))))
  have t : wX_value_48 post (nI k) (nI E) (ms_ci (ms_sol C O E).1) a1 a2 b3 b4 b5 (k + 1) (nI (ms_sl (ms_at (ms_sol C O E).2) 4 n 0 1 0)) (nI 0) := ms_val48 (by omega) k 0 _ (by omega) (by omega) (H _ b3 b4 b5)
  exact ⟨k + 1, t⟩
theorem ms_valueN {post : Int32 → St2 → Prop} {c p0 p1 : Int32} {E O k : Nat} {C : Nat → Nat} {a1 a2 a3 a4 a5 : Nat → Int32} (hp : ms_pic E C O a1 a2) (hE : E ≤ 6) (hO : O < 64) (hO2 : O < 2 ^ E) (hk : k < 4) (hN : (ms_sol C O E).1 = 0 → p0 < 0 ∨ (¬ p0 < 0 ∧ ¬ p0 < nI (ms_wy (ms_at (ms_sol C O E).2) 0))) (hp1 : p1 = nI k)
    (H : ∀ c' b3 b4 b5, post (-4) (nI E, c', a1, a2, b3, b4, b5)) : wpX_value post (nI E, c, a1, a2, a3, a4, a5) p0 p1 := by
  subst hp1
  unfold wpX_value
  refine br_f (nI_pos (by omega)) (br_t (nI_lt (b := 4) hk (by decide)) (ms_solve hp hE hO hO2 (fun b3 b4 b5 hm => ?_)))
  by_cases hc : (ms_sol C O E).1 = 0
  · refine br_t (ms_ci0 hc) ?_
    rcases hN hc with h | ⟨h1, h2⟩
    · exact br_t h (H _ b3 b4 b5)
    · exact br_f h1 (ms_waysFrom hm (Nat.zero_le 4) rfl (br_f h2 (H _ b3 b4 b5)))
  · exact br_f (ms_ci1 hc) (H _ b3 b4 b5)
/-! rank -/
theorem ms_pow4 {post : Int32 → Prop} {n : Nat} (hn : n < 2 ^ 31) (h : post (nI (7 ^ n))) : ∀ (k i : Nat), i + k = n → wX_power_4 post (nI n) (k + 1) (nI (7 ^ i)) (nI i) := by
  intro k
  induction k with
  | zero =>
    intro i hi
    have t : i = n := by omega
    subst t
    exact pk_le i i (fun _ => h) (fun z => absurd z (by omega))
  | succ k ih =>
    intro i hi
    exact pk_le n i (fun z => absurd z (by omega)) (fun _ => nm_r (by rw [ms_m7, ← Nat.pow_succ]) (nm_r (nI_1 i) (ih (i + 1) (by omega))))
theorem ms_power {post : Int32 → Prop} {n : Nat} (hn : n < 2 ^ 31) (h : post (nI (7 ^ n))) : wpX_power post () (nI n) := by
  have t : wX_power_4 post (nI n) (n + 1) (nI (7 ^ 0)) (nI 0) := ms_pow4 hn h n 0 (by omega)
  exact ⟨n + 1, t⟩
theorem ms_rank26 {post : Int32 → St2 → Prop} {E c : Int32} {R : Nat → Nat} {a1 a2 a3 a4 a5 : Nat → Int32} (hR : ms_mt R a3 a4) :
    ∀ (k left before sum u : Nat), u + k = 4 → left < 2 ^ 31 → before < 7 ^ u → post (nI (ms_rk R k left before sum u)) (E, c, a1, a2, a3, a4, a5) → wX_rank_26 post E c a1 a2 a3 a4 a5 (k + 1) (nI left) (nI before) (nI sum) (nI u) := by
  intro k
  induction k with
  | zero =>
    intro left before sum u hu hl hb h
    exact pk_le 4 u (fun _ => h) (fun z => absurd z (by omega))
  | succ k ih =>
    intro left before sum u hu hl hb h
    have p4 := ms_pw4 (show u ≤ 4 by omega)
    have hg : left % 7 < 7 := Nat.mod_lt _ (by decide)
    have hb' : before + left % 7 * 7 ^ u < 7 ^ (u + 1) := by
      have t : left % 7 * 7 ^ u ≤ 6 * 7 ^ u := Nat.mul_le_mul_right _ (by omega)
      rw [Nat.pow_succ]
      omega
    have fin : ∀ sum' : Nat, post (nI (ms_rk R k (left / 7) (before + left % 7 * 7 ^ u) sum' (u + 1))) (E, c, a1, a2, a3, a4, a5) → wX_rank_108 post (wX_rank_26 post E c a1 a2 a3 a4 a5 (k + 1)) (nI (left / 7)) (nI before) (nI sum') (nI u) (nI (left % 7)) E c a1 a2 a3 a4 a5 := by
      intro sum' hh
      have t := ih (left / 7) (before + left % 7 * 7 ^ u) sum' (u + 1) (by omega) (by omega) hb' hh
      unfold wX_rank_108
      exact ms_power (by omega) (nm_r (by rw [pk_mul, nI_add]) (nm_r (nI_1 u) t))
    refine pk_le 4 u (fun z => absurd z (by omega)) (fun _ => ⟨by decide, nm_r (ms_r7 hl) ⟨by decide, nm_r (ms_d7 hl) (ms_waysFrom hR (show u + 1 ≤ 4 by omega) (nI_1 u) ⟨pk_in u 4 (by omega), ?_⟩)⟩⟩)
    by_cases hr : R u = 0
    · have e : ms_rk R (k + 1) left before sum u = ms_rk R k (left / 7) (before + left % 7 * 7 ^ u) (sum + left % 7 * ms_wy R (u + 1)) (u + 1) := if_pos hr
      rw [e] at h
      exact br_t (ms_d3t hR (by omega) hr) (nm_r (by rw [pk_mul, nI_add]) (fin _ h))
    · have hm := ms_ro_lt (R u - 1) u before
      refine br_f (ms_d3f hR (by omega) hr) (ms_resultOf (show u < 4 by omega) ((hR u (by omega)).2 hr) rfl rfl (by omega) ?_)
      refine pk_le (left % 7) (ms_ro (R u - 1) u before) (fun z1 => pk_le (ms_ro (R u - 1) u before) (left % 7) (fun z2 => ?_) (fun z2 => ?_)) (fun z1 => ?_)
      · have e : ms_rk R (k + 1) left before sum u = ms_rk R k (left / 7) (before + left % 7 * 7 ^ u) sum (u + 1) := by
          show (if R u = 0 then _ else if _ < _ then _ else if _ < _ then _ else _) = _
          rw [if_neg hr, if_neg (by omega), if_neg (by omega)]
        rw [e] at h
        exact fin _ h
      · have e : ms_rk R (k + 1) left before sum u = sum := by
          show (if R u = 0 then _ else if _ < _ then _ else if _ < _ then _ else _) = _
          rw [if_neg hr, if_neg (by omega), if_pos (by omega)]
        rw [e] at h
        exact h
      · have e : ms_rk R (k + 1) left before sum u = sum + ms_wy R (u + 1) := by
          show (if R u = 0 then _ else if _ < _ then _ else if _ < _ then _ else _) = _
          rw [if_neg hr, if_pos (by omega)]
        rw [e] at h
        rw [nI_add]
        exact h
theorem ms_rank {post : Int32 → St2 → Prop} {c p0 : Int32} {E O v r : Nat} {C : Nat → Nat} {a1 a2 a3 a4 a5 : Nat → Int32} (hp : ms_pic E C O a1 a2) (hE : E ≤ 6) (hO : O < 64) (hO2 : O < 2 ^ E) (hc : (ms_sol C O E).1 = 0) (hv : v < 2 ^ 31) (hp0 : p0 = nI v) (hr : ms_rk (ms_at (ms_sol C O E).2) 4 v 0 0 0 = r)
    (H : ∀ c' b3 b4 b5, post (nI r) (nI E, c', a1, a2, b3, b4, b5)) : wpX_rank post (nI E, c, a1, a2, a3, a4, a5) p0 := by
  subst hp0 hr
  unfold wpX_rank
  refine ms_solve hp hE hO hO2 (fun b3 b4 b5 hm => br_t (ms_ci0 hc) (nm_r (ms_and31 hv) ?_))
  have t : wX_rank_26 post (nI E) (ms_ci (ms_sol C O E).1) a1 a2 b3 b4 b5 (4 + 1) (nI v) (nI 0) (nI 0) (nI 0) := ms_rank26 hm 4 v 0 0 0 rfl hv (by decide) (H _ b3 b4 b5)
  exact ⟨5, t⟩
theorem ms_rankN {post : Int32 → St2 → Prop} {c p0 : Int32} {E O : Nat} {C : Nat → Nat} {a1 a2 a3 a4 a5 : Nat → Int32} (hp : ms_pic E C O a1 a2) (hE : E ≤ 6) (hO : O < 64) (hO2 : O < 2 ^ E) (hc : (ms_sol C O E).1 ≠ 0)
    (H : ∀ c' b3 b4 b5, post 0 (nI E, c', a1, a2, b3, b4, b5)) : wpX_rank post (nI E, c, a1, a2, a3, a4, a5) p0 := by
  unfold wpX_rank
  exact ms_solve hp hE hO hO2 (fun b3 b4 b5 hm => br_f (ms_ci1 hc) (H _ b3 b4 b5))
/-! varies, fixed, possible -/
theorem ms_vl_le (v : Nat) : ∀ k w, ms_vl v k w ≤ 1 := by
  intro k
  induction k with
  | zero => exact fun w => Nat.zero_le 1
  | succ k ih =>
    intro w
    show (if ms_dg v w = 0 then ms_vl v k (w + 1) else 1) ≤ 1
    by_cases h : ms_dg v w = 0
    · rw [if_pos h]
      exact ih (w + 1)
    · rw [if_neg h]
      exact Nat.le_refl 1
theorem ms_vr_le (R : Nat → Nat) (u : Nat) : ms_vr R u ≤ 1 := by
  unfold ms_vr
  by_cases h : R u = 0
  · rw [if_pos h]
    exact Nat.le_refl 1
  · rw [if_neg h]
    exact ms_vl_le _ _ _
theorem ms_vr13 {post : Int32 → Prop} {E c : Int32} {u v : Nat} {a1 a2 a3 a4 a5 : Nat → Int32} (hu : u < 4) (hv : ms_is a4 u v) : ∀ (k w : Nat), w + k = u → post (nI (ms_vl v k w)) → wX_varies_13 post (nI u) E c a1 a2 a3 a4 a5 (k + 1) (nI w) := by
  intro k
  induction k with
  | zero =>
    intro w hw h
    exact pk_le u w (fun _ => h) (fun z => absurd z (by omega))
  | succ k ih =>
    intro w hw h
    have e4 : a4 (nI u * 5 + nI w).toNatClampNeg = nI (ms_dg v w) := by
      rw [pk_cl (u * 5 + w) (ms_ix u w) (by omega)]
      exact hv w (by omega)
    have hd := ms_dg_lt v w
    refine pk_le u w (fun z => absurd z (by omega)) (fun _ => ⟨pk_in (u * 5 + w) 20 (by omega) (ms_ix u w), pk_eq (ms_dg v w) 0 (fun z => nm_r (nI_1 w) (ih (w + 1) (by omega) ?_)) (fun z => ?_) e4 rfl (by omega) (by omega)⟩)
    · have e : ms_vl v (k + 1) w = ms_vl v k (w + 1) := if_pos z
      rw [e] at h
      exact h
    · have e : ms_vl v (k + 1) w = 1 := if_neg z
      rw [e] at h
      exact h
theorem ms_varies {post : Int32 → Prop} {E c p : Int32} {R : Nat → Nat} {u : Nat} {a1 a2 a3 a4 a5 : Nat → Int32} (hR : ms_mt R a3 a4) (hu : u < 4) (hp : p = nI u) (h : post (nI (ms_vr R u))) : wpX_varies post (E, c, a1, a2, a3, a4, a5) p := by
  subst hp
  unfold wpX_varies
  by_cases hr : R u = 0
  · have e : ms_vr R u = 1 := if_pos hr
    rw [e] at h
    exact ⟨pk_in u 4 hu, br_t (ms_d3t hR hu hr) h⟩
  · have e : ms_vr R u = ms_vl (R u - 1) u 0 := if_neg hr
    rw [e] at h
    have t : wX_varies_13 post (nI u) E c a1 a2 a3 a4 a5 (u + 1) (nI 0) := ms_vr13 hu ((hR u hu).2 hr) u 0 (by omega) h
    exact ⟨pk_in u 4 hu, br_f (ms_d3f hR hu hr) ⟨u + 1, t⟩⟩
theorem ms_fixed {post : Int32 → St2 → Prop} {c p0 x : Int32} {E O u : Nat} {C : Nat → Nat} {a1 a2 a3 a4 a5 : Nat → Int32} (hp : ms_pic E C O a1 a2) (hE : E ≤ 6) (hO : O < 64) (hO2 : O < 2 ^ E) (hc : (ms_sol C O E).1 = 0) (hu : u < 4) (hp0 : p0 = nI u) (hx : (if ms_vr (ms_at (ms_sol C O E).2) u = 0 then (1 : Int32) else 0) = x)
    (H : ∀ c' b3 b4 b5, post x (nI E, c', a1, a2, b3, b4, b5)) : wpX_fixed post (nI E, c, a1, a2, a3, a4, a5) p0 := by
  subst hp0 hx
  have vb := ms_vr_le (ms_at (ms_sol C O E).2) u
  unfold wpX_fixed
  refine br_f (nI_pos (by omega)) (br_t (nI_lt (b := 4) hu (by decide)) (ms_solve hp hE hO hO2 (fun b3 b4 b5 hm => br_t (ms_ci0 hc) (ms_varies hm hu rfl ?_))))
  refine pk_eq (ms_vr (ms_at (ms_sol C O E).2) u) 0 (fun z => ?_) (fun z => ?_)
  · rw [if_pos z] at H
    exact H _ b3 b4 b5
  · rw [if_neg z] at H
    exact H _ b3 b4 b5
theorem ms_possible {post : Int32 → St2 → Prop} {c p0 x : Int32} {E O u : Nat} {C : Nat → Nat} {a1 a2 a3 a4 a5 : Nat → Int32} (hp : ms_pic E C O a1 a2) (hE : E ≤ 6) (hO : O < 64) (hO2 : O < 2 ^ E) (hc : (ms_sol C O E).1 = 0) (hu : u < 4) (hp0 : p0 = nI u) (hx : (if ms_vr (ms_at (ms_sol C O E).2) u = 0 then (1 : Int32) <<< (nI (ms_dg (ms_at (ms_sol C O E).2 u - 1) 4) &&& 31) else 127) = x)
    (H : ∀ c' b3 b4 b5, post x (nI E, c', a1, a2, b3, b4, b5)) : wpX_possible post (nI E, c, a1, a2, a3, a4, a5) p0 := by
  subst hp0 hx
  have vb := ms_vr_le (ms_at (ms_sol C O E).2) u
  unfold wpX_possible
  refine br_f (nI_pos (by omega)) (br_t (nI_lt (b := 4) hu (by decide)) (ms_solve hp hE hO hO2 (fun b3 b4 b5 hm => br_t (ms_ci0 hc) (ms_varies hm hu rfl ?_))))
  refine pk_eq (ms_vr (ms_at (ms_sol C O E).2) u) 0 (fun z => ⟨pk_in (u * 5 + 4) 20 (by omega) (ms_ix u 4), ?_⟩) (fun z => ?_)
  · have hr : ms_at (ms_sol C O E).2 u ≠ 0 := by
      intro g
      unfold ms_vr at z
      rw [if_pos g] at z
      exact absurd z (by decide)
    have e4 : b4 (nI u * 5 + 4).toNatClampNeg = nI (ms_dg (ms_at (ms_sol C O E).2 u - 1) 4) := by
      rw [pk_cl (u * 5 + 4) (ms_ix4 u) (by omega)]
      exact (hm u hu).2 hr 4 (by omega)
    rw [if_pos z] at H
    rw [e4]
    exact H _ b3 b4 b5
  · rw [if_neg z] at H
    exact H _ b3 b4 b5
theorem ms_possibleN {post : Int32 → St2 → Prop} {c p0 : Int32} {E O u : Nat} {C : Nat → Nat} {a1 a2 a3 a4 a5 : Nat → Int32} (hp : ms_pic E C O a1 a2) (hE : E ≤ 6) (hO : O < 64) (hO2 : O < 2 ^ E) (hc : (ms_sol C O E).1 ≠ 0) (hu : u < 4) (hp0 : p0 = nI u)
    (H : ∀ c' b3 b4 b5, post 0 (nI E, c', a1, a2, b3, b4, b5)) : wpX_possible post (nI E, c, a1, a2, a3, a4, a5) p0 := by
  subst hp0
  unfold wpX_possible
  exact br_f (nI_pos (by omega)) (br_t (nI_lt (b := 4) hu (by decide)) (ms_solve hp hE hO hO2 (fun b3 b4 b5 hm => br_f (ms_ci1 hc) (H _ b3 b4 b5))))
/-! follows -/
theorem ms_noEq {post : Int32 → Prop} {c p : Int32} {E k : Nat} {a1 a2 a3 a4 a5 : Nat → Int32} (hk : k < E) (hE : E ≤ 6) (hp : p = nI k) (h : post 0) : wpX_noEquation post (nI E, c, a1, a2, a3, a4, a5) p := by
  subst hp
  unfold wpX_noEquation
  exact br_f (nI_pos (by omega)) (br_t (nI_lt hk (by omega)) h)
theorem ms_follows {post : Int32 → St2 → Prop} {c p0 : Int32} {E O k r : Nat} {C : Nat → Nat} {a1 a2 a3 a4 a5 : Nat → Int32} (hp : ms_pic E C O a1 a2) (hE : E ≤ 6) (hO : O < 64) (hO2 : O < 2 ^ E) (hk : k < E) (hp0 : p0 = nI k) (hr : ms_qf (ms_sol C O E) (C k) = r)
    (H : ∀ c' b3 b4 b5, post (nI r) (nI E, c', a1, a2, b3, b4, b5)) : wpX_follows post (nI E, c, a1, a2, a3, a4, a5) p0 := by
  subst hp0 hr
  unfold wpX_follows
  refine ms_noEq hk hE rfl (br_t rfl (ms_solve hp hE hO hO2 (fun b3 b4 b5 hm => ?_)))
  by_cases hc : (ms_sol C O E).1 = 0
  · refine br_t (ms_ci0 hc) (ms_load (show k < 6 by omega) (hp.1 k hk) (fun d5 hd5 => ?_))
    refine ms_reduce hm hd5 (fun e5 he5 => ?_)
    have hd := ms_dg_lt (ms_rd (ms_at (ms_sol C O E).2) (C k)).2 4
    unfold ms_qf at H
    rw [if_pos hc] at H
    by_cases ht : (ms_rd (ms_at (ms_sol C O E).2) (C k)).1 = 0
    · rw [if_pos ht] at H
      refine br_f (ms_tp0 ht).2 (pk_eq (ms_dg (ms_rd (ms_at (ms_sol C O E).2) (C k)).2 4) 0 (fun z => ?_) (fun z => ?_) (he5 4 (by omega)) rfl (by omega) (by omega))
      · rw [if_pos z] at H
        exact H _ _ _ _
      · rw [if_neg z] at H
        exact H _ _ _ _
    · rw [if_neg ht] at H
      exact br_t (ms_tp1 ht (ms_rd_le _ _)).2.1 (H _ _ _ _)
  · unfold ms_qf at H
    rw [if_neg hc] at H
    exact br_f (ms_ci1 hc) (H _ _ _ _)
/-! add, turn, set, drop -/
theorem ms_add {post : Int32 → St2 → Prop} {c p0 : Int32} {E v : Nat} {a1 a2 a3 a4 a5 : Nat → Int32} (hE : E < 6) (hv : v < 2 ^ 31) (hp0 : p0 = nI v)
    (H : ∀ b1, (∀ k, k < E * 5 → b1 k = a1 k) → ms_is b1 E v → post (nI E) (nI (E + 1), c, b1, upd a2 E 1, a3, a4, a5)) : wpX_add post (nI E, c, a1, a2, a3, a4, a5) p0 := by
  subst hp0
  unfold wpX_add
  have t : ∃ n, wX_add_19 post (nI E) c n (nI (v / 7 ^ 0)) (nI 0) a1 a2 a3 a4 a5 := by
    refine pk_loop (fun n i s => wX_add_19 post (nI E) c n (nI (v / 7 ^ i)) (nI i) s a2 a3 a4 a5)
      (fun i s => (∀ j, j < i → s (E * 5 + j) = nI (ms_dg v j)) ∧ (∀ k, k < E * 5 → s k = a1 k)) 5 0 a1 (by omega) ⟨fun j hj => absurd hj (by omega), fun k _ => rfl⟩
      (fun n s h => pk_le 5 5 (fun _ => ⟨pk_in E 6 hE, nm_r (e' := upd a2 E 1) (by rw [nI_clamp (show E < 2 ^ 31 by omega)]) (nm_r (nI_1 E) ?_)⟩) (fun z => absurd z (by omega)))
      (fun n i s hi h hw => pk_le 5 i (fun z => absurd z (by omega)) (fun _ => ⟨by decide, pk_in (E * 5 + i) 30 (by omega) (ms_ix E i), nm_e ⟨by decide, nm_r ?_ (nm_r (nI_1 i) (hw _ ⟨?_, ?_⟩))⟩⟩))
    · rw [nI_pred]
      exact H s h.2 h.1
    · have hl : v / 7 ^ i < 2 ^ 31 := Nat.lt_of_le_of_lt (Nat.div_le_self _ _) hv
      rw [ms_d7 hl, Nat.div_div_eq_div_mul, ← Nat.pow_succ]
    · have hl : v / 7 ^ i < 2 ^ 31 := Nat.lt_of_le_of_lt (Nat.div_le_self _ _) hv
      intro j hj
      rw [pk_cl (E * 5 + i) (ms_ix E i) (by omega)]
      by_cases e : j = i
      · rw [e, pk_us]
        exact ms_r7 hl
      · rw [pk_un (show E * 5 + j ≠ E * 5 + i by omega)]
        exact h.1 j (by omega)
    · intro k hk
      rw [pk_cl (E * 5 + i) (ms_ix E i) (by omega), pk_un (show k ≠ E * 5 + i by omega)]
      exact h.2 k hk
  rw [Nat.pow_zero, Nat.div_one] at t
  exact br_t (nI_lt (b := 6) hE (by decide)) (nm_r (ms_and31 hv) t)
theorem ms_turn {post : Int32 → St2 → Prop} {c p0 p1 : Int32} {E k : Nat} {a1 a2 a3 a4 a5 : Nat → Int32} (hk : k < E) (hE : E ≤ 6) (hp0 : p0 = nI k)
    (H : ∀ r, post r (nI E, c, a1, upd a2 k (vp_nar .boolean p1), a3, a4, a5)) : wpX_turn post (nI E, c, a1, a2, a3, a4, a5) p0 p1 := by
  subst hp0
  unfold wpX_turn
  have h : ∀ z, wX_turn_24 post (nI k) p1 z (nI E) c a1 a2 a3 a4 a5 := by
    intro z
    unfold wX_turn_24
    exact ⟨pk_in k 6 (by omega), nm_r (e' := upd a2 k (vp_nar .boolean p1)) (by rw [nI_clamp (show k < 2 ^ 31 by omega)]) (H z)⟩
  exact ms_noEq hk hE rfl (br_t rfl ⟨pk_in k 6 (by omega), br_c (fun _ => h 0) (fun _ => h 1)⟩)
theorem ms_set {post : Int32 → St2 → Prop} {c p0 p1 p2 : Int32} {E k j A : Nat} {a1 a2 a3 a4 a5 : Nat → Int32} (hk : k < E) (hE : E ≤ 6) (hj : j ≤ 4) (hA : A < 8) (hp0 : p0 = nI k) (hp1 : p1 = nI j) (hp2 : p2 = nI A)
    (H : ∀ r, post r (nI E, c, upd a1 (k * 5 + j) (nI (A % 7)), a2, a3, a4, a5)) : wpX_set post (nI E, c, a1, a2, a3, a4, a5) p0 p1 p2 := by
  subst hp0 hp1 hp2
  unfold wpX_set
  exact ms_noEq hk hE rfl (br_t rfl (br_f (nI_pos (by omega)) (br_t (nI_le (b := 4) hj (by decide)) ⟨pk_in (k * 5 + j) 30 (by omega) (ms_ix k j), nm_e (ms_mod A 0 hA (by decide) (ms_s0 A) ⟨pk_in (k * 5 + j) 30 (by omega) (ms_ix k j), nm_r (e' := upd a1 (k * 5 + j) (nI (A % 7))) (by rw [pk_cl (k * 5 + j) (ms_ix k j) (by omega)]; rfl) (H _)⟩)⟩)))
theorem ms_drop {post : Int32 → St2 → Prop} {c : Int32} {E : Nat} {a1 a2 a3 a4 a5 : Nat → Int32} (hE : E < 6) (H : post (nI E) (nI E, c, a1, a2, a3, a4, a5)) : wpX_drop post (nI (E + 1), c, a1, a2, a3, a4, a5) := by
  unfold wpX_drop
  exact br_f (nI_ne0 (by omega) (by omega)) (nm_r (nI_pred E) H)
end
section
/-! ===== the law's equations, and their echelon forms in closed form ===== -/
def ms_c0 (a d : Nat) : Nat := 1 + 7 * a + 2401 * d
def ms_c1 (b e : Nat) : Nat := 49 + 343 * b + 2401 * e
def ms_c2 (a b s : Nat) : Nat := 1 + 7 * a + 98 + 343 * (2 * b % 7) + 2401 * s
def ms_C (a b d e s k : Nat) : Nat := match k with
  | 0 => ms_c0 a d
  | 1 => ms_c1 b e
  | _ => ms_c2 a b s
def ms_v0 (d : Nat) : Nat := 1 + 2401 * d
def ms_v1 (a d : Nat) : Nat := ms_iv a + 7 + 2401 * (d * ms_iv a % 7)
def ms_v2 (e : Nat) : Nat := 49 + 2401 * e
def ms_v3 (b e : Nat) : Nat := 49 * ms_iv b + 343 + 2401 * (e * ms_iv b % 7)
def ms_F0 (a d : Nat) : Nat × Nat := if a = 0 then (ms_v0 d + 1, 0) else (0, ms_v1 a d + 1)
def ms_F1 (b e : Nat) : Nat × Nat := if b = 0 then (ms_v2 e + 1, 0) else (0, ms_v3 b e + 1)
def ms_FF (p q : Nat × Nat) : ms_T := (p.1, p.2, q.1, q.2)
def ms_zz : ms_S := (0, (0, 0, 0, 0))
def ms_eS (x y : ms_S) : Bool := Nat.beq x.1 y.1 && (Nat.beq x.2.1 y.2.1 && (Nat.beq x.2.2.1 y.2.2.1 && (Nat.beq x.2.2.2.1 y.2.2.2.1 && Nat.beq x.2.2.2.2 y.2.2.2.2)))
theorem ms_eS_t {x y : ms_S} (h : ms_eS x y = true) : x = y := by
  obtain ⟨x0, x1, x2, x3, x4⟩ := x
  obtain ⟨y0, y1, y2, y3, y4⟩ := y
  unfold ms_eS at h
  rw [Bool.and_eq_true, Bool.and_eq_true, Bool.and_eq_true, Bool.and_eq_true] at h
  obtain ⟨h0, h1, h2, h3, h4⟩ := h
  have e0 : x0 = y0 := Nat.eq_of_beq_eq_true h0
  have e1 : x1 = y1 := Nat.eq_of_beq_eq_true h1
  have e2 : x2 = y2 := Nat.eq_of_beq_eq_true h2
  have e3 : x3 = y3 := Nat.eq_of_beq_eq_true h3
  have e4 : x4 = y4 := Nat.eq_of_beq_eq_true h4
  rw [e0, e1, e2, e3, e4]
theorem ms_g1b : ∀ a, a < 7 → ∀ d, d < 7 → ms_eS (ms_st ms_zz (ms_c0 a d)) (0, ms_FF (ms_F0 a d) (0, 0)) = true := by decide +kernel
theorem ms_g1 : ∀ a, a < 7 → ∀ d, d < 7 → ms_st ms_zz (ms_c0 a d) = (0, ms_FF (ms_F0 a d) (0, 0)) := fun a ha d hd => ms_eS_t (ms_g1b a ha d hd)
theorem ms_g2b : ∀ b, b < 7 → ∀ e, e < 7 → ms_eS (ms_st ms_zz (ms_c1 b e)) (0, ms_FF (0, 0) (ms_F1 b e)) = true := by decide +kernel
theorem ms_g2 : ∀ b, b < 7 → ∀ e, e < 7 → ms_st ms_zz (ms_c1 b e) = (0, ms_FF (0, 0) (ms_F1 b e)) := fun b hb e he => ms_eS_t (ms_g2b b hb e he)
theorem ms_g3b : ∀ a, a < 7 → ∀ b, b < 7 → ∀ d, d < 7 → ∀ e, e < 7 → ms_eS (ms_st (0, ms_FF (ms_F0 a d) (0, 0)) (ms_c1 b e)) (0, ms_FF (ms_F0 a d) (ms_F1 b e)) = true := by decide +kernel
theorem ms_g3 : ∀ a, a < 7 → ∀ b, b < 7 → ∀ d, d < 7 → ∀ e, e < 7 → ms_st (0, ms_FF (ms_F0 a d) (0, 0)) (ms_c1 b e) = (0, ms_FF (ms_F0 a d) (ms_F1 b e)) := fun a ha b hb d hd e he => ms_eS_t (ms_g3b a ha b hb d hd e he)
theorem ms_g4b : ∀ a, a < 7 → ∀ b, b < 7 → ∀ d, d < 7 → ∀ s, s < 7 → ms_eS (ms_st (0, ms_FF (ms_F0 a d) (0, 0)) (ms_c2 a b s)) (0, ms_FF (ms_F0 a d) (ms_F1 b ((s + 6 * d) * 4 % 7))) = true := by decide +kernel
theorem ms_g4 : ∀ a, a < 7 → ∀ b, b < 7 → ∀ d, d < 7 → ∀ s, s < 7 → ms_st (0, ms_FF (ms_F0 a d) (0, 0)) (ms_c2 a b s) = (0, ms_FF (ms_F0 a d) (ms_F1 b ((s + 6 * d) * 4 % 7))) := fun a ha b hb d hd s hs => ms_eS_t (ms_g4b a ha b hb d hd s hs)
theorem ms_g5b : ∀ a, a < 7 → ∀ b, b < 7 → ∀ e, e < 7 → ∀ s, s < 7 → ms_eS (ms_st (0, ms_FF (0, 0) (ms_F1 b e)) (ms_c2 a b s)) (0, ms_FF (ms_F0 a ((s + 5 * e) % 7)) (ms_F1 b e)) = true := by decide +kernel
theorem ms_g5 : ∀ a, a < 7 → ∀ b, b < 7 → ∀ e, e < 7 → ∀ s, s < 7 → ms_st (0, ms_FF (0, 0) (ms_F1 b e)) (ms_c2 a b s) = (0, ms_FF (ms_F0 a ((s + 5 * e) % 7)) (ms_F1 b e)) := fun a ha b hb e he s hs => ms_eS_t (ms_g5b a ha b hb e he s hs)
theorem ms_g6b : ∀ a, a < 7 → ∀ b, b < 7 → ∀ d, d < 7 → ∀ e, e < 7 → ms_eS (ms_st (0, ms_FF (ms_F0 a d) (ms_F1 b e)) (ms_c2 a b ((d + 2 * e) % 7))) (0, ms_FF (ms_F0 a d) (ms_F1 b e)) = true := by decide +kernel
theorem ms_g6 : ∀ a, a < 7 → ∀ b, b < 7 → ∀ d, d < 7 → ∀ e, e < 7 → ms_st (0, ms_FF (ms_F0 a d) (ms_F1 b e)) (ms_c2 a b ((d + 2 * e) % 7)) = (0, ms_FF (ms_F0 a d) (ms_F1 b e)) := fun a ha b hb d hd e he => ms_eS_t (ms_g6b a ha b hb d hd e he)
theorem ms_g7 : ∀ a, a < 7 → ∀ b, b < 7 → ∀ d, d < 7 → ∀ e, e < 7 → (ms_st (0, ms_FF (ms_F0 a d) (ms_F1 b e)) (ms_c2 a b (((d + 2 * e) % 7 + 1) % 7))).1 = 1 := by decide +kernel
end
section
def ms_v4 (a s : Nat) : Nat := 4 + 7 * (4 * a % 7) + 49 + 2401 * (4 * s % 7)
def ms_v5 (a b s : Nat) : Nat := ms_iv (2 * b % 7) + 7 * (a * ms_iv (2 * b % 7) % 7) + 49 * (2 * ms_iv (2 * b % 7) % 7) + 343 + 2401 * (s * ms_iv (2 * b % 7) % 7)
def ms_F2 (a b s : Nat) : Nat × Nat := if b = 0 then (ms_v4 a s + 1, 0) else (0, ms_v5 a b s + 1)
theorem ms_g8b : ∀ a, a < 7 → ∀ b, b < 7 → ∀ s, s < 7 → ms_eS (ms_st ms_zz (ms_c2 a b s)) (0, ms_FF (0, 0) (ms_F2 a b s)) = true := by decide +kernel
theorem ms_g8 : ∀ a, a < 7 → ∀ b, b < 7 → ∀ s, s < 7 → ms_st ms_zz (ms_c2 a b s) = (0, ms_FF (0, 0) (ms_F2 a b s)) := fun a ha b hb s hs => ms_eS_t (ms_g8b a ha b hb s hs)
/-- eq. 2 is inside the span of eqs 0, 1 and eq. 1 inside that of 0, 2 -/
theorem ms_f2 : ∀ a, a < 7 → ∀ b, b < 7 → ∀ d, d < 7 → ∀ e, e < 7 → ms_qf (0, ms_FF (ms_F0 a d) (ms_F1 b e)) (ms_c2 a b ((d + 2 * e) % 7)) = 1 := by decide +kernel
theorem ms_f1 : ∀ a, a < 7 → ∀ b, b < 7 → ∀ d, d < 7 → ∀ e, e < 7 → ms_qf (0, ms_FF (ms_F0 a d) (ms_F1 b e)) (ms_c1 b e) = 1 := by decide +kernel
theorem ms_f1n : ∀ a, a < 7 → ∀ b, b < 7 → ∀ s, s < 7 → ∀ e, e < 7 → ms_qf (0, ms_FF (0, 0) (ms_F2 a b s)) (ms_c1 b e) = 0 := by decide +kernel
theorem ms_f0n : ∀ a, a < 7 → ∀ b, b < 7 → ∀ s, s < 7 → ∀ d, d < 7 → ms_qf (0, ms_FF (0, 0) (ms_F2 a b s)) (ms_c0 a d) = 0 := by decide +kernel
/-! counts: they rest on which rows are there alone -/
theorem ms_cn_a (x y : Nat) : ms_wy (ms_at (ms_FF (x + 1, 0) (y + 1, 0))) 0 = 49 ∧ ms_nl (ms_at (ms_FF (x + 1, 0) (y + 1, 0))) 4 0 0 = 2 := by
  constructor <;> simp [ms_wy, ms_wa, ms_nl, ms_at, ms_FF]
theorem ms_cn_b (x y : Nat) : ms_wy (ms_at (ms_FF (x + 1, 0) (0, y + 1))) 0 = 49 ∧ ms_nl (ms_at (ms_FF (x + 1, 0) (0, y + 1))) 4 0 0 = 2 := by
  constructor <;> simp [ms_wy, ms_wa, ms_nl, ms_at, ms_FF]
theorem ms_cn_c (x y : Nat) : ms_wy (ms_at (ms_FF (0, x + 1) (y + 1, 0))) 0 = 49 ∧ ms_nl (ms_at (ms_FF (0, x + 1) (y + 1, 0))) 4 0 0 = 2 := by
  constructor <;> simp [ms_wy, ms_wa, ms_nl, ms_at, ms_FF]
theorem ms_cn_d (x y : Nat) : ms_wy (ms_at (ms_FF (0, x + 1) (0, y + 1))) 0 = 49 ∧ ms_nl (ms_at (ms_FF (0, x + 1) (0, y + 1))) 4 0 0 = 2 := by
  constructor <;> simp [ms_wy, ms_wa, ms_nl, ms_at, ms_FF]
theorem ms_cm_a (y : Nat) : ms_wy (ms_at (ms_FF (0, 0) (y + 1, 0))) 0 = 343 ∧ ms_nl (ms_at (ms_FF (0, 0) (y + 1, 0))) 4 0 0 = 1 := by
  constructor <;> simp [ms_wy, ms_wa, ms_nl, ms_at, ms_FF]
theorem ms_cm_b (y : Nat) : ms_wy (ms_at (ms_FF (0, 0) (0, y + 1))) 0 = 343 ∧ ms_nl (ms_at (ms_FF (0, 0) (0, y + 1))) 4 0 0 = 1 := by
  constructor <;> simp [ms_wy, ms_wa, ms_nl, ms_at, ms_FF]
theorem ms_cnt (a b d e : Nat) : ms_wy (ms_at (ms_FF (ms_F0 a d) (ms_F1 b e))) 0 = 49 ∧ ms_nl (ms_at (ms_FF (ms_F0 a d) (ms_F1 b e))) 4 0 0 = 2 := by
  by_cases ha : a = 0
  · by_cases hb : b = 0
    · have e0 : ms_F0 a d = (ms_v0 d + 1, 0) := if_pos ha
      have e1 : ms_F1 b e = (ms_v2 e + 1, 0) := if_pos hb
      rw [e0, e1]
      exact ms_cn_a _ _
    · have e0 : ms_F0 a d = (ms_v0 d + 1, 0) := if_pos ha
      have e1 : ms_F1 b e = (0, ms_v3 b e + 1) := if_neg hb
      rw [e0, e1]
      exact ms_cn_b _ _
  · by_cases hb : b = 0
    · have e0 : ms_F0 a d = (0, ms_v1 a d + 1) := if_neg ha
      have e1 : ms_F1 b e = (ms_v2 e + 1, 0) := if_pos hb
      rw [e0, e1]
      exact ms_cn_c _ _
    · have e0 : ms_F0 a d = (0, ms_v1 a d + 1) := if_neg ha
      have e1 : ms_F1 b e = (0, ms_v3 b e + 1) := if_neg hb
      rw [e0, e1]
      exact ms_cn_d _ _
theorem ms_cnt2 (a b s : Nat) : ms_wy (ms_at (ms_FF (0, 0) (ms_F2 a b s))) 0 = 343 ∧ ms_nl (ms_at (ms_FF (0, 0) (ms_F2 a b s))) 4 0 0 = 1 := by
  by_cases hb : b = 0
  · have e1 : ms_F2 a b s = (ms_v4 a s + 1, 0) := if_pos hb
    rw [e1]
    exact ms_cm_a _
  · have e1 : ms_F2 a b s = (0, ms_v5 a b s + 1) := if_neg hb
    rw [e1]
    exact ms_cm_b _
/-! solveSet on the subsets -/
theorem ms_solt {C : Nat → Nat} {s e : Nat} (h : s / 2 ^ e % 2 = 1) : ms_sol C s (e + 1) = ms_st (ms_sol C s e) (C e) := if_pos h
theorem ms_solf {C : Nat → Nat} {s e : Nat} (h : ¬ s / 2 ^ e % 2 = 1) : ms_sol C s (e + 1) = ms_sol C s e := if_neg h
theorem ms_s32 {a b d e : Nat} (s : Nat) (ha : a < 7) (hb : b < 7) (hd : d < 7) (he : e < 7) : ms_sol (ms_C a b d e s) 3 2 = (0, ms_FF (ms_F0 a d) (ms_F1 b e)) := by
  have t : ms_sol (ms_C a b d e s) 3 2 = ms_st (ms_st ms_zz (ms_c0 a d)) (ms_c1 b e) := by
    rw [show ms_sol (ms_C a b d e s) 3 2 = ms_st (ms_sol (ms_C a b d e s) 3 1) (ms_C a b d e s 1) from ms_solt (by decide), show ms_sol (ms_C a b d e s) 3 1 = ms_st (ms_sol (ms_C a b d e s) 3 0) (ms_C a b d e s 0) from ms_solt (by decide)] <;> rfl
  rw [t, ms_g1 a ha d hd, ms_g3 a ha b hb d hd e he]
theorem ms_s7 {a b d e s : Nat} (ha : a < 7) (hb : b < 7) (hd : d < 7) (he : e < 7) (hs : s = (d + 2 * e) % 7) : ms_sol (ms_C a b d e s) 7 3 = (0, ms_FF (ms_F0 a d) (ms_F1 b e)) := by
  have t : ms_sol (ms_C a b d e s) 7 3 = ms_st (ms_st (ms_st ms_zz (ms_c0 a d)) (ms_c1 b e)) (ms_c2 a b s) := by
    rw [show ms_sol (ms_C a b d e s) 7 3 = ms_st (ms_sol (ms_C a b d e s) 7 2) (ms_C a b d e s 2) from ms_solt (by decide), show ms_sol (ms_C a b d e s) 7 2 = ms_st (ms_sol (ms_C a b d e s) 7 1) (ms_C a b d e s 1) from ms_solt (by decide), show ms_sol (ms_C a b d e s) 7 1 = ms_st (ms_sol (ms_C a b d e s) 7 0) (ms_C a b d e s 0) from ms_solt (by decide)] <;> rfl
  rw [t, ms_g1 a ha d hd, ms_g3 a ha b hb d hd e he, hs, ms_g6 a ha b hb d hd e he]
theorem ms_s5 {a b d e s : Nat} (ha : a < 7) (hb : b < 7) (hd : d < 7) (he : e < 7) (hs : s = (d + 2 * e) % 7) : ms_sol (ms_C a b d e s) 5 3 = (0, ms_FF (ms_F0 a d) (ms_F1 b e)) := by
  have t : ms_sol (ms_C a b d e s) 5 3 = ms_st (ms_st ms_zz (ms_c0 a d)) (ms_c2 a b s) := by
    rw [show ms_sol (ms_C a b d e s) 5 3 = ms_st (ms_sol (ms_C a b d e s) 5 2) (ms_C a b d e s 2) from ms_solt (by decide), show ms_sol (ms_C a b d e s) 5 2 = ms_sol (ms_C a b d e s) 5 1 from ms_solf (by decide), show ms_sol (ms_C a b d e s) 5 1 = ms_st (ms_sol (ms_C a b d e s) 5 0) (ms_C a b d e s 0) from ms_solt (by decide)] <;> rfl
  have es : (s + 6 * d) * 4 % 7 = e := by omega
  rw [t, ms_g1 a ha d hd, ms_g4 a ha b hb d hd s (by omega), es]
theorem ms_s4 {a b d e s : Nat} (ha : a < 7) (hb : b < 7) (hs : s < 7) : ms_sol (ms_C a b d e s) 4 3 = (0, ms_FF (0, 0) (ms_F2 a b s)) := by
  have t : ms_sol (ms_C a b d e s) 4 3 = ms_st ms_zz (ms_c2 a b s) := by
    rw [show ms_sol (ms_C a b d e s) 4 3 = ms_st (ms_sol (ms_C a b d e s) 4 2) (ms_C a b d e s 2) from ms_solt (by decide), show ms_sol (ms_C a b d e s) 4 2 = ms_sol (ms_C a b d e s) 4 1 from ms_solf (by decide), show ms_sol (ms_C a b d e s) 4 1 = ms_sol (ms_C a b d e s) 4 0 from ms_solf (by decide)] <;> rfl
  rw [t, ms_g8 a ha b hb s hs]
theorem ms_s7n {a b d e s : Nat} (ha : a < 7) (hb : b < 7) (hd : d < 7) (he : e < 7) (hs : s = ((d + 2 * e) % 7 + 1) % 7) : (ms_sol (ms_C a b d e s) 7 3).1 = 1 := by
  have t : ms_sol (ms_C a b d e s) 7 3 = ms_st (ms_st (ms_st ms_zz (ms_c0 a d)) (ms_c1 b e)) (ms_c2 a b s) := by
    rw [show ms_sol (ms_C a b d e s) 7 3 = ms_st (ms_sol (ms_C a b d e s) 7 2) (ms_C a b d e s 2) from ms_solt (by decide), show ms_sol (ms_C a b d e s) 7 2 = ms_st (ms_sol (ms_C a b d e s) 7 1) (ms_C a b d e s 1) from ms_solt (by decide), show ms_sol (ms_C a b d e s) 7 1 = ms_st (ms_sol (ms_C a b d e s) 7 0) (ms_C a b d e s 0) from ms_solt (by decide)] <;> rfl
  rw [t, ms_g1 a ha d hd, ms_g3 a ha b hb d hd e he, hs, ms_g7 a ha b hb d hd e he]
theorem ms_sub7 {a b d e s : Nat} (ha : a < 7) (hb : b < 7) (hd : d < 7) (he : e < 7) (hs : s < 7) : ∀ q, q < 7 → (ms_sol (ms_C a b d e s) q 3).1 = 0 := by
  intro q hq
  have hc : q = 0 ∨ q = 1 ∨ q = 2 ∨ q = 3 ∨ q = 4 ∨ q = 5 ∨ q = 6 := by omega
  rcases hc with rfl | rfl | rfl | rfl | rfl | rfl | rfl
  · rfl
  · have t : ms_sol (ms_C a b d e s) 1 3 = ms_st ms_zz (ms_c0 a d) := by
      rw [show ms_sol (ms_C a b d e s) 1 3 = ms_sol (ms_C a b d e s) 1 2 from ms_solf (by decide), show ms_sol (ms_C a b d e s) 1 2 = ms_sol (ms_C a b d e s) 1 1 from ms_solf (by decide), show ms_sol (ms_C a b d e s) 1 1 = ms_st (ms_sol (ms_C a b d e s) 1 0) (ms_C a b d e s 0) from ms_solt (by decide)] <;> rfl
    rw [t, ms_g1 a ha d hd]
  · have t : ms_sol (ms_C a b d e s) 2 3 = ms_st ms_zz (ms_c1 b e) := by
      rw [show ms_sol (ms_C a b d e s) 2 3 = ms_sol (ms_C a b d e s) 2 2 from ms_solf (by decide), show ms_sol (ms_C a b d e s) 2 2 = ms_st (ms_sol (ms_C a b d e s) 2 1) (ms_C a b d e s 1) from ms_solt (by decide), show ms_sol (ms_C a b d e s) 2 1 = ms_sol (ms_C a b d e s) 2 0 from ms_solf (by decide)] <;> rfl
    rw [t, ms_g2 b hb e he]
  · have t : ms_sol (ms_C a b d e s) 3 3 = ms_st (ms_st ms_zz (ms_c0 a d)) (ms_c1 b e) := by
      rw [show ms_sol (ms_C a b d e s) 3 3 = ms_sol (ms_C a b d e s) 3 2 from ms_solf (by decide), show ms_sol (ms_C a b d e s) 3 2 = ms_st (ms_sol (ms_C a b d e s) 3 1) (ms_C a b d e s 1) from ms_solt (by decide), show ms_sol (ms_C a b d e s) 3 1 = ms_st (ms_sol (ms_C a b d e s) 3 0) (ms_C a b d e s 0) from ms_solt (by decide)] <;> rfl
    rw [t, ms_g1 a ha d hd, ms_g3 a ha b hb d hd e he]
  · rw [ms_s4 ha hb hs]
  · have t : ms_sol (ms_C a b d e s) 5 3 = ms_st (ms_st ms_zz (ms_c0 a d)) (ms_c2 a b s) := by
      rw [show ms_sol (ms_C a b d e s) 5 3 = ms_st (ms_sol (ms_C a b d e s) 5 2) (ms_C a b d e s 2) from ms_solt (by decide), show ms_sol (ms_C a b d e s) 5 2 = ms_sol (ms_C a b d e s) 5 1 from ms_solf (by decide), show ms_sol (ms_C a b d e s) 5 1 = ms_st (ms_sol (ms_C a b d e s) 5 0) (ms_C a b d e s 0) from ms_solt (by decide)] <;> rfl
    rw [t, ms_g1 a ha d hd, ms_g4 a ha b hb d hd s hs]
  · have t : ms_sol (ms_C a b d e s) 6 3 = ms_st (ms_st ms_zz (ms_c1 b e)) (ms_c2 a b s) := by
      rw [show ms_sol (ms_C a b d e s) 6 3 = ms_st (ms_sol (ms_C a b d e s) 6 2) (ms_C a b d e s 2) from ms_solt (by decide), show ms_sol (ms_C a b d e s) 6 2 = ms_st (ms_sol (ms_C a b d e s) 6 1) (ms_C a b d e s 1) from ms_solt (by decide), show ms_sol (ms_C a b d e s) 6 1 = ms_sol (ms_C a b d e s) 6 0 from ms_solf (by decide)] <;> rfl
    rw [t, ms_g2 b hb e he, ms_g5 a ha b hb e he s hs]
/-! ===== the solutions by number ===== -/
theorem ms_slf {R : Nat → Nat} {k left dg pl u w : Nat} (h : R u = 0) (hw : ms_wy R (u + 1) = w) : ms_sl R (k + 1) left dg pl u = ms_sl R k (left % w) (dg + left / w * pl) (pl * 7) (u + 1) := by
  subst hw
  exact if_pos h
theorem ms_sld {R : Nat → Nat} {k left dg pl u v q : Nat} (h : R u = v + 1) (hq : ms_ro v u dg = q) : ms_sl R (k + 1) left dg pl u = ms_sl R k left (dg + q * pl) (pl * 7) (u + 1) := by
  subst hq
  have h0 : ¬ R u = 0 := by omega
  have t : ms_sl R (k + 1) left dg pl u = ms_sl R k left (dg + ms_ro (R u - 1) u dg * pl) (pl * 7) (u + 1) := if_neg h0
  have hv : R u - 1 = v := by omega
  rw [t, hv]
theorem ms_rkf {R : Nat → Nat} {k left bf sum u w g l' : Nat} (h : R u = 0) (hw : ms_wy R (u + 1) = w) (hg : left % 7 = g) (hl : left / 7 = l') : ms_rk R (k + 1) left bf sum u = ms_rk R k l' (bf + g * 7 ^ u) (sum + g * w) (u + 1) := by
  subst hw hg hl
  exact if_pos h
theorem ms_rkd {R : Nat → Nat} {k left bf sum u v g l' : Nat} (h : R u = v + 1) (hg : left % 7 = g) (hl : left / 7 = l') (hq : ms_ro v u bf = g) : ms_rk R (k + 1) left bf sum u = ms_rk R k l' (bf + g * 7 ^ u) sum (u + 1) := by
  have h0 : ¬ R u = 0 := by omega
  have hv : R u - 1 = v := by omega
  show (if R u = 0 then _ else if ms_ro (R u - 1) u bf < left % 7 then _ else if left % 7 < ms_ro (R u - 1) u bf then _ else _) = _
  rw [if_neg h0, hv, hq, hg, hl, if_neg (Nat.lt_irrefl g), if_neg (Nat.lt_irrefl g)]
def ms_ww (a d h : Nat) : Nat := if a = 0 then d else h
def ms_xx (a d h : Nat) : Nat := if a = 0 then h else ms_ro (ms_v1 a d) 1 h
def ms_yy (b e l : Nat) : Nat := if b = 0 then e else l
def ms_zl (b e l : Nat) : Nat := if b = 0 then l else (ms_dg (ms_v3 b e) 4 + 6 * (ms_dg (ms_v3 b e) 2 * l)) % 7
theorem ms_ww_lt {a d h : Nat} (hd : d < 7) (hh : h < 7) : ms_ww a d h < 7 := by
  unfold ms_ww
  by_cases z : a = 0
  · rw [if_pos z]; exact hd
  · rw [if_neg z]; exact hh
theorem ms_xx_lt {a d h : Nat} (hh : h < 7) : ms_xx a d h < 7 := by
  unfold ms_xx
  by_cases z : a = 0
  · rw [if_pos z]; exact hh
  · rw [if_neg z]; exact ms_ro_lt _ _ _
theorem ms_yy_lt {b e l : Nat} (he : e < 7) (hl : l < 7) : ms_yy b e l < 7 := by
  unfold ms_yy
  by_cases z : b = 0
  · rw [if_pos z]; exact he
  · rw [if_neg z]; exact hl
theorem ms_zl_lt {b e l : Nat} (hl : l < 7) : ms_zl b e l < 7 := by
  unfold ms_zl
  by_cases z : b = 0
  · rw [if_pos z]; exact hl
  · rw [if_neg z]; exact Nat.mod_lt _ (by decide)
theorem ms_ro0 : ∀ d, d < 7 → ms_ro (ms_v0 d) 0 0 = d := by decide +kernel
theorem ms_ro2 {e : Nat} (he : e < 7) (D : Nat) : ms_ro (ms_v2 e) 2 D = e := by
  have h0 : ∀ e, e < 7 → ms_dg (ms_v2 e) 0 = 0 ∧ ms_dg (ms_v2 e) 1 = 0 ∧ ms_dg (ms_v2 e) 4 = e := by decide +kernel
  obtain ⟨t0, t1, t4⟩ := h0 e he
  show (ms_dg (ms_v2 e) 4 + 6 * (0 + ms_dg (ms_v2 e) 0 * (D % 7) + ms_dg (ms_v2 e) 1 * (D / 7 % 7))) % 7 = e
  rw [t0, t1, t4]
  simp only [Nat.zero_mul, Nat.zero_add, Nat.mul_zero, Nat.add_zero]
  exact Nat.mod_eq_of_lt he
theorem ms_ro3 {b e l D : Nat} (hb : b < 7) (he : e < 7) (hD : D < 49) (hl : l < 7) : ms_ro (ms_v3 b e) 3 (D + l * 49) = (ms_dg (ms_v3 b e) 4 + 6 * (ms_dg (ms_v3 b e) 2 * l)) % 7 := by
  have h0 : ∀ b, b < 7 → ∀ e, e < 7 → ms_dg (ms_v3 b e) 0 = 0 ∧ ms_dg (ms_v3 b e) 1 = 0 := by decide +kernel
  obtain ⟨t0, t1⟩ := h0 b hb e he
  have el : (D + l * 49) / 7 / 7 % 7 = l := by omega
  show (ms_dg (ms_v3 b e) 4 + 6 * (0 + ms_dg (ms_v3 b e) 0 * ((D + l * 49) % 7) + ms_dg (ms_v3 b e) 1 * ((D + l * 49) / 7 % 7) + ms_dg (ms_v3 b e) 2 * ((D + l * 49) / 7 / 7 % 7))) % 7 = _
  rw [t0, t1, el]
  simp only [Nat.zero_mul, Nat.zero_add]
/-- ways from 2, 1, 3, 4 on -/
theorem ms_wy4 (R : Nat → Nat) : ms_wy R 4 = 1 := rfl
theorem ms_wy3 (R : Nat → Nat) : ms_wy R 3 = (if R 3 = 0 then 1 * 7 else 1) := rfl
theorem ms_wy1 (R : Nat → Nat) (h : ¬ R 1 = 0) : ms_wy R 1 = ms_wy R 2 := by
  show ms_wa R 2 2 (if R 1 = 0 then 1 * 7 else 1) = ms_wa R 2 2 1
  rw [if_neg h]
theorem ms_half1 {R : Nat → Nat} {a d i : Nat} (ha : a < 7) (hd : d < 7) (h0 : R 0 = (ms_F0 a d).1) (h1 : R 1 = (ms_F0 a d).2) (hw : ms_wy R 2 = 7) :
    ms_sl R 4 i 0 1 0 = ms_sl R 2 (i % 7) (ms_ww a d (i / 7) + ms_xx a d (i / 7) * 7) 49 2 := by
  unfold ms_ww ms_xx
  by_cases z : a = 0
  · have e0 : ms_F0 a d = (ms_v0 d + 1, 0) := if_pos z
    rw [e0] at h0 h1
    rw [if_pos z, if_pos z, ms_sld (v := ms_v0 d) h0 (ms_ro0 d hd), ms_slf h1 hw]
    show ms_sl R 2 (i % 7) (0 + d * 1 + i / 7 * 7) 49 2 = _
    rw [Nat.zero_add, Nat.mul_one]
  · have e0 : ms_F0 a d = (0, ms_v1 a d + 1) := if_neg z
    rw [e0] at h0 h1
    have w1 : ms_wy R 1 = 7 := by
      rw [ms_wy1 R (by rw [h1]; exact Nat.succ_ne_zero _)]
      exact hw
    have e1 : 0 + i / 7 * 1 = i / 7 := by omega
    rw [if_neg z, if_neg z, ms_slf h0 w1, e1, ms_sld (v := ms_v1 a d) h1 rfl] <;> rfl
theorem ms_half2 {R : Nat → Nat} {b e l D : Nat} (hb : b < 7) (he : e < 7) (hD : D < 49) (hl : l < 7) (h2 : R 2 = (ms_F1 b e).1) (h3 : R 3 = (ms_F1 b e).2) :
    ms_sl R 2 l D 49 2 = D + ms_yy b e l * 49 + ms_zl b e l * 343 := by
  unfold ms_yy ms_zl
  by_cases z : b = 0
  · have e0 : ms_F1 b e = (ms_v2 e + 1, 0) := if_pos z
    rw [e0] at h2 h3
    rw [if_pos z, if_pos z, ms_sld (v := ms_v2 e) h2 (ms_ro2 he D), ms_slf h3 (ms_wy4 R)]
    show D + e * 49 + l / 1 * 343 = _
    rw [Nat.div_one]
  · have e0 : ms_F1 b e = (0, ms_v3 b e + 1) := if_neg z
    rw [e0] at h2 h3
    have w3 : ms_wy R 3 = 1 := by
      rw [ms_wy3, if_neg (by rw [h3]; exact Nat.succ_ne_zero _)]
    rw [if_neg z, if_neg z, ms_slf h2 w3, Nat.div_one, ms_sld (v := ms_v3 b e) h3 (ms_ro3 hb he hD hl)] <;> rfl
theorem ms_halfr1 {R : Nat → Nat} {a d h y z : Nat} (ha : a < 7) (hd : d < 7) (hh : h < 7) (h0 : R 0 = (ms_F0 a d).1) (h1 : R 1 = (ms_F0 a d).2) (hw : ms_wy R 2 = 7) :
    ms_rk R 4 (ms_ww a d h + ms_xx a d h * 7 + y * 49 + z * 343) 0 0 0 = ms_rk R 2 (y + z * 7) (ms_ww a d h + ms_xx a d h * 7) (h * 7) 2 := by
  have hww := ms_ww_lt (a := a) hd hh
  have hxx := ms_xx_lt (a := a) (d := d) hh
  have g0 : (ms_ww a d h + ms_xx a d h * 7 + y * 49 + z * 343) % 7 = ms_ww a d h := by omega
  have l0 : (ms_ww a d h + ms_xx a d h * 7 + y * 49 + z * 343) / 7 = ms_xx a d h + y * 7 + z * 49 := by omega
  have g1 : (ms_xx a d h + y * 7 + z * 49) % 7 = ms_xx a d h := by omega
  have l1 : (ms_xx a d h + y * 7 + z * 49) / 7 = y + z * 7 := by omega
  have b0 : 0 + ms_ww a d h * 7 ^ 0 = ms_ww a d h := by omega
  by_cases zz : a = 0
  · have e0 : ms_F0 a d = (ms_v0 d + 1, 0) := if_pos zz
    rw [e0] at h0 h1
    have ew : ms_ww a d h = d := if_pos zz
    have ex : ms_xx a d h = h := if_pos zz
    rw [ms_rkd (v := ms_v0 d) h0 g0 l0 (by rw [ew]; exact ms_ro0 d hd), b0, ms_rkf h1 hw g1 l1]
    show ms_rk R 2 (y + z * 7) (ms_ww a d h + ms_xx a d h * 7) (0 + ms_xx a d h * 7) 2 = _
    rw [Nat.zero_add, ex]
  · have e0 : ms_F0 a d = (0, ms_v1 a d + 1) := if_neg zz
    rw [e0] at h0 h1
    have ew : ms_ww a d h = h := if_neg zz
    have ex : ms_xx a d h = ms_ro (ms_v1 a d) 1 h := if_neg zz
    have w1 : ms_wy R 1 = 7 := by
      rw [ms_wy1 R (by rw [h1]; exact Nat.succ_ne_zero _)]
      exact hw
    rw [ms_rkf h0 w1 g0 l0, b0, ms_rkd (v := ms_v1 a d) h1 g1 l1 (by rw [ew, ex])]
    show ms_rk R 2 (y + z * 7) (ms_ww a d h + ms_xx a d h * 7) (0 + ms_ww a d h * 7) 2 = _
    rw [Nat.zero_add, ew]
theorem ms_halfr2 {R : Nat → Nat} {b e l D sum : Nat} (hb : b < 7) (he : e < 7) (hD : D < 49) (hl : l < 7) (h2 : R 2 = (ms_F1 b e).1) (h3 : R 3 = (ms_F1 b e).2) :
    ms_rk R 2 (ms_yy b e l + ms_zl b e l * 7) D sum 2 = sum + l := by
  have hyy := ms_yy_lt (b := b) he hl
  have hzz := ms_zl_lt (b := b) (e := e) hl
  have g0 : (ms_yy b e l + ms_zl b e l * 7) % 7 = ms_yy b e l := by omega
  have l0 : (ms_yy b e l + ms_zl b e l * 7) / 7 = ms_zl b e l := by omega
  have g1 : ms_zl b e l % 7 = ms_zl b e l := by omega
  have l1 : ms_zl b e l / 7 = 0 := by omega
  by_cases z : b = 0
  · have e0 : ms_F1 b e = (ms_v2 e + 1, 0) := if_pos z
    rw [e0] at h2 h3
    have ey : ms_yy b e l = e := if_pos z
    have ez : ms_zl b e l = l := if_pos z
    rw [ms_rkd (v := ms_v2 e) h2 g0 l0 (by rw [ey]; exact ms_ro2 he D), ms_rkf h3 (ms_wy4 R) g1 l1]
    show sum + ms_zl b e l * 1 = _
    rw [ez, Nat.mul_one]
  · have e0 : ms_F1 b e = (0, ms_v3 b e + 1) := if_neg z
    rw [e0] at h2 h3
    have ey : ms_yy b e l = l := if_neg z
    have ez : ms_zl b e l = (ms_dg (ms_v3 b e) 4 + 6 * (ms_dg (ms_v3 b e) 2 * l)) % 7 := if_neg z
    have w3 : ms_wy R 3 = 1 := by
      rw [ms_wy3, if_neg (by rw [h3]; exact Nat.succ_ne_zero _)]
    rw [ms_rkf h2 w3 g0 l0, ms_rkd (v := ms_v3 b e) h3 g1 l1 (by rw [ey, ez]; exact ms_ro3 hb he hD hl)]
    show sum + ms_yy b e l * 1 = _
    rw [ey, Nat.mul_one]
/-- the solution numbered i, and its rank -/
def ms_sS (a b d e i : Nat) : Nat := ms_ww a d (i / 7) + ms_xx a d (i / 7) * 7 + ms_yy b e (i % 7) * 49 + ms_zl b e (i % 7) * 343
theorem ms_wyF (a b d e : Nat) : ms_wy (ms_at (ms_FF (ms_F0 a d) (ms_F1 b e))) 2 = 7 := by
  by_cases hb : b = 0
  · have e1 : ms_F1 b e = (ms_v2 e + 1, 0) := if_pos hb
    rw [e1]
    simp [ms_wy, ms_wa, ms_at, ms_FF]
  · have e1 : ms_F1 b e = (0, ms_v3 b e + 1) := if_neg hb
    rw [e1]
    simp [ms_wy, ms_wa, ms_at, ms_FF]
theorem ms_S_e {a b d e i : Nat} (ha : a < 7) (hb : b < 7) (hd : d < 7) (he : e < 7) (hi : i < 49) : ms_sl (ms_at (ms_FF (ms_F0 a d) (ms_F1 b e))) 4 i 0 1 0 = ms_sS a b d e i := by
  have hw := ms_ww_lt (a := a) hd (show i / 7 < 7 by omega)
  have hx := ms_xx_lt (a := a) (d := d) (show i / 7 < 7 by omega)
  rw [ms_half1 ha hd rfl rfl (ms_wyF a b d e), ms_half2 hb he (by omega) (show i % 7 < 7 by omega) rfl rfl] <;> rfl
theorem ms_R_e {a b d e i : Nat} (ha : a < 7) (hb : b < 7) (hd : d < 7) (he : e < 7) (hi : i < 49) : ms_rk (ms_at (ms_FF (ms_F0 a d) (ms_F1 b e))) 4 (ms_sS a b d e i) 0 0 0 = i := by
  have hw := ms_ww_lt (a := a) hd (show i / 7 < 7 by omega)
  have hx := ms_xx_lt (a := a) (d := d) (show i / 7 < 7 by omega)
  unfold ms_sS
  rw [ms_halfr1 ha hd (show i / 7 < 7 by omega) rfl rfl (ms_wyF a b d e), ms_halfr2 hb he (by omega) (show i % 7 < 7 by omega) rfl rfl]
  omega
theorem ms_S_d {a b d e i : Nat} (hd : d < 7) (he : e < 7) (hi : i < 49) : ms_sS a b d e i < 2401 ∧ ms_sS a b d e i / 7 ^ 0 % 7 = ms_ww a d (i / 7) ∧ ms_sS a b d e i / 7 ^ 1 % 7 = ms_xx a d (i / 7) ∧ ms_sS a b d e i / 7 ^ 2 % 7 = ms_yy b e (i % 7) ∧ ms_sS a b d e i / 7 ^ 3 % 7 = ms_zl b e (i % 7) := by
  have hw := ms_ww_lt (a := a) hd (show i / 7 < 7 by omega)
  have hx := ms_xx_lt (a := a) (d := d) (show i / 7 < 7 by omega)
  have hy := ms_yy_lt (b := b) he (show i % 7 < 7 by omega)
  have hz := ms_zl_lt (b := b) (e := e) (show i % 7 < 7 by omega)
  unfold ms_sS
  refine ⟨by omega, ?_, ?_, ?_, ?_⟩
  · show _ / 1 % 7 = _
    omega
  · show _ / 7 % 7 = _
    omega
  · show _ / 49 % 7 = _
    omega
  · show _ / 343 % 7 = _
    omega
/-- the solution answers the equations -/
theorem ms_eq0 : ∀ a, a < 7 → ∀ d, d < 7 → ∀ h, h < 7 → (ms_ww a d h + a * ms_xx a d h) % 7 = d := by decide +kernel
theorem ms_eq1 : ∀ b, b < 7 → ∀ e, e < 7 → ∀ l, l < 7 → (ms_yy b e l + b * ms_zl b e l) % 7 = e := by decide +kernel
/-- fixed and possible -/
theorem ms_vr0 {a d : Nat} (q : Nat × Nat) : ms_vr (ms_at (ms_FF (ms_F0 a d) q)) 0 = (if a = 0 then 0 else 1) := by
  by_cases z : a = 0
  · have e0 : ms_F0 a d = (ms_v0 d + 1, 0) := if_pos z
    rw [e0, if_pos z]
    rfl
  · have e0 : ms_F0 a d = (0, ms_v1 a d + 1) := if_neg z
    rw [e0, if_neg z]
    rfl
theorem ms_vr1 : ∀ a, a < 7 → ∀ d, d < 7 → ms_vr (ms_at (ms_FF (ms_F0 a d) (0, 0))) 1 = 1 := by decide +kernel
theorem ms_vr1q (p q : Nat × Nat) : ms_vr (ms_at (ms_FF p q)) 1 = ms_vr (ms_at (ms_FF p (0, 0))) 1 := rfl
theorem ms_vr2 : ∀ b, b < 7 → ∀ e, e < 7 → ms_vr (ms_at (ms_FF (0, 0) (ms_F1 b e))) 2 = (if b = 0 then 0 else 1) ∧ (b = 0 → ms_dg (ms_at (ms_FF (0, 0) (ms_F1 b e)) 2 - 1) 4 = e) := by decide +kernel
theorem ms_vr2q (p q : Nat × Nat) : ms_vr (ms_at (ms_FF p q)) 2 = ms_vr (ms_at (ms_FF (0, 0) q)) 2 ∧ ms_at (ms_FF p q) 2 = ms_at (ms_FF (0, 0) q) 2 := ⟨rfl, rfl⟩
end
section
/-! ===== the law's pictures ===== -/
theorem ms_lt3 {P : Nat → Prop} (h0 : P 0) (h1 : P 1) (h2 : P 2) : ∀ e, e < 3 → P e := by
  intro e he
  have hc : e = 0 ∨ e = 1 ∨ e = 2 := by omega
  rcases hc with rfl | rfl | rfl
  · exact h0
  · exact h1
  · exact h2
theorem ms_lt2 {P : Nat → Prop} (h0 : P 0) (h1 : P 1) : ∀ e, e < 2 → P e := by
  intro e he
  have hc : e = 0 ∨ e = 1 := by omega
  rcases hc with rfl | rfl
  · exact h0
  · exact h1
theorem ms_pic2 {a b d e s : Nat} {a1 b1 : Nat → Int32} (h0 : ms_is a1 0 (ms_c0 a d)) (ho : ∀ k, k < 1 * 5 → b1 k = a1 k) (h1 : ms_is b1 1 (ms_c1 b e)) : ms_pic 2 (ms_C a b d e s) 3 b1 (upd (upd (fun _ => 0) 0 1) 1 1) := by
  refine ⟨ms_lt2 (fun j hj => ?_) h1, ms_lt2 (by decide) (by decide)⟩
  rw [ho (0 * 5 + j) (by omega)]
  exact h0 j hj
theorem ms_pic3 {a b d e s t : Nat} {a1 a2 b1 : Nat → Int32} (hp : ms_pic 2 (ms_C a b d e t) 3 a1 a2) (ho : ∀ k, k < 2 * 5 → b1 k = a1 k) (h2 : ms_is b1 2 (ms_c2 a b s)) : ms_pic 3 (ms_C a b d e s) 7 b1 (upd a2 2 1) := by
  refine ⟨ms_lt3 (fun j hj => ?_) (fun j hj => ?_) h2, ms_lt3 ?_ ?_ ?_⟩
  · rw [ho (0 * 5 + j) (by omega)]
    exact hp.1 0 (by decide) j hj
  · rw [ho (1 * 5 + j) (by omega)]
    exact hp.1 1 (by decide) j hj
  · rw [pk_un (by decide)]
    exact hp.2 0 (by decide)
  · rw [pk_un (by decide)]
    exact hp.2 1 (by decide)
  · rw [pk_us]
    rfl
theorem ms_picT {C : Nat → Nat} {O O' k : Nat} {x : Int32} {a1 a2 : Nat → Int32} (hp : ms_pic 3 C O a1 a2) (hx : x = nI (O' / 2 ^ k % 2)) (hb : ∀ e, e < 3 → e ≠ k → O' / 2 ^ e % 2 = O / 2 ^ e % 2) : ms_pic 3 C O' a1 (upd a2 k x) := by
  refine ⟨hp.1, fun e he => ?_⟩
  by_cases z : e = k
  · rw [z, pk_us]
    exact hx
  · rw [pk_un z, hb e he z]
    exact hp.2 e he
theorem ms_c2d {a b s s' : Nat} (ha : a < 7) : ∀ j, j < 5 → j ≠ 4 → ms_dg (ms_c2 a b s) j = ms_dg (ms_c2 a b s') j := by
  intro j hj hj4
  have hb := Nat.mod_lt (2 * b) (show 7 > 0 by decide)
  have hc : j = 0 ∨ j = 1 ∨ j = 2 ∨ j = 3 := by omega
  unfold ms_dg ms_c2
  rcases hc with rfl | rfl | rfl | rfl
  · show _ / 1 % 7 = _ / 1 % 7
    omega
  · show _ / 7 % 7 = _ / 7 % 7
    omega
  · show _ / 49 % 7 = _ / 49 % 7
    omega
  · show _ / 343 % 7 = _ / 343 % 7
    omega
theorem ms_c24 {a b s : Nat} (ha : a < 7) (hs : s < 7) : ms_dg (ms_c2 a b s) 4 = s := by
  have hb := Nat.mod_lt (2 * b) (show 7 > 0 by decide)
  unfold ms_dg ms_c2
  show (1 + 7 * a + 98 + 343 * (2 * b % 7) + 2401 * s) / 2401 % 7 = s
  rw [Nat.add_mul_div_left _ _ (by decide), Nat.div_eq_of_lt (by omega), Nat.zero_add]
  exact Nat.mod_eq_of_lt hs
theorem ms_picS {a b d e s s' O : Nat} {a1 a2 : Nat → Int32} (ha : a < 7) (hs : s' < 7) (hp : ms_pic 3 (ms_C a b d e s) O a1 a2) : ms_pic 3 (ms_C a b d e s') O (upd a1 (2 * 5 + 4) (nI s')) a2 := by
  refine ⟨ms_lt3 (fun j hj => ?_) (fun j hj => ?_) (fun j hj => ?_), hp.2⟩
  · rw [pk_un (show 0 * 5 + j ≠ 2 * 5 + 4 by omega)]
    exact hp.1 0 (by decide) j hj
  · rw [pk_un (show 1 * 5 + j ≠ 2 * 5 + 4 by omega)]
    exact hp.1 1 (by decide) j hj
  · by_cases z : j = 4
    · rw [z, pk_us]
      show nI s' = nI (ms_dg (ms_c2 a b s') 4)
      rw [ms_c24 ha hs]
    · rw [pk_un (show 2 * 5 + j ≠ 2 * 5 + 4 by omega)]
      show _ = nI (ms_dg (ms_c2 a b s') j)
      rw [← ms_c2d (s := s) ha j hj z]
      exact hp.1 2 (by decide) j hj
theorem ms_picD {C : Nat → Nat} {a1 a2 : Nat → Int32} (hp : ms_pic 3 C 7 a1 a2) : ms_pic 2 C 3 a1 a2 :=
  ⟨fun e he => hp.1 e (by omega), ms_lt2 (hp.2 0 (by decide)) (hp.2 1 (by decide))⟩
theorem ms_qs0 (R : ms_T) : ms_qs (0, R) = ms_wy (ms_at R) 0 := if_pos rfl
theorem ms_qs1 {s : ms_S} (h : s.1 = 1) : ms_qs s = 0 := if_neg (by omega)
theorem ms_qf1 {s : ms_S} (v : Nat) (h : s.1 = 1) : ms_qf s v = 1 := if_neg (by omega)
theorem ms_a0 (a d : Nat) : 1 + 7 * nI a + 2401 * nI d = nI (ms_c0 a d) := by
  rw [show (1 : Int32) = nI 1 from rfl, show (7 : Int32) = nI 7 from rfl, show (2401 : Int32) = nI 2401 from rfl, pk_mul, pk_mul, nI_add, nI_add]
  rfl
theorem ms_a1 (b e : Nat) : 49 + 343 * nI b + 2401 * nI e = nI (ms_c1 b e) := by
  rw [show (49 : Int32) = nI 49 from rfl, show (343 : Int32) = nI 343 from rfl, show (2401 : Int32) = nI 2401 from rfl, pk_mul, pk_mul, nI_add, nI_add]
  rfl
theorem ms_a2 {b : Nat} (hb : b < 7) (a s : Nat) : 1 + 7 * nI a + 98 + 343 * (2 * nI b - 2 * nI b / 7 * 7) + 2401 * nI s = nI (ms_c2 a b s) := by
  have t : 2 * nI b - 2 * nI b / 7 * 7 = nI (2 * b % 7) := by
    rw [show (2 : Int32) = nI 2 from rfl, pk_mul]
    exact ms_r7 (by omega)
  rw [t, show (1 : Int32) = nI 1 from rfl, show (7 : Int32) = nI 7 from rfl, show (98 : Int32) = nI 98 from rfl, show (343 : Int32) = nI 343 from rfl, show (2401 : Int32) = nI 2401 from rfl, pk_mul, pk_mul, pk_mul, nI_add, nI_add, nI_add, nI_add]
  rfl
theorem ms_sum {d e : Nat} (hd : d < 7) (he : e < 7) : nI d + 2 * nI e - (nI d + 2 * nI e) / 7 * 7 = nI ((d + 2 * e) % 7) := by
  rw [show (2 : Int32) = nI 2 from rfl, pk_mul, nI_add]
  exact ms_r7 (by omega)
/-! ===== the law, from behind ===== -/
/-- three equations, the third's right side wrong -/
theorem ms_t3 {a b d e s : Nat} (ha : a < 7) (hb : b < 7) (hd : d < 7) (he : e < 7) (hs : s = ((d + 2 * e) % 7 + 1) % 7) : (ms_sol (ms_C a b d e s) 7 3).1 ≠ 0 := by
  rw [ms_s7n ha hb hd he hs]
  decide
theorem ms_l358 {a b d e mc ms kc ks : Nat} {z c : Int32} {a1 a2 a3 a4 a5 : Nat → Int32} (ha : a < 7) (hb : b < 7) (hd : d < 7) (he : e < 7) (hp : ms_pic 2 (ms_C a b d e 0) 3 a1 a2) :
    wL_lawOf_358 (fun r _ => r = 1) mc ms (nI a) (nI b) (nI d) (nI e) z z kc ks (nI 2) c a1 a2 a3 a4 a5 := by
  have s2 := ms_s32 0 ha hb hd he
  have v1 : ms_vr (ms_at (ms_FF (ms_F0 a d) (ms_F1 b e))) 1 = 1 := by
    rw [ms_vr1q]
    exact ms_vr1 a ha d hd
  have cn := ms_cnt a b d e
  have hs : (d + 2 * e) % 7 < 7 := Nat.mod_lt _ (by decide)
  have s7 := ms_s7 ha hb hd he (rfl : (d + 2 * e) % 7 = _)
  have s5 := ms_s5 ha hb hd he (rfl : (d + 2 * e) % 7 = _)
  have s4 := ms_s4 (d := d) (e := e) ha hb hs
  have cn2 := ms_cnt2 a b ((d + 2 * e) % 7)
  have hs' : ((d + 2 * e) % 7 + 1) % 7 < 7 := Nat.mod_lt _ (by decide)
  have s7n := ms_s7n ha hb hd he (rfl : ((d + 2 * e) % 7 + 1) % 7 = _)
  have s7n' := ms_t3 ha hb hd he (rfl : ((d + 2 * e) % 7 + 1) % 7 = _)
  have sub := ms_sub7 ha hb hd he hs'
  have s2' := ms_s32 (((d + 2 * e) % 7 + 1) % 7) ha hb hd he
  unfold wL_lawOf_358
  refine br_t rfl (ms_possible (u := 1) (x := 127) hp (by decide) (by decide) (by decide) (by rw [s2]) (by decide) rfl (by rw [s2, v1]; exact if_neg (by decide)) (fun c3 a3 a4 a5 => ?_))
  refine br_t rfl ⟨by decide, nm_r (ms_sum hd he) ⟨by decide, ?_⟩⟩
  refine ms_add (E := 2) (v := ms_c2 a b ((d + 2 * e) % 7)) (by decide) (by unfold ms_c2; omega) (ms_a2 hb a _) (fun b1 ho hn => br_t rfl ?_)
  have hp3 := ms_pic3 hp ho hn
  refine ms_follows (k := 2) (r := 1) hp3 (by decide) (by decide) (by decide) (by decide) rfl (by rw [s7]; exact ms_f2 a ha b hb d hd e he) (fun c a3 a4 a5 => br_f (by decide) ?_)
  refine ms_solutions hp3 (by decide) (by decide) (by decide) 49 (by rw [s7, ms_qs0]; exact cn.1) (fun c a3 a4 a5 => br_t rfl ?_)
  refine ms_needed0 hp3 (by decide) (by decide) (by decide) (by rw [s7]) 2 (by rw [s7]; exact cn.2) (fun c a3 a4 a5 => br_t rfl ?_)
  refine ms_turn (E := 3) (k := 1) (by decide) (by decide) rfl (fun r => ?_)
  have hp5 : ms_pic 3 (ms_C a b d e ((d + 2 * e) % 7)) 5 b1 _ := ms_picT (O' := 5) (k := 1) (x := vp_nar .boolean 0) hp3 (by decide) (by decide)
  refine ms_solutions hp5 (by decide) (by decide) (by decide) 49 (by rw [s5, ms_qs0]; exact cn.1) (fun c a3 a4 a5 => br_t rfl ?_)
  refine ms_follows (k := 1) (r := 1) hp5 (by decide) (by decide) (by decide) (by decide) rfl (by rw [s5]; exact ms_f1 a ha b hb d hd e he) (fun c a3 a4 a5 => br_f (by decide) ?_)
  refine ms_needed0 hp5 (by decide) (by decide) (by decide) (by rw [s5]) 2 (by rw [s5]; exact cn.2) (fun c a3 a4 a5 => br_t rfl ?_)
  refine ms_turn (E := 3) (k := 0) (by decide) (by decide) rfl (fun r => ?_)
  have hp4 : ms_pic 3 (ms_C a b d e ((d + 2 * e) % 7)) 4 b1 _ := ms_picT (O' := 4) (k := 0) (x := vp_nar .boolean 0) hp5 (by decide) (by decide)
  refine ms_solutions hp4 (by decide) (by decide) (by decide) 343 (by rw [s4, ms_qs0]; exact cn2.1) (fun c a3 a4 a5 => br_t rfl ?_)
  refine ms_follows (k := 1) (r := 0) hp4 (by decide) (by decide) (by decide) (by decide) rfl (by rw [s4]; exact ms_f1n a ha b hb _ hs e he) (fun c a3 a4 a5 => br_t rfl ?_)
  refine ms_follows (k := 0) (r := 0) hp4 (by decide) (by decide) (by decide) (by decide) rfl (by rw [s4]; exact ms_f0n a ha b hb _ hs d hd) (fun c a3 a4 a5 => br_t rfl ?_)
  refine ms_needed0 hp4 (by decide) (by decide) (by decide) (by rw [s4]) 1 (by rw [s4]; exact cn2.2) (fun c a3 a4 a5 => br_t rfl ?_)
  refine ms_turn (E := 3) (k := 0) (by decide) (by decide) rfl (fun r => ?_)
  have hq5 : ms_pic 3 (ms_C a b d e ((d + 2 * e) % 7)) 5 b1 _ := ms_picT (O' := 5) (k := 0) (x := vp_nar .boolean 1) hp4 (by decide) (by decide)
  refine ms_turn (E := 3) (k := 1) (by decide) (by decide) rfl (fun r => ?_)
  have hq7 : ms_pic 3 (ms_C a b d e ((d + 2 * e) % 7)) 7 b1 _ := ms_picT (O' := 7) (k := 1) (x := vp_nar .boolean 1) hq5 (by decide) (by decide)
  refine ms_set (E := 3) (k := 2) (j := 4) (A := (d + 2 * e) % 7 + 1) (by decide) (by decide) (by decide) (by omega) rfl rfl (nI_1 _) (fun r => ?_)
  have hr7 := ms_picS (s' := ((d + 2 * e) % 7 + 1) % 7) ha hs' hq7
  refine ms_solutions hr7 (by decide) (by decide) (by decide) 0 (ms_qs1 s7n) (fun c a3 a4 a5 => br_t rfl ?_)
  refine ms_needed3 hr7 sub s7n' (fun c a3 a4 a5 => br_t rfl ?_)
  refine ms_possibleN (u := 3) hr7 (by decide) (by decide) (by decide) s7n' (by decide) rfl (fun c a3 a4 a5 => br_t rfl ?_)
  refine ms_follows (k := 1) (r := 1) hr7 (by decide) (by decide) (by decide) (by decide) rfl (ms_qf1 _ s7n) (fun c a3 a4 a5 => br_f (by decide) ?_)
  refine ms_valueN (k := 0) hr7 (by decide) (by decide) (by decide) (by decide) (fun g => absurd g s7n') rfl (fun c a3 a4 a5 => br_t rfl ?_)
  refine ms_rankN hr7 (by decide) (by decide) (by decide) s7n' (fun c a3 a4 a5 => br_t rfl ?_)
  refine ms_drop (E := 2) (by decide) (br_t rfl ?_)
  exact ms_solutions (ms_picD hr7) (by decide) (by decide) (by decide) 49 (by rw [s2', ms_qs0]; exact cn.1) (fun c a3 a4 a5 => br_t rfl rfl)
theorem ms_l336 {a b d e mc ms kc ks : Nat} {z c : Int32} {a1 a2 a3 a4 a5 : Nat → Int32} (ha : a < 7) (hb : b < 7) (hd : d < 7) (he : e < 7) (hp : ms_pic 2 (ms_C a b d e 0) 3 a1 a2) :
    wL_lawOf_336 (fun r _ => r = 1) mc ms (nI a) (nI b) (nI d) (nI e) z z kc ks (nI 2) c a1 a2 a3 a4 a5 := by
  have s2 := ms_s32 0 ha hb hd he
  have v2 := ms_vr2q (ms_F0 a d) (ms_F1 b e)
  have w2 := ms_vr2 b hb e he
  unfold wL_lawOf_336
  by_cases hb0 : b = 0
  · have x2 : ms_vr (ms_at (ms_FF (ms_F0 a d) (ms_F1 b e))) 2 = 0 := by rw [v2.1, w2.1, if_pos hb0]
    have y2 : ms_dg (ms_at (ms_FF (ms_F0 a d) (ms_F1 b e)) 2 - 1) 4 = e := by
      rw [v2.2]
      exact w2.2 hb0
    refine br_t rfl (ms_possible (u := 2) (x := (1 : Int32) <<< (nI e &&& 31)) hp (by decide) (by decide) (by decide) (by rw [s2]) (by decide) rfl (by rw [s2, x2, y2]; exact if_pos rfl) (fun c a3 a4 a5 => ?_))
    exact br_t (by rw [hb0]; rfl) (ms_l358 ha hb hd he hp)
  · have x2 : ms_vr (ms_at (ms_FF (ms_F0 a d) (ms_F1 b e))) 2 = 1 := by rw [v2.1, w2.1, if_neg hb0]
    refine br_t rfl (ms_possible (u := 2) (x := 127) hp (by decide) (by decide) (by decide) (by rw [s2]) (by decide) rfl (by rw [s2, x2]; exact if_neg (by decide)) (fun c a3 a4 a5 => ?_))
    exact br_f (nI_ne0 (by omega) (by omega)) (ms_l358 ha hb hd he hp)
theorem ms_a4 (w x y z : Nat) : nI w + 7 * nI x + 49 * nI y + 343 * nI z = nI (w + x * 7 + y * 49 + z * 343) := by
  rw [show (7 : Int32) = nI 7 from rfl, show (49 : Int32) = nI 49 from rfl, show (343 : Int32) = nI 343 from rfl, pk_mul, pk_mul, pk_mul, nI_add, nI_add, nI_add, Nat.mul_comm 7 x, Nat.mul_comm 49 y, Nat.mul_comm 343 z]
theorem ms_l291 {a b d e i mc ms kc ks : Nat} {c : Int32} {a1 a2 a3 a4 a5 : Nat → Int32} (ha : a < 7) (hb : b < 7) (hd : d < 7) (he : e < 7) (hi : i < 49) (hp : ms_pic 2 (ms_C a b d e 0) 3 a1 a2) :
    wL_lawOf_291 (fun r _ => r = 1) mc ms (nI a) (nI b) (nI d) (nI e) (nI i) (nI (ms_ww a d (i / 7))) (nI (ms_xx a d (i / 7))) (nI (ms_yy b e (i % 7))) (nI (ms_zl b e (i % 7))) kc ks (nI 2) c a1 a2 a3 a4 a5 := by
  have s2 := ms_s32 0 ha hb hd he
  have v0 := ms_vr0 (a := a) (d := d) (ms_F1 b e)
  have sd := ms_S_d (a := a) (b := b) hd he hi
  unfold wL_lawOf_291
  refine ms_rank (v := ms_sS a b d e i) (r := i) hp (by decide) (by decide) (by decide) (by rw [s2]) (by have t := sd.1; omega) (ms_a4 _ _ _ _) (by rw [s2]; exact ms_R_e ha hb hd he hi) (fun c a3 a4 a5 => br_t rfl ?_)
  by_cases ha0 : a = 0
  · have x0 : ms_vr (ms_at (ms_FF (ms_F0 a d) (ms_F1 b e))) 0 = 0 := by rw [v0, if_pos ha0]
    refine ms_fixed (u := 0) (x := 1) hp (by decide) (by decide) (by decide) (by rw [s2]) (by decide) rfl (by rw [s2, x0]; exact if_pos rfl) (fun c a3 a4 a5 => ?_)
    exact br_t (by rw [ha0]; rfl) (ms_l336 ha hb hd he hp)
  · have x0 : ms_vr (ms_at (ms_FF (ms_F0 a d) (ms_F1 b e))) 0 = 1 := by rw [v0, if_neg ha0]
    refine ms_fixed (u := 0) (x := 0) hp (by decide) (by decide) (by decide) (by rw [s2]) (by decide) rfl (by rw [s2, x0]; exact if_neg (by decide)) (fun c a3 a4 a5 => ?_)
    exact br_f (nI_ne0 (by omega) (by omega)) (ms_l336 ha hb hd he hp)
theorem ms_l274 {a b d e i mc ms kc ks : Nat} {c : Int32} {a1 a2 a3 a4 a5 : Nat → Int32} (ha : a < 7) (hb : b < 7) (hd : d < 7) (he : e < 7) (hi : i < 49) (hp : ms_pic 2 (ms_C a b d e 0) 3 a1 a2) :
    wL_lawOf_274 (fun r _ => r = 1) mc ms (nI a) (nI b) (nI d) (nI e) (nI i) (nI (ms_ww a d (i / 7))) (nI (ms_xx a d (i / 7))) (nI (ms_yy b e (i % 7))) (nI (ms_zl b e (i % 7))) kc ks (nI 2) c a1 a2 a3 a4 a5 := by
  unfold wL_lawOf_274
  refine pk_eq b 0 (fun z => ⟨by decide, br_t ?_ (ms_l291 ha hb hd he hi hp)⟩) (fun z => ms_l291 ha hb hd he hi hp)
  rw [ms_r7 (show i < 2 ^ 31 by omega)]
  have t : ms_zl b e (i % 7) = i % 7 := if_pos z
  rw [t]
theorem ms_l243 {a b d e i mc ms kc ks : Nat} {c hi' lo : Int32} {a1 a2 a3 a4 a5 : Nat → Int32} (ha : a < 7) (hb : b < 7) (hd : d < 7) (he : e < 7) (hi : i < 49) (hp : ms_pic 2 (ms_C a b d e 0) 3 a1 a2) (hh : hi' = nI (ms_ww a d (i / 7))) (hl : lo = nI (ms_yy b e (i % 7))) :
    wL_lawOf_243 (fun r _ => r = 1) mc ms (nI a) (nI b) (nI d) (nI e) (nI i) (nI (ms_ww a d (i / 7))) (nI (ms_xx a d (i / 7))) (nI (ms_yy b e (i % 7))) (nI (ms_zl b e (i % 7))) hi' lo kc ks (nI 2) c a1 a2 a3 a4 a5 := by
  unfold wL_lawOf_243
  refine br_t hh.symm (br_t hl.symm (pk_eq a 0 (fun z => ⟨by decide, br_t ?_ (ms_l274 ha hb hd he hi hp)⟩) (fun z => ms_l274 ha hb hd he hi hp)))
  rw [ms_d7 (show i < 2 ^ 31 by omega)]
  have t : ms_xx a d (i / 7) = i / 7 := if_pos z
  rw [t]
theorem ms_l226 {a b d e i mc ms kc ks : Nat} {c hi' : Int32} {a1 a2 a3 a4 a5 : Nat → Int32} (ha : a < 7) (hb : b < 7) (hd : d < 7) (he : e < 7) (hi : i < 49) (hp : ms_pic 2 (ms_C a b d e 0) 3 a1 a2) (hh : hi' = nI (ms_ww a d (i / 7))) :
    wL_lawOf_226 (fun r _ => r = 1) mc ms (nI a) (nI b) (nI d) (nI e) (nI i) (nI (ms_ww a d (i / 7))) (nI (ms_xx a d (i / 7))) (nI (ms_yy b e (i % 7))) (nI (ms_zl b e (i % 7))) hi' kc ks (nI 2) c a1 a2 a3 a4 a5 := by
  unfold wL_lawOf_226
  refine pk_eq b 0 (fun z => ms_l243 ha hb hd he hi hp hh ?_) (fun z => ⟨by decide, ms_l243 ha hb hd he hi hp hh ?_⟩)
  · have t : ms_yy b e (i % 7) = e := if_pos z
    rw [t]
  · have t : ms_yy b e (i % 7) = i % 7 := if_neg z
    rw [t]
    exact ms_r7 (by omega)
theorem ms_low (x : Int32) : ∃ j, j < 7 ∧ (x &&& 2147483647) - (x &&& 2147483647) / 7 * 7 = nI j := by
  obtain ⟨m, hm, e⟩ := pk_andE x (m := 2147483647) 31 (by decide)
  exact ⟨m % 7, Nat.mod_lt _ (by decide), by rw [e]; exact ms_r7 hm⟩
theorem ms_high (x : Int32) : ∃ j, j < 7 ∧ (x &&& 65535) - (x &&& 65535) / 7 * 7 = nI j := by
  obtain ⟨m, hm, e⟩ := pk_andE x (m := 65535) 16 (by decide)
  exact ⟨m % 7, Nat.mod_lt _ (by decide), by rw [e]; exact ms_r7 (by omega)⟩
theorem ms_49 (x : Int32) : ∃ j, j < 49 ∧ (x &&& 2147483647) - (x &&& 2147483647) / 49 * 49 = nI j := by
  obtain ⟨m, hm, e⟩ := pk_andE x (m := 2147483647) 31 (by decide)
  exact ⟨m % 49, Nat.mod_lt _ (by decide), by rw [e]; exact pk_rem (d := 49) hm (by decide) (by decide)⟩
theorem ms_lawOf (p q n : Int32) : wpL_lawOf (fun r _ => r = 1) 46 720 () p q n := by
  obtain ⟨a, ha, ea⟩ := ms_low p
  obtain ⟨b, hb, eb⟩ := ms_high (p >>> ((8 : Int32) &&& 31))
  obtain ⟨d, hd, ed⟩ := ms_low q
  obtain ⟨e, he, ee⟩ := ms_high (q >>> ((8 : Int32) &&& 31))
  obtain ⟨i, hi, ei⟩ := ms_49 n
  have s2 := ms_s32 0 ha hb hd he
  have cn := ms_cnt a b d e
  have sd := ms_S_d (a := a) (b := b) hd he hi
  have hc : (ms_sol (ms_C a b d e 0) 3 2).1 = 0 := by rw [s2]
  have hw : ms_wy (ms_at (ms_sol (ms_C a b d e 0) 3 2).2) 0 = 49 := by
    rw [s2]
    exact cn.1
  have hS : ms_sl (ms_at (ms_sol (ms_C a b d e 0) 3 2).2) 4 i 0 1 0 = ms_sS a b d e i := by
    rw [s2]
    exact ms_S_e ha hb hd he hi
  have hx := ms_xx_lt (a := a) (d := d) (show i / 7 < 7 by omega)
  have hz := ms_zl_lt (b := b) (e := e) (show i % 7 < 7 by omega)
  have hw7 := ms_ww_lt (a := a) hd (show i / 7 < 7 by omega)
  have hy7 := ms_yy_lt (b := b) he (show i % 7 < 7 by omega)
  have c0 : nI (ms_ww a d (i / 7)) + nI a * nI (ms_xx a d (i / 7)) - (nI (ms_ww a d (i / 7)) + nI a * nI (ms_xx a d (i / 7))) / 7 * 7 = nI d := by
    have t := ms_mul36 ha hx
    rw [pk_mul, nI_add, ms_r7 (by omega), ms_eq0 a ha d hd (i / 7) (by omega)]
  have c1 : nI (ms_yy b e (i % 7)) + nI b * nI (ms_zl b e (i % 7)) - (nI (ms_yy b e (i % 7)) + nI b * nI (ms_zl b e (i % 7))) / 7 * 7 = nI e := by
    have t := ms_mul36 hb hz
    rw [pk_mul, nI_add, ms_r7 (by omega), ms_eq1 b hb e he (i % 7) (by omega)]
  unfold wpL_lawOf
  refine ⟨by decide, by decide, 45, 713, by decide, by decide, ?_⟩
  refine ⟨by decide, by decide, by decide, by decide, by decide, by decide, by decide, by decide, by decide, by decide, ?_⟩
  refine ⟨by decide, nm_r ea ⟨by decide, nm_r eb ⟨by decide, nm_r ed ⟨by decide, nm_r ee ?_⟩⟩⟩⟩
  refine ms_add (E := 0) (v := ms_c0 a d) (by decide) (by unfold ms_c0; omega) (ms_a0 a d) (fun b1 _ h0 => ?_)
  refine ms_add (E := 1) (v := ms_c1 b e) (by decide) (by unfold ms_c1; omega) (ms_a1 b e) (fun b2 ho h1 => ⟨by decide, nm_r ei ?_⟩)
  have hp : ms_pic 2 (ms_C a b d e 0) 3 b2 _ := ms_pic2 h0 ho h1
  refine ms_solutions hp (by decide) (by decide) (by decide) 49 (by rw [s2, ms_qs0]; exact cn.1) (fun c a3 a4 a5 => br_t rfl ?_)
  refine ms_needed0 hp (by decide) (by decide) (by decide) hc 2 (by rw [s2]; exact cn.2) (fun c a3 a4 a5 => br_t rfl ?_)
  refine ms_valueN (k := 0) hp (by decide) (by decide) (by decide) (by decide) (fun _ => Or.inr ⟨by decide, by rw [hw]; decide⟩) rfl (fun c a3 a4 a5 => br_t rfl ?_)
  refine ms_valueN (k := 0) hp (by decide) (by decide) (by decide) (by decide) (fun _ => Or.inl (by decide)) rfl (fun c a3 a4 a5 => br_t rfl ?_)
  refine ms_value (k := 0) hp (by decide) (by decide) (by decide) hc (by rw [hw]; exact hi) (by decide) hS sd.1 sd.2.1 rfl rfl (fun c a3 a4 a5 => ?_)
  refine ms_value (k := 1) hp (by decide) (by decide) (by decide) hc (by rw [hw]; exact hi) (by decide) hS sd.1 sd.2.2.1 rfl rfl (fun c a3 a4 a5 => ?_)
  refine ms_value (k := 2) hp (by decide) (by decide) (by decide) hc (by rw [hw]; exact hi) (by decide) hS sd.1 sd.2.2.2.1 rfl rfl (fun c a3 a4 a5 => ?_)
  refine ms_value (k := 3) hp (by decide) (by decide) (by decide) hc (by rw [hw]; exact hi) (by decide) hS sd.1 sd.2.2.2.2 rfl rfl (fun c a3 a4 a5 => ?_)
  refine ⟨by decide, br_t c0 ⟨by decide, br_t c1 (pk_eq a 0 (fun z => ms_l226 ha hb hd he hi hp ?_) (fun z => ⟨by decide, ms_l226 ha hb hd he hi hp ?_⟩))⟩⟩
  · have t : ms_ww a d (i / 7) = d := if_pos z
    rw [t]
  · have t : ms_ww a d (i / 7) = i / 7 := if_neg z
    rw [t]
    exact ms_d7 (by omega)
end
section
theorem ms_cell {post : Int32 → Prop} {L : Nat} {xs : Nat → Int32} (hL : L ≤ 3) (k : Nat) (hk : k < 3) (H : ∀ r, post r) : wpL_cellAt post L xs () (nI k) := by
  unfold wpL_cellAt
  exact pk_le L k (fun _ => H _) (fun z => ⟨pk_in k L z rfl (by omega), H _⟩)
theorem i_vc (xs : Nat → Int32) (L : Nat) (hL : L ≤ 3) : wpL_law (fun r => r = 1) L xs := by
  unfold wpL_law
  refine ms_cell hL 0 (by decide) (fun p => ?_)
  refine ms_cell hL 1 (by decide) (fun q => ?_)
  refine ms_cell hL 2 (by decide) (fun n => ?_)
  exact ⟨46, 720, by decide, by decide, ms_lawOf p q n⟩
end
