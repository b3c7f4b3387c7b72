section
/-! 01: numbers, stores, the pure machine -/
theorem zt_us {f : Nat → Int32} {k : Nat} {x : Int32} : upd f k x k = x := if_pos rfl
theorem zt_un {f : Nat → Int32} {k j : Nat} {x : Int32} (h : j ≠ k) : upd f k x j = f j := if_neg h
theorem zt_b {x : Int32} (h1 : -128 ≤ x.toInt) (h2 : x.toInt < 128) : x.toInt8.toInt32 = x := lg_i2b_small h1 h2
theorem zt_bb {x : Int32} (h1 : -128 ≤ x.toInt) (h2 : x.toInt < 128) : vp_nar .byte x.toInt8.toInt32 = x := by
  rw [zt_b h1 h2, vp_nar_byte, zt_b h1 h2]
theorem zt_bi {x : Int32} {n : Nat} (h : vp_in x n) (hn : n ≤ 128) : vp_nar .byte x.toInt8.toInt32 = x := by
  rw [vp_in_iff] at h
  exact zt_bb (by omega) (by omega)
theorem zt_bN {n : Nat} (h : n < 128) : vp_nar .byte (nI n).toInt8.toInt32 = nI n :=
  zt_bi (vp_in_nI (N := 128) h (by omega)) (Nat.le_refl _)
theorem zt_sN {n : Nat} (h : n < 32768) : vp_nar .short (nI n).toInt16.toInt32 = nI n := by
  have e : (nI n).toInt = (n : Int) := nI_toInt (by omega)
  have e2 : (nI n).toInt16.toInt32 = nI n := lg_i2s_small (by omega) (by omega)
  rw [e2, vp_nar_short, e2]
theorem zt_ii (x : Int32) : vp_nar .byte (vp_nar .byte x) = vp_nar .byte x := by
  rw [vp_nar_byte, vp_nar_byte]; simp
theorem zt_i8 (x : Int32) : vp_nar .byte x.toInt8.toInt32 = vp_nar .byte x := by
  rw [vp_nar_byte, vp_nar_byte]; simp
theorem zt_ne {a b c : Int32} (h : a = b) (hc : ¬ b = c) : ¬ a = c := fun e => hc (h ▸ e)
theorem zt_vbm1 : vp_nar .byte (-1) = -1 := by decide
theorem zt_vbm2 : vp_nar .byte (-2) = -2 := by decide
theorem zt_vb0 : vp_nar .byte 0 = 0 := by decide
theorem zt_vb1 : vp_nar .byte 1 = 1 := by decide
theorem zt_vb2 : vp_nar .byte 2 = 2 := by decide
theorem zt_vt0 : vp_nar .boolean 0 = 0 := by decide
theorem zt_vt1 : vp_nar .boolean 1 = 1 := by decide
theorem zt_in_mono {x : Int32} {a b : Nat} (h : vp_in x a) (hab : a ≤ b) : vp_in x b := by
  rw [vp_in_iff] at *
  omega
theorem zt_cl {x : Int32} {n : Nat} (h : vp_in x n) : x.toNatClampNeg < n := by
  rw [vp_in_iff] at h
  have hc : x.toNatClampNeg = x.toInt.toNat := rfl
  omega
theorem zt_clI {x : Int32} (h : ¬ x < 0) : x = nI x.toNatClampNeg := by
  obtain ⟨j, hj, rfl⟩ := nI_of h
  rw [nI_clamp hj]
theorem zt_inI {x : Int32} {n : Nat} (h : vp_in x n) (hn : n < 2 ^ 31) : x = nI x.toNatClampNeg := by
  obtain ⟨j, hj, rfl⟩ := vp_in_of h hn
  rw [nI_clamp (by omega)]

abbrev zt_WS : Type := Int32 × (Nat → Int32) × (Nat → Int32) × (Nat → Int64)
abbrev zt_MS : Type := Int32 × Int32 × Int32 × zt_WS
def zt_asg (x s v : Int32) (w : zt_WS) : zt_WS := (w.1, upd w.2.1 x.toNatClampNeg s, upd w.2.2.1 x.toNatClampNeg v, w.2.2.2)
def zt_prn (x : Int32) (w : zt_WS) : zt_WS :=
  (w.1 + 1, w.2.1, w.2.2.1, if 24 ≤ w.1 then w.2.2.2 else vp_updL w.2.2.2 w.1.toNatClampNeg ((4 * ((w.2.2.1 x.toNatClampNeg).toInt64)) + ((w.2.1 x.toNatClampNeg).toInt64)))
def zt_perf (o x y z : Int32) (w : zt_WS) : zt_WS :=
  if o = 0 then zt_asg x 1 y w
  else if o = 1 then zt_asg x 2 (if y = 0 then 0 else 1) w
  else if o = 2 then zt_asg x 0 0 w
  else if o = 3 then zt_asg x (w.2.1 y.toNatClampNeg) (w.2.2.1 y.toNatClampNeg) w
  else if o = 10 then zt_prn x w
  else if o = 5 then zt_asg x 1 (w.2.2.1 y.toNatClampNeg - w.2.2.1 z.toNatClampNeg) w
  else if o = 6 then zt_asg x 2 (if w.2.2.1 z.toNatClampNeg ≤ w.2.2.1 y.toNatClampNeg then 0 else 1) w
  else if o = 7 then zt_asg x 2 (if w.2.1 y.toNatClampNeg = w.2.1 z.toNatClampNeg then (if w.2.2.1 y.toNatClampNeg = w.2.2.1 z.toNatClampNeg then 1 else 0) else 0) w
  else if w.2.1 y.toNatClampNeg = 1 then zt_asg x 1 (w.2.2.1 y.toNatClampNeg + w.2.2.1 z.toNatClampNeg) w
  else zt_asg x 2 (w.2.2.1 y.toNatClampNeg ||| w.2.2.1 z.toNatClampNeg) w
theorem zt_p0 {x y z : Int32} {w : zt_WS} : zt_perf 0 x y z w = zt_asg x 1 y w := by simp [zt_perf]
theorem zt_p1 {x y z : Int32} {w : zt_WS} : zt_perf 1 x y z w = zt_asg x 2 (if y = 0 then 0 else 1) w := by simp [zt_perf]
theorem zt_p2 {x y z : Int32} {w : zt_WS} : zt_perf 2 x y z w = zt_asg x 0 0 w := by simp [zt_perf]
theorem zt_p3 {x y z : Int32} {w : zt_WS} : zt_perf 3 x y z w = zt_asg x (w.2.1 y.toNatClampNeg) (w.2.2.1 y.toNatClampNeg) w := by simp [zt_perf]
theorem zt_p10 {x y z : Int32} {w : zt_WS} : zt_perf 10 x y z w = zt_prn x w := by simp [zt_perf]
theorem zt_p5 {x y z : Int32} {w : zt_WS} : zt_perf 5 x y z w = zt_asg x 1 (w.2.2.1 y.toNatClampNeg - w.2.2.1 z.toNatClampNeg) w := by simp [zt_perf]
theorem zt_p6 {x y z : Int32} {w : zt_WS} : zt_perf 6 x y z w = zt_asg x 2 (if w.2.2.1 z.toNatClampNeg ≤ w.2.2.1 y.toNatClampNeg then 0 else 1) w := by simp [zt_perf]
theorem zt_p7 {x y z : Int32} {w : zt_WS} : zt_perf 7 x y z w = zt_asg x 2 (if w.2.1 y.toNatClampNeg = w.2.1 z.toNatClampNeg then (if w.2.2.1 y.toNatClampNeg = w.2.2.1 z.toNatClampNeg then 1 else 0) else 0) w := by simp [zt_perf]
theorem zt_p4 {x y z : Int32} {w : zt_WS} : zt_perf 4 x y z w = if w.2.1 y.toNatClampNeg = 1 then zt_asg x 1 (w.2.2.1 y.toNatClampNeg + w.2.2.1 z.toNatClampNeg) w else zt_asg x 2 (w.2.2.1 y.toNatClampNeg ||| w.2.2.1 z.toNatClampNeg) w := by simp [zt_perf]
def zt_cnt (x : Int32) (w : zt_WS) : Int32 := if w.2.1 x.toNatClampNeg = 1 then 1 else if w.2.1 x.toNatClampNeg = 2 then (if w.2.2.1 x.toNatClampNeg = 0 then 0 else 1) else 0
def zt_flt (o y z : Int32) (w : zt_WS) : Int32 :=
  if o = 4 ∨ o = 5 ∨ o = 6 then
    (if w.2.1 y.toNatClampNeg = 1 ∧ w.2.1 z.toNatClampNeg = 1 then 0 else if o = 4 ∧ w.2.1 y.toNatClampNeg = 2 ∧ w.2.1 z.toNatClampNeg = 2 then 0 else 1)
  else 0
def zt_npc (o x y p : Int32) (w : zt_WS) : Int32 := if o = 9 then x else if o = 8 then (if zt_cnt x w = 0 then y else p + 1) else p + 1
def zt_nw (o x y z : Int32) (w : zt_WS) : zt_WS := if o = 9 then w else if o = 8 then w else zt_perf o x y z w
def zt_exec (op ax ay az : Nat → Int32) (m : zt_MS) : zt_MS :=
  (zt_npc (op m.1.toNatClampNeg) (ax m.1.toNatClampNeg) (ay m.1.toNatClampNeg) m.1 m.2.2.2, m.2.1, m.2.2.1 + 1, zt_nw (op m.1.toNatClampNeg) (ax m.1.toNatClampNeg) (ay m.1.toNatClampNeg) (az m.1.toNatClampNeg) m.2.2.2)
def zt_step (n : Int32) (op ax ay az : Nat → Int32) (m : zt_MS) : zt_MS :=
  if m.2.1 = 0 then
    (if m.1 < n then (if zt_flt (op m.1.toNatClampNeg) (ay m.1.toNatClampNeg) (az m.1.toNatClampNeg) m.2.2.2 = 0 then zt_exec op ax ay az m else (m.1, 2, m.2.2)) else (m.1, 1, m.2.2))
  else m
def zt_it (n : Int32) (op ax ay az : Nat → Int32) : Nat → zt_MS → zt_MS
  | 0, m => m
  | k + 1, m => zt_step n op ax ay az (zt_it n op ax ay az k m)
section ZT1
variable {n : Int32} {op ax ay az : Nat → Int32}
theorem zt_it_s (k : Nat) (m : zt_MS) : zt_it n op ax ay az (k + 1) m = zt_it n op ax ay az k (zt_step n op ax ay az m) := by
  induction k with
  | zero => rfl
  | succ k ih =>
    show zt_step n op ax ay az (zt_it n op ax ay az (k + 1) m) = zt_step n op ax ay az (zt_it n op ax ay az k (zt_step n op ax ay az m))
    rw [ih]
theorem zt_it_add (a b : Nat) (m : zt_MS) : zt_it n op ax ay az (a + b) m = zt_it n op ax ay az b (zt_it n op ax ay az a m) := by
  induction b with
  | zero => rfl
  | succ b ih =>
    show zt_step n op ax ay az (zt_it n op ax ay az (a + b) m) = zt_step n op ax ay az (zt_it n op ax ay az b (zt_it n op ax ay az a m))
    rw [ih]
theorem zt_it_h (k : Nat) (m : zt_MS) (h : ¬ m.2.1 = 0) : zt_it n op ax ay az k m = m := by
  induction k with
  | zero => rfl
  | succ k ih =>
    show zt_step n op ax ay az (zt_it n op ax ay az k m) = m
    rw [ih]
    exact if_neg h
end ZT1

/-! validity -/
/-- an instruction's fields -/
def zt_OI (o x y z : Int32) : Prop :=
  (o = 9 ∧ vp_in x 24) ∨ (vp_in x 6 ∧ ((o = 8 ∧ vp_in y 24) ∨ (o = 0 ∨ o = 1 ∨ o = 2 ∨ o = 10) ∨ (vp_in y 6 ∧ (o = 3 ∨ (vp_in z 6 ∧ (o = 4 ∨ o = 5 ∨ o = 6 ∨ o = 7))))))
def zt_PV (op ax ay az : Nat → Int32) : Prop := ∀ i, zt_OI (op i) (ax i) (ay i) (az i)
def zt_AZ (op az bz : Nat → Int32) : Prop := ∀ i, (op i = 4 ∨ op i = 5 ∨ op i = 6 ∨ op i = 7) → bz i = az i
def zt_ok (s v : Int32) : Prop := (s = 0 ∧ v = 0) ∨ s = 1 ∨ (s = 2 ∧ (v = 0 ∨ v = 1))
def zt_WV (w : zt_WS) : Prop := ∀ v, v < 6 → zt_ok (w.2.1 v) (w.2.2.1 v)
def zt_MV (B : Nat) (m : zt_MS) : Prop := vp_in m.1 25 ∧ zt_WV m.2.2.2 ∧ ∃ q, q ≤ B ∧ m.2.2.2.1 = nI q
theorem zt_wv_asg {x s v : Int32} {w : zt_WS} (h : zt_WV w) (hs : zt_ok s v) : zt_WV (zt_asg x s v w) := by
  intro i hi
  show zt_ok (upd w.2.1 x.toNatClampNeg s i) (upd w.2.2.1 x.toNatClampNeg v i)
  by_cases e : i = x.toNatClampNeg
  · subst e
    rw [zt_us, zt_us]
    exact hs
  · rw [zt_un e, zt_un e]
    exact h i hi
theorem zt_ok01 {c : Prop} [Decidable c] : zt_ok 2 (if c then 0 else 1) := by
  by_cases h : c
  · rw [if_pos h]; exact Or.inr (Or.inr ⟨rfl, Or.inl rfl⟩)
  · rw [if_neg h]; exact Or.inr (Or.inr ⟨rfl, Or.inr rfl⟩)
theorem zt_ok10 {c : Prop} [Decidable c] : zt_ok 2 (if c then 1 else 0) := by
  by_cases h : c
  · rw [if_pos h]; exact Or.inr (Or.inr ⟨rfl, Or.inr rfl⟩)
  · rw [if_neg h]; exact Or.inr (Or.inr ⟨rfl, Or.inl rfl⟩)
theorem zt_ok7 {c d : Prop} [Decidable c] [Decidable d] : zt_ok 2 (if c then (if d then 1 else 0) else 0) := by
  by_cases h : c
  · rw [if_pos h]; exact zt_ok10
  · rw [if_neg h]; exact Or.inr (Or.inr ⟨rfl, Or.inl rfl⟩)
theorem zt_or01 {a b : Int32} (ha : a = 0 ∨ a = 1) (hb : b = 0 ∨ b = 1) : (a ||| b = 0 ∨ a ||| b = 1) ∧ ((a + b ≤ 0 ∧ a ||| b = 0) ∨ (¬ a + b ≤ 0 ∧ a ||| b = 1)) := by
  rcases ha with rfl | rfl <;> rcases hb with rfl | rfl <;> decide
/-- what an ADD that doesn't fault meets -/
theorem zt_flt4 {y z : Int32} {w : zt_WS} (h : zt_flt 4 y z w = 0) : (w.2.1 y.toNatClampNeg = 1 ∧ w.2.1 z.toNatClampNeg = 1) ∨ (w.2.1 y.toNatClampNeg = 2 ∧ w.2.1 z.toNatClampNeg = 2) := by
  by_cases h1 : w.2.1 y.toNatClampNeg = 1 ∧ w.2.1 z.toNatClampNeg = 1
  · exact Or.inl h1
  · by_cases h2 : w.2.1 y.toNatClampNeg = 2 ∧ w.2.1 z.toNatClampNeg = 2
    · exact Or.inr h2
    · simp [zt_flt, h1, h2] at h
theorem zt_ok2 {w : zt_WS} {y : Int32} (h : zt_WV w) (hy : vp_in y 6) (h2 : w.2.1 y.toNatClampNeg = 2) : w.2.2.1 y.toNatClampNeg = 0 ∨ w.2.2.1 y.toNatClampNeg = 1 := by
  rcases h _ (zt_cl hy) with ⟨a, _⟩ | a | ⟨_, a⟩
  · rw [h2] at a; exact absurd a (by decide)
  · rw [h2] at a; exact absurd a (by decide)
  · exact a
theorem zt_wv_prn {x : Int32} {w : zt_WS} (h : zt_WV w) : zt_WV (zt_prn x w) := h
theorem zt_wv_nw {o x y z : Int32} {w : zt_WS} (h : zt_WV w) (hO : zt_OI o x y z) (hf : zt_flt o y z w = 0) : zt_WV (zt_nw o x y z w) := by
  rcases hO with ⟨rfl, _⟩ | ⟨hx, ⟨rfl, _⟩ | (rfl | rfl | rfl | rfl) | ⟨hy, rfl | ⟨hz, rfl | rfl | rfl | rfl⟩⟩⟩
  · exact h
  · exact h
  · show zt_WV (zt_perf 0 x y z w)
    rw [zt_p0]; exact zt_wv_asg h (Or.inr (Or.inl rfl))
  · show zt_WV (zt_perf 1 x y z w)
    rw [zt_p1]; exact zt_wv_asg h zt_ok01
  · show zt_WV (zt_perf 2 x y z w)
    rw [zt_p2]; exact zt_wv_asg h (Or.inl ⟨rfl, rfl⟩)
  · show zt_WV (zt_perf 10 x y z w)
    rw [zt_p10]; exact zt_wv_prn h
  · show zt_WV (zt_perf 3 x y z w)
    rw [zt_p3]; exact zt_wv_asg h (h _ (zt_cl hy))
  · show zt_WV (zt_perf 4 x y z w)
    rw [zt_p4]
    rcases zt_flt4 hf with ⟨a, b⟩ | ⟨a, b⟩
    · rw [if_pos a]; exact zt_wv_asg h (Or.inr (Or.inl rfl))
    · rw [if_neg (zt_ne a (by decide))]
      exact zt_wv_asg h (Or.inr (Or.inr ⟨rfl, (zt_or01 (zt_ok2 h hy a) (zt_ok2 h hz b)).1⟩))
  · show zt_WV (zt_perf 5 x y z w)
    rw [zt_p5]; exact zt_wv_asg h (Or.inr (Or.inl rfl))
  · show zt_WV (zt_perf 6 x y z w)
    rw [zt_p6]; exact zt_wv_asg h zt_ok01
  · show zt_WV (zt_perf 7 x y z w)
    rw [zt_p7]; exact zt_wv_asg h zt_ok7
theorem zt_ite1 {c : Prop} [Decidable c] {a b : zt_WS} {x : Int32} (ha : a.1 = x ∨ a.1 = x + 1) (hb : b.1 = x ∨ b.1 = x + 1) : (if c then a else b).1 = x ∨ (if c then a else b).1 = x + 1 := by
  by_cases h : c
  · rw [if_pos h]; exact ha
  · rw [if_neg h]; exact hb
theorem zt_pr_nw {o x y z : Int32} {w : zt_WS} : (zt_nw o x y z w).1 = w.1 ∨ (zt_nw o x y z w).1 = w.1 + 1 := by
  unfold zt_nw zt_perf
  exact zt_ite1 (Or.inl rfl) (zt_ite1 (Or.inl rfl) (zt_ite1 (Or.inl rfl) (zt_ite1 (Or.inl rfl) (zt_ite1 (Or.inl rfl) (zt_ite1 (Or.inl rfl) (zt_ite1 (Or.inr rfl) (zt_ite1 (Or.inl rfl) (zt_ite1 (Or.inl rfl) (zt_ite1 (Or.inl rfl) (zt_ite1 (Or.inl rfl) (Or.inl rfl)))))))))))
theorem zt_in_npc {o x y z p : Int32} {w : zt_WS} (hO : zt_OI o x y z) (hp : vp_in p 24) : vp_in (zt_npc o x y p w) 25 := by
  have h1 : vp_in (p + 1) 25 := by
    obtain ⟨j, hj, rfl⟩ := vp_in_of hp (by omega)
    rw [nI_1]
    exact vp_in_nI (by omega) (by omega)
  unfold zt_npc
  rcases hO with ⟨rfl, h⟩ | ⟨hx, ⟨rfl, h⟩ | ho | ⟨hy, ho⟩⟩
  · rw [if_pos rfl]; exact zt_in_mono h (by omega)
  · rw [if_neg (by decide), if_pos rfl]
    by_cases c : zt_cnt x w = 0
    · rw [if_pos c]; exact zt_in_mono h (by omega)
    · rw [if_neg c]; exact h1
  · have h9 : ¬ o = 9 := by rcases ho with rfl | rfl | rfl | rfl <;> decide
    have h8 : ¬ o = 8 := by rcases ho with rfl | rfl | rfl | rfl <;> decide
    rw [if_neg h9, if_neg h8]; exact h1
  · have h9 : ¬ o = 9 := by rcases ho with rfl | ⟨_, rfl | rfl | rfl | rfl⟩ <;> decide
    have h8 : ¬ o = 8 := by rcases ho with rfl | ⟨_, rfl | rfl | rfl | rfl⟩ <;> decide
    rw [if_neg h9, if_neg h8]; exact h1
theorem zt_lt24 {p n : Int32} {l : Nat} (hp : vp_in p 25) (hl : l ≤ 24) (hn : n = nI l) (h : p < n) : vp_in p 24 := by
  obtain ⟨j, hj, rfl⟩ := vp_in_of hp (by omega)
  rw [hn, nI_ltI (by omega) (by omega)] at h
  exact vp_in_nI (by omega) (by omega)
section ZT2
variable {n : Int32} {op ax ay az : Nat → Int32}
theorem zt_mv_step {l B : Nat} {m : zt_MS} (hl : l ≤ 24) (hn : n = nI l) (hP : zt_PV op ax ay az) (h : zt_MV B m) : zt_MV (B + 1) (zt_step n op ax ay az m) := by
  obtain ⟨hp, hw, q, hq, eq⟩ := h
  have h0 : ∀ s : Int32, zt_MV (B + 1) (m.1, s, m.2.2) := fun s => ⟨hp, hw, q, by omega, eq⟩
  unfold zt_step
  by_cases c1 : m.2.1 = 0
  · rw [if_pos c1]
    by_cases c2 : m.1 < n
    · rw [if_pos c2]
      by_cases c3 : zt_flt (op m.1.toNatClampNeg) (ay m.1.toNatClampNeg) (az m.1.toNatClampNeg) m.2.2.2 = 0
      · rw [if_pos c3]
        refine ⟨zt_in_npc (hP _) (zt_lt24 hp hl hn c2), zt_wv_nw hw (hP _) c3, ?_⟩
        show ∃ q, q ≤ B + 1 ∧ (zt_nw (op m.1.toNatClampNeg) (ax m.1.toNatClampNeg) (ay m.1.toNatClampNeg) (az m.1.toNatClampNeg) m.2.2.2).1 = nI q
        rcases zt_pr_nw (o := op m.1.toNatClampNeg) (x := ax m.1.toNatClampNeg) (y := ay m.1.toNatClampNeg) (z := az m.1.toNatClampNeg) (w := m.2.2.2) with e | e
        · exact ⟨q, by omega, e.trans eq⟩
        · exact ⟨q + 1, by omega, by rw [e, eq, nI_1]⟩
      · rw [if_neg c3]; exact h0 2
    · rw [if_neg c2]; exact h0 1
  · rw [if_neg c1]; exact ⟨hp, hw, q, by omega, eq⟩
theorem zt_mv_it {l B : Nat} {m : zt_MS} (hl : l ≤ 24) (hn : n = nI l) (hP : zt_PV op ax ay az) (h : zt_MV B m) (k : Nat) : zt_MV (B + k) (zt_it n op ax ay az k m) := by
  induction k with
  | zero => exact h
  | succ k ih => exact zt_mv_step hl hn hP ih
end ZT2
end
section
/-! 02: the reference's step and run against the pure machine -/
theorem zt_npo {o x y p : Int32} {w : zt_WS} (h9 : ¬ o = 9) (h8 : ¬ o = 8) : zt_npc o x y p w = p + 1 := by
  unfold zt_npc; rw [if_neg h9, if_neg h8]
theorem zt_np9 {x y p : Int32} {w : zt_WS} : zt_npc 9 x y p w = x := if_pos rfl
theorem zt_np8t {x y p : Int32} {w : zt_WS} (h : zt_cnt x w = 0) : zt_npc 8 x y p w = y := by
  unfold zt_npc; rw [if_neg (by decide), if_pos rfl, if_pos h]
theorem zt_np8f {x y p : Int32} {w : zt_WS} (h : ¬ zt_cnt x w = 0) : zt_npc 8 x y p w = p + 1 := by
  unfold zt_npc; rw [if_neg (by decide), if_pos rfl, if_neg h]
theorem zt_nwo {o x y z : Int32} {w : zt_WS} (h9 : ¬ o = 9) (h8 : ¬ o = 8) : zt_nw o x y z w = zt_perf o x y z w := by
  unfold zt_nw; rw [if_neg h9, if_neg h8]
theorem zt_nw9 {x y z : Int32} {w : zt_WS} : zt_nw 9 x y z w = w := if_pos rfl
theorem zt_nw8 {x y z : Int32} {w : zt_WS} : zt_nw 8 x y z w = w := by
  unfold zt_nw; rw [if_neg (by decide), if_pos rfl]
theorem zt_cn1 {x : Int32} {w : zt_WS} (h : w.2.1 x.toNatClampNeg = 1) : zt_cnt x w = 1 := if_pos h
theorem zt_cn0 {x : Int32} {w : zt_WS} (h : w.2.1 x.toNatClampNeg = 0) : zt_cnt x w = 0 := by
  unfold zt_cnt; rw [if_neg (zt_ne h (by decide)), if_neg (zt_ne h (by decide))]
theorem zt_cn20 {x : Int32} {w : zt_WS} (h : w.2.1 x.toNatClampNeg = 2) (h0 : w.2.2.1 x.toNatClampNeg = 0) : zt_cnt x w = 0 := by
  unfold zt_cnt; rw [if_neg (zt_ne h (by decide)), if_pos h, if_pos h0]
theorem zt_cn21 {x : Int32} {w : zt_WS} (h : w.2.1 x.toNatClampNeg = 2) (h0 : ¬ w.2.2.1 x.toNatClampNeg = 0) : zt_cnt x w = 1 := by
  unfold zt_cnt; rw [if_neg (zt_ne h (by decide)), if_pos h, if_neg h0]
theorem zt_cnY0 {x : Int32} {w : zt_WS} (hw : zt_WV w) (hx : vp_in x 6) (h : ¬ w.2.1 x.toNatClampNeg = 1) (h0 : w.2.2.1 x.toNatClampNeg = 0) : zt_cnt x w = 0 := by
  rcases hw _ (zt_cl hx) with ⟨a, _⟩ | a | ⟨a, _⟩
  · exact zt_cn0 a
  · exact absurd a h
  · exact zt_cn20 a h0
theorem zt_cnY1 {x : Int32} {w : zt_WS} (hw : zt_WV w) (hx : vp_in x 6) (h : ¬ w.2.1 x.toNatClampNeg = 1) (h0 : ¬ w.2.2.1 x.toNatClampNeg = 0) : ¬ zt_cnt x w = 0 := by
  rcases hw _ (zt_cl hx) with ⟨a, b⟩ | a | ⟨a, _⟩
  · exact absurd b h0
  · exact absurd a h
  · rw [zt_cn21 a h0]; decide
theorem zt_fl0 {o y z : Int32} {w : zt_WS} (h : ¬ (o = 4 ∨ o = 5 ∨ o = 6)) : zt_flt o y z w = 0 := if_neg h
theorem zt_fl1 {o y z : Int32} {w : zt_WS} (h : o = 4 ∨ o = 5 ∨ o = 6) (h1 : w.2.1 y.toNatClampNeg = 1) (h2 : w.2.1 z.toNatClampNeg = 1) : zt_flt o y z w = 0 := by
  unfold zt_flt; rw [if_pos h, if_pos ⟨h1, h2⟩]
theorem zt_fl2 {y z : Int32} {w : zt_WS} (h1 : w.2.1 y.toNatClampNeg = 2) (h2 : w.2.1 z.toNatClampNeg = 2) : zt_flt 4 y z w = 0 := by
  unfold zt_flt
  rw [if_pos (Or.inl rfl), if_neg (fun h => absurd h.1 (zt_ne h1 (by decide))), if_pos ⟨rfl, h1, h2⟩]
theorem zt_fl4 {y z : Int32} {w : zt_WS} (h1 : ¬ (w.2.1 y.toNatClampNeg = 1 ∧ w.2.1 z.toNatClampNeg = 1)) (h2 : ¬ (w.2.1 y.toNatClampNeg = 2 ∧ w.2.1 z.toNatClampNeg = 2)) : zt_flt 4 y z w = 1 := by
  unfold zt_flt
  rw [if_pos (Or.inl rfl), if_neg h1, if_neg (fun h => h2 h.2)]
theorem zt_fl5 {o y z : Int32} {w : zt_WS} (h : o = 5 ∨ o = 6) (h1 : ¬ (w.2.1 y.toNatClampNeg = 1 ∧ w.2.1 z.toNatClampNeg = 1)) : zt_flt o y z w = 1 := by
  unfold zt_flt
  rw [if_pos (Or.inr h), if_neg h1, if_neg]
  rintro ⟨rfl, _⟩
  rcases h with h | h <;> exact absurd h (by decide)
section ZY
variable {f_hotAt f_length f_place f_status f_executed f_printedCount f_recording f_header f_recorded f_traceCount f_codeEnd : Int32}
variable {a_opcode a_fieldX a_fieldY a_fieldZ a_sorts a_values a_jumps a_traceAt a_recordPlace a_recordLeft a_recordRight a_recordTaken a_traceStart a_traceEnd a_traceSteps a_operation a_origin a_target a_left a_right a_known a_az : Nat → Int32}
variable {a_printedValues : Nat → Int64}
theorem zt_ygive {post : SY → Prop} {x s v : Int32} (hx : vp_in x 6) (h : post (f_length, f_printedCount, f_place, f_executed, f_status, a_opcode, a_fieldX, a_fieldY, a_az, (upd a_sorts x.toNatClampNeg s), (upd a_values x.toNatClampNeg v), a_printedValues)) : wpY_give post (f_length, f_printedCount, f_place, f_executed, f_status, a_opcode, a_fieldX, a_fieldY, a_az, a_sorts, a_values, a_printedValues) x s v :=
  And.intro hx (nm_e (And.intro hx (nm_e h)))
theorem zt_yty0 {post : Int32 → Prop} {o : Int32} (ho : o < 4 ∨ 7 < o) (h : post 0) : wpY_typed post (f_length, f_printedCount, f_place, f_executed, f_status, a_opcode, a_fieldX, a_fieldY, a_az, a_sorts, a_values, a_printedValues) o := by
  unfold wpY_typed
  dsimp only
  by_cases c : o < 4
  · exact br_t c h
  · exact br_f c (br_t (ho.resolve_left c) h)
theorem zt_yty1 {post : Int32 → Prop} {o : Int32} (h1 : ¬ o < 4) (h2 : ¬ 7 < o) (h : post 1) : wpY_typed post (f_length, f_printedCount, f_place, f_executed, f_status, a_opcode, a_fieldX, a_fieldY, a_az, a_sorts, a_values, a_printedValues) o := by
  unfold wpY_typed
  dsimp only
  exact br_f h1 (br_f h2 h)
theorem zt_yfaults {post : Int32 → Prop} (hp : vp_in f_place 24) (hO : zt_OI (a_opcode f_place.toNatClampNeg) (a_fieldX f_place.toNatClampNeg) (a_fieldY f_place.toNatClampNeg) (a_fieldZ f_place.toNatClampNeg)) (hZ : zt_AZ a_opcode a_fieldZ a_az) (h : post (zt_flt (a_opcode f_place.toNatClampNeg) (a_fieldY f_place.toNatClampNeg) (a_fieldZ f_place.toNatClampNeg) (f_printedCount, a_sorts, a_values, a_printedValues))) : wpY_faults post (f_length, f_printedCount, f_place, f_executed, f_status, a_opcode, a_fieldX, a_fieldY, a_az, a_sorts, a_values, a_printedValues) f_place := by
  unfold wpY_faults wY_faults_57
  dsimp only
  refine ⟨hp, ?_⟩
  rcases hO with ⟨ho, _⟩ | ⟨_, ⟨ho, _⟩ | (ho | ho | ho | ho) | ⟨hy, ho | ⟨hz, ho | ho | ho | ho⟩⟩⟩
  · rw [zt_fl0 (by rw [ho]; decide)] at h
    exact br_f (by rw [ho]; decide) ⟨hp, br_f (by rw [ho]; decide) h⟩
  · rw [zt_fl0 (by rw [ho]; decide)] at h
    exact br_f (by rw [ho]; decide) ⟨hp, br_f (by rw [ho]; decide) h⟩
  · rw [zt_fl0 (by rw [ho]; decide)] at h
    exact br_t (by rw [ho]; decide) h
  · rw [zt_fl0 (by rw [ho]; decide)] at h
    exact br_t (by rw [ho]; decide) h
  · rw [zt_fl0 (by rw [ho]; decide)] at h
    exact br_t (by rw [ho]; decide) h
  · rw [zt_fl0 (by rw [ho]; decide)] at h
    exact br_f (by rw [ho]; decide) ⟨hp, br_f (by rw [ho]; decide) h⟩
  · rw [zt_fl0 (by rw [ho]; decide)] at h
    exact br_t (by rw [ho]; decide) h
  · have ez := hZ _ (Or.inl ho)
    rw [ho] at h
    refine br_f (by rw [ho]; decide) ⟨hp, br_t (by rw [ho]; decide) ⟨hp, hy, nm_e ⟨hp, by rw [ez]; exact hz, nm_r (congrArg (fun j : Int32 => a_sorts j.toNatClampNeg) ez) ?_⟩⟩⟩
    by_cases c1 : a_sorts (a_fieldY f_place.toNatClampNeg).toNatClampNeg = 1
    · refine br_t c1 ?_
      by_cases c2 : a_sorts (a_fieldZ f_place.toNatClampNeg).toNatClampNeg = 1
      · rw [zt_fl1 (Or.inl rfl) c1 c2] at h
        exact br_t c2 h
      · rw [zt_fl4 (fun z => c2 z.2) (fun z => absurd z.1 (zt_ne c1 (by decide)))] at h
        exact br_f c2 ⟨hp, br_t ho (br_f (zt_ne c1 (by decide)) h)⟩
    · refine br_f c1 ⟨hp, br_t ho ?_⟩
      by_cases c2 : a_sorts (a_fieldY f_place.toNatClampNeg).toNatClampNeg = 2
      · refine br_t c2 ?_
        by_cases c3 : a_sorts (a_fieldZ f_place.toNatClampNeg).toNatClampNeg = 2
        · rw [zt_fl2 c2 c3] at h
          exact br_t c3 h
        · rw [zt_fl4 (fun z => c1 z.1) (fun z => c3 z.2)] at h
          exact br_f c3 h
      · rw [zt_fl4 (fun z => c1 z.1) (fun z => c2 z.1)] at h
        exact br_f c2 h
  · have ez := hZ _ (Or.inr (Or.inl ho))
    rw [ho] at h
    refine br_f (by rw [ho]; decide) ⟨hp, br_t (by rw [ho]; decide) ⟨hp, hy, nm_e ⟨hp, by rw [ez]; exact hz, nm_r (congrArg (fun j : Int32 => a_sorts j.toNatClampNeg) ez) ?_⟩⟩⟩
    by_cases c1 : a_sorts (a_fieldY f_place.toNatClampNeg).toNatClampNeg = 1
    · refine br_t c1 ?_
      by_cases c2 : a_sorts (a_fieldZ f_place.toNatClampNeg).toNatClampNeg = 1
      · rw [zt_fl1 (Or.inr (Or.inl rfl)) c1 c2] at h
        exact br_t c2 h
      · rw [zt_fl5 (Or.inl rfl) (fun z => c2 z.2)] at h
        exact br_f c2 ⟨hp, br_f (by rw [ho]; decide) h⟩
    · rw [zt_fl5 (Or.inl rfl) (fun z => c1 z.1)] at h
      exact br_f c1 ⟨hp, br_f (by rw [ho]; decide) h⟩
  · have ez := hZ _ (Or.inr (Or.inr (Or.inl ho)))
    rw [ho] at h
    refine br_f (by rw [ho]; decide) ⟨hp, br_t (by rw [ho]; decide) ⟨hp, hy, nm_e ⟨hp, by rw [ez]; exact hz, nm_r (congrArg (fun j : Int32 => a_sorts j.toNatClampNeg) ez) ?_⟩⟩⟩
    by_cases c1 : a_sorts (a_fieldY f_place.toNatClampNeg).toNatClampNeg = 1
    · refine br_t c1 ?_
      by_cases c2 : a_sorts (a_fieldZ f_place.toNatClampNeg).toNatClampNeg = 1
      · rw [zt_fl1 (Or.inr (Or.inr rfl)) c1 c2] at h
        exact br_t c2 h
      · rw [zt_fl5 (Or.inr rfl) (fun z => c2 z.2)] at h
        exact br_f c2 ⟨hp, br_f (by rw [ho]; decide) h⟩
    · rw [zt_fl5 (Or.inr rfl) (fun z => c1 z.1)] at h
      exact br_f c1 ⟨hp, br_f (by rw [ho]; decide) h⟩
  · rw [zt_fl0 (by rw [ho]; decide)] at h
    exact br_f (by rw [ho]; decide) ⟨hp, br_f (by rw [ho]; decide) h⟩
/-- the typed four: ADD, SUB, LESS, SAME -/
theorem zt_ycalc {post : SY → Prop} {p : Int32} (hp : vp_in p 24) (hw : zt_WV (f_printedCount, a_sorts, a_values, a_printedValues)) (hx : vp_in (a_fieldX p.toNatClampNeg) 6) (hy : vp_in (a_fieldY p.toNatClampNeg) 6) (hz : vp_in (a_fieldZ p.toNatClampNeg) 6) (ez : a_az p.toNatClampNeg = a_fieldZ p.toNatClampNeg)
    (ho : a_opcode p.toNatClampNeg = 4 ∨ a_opcode p.toNatClampNeg = 5 ∨ a_opcode p.toNatClampNeg = 6 ∨ a_opcode p.toNatClampNeg = 7)
    (hf : zt_flt (a_opcode p.toNatClampNeg) (a_fieldY p.toNatClampNeg) (a_fieldZ p.toNatClampNeg) (f_printedCount, a_sorts, a_values, a_printedValues) = 0)
    (h : post (f_length, (zt_perf (a_opcode p.toNatClampNeg) (a_fieldX p.toNatClampNeg) (a_fieldY p.toNatClampNeg) (a_fieldZ p.toNatClampNeg) (f_printedCount, a_sorts, a_values, a_printedValues)).1, f_place, f_executed, f_status, a_opcode, a_fieldX, a_fieldY, a_az, (zt_perf (a_opcode p.toNatClampNeg) (a_fieldX p.toNatClampNeg) (a_fieldY p.toNatClampNeg) (a_fieldZ p.toNatClampNeg) (f_printedCount, a_sorts, a_values, a_printedValues)).2.1, (zt_perf (a_opcode p.toNatClampNeg) (a_fieldX p.toNatClampNeg) (a_fieldY p.toNatClampNeg) (a_fieldZ p.toNatClampNeg) (f_printedCount, a_sorts, a_values, a_printedValues)).2.2.1, (zt_perf (a_opcode p.toNatClampNeg) (a_fieldX p.toNatClampNeg) (a_fieldY p.toNatClampNeg) (a_fieldZ p.toNatClampNeg) (f_printedCount, a_sorts, a_values, a_printedValues)).2.2.2)) : wpY_calculate post (f_length, f_printedCount, f_place, f_executed, f_status, a_opcode, a_fieldX, a_fieldY, a_az, a_sorts, a_values, a_printedValues) p := by
  unfold wpY_calculate wY_calculate_75 wY_calculate_81 wY_calculate_155 wY_calculate_191 wY_calculate_192
  dsimp only
  refine ⟨hp, nm_e ⟨hp, nm_e ⟨hp, nm_r ez ⟨hy, nm_e ⟨hz, nm_e ⟨hp, ?_⟩⟩⟩⟩⟩⟩
  rcases ho with ho | ho | ho | ho
  · rw [ho] at h hf
    refine br_t ho ⟨hy, ?_⟩
    rw [zt_p4] at h
    rcases zt_flt4 hf with ⟨a, b⟩ | ⟨a, b⟩
    · rw [if_pos a] at h
      exact br_f (zt_ne a (by decide)) ⟨hp, br_t ho (zt_ygive hx h)⟩
    · rw [if_neg (zt_ne a (by decide))] at h
      refine br_t a ?_
      rcases (zt_or01 (zt_ok2 hw hy a) (zt_ok2 hw hz b)).2 with ⟨c, e⟩ | ⟨c, e⟩
      · rw [e] at h
        exact br_t c (zt_ygive hx h)
      · rw [e] at h
        exact br_f c (zt_ygive hx h)
  · rw [ho, zt_p5] at h
    exact br_f (by rw [ho]; decide) ⟨hp, br_f (by rw [ho]; decide) ⟨hp, br_t ho (zt_ygive hx h)⟩⟩
  · rw [ho, zt_p6] at h
    refine br_f (by rw [ho]; decide) ⟨hp, br_f (by rw [ho]; decide) ⟨hp, br_f (by rw [ho]; decide) ⟨hp, br_t ho ?_⟩⟩⟩
    by_cases c : a_values (a_fieldZ p.toNatClampNeg).toNatClampNeg ≤ a_values (a_fieldY p.toNatClampNeg).toNatClampNeg
    · rw [if_pos c] at h
      exact br_t c (zt_ygive hx h)
    · rw [if_neg c] at h
      exact br_f c (zt_ygive hx h)
  · rw [ho, zt_p7] at h
    refine br_f (by rw [ho]; decide) ⟨hp, br_f (by rw [ho]; decide) ⟨hp, br_f (by rw [ho]; decide) ⟨hp, br_f (by rw [ho]; decide) ⟨hy, hz, ?_⟩⟩⟩⟩
    by_cases c : a_sorts (a_fieldY p.toNatClampNeg).toNatClampNeg = a_sorts (a_fieldZ p.toNatClampNeg).toNatClampNeg
    · rw [if_pos c] at h
      refine br_t c ?_
      by_cases d : a_values (a_fieldY p.toNatClampNeg).toNatClampNeg = a_values (a_fieldZ p.toNatClampNeg).toNatClampNeg
      · rw [if_pos d] at h
        exact br_t d (zt_ygive hx h)
      · rw [if_neg d] at h
        exact br_f d (zt_ygive hx h)
    · rw [if_neg c] at h
      exact br_f c (zt_ygive hx h)
/-- the way past LET, FLAG, VOID, MOVE -/
theorem zt_yexec {post : SY → Prop} {q : Nat} (hp : vp_in f_place 24) (hw : zt_WV (f_printedCount, a_sorts, a_values, a_printedValues)) (hq : f_printedCount = nI q) (hq2 : q < 2 ^ 31) (hO : zt_OI (a_opcode f_place.toNatClampNeg) (a_fieldX f_place.toNatClampNeg) (a_fieldY f_place.toNatClampNeg) (a_fieldZ f_place.toNatClampNeg)) (hZ : zt_AZ a_opcode a_fieldZ a_az)
    (hf : zt_flt (a_opcode f_place.toNatClampNeg) (a_fieldY f_place.toNatClampNeg) (a_fieldZ f_place.toNatClampNeg) (f_printedCount, a_sorts, a_values, a_printedValues) = 0)
    (h : post (f_length, (zt_nw (a_opcode f_place.toNatClampNeg) (a_fieldX f_place.toNatClampNeg) (a_fieldY f_place.toNatClampNeg) (a_fieldZ f_place.toNatClampNeg) (f_printedCount, a_sorts, a_values, a_printedValues)).1, (zt_npc (a_opcode f_place.toNatClampNeg) (a_fieldX f_place.toNatClampNeg) (a_fieldY f_place.toNatClampNeg) f_place (f_printedCount, a_sorts, a_values, a_printedValues)), f_executed, f_status, a_opcode, a_fieldX, a_fieldY, a_az, (zt_nw (a_opcode f_place.toNatClampNeg) (a_fieldX f_place.toNatClampNeg) (a_fieldY f_place.toNatClampNeg) (a_fieldZ f_place.toNatClampNeg) (f_printedCount, a_sorts, a_values, a_printedValues)).2.1, (zt_nw (a_opcode f_place.toNatClampNeg) (a_fieldX f_place.toNatClampNeg) (a_fieldY f_place.toNatClampNeg) (a_fieldZ f_place.toNatClampNeg) (f_printedCount, a_sorts, a_values, a_printedValues)).2.2.1, (zt_nw (a_opcode f_place.toNatClampNeg) (a_fieldX f_place.toNatClampNeg) (a_fieldY f_place.toNatClampNeg) (a_fieldZ f_place.toNatClampNeg) (f_printedCount, a_sorts, a_values, a_printedValues)).2.2.2)) : wpY_execute post (f_length, f_printedCount, f_place, f_executed, f_status, a_opcode, a_fieldX, a_fieldY, a_az, a_sorts, a_values, a_printedValues) f_place := by
  unfold wpY_execute wY_execute_180 wY_execute_65
  dsimp only
  refine ⟨hp, nm_e ⟨hp, nm_e (nm_e ⟨hp, ?_⟩)⟩⟩
  rcases hO with ⟨ho, _⟩ | ⟨hx, ⟨ho, _⟩ | (ho | ho | ho | ho) | ⟨hy, ho | ⟨hz, ho⟩⟩⟩
  · rw [ho, zt_np9, zt_nw9] at h
    exact br_f (zt_ne ho (by decide)) ⟨hp, br_f (zt_ne ho (by decide)) ⟨hp, br_f (zt_ne ho (by decide)) ⟨hp, br_f (zt_ne ho (by decide)) ⟨hp, zt_yty0 (by rw [ho]; decide) (br_t rfl ⟨hp, br_f (zt_ne ho (by decide)) ⟨hp, br_t ho h⟩⟩)⟩⟩⟩⟩
  · rw [ho, zt_nw8] at h
    refine br_f (zt_ne ho (by decide)) ⟨hp, br_f (zt_ne ho (by decide)) ⟨hp, br_f (zt_ne ho (by decide)) ⟨hp, br_f (zt_ne ho (by decide)) ⟨hp, zt_yty0 (by rw [ho]; decide) (br_t rfl ⟨hp, br_t ho ⟨hx, ?_⟩⟩)⟩⟩⟩⟩
    by_cases c : a_sorts (a_fieldX f_place.toNatClampNeg).toNatClampNeg = 1
    · rw [zt_np8f (by rw [zt_cn1 c]; decide)] at h
      exact br_t c ⟨hp, br_f (zt_ne ho (by decide)) ⟨hp, br_f (zt_ne ho (by decide)) h⟩⟩
    · refine br_f c ⟨hx, ?_⟩
      by_cases d : a_values (a_fieldX f_place.toNatClampNeg).toNatClampNeg = 0
      · rw [zt_np8t (zt_cnY0 hw hx c d)] at h
        exact br_t d h
      · rw [zt_np8f (zt_cnY1 hw hx c d)] at h
        exact br_f d ⟨hp, br_f (zt_ne ho (by decide)) ⟨hp, br_f (zt_ne ho (by decide)) h⟩⟩
  · rw [ho, zt_npo (by decide) (by decide), zt_nwo (by decide) (by decide), zt_p0] at h
    exact br_t ho (zt_ygive hx h)
  · rw [ho, zt_npo (by decide) (by decide), zt_nwo (by decide) (by decide), zt_p1] at h
    refine br_f (zt_ne ho (by decide)) ⟨hp, br_t ho ?_⟩
    by_cases c : a_fieldY f_place.toNatClampNeg = 0
    · rw [if_pos c] at h
      exact br_t c (zt_ygive hx h)
    · rw [if_neg c] at h
      exact br_f c (zt_ygive hx h)
  · rw [ho, zt_npo (by decide) (by decide), zt_nwo (by decide) (by decide), zt_p2] at h
    exact br_f (zt_ne ho (by decide)) ⟨hp, br_f (zt_ne ho (by decide)) ⟨hp, br_t ho (zt_ygive hx h)⟩⟩
  · rw [ho, zt_npo (by decide) (by decide), zt_nwo (by decide) (by decide), zt_p10] at h
    refine br_f (zt_ne ho (by decide)) ⟨hp, br_f (zt_ne ho (by decide)) ⟨hp, br_f (zt_ne ho (by decide)) ⟨hp, br_f (zt_ne ho (by decide)) ⟨hp, zt_yty0 (by rw [ho]; decide) (br_t rfl ⟨hp, br_f (zt_ne ho (by decide)) ⟨hp, br_f (zt_ne ho (by decide)) ⟨hp, br_t ho ?_⟩⟩⟩)⟩⟩⟩⟩
    unfold zt_prn at h
    dsimp only at h
    by_cases c : 24 ≤ f_printedCount
    · rw [if_pos c] at h
      exact br_t c (nm_e h)
    · rw [if_neg c] at h
      have hq3 : vp_in f_printedCount 24 := by
        rw [hq] at c ⊢
        have c2 : ¬ nI 24 ≤ nI q := c
        rw [nI_leI (by omega) (by omega)] at c2
        exact vp_in_nI (by omega) (by omega)
      exact br_f c ⟨hx, hx, hq3, nm_e (nm_e h)⟩
  · rw [ho, zt_npo (by decide) (by decide), zt_nwo (by decide) (by decide), zt_p3] at h
    exact br_f (zt_ne ho (by decide)) ⟨hp, br_f (zt_ne ho (by decide)) ⟨hp, br_f (zt_ne ho (by decide)) ⟨hp, br_t ho ⟨hy, hy, zt_ygive hx h⟩⟩⟩⟩
  · have hn : ∀ c : Int32, (4 = c ∨ 5 = c ∨ 6 = c ∨ 7 = c → False) → ¬ a_opcode f_place.toNatClampNeg = c := by
      intro c hc e
      rw [e] at ho
      exact hc (by rcases ho with h | h | h | h <;> simp [h])
    have e9 := hn 9 (by decide)
    have e8 := hn 8 (by decide)
    have l4 : ¬ a_opcode f_place.toNatClampNeg < 4 := by rcases ho with e | e | e | e <;> (rw [e]; decide)
    have l7 : ¬ 7 < a_opcode f_place.toNatClampNeg := by rcases ho with e | e | e | e <;> (rw [e]; decide)
    rw [zt_npo e9 e8, zt_nwo e9 e8] at h
    exact br_f (hn 0 (by decide)) ⟨hp, br_f (hn 1 (by decide)) ⟨hp, br_f (hn 2 (by decide)) ⟨hp, br_f (hn 3 (by decide)) ⟨hp, zt_yty1 l4 l7 (br_f (by decide) (zt_ycalc hp hw hx hy hz (hZ _ ho) ho hf h))⟩⟩⟩⟩
theorem zt_ystep {post : SY → Prop} {l B : Nat} (hl : l ≤ 24) (hn : f_length = nI l) (hP : zt_PV a_opcode a_fieldX a_fieldY a_fieldZ) (hZ : zt_AZ a_opcode a_fieldZ a_az) (hM : zt_MV B (f_place, f_status, f_executed, f_printedCount, a_sorts, a_values, a_printedValues)) (hB : B < 2 ^ 31)
    (h : post (f_length, (zt_step f_length a_opcode a_fieldX a_fieldY a_fieldZ (f_place, f_status, f_executed, f_printedCount, a_sorts, a_values, a_printedValues)).2.2.2.1, (zt_step f_length a_opcode a_fieldX a_fieldY a_fieldZ (f_place, f_status, f_executed, f_printedCount, a_sorts, a_values, a_printedValues)).1, (zt_step f_length a_opcode a_fieldX a_fieldY a_fieldZ (f_place, f_status, f_executed, f_printedCount, a_sorts, a_values, a_printedValues)).2.2.1, (zt_step f_length a_opcode a_fieldX a_fieldY a_fieldZ (f_place, f_status, f_executed, f_printedCount, a_sorts, a_values, a_printedValues)).2.1, a_opcode, a_fieldX, a_fieldY, a_az, (zt_step f_length a_opcode a_fieldX a_fieldY a_fieldZ (f_place, f_status, f_executed, f_printedCount, a_sorts, a_values, a_printedValues)).2.2.2.2.1, (zt_step f_length a_opcode a_fieldX a_fieldY a_fieldZ (f_place, f_status, f_executed, f_printedCount, a_sorts, a_values, a_printedValues)).2.2.2.2.2.1, (zt_step f_length a_opcode a_fieldX a_fieldY a_fieldZ (f_place, f_status, f_executed, f_printedCount, a_sorts, a_values, a_printedValues)).2.2.2.2.2.2)) : wpY_step post (f_length, f_printedCount, f_place, f_executed, f_status, a_opcode, a_fieldX, a_fieldY, a_az, a_sorts, a_values, a_printedValues) := by
  unfold wpY_step
  dsimp only
  unfold zt_step at h
  dsimp only at h
  obtain ⟨hp, hw, q, hq, eq⟩ := hM
  by_cases c1 : f_status = 0
  · rw [if_pos c1] at h
    refine br_t c1 ?_
    by_cases c2 : f_place < f_length
    · rw [if_pos c2] at h
      have hp2 : vp_in f_place 24 := zt_lt24 hp hl hn c2
      refine br_t c2 (zt_yfaults hp2 (hP _) hZ ?_)
      by_cases c3 : zt_flt (a_opcode f_place.toNatClampNeg) (a_fieldY f_place.toNatClampNeg) (a_fieldZ f_place.toNatClampNeg) (f_printedCount, a_sorts, a_values, a_printedValues) = 0
      · rw [if_pos c3] at h
        refine br_t c3 (zt_yexec (q := q) hp2 hw eq (by omega) (hP _) hZ c3 ?_)
        exact nm_e h
      · rw [if_neg c3] at h
        exact br_f c3 h
    · rw [if_neg c2] at h
      exact br_f c2 h
  · rw [if_neg c1] at h
    exact br_f c1 h
theorem zt_yrun {post : Int32 → SY → Prop} {l : Nat} (hl : l ≤ 24) (hn : f_length = nI l) (hP : zt_PV a_opcode a_fieldX a_fieldY a_fieldZ) (hZ : zt_AZ a_opcode a_fieldZ a_az) {r : Nat} (hr : r ≤ 300) :
    ∀ (d i B : Nat) (m : zt_MS), i + d = r → zt_MV B m → B + d < 2 ^ 31 → (∀ m', m' = zt_it f_length a_opcode a_fieldX a_fieldY a_fieldZ d m → post m'.2.1 (f_length, m'.2.2.2.1, m'.1, m'.2.2.1, m'.2.1, a_opcode, a_fieldX, a_fieldY, a_az, m'.2.2.2.2.1, m'.2.2.2.2.2.1, m'.2.2.2.2.2.2)) → wY_run_25 post (nI r) (d + 1) (nI i) f_length m.2.2.2.1 m.1 m.2.2.1 m.2.1 a_opcode a_fieldX a_fieldY a_az m.2.2.2.2.1 m.2.2.2.2.2.1 m.2.2.2.2.2.2 := by
  intro d
  induction d with
  | zero =>
    intro i B m hi hM hB h
    exact br_t (nI_le (by omega) (by omega)) (h m rfl)
  | succ d ih =>
    intro i B m hi hM hB h
    refine br_f (nI_ge (by omega) (by omega)) (zt_ystep (B := B) hl hn hP hZ hM (by omega) ?_)
    refine nm_r (nI_1 i) (ih (i + 1) (B + 1) (zt_step f_length a_opcode a_fieldX a_fieldY a_fieldZ m) (by omega) (zt_mv_step hl hn hP hM) (by omega) ?_)
    intro m' e
    exact h m' (by rw [e, zt_it_s])
end ZY
end
section
/-! 03: the component's small methods against the pure machine -/
def zt_gh (o v s : Int32) (w : zt_WS) : Int32 :=
  if o = 12 then (if w.2.1 v.toNatClampNeg = s then 1 else 0) else if o = 14 then (if zt_cnt v w = 1 then 1 else 0) else (if zt_cnt v w = 0 then 1 else 0)
/-- what an operation of a trace does -/
def zt_act (o x y z : Int32) (w : zt_WS) : zt_WS :=
  if o = 11 then zt_asg x 2 (w.2.2.1 y.toNatClampNeg ||| w.2.2.1 z.toNatClampNeg) w else if o = 4 then zt_asg x 1 (w.2.2.1 y.toNatClampNeg + w.2.2.1 z.toNatClampNeg) w else if o = 9 then w else zt_perf o x y z w
/-- an operation that 'perform' is asked with -/
def zt_PI (o x y z : Int32) : Prop :=
  vp_in x 6 ∧ ((o = 0 ∨ o = 1 ∨ o = 2 ∨ o = 10) ∨ (vp_in y 6 ∧ (o = 3 ∨ (vp_in z 6 ∧ (o = 4 ∨ o = 5 ∨ o = 6 ∨ o = 7)))))
def zt_AI (o x y z : Int32) : Prop :=
  o = 9 ∨ (o = 11 ∧ vp_in x 6 ∧ vp_in y 6 ∧ vp_in z 6) ∨ zt_PI o x y z
theorem zt_okb {s v : Int32} (h : zt_ok s v) : vp_nar .byte s.toInt8.toInt32 = s := by
  rcases h with ⟨rfl, _⟩ | rfl | ⟨rfl, _⟩ <;> decide
theorem zt_s1 : vp_nar .byte (1 : Int32).toInt8.toInt32 = 1 := by decide
theorem zt_s2 : vp_nar .byte (2 : Int32).toInt8.toInt32 = 2 := by decide
theorem zt_s0 : vp_nar .byte (0 : Int32).toInt8.toInt32 = 0 := by decide
section ZX
variable {f_hotAt f_length f_place f_status f_executed f_printedCount f_recording f_header f_recorded f_traceCount f_codeEnd : Int32}
variable {a_opcode a_fieldX a_fieldY a_fieldZ a_sorts a_values a_jumps a_traceAt a_recordPlace a_recordLeft a_recordRight a_recordTaken a_traceStart a_traceEnd a_traceSteps a_operation a_origin a_target a_left a_right a_known a_az : Nat → Int32}
variable {a_printedValues : Nat → Int64}
theorem zt_xassign {post : SX → Prop} {x s v : Int32} (hx : vp_in x 6) (hs : vp_nar .byte s.toInt8.toInt32 = s) (h : post (f_hotAt, f_length, f_place, f_status, f_executed, f_printedCount, f_recording, f_header, f_recorded, f_traceCount, f_codeEnd, a_opcode, a_fieldX, a_fieldY, a_fieldZ, (upd a_sorts x.toNatClampNeg s), (upd a_values x.toNatClampNeg v), a_printedValues, a_jumps, a_traceAt, a_recordPlace, a_recordLeft, a_recordRight, a_recordTaken, a_traceStart, a_traceEnd, a_traceSteps, a_operation, a_origin, a_target, a_left, a_right, a_known)) : wpX_assign post (f_hotAt, f_length, f_place, f_status, f_executed, f_printedCount, f_recording, f_header, f_recorded, f_traceCount, f_codeEnd, a_opcode, a_fieldX, a_fieldY, a_fieldZ, a_sorts, a_values, a_printedValues, a_jumps, a_traceAt, a_recordPlace, a_recordLeft, a_recordRight, a_recordTaken, a_traceStart, a_traceEnd, a_traceSteps, a_operation, a_origin, a_target, a_left, a_right, a_known) x s v := by
  unfold wpX_assign
  dsimp only
  rw [hs]
  exact ⟨hx, nm_e ⟨hx, nm_e h⟩⟩
theorem zt_xprint {post : SX → Prop} {x : Int32} {q : Nat} (hx : vp_in x 6) (hq : f_printedCount = nI q) (hq2 : q < 2 ^ 31) (h : post (f_hotAt, f_length, f_place, f_status, f_executed, (zt_prn x (f_printedCount, a_sorts, a_values, a_printedValues)).1, f_recording, f_header, f_recorded, f_traceCount, f_codeEnd, a_opcode, a_fieldX, a_fieldY, a_fieldZ, (zt_prn x (f_printedCount, a_sorts, a_values, a_printedValues)).2.1, (zt_prn x (f_printedCount, a_sorts, a_values, a_printedValues)).2.2.1, (zt_prn x (f_printedCount, a_sorts, a_values, a_printedValues)).2.2.2, a_jumps, a_traceAt, a_recordPlace, a_recordLeft, a_recordRight, a_recordTaken, a_traceStart, a_traceEnd, a_traceSteps, a_operation, a_origin, a_target, a_left, a_right, a_known)) : wpX_print post (f_hotAt, f_length, f_place, f_status, f_executed, f_printedCount, f_recording, f_header, f_recorded, f_traceCount, f_codeEnd, a_opcode, a_fieldX, a_fieldY, a_fieldZ, a_sorts, a_values, a_printedValues, a_jumps, a_traceAt, a_recordPlace, a_recordLeft, a_recordRight, a_recordTaken, a_traceStart, a_traceEnd, a_traceSteps, a_operation, a_origin, a_target, a_left, a_right, a_known) x := by
  unfold wpX_print
  dsimp only
  unfold zt_prn at h
  dsimp only at h
  by_cases c : 24 ≤ f_printedCount
  · rw [if_pos c] at h
    exact br_t c (nm_e h)
  · rw [if_neg c] at h
    have hq3 : vp_in f_printedCount 24 := by
      rw [hq] at c ⊢
      have c2 : ¬ nI 24 ≤ nI q := c
      rw [nI_leI (by omega) (by omega)] at c2
      exact vp_in_nI (by omega) (by omega)
    exact br_f c ⟨hx, hx, hq3, nm_e (nm_e h)⟩
theorem zt_xcounts {post : Int32 → Prop} {x : Int32} (hx : vp_in x 6) (h : post (zt_cnt x (f_printedCount, a_sorts, a_values, a_printedValues))) : wpX_counts post (f_hotAt, f_length, f_place, f_status, f_executed, f_printedCount, f_recording, f_header, f_recorded, f_traceCount, f_codeEnd, a_opcode, a_fieldX, a_fieldY, a_fieldZ, a_sorts, a_values, a_printedValues, a_jumps, a_traceAt, a_recordPlace, a_recordLeft, a_recordRight, a_recordTaken, a_traceStart, a_traceEnd, a_traceSteps, a_operation, a_origin, a_target, a_left, a_right, a_known) x := by
  unfold wpX_counts
  dsimp only
  unfold zt_cnt at h
  dsimp only at h
  refine ⟨hx, ?_⟩
  by_cases c : a_sorts x.toNatClampNeg = 1
  · rw [if_pos c] at h
    exact br_t c h
  · rw [if_neg c] at h
    refine br_f c ⟨hx, ?_⟩
    by_cases d : a_sorts x.toNatClampNeg = 2
    · rw [if_pos d] at h
      refine br_t d ⟨hx, ?_⟩
      by_cases e : a_values x.toNatClampNeg = 0
      · rw [if_pos e] at h
        exact br_t e h
      · rw [if_neg e] at h
        exact br_f e h
    · rw [if_neg d] at h
      exact br_f d h
theorem zt_xgh {post : Int32 → Prop} {o v s : Int32} (hv : vp_in v 6) (h : post (zt_gh o v s (f_printedCount, a_sorts, a_values, a_printedValues))) : wpX_guardHolds post (f_hotAt, f_length, f_place, f_status, f_executed, f_printedCount, f_recording, f_header, f_recorded, f_traceCount, f_codeEnd, a_opcode, a_fieldX, a_fieldY, a_fieldZ, a_sorts, a_values, a_printedValues, a_jumps, a_traceAt, a_recordPlace, a_recordLeft, a_recordRight, a_recordTaken, a_traceStart, a_traceEnd, a_traceSteps, a_operation, a_origin, a_target, a_left, a_right, a_known) o v s := by
  unfold wpX_guardHolds wX_guardHolds_38
  dsimp only
  unfold zt_gh at h
  dsimp only at h
  by_cases c : o = 12
  · rw [if_pos c] at h
    refine br_t c ⟨hv, ?_⟩
    by_cases d : a_sorts v.toNatClampNeg = s
    · rw [if_pos d] at h
      exact br_t d h
    · rw [if_neg d] at h
      exact br_f d h
  · rw [if_neg c] at h
    refine br_f c (zt_xcounts hv ?_)
    by_cases e : o = 14
    · rw [if_pos e] at h
      refine br_t e ?_
      by_cases d : zt_cnt v (f_printedCount, a_sorts, a_values, a_printedValues) = 1
      · rw [if_pos d] at h
        exact br_t d h
      · rw [if_neg d] at h
        exact br_f d h
    · rw [if_neg e] at h
      refine br_f e ?_
      by_cases d : zt_cnt v (f_printedCount, a_sorts, a_values, a_printedValues) = 0
      · rw [if_pos d] at h
        exact br_t d h
      · rw [if_neg d] at h
        exact br_f d h
theorem zt_xfault {post : Int32 → Prop} {p : Int32} (hp : vp_in p 24) (hO : zt_OI (a_opcode p.toNatClampNeg) (a_fieldX p.toNatClampNeg) (a_fieldY p.toNatClampNeg) (a_fieldZ p.toNatClampNeg)) (h : post (zt_flt (a_opcode p.toNatClampNeg) (a_fieldY p.toNatClampNeg) (a_fieldZ p.toNatClampNeg) (f_printedCount, a_sorts, a_values, a_printedValues))) : wpX_mustFault post (f_hotAt, f_length, f_place, f_status, f_executed, f_printedCount, f_recording, f_header, f_recorded, f_traceCount, f_codeEnd, a_opcode, a_fieldX, a_fieldY, a_fieldZ, a_sorts, a_values, a_printedValues, a_jumps, a_traceAt, a_recordPlace, a_recordLeft, a_recordRight, a_recordTaken, a_traceStart, a_traceEnd, a_traceSteps, a_operation, a_origin, a_target, a_left, a_right, a_known) p := by
  unfold wpX_mustFault wX_mustFault_63
  dsimp only
  rcases hO with ⟨ho, _⟩ | ⟨_, ⟨ho, _⟩ | (ho | ho | ho | ho) | ⟨hy, ho | ⟨hz, ho | ho | ho | ho⟩⟩⟩
  all_goals refine ⟨hp, nm_r ho ?_⟩
  all_goals rw [ho] at h
  · rw [zt_fl0 (by decide)] at h
    exact br_f (by decide) (br_f (by decide) h)
  · rw [zt_fl0 (by decide)] at h
    exact br_f (by decide) (br_f (by decide) h)
  · rw [zt_fl0 (by decide)] at h
    exact br_t (by decide) h
  · rw [zt_fl0 (by decide)] at h
    exact br_t (by decide) h
  · rw [zt_fl0 (by decide)] at h
    exact br_t (by decide) h
  · rw [zt_fl0 (by decide)] at h
    exact br_f (by decide) (br_f (by decide) h)
  · rw [zt_fl0 (by decide)] at h
    exact br_t (by decide) h
  · refine br_f (by decide) (br_t (by decide) ⟨hp, hy, nm_e ⟨hp, hz, nm_e (br_t rfl ?_)⟩⟩)
    by_cases c1 : a_sorts (a_fieldY p.toNatClampNeg).toNatClampNeg = 2
    · refine br_t c1 ?_
      by_cases c2 : a_sorts (a_fieldZ p.toNatClampNeg).toNatClampNeg = 2
      · rw [zt_fl2 c1 c2] at h
        exact br_t c2 h
      · rw [zt_fl4 (fun z => absurd z.1 (zt_ne c1 (by decide))) (fun z => c2 z.2)] at h
        exact br_f c2 (br_f (zt_ne c1 (by decide)) h)
    · refine br_f c1 ?_
      by_cases c2 : a_sorts (a_fieldY p.toNatClampNeg).toNatClampNeg = 1
      · refine br_t c2 ?_
        by_cases c3 : a_sorts (a_fieldZ p.toNatClampNeg).toNatClampNeg = 1
        · rw [zt_fl1 (Or.inl rfl) c2 c3] at h
          exact br_t c3 h
        · rw [zt_fl4 (fun z => c3 z.2) (fun z => c1 z.1)] at h
          exact br_f c3 h
      · rw [zt_fl4 (fun z => c2 z.1) (fun z => c1 z.1)] at h
        exact br_f c2 h
  · refine br_f (by decide) (br_t (by decide) ⟨hp, hy, nm_e ⟨hp, hz, nm_e (br_f (by decide) ?_)⟩⟩)
    by_cases c2 : a_sorts (a_fieldY p.toNatClampNeg).toNatClampNeg = 1
    · refine br_t c2 ?_
      by_cases c3 : a_sorts (a_fieldZ p.toNatClampNeg).toNatClampNeg = 1
      · rw [zt_fl1 (Or.inr (Or.inl rfl)) c2 c3] at h
        exact br_t c3 h
      · rw [zt_fl5 (Or.inl rfl) (fun z => c3 z.2)] at h
        exact br_f c3 h
    · rw [zt_fl5 (Or.inl rfl) (fun z => c2 z.1)] at h
      exact br_f c2 h
  · refine br_f (by decide) (br_t (by decide) ⟨hp, hy, nm_e ⟨hp, hz, nm_e (br_f (by decide) ?_)⟩⟩)
    by_cases c2 : a_sorts (a_fieldY p.toNatClampNeg).toNatClampNeg = 1
    · refine br_t c2 ?_
      by_cases c3 : a_sorts (a_fieldZ p.toNatClampNeg).toNatClampNeg = 1
      · rw [zt_fl1 (Or.inr (Or.inr rfl)) c2 c3] at h
        exact br_t c3 h
      · rw [zt_fl5 (Or.inr rfl) (fun z => c3 z.2)] at h
        exact br_f c3 h
    · rw [zt_fl5 (Or.inr rfl) (fun z => c2 z.1)] at h
      exact br_f c2 h
  · rw [zt_fl0 (by decide)] at h
    exact br_f (by decide) (br_f (by decide) h)
theorem zt_xperf {post : SX → Prop} {o x y z : Int32} {q : Nat} (hw : zt_WV (f_printedCount, a_sorts, a_values, a_printedValues)) (hq : f_printedCount = nI q) (hq2 : q < 2 ^ 31) (hO : zt_PI o x y z) (h : post (f_hotAt, f_length, f_place, f_status, f_executed, (zt_perf o x y z (f_printedCount, a_sorts, a_values, a_printedValues)).1, f_recording, f_header, f_recorded, f_traceCount, f_codeEnd, a_opcode, a_fieldX, a_fieldY, a_fieldZ, (zt_perf o x y z (f_printedCount, a_sorts, a_values, a_printedValues)).2.1, (zt_perf o x y z (f_printedCount, a_sorts, a_values, a_printedValues)).2.2.1, (zt_perf o x y z (f_printedCount, a_sorts, a_values, a_printedValues)).2.2.2, a_jumps, a_traceAt, a_recordPlace, a_recordLeft, a_recordRight, a_recordTaken, a_traceStart, a_traceEnd, a_traceSteps, a_operation, a_origin, a_target, a_left, a_right, a_known)) : wpX_perform post (f_hotAt, f_length, f_place, f_status, f_executed, f_printedCount, f_recording, f_header, f_recorded, f_traceCount, f_codeEnd, a_opcode, a_fieldX, a_fieldY, a_fieldZ, a_sorts, a_values, a_printedValues, a_jumps, a_traceAt, a_recordPlace, a_recordLeft, a_recordRight, a_recordTaken, a_traceStart, a_traceEnd, a_traceSteps, a_operation, a_origin, a_target, a_left, a_right, a_known) o x y z := by
  unfold wpX_perform wX_perform_201 wX_perform_200 wX_perform_149 wX_perform_31 wX_perform_201
  dsimp only
  rcases hO with ⟨hx, (rfl | rfl | rfl | rfl) | ⟨hy, rfl | ⟨hz, rfl | rfl | rfl | rfl⟩⟩⟩
  · rw [zt_p0] at h
    exact br_t rfl (zt_xassign hx zt_s1 h)
  · rw [zt_p1] at h
    refine br_f (by decide) (br_t rfl ?_)
    by_cases c : y = 0
    · rw [if_pos c] at h
      exact br_t c (zt_xassign hx zt_s2 h)
    · rw [if_neg c] at h
      exact br_f c (zt_xassign hx zt_s2 h)
  · rw [zt_p2] at h
    exact br_f (by decide) (br_f (by decide) (br_t rfl (zt_xassign hx zt_s0 h)))
  · rw [zt_p10] at h
    exact br_f (by decide) (br_f (by decide) (br_f (by decide) (br_f (by decide) (br_t rfl (zt_xprint hx hq hq2 h)))))
  · rw [zt_p3] at h
    exact br_f (by decide) (br_f (by decide) (br_f (by decide) (br_t rfl ⟨hy, hy, zt_xassign hx (zt_okb (hw _ (zt_cl hy))) h⟩)))
  · rw [zt_p4] at h
    refine br_f (by decide) (br_f (by decide) (br_f (by decide) (br_f (by decide) (br_f (by decide) (br_f (by decide) (br_f (by decide) (br_f (by decide) ⟨hy, ?_⟩)))))))
    by_cases c : a_sorts y.toNatClampNeg = 1
    · rw [if_pos c] at h
      exact br_t c ⟨hy, hz, zt_xassign hx zt_s1 h⟩
    · rw [if_neg c] at h
      exact br_f c ⟨hy, hz, zt_xassign hx zt_s2 h⟩
  · rw [zt_p5] at h
    exact br_f (by decide) (br_f (by decide) (br_f (by decide) (br_f (by decide) (br_f (by decide) (br_t rfl ⟨hy, hz, zt_xassign hx zt_s1 h⟩)))))
  · rw [zt_p6] at h
    refine br_f (by decide) (br_f (by decide) (br_f (by decide) (br_f (by decide) (br_f (by decide) (br_f (by decide) (br_t rfl ⟨hy, hz, ?_⟩))))))
    by_cases c : a_values z.toNatClampNeg ≤ a_values y.toNatClampNeg
    · rw [if_pos c] at h
      exact br_t c (zt_xassign hx zt_s2 h)
    · rw [if_neg c] at h
      exact br_f c (zt_xassign hx zt_s2 h)
  · rw [zt_p7] at h
    refine br_f (by decide) (br_f (by decide) (br_f (by decide) (br_f (by decide) (br_f (by decide) (br_f (by decide) (br_f (by decide) (br_t rfl ⟨hy, hz, ?_⟩)))))))
    by_cases c : a_sorts y.toNatClampNeg = a_sorts z.toNatClampNeg
    · rw [if_pos c] at h
      refine br_t c ⟨hy, hz, ?_⟩
      by_cases d : a_values y.toNatClampNeg = a_values z.toNatClampNeg
      · rw [if_pos d] at h
        exact br_t d (zt_xassign hx zt_s2 h)
      · rw [if_neg d] at h
        exact br_f d (zt_xassign hx zt_s2 h)
    · rw [if_neg c] at h
      exact br_f c (zt_xassign hx zt_s2 h)
/-- a guard of a trace -/
theorem zt_xig {post : Int32 → SX → Prop} {x1 x2 : Int32} {n j e : Nat} (h1 : vp_in x1 4) (he : a_traceEnd x1.toNatClampNeg = nI e) (hj : j < e) (hE : e ≤ 288) (ho : ¬ a_operation j < 12) (hv : vp_in (a_target j) 6)
    (hx : zt_gh (a_operation j) (a_target j) (a_left j) (f_printedCount, a_sorts, a_values, a_printedValues) = 0 → post x2 (f_hotAt, f_length, (a_origin j), f_status, f_executed, f_printedCount, f_recording, f_header, f_recorded, f_traceCount, f_codeEnd, a_opcode, a_fieldX, a_fieldY, a_fieldZ, a_sorts, a_values, a_printedValues, a_jumps, a_traceAt, a_recordPlace, a_recordLeft, a_recordRight, a_recordTaken, a_traceStart, a_traceEnd, a_traceSteps, a_operation, a_origin, a_target, a_left, a_right, a_known))
    (hg : ¬ zt_gh (a_operation j) (a_target j) (a_left j) (f_printedCount, a_sorts, a_values, a_printedValues) = 0 → wX_passTrace_9 post x1 n x2 (nI (j + 1)) f_hotAt f_length f_place f_status f_executed f_printedCount f_recording f_header f_recorded f_traceCount f_codeEnd a_opcode a_fieldX a_fieldY a_fieldZ a_sorts a_values a_printedValues a_jumps a_traceAt a_recordPlace a_recordLeft a_recordRight a_recordTaken a_traceStart a_traceEnd a_traceSteps a_operation a_origin a_target a_left a_right a_known) : wX_passTrace_9 post x1 (n + 1) x2 (nI j) f_hotAt f_length f_place f_status f_executed f_printedCount f_recording f_header f_recorded f_traceCount f_codeEnd a_opcode a_fieldX a_fieldY a_fieldZ a_sorts a_values a_printedValues a_jumps a_traceAt a_recordPlace a_recordLeft a_recordRight a_recordTaken a_traceStart a_traceEnd a_traceSteps a_operation a_origin a_target a_left a_right a_known := by
  rw [wX_passTrace_9]
  dsimp only
  have hj3 : vp_in (nI j) 288 := vp_in_nI (by omega) (by omega)
  have hc : (nI j).toNatClampNeg = j := nI_clamp (by omega)
  rw [he, hc]
  refine ⟨h1, br_f (nI_ge hj (by omega)) ⟨hj3, nm_e ⟨hj3, nm_e (br_f ho ⟨hj3, zt_xgh hv ?_⟩)⟩⟩⟩
  exact br_c (fun c => ⟨hj3, nm_e (hx c)⟩) (fun c => nm_r (nI_1 j) (hg c))
/-- an operation of a trace -/
theorem zt_xio {post : Int32 → SX → Prop} {x1 x2 : Int32} {n j e q : Nat} (h1 : vp_in x1 4) (he : a_traceEnd x1.toNatClampNeg = nI e) (hj : j < e) (hE : e ≤ 288) (hw : zt_WV (f_printedCount, a_sorts, a_values, a_printedValues)) (hq : f_printedCount = nI q) (hq2 : q < 2 ^ 31) (ho : zt_AI (a_operation j) (a_target j) (a_left j) (a_right j))
    (hg : wX_passTrace_9 post x1 n (x2 + 1) (nI (j + 1)) f_hotAt f_length f_place f_status (f_executed + 1) (zt_act (a_operation j) (a_target j) (a_left j) (a_right j) (f_printedCount, a_sorts, a_values, a_printedValues)).1 f_recording f_header f_recorded f_traceCount f_codeEnd a_opcode a_fieldX a_fieldY a_fieldZ (zt_act (a_operation j) (a_target j) (a_left j) (a_right j) (f_printedCount, a_sorts, a_values, a_printedValues)).2.1 (zt_act (a_operation j) (a_target j) (a_left j) (a_right j) (f_printedCount, a_sorts, a_values, a_printedValues)).2.2.1 (zt_act (a_operation j) (a_target j) (a_left j) (a_right j) (f_printedCount, a_sorts, a_values, a_printedValues)).2.2.2 a_jumps a_traceAt a_recordPlace a_recordLeft a_recordRight a_recordTaken a_traceStart a_traceEnd a_traceSteps a_operation a_origin a_target a_left a_right a_known) : wX_passTrace_9 post x1 (n + 1) x2 (nI j) f_hotAt f_length f_place f_status f_executed f_printedCount f_recording f_header f_recorded f_traceCount f_codeEnd a_opcode a_fieldX a_fieldY a_fieldZ a_sorts a_values a_printedValues a_jumps a_traceAt a_recordPlace a_recordLeft a_recordRight a_recordTaken a_traceStart a_traceEnd a_traceSteps a_operation a_origin a_target a_left a_right a_known := by
  rw [wX_passTrace_9]
  dsimp only
  have hj3 : vp_in (nI j) 288 := vp_in_nI (by omega) (by omega)
  have hc : (nI j).toNatClampNeg = j := nI_clamp (by omega)
  rw [he, hc]
  unfold wX_passTrace_177
  refine ⟨h1, br_f (nI_ge hj (by omega)) ⟨hj3, ?_⟩⟩
  rcases ho with ho | ⟨ho, hx, hy, hz⟩ | ho
  · refine nm_r ho ⟨hj3, nm_e (br_t (by decide) (br_f (by decide) (br_f (by decide) (br_t rfl (nm_e (nm_e (nm_r (nI_1 j) ?_)))))))⟩
    rw [ho] at hg
    exact hg
  · refine nm_r ho ⟨hj3, nm_e (br_t (by decide) (br_t rfl ⟨hj3, hy, hj3, hz, zt_xassign hx zt_s2 (nm_e (nm_e (nm_r (nI_1 j) ?_)))⟩))⟩
    rw [ho] at hg
    exact hg
  · by_cases c4 : a_operation j = 4
    · obtain ⟨hx, h⟩ := ho
      have hyz : vp_in (a_left j) 6 ∧ vp_in (a_right j) 6 := by
        rcases h with (h | h | h | h) | ⟨hy, h | ⟨hz, _⟩⟩
        · rw [c4] at h; exact absurd h (by decide)
        · rw [c4] at h; exact absurd h (by decide)
        · rw [c4] at h; exact absurd h (by decide)
        · rw [c4] at h; exact absurd h (by decide)
        · rw [c4] at h; exact absurd h (by decide)
        · exact ⟨hy, hz⟩
      refine nm_r c4 ⟨hj3, nm_e (br_t (by decide) (br_f (by decide) (br_t rfl ⟨hj3, hyz.1, hj3, hyz.2, zt_xassign hx zt_s1 (nm_e (nm_e (nm_r (nI_1 j) ?_)))⟩)))⟩
      rw [c4] at hg
      exact hg
    · have h12 : a_operation j < 12 := by
        rcases ho with ⟨_, (h | h | h | h) | ⟨_, h | ⟨_, h | h | h | h⟩⟩⟩ <;> (rw [h]; decide)
      have h11 : ¬ a_operation j = 11 := by
        rcases ho with ⟨_, (h | h | h | h) | ⟨_, h | ⟨_, h | h | h | h⟩⟩⟩ <;> (rw [h]; decide)
      have h9 : ¬ a_operation j = 9 := by
        rcases ho with ⟨_, (h | h | h | h) | ⟨_, h | ⟨_, h | h | h | h⟩⟩⟩ <;> (rw [h]; decide)
      refine nm_e ⟨hj3, nm_e (br_t h12 (br_f h11 (br_f c4 (br_f h9 ⟨hj3, hj3, zt_xperf hw hq hq2 ho (nm_e (nm_e (nm_r (nI_1 j) ?_)))⟩))))⟩
      have e : zt_act (a_operation j) (a_target j) (a_left j) (a_right j) (f_printedCount, a_sorts, a_values, a_printedValues) = zt_perf (a_operation j) (a_target j) (a_left j) (a_right j) (f_printedCount, a_sorts, a_values, a_printedValues) := by
        unfold zt_act; rw [if_neg h11, if_neg c4, if_neg h9]
      rw [e] at hg
      exact hg
end ZX
end
section
/-! 04: what a trace's code is, and a pass over it -/
/-- c items of code from s on: behind them k steps from the header hd are done, the place is p, and F holds of sorts and values -/
def zt_CT (n : Int32) (op ax ay az opn org tgt lft rgt : Nat → Int32) (s : Nat) (hd : Int32) : Nat → Nat → Int32 → (zt_WS → Prop) → Prop
  | 0, k, p, F => k = 0 ∧ p = hd ∧ ∀ w, F w
  | c + 1, k, p, F => ∃ (k0 : Nat) (p0 : Int32) (F0 : zt_WS → Prop), zt_CT n op ax ay az opn org tgt lft rgt s hd c k0 p0 F0 ∧
      ((k = k0 ∧ p = p0 ∧ ¬ opn (s + c) < 12 ∧ org (s + c) = p0 ∧ vp_in (tgt (s + c)) 6 ∧
          ∀ w, zt_WV w → F0 w → ¬ zt_gh (opn (s + c)) (tgt (s + c)) (lft (s + c)) w = 0 → F w)
      ∨ (k = k0 + 1 ∧ zt_AI (opn (s + c)) (tgt (s + c)) (lft (s + c)) (rgt (s + c)) ∧
          ∀ w ct, zt_WV w → F0 w → zt_step n op ax ay az (p0, 0, ct, w) = (p, 0, ct + 1, zt_act (opn (s + c)) (tgt (s + c)) (lft (s + c)) (rgt (s + c)) w)
            ∧ F (zt_act (opn (s + c)) (tgt (s + c)) (lft (s + c)) (rgt (s + c)) w)))
section ZC
variable {n : Int32} {op ax ay az opn org tgt lft rgt : Nat → Int32} {s : Nat} {hd : Int32}
theorem zt_CT_0 {F : zt_WS → Prop} (h : ∀ w, F w) : zt_CT n op ax ay az opn org tgt lft rgt s hd 0 0 hd F := ⟨rfl, rfl, h⟩
theorem zt_CT_g {c k : Nat} {p : Int32} {F F0 : zt_WS → Prop} (h : zt_CT n op ax ay az opn org tgt lft rgt s hd c k p F0) (h1 : ¬ opn (s + c) < 12) (h2 : org (s + c) = p) (h3 : vp_in (tgt (s + c)) 6)
    (h4 : ∀ w, zt_WV w → F0 w → ¬ zt_gh (opn (s + c)) (tgt (s + c)) (lft (s + c)) w = 0 → F w) : zt_CT n op ax ay az opn org tgt lft rgt s hd (c + 1) k p F :=
  ⟨k, p, F0, h, Or.inl ⟨rfl, rfl, h1, h2, h3, h4⟩⟩
theorem zt_CT_o {c k : Nat} {p p0 : Int32} {F F0 : zt_WS → Prop} (h : zt_CT n op ax ay az opn org tgt lft rgt s hd c k p0 F0) (h1 : zt_AI (opn (s + c)) (tgt (s + c)) (lft (s + c)) (rgt (s + c)))
    (h2 : ∀ w ct, zt_WV w → F0 w → zt_step n op ax ay az (p0, 0, ct, w) = (p, 0, ct + 1, zt_act (opn (s + c)) (tgt (s + c)) (lft (s + c)) (rgt (s + c)) w)
            ∧ F (zt_act (opn (s + c)) (tgt (s + c)) (lft (s + c)) (rgt (s + c)) w)) : zt_CT n op ax ay az opn org tgt lft rgt s hd (c + 1) (k + 1) p F :=
  ⟨k, p0, F0, h, Or.inr ⟨rfl, h1, h2⟩⟩
/-- a write behind the code keeps it -/
theorem zt_CT_w {j : Nat} {a1 a2 a3 a4 a5 : Int32} : ∀ {c k : Nat} {p : Int32} {F : zt_WS → Prop}, s + c ≤ j → zt_CT n op ax ay az opn org tgt lft rgt s hd c k p F →
    zt_CT n op ax ay az (upd opn j a1) (upd org j a2) (upd tgt j a3) (upd lft j a4) (upd rgt j a5) s hd c k p F := by
  intro c
  induction c with
  | zero => intro k p F _ h; exact h
  | succ c ih =>
    intro k p F hj h
    obtain ⟨k0, p0, F0, h0, h⟩ := h
    refine ⟨k0, p0, F0, ih (by omega) h0, ?_⟩
    have hne : s + c ≠ j := by omega
    rw [zt_un hne, zt_un hne, zt_un hne, zt_un hne, zt_un hne]
    exact h
end ZC
section ZP
variable {f_hotAt f_length f_place f_status f_executed f_printedCount f_recording f_header f_recorded f_traceCount f_codeEnd : Int32}
variable {a_opcode a_fieldX a_fieldY a_fieldZ a_sorts a_values a_jumps a_traceAt a_recordPlace a_recordLeft a_recordRight a_recordTaken a_traceStart a_traceEnd a_traceSteps a_operation a_origin a_target a_left a_right a_known a_az : Nat → Int32}
variable {a_printedValues : Nat → Int64}
theorem zt_pass {post : Int32 → SX → Prop} {x1 hd : Int32} {l s e : Nat} (hl : l ≤ 24) (hn : f_length = nI l) (hP : zt_PV a_opcode a_fieldX a_fieldY a_fieldZ) (h1 : vp_in x1 4) (he : a_traceEnd x1.toNatClampNeg = nI e) (hE : e ≤ 288) (ct : Int32) (w : zt_WS) {B : Nat} (hM : zt_MV B (hd, 0, ct, w)) :
    ∀ (c k : Nat) (p : Int32) (F : zt_WS → Prop), zt_CT f_length a_opcode a_fieldX a_fieldY a_fieldZ a_operation a_origin a_target a_left a_right s hd c k p F → ∀ (fuel : Nat), s + c ≤ e → B + k < 2 ^ 31 →
      (∀ (d : Nat) (m : zt_MS), d ≤ k → m = zt_it f_length a_opcode a_fieldX a_fieldY a_fieldZ d (hd, 0, ct, w) → post (nI d) (f_hotAt, f_length, m.1, m.2.1, m.2.2.1, m.2.2.2.1, f_recording, f_header, f_recorded, f_traceCount, f_codeEnd, a_opcode, a_fieldX, a_fieldY, a_fieldZ, m.2.2.2.2.1, m.2.2.2.2.2.1, m.2.2.2.2.2.2, a_jumps, a_traceAt, a_recordPlace, a_recordLeft, a_recordRight, a_recordTaken, a_traceStart, a_traceEnd, a_traceSteps, a_operation, a_origin, a_target, a_left, a_right, a_known)) →
      (∀ (ct' : Int32) (w' : zt_WS), zt_it f_length a_opcode a_fieldX a_fieldY a_fieldZ k (hd, 0, ct, w) = (p, 0, ct', w') → F w' → wX_passTrace_9 post x1 fuel (nI k) (nI (s + c)) f_hotAt f_length hd 0 ct' w'.1 f_recording f_header f_recorded f_traceCount f_codeEnd a_opcode a_fieldX a_fieldY a_fieldZ w'.2.1 w'.2.2.1 w'.2.2.2 a_jumps a_traceAt a_recordPlace a_recordLeft a_recordRight a_recordTaken a_traceStart a_traceEnd a_traceSteps a_operation a_origin a_target a_left a_right a_known) →
      wX_passTrace_9 post x1 (fuel + c) 0 (nI s) f_hotAt f_length hd 0 ct w.1 f_recording f_header f_recorded f_traceCount f_codeEnd a_opcode a_fieldX a_fieldY a_fieldZ w.2.1 w.2.2.1 w.2.2.2 a_jumps a_traceAt a_recordPlace a_recordLeft a_recordRight a_recordTaken a_traceStart a_traceEnd a_traceSteps a_operation a_origin a_target a_left a_right a_known := by
  intro c
  induction c with
  | zero =>
    intro k p F hC fuel hs hB hx ht
    obtain ⟨rfl, rfl, hF⟩ := hC
    exact ht ct w rfl (hF w)
  | succ c ih =>
    intro k p F hC fuel hs hB hx ht
    obtain ⟨k0, p0, F0, hC0, hC⟩ := hC
    have ef : fuel + (c + 1) = (fuel + 1) + c := by omega
    rw [ef]
    rcases hC with ⟨rfl, rfl, hop, horg, htg, hF⟩ | ⟨rfl, hA, hS⟩
    · refine ih k p F0 hC0 (fuel + 1) (by omega) hB hx ?_
      intro ct' w' hit hF0
      have hM' := zt_mv_it hl hn hP hM k
      rw [hit] at hM'
      refine zt_xig (e := e) h1 he (by omega) hE hop htg ?_ ?_
      · intro _
        have := hx k (p, 0, ct', w') (Nat.le_refl _) hit.symm
        rw [horg]
        exact this
      · intro g
        exact ht ct' w' hit (hF w' hM'.2.1 hF0 g)
    · refine ih k0 p0 F0 hC0 (fuel + 1) (by omega) (by omega) (fun d m hd' em => hx d m (by omega) em) ?_
      intro ct' w' hit hF0
      have hM' := zt_mv_it hl hn hP hM k0
      rw [hit] at hM'
      obtain ⟨hp', hw', q, hq, eq⟩ := hM'
      obtain ⟨hS1, hS2⟩ := hS w' ct' hw' hF0
      have hit2 : zt_it f_length a_opcode a_fieldX a_fieldY a_fieldZ (k0 + 1) (hd, 0, ct, w) = (p, 0, ct' + 1, zt_act (a_operation (s + c)) (a_target (s + c)) (a_left (s + c)) (a_right (s + c)) w') := by
        show zt_step f_length a_opcode a_fieldX a_fieldY a_fieldZ (zt_it f_length a_opcode a_fieldX a_fieldY a_fieldZ k0 (hd, 0, ct, w)) = _
        rw [hit]
        exact hS1
      refine zt_xio (e := e) (q := q) h1 he (by omega) hE hw' eq (by omega) hA ?_
      rw [nI_1]
      exact ht _ _ hit2 hS2
end ZP
end
section
/-! 05: the compiler, pure: what is known, one step of a trace -/
def zt_Kn (kn : Nat → Int32) (w : zt_WS) : Prop := ∀ v, v < 6 → kn v = -1 ∨ w.2.1 v = kn v
def zt_KV (kn : Nat → Int32) : Prop := ∀ v, v < 6 → vp_nar .byte (kn v) = kn v
def zt_TA (n : Int32) (op ax ay az : Nat → Int32) (tc ce : Nat) (tS tE tN opn org tgt lft rgt : Nat → Int32) (i : Nat) (a : Int32) : Prop :=
  a = -1 ∨ a = -2 ∨ ∃ (t s c k : Nat) (F : zt_WS → Prop), t < tc ∧ a = nI t ∧ tS t = nI s ∧ tE t = nI (s + c) ∧ tN t = nI k ∧ 0 < k ∧ k ≤ 24 ∧ s + c ≤ ce ∧ zt_CT n op ax ay az opn org tgt lft rgt s (nI i) c k (nI i) F
def zt_TB (n : Int32) (op ax ay az : Nat → Int32) (tc ce : Nat) (tA tS tE tN opn org tgt lft rgt : Nat → Int32) : Prop :=
  ∀ i, i < 24 → zt_TA n op ax ay az tc ce tS tE tN opn org tgt lft rgt i (tA i)
def zt_TI (n : Int32) (op ax ay az : Nat → Int32) (tc ce : Nat) (tA tS tE tN opn org tgt lft rgt : Nat → Int32) : Prop :=
  tc ≤ 4 ∧ ce ≤ 72 * tc ∧ zt_TB n op ax ay az tc ce tA tS tE tN opn org tgt lft rgt
/-- while a trace is compiled: its code so far, and the older traces -/
def zt_CJ (n : Int32) (op ax ay az : Nat → Int32) (tc s : Nat) (hd : Int32) (tA tS tE tN opn org tgt lft rgt : Nat → Int32) (c k : Nat) (p : Int32) (F : zt_WS → Prop) : Prop :=
  zt_CT n op ax ay az opn org tgt lft rgt s hd c k p F ∧ zt_TB n op ax ay az tc s tA tS tE tN opn org tgt lft rgt
def zt_nx (o x y p t : Int32) : Int32 := if o = 9 then x else if o = 8 then (if t = 0 then p + 1 else y) else p + 1
section ZC5
variable {n : Int32} {op ax ay az opn org tgt lft rgt tA tS tE tN : Nat → Int32} {s tc : Nat} {hd : Int32}
theorem zt_TA_m {tc2 ce ce2 i : Nat} {a : Int32} {tS2 tE2 tN2 : Nat → Int32} (h : zt_TA n op ax ay az tc ce tS tE tN opn org tgt lft rgt i a) (h1 : tc ≤ tc2) (h2 : ce ≤ ce2) (h3 : ∀ t, t < tc → tS2 t = tS t) (h4 : ∀ t, t < tc → tE2 t = tE t) (h5 : ∀ t, t < tc → tN2 t = tN t) : zt_TA n op ax ay az tc2 ce2 tS2 tE2 tN2 opn org tgt lft rgt i a := by
  rcases h with h | h | ⟨t, s', c, k, F, a1, a2, a3, a4, a5, a6, a7, a8, a9⟩
  · exact Or.inl h
  · exact Or.inr (Or.inl h)
  · exact Or.inr (Or.inr ⟨t, s', c, k, F, by omega, a2, (h3 t a1).trans a3, (h4 t a1).trans a4, (h5 t a1).trans a5, a6, a7, by omega, a9⟩)
theorem zt_TB_w {ce j : Nat} {a1 a2 a3 a4 a5 : Int32} (h : zt_TB n op ax ay az tc ce tA tS tE tN opn org tgt lft rgt) (hj : ce ≤ j) : zt_TB n op ax ay az tc ce tA tS tE tN (upd opn j a1) (upd org j a2) (upd tgt j a3) (upd lft j a4) (upd rgt j a5) := by
  intro i hi
  rcases h i hi with h | h | ⟨t, s', c, k, F, b1, b2, b3, b4, b5, b6, b7, b8, b9⟩
  · exact Or.inl h
  · exact Or.inr (Or.inl h)
  · exact Or.inr (Or.inr ⟨t, s', c, k, F, b1, b2, b3, b4, b5, b6, b7, b8, zt_CT_w (by omega) b9⟩)
theorem zt_CJ_g {c k : Nat} {p o v sv r : Int32} {F F0 : zt_WS → Prop} (h : zt_CJ n op ax ay az tc s hd tA tS tE tN opn org tgt lft rgt c k p F0) (h1 : ¬ o < 12) (h3 : vp_in v 6)
    (h4 : ∀ w, zt_WV w → F0 w → ¬ zt_gh o v sv w = 0 → F w) : zt_CJ n op ax ay az tc s hd tA tS tE tN (upd opn (s + c) o) (upd org (s + c) p) (upd tgt (s + c) v) (upd lft (s + c) sv) (upd rgt (s + c) r) (c + 1) k p F := by
  refine ⟨zt_CT_g (zt_CT_w (Nat.le_refl _) h.1) ?_ ?_ ?_ ?_, zt_TB_w h.2 (by omega)⟩
  · rw [zt_us]; exact h1
  · rw [zt_us]
  · rw [zt_us]; exact h3
  · rw [zt_us, zt_us, zt_us]; exact h4
theorem zt_CJ_o {c k : Nat} {p0 p o x y z q : Int32} {F F0 : zt_WS → Prop} (h : zt_CJ n op ax ay az tc s hd tA tS tE tN opn org tgt lft rgt c k p0 F0) (h1 : zt_AI o x y z)
    (h2 : ∀ w ct, zt_WV w → F0 w → zt_step n op ax ay az (p0, 0, ct, w) = (p, 0, ct + 1, zt_act o x y z w) ∧ F (zt_act o x y z w)) :
    zt_CJ n op ax ay az tc s hd tA tS tE tN (upd opn (s + c) o) (upd org (s + c) q) (upd tgt (s + c) x) (upd lft (s + c) y) (upd rgt (s + c) z) (c + 1) (k + 1) p F := by
  refine ⟨zt_CT_o (zt_CT_w (Nat.le_refl _) h.1) ?_ ?_, zt_TB_w h.2 (by omega)⟩
  · rw [zt_us, zt_us, zt_us, zt_us]; exact h1
  · rw [zt_us, zt_us, zt_us, zt_us]; exact h2
theorem zt_stx {p ct : Int32} {w : zt_WS} (hp : p < n) (hf : zt_flt (op p.toNatClampNeg) (ay p.toNatClampNeg) (az p.toNatClampNeg) w = 0) :
    zt_step n op ax ay az (p, 0, ct, w) = (zt_npc (op p.toNatClampNeg) (ax p.toNatClampNeg) (ay p.toNatClampNeg) p w, 0, ct + 1, zt_nw (op p.toNatClampNeg) (ax p.toNatClampNeg) (ay p.toNatClampNeg) (az p.toNatClampNeg) w) := by
  unfold zt_step
  dsimp only
  rw [if_pos rfl, if_pos hp, if_pos hf]
  rfl
end ZC5
theorem zt_Kn_asg {kn : Nat → Int32} {x s v : Int32} {w : zt_WS} (h : zt_Kn kn w) : zt_Kn (upd kn x.toNatClampNeg s) (zt_asg x s v w) := by
  intro i hi
  show upd kn x.toNatClampNeg s i = -1 ∨ upd w.2.1 x.toNatClampNeg s i = upd kn x.toNatClampNeg s i
  by_cases e : i = x.toNatClampNeg
  · subst e
    rw [zt_us, zt_us]; exact Or.inr rfl
  · rw [zt_un e, zt_un e]; exact h i hi
theorem zt_Kn_mv {kn : Nat → Int32} {x y v : Int32} {w : zt_WS} (h : zt_Kn kn w) (hy : vp_in y 6) : zt_Kn (upd kn x.toNatClampNeg (kn y.toNatClampNeg)) (zt_asg x (w.2.1 y.toNatClampNeg) v w) := by
  intro i hi
  show upd kn x.toNatClampNeg (kn y.toNatClampNeg) i = -1 ∨ upd w.2.1 x.toNatClampNeg (w.2.1 y.toNatClampNeg) i = upd kn x.toNatClampNeg (kn y.toNatClampNeg) i
  by_cases e : i = x.toNatClampNeg
  · subst e
    rw [zt_us, zt_us]; exact h _ (zt_cl hy)
  · rw [zt_un e, zt_un e]; exact h i hi
theorem zt_Kn_g {kn : Nat → Int32} {v s : Int32} {w : zt_WS} (h : zt_Kn kn w) (hg : ¬ zt_gh 12 v s w = 0) : zt_Kn (upd kn v.toNatClampNeg s) w := by
  have e : w.2.1 v.toNatClampNeg = s := by
    by_cases e : w.2.1 v.toNatClampNeg = s
    · exact e
    · exact absurd (by unfold zt_gh; rw [if_pos rfl, if_neg e]) hg
  intro i hi
  by_cases c : i = v.toNatClampNeg
  · subst c
    rw [zt_us]; exact Or.inr e
  · rw [zt_un c]; exact h i hi
theorem zt_KV_u {kn : Nat → Int32} {k : Nat} {s : Int32} (h : zt_KV kn) (hs : vp_nar .byte s = s) : zt_KV (upd kn k s) := by
  intro i hi
  by_cases c : i = k
  · subst c
    rw [zt_us]; exact hs
  · rw [zt_un c]; exact h i hi
theorem zt_Kn_v {kn : Nat → Int32} {v s : Int32} {w : zt_WS} (h : zt_Kn kn w) (hv : vp_in v 6) (e : kn v.toNatClampNeg = s) (hs : ¬ s = -1) : w.2.1 v.toNatClampNeg = s := by
  rcases h _ (zt_cl hv) with a | a
  · exact absurd (e.symm.trans a) hs
  · exact a.trans e
/-- an act of a trace that is no ADD and no OR is the machine's own operation -/
theorem zt_act_p {o x y z : Int32} {w : zt_WS} (h11 : ¬ o = 11) (h4 : ¬ o = 4) (h9 : ¬ o = 9) : zt_act o x y z w = zt_perf o x y z w := by
  unfold zt_act; rw [if_neg h11, if_neg h4, if_neg h9]
theorem zt_act9 {x y z : Int32} {w : zt_WS} : zt_act 9 x y z w = w := by
  unfold zt_act; rw [if_neg (by decide), if_neg (by decide), if_pos rfl]
theorem zt_act11 {x y z : Int32} {w : zt_WS} : zt_act 11 x y z w = zt_asg x 2 (w.2.2.1 y.toNatClampNeg ||| w.2.2.1 z.toNatClampNeg) w := if_pos rfl
theorem zt_act4 {x y z : Int32} {w : zt_WS} : zt_act 4 x y z w = zt_asg x 1 (w.2.2.1 y.toNatClampNeg + w.2.2.1 z.toNatClampNeg) w := by
  unfold zt_act; rw [if_neg (by decide), if_pos rfl]
theorem zt_gh14 {v s : Int32} {w : zt_WS} (h : ¬ zt_gh 14 v s w = 0) : zt_cnt v w = 1 := by
  by_cases c : zt_cnt v w = 1
  · exact c
  · exact absurd (by unfold zt_gh; rw [if_neg (by decide), if_pos rfl, if_neg c]) h
theorem zt_gh13 {v s : Int32} {w : zt_WS} (h : ¬ zt_gh 13 v s w = 0) : zt_cnt v w = 0 := by
  by_cases c : zt_cnt v w = 0
  · exact c
  · exact absurd (by unfold zt_gh; rw [if_neg (by decide), if_neg (by decide), if_neg c]) h
theorem zt_nx9 {x y p t : Int32} : zt_nx 9 x y p t = x := if_pos rfl
theorem zt_nxo {o x y p t : Int32} (h9 : ¬ o = 9) (h8 : ¬ o = 8) : zt_nx o x y p t = p + 1 := by
  unfold zt_nx; rw [if_neg h9, if_neg h8]
theorem zt_nx8f {x y p t : Int32} (h : t = 0) : zt_nx 8 x y p t = p + 1 := by
  unfold zt_nx; rw [if_neg (by decide), if_pos rfl, if_pos h]
theorem zt_nx8t {x y p t : Int32} (h : ¬ t = 0) : zt_nx 8 x y p t = y := by
  unfold zt_nx; rw [if_neg (by decide), if_pos rfl, if_neg h]
section ZC6
variable {n : Int32} {op ax ay az : Nat → Int32}
/-- the steps' pure content, one an operation: F0 gives the machine's step as the code's act, and what is known behind it -/
theorem zt_s8f {p ct x y z t : Int32} {w : zt_WS} {kn : Nat → Int32} (hp : p < n) (ho : op p.toNatClampNeg = 8) (ht : t = 0) (hc : zt_cnt (ax p.toNatClampNeg) w = 1) (hk : zt_Kn kn w) :
    zt_step n op ax ay az (p, 0, ct, w) = (zt_nx (op p.toNatClampNeg) (ax p.toNatClampNeg) (ay p.toNatClampNeg) p t, 0, ct + 1, zt_act 9 x y z w) ∧ zt_Kn kn (zt_act 9 x y z w) := by
  rw [zt_stx hp (zt_fl0 (by rw [ho]; decide)), ho, zt_np8f (by rw [hc]; decide), zt_nw8, zt_act9, zt_nx8f ht]
  exact ⟨rfl, hk⟩
theorem zt_s8t {p ct x y z t : Int32} {w : zt_WS} {kn : Nat → Int32} (hp : p < n) (ho : op p.toNatClampNeg = 8) (ht : ¬ t = 0) (hc : zt_cnt (ax p.toNatClampNeg) w = 0) (hk : zt_Kn kn w) :
    zt_step n op ax ay az (p, 0, ct, w) = (zt_nx (op p.toNatClampNeg) (ax p.toNatClampNeg) (ay p.toNatClampNeg) p t, 0, ct + 1, zt_act 9 x y z w) ∧ zt_Kn kn (zt_act 9 x y z w) := by
  rw [zt_stx hp (zt_fl0 (by rw [ho]; decide)), ho, zt_np8t hc, zt_nw8, zt_act9, zt_nx8t ht]
  exact ⟨rfl, hk⟩
theorem zt_s9 {p ct z t : Int32} {w : zt_WS} {kn : Nat → Int32} (hp : p < n) (ho : op p.toNatClampNeg = 9) (hk : zt_Kn kn w) :
    zt_step n op ax ay az (p, 0, ct, w) = (zt_nx (op p.toNatClampNeg) (ax p.toNatClampNeg) (ay p.toNatClampNeg) p t, 0, ct + 1, zt_act 9 (ax p.toNatClampNeg) (ay p.toNatClampNeg) z w) ∧ zt_Kn kn (zt_act 9 (ax p.toNatClampNeg) (ay p.toNatClampNeg) z w) := by
  rw [zt_stx hp (zt_fl0 (by rw [ho]; decide)), ho, zt_np9, zt_nw9, zt_act9, zt_nx9]
  exact ⟨rfl, hk⟩
/-- the plain ones: no guard -/
theorem zt_sp {o p ct z t : Int32} {w : zt_WS} {kn : Nat → Int32} (hp : p < n) (ho : op p.toNatClampNeg = o) (h : o = 0 ∨ o = 1 ∨ o = 2 ∨ o = 3 ∨ o = 7 ∨ o = 10)
    (hz : zt_perf o (ax p.toNatClampNeg) (ay p.toNatClampNeg) (az p.toNatClampNeg) w = zt_perf o (ax p.toNatClampNeg) (ay p.toNatClampNeg) z w) (hk : zt_Kn kn (zt_perf o (ax p.toNatClampNeg) (ay p.toNatClampNeg) (az p.toNatClampNeg) w)) :
    zt_step n op ax ay az (p, 0, ct, w) = (zt_nx (op p.toNatClampNeg) (ax p.toNatClampNeg) (ay p.toNatClampNeg) p t, 0, ct + 1, zt_act o (ax p.toNatClampNeg) (ay p.toNatClampNeg) z w) ∧ zt_Kn kn (zt_act o (ax p.toNatClampNeg) (ay p.toNatClampNeg) z w) := by
  have h9 : ¬ o = 9 := by rcases h with rfl | rfl | rfl | rfl | rfl | rfl <;> decide
  have h8 : ¬ o = 8 := by rcases h with rfl | rfl | rfl | rfl | rfl | rfl <;> decide
  have h4 : ¬ o = 4 := by rcases h with rfl | rfl | rfl | rfl | rfl | rfl <;> decide
  have h11 : ¬ o = 11 := by rcases h with rfl | rfl | rfl | rfl | rfl | rfl <;> decide
  have hf : ¬ (o = 4 ∨ o = 5 ∨ o = 6) := by rcases h with rfl | rfl | rfl | rfl | rfl | rfl <;> decide
  rw [zt_stx hp (zt_fl0 (by rw [ho]; exact hf)), ho, zt_npo h9 h8, zt_nwo h9 h8, zt_act_p h11 h4 h9, zt_nxo h9 h8, ← hz]
  exact ⟨rfl, hk⟩
/-- SUB, LESS behind their guards -/
theorem zt_sc {o p ct t : Int32} {w : zt_WS} {kn : Nat → Int32} (hp : p < n) (ho : op p.toNatClampNeg = o) (h : o = 5 ∨ o = 6) (h1 : w.2.1 (ay p.toNatClampNeg).toNatClampNeg = 1) (h2 : w.2.1 (az p.toNatClampNeg).toNatClampNeg = 1)
    (hk : zt_Kn kn (zt_perf o (ax p.toNatClampNeg) (ay p.toNatClampNeg) (az p.toNatClampNeg) w)) :
    zt_step n op ax ay az (p, 0, ct, w) = (zt_nx (op p.toNatClampNeg) (ax p.toNatClampNeg) (ay p.toNatClampNeg) p t, 0, ct + 1, zt_act o (ax p.toNatClampNeg) (ay p.toNatClampNeg) (az p.toNatClampNeg) w) ∧ zt_Kn kn (zt_act o (ax p.toNatClampNeg) (ay p.toNatClampNeg) (az p.toNatClampNeg) w) := by
  have h9 : ¬ o = 9 := by rcases h with rfl | rfl <;> decide
  have h8 : ¬ o = 8 := by rcases h with rfl | rfl <;> decide
  have h4 : ¬ o = 4 := by rcases h with rfl | rfl <;> decide
  have h11 : ¬ o = 11 := by rcases h with rfl | rfl <;> decide
  rw [zt_stx hp (zt_fl1 (by rw [ho]; exact Or.inr h) h1 h2), ho, zt_npo h9 h8, zt_nwo h9 h8, zt_act_p h11 h4 h9, zt_nxo h9 h8]
  exact ⟨rfl, hk⟩
theorem zt_s4 {p ct t : Int32} {w : zt_WS} {kn : Nat → Int32} (hp : p < n) (ho : op p.toNatClampNeg = 4) (h1 : w.2.1 (ay p.toNatClampNeg).toNatClampNeg = 1) (h2 : w.2.1 (az p.toNatClampNeg).toNatClampNeg = 1) (hk : zt_Kn kn w) :
    zt_step n op ax ay az (p, 0, ct, w) = (zt_nx (op p.toNatClampNeg) (ax p.toNatClampNeg) (ay p.toNatClampNeg) p t, 0, ct + 1, zt_act 4 (ax p.toNatClampNeg) (ay p.toNatClampNeg) (az p.toNatClampNeg) w) ∧ zt_Kn (upd kn (ax p.toNatClampNeg).toNatClampNeg 1) (zt_act 4 (ax p.toNatClampNeg) (ay p.toNatClampNeg) (az p.toNatClampNeg) w) := by
  rw [zt_stx hp (zt_fl1 (Or.inl ho) h1 h2), ho, zt_npo (by decide) (by decide), zt_nwo (by decide) (by decide), zt_p4, if_pos h1, zt_act4, zt_nxo (by decide) (by decide)]
  exact ⟨rfl, zt_Kn_asg hk⟩
theorem zt_s11 {p ct t : Int32} {w : zt_WS} {kn : Nat → Int32} (hp : p < n) (ho : op p.toNatClampNeg = 4) (h1 : w.2.1 (ay p.toNatClampNeg).toNatClampNeg = 2) (h2 : w.2.1 (az p.toNatClampNeg).toNatClampNeg = 2) (hk : zt_Kn kn w) :
    zt_step n op ax ay az (p, 0, ct, w) = (zt_nx (op p.toNatClampNeg) (ax p.toNatClampNeg) (ay p.toNatClampNeg) p t, 0, ct + 1, zt_act 11 (ax p.toNatClampNeg) (ay p.toNatClampNeg) (az p.toNatClampNeg) w) ∧ zt_Kn (upd kn (ax p.toNatClampNeg).toNatClampNeg 2) (zt_act 11 (ax p.toNatClampNeg) (ay p.toNatClampNeg) (az p.toNatClampNeg) w) := by
  rw [zt_stx hp (by rw [ho]; exact zt_fl2 h1 h2), ho, zt_npo (by decide) (by decide), zt_nwo (by decide) (by decide), zt_p4, if_neg (zt_ne h1 (by decide)), zt_act11, zt_nxo (by decide) (by decide)]
  exact ⟨rfl, zt_Kn_asg hk⟩
end ZC6
end
section
/-! 06: the compiler's walk -/
section ZD
variable {f_hotAt f_length f_place f_status f_executed f_printedCount f_recording f_header f_recorded f_traceCount f_codeEnd : Int32}
variable {a_opcode a_fieldX a_fieldY a_fieldZ a_sorts a_values a_jumps a_traceAt a_recordPlace a_recordLeft a_recordRight a_recordTaken a_traceStart a_traceEnd a_traceSteps a_operation a_origin a_target a_left a_right a_known a_az : Nat → Int32}
variable {a_printedValues : Nat → Int64}
theorem zt_xwrite {post : SX → Prop} {j : Nat} {p0 p1 p2 p3 p4 : Int32} (hce : f_codeEnd = nI j) (hj : j < 288) (b0 : vp_nar .byte p0.toInt8.toInt32 = p0) (b1 : vp_nar .byte p1.toInt8.toInt32 = p1) (b2 : vp_nar .byte p2.toInt8.toInt32 = p2)
    (h : post (f_hotAt, f_length, f_place, f_status, f_executed, f_printedCount, f_recording, f_header, f_recorded, f_traceCount, (nI (j + 1)), a_opcode, a_fieldX, a_fieldY, a_fieldZ, a_sorts, a_values, a_printedValues, a_jumps, a_traceAt, a_recordPlace, a_recordLeft, a_recordRight, a_recordTaken, a_traceStart, a_traceEnd, a_traceSteps, (upd a_operation j p0), (upd a_origin j p1), (upd a_target j p2), (upd a_left j p3), (upd a_right j (vp_nar .byte p4.toInt8.toInt32)), a_known)) : wpX_write post (f_hotAt, f_length, f_place, f_status, f_executed, f_printedCount, f_recording, f_header, f_recorded, f_traceCount, f_codeEnd, a_opcode, a_fieldX, a_fieldY, a_fieldZ, a_sorts, a_values, a_printedValues, a_jumps, a_traceAt, a_recordPlace, a_recordLeft, a_recordRight, a_recordTaken, a_traceStart, a_traceEnd, a_traceSteps, a_operation, a_origin, a_target, a_left, a_right, a_known) p0 p1 p2 p3 p4 := by
  subst hce
  unfold wpX_write
  dsimp only
  have hi : vp_in (nI j) 288 := vp_in_nI hj (by omega)
  rw [b0, b1, b2, nI_clamp (show j < 2 ^ 31 by omega)]
  exact ⟨hi, nm_e ⟨hi, nm_e ⟨hi, nm_e ⟨hi, nm_e ⟨hi, nm_e (nm_r (nI_1 j) h)⟩⟩⟩⟩⟩
theorem zt_xguard {post : SX → Prop} {tc s c k : Nat} {hd p v sv : Int32} (hce : f_codeEnd = nI (s + c)) (hj : s + c < 288) (hp : vp_in p 24) (hv : vp_in v 6) (hs : vp_nar .byte sv.toInt8.toInt32 = sv) (hK : zt_KV a_known)
    (J : zt_CJ f_length a_opcode a_fieldX a_fieldY a_fieldZ tc s hd a_traceAt a_traceStart a_traceEnd a_traceSteps a_operation a_origin a_target a_left a_right c k p (zt_Kn a_known))
    (h : ∀ (c' : Nat) (ce' : Int32) (a_operation' : Nat → Int32) (a_origin' : Nat → Int32) (a_target' : Nat → Int32) (a_left' : Nat → Int32) (a_right' : Nat → Int32) (kn' : Nat → Int32), c' ≤ c + 1 → ce' = nI (s + c') → zt_CJ f_length a_opcode a_fieldX a_fieldY a_fieldZ tc s hd a_traceAt a_traceStart a_traceEnd a_traceSteps a_operation' a_origin' a_target' a_left' a_right' c' k p (zt_Kn kn') → zt_KV kn' → kn' v.toNatClampNeg = sv → (∀ u, u ≠ v.toNatClampNeg → kn' u = a_known u) →
      post (f_hotAt, f_length, f_place, f_status, f_executed, f_printedCount, f_recording, f_header, f_recorded, f_traceCount, ce', a_opcode, a_fieldX, a_fieldY, a_fieldZ, a_sorts, a_values, a_printedValues, a_jumps, a_traceAt, a_recordPlace, a_recordLeft, a_recordRight, a_recordTaken, a_traceStart, a_traceEnd, a_traceSteps, a_operation', a_origin', a_target', a_left', a_right', kn')) : wpX_guard post (f_hotAt, f_length, f_place, f_status, f_executed, f_printedCount, f_recording, f_header, f_recorded, f_traceCount, f_codeEnd, a_opcode, a_fieldX, a_fieldY, a_fieldZ, a_sorts, a_values, a_printedValues, a_jumps, a_traceAt, a_recordPlace, a_recordLeft, a_recordRight, a_recordTaken, a_traceStart, a_traceEnd, a_traceSteps, a_operation, a_origin, a_target, a_left, a_right, a_known) p v sv := by
  unfold wpX_guard
  dsimp only
  refine ⟨hv, ?_⟩
  by_cases e : a_known v.toNatClampNeg = sv
  · exact br_t e (h c f_codeEnd a_operation a_origin a_target a_left a_right a_known (by omega) hce J hK e (fun _ _ => rfl))
  · refine br_f e (zt_xwrite hce hj (by decide) (zt_bi hp (by omega)) (zt_bi hv (by omega)) (And.intro hv ?_))
    rw [hs]
    refine nm_e (h (c + 1) _ _ _ _ _ _ _ (Nat.le_refl _) rfl (zt_CJ_g J (by decide) hv (fun w _ hF hg => zt_Kn_g hF hg)) (zt_KV_u hK ((zt_i8 sv).symm.trans hs)) zt_us (fun u hu => zt_un hu))
theorem zt_xcbr {post : SX → Prop} {tc s c k : Nat} {hd p : Int32} (hce : f_codeEnd = nI (s + c)) (hj : s + c + 1 < 288) (hp : vp_in p 24) (hpn : p < f_length) (ho : a_opcode p.toNatClampNeg = 8) (hx : vp_in (a_fieldX p.toNatClampNeg) 6) (hk : k < 24)
    (J : zt_CJ f_length a_opcode a_fieldX a_fieldY a_fieldZ tc s hd a_traceAt a_traceStart a_traceEnd a_traceSteps a_operation a_origin a_target a_left a_right c k p (zt_Kn a_known))
    (h : ∀ (c' : Nat) (ce' : Int32) (a_operation' : Nat → Int32) (a_origin' : Nat → Int32) (a_target' : Nat → Int32) (a_left' : Nat → Int32) (a_right' : Nat → Int32), c' ≤ c + 2 → ce' = nI (s + c') → zt_CJ f_length a_opcode a_fieldX a_fieldY a_fieldZ tc s hd a_traceAt a_traceStart a_traceEnd a_traceSteps a_operation' a_origin' a_target' a_left' a_right' c' (k + 1) (zt_nx (a_opcode p.toNatClampNeg) (a_fieldX p.toNatClampNeg) (a_fieldY p.toNatClampNeg) p (a_recordTaken k)) (zt_Kn a_known) →
      post (f_hotAt, f_length, f_place, f_status, f_executed, f_printedCount, f_recording, f_header, f_recorded, f_traceCount, ce', a_opcode, a_fieldX, a_fieldY, a_fieldZ, a_sorts, a_values, a_printedValues, a_jumps, a_traceAt, a_recordPlace, a_recordLeft, a_recordRight, a_recordTaken, a_traceStart, a_traceEnd, a_traceSteps, a_operation', a_origin', a_target', a_left', a_right', a_known)) : wpX_compileBranch post (f_hotAt, f_length, f_place, f_status, f_executed, f_printedCount, f_recording, f_header, f_recorded, f_traceCount, f_codeEnd, a_opcode, a_fieldX, a_fieldY, a_fieldZ, a_sorts, a_values, a_printedValues, a_jumps, a_traceAt, a_recordPlace, a_recordLeft, a_recordRight, a_recordTaken, a_traceStart, a_traceEnd, a_traceSteps, a_operation, a_origin, a_target, a_left, a_right, a_known) (nI k) p (a_fieldX p.toNatClampNeg) := by
  unfold wpX_compileBranch wX_compileBranch_41 wX_compileBranch_65 wX_compileBranch_72
  dsimp only
  rw [nI_clamp (show k < 2 ^ 31 by omega)]
  have hki : vp_in (nI k) 24 := vp_in_nI hk (by omega)
  have bp := zt_bi hp (by omega)
  have bx := zt_bi hx (by omega)
  refine ⟨hki, ?_⟩
  by_cases t : a_recordTaken k = 0
  · refine br_t t ⟨hx, ?_⟩
    by_cases e : a_known (a_fieldX p.toNatClampNeg).toNatClampNeg = 1
    · refine br_t e (br_f (by decide) (zt_xwrite hce (by omega) (by decide) bp bx ?_))
      exact h (c + 1) _ _ _ _ _ _ (by omega) rfl (zt_CJ_o J (Or.inl rfl) (fun w ct hw hF => zt_s8f hpn ho t (zt_cn1 (zt_Kn_v hF hx e (by decide))) hF))
    · refine br_f e (br_t rfl ⟨hki, br_t t (zt_xwrite hce (by omega) (by decide) bp bx (zt_xwrite (j := s + c + 1) rfl (by omega) (by decide) bp bx ?_))⟩)
      exact h (c + 2) _ _ _ _ _ _ (by omega) rfl (zt_CJ_o (c := c + 1) (F0 := fun w => zt_cnt (a_fieldX p.toNatClampNeg) w = 1 ∧ zt_Kn a_known w) (zt_CJ_g J (by decide) hx (fun w _ hF hg => ⟨zt_gh14 hg, hF⟩)) (Or.inl rfl) (fun w ct hw hF => zt_s8f hpn ho t hF.1 hF.2))
  · refine br_f t ⟨hx, ?_⟩
    by_cases e : a_known (a_fieldX p.toNatClampNeg).toNatClampNeg = 0
    · refine br_t e (br_f (by decide) (zt_xwrite hce (by omega) (by decide) bp bx ?_))
      exact h (c + 1) _ _ _ _ _ _ (by omega) rfl (zt_CJ_o J (Or.inl rfl) (fun w ct hw hF => zt_s8t hpn ho t (zt_cn0 (zt_Kn_v hF hx e (by decide))) hF))
    · refine br_f e (br_t rfl ⟨hki, br_f t (zt_xwrite hce (by omega) (by decide) bp bx (zt_xwrite (j := s + c + 1) rfl (by omega) (by decide) bp bx ?_))⟩)
      exact h (c + 2) _ _ _ _ _ _ (by omega) rfl (zt_CJ_o (c := c + 1) (F0 := fun w => zt_cnt (a_fieldX p.toNatClampNeg) w = 0 ∧ zt_Kn a_known w) (zt_CJ_g J (by decide) hx (fun w _ hF hg => ⟨zt_gh13 hg, hF⟩)) (Or.inl rfl) (fun w ct hw hF => zt_s8t hpn ho t hF.1 hF.2))
theorem zt_xc146 {post : SX → Prop} {j : Nat} {p o x y z made o' : Int32} (hce : f_codeEnd = nI j) (hj : j < 288) (b0 : vp_nar .byte o'.toInt8.toInt32 = o') (b1 : vp_nar .byte p.toInt8.toInt32 = p) (b2 : vp_nar .byte x.toInt8.toInt32 = x)
    (h3 : o = 3 → vp_in y 6 ∧ vp_in x 6 ∧ post (f_hotAt, f_length, f_place, f_status, f_executed, f_printedCount, f_recording, f_header, f_recorded, f_traceCount, (nI (j + 1)), a_opcode, a_fieldX, a_fieldY, a_fieldZ, a_sorts, a_values, a_printedValues, a_jumps, a_traceAt, a_recordPlace, a_recordLeft, a_recordRight, a_recordTaken, a_traceStart, a_traceEnd, a_traceSteps, (upd a_operation j o'), (upd a_origin j p), (upd a_target j x), (upd a_left j y), (upd a_right j (vp_nar .byte z.toInt8.toInt32)), (upd a_known x.toNatClampNeg (vp_nar .byte (a_known y.toNatClampNeg)))))
    (h9 : ¬ o = 3 → 9 ≤ o → post (f_hotAt, f_length, f_place, f_status, f_executed, f_printedCount, f_recording, f_header, f_recorded, f_traceCount, (nI (j + 1)), a_opcode, a_fieldX, a_fieldY, a_fieldZ, a_sorts, a_values, a_printedValues, a_jumps, a_traceAt, a_recordPlace, a_recordLeft, a_recordRight, a_recordTaken, a_traceStart, a_traceEnd, a_traceSteps, (upd a_operation j o'), (upd a_origin j p), (upd a_target j x), (upd a_left j y), (upd a_right j (vp_nar .byte z.toInt8.toInt32)), a_known))
    (hk : ¬ o = 3 → ¬ 9 ≤ o → vp_in x 6 ∧ post (f_hotAt, f_length, f_place, f_status, f_executed, f_printedCount, f_recording, f_header, f_recorded, f_traceCount, (nI (j + 1)), a_opcode, a_fieldX, a_fieldY, a_fieldZ, a_sorts, a_values, a_printedValues, a_jumps, a_traceAt, a_recordPlace, a_recordLeft, a_recordRight, a_recordTaken, a_traceStart, a_traceEnd, a_traceSteps, (upd a_operation j o'), (upd a_origin j p), (upd a_target j x), (upd a_left j y), (upd a_right j (vp_nar .byte z.toInt8.toInt32)), (upd a_known x.toNatClampNeg (vp_nar .byte made.toInt8.toInt32)))) :
    wX_compileStep_146 post p o x y z made o' f_hotAt f_length f_place f_status f_executed f_printedCount f_recording f_header f_recorded f_traceCount f_codeEnd a_opcode a_fieldX a_fieldY a_fieldZ a_sorts a_values a_printedValues a_jumps a_traceAt a_recordPlace a_recordLeft a_recordRight a_recordTaken a_traceStart a_traceEnd a_traceSteps a_operation a_origin a_target a_left a_right a_known := by
  unfold wX_compileStep_146
  refine zt_xwrite hce hj b0 b1 b2 ?_
  exact br_c (fun e => ⟨(h3 e).1, (h3 e).2.1, nm_e (h3 e).2.2⟩) (fun e => br_c (fun f => h9 e f) (fun f => ⟨(hk e f).1, nm_e (hk e f).2⟩))
theorem zt_xc76p {post : SX → Prop} {k p o x y z made : Int32} (ho : o < 4 ∨ 6 < o) (h4 : ¬ o = 4) (h : wX_compileStep_146 post p o x y z made o f_hotAt f_length f_place f_status f_executed f_printedCount f_recording f_header f_recorded f_traceCount f_codeEnd a_opcode a_fieldX a_fieldY a_fieldZ a_sorts a_values a_printedValues a_jumps a_traceAt a_recordPlace a_recordLeft a_recordRight a_recordTaken a_traceStart a_traceEnd a_traceSteps a_operation a_origin a_target a_left a_right a_known) : wX_compileStep_76 post k p o x y z made f_hotAt f_length f_place f_status f_executed f_printedCount f_recording f_header f_recorded f_traceCount f_codeEnd a_opcode a_fieldX a_fieldY a_fieldZ a_sorts a_values a_printedValues a_jumps a_traceAt a_recordPlace a_recordLeft a_recordRight a_recordTaken a_traceStart a_traceEnd a_traceSteps a_operation a_origin a_target a_left a_right a_known := by
  unfold wX_compileStep_76 wX_compileStep_128 wX_compileStep_145
  by_cases c : o < 4
  · exact br_t c (br_f h4 h)
  · exact br_f c (br_t (ho.resolve_left c) (br_f h4 h))
theorem zt_xc76g {post : SX → Prop} {tc s c k : Nat} {hd p o x y z made sv : Int32} (hk : k < 24) (hce : f_codeEnd = nI (s + c)) (hj : s + c + 1 < 288) (hp : vp_in p 24) (hy : vp_in y 6) (hz : vp_in z 6) (hl : a_recordLeft k = sv) (hr : a_recordRight k = sv) (hs : vp_nar .byte sv.toInt8.toInt32 = sv) (hK : zt_KV a_known)
    (J : zt_CJ f_length a_opcode a_fieldX a_fieldY a_fieldZ tc s hd a_traceAt a_traceStart a_traceEnd a_traceSteps a_operation a_origin a_target a_left a_right c k p (zt_Kn a_known)) (ho4 : ¬ o < 4) (ho6 : ¬ 6 < o)
    (h : ∀ (c' : Nat) (ce' : Int32) (a_operation' : Nat → Int32) (a_origin' : Nat → Int32) (a_target' : Nat → Int32) (a_left' : Nat → Int32) (a_right' : Nat → Int32) (kn' : Nat → Int32), c' ≤ c + 2 → ce' = nI (s + c') → zt_CJ f_length a_opcode a_fieldX a_fieldY a_fieldZ tc s hd a_traceAt a_traceStart a_traceEnd a_traceSteps a_operation' a_origin' a_target' a_left' a_right' c' k p (zt_Kn kn') → zt_KV kn' → kn' y.toNatClampNeg = sv → kn' z.toNatClampNeg = sv →
      wX_compileStep_128 post p o x y z (if o = 4 then sv else made) f_hotAt f_length f_place f_status f_executed f_printedCount f_recording f_header f_recorded f_traceCount ce' a_opcode a_fieldX a_fieldY a_fieldZ a_sorts a_values a_printedValues a_jumps a_traceAt a_recordPlace a_recordLeft a_recordRight a_recordTaken a_traceStart a_traceEnd a_traceSteps a_operation' a_origin' a_target' a_left' a_right' kn') : wX_compileStep_76 post (nI k) p o x y z made f_hotAt f_length f_place f_status f_executed f_printedCount f_recording f_header f_recorded f_traceCount f_codeEnd a_opcode a_fieldX a_fieldY a_fieldZ a_sorts a_values a_printedValues a_jumps a_traceAt a_recordPlace a_recordLeft a_recordRight a_recordTaken a_traceStart a_traceEnd a_traceSteps a_operation a_origin a_target a_left a_right a_known := by
  unfold wX_compileStep_76
  have hki : vp_in (nI k) 24 := vp_in_nI hk (by omega)
  rw [nI_clamp (show k < 2 ^ 31 by omega)]
  refine br_f ho4 (br_f ho6 ⟨hki, ?_⟩)
  rw [hl]
  refine zt_xguard hce (by omega) hp hy hs hK J ?_
  intro c1 ce1 o1 g1 t1 l1 r1 kn1 hc1 hce1 J1 hK1 ey _
  refine And.intro hki ?_
  rw [hr]
  refine zt_xguard hce1 (by omega) hp hz hs hK1 J1 ?_
  intro c2 ce2 o2 g2 t2 l2 r2 kn2 hc2 hce2 J2 hK2 ez hu
  have ey2 : kn2 y.toNatClampNeg = sv := by
    by_cases e : y.toNatClampNeg = z.toNatClampNeg
    · rw [e]; exact ez
    · rw [hu _ e]; exact ey
  have hh := h c2 ce2 o2 g2 t2 l2 r2 kn2 (by omega) hce2 J2 hK2 ey2 ez
  by_cases e4 : o = 4
  · rw [if_pos e4] at hh
    exact br_t e4 ⟨hki, nm_r hl hh⟩
  · rw [if_neg e4] at hh
    exact br_f e4 hh
end ZD
end
section
/-! 07: one recorded step is compiled -/
section ZE
variable {f_hotAt f_length f_place f_status f_executed f_printedCount f_recording f_header f_recorded f_traceCount f_codeEnd : Int32}
variable {a_opcode a_fieldX a_fieldY a_fieldZ a_sorts a_values a_jumps a_traceAt a_recordPlace a_recordLeft a_recordRight a_recordTaken a_traceStart a_traceEnd a_traceSteps a_operation a_origin a_target a_left a_right a_known a_az : Nat → Int32}
variable {a_printedValues : Nat → Int64}
theorem zt_xcstep {post : SX → Prop} {tc s c k : Nat} {hd p : Int32} (hP : zt_PV a_opcode a_fieldX a_fieldY a_fieldZ) (hk : k < 24) (hce : f_codeEnd = nI (s + c)) (hj : s + c + 2 < 288) (hrp : a_recordPlace k = p) (hp : vp_in p 24) (hpn : p < f_length)
    (hRL : a_opcode p.toNatClampNeg = 4 ∨ a_opcode p.toNatClampNeg = 5 ∨ a_opcode p.toNatClampNeg = 6 → (a_recordLeft k = 1 ∧ a_recordRight k = 1) ∨ (a_opcode p.toNatClampNeg = 4 ∧ a_recordLeft k = 2 ∧ a_recordRight k = 2)) (hK : zt_KV a_known)
    (J : zt_CJ f_length a_opcode a_fieldX a_fieldY a_fieldZ tc s hd a_traceAt a_traceStart a_traceEnd a_traceSteps a_operation a_origin a_target a_left a_right c k p (zt_Kn a_known))
    (h : ∀ (c' : Nat) (ce' : Int32) (a_operation' : Nat → Int32) (a_origin' : Nat → Int32) (a_target' : Nat → Int32) (a_left' : Nat → Int32) (a_right' : Nat → Int32) (kn' : Nat → Int32), c' ≤ c + 3 → ce' = nI (s + c') → zt_CJ f_length a_opcode a_fieldX a_fieldY a_fieldZ tc s hd a_traceAt a_traceStart a_traceEnd a_traceSteps a_operation' a_origin' a_target' a_left' a_right' c' (k + 1) (zt_nx (a_opcode p.toNatClampNeg) (a_fieldX p.toNatClampNeg) (a_fieldY p.toNatClampNeg) p (a_recordTaken k)) (zt_Kn kn') → zt_KV kn' →
      post (f_hotAt, f_length, f_place, f_status, f_executed, f_printedCount, f_recording, f_header, f_recorded, f_traceCount, ce', a_opcode, a_fieldX, a_fieldY, a_fieldZ, a_sorts, a_values, a_printedValues, a_jumps, a_traceAt, a_recordPlace, a_recordLeft, a_recordRight, a_recordTaken, a_traceStart, a_traceEnd, a_traceSteps, a_operation', a_origin', a_target', a_left', a_right', kn')) : wpX_compileStep post (f_hotAt, f_length, f_place, f_status, f_executed, f_printedCount, f_recording, f_header, f_recorded, f_traceCount, f_codeEnd, a_opcode, a_fieldX, a_fieldY, a_fieldZ, a_sorts, a_values, a_printedValues, a_jumps, a_traceAt, a_recordPlace, a_recordLeft, a_recordRight, a_recordTaken, a_traceStart, a_traceEnd, a_traceSteps, a_operation, a_origin, a_target, a_left, a_right, a_known) (nI k) := by
  unfold wpX_compileStep wX_compileStep_62
  dsimp only
  have hki : vp_in (nI k) 24 := vp_in_nI hk (by omega)
  rw [nI_clamp (show k < 2 ^ 31 by omega)]
  have bp := zt_bi hp (by omega)
  refine ⟨hki, nm_r hrp ⟨hp, ?_⟩⟩
  rcases hP p.toNatClampNeg with ⟨ho, hx⟩ | ⟨hx, ⟨ho, hy⟩ | (ho | ho | ho | ho) | ⟨hy, ho | ⟨hz, ho | ho | ho | ho⟩⟩⟩
  all_goals refine nm_r ho ⟨hp, nm_e ⟨hp, nm_e ⟨hp, nm_e ?_⟩⟩⟩
  all_goals have bx := zt_bi hx (by omega)
  · -- JUMP
    refine br_f (by decide) (br_f (by decide) (br_f (by decide) (br_f (by decide) (zt_xc76p (by decide) (by decide) (zt_xc146 hce (by omega) (by decide) bp bx (fun e => absurd e (by decide)) (fun _ _ => ?_) (fun _ e => absurd e (by decide)))))))
    exact h (c + 1) _ _ _ _ _ _ a_known (by omega) rfl (zt_CJ_o J (Or.inl rfl) (fun w ct hw hF => zt_s9 hpn ho hF)) hK
  · -- UNLESS
    refine br_t rfl (zt_xcbr hce (by omega) hp hpn ho hx hk J ?_)
    intro c1 ce1 o1 g1 t1 l1 r1 hc1 hce1 J1
    exact h c1 ce1 o1 g1 t1 l1 r1 a_known (by omega) hce1 J1 hK
  · -- LET
    refine br_f (by decide) (br_t rfl (zt_xc76p (by decide) (by decide) (zt_xc146 hce (by omega) (by decide) bp bx (fun e => absurd e (by decide)) (fun _ e => absurd e (by decide)) (fun _ _ => ⟨hx, ?_⟩))))
    rw [zt_s1]
    exact h (c + 1) _ _ _ _ _ _ _ (by omega) rfl (zt_CJ_o J (Or.inr (Or.inr ⟨hx, Or.inl (Or.inl rfl)⟩)) (fun w ct hw hF => zt_sp hpn ho (by decide) (by rw [zt_p0, zt_p0]) (by rw [zt_p0]; exact zt_Kn_asg hF))) (zt_KV_u hK zt_vb1)
  · -- FLAG
    refine br_f (by decide) (br_f (by decide) (br_f (by decide) (br_f (by decide) (zt_xc76p (by decide) (by decide) (zt_xc146 hce (by omega) (by decide) bp bx (fun e => absurd e (by decide)) (fun _ e => absurd e (by decide)) (fun _ _ => ⟨hx, ?_⟩))))))
    rw [zt_s2]
    exact h (c + 1) _ _ _ _ _ _ _ (by omega) rfl (zt_CJ_o J (Or.inr (Or.inr ⟨hx, Or.inl (Or.inr (Or.inl rfl))⟩)) (fun w ct hw hF => zt_sp hpn ho (by decide) (by rw [zt_p1, zt_p1]) (by rw [zt_p1]; exact zt_Kn_asg hF))) (zt_KV_u hK zt_vb2)
  · -- VOID
    refine br_f (by decide) (br_f (by decide) (br_f (by decide) (br_t rfl (zt_xc76p (by decide) (by decide) (zt_xc146 hce (by omega) (by decide) bp bx (fun e => absurd e (by decide)) (fun _ e => absurd e (by decide)) (fun _ _ => ⟨hx, ?_⟩))))))
    rw [zt_s0]
    exact h (c + 1) _ _ _ _ _ _ _ (by omega) rfl (zt_CJ_o J (Or.inr (Or.inr ⟨hx, Or.inl (Or.inr (Or.inr (Or.inl rfl)))⟩)) (fun w ct hw hF => zt_sp hpn ho (by decide) (by rw [zt_p2, zt_p2]) (by rw [zt_p2]; exact zt_Kn_asg hF))) (zt_KV_u hK zt_vb0)
  · -- PRINT
    refine br_f (by decide) (br_f (by decide) (br_f (by decide) (br_f (by decide) (zt_xc76p (by decide) (by decide) (zt_xc146 hce (by omega) (by decide) bp bx (fun e => absurd e (by decide)) (fun _ _ => ?_) (fun _ e => absurd e (by decide)))))))
    exact h (c + 1) _ _ _ _ _ _ a_known (by omega) rfl (zt_CJ_o J (Or.inr (Or.inr ⟨hx, Or.inl (Or.inr (Or.inr (Or.inr rfl)))⟩)) (fun w ct hw hF => zt_sp hpn ho (by decide) (by rw [zt_p10, zt_p10]) (by rw [zt_p10]; exact hF))) hK
  · -- MOVE
    refine br_f (by decide) (br_f (by decide) (br_f (by decide) (br_f (by decide) (zt_xc76p (by decide) (by decide) (zt_xc146 hce (by omega) (by decide) bp bx (fun _ => ⟨hy, hx, ?_⟩) (fun e _ => absurd rfl e) (fun e _ => absurd rfl e))))))
    rw [hK _ (zt_cl hy)]
    exact h (c + 1) _ _ _ _ _ _ _ (by omega) rfl (zt_CJ_o J (Or.inr (Or.inr ⟨hx, Or.inr ⟨hy, Or.inl rfl⟩⟩)) (fun w ct hw hF => zt_sp hpn ho (by decide) (by rw [zt_p3, zt_p3]) (by rw [zt_p3]; exact zt_Kn_mv hF hy))) (zt_KV_u hK (hK _ (zt_cl hy)))
  · -- ADD
    have bz := zt_bi hz (by omega)
    refine br_f (by decide) (br_f (by decide) (br_f (by decide) (br_f (by decide) ?_)))
    rcases hRL (Or.inl ho) with ⟨hl, hr⟩ | ⟨_, hl, hr⟩
    · refine zt_xc76g hk hce (by omega) hp hy hz hl hr zt_s1 hK J (by decide) (by decide) ?_
      intro c1 ce1 o1 g1 t1 l1 r1 kn1 hc1 hce1 J1 hK1 ey ez
      rw [if_pos rfl]
      unfold wX_compileStep_128 wX_compileStep_145
      refine br_t rfl (br_f (by decide) (zt_xc146 hce1 (by omega) (by decide) bp bx (fun e => absurd e (by decide)) (fun _ e => absurd e (by decide)) (fun _ _ => ⟨hx, ?_⟩)))
      rw [zt_s1, bz]
      exact h (c1 + 1) _ _ _ _ _ _ _ (by omega) rfl (zt_CJ_o J1 (Or.inr (Or.inr ⟨hx, Or.inr ⟨hy, Or.inr ⟨hz, Or.inl rfl⟩⟩⟩)) (fun w ct hw hF => zt_s4 hpn ho (zt_Kn_v hF hy ey (by decide)) (zt_Kn_v hF hz ez (by decide)) hF)) (zt_KV_u hK1 zt_vb1)
    · refine zt_xc76g hk hce (by omega) hp hy hz hl hr zt_s2 hK J (by decide) (by decide) ?_
      intro c1 ce1 o1 g1 t1 l1 r1 kn1 hc1 hce1 J1 hK1 ey ez
      rw [if_pos rfl]
      unfold wX_compileStep_128 wX_compileStep_145
      refine br_t rfl (br_t rfl (zt_xc146 hce1 (by omega) (by decide) bp bx (fun e => absurd e (by decide)) (fun _ e => absurd e (by decide)) (fun _ _ => ⟨hx, ?_⟩)))
      rw [zt_s2, bz]
      exact h (c1 + 1) _ _ _ _ _ _ _ (by omega) rfl (zt_CJ_o J1 (Or.inr (Or.inl ⟨rfl, hx, hy, hz⟩)) (fun w ct hw hF => zt_s11 hpn ho (zt_Kn_v hF hy ey (by decide)) (zt_Kn_v hF hz ez (by decide)) hF)) (zt_KV_u hK1 zt_vb2)
  · -- SUB
    have bz := zt_bi hz (by omega)
    refine br_f (by decide) (br_f (by decide) (br_t rfl ?_))
    obtain ⟨hl, hr⟩ : a_recordLeft k = 1 ∧ a_recordRight k = 1 := by
      rcases hRL (Or.inr (Or.inl ho)) with h | ⟨e, _⟩
      · exact h
      · rw [ho] at e; exact absurd e (by decide)
    refine zt_xc76g hk hce (by omega) hp hy hz hl hr zt_s1 hK J (by decide) (by decide) ?_
    intro c1 ce1 o1 g1 t1 l1 r1 kn1 hc1 hce1 J1 hK1 ey ez
    rw [if_neg (by decide)]
    unfold wX_compileStep_128 wX_compileStep_145
    refine br_f (by decide) (zt_xc146 hce1 (by omega) (by decide) bp bx (fun e => absurd e (by decide)) (fun _ e => absurd e (by decide)) (fun _ _ => ⟨hx, ?_⟩))
    rw [zt_s1, bz]
    exact h (c1 + 1) _ _ _ _ _ _ _ (by omega) rfl (zt_CJ_o J1 (Or.inr (Or.inr ⟨hx, Or.inr ⟨hy, Or.inr ⟨hz, Or.inr (Or.inl rfl)⟩⟩⟩)) (fun w ct hw hF => zt_sc hpn ho (Or.inl rfl) (zt_Kn_v hF hy ey (by decide)) (zt_Kn_v hF hz ez (by decide)) (by rw [zt_p5]; exact zt_Kn_asg hF))) (zt_KV_u hK1 zt_vb1)
  · -- LESS
    have bz := zt_bi hz (by omega)
    refine br_f (by decide) (br_f (by decide) (br_f (by decide) (br_f (by decide) ?_)))
    obtain ⟨hl, hr⟩ : a_recordLeft k = 1 ∧ a_recordRight k = 1 := by
      rcases hRL (Or.inr (Or.inr ho)) with h | ⟨e, _⟩
      · exact h
      · rw [ho] at e; exact absurd e (by decide)
    refine zt_xc76g hk hce (by omega) hp hy hz hl hr zt_s1 hK J (by decide) (by decide) ?_
    intro c1 ce1 o1 g1 t1 l1 r1 kn1 hc1 hce1 J1 hK1 ey ez
    rw [if_neg (by decide)]
    unfold wX_compileStep_128 wX_compileStep_145
    refine br_f (by decide) (zt_xc146 hce1 (by omega) (by decide) bp bx (fun e => absurd e (by decide)) (fun _ e => absurd e (by decide)) (fun _ _ => ⟨hx, ?_⟩))
    rw [zt_s2, bz]
    exact h (c1 + 1) _ _ _ _ _ _ _ (by omega) rfl (zt_CJ_o J1 (Or.inr (Or.inr ⟨hx, Or.inr ⟨hy, Or.inr ⟨hz, Or.inr (Or.inr (Or.inl rfl))⟩⟩⟩)) (fun w ct hw hF => zt_sc hpn ho (Or.inr rfl) (zt_Kn_v hF hy ey (by decide)) (zt_Kn_v hF hz ez (by decide)) (by rw [zt_p6]; exact zt_Kn_asg hF))) (zt_KV_u hK1 zt_vb2)
  · -- SAME
    have bz := zt_bi hz (by omega)
    refine br_f (by decide) (br_f (by decide) (br_f (by decide) (br_f (by decide) (zt_xc76p (by decide) (by decide) (zt_xc146 hce (by omega) (by decide) bp bx (fun e => absurd e (by decide)) (fun _ e => absurd e (by decide)) (fun _ _ => ⟨hx, ?_⟩))))))
    rw [zt_s2, bz]
    exact h (c + 1) _ _ _ _ _ _ _ (by omega) rfl (zt_CJ_o J (Or.inr (Or.inr ⟨hx, Or.inr ⟨hy, Or.inr ⟨hz, Or.inr (Or.inr (Or.inr rfl))⟩⟩⟩)) (fun w ct hw hF => zt_sp hpn ho (by decide) rfl (by rw [zt_p7]; exact zt_Kn_asg hF))) (zt_KV_u hK zt_vb2)
end ZE
end
section
/-! 08: a whole recording is compiled -/
def zt_pl (op ax ay rP rT : Nat → Int32) (hd : Int32) : Nat → Int32
  | 0 => hd
  | k + 1 => zt_nx (op (rP k).toNatClampNeg) (ax (rP k).toNatClampNeg) (ay (rP k).toNatClampNeg) (rP k) (rT k)
def zt_RK (n : Int32) (op ax ay rP rL rR rT : Nat → Int32) (hd : Int32) (k : Nat) : Prop :=
  rP k = zt_pl op ax ay rP rT hd k ∧ vp_in (rP k) 24 ∧ rP k < n ∧
  (op (rP k).toNatClampNeg = 4 ∨ op (rP k).toNatClampNeg = 5 ∨ op (rP k).toNatClampNeg = 6 → (rL k = 1 ∧ rR k = 1) ∨ (op (rP k).toNatClampNeg = 4 ∧ rL k = 2 ∧ rR k = 2))
def zt_RI (n : Int32) (op ax ay rP rL rR rT : Nat → Int32) (hd : Int32) (rc : Nat) (pc : Int32) : Prop :=
  rc ≤ 24 ∧ vp_in hd 24 ∧ pc = zt_pl op ax ay rP rT hd rc ∧ ∀ k, k < rc → zt_RK n op ax ay rP rL rR rT hd k
section ZG
variable {f_hotAt f_length f_place f_status f_executed f_printedCount f_recording f_header f_recorded f_traceCount f_codeEnd : Int32}
variable {a_opcode a_fieldX a_fieldY a_fieldZ a_sorts a_values a_jumps a_traceAt a_recordPlace a_recordLeft a_recordRight a_recordTaken a_traceStart a_traceEnd a_traceSteps a_operation a_origin a_target a_left a_right a_known a_az : Nat → Int32}
variable {a_printedValues : Nat → Int64}
theorem zt_xc49 {post : SX → Prop} {tc s rc : Nat} (hP : zt_PV a_opcode a_fieldX a_fieldY a_fieldZ) (htc : tc < 4) (hs : s ≤ 216) (hrc : rc ≤ 24) (hh : vp_in f_header 24) (er : f_recorded = nI rc)
    (hR : ∀ k, k < rc → zt_RK f_length a_opcode a_fieldX a_fieldY a_recordPlace a_recordLeft a_recordRight a_recordTaken f_header k)
    (h : ∀ (c' : Nat) (a_operation' : Nat → Int32) (a_origin' : Nat → Int32) (a_target' : Nat → Int32) (a_left' : Nat → Int32) (a_right' : Nat → Int32) (kn' : Nat → Int32), c' ≤ 72 → zt_CJ f_length a_opcode a_fieldX a_fieldY a_fieldZ tc s f_header a_traceAt a_traceStart a_traceEnd a_traceSteps a_operation' a_origin' a_target' a_left' a_right' c' rc (zt_pl a_opcode a_fieldX a_fieldY a_recordPlace a_recordTaken f_header rc) (zt_Kn kn') →
      post (f_hotAt, f_length, f_place, f_status, f_executed, f_printedCount, 0, f_header, f_recorded, f_traceCount, (nI (s + c')), a_opcode, a_fieldX, a_fieldY, a_fieldZ, a_sorts, a_values, a_printedValues, a_jumps, (upd a_traceAt f_header.toNatClampNeg (nI tc)), a_recordPlace, a_recordLeft, a_recordRight, a_recordTaken, a_traceStart, (upd a_traceEnd tc (nI (s + c'))), (upd a_traceSteps tc (nI rc)), a_operation', a_origin', a_target', a_left', a_right', kn')) :
    ∀ (d k : Nat), k + d = rc → ∀ (c : Nat) (f_codeEnd : Int32) (a_operation : Nat → Int32) (a_origin : Nat → Int32) (a_target : Nat → Int32) (a_left : Nat → Int32) (a_right : Nat → Int32) (a_known : Nat → Int32), c ≤ 3 * k → f_codeEnd = nI (s + c) → zt_KV a_known →
      zt_CJ f_length a_opcode a_fieldX a_fieldY a_fieldZ tc s f_header a_traceAt a_traceStart a_traceEnd a_traceSteps a_operation a_origin a_target a_left a_right c k (zt_pl a_opcode a_fieldX a_fieldY a_recordPlace a_recordTaken f_header k) (zt_Kn a_known) →
      wX_compileTrace_49 post (nI tc) (d + 1) (nI k) f_hotAt f_length f_place f_status f_executed f_printedCount f_recording f_header f_recorded f_traceCount f_codeEnd a_opcode a_fieldX a_fieldY a_fieldZ a_sorts a_values a_printedValues a_jumps a_traceAt a_recordPlace a_recordLeft a_recordRight a_recordTaken a_traceStart a_traceEnd a_traceSteps a_operation a_origin a_target a_left a_right a_known := by
  intro d
  induction d with
  | zero =>
    intro k hk c f_codeEnd a_operation a_origin a_target a_left a_right a_known hc hce hK J
    obtain rfl : k = rc := by omega
    subst er
    subst hce
    have hti : vp_in (nI tc) 4 := vp_in_nI htc (by omega)
    rw [wX_compileTrace_49]
    dsimp only
    rw [nI_clamp (show tc < 2 ^ 31 by omega), zt_sN (show s + c < 32768 by omega), zt_bN (show k < 128 by omega), zt_bN (show tc < 128 by omega)]
    exact br_t (nI_le (by omega) (by omega)) ⟨hti, nm_e ⟨hti, nm_e ⟨hh, nm_e (h c _ _ _ _ _ _ (by omega) J)⟩⟩⟩
  | succ d ih =>
    intro k hk c f_codeEnd a_operation a_origin a_target a_left a_right a_known hc hce hK J
    obtain ⟨h1, h2, h3, h4⟩ := hR k (by omega)
    rw [wX_compileTrace_49]
    dsimp only
    refine br_f (by rw [er]; exact nI_ge (by omega) (by omega)) (zt_xcstep hP (by omega) hce (by omega) h1 (h1 ▸ h2) (h1 ▸ h3) (h1 ▸ h4) hK J ?_)
    intro c' ce' o' g' t' l' r' kn' hc' hce' J' hK'
    rw [← h1] at J'
    exact nm_r (nI_1 k) (ih (k + 1) (by omega) c' ce' o' g' t' l' r' kn' (by omega) hce' hK' J')
theorem zt_xc28 {post : SX → Prop} {x1 : Int32} (h : ∀ kn' : Nat → Int32, (∀ v, v < 6 → kn' v = -1) → ∃ n49, wX_compileTrace_49 post x1 n49 0 f_hotAt f_length f_place f_status f_executed f_printedCount f_recording f_header f_recorded f_traceCount f_codeEnd a_opcode a_fieldX a_fieldY a_fieldZ a_sorts a_values a_printedValues a_jumps a_traceAt a_recordPlace a_recordLeft a_recordRight a_recordTaken a_traceStart a_traceEnd a_traceSteps a_operation a_origin a_target a_left a_right kn') :
    ∀ (d i : Nat), i + d = 6 → ∀ a_known : Nat → Int32, (∀ v, v < i → a_known v = -1) → wX_compileTrace_28 post x1 f_hotAt f_length f_place f_status f_executed f_printedCount f_recording f_header f_recorded f_traceCount f_codeEnd (d + 1) (nI i) a_opcode a_fieldX a_fieldY a_fieldZ a_sorts a_values a_printedValues a_jumps a_traceAt a_recordPlace a_recordLeft a_recordRight a_recordTaken a_traceStart a_traceEnd a_traceSteps a_operation a_origin a_target a_left a_right a_known := by
  intro d
  induction d with
  | zero =>
    intro i hi kn hkn
    obtain rfl : i = 6 := by omega
    exact br_t (nI_le (a := 6) (by omega) (by omega)) (h kn hkn)
  | succ d ih =>
    intro i hi kn hkn
    rw [wX_compileTrace_28]
    dsimp only
    rw [nI_clamp (show i < 2 ^ 31 by omega), zt_vbm1]
    refine br_f (nI_ge (b := 6) (by omega) (by omega)) ⟨vp_in_nI (by omega) (by omega), nm_e (nm_r (nI_1 i) (ih (i + 1) (by omega) _ ?_))⟩
    intro v hv
    by_cases e : v = i
    · subst e; exact zt_us
    · rw [zt_un e]; exact hkn v (by omega)
theorem zt_xctrace {post : SX → Prop} {tc s rc : Nat} (hP : zt_PV a_opcode a_fieldX a_fieldY a_fieldZ) (hT : zt_TI f_length a_opcode a_fieldX a_fieldY a_fieldZ tc s a_traceAt a_traceStart a_traceEnd a_traceSteps a_operation a_origin a_target a_left a_right) (htc : tc < 4) (ec : f_traceCount = nI tc) (ee : f_codeEnd = nI s) (er : f_recorded = nI rc) (hr0 : 0 < rc)
    (hR : zt_RI f_length a_opcode a_fieldX a_fieldY a_recordPlace a_recordLeft a_recordRight a_recordTaken f_header rc f_header)
    (h : ∀ (ce2 : Nat) (a_operation' : Nat → Int32) (a_origin' : Nat → Int32) (a_target' : Nat → Int32) (a_left' : Nat → Int32) (a_right' : Nat → Int32) (kn' tA' tS' tE' tN' : Nat → Int32), zt_TI f_length a_opcode a_fieldX a_fieldY a_fieldZ (tc + 1) ce2 tA' tS' tE' tN' a_operation' a_origin' a_target' a_left' a_right' →
      post (f_hotAt, f_length, f_place, f_status, f_executed, f_printedCount, 0, f_header, f_recorded, (nI (tc + 1)), (nI ce2), a_opcode, a_fieldX, a_fieldY, a_fieldZ, a_sorts, a_values, a_printedValues, a_jumps, tA', a_recordPlace, a_recordLeft, a_recordRight, a_recordTaken, tS', tE', tN', a_operation', a_origin', a_target', a_left', a_right', kn')) : wpX_compileTrace post (f_hotAt, f_length, f_place, f_status, f_executed, f_printedCount, f_recording, f_header, f_recorded, f_traceCount, f_codeEnd, a_opcode, a_fieldX, a_fieldY, a_fieldZ, a_sorts, a_values, a_printedValues, a_jumps, a_traceAt, a_recordPlace, a_recordLeft, a_recordRight, a_recordTaken, a_traceStart, a_traceEnd, a_traceSteps, a_operation, a_origin, a_target, a_left, a_right, a_known) := by
  obtain ⟨hT1, hT2, hT3⟩ := hT
  obtain ⟨hR1, hR2, hR3, hR4⟩ := hR
  subst ec
  subst ee
  unfold wpX_compileTrace
  dsimp only
  rw [nI_clamp (show tc < 2 ^ 31 by omega), zt_sN (show s < 32768 by omega)]
  refine nm_r (nI_1 tc) ⟨vp_in_nI htc (by omega), nm_e ⟨7, zt_xc28 ?_ 6 0 (by omega) _ (fun v hv => absurd hv (by omega))⟩⟩
  intro kn hkn
  refine ⟨rc + 1, zt_xc49 (s := s) (rc := rc) hP htc (by omega) hR1 hR2 er hR4 ?_ rc 0 (by omega) 0 _ _ _ _ _ _ _ (by omega) rfl ?_ ?_⟩
  · intro c' o' g' t' l' r' kn' hc' J'
    refine h (s + c') o' g' t' l' r' kn' _ _ _ _ ⟨by omega, by omega, ?_⟩
    intro i hi
    by_cases e : i = f_header.toNatClampNeg
    · rw [e, zt_us]
      refine Or.inr (Or.inr ⟨tc, s, c', rc, zt_Kn kn', by omega, rfl, zt_us, zt_us, zt_us, hr0, hR1, Nat.le_refl _, ?_⟩)
      have hJ := J'.1
      rw [← hR3] at hJ
      rw [← zt_inI hR2 (by omega)]
      exact hJ
    · rw [zt_un e]
      exact zt_TA_m (J'.2 i hi) (by omega) (by omega) (fun _ _ => rfl) (fun t ht => zt_un (by omega)) (fun t ht => zt_un (by omega))
  · intro v hv
    rw [hkn v hv]
    exact zt_vbm1
  · refine ⟨zt_CT_0 (fun w v hv => Or.inl (hkn v hv)), ?_⟩
    intro i hi
    exact zt_TA_m (hT3 i hi) (Nat.le_refl _) (Nat.le_refl _) (fun t ht => zt_un (by omega)) (fun _ _ => rfl) (fun _ _ => rfl)
end ZG
end
section
/-! 09: recording, jumping back, one instruction interpreted -/
def zt_TR (n : Int32) (op ax ay az : Nat → Int32) (rec hd rcI tcI ceI : Int32) (tA rP rL rR rT tS tE tN opn org tgt lft rgt : Nat → Int32) (pc : Int32) : Prop :=
  ∃ tc ce : Nat, tcI = nI tc ∧ ceI = nI ce ∧ zt_TI n op ax ay az tc ce tA tS tE tN opn org tgt lft rgt ∧ (rec = 0 ∨ (tc < 4 ∧ ∃ rc : Nat, rcI = nI rc ∧ zt_RI n op ax ay rP rL rR rT hd rc pc))
theorem zt_flt_l {o y z : Int32} {w : zt_WS} (h : zt_flt o y z w = 0) (ho : o = 4 ∨ o = 5 ∨ o = 6) : (w.2.1 y.toNatClampNeg = 1 ∧ w.2.1 z.toNatClampNeg = 1) ∨ (o = 4 ∧ w.2.1 y.toNatClampNeg = 2 ∧ w.2.1 z.toNatClampNeg = 2) := by
  by_cases h1 : w.2.1 y.toNatClampNeg = 1 ∧ w.2.1 z.toNatClampNeg = 1
  · exact Or.inl h1
  · by_cases h2 : o = 4 ∧ w.2.1 y.toNatClampNeg = 2 ∧ w.2.1 z.toNatClampNeg = 2
    · exact Or.inr h2
    · unfold zt_flt at h
      rw [if_pos ho, if_neg h1, if_neg h2] at h
      exact absurd h (by decide)
section ZR0
variable {n : Int32} {op ax ay rP rL rR rT rL2 rR2 : Nat → Int32} {hd : Int32}
theorem zt_pl_u {rc : Nat} {p t : Int32} : ∀ k, k ≤ rc → zt_pl op ax ay (upd rP rc p) (upd rT rc t) hd k = zt_pl op ax ay rP rT hd k
  | 0, _ => rfl
  | k + 1, h => by
    show zt_nx (op (upd rP rc p k).toNatClampNeg) (ax (upd rP rc p k).toNatClampNeg) (ay (upd rP rc p k).toNatClampNeg) (upd rP rc p k) (upd rT rc t k) = zt_nx (op (rP k).toNatClampNeg) (ax (rP k).toNatClampNeg) (ay (rP k).toNatClampNeg) (rP k) (rT k)
    rw [zt_un (by omega), zt_un (by omega)]
theorem zt_RI_s {rc : Nat} {p t : Int32} (h : zt_RI n op ax ay rP rL rR rT hd rc p) (hrc : rc < 24) (hp : vp_in p 24) (hpn : p < n)
    (hs : op p.toNatClampNeg = 4 ∨ op p.toNatClampNeg = 5 ∨ op p.toNatClampNeg = 6 → (rL2 rc = 1 ∧ rR2 rc = 1) ∨ (op p.toNatClampNeg = 4 ∧ rL2 rc = 2 ∧ rR2 rc = 2)) (hl : ∀ k, k < rc → rL2 k = rL k) (hr : ∀ k, k < rc → rR2 k = rR k) :
    zt_RI n op ax ay (upd rP rc p) rL2 rR2 (upd rT rc t) hd (rc + 1) (zt_nx (op p.toNatClampNeg) (ax p.toNatClampNeg) (ay p.toNatClampNeg) p t) := by
  obtain ⟨h1, h2, h3, h4⟩ := h
  refine ⟨by omega, h2, ?_, ?_⟩
  · show _ = zt_nx (op (upd rP rc p rc).toNatClampNeg) (ax (upd rP rc p rc).toNatClampNeg) (ay (upd rP rc p rc).toNatClampNeg) (upd rP rc p rc) (upd rT rc t rc)
    rw [zt_us, zt_us]
  · intro k hk
    unfold zt_RK
    rw [zt_pl_u k (by omega)]
    by_cases e : k = rc
    · subst e
      rw [zt_us]
      exact ⟨h3, hp, hpn, hs⟩
    · rw [zt_un e, hl k (by omega), hr k (by omega)]
      exact h4 k (by omega)
end ZR0
theorem zt_nx_npc {o x y p t : Int32} {w : zt_WS} (h : o = 8 → (zt_cnt x w = 0 ∧ ¬ t = 0) ∨ (¬ zt_cnt x w = 0 ∧ t = 0)) : zt_nx o x y p t = zt_npc o x y p w := by
  unfold zt_nx zt_npc
  by_cases h9 : o = 9
  · rw [if_pos h9, if_pos h9]
  · rw [if_neg h9, if_neg h9]
    by_cases h8 : o = 8
    · rw [if_pos h8, if_pos h8]
      rcases h h8 with ⟨a, b⟩ | ⟨a, b⟩
      · rw [if_neg b, if_pos a]
      · rw [if_pos b, if_neg a]
    · rw [if_neg h8, if_neg h8]
section ZI
variable {f_hotAt f_length f_place f_status f_executed f_printedCount f_recording f_header f_recorded f_traceCount f_codeEnd : Int32}
variable {a_opcode a_fieldX a_fieldY a_fieldZ a_sorts a_values a_jumps a_traceAt a_recordPlace a_recordLeft a_recordRight a_recordTaken a_traceStart a_traceEnd a_traceSteps a_operation a_origin a_target a_left a_right a_known a_az : Nat → Int32}
variable {a_printedValues : Nat → Int64}
theorem zt_TR0 {pc : Int32} {tc ce : Nat} (e1 : f_traceCount = nI tc) (e2 : f_codeEnd = nI ce) (e3 : f_recording = 0) (h : zt_TI f_length a_opcode a_fieldX a_fieldY a_fieldZ tc ce a_traceAt a_traceStart a_traceEnd a_traceSteps a_operation a_origin a_target a_left a_right) : zt_TR f_length a_opcode a_fieldX a_fieldY a_fieldZ f_recording f_header f_recorded f_traceCount f_codeEnd a_traceAt a_recordPlace a_recordLeft a_recordRight a_recordTaken a_traceStart a_traceEnd a_traceSteps a_operation a_origin a_target a_left a_right pc :=
  ⟨tc, ce, e1, e2, h, Or.inl e3⟩
theorem zt_xr124 {post : SX → Prop} {rc : Nat} {t : Int32} (er : f_recorded = nI rc) (hrc : rc < 24) (ht : vp_nar .boolean t = t)
    (h : post (f_hotAt, f_length, f_place, f_status, f_executed, f_printedCount, f_recording, f_header, (nI (rc + 1)), f_traceCount, f_codeEnd, a_opcode, a_fieldX, a_fieldY, a_fieldZ, a_sorts, a_values, a_printedValues, a_jumps, a_traceAt, a_recordPlace, a_recordLeft, a_recordRight, (upd a_recordTaken rc t), a_traceStart, a_traceEnd, a_traceSteps, a_operation, a_origin, a_target, a_left, a_right, a_known)) : wX_recordStep_124 post t f_recorded f_hotAt f_length f_place f_status f_executed f_printedCount f_recording f_header f_recorded f_traceCount f_codeEnd a_opcode a_fieldX a_fieldY a_fieldZ a_sorts a_values a_printedValues a_jumps a_traceAt a_recordPlace a_recordLeft a_recordRight a_recordTaken a_traceStart a_traceEnd a_traceSteps a_operation a_origin a_target a_left a_right a_known := by
  subst er
  unfold wX_recordStep_124
  rw [ht, nI_clamp (show rc < 2 ^ 31 by omega)]
  exact ⟨vp_in_nI hrc (by omega), nm_e (nm_r (nI_1 rc) h)⟩
/-- behind the sorts: which way a branch goes -/
theorem zt_xr92 {post : SX → Prop} {rc : Nat} {p o : Int32} (eo : a_opcode p.toNatClampNeg = o) (er : f_recorded = nI rc) (hrc : rc < 24) (hp : vp_in p 24) (hx : o = 8 → vp_in (a_fieldX p.toNatClampNeg) 6)
    (h : ∀ t : Int32, (o = 8 → (zt_cnt (a_fieldX p.toNatClampNeg) (f_printedCount, a_sorts, a_values, a_printedValues) = 0 ∧ ¬ t = 0) ∨ (¬ zt_cnt (a_fieldX p.toNatClampNeg) (f_printedCount, a_sorts, a_values, a_printedValues) = 0 ∧ t = 0)) → post (f_hotAt, f_length, f_place, f_status, f_executed, f_printedCount, f_recording, f_header, (nI (rc + 1)), f_traceCount, f_codeEnd, a_opcode, a_fieldX, a_fieldY, a_fieldZ, a_sorts, a_values, a_printedValues, a_jumps, a_traceAt, a_recordPlace, a_recordLeft, a_recordRight, (upd a_recordTaken rc t), a_traceStart, a_traceEnd, a_traceSteps, a_operation, a_origin, a_target, a_left, a_right, a_known)) : wX_recordStep_92 post p o f_hotAt f_length f_place f_status f_executed f_printedCount f_recording f_header f_recorded f_traceCount f_codeEnd a_opcode a_fieldX a_fieldY a_fieldZ a_sorts a_values a_printedValues a_jumps a_traceAt a_recordPlace a_recordLeft a_recordRight a_recordTaken a_traceStart a_traceEnd a_traceSteps a_operation a_origin a_target a_left a_right a_known := by
  unfold wX_recordStep_92 wX_recordStep_123
  by_cases e : o = 8
  · refine br_t e ⟨hp, zt_xcounts (hx e) ?_⟩
    by_cases c : zt_cnt (a_fieldX p.toNatClampNeg) (f_printedCount, a_sorts, a_values, a_printedValues) = 0
    · exact br_t c (zt_xr124 er hrc zt_vt1 (h 1 (fun _ => Or.inl ⟨c, by decide⟩)))
    · exact br_f c (zt_xr124 er hrc zt_vt0 (h 0 (fun _ => Or.inr ⟨c, rfl⟩)))
  · exact br_f e (zt_xr124 er hrc zt_vt0 (h 0 (fun z => absurd z e)))
theorem zt_xrec {post : SX → Prop} {tc ce rc : Nat} {p : Int32} (hP : zt_PV a_opcode a_fieldX a_fieldY a_fieldZ) (hT : zt_TI f_length a_opcode a_fieldX a_fieldY a_fieldZ tc ce a_traceAt a_traceStart a_traceEnd a_traceSteps a_operation a_origin a_target a_left a_right) (htc : tc < 4) (ec : f_traceCount = nI tc) (ee : f_codeEnd = nI ce) (er : f_recorded = nI rc)
    (hR : zt_RI f_length a_opcode a_fieldX a_fieldY a_recordPlace a_recordLeft a_recordRight a_recordTaken f_header rc p) (hp : vp_in p 24) (hpn : p < f_length) (hw : zt_WV (f_printedCount, a_sorts, a_values, a_printedValues)) (hf : zt_flt (a_opcode p.toNatClampNeg) (a_fieldY p.toNatClampNeg) (a_fieldZ p.toNatClampNeg) (f_printedCount, a_sorts, a_values, a_printedValues) = 0)
    (h : ∀ (rec' rc' : Int32) (tA' rP' rL' rR' rT' : Nat → Int32), zt_TR f_length a_opcode a_fieldX a_fieldY a_fieldZ rec' f_header rc' f_traceCount f_codeEnd tA' rP' rL' rR' rT' a_traceStart a_traceEnd a_traceSteps a_operation a_origin a_target a_left a_right (zt_npc (a_opcode p.toNatClampNeg) (a_fieldX p.toNatClampNeg) (a_fieldY p.toNatClampNeg) p (f_printedCount, a_sorts, a_values, a_printedValues)) →
      post (f_hotAt, f_length, f_place, f_status, f_executed, f_printedCount, rec', f_header, rc', f_traceCount, f_codeEnd, a_opcode, a_fieldX, a_fieldY, a_fieldZ, a_sorts, a_values, a_printedValues, a_jumps, tA', rP', rL', rR', rT', a_traceStart, a_traceEnd, a_traceSteps, a_operation, a_origin, a_target, a_left, a_right, a_known)) : wpX_recordStep post (f_hotAt, f_length, f_place, f_status, f_executed, f_printedCount, f_recording, f_header, f_recorded, f_traceCount, f_codeEnd, a_opcode, a_fieldX, a_fieldY, a_fieldZ, a_sorts, a_values, a_printedValues, a_jumps, a_traceAt, a_recordPlace, a_recordLeft, a_recordRight, a_recordTaken, a_traceStart, a_traceEnd, a_traceSteps, a_operation, a_origin, a_target, a_left, a_right, a_known) p := by
  unfold wpX_recordStep
  dsimp only
  obtain ⟨hT1, hT2, hT3⟩ := hT
  by_cases c24 : f_recorded = 24
  · refine br_t c24 ⟨hR.2.1, nm_r (congrArg (upd a_traceAt f_header.toNatClampNeg) zt_vbm2) ?_⟩
    refine h 0 f_recorded _ a_recordPlace a_recordLeft a_recordRight a_recordTaken ⟨tc, ce, ec, ee, ⟨hT1, hT2, ?_⟩, Or.inl rfl⟩
    intro i hi
    by_cases e : i = f_header.toNatClampNeg
    · rw [e, zt_us]; exact Or.inr (Or.inl rfl)
    · rw [zt_un e]; exact hT3 i hi
  · have hrc : rc < 24 := by
      have h1 := hR.1
      rcases Nat.lt_or_ge rc 24 with z | z
      · exact z
      · have e : rc = 24 := by omega
        subst e
        exact absurd er c24
    have hri : vp_in f_recorded 24 := by rw [er]; exact vp_in_nI hrc (by omega)
    have ecl : f_recorded.toNatClampNeg = rc := by rw [er]; exact nI_clamp (by omega)
    rw [ecl, zt_bi hp (by omega)]
    refine br_f c24 ⟨hp, nm_e ⟨hri, nm_e ?_⟩⟩
    unfold wpX_isCombining
    dsimp only
    have fin : ∀ (rL' rR' : Nat → Int32), (∀ k, k < rc → rL' k = a_recordLeft k) → (∀ k, k < rc → rR' k = a_recordRight k) →
        (a_opcode p.toNatClampNeg = 4 ∨ a_opcode p.toNatClampNeg = 5 ∨ a_opcode p.toNatClampNeg = 6 → (rL' rc = 1 ∧ rR' rc = 1) ∨ (a_opcode p.toNatClampNeg = 4 ∧ rL' rc = 2 ∧ rR' rc = 2)) → (a_opcode p.toNatClampNeg = 8 → vp_in (a_fieldX p.toNatClampNeg) 6) →
        wX_recordStep_92 post p (a_opcode p.toNatClampNeg) f_hotAt f_length f_place f_status f_executed f_printedCount f_recording f_header f_recorded f_traceCount f_codeEnd a_opcode a_fieldX a_fieldY a_fieldZ a_sorts a_values a_printedValues a_jumps a_traceAt (upd a_recordPlace rc p) rL' rR' a_recordTaken a_traceStart a_traceEnd a_traceSteps a_operation a_origin a_target a_left a_right a_known := by
      intro rL' rR' hl hr hs hx
      refine zt_xr92 rfl er hrc hp hx ?_
      intro t ht
      refine h f_recording _ _ _ _ _ _ ⟨tc, ce, ec, ee, ⟨hT1, hT2, hT3⟩, Or.inr ⟨htc, rc + 1, rfl, ?_⟩⟩
      rw [← zt_nx_npc ht]
      exact zt_RI_s hR hrc hp hpn hs hl hr
    rcases hP p.toNatClampNeg with ⟨ho, hx⟩ | ⟨hx, ⟨ho, hy⟩ | (ho | ho | ho | ho) | ⟨hy, ho | ⟨hz, ho⟩⟩⟩
    · exact br_f (by rw [ho]; decide) (br_t (by rw [ho]; decide) (br_t rfl (fin _ _ (fun _ _ => rfl) (fun _ _ => rfl) (fun z => absurd z (by rw [ho]; decide)) (fun z => absurd z (by rw [ho]; decide)))))
    · exact br_f (by rw [ho]; decide) (br_t (by rw [ho]; decide) (br_t rfl (fin _ _ (fun _ _ => rfl) (fun _ _ => rfl) (fun z => absurd z (by rw [ho]; decide)) (fun _ => hx))))
    · exact br_t (by rw [ho]; decide) (br_t rfl (fin _ _ (fun _ _ => rfl) (fun _ _ => rfl) (fun z => absurd z (by rw [ho]; decide)) (fun _ => hx)))
    · exact br_t (by rw [ho]; decide) (br_t rfl (fin _ _ (fun _ _ => rfl) (fun _ _ => rfl) (fun z => absurd z (by rw [ho]; decide)) (fun _ => hx)))
    · exact br_t (by rw [ho]; decide) (br_t rfl (fin _ _ (fun _ _ => rfl) (fun _ _ => rfl) (fun z => absurd z (by rw [ho]; decide)) (fun _ => hx)))
    · exact br_f (by rw [ho]; decide) (br_t (by rw [ho]; decide) (br_t rfl (fin _ _ (fun _ _ => rfl) (fun _ _ => rfl) (fun z => absurd z (by rw [ho]; decide)) (fun _ => hx))))
    · exact br_t (by rw [ho]; decide) (br_t rfl (fin _ _ (fun _ _ => rfl) (fun _ _ => rfl) (fun z => absurd z (by rw [ho]; decide)) (fun _ => hx)))
    · have l4 : ¬ a_opcode p.toNatClampNeg < 4 := by rcases ho with e | e | e | e <;> (rw [e]; decide)
      have l7 : ¬ 7 < a_opcode p.toNatClampNeg := by rcases ho with e | e | e | e <;> (rw [e]; decide)
      refine br_f l4 (br_f l7 (br_f (by decide) ⟨hp, hy, hri, nm_e ⟨hp, hz, hri, nm_e (fin _ _ (fun k hk => zt_un (by omega)) (fun k hk => zt_un (by omega)) ?_ (fun _ => hx))⟩⟩))
      intro h456
      rw [zt_us, zt_us]
      rcases zt_flt_l hf h456 with ⟨a, b⟩ | ⟨e, a, b⟩
      · refine Or.inl ⟨?_, ?_⟩
        · exact (congrArg (vp_nar .byte) a).trans zt_vb1
        · exact (congrArg (vp_nar .byte) b).trans zt_vb1
      · refine Or.inr ⟨e, ?_, ?_⟩
        · exact (congrArg (vp_nar .byte) a).trans zt_vb2
        · exact (congrArg (vp_nar .byte) b).trans zt_vb2
theorem zt_xjb {post : SX → Prop} {p : Int32} (hp : vp_in p 24) (hT : zt_TR f_length a_opcode a_fieldX a_fieldY a_fieldZ f_recording f_header f_recorded f_traceCount f_codeEnd a_traceAt a_recordPlace a_recordLeft a_recordRight a_recordTaken a_traceStart a_traceEnd a_traceSteps a_operation a_origin a_target a_left a_right p)
    (h : ∀ (rec' hd' rc' : Int32) (ju' : Nat → Int32), zt_TR f_length a_opcode a_fieldX a_fieldY a_fieldZ rec' hd' rc' f_traceCount f_codeEnd a_traceAt a_recordPlace a_recordLeft a_recordRight a_recordTaken a_traceStart a_traceEnd a_traceSteps a_operation a_origin a_target a_left a_right p → post (f_hotAt, f_length, f_place, f_status, f_executed, f_printedCount, rec', hd', rc', f_traceCount, f_codeEnd, a_opcode, a_fieldX, a_fieldY, a_fieldZ, a_sorts, a_values, a_printedValues, ju', a_traceAt, a_recordPlace, a_recordLeft, a_recordRight, a_recordTaken, a_traceStart, a_traceEnd, a_traceSteps, a_operation, a_origin, a_target, a_left, a_right, a_known)) : wpX_jumpedBack post (f_hotAt, f_length, f_place, f_status, f_executed, f_printedCount, f_recording, f_header, f_recorded, f_traceCount, f_codeEnd, a_opcode, a_fieldX, a_fieldY, a_fieldZ, a_sorts, a_values, a_printedValues, a_jumps, a_traceAt, a_recordPlace, a_recordLeft, a_recordRight, a_recordTaken, a_traceStart, a_traceEnd, a_traceSteps, a_operation, a_origin, a_target, a_left, a_right, a_known) p := by
  unfold wpX_jumpedBack
  dsimp only
  have hk : ∀ ju' : Nat → Int32, post (f_hotAt, f_length, f_place, f_status, f_executed, f_printedCount, f_recording, f_header, f_recorded, f_traceCount, f_codeEnd, a_opcode, a_fieldX, a_fieldY, a_fieldZ, a_sorts, a_values, a_printedValues, ju', a_traceAt, a_recordPlace, a_recordLeft, a_recordRight, a_recordTaken, a_traceStart, a_traceEnd, a_traceSteps, a_operation, a_origin, a_target, a_left, a_right, a_known) := fun ju' => h f_recording f_header f_recorded ju' hT
  refine br_c (fun c1 => ⟨hp, br_c (fun c2 => br_c (fun c3 => hk a_jumps) (fun c3 => ⟨hp, hp, nm_e ⟨hp, br_c (fun c4 => ?_) (fun c4 => hk _)⟩⟩)) (fun c2 => hk a_jumps)⟩) (fun c1 => hk a_jumps)
  obtain ⟨tc, ce, e1, e2, hTI, _⟩ := hT
  have htc : tc < 4 := by
    have := hTI.1
    rcases Nat.lt_or_ge tc 4 with z | z
    · exact z
    · have e : tc = 4 := by omega
      subst e
      exact absurd e1 c3
  exact h 1 p 0 _ ⟨tc, ce, e1, e2, hTI, Or.inr ⟨htc, 0, rfl, by omega, hp, rfl, fun k hk => absurd hk (by omega)⟩⟩
theorem zt_xi161 {post : SX → Prop} {p : Int32} (hp : vp_in p 24) (hq : vp_in f_place 25) (hT : zt_TR f_length a_opcode a_fieldX a_fieldY a_fieldZ f_recording f_header f_recorded f_traceCount f_codeEnd a_traceAt a_recordPlace a_recordLeft a_recordRight a_recordTaken a_traceStart a_traceEnd a_traceSteps a_operation a_origin a_target a_left a_right f_place)
    (h : ∀ (rec' hd' rc' : Int32) (ju' : Nat → Int32), zt_TR f_length a_opcode a_fieldX a_fieldY a_fieldZ rec' hd' rc' f_traceCount f_codeEnd a_traceAt a_recordPlace a_recordLeft a_recordRight a_recordTaken a_traceStart a_traceEnd a_traceSteps a_operation a_origin a_target a_left a_right f_place → post (f_hotAt, f_length, f_place, f_status, f_executed, f_printedCount, rec', hd', rc', f_traceCount, f_codeEnd, a_opcode, a_fieldX, a_fieldY, a_fieldZ, a_sorts, a_values, a_printedValues, ju', a_traceAt, a_recordPlace, a_recordLeft, a_recordRight, a_recordTaken, a_traceStart, a_traceEnd, a_traceSteps, a_operation, a_origin, a_target, a_left, a_right, a_known)) : wX_interpret_161 post p f_hotAt f_length f_place f_status f_executed f_printedCount f_recording f_header f_recorded f_traceCount f_codeEnd a_opcode a_fieldX a_fieldY a_fieldZ a_sorts a_values a_printedValues a_jumps a_traceAt a_recordPlace a_recordLeft a_recordRight a_recordTaken a_traceStart a_traceEnd a_traceSteps a_operation a_origin a_target a_left a_right a_known := by
  unfold wX_interpret_161
  by_cases c : p < f_place
  · exact br_t c (h f_recording f_header f_recorded a_jumps hT)
  · have hq2 : vp_in f_place 24 := by
      rw [Int32.lt_iff_toInt_lt] at c
      rw [vp_in_iff] at *
      omega
    exact br_f c (zt_xjb hq2 hT h)
theorem zt_xi71 {post : SX → Prop} {p : Int32} {q : Nat} (hP : zt_PV a_opcode a_fieldX a_fieldY a_fieldZ) (hp : vp_in p 24) (hw : zt_WV (f_printedCount, a_sorts, a_values, a_printedValues)) (hq : f_printedCount = nI q) (hq2 : q < 2 ^ 31) (hf : zt_flt (a_opcode p.toNatClampNeg) (a_fieldY p.toNatClampNeg) (a_fieldZ p.toNatClampNeg) (f_printedCount, a_sorts, a_values, a_printedValues) = 0)
    (hT : zt_TR f_length a_opcode a_fieldX a_fieldY a_fieldZ f_recording f_header f_recorded f_traceCount f_codeEnd a_traceAt a_recordPlace a_recordLeft a_recordRight a_recordTaken a_traceStart a_traceEnd a_traceSteps a_operation a_origin a_target a_left a_right (zt_npc (a_opcode p.toNatClampNeg) (a_fieldX p.toNatClampNeg) (a_fieldY p.toNatClampNeg) p (f_printedCount, a_sorts, a_values, a_printedValues)))
    (h : ∀ (rec' hd' rc' : Int32) (ju' : Nat → Int32), zt_TR f_length a_opcode a_fieldX a_fieldY a_fieldZ rec' hd' rc' f_traceCount f_codeEnd a_traceAt a_recordPlace a_recordLeft a_recordRight a_recordTaken a_traceStart a_traceEnd a_traceSteps a_operation a_origin a_target a_left a_right (zt_npc (a_opcode p.toNatClampNeg) (a_fieldX p.toNatClampNeg) (a_fieldY p.toNatClampNeg) p (f_printedCount, a_sorts, a_values, a_printedValues)) →
      post (f_hotAt, f_length, (zt_npc (a_opcode p.toNatClampNeg) (a_fieldX p.toNatClampNeg) (a_fieldY p.toNatClampNeg) p (f_printedCount, a_sorts, a_values, a_printedValues)), f_status, (f_executed + 1), (zt_nw (a_opcode p.toNatClampNeg) (a_fieldX p.toNatClampNeg) (a_fieldY p.toNatClampNeg) (a_fieldZ p.toNatClampNeg) (f_printedCount, a_sorts, a_values, a_printedValues)).1, rec', hd', rc', f_traceCount, f_codeEnd, a_opcode, a_fieldX, a_fieldY, a_fieldZ, (zt_nw (a_opcode p.toNatClampNeg) (a_fieldX p.toNatClampNeg) (a_fieldY p.toNatClampNeg) (a_fieldZ p.toNatClampNeg) (f_printedCount, a_sorts, a_values, a_printedValues)).2.1, (zt_nw (a_opcode p.toNatClampNeg) (a_fieldX p.toNatClampNeg) (a_fieldY p.toNatClampNeg) (a_fieldZ p.toNatClampNeg) (f_printedCount, a_sorts, a_values, a_printedValues)).2.2.1, (zt_nw (a_opcode p.toNatClampNeg) (a_fieldX p.toNatClampNeg) (a_fieldY p.toNatClampNeg) (a_fieldZ p.toNatClampNeg) (f_printedCount, a_sorts, a_values, a_printedValues)).2.2.2, ju', a_traceAt, a_recordPlace, a_recordLeft, a_recordRight, a_recordTaken, a_traceStart, a_traceEnd, a_traceSteps, a_operation, a_origin, a_target, a_left, a_right, a_known)) : wX_interpret_71 post p f_hotAt f_length f_place f_status f_executed f_printedCount f_recording f_header f_recorded f_traceCount f_codeEnd a_opcode a_fieldX a_fieldY a_fieldZ a_sorts a_values a_printedValues a_jumps a_traceAt a_recordPlace a_recordLeft a_recordRight a_recordTaken a_traceStart a_traceEnd a_traceSteps a_operation a_origin a_target a_left a_right a_known := by
  unfold wX_interpret_71
  have hin := zt_in_npc (w := (f_printedCount, a_sorts, a_values, a_printedValues)) (hP p.toNatClampNeg) hp
  refine nm_e ⟨hp, ?_⟩
  have hO := hP p.toNatClampNeg
  by_cases c9 : a_opcode p.toNatClampNeg = 9
  · rw [c9, zt_np9] at hT hin
    rw [c9, zt_np9, zt_nw9] at h
    exact nm_r c9 ⟨hp, nm_e (nm_e (br_t rfl (zt_xi161 hp hin hT h)))⟩
  · by_cases c8 : a_opcode p.toNatClampNeg = 8
    · have hx : vp_in (a_fieldX p.toNatClampNeg) 6 := by
        rcases hO with ⟨e, _⟩ | ⟨hx, _⟩
        · exact absurd e c9
        · exact hx
      refine nm_r c8 ⟨hp, nm_e (nm_e (br_f (by decide) (br_t rfl (zt_xcounts hx ?_))))⟩
      by_cases c : zt_cnt (a_fieldX p.toNatClampNeg) (f_printedCount, a_sorts, a_values, a_printedValues) = 0
      · rw [c8, zt_np8t c] at hT hin
        rw [c8, zt_np8t c, zt_nw8] at h
        exact br_t c ⟨hp, nm_e (zt_xi161 hp hin hT h)⟩
      · rw [c8, zt_np8f c] at hT hin
        rw [c8, zt_np8f c, zt_nw8] at h
        exact br_f c (zt_xi161 hp hin hT h)
    · have hO2 : zt_PI (a_opcode p.toNatClampNeg) (a_fieldX p.toNatClampNeg) (a_fieldY p.toNatClampNeg) (a_fieldZ p.toNatClampNeg) := by
        rcases hO with ⟨e, _⟩ | ⟨hx, ⟨e, _⟩ | ho⟩
        · exact absurd e c9
        · exact absurd e c8
        · exact ⟨hx, ho⟩
      rw [zt_npo c9 c8] at hT hin
      rw [zt_npo c9 c8, zt_nwo c9 c8] at h
      exact nm_e ⟨hp, nm_e (nm_e (br_f c9 (br_f c8 ⟨hp, hp, zt_xperf hw hq hq2 hO2 (zt_xi161 hp hin hT h)⟩)))⟩
end ZI
end
section
/-! 10: interpret, passTrace, run -/
theorem zt_sub {a b : Nat} (h : b ≤ a) : nI a - nI b = nI (a - b) := by
  have e : nI a = nI (a - b) + nI b := by rw [nI_add, Nat.sub_add_cancel h]
  rw [e, Int32.add_sub_cancel]
section ZJ
variable {f_hotAt f_length f_place f_status f_executed f_printedCount f_recording f_header f_recorded f_traceCount f_codeEnd : Int32}
variable {a_opcode a_fieldX a_fieldY a_fieldZ a_sorts a_values a_jumps a_traceAt a_recordPlace a_recordLeft a_recordRight a_recordTaken a_traceStart a_traceEnd a_traceSteps a_operation a_origin a_target a_left a_right a_known a_az : Nat → Int32}
variable {a_printedValues : Nat → Int64}
theorem zt_xi59 {post : SX → Prop} {p : Int32} {q : Nat} (hP : zt_PV a_opcode a_fieldX a_fieldY a_fieldZ) (hp : vp_in p 24) (hpn : p < f_length) (hw : zt_WV (f_printedCount, a_sorts, a_values, a_printedValues)) (hq : f_printedCount = nI q) (hq2 : q < 2 ^ 31) (hf : zt_flt (a_opcode p.toNatClampNeg) (a_fieldY p.toNatClampNeg) (a_fieldZ p.toNatClampNeg) (f_printedCount, a_sorts, a_values, a_printedValues) = 0)
    (hT : zt_TR f_length a_opcode a_fieldX a_fieldY a_fieldZ f_recording f_header f_recorded f_traceCount f_codeEnd a_traceAt a_recordPlace a_recordLeft a_recordRight a_recordTaken a_traceStart a_traceEnd a_traceSteps a_operation a_origin a_target a_left a_right p)
    (h : ∀ (f_recording' : Int32) (f_header' : Int32) (f_recorded' : Int32) (f_traceCount' : Int32) (f_codeEnd' : Int32) (a_jumps' : Nat → Int32) (a_traceAt' : Nat → Int32) (a_recordPlace' : Nat → Int32) (a_recordLeft' : Nat → Int32) (a_recordRight' : Nat → Int32) (a_recordTaken' : Nat → Int32) (a_traceStart' : Nat → Int32) (a_traceEnd' : Nat → Int32) (a_traceSteps' : Nat → Int32) (a_operation' : Nat → Int32) (a_origin' : Nat → Int32) (a_target' : Nat → Int32) (a_left' : Nat → Int32) (a_right' : Nat → Int32) (a_known' : Nat → Int32), zt_TR f_length a_opcode a_fieldX a_fieldY a_fieldZ f_recording' f_header' f_recorded' f_traceCount' f_codeEnd' a_traceAt' a_recordPlace' a_recordLeft' a_recordRight' a_recordTaken' a_traceStart' a_traceEnd' a_traceSteps' a_operation' a_origin' a_target' a_left' a_right' (zt_npc (a_opcode p.toNatClampNeg) (a_fieldX p.toNatClampNeg) (a_fieldY p.toNatClampNeg) p (f_printedCount, a_sorts, a_values, a_printedValues)) →
      post (f_hotAt, f_length, (zt_npc (a_opcode p.toNatClampNeg) (a_fieldX p.toNatClampNeg) (a_fieldY p.toNatClampNeg) p (f_printedCount, a_sorts, a_values, a_printedValues)), f_status, (f_executed + 1), (zt_nw (a_opcode p.toNatClampNeg) (a_fieldX p.toNatClampNeg) (a_fieldY p.toNatClampNeg) (a_fieldZ p.toNatClampNeg) (f_printedCount, a_sorts, a_values, a_printedValues)).1, f_recording', f_header', f_recorded', f_traceCount', f_codeEnd', a_opcode, a_fieldX, a_fieldY, a_fieldZ, (zt_nw (a_opcode p.toNatClampNeg) (a_fieldX p.toNatClampNeg) (a_fieldY p.toNatClampNeg) (a_fieldZ p.toNatClampNeg) (f_printedCount, a_sorts, a_values, a_printedValues)).2.1, (zt_nw (a_opcode p.toNatClampNeg) (a_fieldX p.toNatClampNeg) (a_fieldY p.toNatClampNeg) (a_fieldZ p.toNatClampNeg) (f_printedCount, a_sorts, a_values, a_printedValues)).2.2.1, (zt_nw (a_opcode p.toNatClampNeg) (a_fieldX p.toNatClampNeg) (a_fieldY p.toNatClampNeg) (a_fieldZ p.toNatClampNeg) (f_printedCount, a_sorts, a_values, a_printedValues)).2.2.2, a_jumps', a_traceAt', a_recordPlace', a_recordLeft', a_recordRight', a_recordTaken', a_traceStart', a_traceEnd', a_traceSteps', a_operation', a_origin', a_target', a_left', a_right', a_known')) : wX_interpret_59 post p f_hotAt f_length f_place f_status f_executed f_printedCount f_recording f_header f_recorded f_traceCount f_codeEnd a_opcode a_fieldX a_fieldY a_fieldZ a_sorts a_values a_printedValues a_jumps a_traceAt a_recordPlace a_recordLeft a_recordRight a_recordTaken a_traceStart a_traceEnd a_traceSteps a_operation a_origin a_target a_left a_right a_known := by
  unfold wX_interpret_59
  by_cases c : f_recording = 0
  · refine br_t c (zt_xi71 hP hp hw hq hq2 hf ?_ ?_)
    · obtain ⟨tc, ce, e1, e2, h1, _⟩ := hT
      exact ⟨tc, ce, e1, e2, h1, Or.inl c⟩
    · intro rec' hd' rc' ju' hT'
      exact h rec' hd' rc' _ _ ju' _ _ _ _ _ _ _ _ _ _ _ _ _ _ hT'
  · obtain ⟨tc, ce, e1, e2, h1, h2⟩ := hT
    obtain ⟨htc, rc, er, hR⟩ := h2.resolve_left c
    refine br_f c (zt_xrec hP h1 htc e1 e2 er hR hp hpn hw hf ?_)
    intro rec1 rc1 tA1 rP1 rL1 rR1 rT1 hT1
    refine zt_xi71 hP hp hw hq hq2 hf hT1 ?_
    intro rec' hd' rc' ju' hT'
    exact h rec' hd' rc' _ _ ju' _ _ _ _ _ _ _ _ _ _ _ _ _ _ hT'
theorem zt_xint {post : SX → Prop} {l B : Nat} (hl : l ≤ 24) (hn : f_length = nI l) (hP : zt_PV a_opcode a_fieldX a_fieldY a_fieldZ) (hM : zt_MV B (f_place, f_status, f_executed, f_printedCount, a_sorts, a_values, a_printedValues)) (hB : B < 2 ^ 31) (hst : f_status = 0) (hT : zt_TR f_length a_opcode a_fieldX a_fieldY a_fieldZ f_recording f_header f_recorded f_traceCount f_codeEnd a_traceAt a_recordPlace a_recordLeft a_recordRight a_recordTaken a_traceStart a_traceEnd a_traceSteps a_operation a_origin a_target a_left a_right f_place)
    (h : ∀ (f_recording' : Int32) (f_header' : Int32) (f_recorded' : Int32) (f_traceCount' : Int32) (f_codeEnd' : Int32) (a_jumps' : Nat → Int32) (a_traceAt' : Nat → Int32) (a_recordPlace' : Nat → Int32) (a_recordLeft' : Nat → Int32) (a_recordRight' : Nat → Int32) (a_recordTaken' : Nat → Int32) (a_traceStart' : Nat → Int32) (a_traceEnd' : Nat → Int32) (a_traceSteps' : Nat → Int32) (a_operation' : Nat → Int32) (a_origin' : Nat → Int32) (a_target' : Nat → Int32) (a_left' : Nat → Int32) (a_right' : Nat → Int32) (a_known' : Nat → Int32), zt_TR f_length a_opcode a_fieldX a_fieldY a_fieldZ f_recording' f_header' f_recorded' f_traceCount' f_codeEnd' a_traceAt' a_recordPlace' a_recordLeft' a_recordRight' a_recordTaken' a_traceStart' a_traceEnd' a_traceSteps' a_operation' a_origin' a_target' a_left' a_right' (zt_step f_length a_opcode a_fieldX a_fieldY a_fieldZ (f_place, f_status, f_executed, f_printedCount, a_sorts, a_values, a_printedValues)).1 → post (f_hotAt, f_length, (zt_step f_length a_opcode a_fieldX a_fieldY a_fieldZ (f_place, f_status, f_executed, f_printedCount, a_sorts, a_values, a_printedValues)).1, (zt_step f_length a_opcode a_fieldX a_fieldY a_fieldZ (f_place, f_status, f_executed, f_printedCount, a_sorts, a_values, a_printedValues)).2.1, (zt_step f_length a_opcode a_fieldX a_fieldY a_fieldZ (f_place, f_status, f_executed, f_printedCount, a_sorts, a_values, a_printedValues)).2.2.1, (zt_step f_length a_opcode a_fieldX a_fieldY a_fieldZ (f_place, f_status, f_executed, f_printedCount, a_sorts, a_values, a_printedValues)).2.2.2.1, f_recording', f_header', f_recorded', f_traceCount', f_codeEnd', a_opcode, a_fieldX, a_fieldY, a_fieldZ, (zt_step f_length a_opcode a_fieldX a_fieldY a_fieldZ (f_place, f_status, f_executed, f_printedCount, a_sorts, a_values, a_printedValues)).2.2.2.2.1, (zt_step f_length a_opcode a_fieldX a_fieldY a_fieldZ (f_place, f_status, f_executed, f_printedCount, a_sorts, a_values, a_printedValues)).2.2.2.2.2.1, (zt_step f_length a_opcode a_fieldX a_fieldY a_fieldZ (f_place, f_status, f_executed, f_printedCount, a_sorts, a_values, a_printedValues)).2.2.2.2.2.2, a_jumps', a_traceAt', a_recordPlace', a_recordLeft', a_recordRight', a_recordTaken', a_traceStart', a_traceEnd', a_traceSteps', a_operation', a_origin', a_target', a_left', a_right', a_known')) : wpX_interpret post (f_hotAt, f_length, f_place, f_status, f_executed, f_printedCount, f_recording, f_header, f_recorded, f_traceCount, f_codeEnd, a_opcode, a_fieldX, a_fieldY, a_fieldZ, a_sorts, a_values, a_printedValues, a_jumps, a_traceAt, a_recordPlace, a_recordLeft, a_recordRight, a_recordTaken, a_traceStart, a_traceEnd, a_traceSteps, a_operation, a_origin, a_target, a_left, a_right, a_known) := by
  unfold wpX_interpret
  dsimp only
  unfold zt_step at h
  dsimp only at h
  obtain ⟨hp, hw, q, hq, eq⟩ := hM
  rw [if_pos hst] at h
  by_cases c2 : f_place < f_length
  · rw [if_pos c2] at h
    have hp2 : vp_in f_place 24 := zt_lt24 hp hl hn c2
    refine br_t c2 (zt_xfault hp2 (hP _) ?_)
    by_cases c3 : zt_flt (a_opcode f_place.toNatClampNeg) (a_fieldY f_place.toNatClampNeg) (a_fieldZ f_place.toNatClampNeg) (f_printedCount, a_sorts, a_values, a_printedValues) = 0
    · rw [if_pos c3] at h
      refine br_t c3 ?_
      have fin : zt_TR f_length a_opcode a_fieldX a_fieldY a_fieldZ f_recording f_header f_recorded f_traceCount f_codeEnd a_traceAt a_recordPlace a_recordLeft a_recordRight a_recordTaken a_traceStart a_traceEnd a_traceSteps a_operation a_origin a_target a_left a_right f_place → wX_interpret_59 post f_place f_hotAt f_length f_place f_status f_executed f_printedCount f_recording f_header f_recorded f_traceCount f_codeEnd a_opcode a_fieldX a_fieldY a_fieldZ a_sorts a_values a_printedValues a_jumps a_traceAt a_recordPlace a_recordLeft a_recordRight a_recordTaken a_traceStart a_traceEnd a_traceSteps a_operation a_origin a_target a_left a_right a_known := fun hT => zt_xi59 (post := post) (q := q) hP hp2 c2 hw eq (by omega) c3 hT h
      by_cases cr : f_recording = 0
      · exact br_t cr (fin hT)
      · refine br_f cr ?_
        by_cases ch : f_place = f_header
        · refine br_t ch ?_
          by_cases c0 : f_recorded ≤ 0
          · exact br_t c0 (fin hT)
          · refine br_f c0 ?_
            obtain ⟨tc, ce, e1, e2, h1, h2⟩ := hT
            obtain ⟨htc, rc, er, hR⟩ := h2.resolve_left cr
            have hr0 : 0 < rc := by
              rcases Nat.eq_zero_or_pos rc with z | z
              · subst z
                rw [er] at c0
                exact absurd (by decide) c0
              · exact z
            rw [ch] at hR
            refine zt_xctrace hP h1 htc e1 e2 er hr0 hR ?_
            intro ce2 o' g' t' l' r' kn' tA' tS' tE' tN' hT'
            exact zt_xi59 (post := post) (q := q) hP hp2 c2 hw eq (by omega) c3 ⟨tc + 1, ce2, rfl, rfl, hT', Or.inl rfl⟩ h
        · exact br_f ch (fin hT)
    · rw [if_neg c3] at h
      exact br_f c3 (h _ _ _ _ _ _ _ _ _ _ _ _ _ _ _ _ _ _ _ _ hT)
  · rw [if_neg c2] at h
    exact br_f c2 (h _ _ _ _ _ _ _ _ _ _ _ _ _ _ _ _ _ _ _ _ hT)
/-- a pass of the trace that begins at i -/
theorem zt_xpass {post : Int32 → SX → Prop} {l B i : Nat} (hl : l ≤ 24) (hn : f_length = nI l) (hP : zt_PV a_opcode a_fieldX a_fieldY a_fieldZ) (hM : zt_MV B (f_place, f_status, f_executed, f_printedCount, a_sorts, a_values, a_printedValues)) (hB : B + 24 < 2 ^ 31) (hst : f_status = 0) (hpl : f_place = nI i)
    {t s c k : Nat} {F : zt_WS → Prop} (ht : t < 4) (hS : a_traceStart t = nI s) (hE : a_traceEnd t = nI (s + c)) (hk : k ≤ 24) (hc : s + c ≤ 288) (hC : zt_CT f_length a_opcode a_fieldX a_fieldY a_fieldZ a_operation a_origin a_target a_left a_right s (nI i) c k (nI i) F)
    (h : ∀ (d : Nat) (m : zt_MS), d ≤ k → m = zt_it f_length a_opcode a_fieldX a_fieldY a_fieldZ d (f_place, f_status, f_executed, f_printedCount, a_sorts, a_values, a_printedValues) → post (nI d) (f_hotAt, f_length, m.1, m.2.1, m.2.2.1, m.2.2.2.1, f_recording, f_header, f_recorded, f_traceCount, f_codeEnd, a_opcode, a_fieldX, a_fieldY, a_fieldZ, m.2.2.2.2.1, m.2.2.2.2.2.1, m.2.2.2.2.2.2, a_jumps, a_traceAt, a_recordPlace, a_recordLeft, a_recordRight, a_recordTaken, a_traceStart, a_traceEnd, a_traceSteps, a_operation, a_origin, a_target, a_left, a_right, a_known)) : wpX_passTrace post (f_hotAt, f_length, f_place, f_status, f_executed, f_printedCount, f_recording, f_header, f_recorded, f_traceCount, f_codeEnd, a_opcode, a_fieldX, a_fieldY, a_fieldZ, a_sorts, a_values, a_printedValues, a_jumps, a_traceAt, a_recordPlace, a_recordLeft, a_recordRight, a_recordTaken, a_traceStart, a_traceEnd, a_traceSteps, a_operation, a_origin, a_target, a_left, a_right, a_known) (nI t) := by
  subst hst
  subst hpl
  unfold wpX_passTrace
  dsimp only
  have ecl : (nI t).toNatClampNeg = t := nI_clamp (by omega)
  rw [ecl]
  refine ⟨vp_in_nI ht (by omega), nm_r hS ⟨1 + c, ?_⟩⟩
  refine zt_pass (post := post) (e := s + c) hl hn hP (vp_in_nI ht (by omega)) (by rw [ecl]; exact hE) hc f_executed (f_printedCount, a_sorts, a_values, a_printedValues) hM c k (nI i) F hC 1 (Nat.le_refl _) (by omega) h ?_
  intro ct' w' hit _
  have hx := h k (nI i, 0, ct', w') (Nat.le_refl _) hit.symm
  rw [wX_passTrace_9]
  dsimp only
  rw [ecl, hE]
  exact ⟨vp_in_nI ht (by omega), br_t (nI_le (by omega) (by omega)) hx⟩
end ZJ
section ZK
variable {f_hotAt f_length f_place f_status f_executed f_printedCount f_recording f_header f_recorded f_traceCount f_codeEnd : Int32}
variable {a_opcode a_fieldX a_fieldY a_fieldZ a_sorts a_values a_jumps a_traceAt a_recordPlace a_recordLeft a_recordRight a_recordTaken a_traceStart a_traceEnd a_traceSteps a_operation a_origin a_target a_left a_right a_known a_az : Nat → Int32}
variable {a_printedValues : Nat → Int64}
theorem zt_x95 {post : Int32 → SX → Prop} {J : Int32 → Int32 → Int32 → Int32 → Int32 → Int32 → Int32 → Int32 → Int32 → Int32 → Int32 → Int32 → (Nat → Int32) → (Nat → Int32) → (Nat → Int32) → (Nat → Int32) → (Nat → Int32) → (Nat → Int32) → (Nat → Int64) → (Nat → Int32) → (Nat → Int32) → (Nat → Int32) → (Nat → Int32) → (Nat → Int32) → (Nat → Int32) → (Nat → Int32) → (Nat → Int32) → (Nat → Int32) → (Nat → Int32) → (Nat → Int32) → (Nat → Int32) → (Nat → Int32) → (Nat → Int32) → (Nat → Int32) → Prop}
    {l B r : Nat} (hl : l ≤ 24) (hn : f_length = nI l) (hP : zt_PV a_opcode a_fieldX a_fieldY a_fieldZ) (hM : zt_MV B (f_place, f_status, f_executed, f_printedCount, a_sorts, a_values, a_printedValues)) (hB : B < 2 ^ 31) (hst : f_status = 0) (hT : zt_TR f_length a_opcode a_fieldX a_fieldY a_fieldZ f_recording f_header f_recorded f_traceCount f_codeEnd a_traceAt a_recordPlace a_recordLeft a_recordRight a_recordTaken a_traceStart a_traceEnd a_traceSteps a_operation a_origin a_target a_left a_right f_place)
    (h : ∀ (f_recording' : Int32) (f_header' : Int32) (f_recorded' : Int32) (f_traceCount' : Int32) (f_codeEnd' : Int32) (a_jumps' : Nat → Int32) (a_traceAt' : Nat → Int32) (a_recordPlace' : Nat → Int32) (a_recordLeft' : Nat → Int32) (a_recordRight' : Nat → Int32) (a_recordTaken' : Nat → Int32) (a_traceStart' : Nat → Int32) (a_traceEnd' : Nat → Int32) (a_traceSteps' : Nat → Int32) (a_operation' : Nat → Int32) (a_origin' : Nat → Int32) (a_target' : Nat → Int32) (a_left' : Nat → Int32) (a_right' : Nat → Int32) (a_known' : Nat → Int32), zt_TR f_length a_opcode a_fieldX a_fieldY a_fieldZ f_recording' f_header' f_recorded' f_traceCount' f_codeEnd' a_traceAt' a_recordPlace' a_recordLeft' a_recordRight' a_recordTaken' a_traceStart' a_traceEnd' a_traceSteps' a_operation' a_origin' a_target' a_left' a_right' (zt_step f_length a_opcode a_fieldX a_fieldY a_fieldZ (f_place, f_status, f_executed, f_printedCount, a_sorts, a_values, a_printedValues)).1 → J (nI r) f_hotAt f_length (zt_step f_length a_opcode a_fieldX a_fieldY a_fieldZ (f_place, f_status, f_executed, f_printedCount, a_sorts, a_values, a_printedValues)).1 (zt_step f_length a_opcode a_fieldX a_fieldY a_fieldZ (f_place, f_status, f_executed, f_printedCount, a_sorts, a_values, a_printedValues)).2.1 (zt_step f_length a_opcode a_fieldX a_fieldY a_fieldZ (f_place, f_status, f_executed, f_printedCount, a_sorts, a_values, a_printedValues)).2.2.1 (zt_step f_length a_opcode a_fieldX a_fieldY a_fieldZ (f_place, f_status, f_executed, f_printedCount, a_sorts, a_values, a_printedValues)).2.2.2.1 f_recording' f_header' f_recorded' f_traceCount' f_codeEnd' a_opcode a_fieldX a_fieldY a_fieldZ (zt_step f_length a_opcode a_fieldX a_fieldY a_fieldZ (f_place, f_status, f_executed, f_printedCount, a_sorts, a_values, a_printedValues)).2.2.2.2.1 (zt_step f_length a_opcode a_fieldX a_fieldY a_fieldZ (f_place, f_status, f_executed, f_printedCount, a_sorts, a_values, a_printedValues)).2.2.2.2.2.1 (zt_step f_length a_opcode a_fieldX a_fieldY a_fieldZ (f_place, f_status, f_executed, f_printedCount, a_sorts, a_values, a_printedValues)).2.2.2.2.2.2 a_jumps' a_traceAt' a_recordPlace' a_recordLeft' a_recordRight' a_recordTaken' a_traceStart' a_traceEnd' a_traceSteps' a_operation' a_origin' a_target' a_left' a_right' a_known') : wX_run_95 post J (nI (r + 1)) 0 f_hotAt f_length f_place f_status f_executed f_printedCount f_recording f_header f_recorded f_traceCount f_codeEnd a_opcode a_fieldX a_fieldY a_fieldZ a_sorts a_values a_printedValues a_jumps a_traceAt a_recordPlace a_recordLeft a_recordRight a_recordTaken a_traceStart a_traceEnd a_traceSteps a_operation a_origin a_target a_left a_right a_known := by
  unfold wX_run_95
  refine br_t rfl (zt_xint hl hn hP hM hB hst hT ?_)
  intro f_recording' f_header' f_recorded' f_traceCount' f_codeEnd' a_jumps' a_traceAt' a_recordPlace' a_recordLeft' a_recordRight' a_recordTaken' a_traceStart' a_traceEnd' a_traceSteps' a_operation' a_origin' a_target' a_left' a_right' a_known'
  intro hT'
  exact nm_r (nI_pred r) (h f_recording' f_header' f_recorded' f_traceCount' f_codeEnd' a_jumps' a_traceAt' a_recordPlace' a_recordLeft' a_recordRight' a_recordTaken' a_traceStart' a_traceEnd' a_traceSteps' a_operation' a_origin' a_target' a_left' a_right' a_known' hT')
theorem zt_xrun {post : Int32 → SX → Prop} {l : Nat} (hl : l ≤ 24) (hn : f_length = nI l) (hP : zt_PV a_opcode a_fieldX a_fieldY a_fieldZ) :
    ∀ (fuel r B : Nat) (m : zt_MS) (f_recording : Int32) (f_header : Int32) (f_recorded : Int32) (f_traceCount : Int32) (f_codeEnd : Int32) (a_jumps : Nat → Int32) (a_traceAt : Nat → Int32) (a_recordPlace : Nat → Int32) (a_recordLeft : Nat → Int32) (a_recordRight : Nat → Int32) (a_recordTaken : Nat → Int32) (a_traceStart : Nat → Int32) (a_traceEnd : Nat → Int32) (a_traceSteps : Nat → Int32) (a_operation : Nat → Int32) (a_origin : Nat → Int32) (a_target : Nat → Int32) (a_left : Nat → Int32) (a_right : Nat → Int32) (a_known : Nat → Int32), r < fuel → r ≤ 300 → zt_MV B m → B + r + 24 < 2 ^ 31 → zt_TR f_length a_opcode a_fieldX a_fieldY a_fieldZ f_recording f_header f_recorded f_traceCount f_codeEnd a_traceAt a_recordPlace a_recordLeft a_recordRight a_recordTaken a_traceStart a_traceEnd a_traceSteps a_operation a_origin a_target a_left a_right m.1 →
      (∀ (f_recording' : Int32) (f_header' : Int32) (f_recorded' : Int32) (f_traceCount' : Int32) (f_codeEnd' : Int32) (a_jumps' : Nat → Int32) (a_traceAt' : Nat → Int32) (a_recordPlace' : Nat → Int32) (a_recordLeft' : Nat → Int32) (a_recordRight' : Nat → Int32) (a_recordTaken' : Nat → Int32) (a_traceStart' : Nat → Int32) (a_traceEnd' : Nat → Int32) (a_traceSteps' : Nat → Int32) (a_operation' : Nat → Int32) (a_origin' : Nat → Int32) (a_target' : Nat → Int32) (a_left' : Nat → Int32) (a_right' : Nat → Int32) (a_known' : Nat → Int32), zt_TR f_length a_opcode a_fieldX a_fieldY a_fieldZ f_recording' f_header' f_recorded' f_traceCount' f_codeEnd' a_traceAt' a_recordPlace' a_recordLeft' a_recordRight' a_recordTaken' a_traceStart' a_traceEnd' a_traceSteps' a_operation' a_origin' a_target' a_left' a_right' (zt_it f_length a_opcode a_fieldX a_fieldY a_fieldZ r m).1 → post (zt_it f_length a_opcode a_fieldX a_fieldY a_fieldZ r m).2.1 (f_hotAt, f_length, (zt_it f_length a_opcode a_fieldX a_fieldY a_fieldZ r m).1, (zt_it f_length a_opcode a_fieldX a_fieldY a_fieldZ r m).2.1, (zt_it f_length a_opcode a_fieldX a_fieldY a_fieldZ r m).2.2.1, (zt_it f_length a_opcode a_fieldX a_fieldY a_fieldZ r m).2.2.2.1, f_recording', f_header', f_recorded', f_traceCount', f_codeEnd', a_opcode, a_fieldX, a_fieldY, a_fieldZ, (zt_it f_length a_opcode a_fieldX a_fieldY a_fieldZ r m).2.2.2.2.1, (zt_it f_length a_opcode a_fieldX a_fieldY a_fieldZ r m).2.2.2.2.2.1, (zt_it f_length a_opcode a_fieldX a_fieldY a_fieldZ r m).2.2.2.2.2.2, a_jumps', a_traceAt', a_recordPlace', a_recordLeft', a_recordRight', a_recordTaken', a_traceStart', a_traceEnd', a_traceSteps', a_operation', a_origin', a_target', a_left', a_right', a_known')) → wX_run_28 post fuel (nI r) f_hotAt f_length m.1 m.2.1 m.2.2.1 m.2.2.2.1 f_recording f_header f_recorded f_traceCount f_codeEnd a_opcode a_fieldX a_fieldY a_fieldZ m.2.2.2.2.1 m.2.2.2.2.2.1 m.2.2.2.2.2.2 a_jumps a_traceAt a_recordPlace a_recordLeft a_recordRight a_recordTaken a_traceStart a_traceEnd a_traceSteps a_operation a_origin a_target a_left a_right a_known := by
  intro fuel
  induction fuel with
  | zero => intro r B m f_recording f_header f_recorded f_traceCount f_codeEnd a_jumps a_traceAt a_recordPlace a_recordLeft a_recordRight a_recordTaken a_traceStart a_traceEnd a_traceSteps a_operation a_origin a_target a_left a_right a_known hr; omega
  | succ fuel ih =>
    intro r B m f_recording f_header f_recorded f_traceCount f_codeEnd a_jumps a_traceAt a_recordPlace a_recordLeft a_recordRight a_recordTaken a_traceStart a_traceEnd a_traceSteps a_operation a_origin a_target a_left a_right a_known hr hr3 hM hB hT h
    rw [wX_run_28]
    dsimp only
    cases r with
    | zero => exact br_t (by decide) (h f_recording f_header f_recorded f_traceCount f_codeEnd a_jumps a_traceAt a_recordPlace a_recordLeft a_recordRight a_recordTaken a_traceStart a_traceEnd a_traceSteps a_operation a_origin a_target a_left a_right a_known hT)
    | succ r =>
      refine br_f (nI_nle (by omega) (by omega)) ?_
      by_cases hst : m.2.1 = 0
      · refine br_t hst ?_
        have go : wX_run_95 post (wX_run_28 post fuel) (nI (r + 1)) 0 f_hotAt f_length m.1 m.2.1 m.2.2.1 m.2.2.2.1 f_recording f_header f_recorded f_traceCount f_codeEnd a_opcode a_fieldX a_fieldY a_fieldZ m.2.2.2.2.1 m.2.2.2.2.2.1 m.2.2.2.2.2.2 a_jumps a_traceAt a_recordPlace a_recordLeft a_recordRight a_recordTaken a_traceStart a_traceEnd a_traceSteps a_operation a_origin a_target a_left a_right a_known := by
          refine zt_x95 (B := B) hl hn hP hM (by omega) hst hT ?_
          intro f_recording' f_header' f_recorded' f_traceCount' f_codeEnd' a_jumps' a_traceAt' a_recordPlace' a_recordLeft' a_recordRight' a_recordTaken' a_traceStart' a_traceEnd' a_traceSteps' a_operation' a_origin' a_target' a_left' a_right' a_known'
          intro hT'
          refine ih r (B + 1) (zt_step f_length a_opcode a_fieldX a_fieldY a_fieldZ m) f_recording' f_header' f_recorded' f_traceCount' f_codeEnd' a_jumps' a_traceAt' a_recordPlace' a_recordLeft' a_recordRight' a_recordTaken' a_traceStart' a_traceEnd' a_traceSteps' a_operation' a_origin' a_target' a_left' a_right' a_known' (by omega) (by omega) (zt_mv_step hl hn hP hM) (by omega) hT' ?_
          intro f_recording'' f_header'' f_recorded'' f_traceCount'' f_codeEnd'' a_jumps'' a_traceAt'' a_recordPlace'' a_recordLeft'' a_recordRight'' a_recordTaken'' a_traceStart'' a_traceEnd'' a_traceSteps'' a_operation'' a_origin'' a_target'' a_left'' a_right'' a_known''
          intro hT''
          have h2 := h f_recording'' f_header'' f_recorded'' f_traceCount'' f_codeEnd'' a_jumps'' a_traceAt'' a_recordPlace'' a_recordLeft'' a_recordRight'' a_recordTaken'' a_traceStart'' a_traceEnd'' a_traceSteps'' a_operation'' a_origin'' a_target'' a_left'' a_right'' a_known''
          rw [zt_it_s] at h2
          exact h2 hT''
        by_cases hpl : f_length ≤ m.1
        · refine br_t hpl ?_
          unfold wX_run_63
          exact br_t (by decide) go
        · have hlt : m.1 < f_length := Int32.not_le.mp hpl
          have hp2 : vp_in m.1 24 := zt_lt24 hM.1 hl hn hlt
          refine br_f hpl ⟨hp2, ?_⟩
          unfold wX_run_63
          obtain ⟨tc, ce, e1, e2, hTI, hTR⟩ := hT
          rcases hTI.2.2 m.1.toNatClampNeg (zt_cl hp2) with ha | ha | ⟨t, s, c, k, F, ht, ha, hS, hE, hN, hk0, hk, hce, hC⟩
          · rw [ha]
            exact br_t (by decide) go
          · rw [ha]
            exact br_t (by decide) go
          · have h1 := hTI.1
            have h2 := hTI.2.1
            have ecl : (nI t).toNatClampNeg = t := nI_clamp (by omega)
            rw [ha, ecl, hN]
            refine br_f (nI_pos (by omega)) ?_
            by_cases cr : f_recording = 0
            · refine br_t cr ⟨vp_in_nI (by omega) (by omega), ?_⟩
              by_cases ck : r + 1 < k
              · exact br_t (nI_lt ck (by omega)) go
              · refine br_f (nI_nlt (by omega) (by omega)) (zt_xpass (B := B) (i := m.1.toNatClampNeg) hl hn hP hM (by omega) hst (zt_inI hp2 (by omega)) (by omega) hS hE hk (by omega) hC ?_)
                intro d m' hd em
                cases d with
                | zero => rw [em]; exact go
                | succ d =>
                  subst em
                  show wX_run_95 post (wX_run_28 post fuel) (nI (r + 1)) (nI (d + 1)) f_hotAt f_length (zt_it f_length a_opcode a_fieldX a_fieldY a_fieldZ (d + 1) m).1 (zt_it f_length a_opcode a_fieldX a_fieldY a_fieldZ (d + 1) m).2.1 (zt_it f_length a_opcode a_fieldX a_fieldY a_fieldZ (d + 1) m).2.2.1 (zt_it f_length a_opcode a_fieldX a_fieldY a_fieldZ (d + 1) m).2.2.2.1 f_recording f_header f_recorded f_traceCount f_codeEnd a_opcode a_fieldX a_fieldY a_fieldZ (zt_it f_length a_opcode a_fieldX a_fieldY a_fieldZ (d + 1) m).2.2.2.2.1 (zt_it f_length a_opcode a_fieldX a_fieldY a_fieldZ (d + 1) m).2.2.2.2.2.1 (zt_it f_length a_opcode a_fieldX a_fieldY a_fieldZ (d + 1) m).2.2.2.2.2.2 a_jumps a_traceAt a_recordPlace a_recordLeft a_recordRight a_recordTaken a_traceStart a_traceEnd a_traceSteps a_operation a_origin a_target a_left a_right a_known
                  unfold wX_run_95
                  refine br_f (nI_ne0 (by omega) (by omega)) (nm_r (zt_sub (by omega)) ?_)
                  refine ih (r + 1 - (d + 1)) (B + (d + 1)) (zt_it f_length a_opcode a_fieldX a_fieldY a_fieldZ (d + 1) m) f_recording f_header f_recorded f_traceCount f_codeEnd a_jumps a_traceAt a_recordPlace a_recordLeft a_recordRight a_recordTaken a_traceStart a_traceEnd a_traceSteps a_operation a_origin a_target a_left a_right a_known (by omega) (by omega) (zt_mv_it hl hn hP hM (d + 1)) (by omega) ⟨tc, ce, e1, e2, hTI, Or.inl cr⟩ ?_
                  intro f_recording'' f_header'' f_recorded'' f_traceCount'' f_codeEnd'' a_jumps'' a_traceAt'' a_recordPlace'' a_recordLeft'' a_recordRight'' a_recordTaken'' a_traceStart'' a_traceEnd'' a_traceSteps'' a_operation'' a_origin'' a_target'' a_left'' a_right'' a_known''
                  intro hT''
                  have h2 := h f_recording'' f_header'' f_recorded'' f_traceCount'' f_codeEnd'' a_jumps'' a_traceAt'' a_recordPlace'' a_recordLeft'' a_recordRight'' a_recordTaken'' a_traceStart'' a_traceEnd'' a_traceSteps'' a_operation'' a_origin'' a_target'' a_left'' a_right'' a_known''
                  have ea : zt_it f_length a_opcode a_fieldX a_fieldY a_fieldZ (r + 1) m = zt_it f_length a_opcode a_fieldX a_fieldY a_fieldZ (r + 1 - (d + 1)) (zt_it f_length a_opcode a_fieldX a_fieldY a_fieldZ (d + 1) m) := by
                    rw [← zt_it_add]
                    congr 1
                    omega
                  rw [ea] at h2
                  exact h2 hT''
            · exact br_f cr go
      · refine br_f hst ?_
        have h2 := h f_recording f_header f_recorded f_traceCount f_codeEnd a_jumps a_traceAt a_recordPlace a_recordLeft a_recordRight a_recordTaken a_traceStart a_traceEnd a_traceSteps a_operation a_origin a_target a_left a_right a_known
        rw [zt_it_h _ m hst] at h2
        exact h2 hT
end ZK
end
section
/-! 11: the other methods -/
theorem zt_in6 {v : Int32} : vp_in v 6 ↔ ¬ v < 0 ∧ ¬ 5 < v := by
  have h0 : (0 : Int32).toInt = 0 := by decide
  have h5 : (5 : Int32).toInt = 5 := by decide
  rw [vp_in_iff, Int32.lt_iff_toInt_lt, Int32.lt_iff_toInt_lt, h0, h5]
  omega
theorem zt_in24 {v : Int32} : vp_in v 24 ↔ ¬ v < 0 ∧ ¬ 23 < v := by
  have h0 : (0 : Int32).toInt = 0 := by decide
  have h5 : (23 : Int32).toInt = 23 := by decide
  rw [vp_in_iff, Int32.lt_iff_toInt_lt, Int32.lt_iff_toInt_lt, h0, h5]
  omega
theorem zt_o11 {o : Int32} (h0 : ¬ o < 0) (h1 : o ≤ 10) : o = 0 ∨ o = 1 ∨ o = 2 ∨ o = 3 ∨ o = 4 ∨ o = 5 ∨ o = 6 ∨ o = 7 ∨ o = 8 ∨ o = 9 ∨ o = 10 := by
  obtain ⟨j, hj, rfl⟩ := nI_of2 (n := 10) (by decide) h0 h1
  have : j = 0 ∨ j = 1 ∨ j = 2 ∨ j = 3 ∨ j = 4 ∨ j = 5 ∨ j = 6 ∨ j = 7 ∨ j = 8 ∨ j = 9 ∨ j = 10 := by omega
  rcases this with rfl | rfl | rfl | rfl | rfl | rfl | rfl | rfl | rfl | rfl | rfl <;> decide
def zt_ty (o : Int32) : Prop := ¬ o < 4 ∧ ¬ 7 < o
def zt_fx (o x y : Int32) : Prop := (o = 9 ∧ vp_in x 24) ∨ (¬ o = 9 ∧ vp_in x 6 ∧ ((o = 8 ∧ vp_in y 24) ∨ (¬ o = 8 ∧ (o < 3 ∨ o = 10 ∨ vp_in y 6))))
def zt_fy (o x y z : Int32) : Prop := ¬ o < 0 ∧ o ≤ 10 ∧ zt_fx o x y ∧ (zt_ty o → vp_in z 6)
theorem zt_ty_n {o : Int32} (h : o < 4 ∨ 7 < o) : ¬ zt_ty o := fun t => h.elim t.1 t.2
theorem zt_fy_OI {o x y z z' : Int32} (h : zt_fy o x y z) (hz : zt_ty o → z' = z) : zt_OI o x y z' := by
  obtain ⟨h0, h1, hf, hv⟩ := h
  rcases zt_o11 h0 h1 with rfl | rfl | rfl | rfl | rfl | rfl | rfl | rfl | rfl | rfl | rfl
  · rcases hf with ⟨e, _⟩ | ⟨_, hx, _⟩
    · exact absurd e (by decide)
    · exact Or.inr ⟨hx, Or.inr (Or.inl (Or.inl rfl))⟩
  · rcases hf with ⟨e, _⟩ | ⟨_, hx, _⟩
    · exact absurd e (by decide)
    · exact Or.inr ⟨hx, Or.inr (Or.inl (Or.inr (Or.inl rfl)))⟩
  · rcases hf with ⟨e, _⟩ | ⟨_, hx, _⟩
    · exact absurd e (by decide)
    · exact Or.inr ⟨hx, Or.inr (Or.inl (Or.inr (Or.inr (Or.inl rfl))))⟩
  · rcases hf with ⟨e, _⟩ | ⟨_, hx, ⟨e, _⟩ | ⟨_, e | e | hy⟩⟩
    · exact absurd e (by decide)
    · exact absurd e (by decide)
    · exact absurd e (by decide)
    · exact absurd e (by decide)
    · exact Or.inr ⟨hx, Or.inr (Or.inr ⟨hy, Or.inl rfl⟩)⟩
  · rcases hf with ⟨e, _⟩ | ⟨_, hx, ⟨e, _⟩ | ⟨_, e | e | hy⟩⟩
    · exact absurd e (by decide)
    · exact absurd e (by decide)
    · exact absurd e (by decide)
    · exact absurd e (by decide)
    · exact Or.inr ⟨hx, Or.inr (Or.inr ⟨hy, Or.inr ⟨(hz ⟨by decide, by decide⟩).symm ▸ hv ⟨by decide, by decide⟩, Or.inl rfl⟩⟩)⟩
  · rcases hf with ⟨e, _⟩ | ⟨_, hx, ⟨e, _⟩ | ⟨_, e | e | hy⟩⟩
    · exact absurd e (by decide)
    · exact absurd e (by decide)
    · exact absurd e (by decide)
    · exact absurd e (by decide)
    · exact Or.inr ⟨hx, Or.inr (Or.inr ⟨hy, Or.inr ⟨(hz ⟨by decide, by decide⟩).symm ▸ hv ⟨by decide, by decide⟩, Or.inr (Or.inl rfl)⟩⟩)⟩
  · rcases hf with ⟨e, _⟩ | ⟨_, hx, ⟨e, _⟩ | ⟨_, e | e | hy⟩⟩
    · exact absurd e (by decide)
    · exact absurd e (by decide)
    · exact absurd e (by decide)
    · exact absurd e (by decide)
    · exact Or.inr ⟨hx, Or.inr (Or.inr ⟨hy, Or.inr ⟨(hz ⟨by decide, by decide⟩).symm ▸ hv ⟨by decide, by decide⟩, Or.inr (Or.inr (Or.inl rfl))⟩⟩)⟩
  · rcases hf with ⟨e, _⟩ | ⟨_, hx, ⟨e, _⟩ | ⟨_, e | e | hy⟩⟩
    · exact absurd e (by decide)
    · exact absurd e (by decide)
    · exact absurd e (by decide)
    · exact absurd e (by decide)
    · exact Or.inr ⟨hx, Or.inr (Or.inr ⟨hy, Or.inr ⟨(hz ⟨by decide, by decide⟩).symm ▸ hv ⟨by decide, by decide⟩, Or.inr (Or.inr (Or.inr rfl))⟩⟩)⟩
  · rcases hf with ⟨e, _⟩ | ⟨_, hx, ⟨_, hy⟩ | ⟨e, _⟩⟩
    · exact absurd e (by decide)
    · exact Or.inr ⟨hx, Or.inl ⟨rfl, hy⟩⟩
    · exact absurd rfl e
  · rcases hf with ⟨_, hx⟩ | ⟨e, _⟩
    · exact Or.inl ⟨rfl, hx⟩
    · exact absurd rfl e
  · rcases hf with ⟨e, _⟩ | ⟨_, hx, _⟩
    · exact absurd e (by decide)
    · exact Or.inr ⟨hx, Or.inr (Or.inl (Or.inr (Or.inr (Or.inr rfl))))⟩
theorem zt_OIb {o x y z : Int32} (h : zt_OI o x y z) : vp_nar .byte o.toInt8.toInt32 = o ∧ vp_nar .byte x.toInt8.toInt32 = x := by
  rcases h with ⟨rfl, hx⟩ | ⟨hx, ⟨rfl, _⟩ | (rfl | rfl | rfl | rfl) | ⟨_, rfl | ⟨_, rfl | rfl | rfl | rfl⟩⟩⟩ <;> exact ⟨by decide, zt_bi hx (by omega)⟩
theorem zt_PV_u {op ax ay az az' : Nat → Int32} {i : Nat} {o x y : Int32} (h : zt_PV op ax ay az) (hO : zt_OI o x y (az' i)) (hz : ∀ j, j ≠ i → az' j = az j) : zt_PV (upd op i o) (upd ax i x) (upd ay i y) az' := by
  intro j
  by_cases e : j = i
  · subst e
    rw [zt_us, zt_us, zt_us]; exact hO
  · rw [zt_un e, zt_un e, zt_un e, hz j e]; exact h j
theorem zt_AZ_u {op az bz az' bz' : Nat → Int32} {i : Nat} {o : Int32} (h : zt_AZ op az bz) (hO : (o = 4 ∨ o = 5 ∨ o = 6 ∨ o = 7) → bz' i = az' i) (ha : ∀ j, j ≠ i → az' j = az j) (hb : ∀ j, j ≠ i → bz' j = bz j) : zt_AZ (upd op i o) az' bz' := by
  intro j
  by_cases e : j = i
  · subst e
    rw [zt_us]; exact hO
  · rw [zt_un e, ha j e, hb j e]; exact h j
theorem zt_t4 {o : Int32} (h : o = 4 ∨ o = 5 ∨ o = 6 ∨ o = 7) : zt_ty o := by
  rcases h with rfl | rfl | rfl | rfl <;> exact ⟨by decide, by decide⟩
def zt_zz : Nat → (Nat → Int32) → Nat → Int32
  | 0, f => f
  | i + 1, f => upd (zt_zz i f) i 0
theorem zt_zz0 {f : Nat → Int32} {v : Nat} : ∀ i, v < i → zt_zz i f v = 0
  | 0, h => absurd h (by omega)
  | i + 1, h => by
    show upd (zt_zz i f) i 0 v = 0
    by_cases e : v = i
    · subst e; exact zt_us
    · rw [zt_un e]; exact zt_zz0 i (by omega)
section ZO
variable {f_hotAt f_length f_place f_status f_executed f_printedCount f_recording f_header f_recorded f_traceCount f_codeEnd : Int32}
variable {a_opcode a_fieldX a_fieldY a_fieldZ a_sorts a_values a_jumps a_traceAt a_recordPlace a_recordLeft a_recordRight a_recordTaken a_traceStart a_traceEnd a_traceSteps a_operation a_origin a_target a_left a_right a_known a_az : Nat → Int32}
variable {a_printedValues : Nat → Int64}
theorem zt_xvar {post : Int32 → Prop} {v : Int32} (ht : vp_in v 6 → post 1) (hf : ¬ vp_in v 6 → post 0) : wpX_isVariable post (f_hotAt, f_length, f_place, f_status, f_executed, f_printedCount, f_recording, f_header, f_recorded, f_traceCount, f_codeEnd, a_opcode, a_fieldX, a_fieldY, a_fieldZ, a_sorts, a_values, a_printedValues, a_jumps, a_traceAt, a_recordPlace, a_recordLeft, a_recordRight, a_recordTaken, a_traceStart, a_traceEnd, a_traceSteps, a_operation, a_origin, a_target, a_left, a_right, a_known) v := by
  unfold wpX_isVariable
  dsimp only
  exact br_c (fun a => hf (fun z => (zt_in6.mp z).1 a)) (fun a => br_c (fun b => hf (fun z => (zt_in6.mp z).2 b)) (fun b => ht (zt_in6.mpr ⟨a, b⟩)))
theorem zt_yvar {post : Int32 → Prop} {v : Int32} (ht : vp_in v 6 → post 1) (hf : ¬ vp_in v 6 → post 0) : wpY_isVariable post (f_length, f_printedCount, f_place, f_executed, f_status, a_opcode, a_fieldX, a_fieldY, a_az, a_sorts, a_values, a_printedValues) v := by
  unfold wpY_isVariable
  dsimp only
  exact br_c (fun a => hf (fun z => (zt_in6.mp z).1 a)) (fun a => br_c (fun b => hf (fun z => (zt_in6.mp z).2 b)) (fun b => ht (zt_in6.mpr ⟨a, b⟩)))
theorem zt_yplc {post : Int32 → Prop} {v : Int32} (ht : vp_in v 24 → post 1) (hf : ¬ vp_in v 24 → post 0) : wpY_isPlace post (f_length, f_printedCount, f_place, f_executed, f_status, a_opcode, a_fieldX, a_fieldY, a_az, a_sorts, a_values, a_printedValues) v := by
  unfold wpY_isPlace
  dsimp only
  exact br_c (fun a => hf (fun z => (zt_in24.mp z).1 a)) (fun a => br_c (fun b => hf (fun z => (zt_in24.mp z).2 b)) (fun b => ht (zt_in24.mpr ⟨a, b⟩)))
theorem zt_xcomb {post : Int32 → Prop} {o : Int32} (ht : zt_ty o → post 1) (hf : ¬ zt_ty o → post 0) : wpX_isCombining post (f_hotAt, f_length, f_place, f_status, f_executed, f_printedCount, f_recording, f_header, f_recorded, f_traceCount, f_codeEnd, a_opcode, a_fieldX, a_fieldY, a_fieldZ, a_sorts, a_values, a_printedValues, a_jumps, a_traceAt, a_recordPlace, a_recordLeft, a_recordRight, a_recordTaken, a_traceStart, a_traceEnd, a_traceSteps, a_operation, a_origin, a_target, a_left, a_right, a_known) o := by
  unfold wpX_isCombining
  dsimp only
  exact br_c (fun a => hf (fun z => z.1 a)) (fun a => br_c (fun b => hf (fun z => z.2 b)) (fun b => ht ⟨a, b⟩))
theorem zt_yty {post : Int32 → Prop} {o : Int32} (ht : zt_ty o → post 1) (hf : ¬ zt_ty o → post 0) : wpY_typed post (f_length, f_printedCount, f_place, f_executed, f_status, a_opcode, a_fieldX, a_fieldY, a_az, a_sorts, a_values, a_printedValues) o := by
  unfold wpY_typed
  dsimp only
  exact br_c (fun a => hf (fun z => z.1 a)) (fun a => br_c (fun b => hf (fun z => z.2 b)) (fun b => ht ⟨a, b⟩))
theorem zt_xfits {post : Int32 → Prop} {o x y : Int32} (ht : zt_fx o x y → post 1) (hf : ¬ zt_fx o x y → post 0) : wpX_fits post (f_hotAt, f_length, f_place, f_status, f_executed, f_printedCount, f_recording, f_header, f_recorded, f_traceCount, f_codeEnd, a_opcode, a_fieldX, a_fieldY, a_fieldZ, a_sorts, a_values, a_printedValues, a_jumps, a_traceAt, a_recordPlace, a_recordLeft, a_recordRight, a_recordTaken, a_traceStart, a_traceEnd, a_traceSteps, a_operation, a_origin, a_target, a_left, a_right, a_known) o x y := by
  unfold wpX_fits
  dsimp only
  refine br_c (fun c9 => ?_) (fun c9 => zt_xvar (fun hx => br_f (by decide) (br_c (fun c8 => ?_) (fun c8 => ?_))) (fun hx => br_t rfl (hf ?_)))
  · have hin : vp_in x 24 → post 1 := fun z => ht (Or.inl ⟨c9, z⟩)
    have hout : ¬ vp_in x 24 → post 0 := fun z => hf (fun h => by
      rcases h with ⟨_, a⟩ | ⟨a, _⟩
      · exact z a
      · exact a c9)
    exact br_c (fun a => hout (fun z => (zt_in24.mp z).1 a)) (fun a => br_c (fun b => hout (fun z => (zt_in24.mp z).2 b)) (fun b => hin (zt_in24.mpr ⟨a, b⟩)))
  · have hin : vp_in y 24 → post 1 := fun z => ht (Or.inr ⟨c9, hx, Or.inl ⟨c8, z⟩⟩)
    have hout : ¬ vp_in y 24 → post 0 := fun z => hf (fun h => by
      rcases h with ⟨a, _⟩ | ⟨_, _, ⟨_, a⟩ | ⟨a, _⟩⟩
      · exact c9 a
      · exact z a
      · exact a c8)
    exact br_c (fun a => hout (fun z => (zt_in24.mp z).1 a)) (fun a => br_c (fun b => hout (fun z => (zt_in24.mp z).2 b)) (fun b => hin (zt_in24.mpr ⟨a, b⟩)))
  · refine br_c (fun c3 => ht (Or.inr ⟨c9, hx, Or.inr ⟨c8, Or.inl c3⟩⟩)) (fun c3 => br_c (fun c10 => ht (Or.inr ⟨c9, hx, Or.inr ⟨c8, Or.inr (Or.inl c10)⟩⟩)) (fun c10 => zt_xvar (fun hy => br_f (by decide) (ht (Or.inr ⟨c9, hx, Or.inr ⟨c8, Or.inr (Or.inr hy)⟩⟩))) (fun hy => br_t rfl (hf ?_))))
    intro h
    rcases h with ⟨a, _⟩ | ⟨_, _, ⟨a, _⟩ | ⟨_, a | a | a⟩⟩
    · exact c9 a
    · exact c8 a
    · exact c3 a
    · exact c10 a
    · exact hy a
  · intro h
    rcases h with ⟨a, _⟩ | ⟨_, a, _⟩
    · exact c9 a
    · exact hx a
theorem zt_yfits {post : Int32 → Prop} {o x y z : Int32} (ht : zt_fy o x y z → post 1) (hf : ¬ zt_fy o x y z → post 0) : wpY_fits post (f_length, f_printedCount, f_place, f_executed, f_status, a_opcode, a_fieldX, a_fieldY, a_az, a_sorts, a_values, a_printedValues) o x y z := by
  unfold wpY_fits
  dsimp only
  refine br_c (fun c0 => hf (fun h => h.1 c0)) (fun c0 => br_c (fun c1 => ?_) (fun c1 => hf (fun h => c1 h.2.1)))
  refine br_c (fun c9 => ?_) (fun c9 => zt_yvar (fun hx => br_f (by decide) (br_c (fun c8 => ?_) (fun c8 => ?_))) (fun hx => br_t rfl (hf ?_)))
  · have nt : ¬ zt_ty o := zt_ty_n (by rw [c9]; decide)
    refine zt_yplc (fun a => ⟨narrow_b1, ht ⟨c0, c1, Or.inl ⟨c9, a⟩, fun t => absurd t nt⟩⟩) (fun a => ⟨narrow_b0, hf (fun h => ?_)⟩)
    rcases h.2.2.1 with ⟨_, b⟩ | ⟨b, _⟩
    · exact a b
    · exact b c9
  · have nt : ¬ zt_ty o := zt_ty_n (by rw [c8]; decide)
    refine zt_yplc (fun a => ⟨narrow_b1, ht ⟨c0, c1, Or.inr ⟨c9, hx, Or.inl ⟨c8, a⟩⟩, fun t => absurd t nt⟩⟩) (fun a => ⟨narrow_b0, hf (fun h => ?_)⟩)
    rcases h.2.2.1 with ⟨b, _⟩ | ⟨_, _, ⟨_, b⟩ | ⟨b, _⟩⟩
    · exact c9 b
    · exact a b
    · exact b c8
  · -- the third operand
    have f69 : zt_fx o x y → wY_fits_69 post o z f_length f_printedCount f_place f_executed f_status a_opcode a_fieldX a_fieldY a_az a_sorts a_values a_printedValues := by
      intro hx2
      unfold wY_fits_69
      refine zt_yty (fun t => br_f (by decide) (zt_yvar (fun hz => br_f (by decide) (ht ⟨c0, c1, hx2, fun _ => hz⟩)) (fun hz => br_t rfl (hf (fun h => hz (h.2.2.2 t)))))) (fun t => br_t rfl (ht ⟨c0, c1, hx2, fun t' => absurd t' t⟩))
    have f59 : (vp_in y 6 ∨ ¬ (o < 3 ∨ o = 10)) → wY_fits_59 post o y z f_length f_printedCount f_place f_executed f_status a_opcode a_fieldX a_fieldY a_az a_sorts a_values a_printedValues := by
      intro hy0
      unfold wY_fits_59
      refine zt_yvar (fun hy => br_f (by decide) (f69 (Or.inr ⟨c9, hx, Or.inr ⟨c8, Or.inr (Or.inr hy)⟩⟩))) (fun hy => br_t rfl (hf (fun h => ?_)))
      have hy1 := hy0.resolve_left hy
      rcases h.2.2.1 with ⟨a, _⟩ | ⟨_, _, ⟨a, _⟩ | ⟨_, a | a | a⟩⟩
      · exact c9 a
      · exact c8 a
      · exact hy1 (Or.inl a)
      · exact hy1 (Or.inr a)
      · exact hy a
    refine br_c (fun c3 => f59 (Or.inr (by rw [c3]; decide))) (fun c3 => zt_yty (fun t => br_f (by decide) (f59 (Or.inr ?_))) (fun t => br_t rfl (f69 (Or.inr ⟨c9, hx, Or.inr ⟨c8, ?_⟩⟩))))
    · rcases zt_o11 c0 c1 with rfl | rfl | rfl | rfl | rfl | rfl | rfl | rfl | rfl | rfl | rfl
      · exact absurd t.1 (by decide)
      · exact absurd t.1 (by decide)
      · exact absurd t.1 (by decide)
      · decide
      · decide
      · decide
      · decide
      · decide
      · decide
      · decide
      · exact absurd t.2 (by decide)
    · rcases zt_o11 c0 c1 with rfl | rfl | rfl | rfl | rfl | rfl | rfl | rfl | rfl | rfl | rfl
      · exact Or.inl (by decide)
      · exact Or.inl (by decide)
      · exact Or.inl (by decide)
      · exact absurd rfl c3
      · exact absurd ⟨by decide, by decide⟩ t
      · exact absurd ⟨by decide, by decide⟩ t
      · exact absurd ⟨by decide, by decide⟩ t
      · exact absurd ⟨by decide, by decide⟩ t
      · exact absurd rfl c8
      · exact absurd rfl c9
      · exact Or.inr (Or.inl rfl)
  · intro h
    rcases h.2.2.1 with ⟨a, _⟩ | ⟨_, a, _⟩
    · exact c9 a
    · exact hx a
theorem zt_xf2 {post : SX → Prop} (h : ∀ (ju' tA' : Nat → Int32), (∀ i, i < 24 → tA' i = -1) → post (f_hotAt, f_length, f_place, f_status, f_executed, f_printedCount, 0, f_header, f_recorded, 0, 0, a_opcode, a_fieldX, a_fieldY, a_fieldZ, a_sorts, a_values, a_printedValues, ju', tA', a_recordPlace, a_recordLeft, a_recordRight, a_recordTaken, a_traceStart, a_traceEnd, a_traceSteps, a_operation, a_origin, a_target, a_left, a_right, a_known)) :
    ∀ (d i : Nat), i + d = 24 → ∀ (a_jumps a_traceAt : Nat → Int32), (∀ v, v < i → a_traceAt v = -1) → wX_forgetTraces_2 post f_hotAt f_length f_place f_status f_executed f_printedCount f_recording f_header f_recorded f_traceCount f_codeEnd (d + 1) (nI i) a_opcode a_fieldX a_fieldY a_fieldZ a_sorts a_values a_printedValues a_jumps a_traceAt a_recordPlace a_recordLeft a_recordRight a_recordTaken a_traceStart a_traceEnd a_traceSteps a_operation a_origin a_target a_left a_right a_known := by
  intro d
  induction d with
  | zero =>
    intro i hi ju tA htA
    obtain rfl : i = 24 := by omega
    exact br_t (nI_le (a := 24) (by omega) (by omega)) (h ju tA htA)
  | succ d ih =>
    intro i hi ju tA htA
    rw [wX_forgetTraces_2]
    dsimp only
    rw [nI_clamp (show i < 2 ^ 31 by omega), zt_vbm1]
    have hin : vp_in (nI i) 24 := vp_in_nI (by omega) (by omega)
    refine br_f (nI_ge (b := 24) (by omega) (by omega)) ⟨hin, nm_e ⟨hin, nm_e (nm_r (nI_1 i) (ih (i + 1) (by omega) _ _ ?_))⟩⟩
    intro v hv
    by_cases e : v = i
    · subst e; exact zt_us
    · rw [zt_un e]; exact htA v (by omega)
theorem zt_xforget {post : SX → Prop} (h : ∀ (ju' tA' : Nat → Int32), (∀ i, i < 24 → tA' i = -1) → post (f_hotAt, f_length, f_place, f_status, f_executed, f_printedCount, 0, f_header, f_recorded, 0, 0, a_opcode, a_fieldX, a_fieldY, a_fieldZ, a_sorts, a_values, a_printedValues, ju', tA', a_recordPlace, a_recordLeft, a_recordRight, a_recordTaken, a_traceStart, a_traceEnd, a_traceSteps, a_operation, a_origin, a_target, a_left, a_right, a_known)) : wpX_forgetTraces post (f_hotAt, f_length, f_place, f_status, f_executed, f_printedCount, f_recording, f_header, f_recorded, f_traceCount, f_codeEnd, a_opcode, a_fieldX, a_fieldY, a_fieldZ, a_sorts, a_values, a_printedValues, a_jumps, a_traceAt, a_recordPlace, a_recordLeft, a_recordRight, a_recordTaken, a_traceStart, a_traceEnd, a_traceSteps, a_operation, a_origin, a_target, a_left, a_right, a_known) := by
  unfold wpX_forgetTraces
  dsimp only
  exact ⟨25, zt_xf2 h 24 0 (by omega) a_jumps a_traceAt (fun v hv => absurd hv (by omega))⟩
theorem zt_xset {post : SX → Prop} {i : Nat} {o x y : Int32} (hi : i < 24) (b0 : vp_nar .byte o.toInt8.toInt32 = o) (b1 : vp_nar .byte x.toInt8.toInt32 = x)
    (h : ∀ (ju' tA' : Nat → Int32), (∀ i, i < 24 → tA' i = -1) → post (f_hotAt, f_length, f_place, f_status, f_executed, f_printedCount, 0, f_header, f_recorded, 0, 0, (upd a_opcode i o), (upd a_fieldX i x), (upd a_fieldY i y), a_fieldZ, a_sorts, a_values, a_printedValues, ju', tA', a_recordPlace, a_recordLeft, a_recordRight, a_recordTaken, a_traceStart, a_traceEnd, a_traceSteps, a_operation, a_origin, a_target, a_left, a_right, a_known)) : wpX_setInstruction post (f_hotAt, f_length, f_place, f_status, f_executed, f_printedCount, f_recording, f_header, f_recorded, f_traceCount, f_codeEnd, a_opcode, a_fieldX, a_fieldY, a_fieldZ, a_sorts, a_values, a_printedValues, a_jumps, a_traceAt, a_recordPlace, a_recordLeft, a_recordRight, a_recordTaken, a_traceStart, a_traceEnd, a_traceSteps, a_operation, a_origin, a_target, a_left, a_right, a_known) (nI i) o x y := by
  unfold wpX_setInstruction
  dsimp only
  have hin : vp_in (nI i) 24 := vp_in_nI hi (by omega)
  rw [nI_clamp (show i < 2 ^ 31 by omega), b0, b1]
  exact ⟨hin, nm_e ⟨hin, nm_e ⟨hin, nm_e (zt_xforget h)⟩⟩⟩
theorem zt_xrs {post : SX → Prop} (h : post (f_hotAt, f_length, 0, 0, 0, 0, f_recording, f_header, f_recorded, f_traceCount, f_codeEnd, a_opcode, a_fieldX, a_fieldY, a_fieldZ, (zt_zz 6 a_sorts), (zt_zz 6 a_values), a_printedValues, a_jumps, a_traceAt, a_recordPlace, a_recordLeft, a_recordRight, a_recordTaken, a_traceStart, a_traceEnd, a_traceSteps, a_operation, a_origin, a_target, a_left, a_right, a_known)) :
    ∀ (d i : Nat), i + d = 6 → wX_restart_2 post f_hotAt f_length f_place f_status f_executed f_printedCount f_recording f_header f_recorded f_traceCount f_codeEnd (d + 1) (nI i) a_opcode a_fieldX a_fieldY a_fieldZ (zt_zz i a_sorts) (zt_zz i a_values) a_printedValues a_jumps a_traceAt a_recordPlace a_recordLeft a_recordRight a_recordTaken a_traceStart a_traceEnd a_traceSteps a_operation a_origin a_target a_left a_right a_known := by
  intro d
  induction d with
  | zero =>
    intro i hi
    obtain rfl : i = 6 := by omega
    exact br_t (nI_le (a := 6) (by omega) (by omega)) h
  | succ d ih =>
    intro i hi
    rw [wX_restart_2]
    dsimp only
    rw [nI_clamp (show i < 2 ^ 31 by omega), zt_vb0]
    have hin : vp_in (nI i) 6 := vp_in_nI (by omega) (by omega)
    exact br_f (nI_ge (b := 6) (by omega) (by omega)) ⟨hin, nm_e ⟨hin, nm_e (nm_r (nI_1 i) (ih (i + 1) (by omega)))⟩⟩
theorem zt_yrs {post : SY → Prop} (h : post (f_length, 0, 0, 0, 0, a_opcode, a_fieldX, a_fieldY, a_az, (zt_zz 6 a_sorts), (zt_zz 6 a_values), a_printedValues)) :
    ∀ (d i : Nat), i + d = 6 → wY_restart_2 post (d + 1) (nI i) f_length f_printedCount f_place f_executed f_status a_opcode a_fieldX a_fieldY a_az (zt_zz i a_sorts) (zt_zz i a_values) a_printedValues := by
  intro d
  induction d with
  | zero =>
    intro i hi
    obtain rfl : i = 6 := by omega
    exact br_t (nI_le (a := 6) (by omega) (by omega)) h
  | succ d ih =>
    intro i hi
    have hin : vp_in (nI i) 6 := vp_in_nI (by omega) (by omega)
    have ecl : (nI i).toNatClampNeg = i := nI_clamp (by omega)
    rw [wY_restart_2]
    dsimp only
    refine br_f (nI_ge (b := 6) (by omega) (by omega)) (zt_ygive hin ?_)
    rw [ecl]
    exact nm_r (nI_1 i) (ih (i + 1) (by omega))
end ZO
end
section
/-! 12: emit and replace, a side each -/
def zt_gr (l : Nat) (op : Nat → Int32) (p0 o x y : Int32) : Prop := ∃ i : Nat, i < l ∧ p0 = nI i ∧ ¬ zt_ty (op i) ∧ ¬ zt_ty o ∧ zt_fy o x y 0
theorem zt_ix {p n : Int32} {l : Nat} (hn : n = nI l) (hl : l ≤ 24) (c0 : ¬ p < 0) (c1 : ¬ n ≤ p) : ∃ i : Nat, i < l ∧ p = nI i := by
  obtain ⟨j, hj, rfl⟩ := nI_of c0
  rw [hn, nI_leI (by omega) hj] at c1
  exact ⟨j, by omega, rfl⟩
section ZQ
variable {f_hotAt f_length f_place f_status f_executed f_printedCount f_recording f_header f_recorded f_traceCount f_codeEnd : Int32}
variable {a_opcode a_fieldX a_fieldY a_fieldZ a_sorts a_values a_jumps a_traceAt a_recordPlace a_recordLeft a_recordRight a_recordTaken a_traceStart a_traceEnd a_traceSteps a_operation a_origin a_target a_left a_right a_known a_az : Nat → Int32}
variable {a_printedValues : Nat → Int64}
theorem zt_xemit {post : Int32 → SX → Prop} {o x y z : Int32} (hl : f_length < 24) (hok : zt_fy o x y z → wX_emit_56 post o x y z f_hotAt f_length f_place f_status f_executed f_printedCount f_recording f_header f_recorded f_traceCount f_codeEnd a_opcode a_fieldX a_fieldY a_fieldZ a_sorts a_values a_printedValues a_jumps a_traceAt a_recordPlace a_recordLeft a_recordRight a_recordTaken a_traceStart a_traceEnd a_traceSteps a_operation a_origin a_target a_left a_right a_known) (hbad : ¬ zt_fy o x y z → post (-1) (f_hotAt, f_length, f_place, f_status, f_executed, f_printedCount, f_recording, f_header, f_recorded, f_traceCount, f_codeEnd, a_opcode, a_fieldX, a_fieldY, a_fieldZ, a_sorts, a_values, a_printedValues, a_jumps, a_traceAt, a_recordPlace, a_recordLeft, a_recordRight, a_recordTaken, a_traceStart, a_traceEnd, a_traceSteps, a_operation, a_origin, a_target, a_left, a_right, a_known)) : wpX_emit post (f_hotAt, f_length, f_place, f_status, f_executed, f_printedCount, f_recording, f_header, f_recorded, f_traceCount, f_codeEnd, a_opcode, a_fieldX, a_fieldY, a_fieldZ, a_sorts, a_values, a_printedValues, a_jumps, a_traceAt, a_recordPlace, a_recordLeft, a_recordRight, a_recordTaken, a_traceStart, a_traceEnd, a_traceSteps, a_operation, a_origin, a_target, a_left, a_right, a_known) o x y z := by
  unfold wpX_emit
  dsimp only
  refine br_t hl (br_c (fun c0 => hbad (fun h => h.1 c0)) (fun c0 => br_c (fun c1 => hbad (fun h => Int32.not_lt.mpr h.2.1 c1)) (fun c1 => ?_)))
  refine zt_xfits (fun hf => br_f (by decide) (br_c (fun c4 => hok ⟨c0, Int32.not_lt.mp c1, hf, fun t => absurd c4 t.1⟩) (fun c4 => br_c (fun c7 => hok ⟨c0, Int32.not_lt.mp c1, hf, fun t => absurd c7 t.2⟩) (fun c7 => ?_)))) (fun hf => br_t rfl (hbad (fun h => hf h.2.2.1)))
  exact zt_xvar (fun hz => br_f (by decide) (hok ⟨c0, Int32.not_lt.mp c1, hf, fun _ => hz⟩)) (fun hz => br_t rfl (hbad (fun h => hz (h.2.2.2 ⟨c4, c7⟩))))
theorem zt_x56 {post : Int32 → SX → Prop} {l : Nat} {o x y z : Int32} (el : f_length = nI l) (hl : l < 24) (b0 : vp_nar .byte o.toInt8.toInt32 = o) (b1 : vp_nar .byte x.toInt8.toInt32 = x)
    (h : ∀ (ju' tA' : Nat → Int32), (∀ i, i < 24 → tA' i = -1) → post (nI (l + 1)) (f_hotAt, (nI (l + 1)), f_place, f_status, f_executed, f_printedCount, 0, f_header, f_recorded, 0, 0, (upd a_opcode l o), (upd a_fieldX l x), (upd a_fieldY l y), (upd a_fieldZ l (vp_nar .byte z.toInt8.toInt32)), a_sorts, a_values, a_printedValues, ju', tA', a_recordPlace, a_recordLeft, a_recordRight, a_recordTaken, a_traceStart, a_traceEnd, a_traceSteps, a_operation, a_origin, a_target, a_left, a_right, a_known)) : wX_emit_56 post o x y z f_hotAt f_length f_place f_status f_executed f_printedCount f_recording f_header f_recorded f_traceCount f_codeEnd a_opcode a_fieldX a_fieldY a_fieldZ a_sorts a_values a_printedValues a_jumps a_traceAt a_recordPlace a_recordLeft a_recordRight a_recordTaken a_traceStart a_traceEnd a_traceSteps a_operation a_origin a_target a_left a_right a_known := by
  subst el
  unfold wX_emit_56
  refine zt_xset hl b0 b1 ?_
  intro ju' tA' hA
  refine And.intro (vp_in_nI hl (by omega)) ?_
  rw [nI_clamp (show l < 2 ^ 31 by omega)]
  exact nm_e (nm_r (nI_1 l) (h ju' tA' hA))
theorem zt_ywrite {post : SY → Prop} {i : Nat} {o x y z : Int32} (hi : i < 24) (h : post (f_length, f_printedCount, f_place, f_executed, f_status, (upd a_opcode i o), (upd a_fieldX i x), (upd a_fieldY i y), (upd a_az i z), a_sorts, a_values, a_printedValues)) : wpY_write post (f_length, f_printedCount, f_place, f_executed, f_status, a_opcode, a_fieldX, a_fieldY, a_az, a_sorts, a_values, a_printedValues) (nI i) o x y z := by
  unfold wpY_write
  dsimp only
  have hin : vp_in (nI i) 24 := vp_in_nI hi (by omega)
  rw [nI_clamp (show i < 2 ^ 31 by omega)]
  exact ⟨hin, nm_e ⟨hin, nm_e ⟨hin, nm_e ⟨hin, nm_e h⟩⟩⟩⟩
theorem zt_yemit {post : Int32 → SY → Prop} {l : Nat} {o x y z : Int32} (el : f_length = nI l) (hl : l < 24)
    (hok : zt_fy o x y z → post (nI (l + 1)) ((nI (l + 1)), f_printedCount, f_place, f_executed, f_status, (upd a_opcode l o), (upd a_fieldX l x), (upd a_fieldY l y), (upd a_az l z), a_sorts, a_values, a_printedValues)) (hbad : ¬ zt_fy o x y z → post (-1) (f_length, f_printedCount, f_place, f_executed, f_status, a_opcode, a_fieldX, a_fieldY, a_az, a_sorts, a_values, a_printedValues)) : wpY_emit post (f_length, f_printedCount, f_place, f_executed, f_status, a_opcode, a_fieldX, a_fieldY, a_az, a_sorts, a_values, a_printedValues) o x y z := by
  subst el
  unfold wpY_emit
  dsimp only
  have hne : ¬ nI l = 24 := by
    intro e
    have e2 : nI l = nI 24 := e
    rw [nI_eq (by omega) (by omega)] at e2
    omega
  exact br_f hne (zt_yfits (fun hf => br_f (by decide) (zt_ywrite hl (nm_r (nI_1 l) (hok hf)))) (fun hf => br_t rfl (hbad hf)))
theorem zt_xrepl {post : Int32 → SX → Prop} {l : Nat} {p0 o x y : Int32} (el : f_length = nI l) (hl : l ≤ 24)
    (hok : ∀ i : Nat, i < l → p0 = nI i → ¬ zt_ty (a_opcode i) → ¬ zt_ty o → zt_fy o x y 0 → ∀ (ju' tA' : Nat → Int32), (∀ i, i < 24 → tA' i = -1) → post (nI i) (f_hotAt, f_length, f_place, f_status, f_executed, f_printedCount, 0, f_header, f_recorded, 0, 0, (upd a_opcode i o), (upd a_fieldX i x), (upd a_fieldY i y), a_fieldZ, a_sorts, a_values, a_printedValues, ju', tA', a_recordPlace, a_recordLeft, a_recordRight, a_recordTaken, a_traceStart, a_traceEnd, a_traceSteps, a_operation, a_origin, a_target, a_left, a_right, a_known))
    (hbad : ¬ zt_gr l a_opcode p0 o x y → post (-1) (f_hotAt, f_length, f_place, f_status, f_executed, f_printedCount, f_recording, f_header, f_recorded, f_traceCount, f_codeEnd, a_opcode, a_fieldX, a_fieldY, a_fieldZ, a_sorts, a_values, a_printedValues, a_jumps, a_traceAt, a_recordPlace, a_recordLeft, a_recordRight, a_recordTaken, a_traceStart, a_traceEnd, a_traceSteps, a_operation, a_origin, a_target, a_left, a_right, a_known)) : wpX_replace post (f_hotAt, f_length, f_place, f_status, f_executed, f_printedCount, f_recording, f_header, f_recorded, f_traceCount, f_codeEnd, a_opcode, a_fieldX, a_fieldY, a_fieldZ, a_sorts, a_values, a_printedValues, a_jumps, a_traceAt, a_recordPlace, a_recordLeft, a_recordRight, a_recordTaken, a_traceStart, a_traceEnd, a_traceSteps, a_operation, a_origin, a_target, a_left, a_right, a_known) p0 o x y := by
  unfold wpX_replace
  dsimp only
  refine br_c (fun c0 => hbad (fun ⟨i, hi, e, _⟩ => ?_)) (fun c0 => br_c (fun c1 => hbad (fun ⟨i, hi, e, _⟩ => ?_)) (fun c1 => ?_))
  · rw [e] at c0
    exact nI_pos (by omega) c0
  · rw [e, el] at c1
    exact nI_ge hi (by omega) c1
  · obtain ⟨i, hi, rfl⟩ := zt_ix el hl c0 c1
    have ecl : (nI i).toNatClampNeg = i := nI_clamp (by omega)
    rw [ecl]
    have ei : ∀ j : Nat, j < l → nI i = nI j → i = j := fun j hj e => (nI_eq (by omega) (by omega)).mp e
    refine br_c (fun c2 => hbad (fun ⟨j, hj, e, h1, h2, h3⟩ => h3.1 c2)) (fun c2 => br_c (fun c3 => ⟨vp_in_nI (by omega) (by omega), ?_⟩) (fun c3 => hbad (fun ⟨j, hj, e, h1, h2, h3⟩ => c3 h3.2.1)))
    refine zt_xcomb (fun t => br_f (by decide) (hbad (fun ⟨j, hj, e, h1, h2, h3⟩ => h1 (ei j hj e ▸ t)))) (fun t => br_t rfl (zt_xcomb (fun t2 => br_f (by decide) (hbad (fun ⟨j, hj, e, h1, h2, h3⟩ => h2 t2))) (fun t2 => br_t rfl ?_)))
    refine zt_xfits (fun hf => br_f (by decide) ?_) (fun hf => br_t rfl (hbad (fun ⟨j, hj, e, h1, h2, h3⟩ => hf h3.2.2.1)))
    have hfy : zt_fy o x y 0 := ⟨c2, c3, hf, fun t' => absurd t' t2⟩
    have hb := zt_OIb (zt_fy_OI (z' := 0) hfy (fun _ => rfl))
    exact zt_xset (by omega) hb.1 hb.2 (hok i hi rfl t t2 hfy)
theorem zt_yrepl {post : Int32 → SY → Prop} {l : Nat} {p0 o x y : Int32} (el : f_length = nI l) (hl : l ≤ 24)
    (hok : ∀ i : Nat, i < l → p0 = nI i → ¬ zt_ty (a_opcode i) → ¬ zt_ty o → zt_fy o x y 0 → post (nI i) (f_length, f_printedCount, f_place, f_executed, f_status, (upd a_opcode i o), (upd a_fieldX i x), (upd a_fieldY i y), (upd a_az i 0), a_sorts, a_values, a_printedValues))
    (hbad : ¬ zt_gr l a_opcode p0 o x y → post (-1) (f_length, f_printedCount, f_place, f_executed, f_status, a_opcode, a_fieldX, a_fieldY, a_az, a_sorts, a_values, a_printedValues)) : wpY_replace post (f_length, f_printedCount, f_place, f_executed, f_status, a_opcode, a_fieldX, a_fieldY, a_az, a_sorts, a_values, a_printedValues) p0 o x y := by
  unfold wpY_replace
  dsimp only
  refine br_c (fun c0 => hbad (fun ⟨i, hi, e, _⟩ => ?_)) (fun c0 => br_c (fun c1 => hbad (fun ⟨i, hi, e, _⟩ => ?_)) (fun c1 => ?_))
  · rw [e] at c0
    exact nI_pos (by omega) c0
  · rw [e, el] at c1
    exact nI_ge hi (by omega) c1
  · obtain ⟨i, hi, rfl⟩ := zt_ix el hl c0 c1
    have ecl : (nI i).toNatClampNeg = i := nI_clamp (by omega)
    rw [ecl]
    have ei : ∀ j : Nat, j < l → nI i = nI j → i = j := fun j hj e => (nI_eq (by omega) (by omega)).mp e
    refine ⟨vp_in_nI (by omega) (by omega), zt_yty (fun t => br_f (by decide) (hbad (fun ⟨j, hj, e, h1, h2, h3⟩ => h1 (ei j hj e ▸ t)))) (fun t => br_t rfl (zt_yty (fun t2 => br_f (by decide) (hbad (fun ⟨j, hj, e, h1, h2, h3⟩ => h2 t2))) (fun t2 => br_t rfl ?_)))⟩
    exact zt_yfits (fun hf => br_f (by decide) (zt_ywrite (by omega) (hok i hi rfl t t2 hf))) (fun hf => br_t rfl (hbad (fun ⟨j, hj, e, h1, h2, h3⟩ => hf h3)))
end ZQ
end
section
/-! 13: the relation, and what is owed -/
def zt_Y (u : SX) (a_az : Nat → Int32) : SY := match u with
  | (f_hotAt, f_length, f_place, f_status, f_executed, f_printedCount, f_recording, f_header, f_recorded, f_traceCount, f_codeEnd, a_opcode, a_fieldX, a_fieldY, a_fieldZ, a_sorts, a_values, a_printedValues, a_jumps, a_traceAt, a_recordPlace, a_recordLeft, a_recordRight, a_recordTaken, a_traceStart, a_traceEnd, a_traceSteps, a_operation, a_origin, a_target, a_left, a_right, a_known) => (f_length, f_printedCount, f_place, f_executed, f_status, a_opcode, a_fieldX, a_fieldY, a_az, a_sorts, a_values, a_printedValues)
def zt_Inv (k : Nat) (u : SX) (a_az : Nat → Int32) : Prop := match u with
  | (f_hotAt, f_length, f_place, f_status, f_executed, f_printedCount, f_recording, f_header, f_recorded, f_traceCount, f_codeEnd, a_opcode, a_fieldX, a_fieldY, a_fieldZ, a_sorts, a_values, a_printedValues, a_jumps, a_traceAt, a_recordPlace, a_recordLeft, a_recordRight, a_recordTaken, a_traceStart, a_traceEnd, a_traceSteps, a_operation, a_origin, a_target, a_left, a_right, a_known) => (∃ l : Nat, l ≤ 24 ∧ f_length = nI l) ∧ zt_PV a_opcode a_fieldX a_fieldY a_fieldZ ∧ zt_AZ a_opcode a_fieldZ a_az ∧ zt_MV (60 * k) (f_place, f_status, f_executed, f_printedCount, a_sorts, a_values, a_printedValues) ∧
      ∃ tc ce : Nat, f_traceCount = nI tc ∧ f_codeEnd = nI ce ∧ zt_TI f_length a_opcode a_fieldX a_fieldY a_fieldZ tc ce a_traceAt a_traceStart a_traceEnd a_traceSteps a_operation a_origin a_target a_left a_right
theorem zt_el {P : SX → Prop} (h : ∀ (f_hotAt : Int32) (f_length : Int32) (f_place : Int32) (f_status : Int32) (f_executed : Int32) (f_printedCount : Int32) (f_recording : Int32) (f_header : Int32) (f_recorded : Int32) (f_traceCount : Int32) (f_codeEnd : Int32) (a_opcode : Nat → Int32) (a_fieldX : Nat → Int32) (a_fieldY : Nat → Int32) (a_fieldZ : Nat → Int32) (a_sorts : Nat → Int32) (a_values : Nat → Int32) (a_printedValues : Nat → Int64) (a_jumps : Nat → Int32) (a_traceAt : Nat → Int32) (a_recordPlace : Nat → Int32) (a_recordLeft : Nat → Int32) (a_recordRight : Nat → Int32) (a_recordTaken : Nat → Int32) (a_traceStart : Nat → Int32) (a_traceEnd : Nat → Int32) (a_traceSteps : Nat → Int32) (a_operation : Nat → Int32) (a_origin : Nat → Int32) (a_target : Nat → Int32) (a_left : Nat → Int32) (a_right : Nat → Int32) (a_known : Nat → Int32), P (f_hotAt, f_length, f_place, f_status, f_executed, f_printedCount, f_recording, f_header, f_recorded, f_traceCount, f_codeEnd, a_opcode, a_fieldX, a_fieldY, a_fieldZ, a_sorts, a_values, a_printedValues, a_jumps, a_traceAt, a_recordPlace, a_recordLeft, a_recordRight, a_recordTaken, a_traceStart, a_traceEnd, a_traceSteps, a_operation, a_origin, a_target, a_left, a_right, a_known)) (u : SX) : P u := h u.1 u.2.1 u.2.2.1 u.2.2.2.1 u.2.2.2.2.1 u.2.2.2.2.2.1 u.2.2.2.2.2.2.1 u.2.2.2.2.2.2.2.1 u.2.2.2.2.2.2.2.2.1 u.2.2.2.2.2.2.2.2.2.1 u.2.2.2.2.2.2.2.2.2.2.1 u.2.2.2.2.2.2.2.2.2.2.2.1 u.2.2.2.2.2.2.2.2.2.2.2.2.1 u.2.2.2.2.2.2.2.2.2.2.2.2.2.1 u.2.2.2.2.2.2.2.2.2.2.2.2.2.2.1 u.2.2.2.2.2.2.2.2.2.2.2.2.2.2.2.1 u.2.2.2.2.2.2.2.2.2.2.2.2.2.2.2.2.1 u.2.2.2.2.2.2.2.2.2.2.2.2.2.2.2.2.2.1 u.2.2.2.2.2.2.2.2.2.2.2.2.2.2.2.2.2.2.1 u.2.2.2.2.2.2.2.2.2.2.2.2.2.2.2.2.2.2.2.1 u.2.2.2.2.2.2.2.2.2.2.2.2.2.2.2.2.2.2.2.2.1 u.2.2.2.2.2.2.2.2.2.2.2.2.2.2.2.2.2.2.2.2.2.1 u.2.2.2.2.2.2.2.2.2.2.2.2.2.2.2.2.2.2.2.2.2.2.1 u.2.2.2.2.2.2.2.2.2.2.2.2.2.2.2.2.2.2.2.2.2.2.2.1 u.2.2.2.2.2.2.2.2.2.2.2.2.2.2.2.2.2.2.2.2.2.2.2.2.1 u.2.2.2.2.2.2.2.2.2.2.2.2.2.2.2.2.2.2.2.2.2.2.2.2.2.1 u.2.2.2.2.2.2.2.2.2.2.2.2.2.2.2.2.2.2.2.2.2.2.2.2.2.2.1 u.2.2.2.2.2.2.2.2.2.2.2.2.2.2.2.2.2.2.2.2.2.2.2.2.2.2.2.1 u.2.2.2.2.2.2.2.2.2.2.2.2.2.2.2.2.2.2.2.2.2.2.2.2.2.2.2.2.1 u.2.2.2.2.2.2.2.2.2.2.2.2.2.2.2.2.2.2.2.2.2.2.2.2.2.2.2.2.2.1 u.2.2.2.2.2.2.2.2.2.2.2.2.2.2.2.2.2.2.2.2.2.2.2.2.2.2.2.2.2.2.1 u.2.2.2.2.2.2.2.2.2.2.2.2.2.2.2.2.2.2.2.2.2.2.2.2.2.2.2.2.2.2.2.1 u.2.2.2.2.2.2.2.2.2.2.2.2.2.2.2.2.2.2.2.2.2.2.2.2.2.2.2.2.2.2.2.2
/-- the relation: the reference holds the same program, machine and output; traces are right; the output's count has a bound -/
def i_Rel (k : Nat) (u : SX) (v : SY) : Prop := ∃ a_az : Nat → Int32, v = zt_Y u a_az ∧ zt_Inv k u a_az
theorem zt_both {P : SX → SY → Prop} {k : Nat} {u : SX} {v : SY} (I : i_Rel k u v) (h : ∀ (f_hotAt : Int32) (f_length : Int32) (f_place : Int32) (f_status : Int32) (f_executed : Int32) (f_printedCount : Int32) (f_recording : Int32) (f_header : Int32) (f_recorded : Int32) (f_traceCount : Int32) (f_codeEnd : Int32) (a_opcode : Nat → Int32) (a_fieldX : Nat → Int32) (a_fieldY : Nat → Int32) (a_fieldZ : Nat → Int32) (a_sorts : Nat → Int32) (a_values : Nat → Int32) (a_printedValues : Nat → Int64) (a_jumps : Nat → Int32) (a_traceAt : Nat → Int32) (a_recordPlace : Nat → Int32) (a_recordLeft : Nat → Int32) (a_recordRight : Nat → Int32) (a_recordTaken : Nat → Int32) (a_traceStart : Nat → Int32) (a_traceEnd : Nat → Int32) (a_traceSteps : Nat → Int32) (a_operation : Nat → Int32) (a_origin : Nat → Int32) (a_target : Nat → Int32) (a_left : Nat → Int32) (a_right : Nat → Int32) (a_known : Nat → Int32) (a_az : Nat → Int32), zt_Inv k (f_hotAt, f_length, f_place, f_status, f_executed, f_printedCount, f_recording, f_header, f_recorded, f_traceCount, f_codeEnd, a_opcode, a_fieldX, a_fieldY, a_fieldZ, a_sorts, a_values, a_printedValues, a_jumps, a_traceAt, a_recordPlace, a_recordLeft, a_recordRight, a_recordTaken, a_traceStart, a_traceEnd, a_traceSteps, a_operation, a_origin, a_target, a_left, a_right, a_known) a_az → P (f_hotAt, f_length, f_place, f_status, f_executed, f_printedCount, f_recording, f_header, f_recorded, f_traceCount, f_codeEnd, a_opcode, a_fieldX, a_fieldY, a_fieldZ, a_sorts, a_values, a_printedValues, a_jumps, a_traceAt, a_recordPlace, a_recordLeft, a_recordRight, a_recordTaken, a_traceStart, a_traceEnd, a_traceSteps, a_operation, a_origin, a_target, a_left, a_right, a_known) (f_length, f_printedCount, f_place, f_executed, f_status, a_opcode, a_fieldX, a_fieldY, a_az, a_sorts, a_values, a_printedValues)) : P u v := by
  obtain ⟨az, rfl, I⟩ := I
  revert I
  exact zt_el (P := fun u => zt_Inv k u az → P u (zt_Y u az)) (fun f_hotAt f_length f_place f_status f_executed f_printedCount f_recording f_header f_recorded f_traceCount f_codeEnd a_opcode a_fieldX a_fieldY a_fieldZ a_sorts a_values a_printedValues a_jumps a_traceAt a_recordPlace a_recordLeft a_recordRight a_recordTaken a_traceStart a_traceEnd a_traceSteps a_operation a_origin a_target a_left a_right a_known I => h f_hotAt f_length f_place f_status f_executed f_printedCount f_recording f_header f_recorded f_traceCount f_codeEnd a_opcode a_fieldX a_fieldY a_fieldZ a_sorts a_values a_printedValues a_jumps a_traceAt a_recordPlace a_recordLeft a_recordRight a_recordTaken a_traceStart a_traceEnd a_traceSteps a_operation a_origin a_target a_left a_right a_known az I) u
theorem zt_mvm {a b : Nat} {m : zt_MS} (h : zt_MV a m) (hab : a ≤ b) : zt_MV b m := by
  obtain ⟨h1, h2, q, hq, e⟩ := h
  exact ⟨h1, h2, q, by omega, e⟩
section ZV
variable {f_hotAt f_length f_place f_status f_executed f_printedCount f_recording f_header f_recorded f_traceCount f_codeEnd : Int32}
variable {a_opcode a_fieldX a_fieldY a_fieldZ a_sorts a_values a_jumps a_traceAt a_recordPlace a_recordLeft a_recordRight a_recordTaken a_traceStart a_traceEnd a_traceSteps a_operation a_origin a_target a_left a_right a_known a_az : Nat → Int32}
variable {a_printedValues : Nat → Int64}
theorem zt_Im {k : Nat} {a_az : Nat → Int32} (h : zt_Inv k (f_hotAt, f_length, f_place, f_status, f_executed, f_printedCount, f_recording, f_header, f_recorded, f_traceCount, f_codeEnd, a_opcode, a_fieldX, a_fieldY, a_fieldZ, a_sorts, a_values, a_printedValues, a_jumps, a_traceAt, a_recordPlace, a_recordLeft, a_recordRight, a_recordTaken, a_traceStart, a_traceEnd, a_traceSteps, a_operation, a_origin, a_target, a_left, a_right, a_known) a_az) : zt_Inv (k + 5) (f_hotAt, f_length, f_place, f_status, f_executed, f_printedCount, f_recording, f_header, f_recorded, f_traceCount, f_codeEnd, a_opcode, a_fieldX, a_fieldY, a_fieldZ, a_sorts, a_values, a_printedValues, a_jumps, a_traceAt, a_recordPlace, a_recordLeft, a_recordRight, a_recordTaken, a_traceStart, a_traceEnd, a_traceSteps, a_operation, a_origin, a_target, a_left, a_right, a_known) a_az := by
  obtain ⟨h1, h2, h3, h4, h5⟩ := h
  exact ⟨h1, h2, h3, zt_mvm h4 (by omega), h5⟩
theorem zt_nT {n : Int32} {op ax ay az tA tS tE tN opn org tgt lft rgt : Nat → Int32} (h : ∀ i, i < 24 → tA i = -1) : ∃ tc ce : Nat, (0 : Int32) = nI tc ∧ (0 : Int32) = nI ce ∧ zt_TI n op ax ay az tc ce tA tS tE tN opn org tgt lft rgt :=
  ⟨0, 0, rfl, rfl, by omega, by omega, fun i hi => Or.inl (h i hi)⟩
theorem i_up {k : Nat} {u : SX} {v : SY} (h : i_Rel k u v) : i_Rel (k + 5) u v :=
  zt_both (P := fun u v => i_Rel (k + 5) u v) h (fun f_hotAt f_length f_place f_status f_executed f_printedCount f_recording f_header f_recorded f_traceCount f_codeEnd a_opcode a_fieldX a_fieldY a_fieldZ a_sorts a_values a_printedValues a_jumps a_traceAt a_recordPlace a_recordLeft a_recordRight a_recordTaken a_traceStart a_traceEnd a_traceSteps a_operation a_origin a_target a_left a_right a_known a_az I => ⟨a_az, rfl, zt_Im I⟩)
theorem zt_x0 {z : Int32} : wX_init_202 (fun u => wpY_init (fun v => i_Rel 1 u v) z) f_hotAt 0 0 0 0 0 0 0 0 0 0 0 (fun _ => 0) (fun _ => 0) (fun _ => 0) (fun _ => 0) (fun _ => 0) (fun _ => 0) (fun _ => 0) (fun _ => 0) (fun _ => 0) (fun _ => 0) (fun _ => 0) (fun _ => 0) (fun _ => 0) (fun _ => 0) (fun _ => 0) (fun _ => 0) (fun _ => 0) (fun _ => 0) (fun _ => 0) (fun _ => 0) (fun _ => 0) (fun _ => 0) := by
  unfold wX_init_202
  refine zt_xforget ?_
  intro ju tA hA
  have h6 : vp_in 0 6 := vp_in_nI (n := 0) (by omega) (by omega)
  exact ⟨fun _ => 0, rfl, ⟨0, by omega, rfl⟩, fun i => Or.inr ⟨h6, Or.inr (Or.inl (Or.inl rfl))⟩, fun i _ => rfl, ⟨vp_in_nI (n := 0) (by omega) (by omega), fun v _ => Or.inl ⟨rfl, rfl⟩, 0, by omega, rfl⟩, zt_nT hA⟩
theorem i_vc0 (k0 : Int32) : wpX_init (fun u => wpY_init (fun v => i_Rel 1 u v) k0) k0 := by
  unfold wpX_init
  exact br_c (fun _ => br_c (fun _ => zt_x0) (fun _ => zt_x0)) (fun _ => zt_x0)
theorem i_vc_emit {k : Nat} {u : SX} {v : SY} (I : i_Rel k u v) (hk : k + 5 ≤ 2561) (v1 : Int32) (v2 : Int32) (v3 : Int32) (v4 : Int32) : wpX_emit (fun r u' => wpY_emit (fun r' v' => r' = r ∧ i_Rel (k + 5) u' v') v v1 v2 v3 v4) u v1 v2 v3 v4 := by
  refine zt_both (P := fun u v => wpX_emit (fun r u' => wpY_emit (fun r' v' => r' = r ∧ i_Rel (k + 5) u' v') v v1 v2 v3 v4) u v1 v2 v3 v4) I ?_
  intro f_hotAt f_length f_place f_status f_executed f_printedCount f_recording f_header f_recorded f_traceCount f_codeEnd a_opcode a_fieldX a_fieldY a_fieldZ a_sorts a_values a_printedValues a_jumps a_traceAt a_recordPlace a_recordLeft a_recordRight a_recordTaken a_traceStart a_traceEnd a_traceSteps a_operation a_origin a_target a_left a_right a_known a_az J
  have J0 := zt_Im J
  obtain ⟨⟨l, hl, el⟩, hP, hZ, hM, hT⟩ := J
  by_cases c : l < 24
  · have cl : f_length < 24 := by rw [el]; exact nI_lt (b := 24) c (by omega)
    refine zt_xemit cl (fun hf => ?_) (fun hf => zt_yemit el c (fun h => absurd h hf) (fun _ => ⟨rfl, a_az, rfl, J0⟩))
    have hz : zt_ty v1 → vp_nar .byte v4.toInt8.toInt32 = v4 := fun t => zt_bi (hf.2.2.2 t) (by omega)
    have hO := zt_fy_OI hf hz
    have hb := zt_OIb hO
    refine zt_x56 el c hb.1 hb.2 ?_
    intro ju tA hA
    refine zt_yemit el c (fun _ => ⟨rfl, _, rfl, ?_⟩) (fun h => absurd hf h)
    refine ⟨⟨l + 1, by omega, rfl⟩, zt_PV_u hP (by rw [zt_us]; exact hO) (fun j hj => zt_un hj), zt_AZ_u hZ (fun h => ?_) (fun j hj => zt_un hj) (fun j hj => zt_un hj), zt_mvm hM (by omega), zt_nT hA⟩
    rw [zt_us, zt_us]
    exact (hz (zt_t4 h)).symm
  · obtain rfl : l = 24 := by omega
    subst el
    exact br_f (nI_nlt (a := 24) (b := 24) (by omega) (by omega)) (br_t rfl ⟨rfl, a_az, rfl, J0⟩)
theorem i_vc_replace {k : Nat} {u : SX} {v : SY} (I : i_Rel k u v) (hk : k + 5 ≤ 2561) (v1 : Int32) (v2 : Int32) (v3 : Int32) (v4 : Int32) : wpX_replace (fun r u' => wpY_replace (fun r' v' => r' = r ∧ i_Rel (k + 5) u' v') v v1 v2 v3 v4) u v1 v2 v3 v4 := by
  refine zt_both (P := fun u v => wpX_replace (fun r u' => wpY_replace (fun r' v' => r' = r ∧ i_Rel (k + 5) u' v') v v1 v2 v3 v4) u v1 v2 v3 v4) I ?_
  intro f_hotAt f_length f_place f_status f_executed f_printedCount f_recording f_header f_recorded f_traceCount f_codeEnd a_opcode a_fieldX a_fieldY a_fieldZ a_sorts a_values a_printedValues a_jumps a_traceAt a_recordPlace a_recordLeft a_recordRight a_recordTaken a_traceStart a_traceEnd a_traceSteps a_operation a_origin a_target a_left a_right a_known a_az J
  have J0 := zt_Im J
  obtain ⟨⟨l, hl, el⟩, hP, hZ, hM, hT⟩ := J
  refine zt_xrepl el hl ?_ (fun hb => zt_yrepl el hl (fun i hi e h1 h2 h3 => absurd ⟨i, hi, e, h1, h2, h3⟩ hb) (fun _ => ⟨rfl, a_az, rfl, J0⟩))
  intro i hi e h1 h2 h3 ju tA hA
  refine zt_yrepl el hl ?_ (fun hb => absurd ⟨i, hi, e, h1, h2, h3⟩ hb)
  intro j hj e' _ _ _
  obtain rfl : i = j := (nI_eq (by omega) (by omega)).mp (e.symm.trans e')
  exact ⟨rfl, _, rfl, ⟨l, hl, el⟩, zt_PV_u hP (zt_fy_OI h3 (fun t => absurd t h2)) (fun _ _ => rfl), zt_AZ_u hZ (fun h => absurd (zt_t4 h) h2) (fun _ _ => rfl) (fun j hj => zt_un hj), zt_mvm hM (by omega), zt_nT hA⟩
theorem i_vc_restart {k : Nat} {u : SX} {v : SY} (I : i_Rel k u v) (hk : k + 5 ≤ 2561) : wpX_restart (fun u' => wpY_restart (fun v' => i_Rel (k + 5) u' v') v) u := by
  refine zt_both (P := fun u v => wpX_restart (fun u' => wpY_restart (fun v' => i_Rel (k + 5) u' v') v) u) I ?_
  intro f_hotAt f_length f_place f_status f_executed f_printedCount f_recording f_header f_recorded f_traceCount f_codeEnd a_opcode a_fieldX a_fieldY a_fieldZ a_sorts a_values a_printedValues a_jumps a_traceAt a_recordPlace a_recordLeft a_recordRight a_recordTaken a_traceStart a_traceEnd a_traceSteps a_operation a_origin a_target a_left a_right a_known a_az J
  obtain ⟨⟨l, hl, el⟩, hP, hZ, hM, hT⟩ := J
  unfold wpX_restart
  dsimp only
  refine ⟨7, zt_xrs ?_ 6 0 (by omega)⟩
  unfold wpY_restart
  dsimp only
  refine ⟨7, zt_yrs ?_ 6 0 (by omega)⟩
  exact ⟨a_az, rfl, ⟨l, hl, el⟩, hP, hZ, ⟨vp_in_nI (n := 0) (by omega) (by omega), fun v hv => Or.inl ⟨zt_zz0 6 hv, zt_zz0 6 hv⟩, 0, by omega, rfl⟩, hT⟩
theorem i_vc_put {k : Nat} {u : SX} {v : SY} (I : i_Rel k u v) (hk : k + 5 ≤ 2561) (v1 : Int32) (v2 : Int32) : wpX_put (fun r u' => wpY_put (fun r' v' => r' = r ∧ i_Rel (k + 5) u' v') v v1 v2) u v1 v2 := by
  refine zt_both (P := fun u v => wpX_put (fun r u' => wpY_put (fun r' v' => r' = r ∧ i_Rel (k + 5) u' v') v v1 v2) u v1 v2) I ?_
  intro f_hotAt f_length f_place f_status f_executed f_printedCount f_recording f_header f_recorded f_traceCount f_codeEnd a_opcode a_fieldX a_fieldY a_fieldZ a_sorts a_values a_printedValues a_jumps a_traceAt a_recordPlace a_recordLeft a_recordRight a_recordTaken a_traceStart a_traceEnd a_traceSteps a_operation a_origin a_target a_left a_right a_known a_az J
  have J0 := zt_Im J
  obtain ⟨⟨l, hl, el⟩, hP, hZ, hM, hT⟩ := J
  unfold wpX_put
  dsimp only
  refine zt_xvar (fun hx => br_f (by decide) (zt_xassign hx zt_s1 ?_)) (fun hx => br_t rfl ?_)
  · unfold wpY_put
    dsimp only
    refine zt_yvar (fun _ => br_f (by decide) (zt_ygive hx ?_)) (fun h => absurd hx h)
    obtain ⟨hp, hw, q, hq, eq⟩ := hM
    exact ⟨rfl, a_az, rfl, ⟨l, hl, el⟩, hP, hZ, ⟨hp, zt_wv_asg hw (Or.inr (Or.inl rfl)), q, by omega, eq⟩, hT⟩
  · unfold wpY_put
    dsimp only
    exact zt_yvar (fun h => absurd h hx) (fun _ => br_t rfl ⟨rfl, a_az, rfl, J0⟩)
theorem i_vc_run {k : Nat} {u : SX} {v : SY} (I : i_Rel k u v) (hk : k + 5 ≤ 2561) (v1 : Int32) : wpX_run (fun r u' => wpY_run (fun r' v' => r' = r ∧ i_Rel (k + 5) u' v') v v1) u v1 := by
  refine zt_both (P := fun u v => wpX_run (fun r u' => wpY_run (fun r' v' => r' = r ∧ i_Rel (k + 5) u' v') v v1) u v1) I ?_
  intro f_hotAt f_length f_place f_status f_executed f_printedCount f_recording f_header f_recorded f_traceCount f_codeEnd a_opcode a_fieldX a_fieldY a_fieldZ a_sorts a_values a_printedValues a_jumps a_traceAt a_recordPlace a_recordLeft a_recordRight a_recordTaken a_traceStart a_traceEnd a_traceSteps a_operation a_origin a_target a_left a_right a_known a_az J
  obtain ⟨⟨l, hl, el⟩, hP, hZ, hM, tc, ce, e1, e2, hT⟩ := J
  have rX : ∀ (r : Nat) (post : Int32 → SX → Prop), r ≤ 300 → (∀ (f_recording' : Int32) (f_header' : Int32) (f_recorded' : Int32) (f_traceCount' : Int32) (f_codeEnd' : Int32) (a_jumps' : Nat → Int32) (a_traceAt' : Nat → Int32) (a_recordPlace' : Nat → Int32) (a_recordLeft' : Nat → Int32) (a_recordRight' : Nat → Int32) (a_recordTaken' : Nat → Int32) (a_traceStart' : Nat → Int32) (a_traceEnd' : Nat → Int32) (a_traceSteps' : Nat → Int32) (a_operation' : Nat → Int32) (a_origin' : Nat → Int32) (a_target' : Nat → Int32) (a_left' : Nat → Int32) (a_right' : Nat → Int32) (a_known' : Nat → Int32), zt_TR f_length a_opcode a_fieldX a_fieldY a_fieldZ f_recording' f_header' f_recorded' f_traceCount' f_codeEnd' a_traceAt' a_recordPlace' a_recordLeft' a_recordRight' a_recordTaken' a_traceStart' a_traceEnd' a_traceSteps' a_operation' a_origin' a_target' a_left' a_right' (zt_it f_length a_opcode a_fieldX a_fieldY a_fieldZ r (f_place, f_status, f_executed, f_printedCount, a_sorts, a_values, a_printedValues)).1 → post (zt_it f_length a_opcode a_fieldX a_fieldY a_fieldZ r (f_place, f_status, f_executed, f_printedCount, a_sorts, a_values, a_printedValues)).2.1 (f_hotAt, f_length, (zt_it f_length a_opcode a_fieldX a_fieldY a_fieldZ r (f_place, f_status, f_executed, f_printedCount, a_sorts, a_values, a_printedValues)).1, (zt_it f_length a_opcode a_fieldX a_fieldY a_fieldZ r (f_place, f_status, f_executed, f_printedCount, a_sorts, a_values, a_printedValues)).2.1, (zt_it f_length a_opcode a_fieldX a_fieldY a_fieldZ r (f_place, f_status, f_executed, f_printedCount, a_sorts, a_values, a_printedValues)).2.2.1, (zt_it f_length a_opcode a_fieldX a_fieldY a_fieldZ r (f_place, f_status, f_executed, f_printedCount, a_sorts, a_values, a_printedValues)).2.2.2.1, f_recording', f_header', f_recorded', f_traceCount', f_codeEnd', a_opcode, a_fieldX, a_fieldY, a_fieldZ, (zt_it f_length a_opcode a_fieldX a_fieldY a_fieldZ r (f_place, f_status, f_executed, f_printedCount, a_sorts, a_values, a_printedValues)).2.2.2.2.1, (zt_it f_length a_opcode a_fieldX a_fieldY a_fieldZ r (f_place, f_status, f_executed, f_printedCount, a_sorts, a_values, a_printedValues)).2.2.2.2.2.1, (zt_it f_length a_opcode a_fieldX a_fieldY a_fieldZ r (f_place, f_status, f_executed, f_printedCount, a_sorts, a_values, a_printedValues)).2.2.2.2.2.2, a_jumps', a_traceAt', a_recordPlace', a_recordLeft', a_recordRight', a_recordTaken', a_traceStart', a_traceEnd', a_traceSteps', a_operation', a_origin', a_target', a_left', a_right', a_known')) → ∃ n, wX_run_28 post n (nI r) f_hotAt f_length f_place f_status f_executed f_printedCount 0 f_header f_recorded f_traceCount f_codeEnd a_opcode a_fieldX a_fieldY a_fieldZ a_sorts a_values a_printedValues a_jumps a_traceAt a_recordPlace a_recordLeft a_recordRight a_recordTaken a_traceStart a_traceEnd a_traceSteps a_operation a_origin a_target a_left a_right a_known := by
    intro r post hr h
    exact ⟨r + 1, zt_xrun hl el hP (r + 1) r (60 * k) (f_place, f_status, f_executed, f_printedCount, a_sorts, a_values, a_printedValues) 0 _ _ _ _ _ _ _ _ _ _ _ _ _ _ _ _ _ _ _ (by omega) hr hM (by omega) ⟨tc, ce, e1, e2, hT, Or.inl rfl⟩ h⟩
  have rY : ∀ (r : Nat) (post : Int32 → SY → Prop), r ≤ 300 → post (zt_it f_length a_opcode a_fieldX a_fieldY a_fieldZ r (f_place, f_status, f_executed, f_printedCount, a_sorts, a_values, a_printedValues)).2.1 (f_length, (zt_it f_length a_opcode a_fieldX a_fieldY a_fieldZ r (f_place, f_status, f_executed, f_printedCount, a_sorts, a_values, a_printedValues)).2.2.2.1, (zt_it f_length a_opcode a_fieldX a_fieldY a_fieldZ r (f_place, f_status, f_executed, f_printedCount, a_sorts, a_values, a_printedValues)).1, (zt_it f_length a_opcode a_fieldX a_fieldY a_fieldZ r (f_place, f_status, f_executed, f_printedCount, a_sorts, a_values, a_printedValues)).2.2.1, (zt_it f_length a_opcode a_fieldX a_fieldY a_fieldZ r (f_place, f_status, f_executed, f_printedCount, a_sorts, a_values, a_printedValues)).2.1, a_opcode, a_fieldX, a_fieldY, a_az, (zt_it f_length a_opcode a_fieldX a_fieldY a_fieldZ r (f_place, f_status, f_executed, f_printedCount, a_sorts, a_values, a_printedValues)).2.2.2.2.1, (zt_it f_length a_opcode a_fieldX a_fieldY a_fieldZ r (f_place, f_status, f_executed, f_printedCount, a_sorts, a_values, a_printedValues)).2.2.2.2.2.1, (zt_it f_length a_opcode a_fieldX a_fieldY a_fieldZ r (f_place, f_status, f_executed, f_printedCount, a_sorts, a_values, a_printedValues)).2.2.2.2.2.2) → ∃ n, wY_run_25 post (nI r) n 0 f_length f_printedCount f_place f_executed f_status a_opcode a_fieldX a_fieldY a_az a_sorts a_values a_printedValues := by
    intro r post hr h
    exact ⟨r + 1, zt_yrun hl el hP hZ hr r 0 (60 * k) (f_place, f_status, f_executed, f_printedCount, a_sorts, a_values, a_printedValues) (by omega) hM (by omega) (fun m' e => by rw [e]; exact h)⟩
  have rel : ∀ (r : Nat) (f_recording' : Int32) (f_header' : Int32) (f_recorded' : Int32) (f_traceCount' : Int32) (f_codeEnd' : Int32) (a_jumps' : Nat → Int32) (a_traceAt' : Nat → Int32) (a_recordPlace' : Nat → Int32) (a_recordLeft' : Nat → Int32) (a_recordRight' : Nat → Int32) (a_recordTaken' : Nat → Int32) (a_traceStart' : Nat → Int32) (a_traceEnd' : Nat → Int32) (a_traceSteps' : Nat → Int32) (a_operation' : Nat → Int32) (a_origin' : Nat → Int32) (a_target' : Nat → Int32) (a_left' : Nat → Int32) (a_right' : Nat → Int32) (a_known' : Nat → Int32), r ≤ 300 → zt_TR f_length a_opcode a_fieldX a_fieldY a_fieldZ f_recording' f_header' f_recorded' f_traceCount' f_codeEnd' a_traceAt' a_recordPlace' a_recordLeft' a_recordRight' a_recordTaken' a_traceStart' a_traceEnd' a_traceSteps' a_operation' a_origin' a_target' a_left' a_right' (zt_it f_length a_opcode a_fieldX a_fieldY a_fieldZ r (f_place, f_status, f_executed, f_printedCount, a_sorts, a_values, a_printedValues)).1 → (zt_it f_length a_opcode a_fieldX a_fieldY a_fieldZ r (f_place, f_status, f_executed, f_printedCount, a_sorts, a_values, a_printedValues)).2.1 = (zt_it f_length a_opcode a_fieldX a_fieldY a_fieldZ r (f_place, f_status, f_executed, f_printedCount, a_sorts, a_values, a_printedValues)).2.1 ∧ i_Rel (k + 5) (f_hotAt, f_length, (zt_it f_length a_opcode a_fieldX a_fieldY a_fieldZ r (f_place, f_status, f_executed, f_printedCount, a_sorts, a_values, a_printedValues)).1, (zt_it f_length a_opcode a_fieldX a_fieldY a_fieldZ r (f_place, f_status, f_executed, f_printedCount, a_sorts, a_values, a_printedValues)).2.1, (zt_it f_length a_opcode a_fieldX a_fieldY a_fieldZ r (f_place, f_status, f_executed, f_printedCount, a_sorts, a_values, a_printedValues)).2.2.1, (zt_it f_length a_opcode a_fieldX a_fieldY a_fieldZ r (f_place, f_status, f_executed, f_printedCount, a_sorts, a_values, a_printedValues)).2.2.2.1, f_recording', f_header', f_recorded', f_traceCount', f_codeEnd', a_opcode, a_fieldX, a_fieldY, a_fieldZ, (zt_it f_length a_opcode a_fieldX a_fieldY a_fieldZ r (f_place, f_status, f_executed, f_printedCount, a_sorts, a_values, a_printedValues)).2.2.2.2.1, (zt_it f_length a_opcode a_fieldX a_fieldY a_fieldZ r (f_place, f_status, f_executed, f_printedCount, a_sorts, a_values, a_printedValues)).2.2.2.2.2.1, (zt_it f_length a_opcode a_fieldX a_fieldY a_fieldZ r (f_place, f_status, f_executed, f_printedCount, a_sorts, a_values, a_printedValues)).2.2.2.2.2.2, a_jumps', a_traceAt', a_recordPlace', a_recordLeft', a_recordRight', a_recordTaken', a_traceStart', a_traceEnd', a_traceSteps', a_operation', a_origin', a_target', a_left', a_right', a_known') (f_length, (zt_it f_length a_opcode a_fieldX a_fieldY a_fieldZ r (f_place, f_status, f_executed, f_printedCount, a_sorts, a_values, a_printedValues)).2.2.2.1, (zt_it f_length a_opcode a_fieldX a_fieldY a_fieldZ r (f_place, f_status, f_executed, f_printedCount, a_sorts, a_values, a_printedValues)).1, (zt_it f_length a_opcode a_fieldX a_fieldY a_fieldZ r (f_place, f_status, f_executed, f_printedCount, a_sorts, a_values, a_printedValues)).2.2.1, (zt_it f_length a_opcode a_fieldX a_fieldY a_fieldZ r (f_place, f_status, f_executed, f_printedCount, a_sorts, a_values, a_printedValues)).2.1, a_opcode, a_fieldX, a_fieldY, a_az, (zt_it f_length a_opcode a_fieldX a_fieldY a_fieldZ r (f_place, f_status, f_executed, f_printedCount, a_sorts, a_values, a_printedValues)).2.2.2.2.1, (zt_it f_length a_opcode a_fieldX a_fieldY a_fieldZ r (f_place, f_status, f_executed, f_printedCount, a_sorts, a_values, a_printedValues)).2.2.2.2.2.1, (zt_it f_length a_opcode a_fieldX a_fieldY a_fieldZ r (f_place, f_status, f_executed, f_printedCount, a_sorts, a_values, a_printedValues)).2.2.2.2.2.2) := by
    intro r f_recording' f_header' f_recorded' f_traceCount' f_codeEnd' a_jumps' a_traceAt' a_recordPlace' a_recordLeft' a_recordRight' a_recordTaken' a_traceStart' a_traceEnd' a_traceSteps' a_operation' a_origin' a_target' a_left' a_right' a_known'
    intro hr hT'
    obtain ⟨tc', ce', e1', e2', hT1, _⟩ := hT'
    exact ⟨rfl, a_az, rfl, ⟨l, hl, el⟩, hP, hZ, zt_mvm (zt_mv_it hl el hP hM r) (by omega), tc', ce', e1', e2', hT1⟩
  unfold wpX_run
  dsimp only
  by_cases c0 : 0 ≤ v1
  · by_cases c3 : v1 ≤ 300
    · obtain ⟨r, hr, rfl⟩ := nI_of2 (n := 300) (by decide) (Int32.not_lt.mpr c0) c3
      refine br_t c0 (br_t c3 (rX r _ hr ?_))
      intro f_recording' f_header' f_recorded' f_traceCount' f_codeEnd' a_jumps' a_traceAt' a_recordPlace' a_recordLeft' a_recordRight' a_recordTaken' a_traceStart' a_traceEnd' a_traceSteps' a_operation' a_origin' a_target' a_left' a_right' a_known'
      intro hT'
      exact br_t c0 (br_t c3 (rY r _ hr (rel r f_recording' f_header' f_recorded' f_traceCount' f_codeEnd' a_jumps' a_traceAt' a_recordPlace' a_recordLeft' a_recordRight' a_recordTaken' a_traceStart' a_traceEnd' a_traceSteps' a_operation' a_origin' a_target' a_left' a_right' a_known' hr hT')))
    · refine br_t c0 (br_f c3 (rX 300 _ (by omega) ?_))
      intro f_recording' f_header' f_recorded' f_traceCount' f_codeEnd' a_jumps' a_traceAt' a_recordPlace' a_recordLeft' a_recordRight' a_recordTaken' a_traceStart' a_traceEnd' a_traceSteps' a_operation' a_origin' a_target' a_left' a_right' a_known'
      intro hT'
      exact br_t c0 (br_f c3 (rY 300 _ (by omega) (rel 300 f_recording' f_header' f_recorded' f_traceCount' f_codeEnd' a_jumps' a_traceAt' a_recordPlace' a_recordLeft' a_recordRight' a_recordTaken' a_traceStart' a_traceEnd' a_traceSteps' a_operation' a_origin' a_target' a_left' a_right' a_known' (by omega) hT')))
  · refine br_f c0 (rX 0 _ (by omega) ?_)
    intro f_recording' f_header' f_recorded' f_traceCount' f_codeEnd' a_jumps' a_traceAt' a_recordPlace' a_recordLeft' a_recordRight' a_recordTaken' a_traceStart' a_traceEnd' a_traceSteps' a_operation' a_origin' a_target' a_left' a_right' a_known'
    intro hT'
    exact br_f c0 (rY 0 _ (by omega) (rel 0 f_recording' f_header' f_recorded' f_traceCount' f_codeEnd' a_jumps' a_traceAt' a_recordPlace' a_recordLeft' a_recordRight' a_recordTaken' a_traceStart' a_traceEnd' a_traceSteps' a_operation' a_origin' a_target' a_left' a_right' a_known' (by omega) hT'))
theorem i_vc_status {k : Nat} {u : SX} {v : SY} (I : i_Rel k u v) (hk : k + 5 ≤ 2561) : wpX_status (fun r => wpY_status (fun r' => r' = r ∧ i_Rel (k + 5) u v) v) u := by
  refine zt_both (P := fun u v => wpX_status (fun r => wpY_status (fun r' => r' = r ∧ i_Rel (k + 5) u v) v) u) I ?_
  intro f_hotAt f_length f_place f_status f_executed f_printedCount f_recording f_header f_recorded f_traceCount f_codeEnd a_opcode a_fieldX a_fieldY a_fieldZ a_sorts a_values a_printedValues a_jumps a_traceAt a_recordPlace a_recordLeft a_recordRight a_recordTaken a_traceStart a_traceEnd a_traceSteps a_operation a_origin a_target a_left a_right a_known a_az J
  exact And.intro rfl ⟨a_az, rfl, zt_Im J⟩
theorem i_vc_place {k : Nat} {u : SX} {v : SY} (I : i_Rel k u v) (hk : k + 5 ≤ 2561) : wpX_place (fun r => wpY_place (fun r' => r' = r ∧ i_Rel (k + 5) u v) v) u := by
  refine zt_both (P := fun u v => wpX_place (fun r => wpY_place (fun r' => r' = r ∧ i_Rel (k + 5) u v) v) u) I ?_
  intro f_hotAt f_length f_place f_status f_executed f_printedCount f_recording f_header f_recorded f_traceCount f_codeEnd a_opcode a_fieldX a_fieldY a_fieldZ a_sorts a_values a_printedValues a_jumps a_traceAt a_recordPlace a_recordLeft a_recordRight a_recordTaken a_traceStart a_traceEnd a_traceSteps a_operation a_origin a_target a_left a_right a_known a_az J
  exact And.intro rfl ⟨a_az, rfl, zt_Im J⟩
theorem i_vc_count {k : Nat} {u : SX} {v : SY} (I : i_Rel k u v) (hk : k + 5 ≤ 2561) : wpX_count (fun r => wpY_count (fun r' => r' = r ∧ i_Rel (k + 5) u v) v) u := by
  refine zt_both (P := fun u v => wpX_count (fun r => wpY_count (fun r' => r' = r ∧ i_Rel (k + 5) u v) v) u) I ?_
  intro f_hotAt f_length f_place f_status f_executed f_printedCount f_recording f_header f_recorded f_traceCount f_codeEnd a_opcode a_fieldX a_fieldY a_fieldZ a_sorts a_values a_printedValues a_jumps a_traceAt a_recordPlace a_recordLeft a_recordRight a_recordTaken a_traceStart a_traceEnd a_traceSteps a_operation a_origin a_target a_left a_right a_known a_az J
  exact And.intro rfl ⟨a_az, rfl, zt_Im J⟩
theorem i_vc_printed {k : Nat} {u : SX} {v : SY} (I : i_Rel k u v) (hk : k + 5 ≤ 2561) : wpX_printed (fun r => wpY_printed (fun r' => r' = r ∧ i_Rel (k + 5) u v) v) u := by
  refine zt_both (P := fun u v => wpX_printed (fun r => wpY_printed (fun r' => r' = r ∧ i_Rel (k + 5) u v) v) u) I ?_
  intro f_hotAt f_length f_place f_status f_executed f_printedCount f_recording f_header f_recorded f_traceCount f_codeEnd a_opcode a_fieldX a_fieldY a_fieldZ a_sorts a_values a_printedValues a_jumps a_traceAt a_recordPlace a_recordLeft a_recordRight a_recordTaken a_traceStart a_traceEnd a_traceSteps a_operation a_origin a_target a_left a_right a_known a_az J
  exact And.intro rfl ⟨a_az, rfl, zt_Im J⟩
theorem i_vc_sort {k : Nat} {u : SX} {v : SY} (I : i_Rel k u v) (hk : k + 5 ≤ 2561) (v1 : Int32) : wpX_sort (fun r => wpY_sort (fun r' => r' = r ∧ i_Rel (k + 5) u v) v v1) u v1 := by
  refine zt_both (P := fun u v => wpX_sort (fun r => wpY_sort (fun r' => r' = r ∧ i_Rel (k + 5) u v) v v1) u v1) I ?_
  intro f_hotAt f_length f_place f_status f_executed f_printedCount f_recording f_header f_recorded f_traceCount f_codeEnd a_opcode a_fieldX a_fieldY a_fieldZ a_sorts a_values a_printedValues a_jumps a_traceAt a_recordPlace a_recordLeft a_recordRight a_recordTaken a_traceStart a_traceEnd a_traceSteps a_operation a_origin a_target a_left a_right a_known a_az J
  have J0 := zt_Im J
  unfold wpX_sort
  dsimp only
  refine zt_xvar (fun hx => br_f (by decide) ⟨hx, ?_⟩) (fun hx => br_t rfl ?_)
  · unfold wpY_sort
    dsimp only
    exact zt_yvar (fun _ => br_f (by decide) ⟨hx, rfl, a_az, rfl, J0⟩) (fun h => absurd hx h)
  · unfold wpY_sort
    dsimp only
    exact zt_yvar (fun h => absurd h hx) (fun _ => br_t rfl ⟨rfl, a_az, rfl, J0⟩)
theorem i_vc_value {k : Nat} {u : SX} {v : SY} (I : i_Rel k u v) (hk : k + 5 ≤ 2561) (v1 : Int32) : wpX_value (fun r => wpY_value (fun r' => r' = r ∧ i_Rel (k + 5) u v) v v1) u v1 := by
  refine zt_both (P := fun u v => wpX_value (fun r => wpY_value (fun r' => r' = r ∧ i_Rel (k + 5) u v) v v1) u v1) I ?_
  intro f_hotAt f_length f_place f_status f_executed f_printedCount f_recording f_header f_recorded f_traceCount f_codeEnd a_opcode a_fieldX a_fieldY a_fieldZ a_sorts a_values a_printedValues a_jumps a_traceAt a_recordPlace a_recordLeft a_recordRight a_recordTaken a_traceStart a_traceEnd a_traceSteps a_operation a_origin a_target a_left a_right a_known a_az J
  have J0 := zt_Im J
  unfold wpX_value
  dsimp only
  refine zt_xvar (fun hx => br_f (by decide) ⟨hx, ?_⟩) (fun hx => br_t rfl ?_)
  · unfold wpY_value
    dsimp only
    exact zt_yvar (fun _ => br_f (by decide) ⟨hx, rfl, a_az, rfl, J0⟩) (fun h => absurd hx h)
  · unfold wpY_value
    dsimp only
    exact zt_yvar (fun h => absurd h hx) (fun _ => br_t rfl ⟨rfl, a_az, rfl, J0⟩)
theorem i_vc_output {k : Nat} {u : SX} {v : SY} (I : i_Rel k u v) (hk : k + 5 ≤ 2561) (v1 : Int32) : wpX_output (fun r => wpY_output (fun r' => r' = r ∧ i_Rel (k + 5) u v) v v1) u v1 := by
  refine zt_both (P := fun u v => wpX_output (fun r => wpY_output (fun r' => r' = r ∧ i_Rel (k + 5) u v) v v1) u v1) I ?_
  intro f_hotAt f_length f_place f_status f_executed f_printedCount f_recording f_header f_recorded f_traceCount f_codeEnd a_opcode a_fieldX a_fieldY a_fieldZ a_sorts a_values a_printedValues a_jumps a_traceAt a_recordPlace a_recordLeft a_recordRight a_recordTaken a_traceStart a_traceEnd a_traceSteps a_operation a_origin a_target a_left a_right a_known a_az J
  have J0 := zt_Im J
  have R : ∀ z : Int64, z = z ∧ i_Rel (k + 5) (f_hotAt, f_length, f_place, f_status, f_executed, f_printedCount, f_recording, f_header, f_recorded, f_traceCount, f_codeEnd, a_opcode, a_fieldX, a_fieldY, a_fieldZ, a_sorts, a_values, a_printedValues, a_jumps, a_traceAt, a_recordPlace, a_recordLeft, a_recordRight, a_recordTaken, a_traceStart, a_traceEnd, a_traceSteps, a_operation, a_origin, a_target, a_left, a_right, a_known) (f_length, f_printedCount, f_place, f_executed, f_status, a_opcode, a_fieldX, a_fieldY, a_az, a_sorts, a_values, a_printedValues) := fun z => ⟨rfl, a_az, rfl, J0⟩
  unfold wpX_output wpY_output
  dsimp only
  refine br_c (fun c0 => br_t c0 (R _)) (fun c0 => br_c (fun c1 => br_f c0 (br_t c1 (R _))) (fun c1 => br_c (fun c2 => ?_) (fun c2 => br_f c0 (br_f c1 (br_t (Int32.not_lt.mp c2) (R _))))))
  have hin : vp_in v1 24 := by
    obtain ⟨j, hj, rfl⟩ := nI_of c0
    have c3 : nI j < nI 24 := c2
    rw [nI_ltI hj (by omega)] at c3
    exact vp_in_nI c3 (by omega)
  exact ⟨hin, br_f c0 (br_f c1 (br_f (Int32.not_le.mpr c2) ⟨hin, R _⟩))⟩
end ZV
end
